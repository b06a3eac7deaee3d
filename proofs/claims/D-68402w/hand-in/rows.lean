section
-- ===== PART A: goes FIRST, ahead of the names: the tables' words, and 'selects' of the private methods out of them =====
/-- a private method of a class that the tables say can be made, by its rows of tables_1 -/
def lw_okq (q : MethodName × Nat) : Prop := (q.1.cls ≠ "java/lang/invoke/MethodHandle" ∧ q.1.cls ≠ "java/lang/invoke/VarHandle") ∧ Cond.instantiable q.1.cls q.2 ∈ tables_1 ∧ Cond.privateMethod q.1 ∈ tables_1 ∧ Cond.instanceMethod q.1 ∈ tables_1
theorem lw_p0 : lw_okq (⟨"java/lang/Throwable", "fillInStackTrace", "(I)Ljava/lang/Throwable;"⟩, 6) := ⟨⟨by decide +kernel, by decide +kernel⟩, List.mem_of_getElem? (i := 136) (by decide +kernel), List.mem_of_getElem? (i := 134) (by decide +kernel), List.mem_of_getElem? (i := 135) (by decide +kernel)⟩
theorem lw_p1 : lw_okq (⟨"ParityArray$Array5", "load", "(II[B)V"⟩, 9) := ⟨⟨by decide +kernel, by decide +kernel⟩, List.mem_of_getElem? (i := 48) (by decide +kernel), List.mem_of_getElem? (i := 256) (by decide +kernel), List.mem_of_getElem? (i := 257) (by decide +kernel)⟩
theorem lw_p2 : lw_okq (⟨"ParityArray$Array5", "isThere", "(II)Z"⟩, 9) := ⟨⟨by decide +kernel, by decide +kernel⟩, List.mem_of_getElem? (i := 48) (by decide +kernel), List.mem_of_getElem? (i := 260) (by decide +kernel), List.mem_of_getElem? (i := 261) (by decide +kernel)⟩
theorem lw_p3 : lw_okq (⟨"ParityArray$Array5", "write", "(I[BIZ)V"⟩, 9) := ⟨⟨by decide +kernel, by decide +kernel⟩, List.mem_of_getElem? (i := 48) (by decide +kernel), List.mem_of_getElem? (i := 278) (by decide +kernel), List.mem_of_getElem? (i := 279) (by decide +kernel)⟩
theorem lw_p4 : lw_okq (⟨"ParityArrayModel", "fails", "(I)I"⟩, 9) := ⟨⟨by decide +kernel, by decide +kernel⟩, List.mem_of_getElem? (i := 381) (by decide +kernel), List.mem_of_getElem? (i := 424) (by decide +kernel), List.mem_of_getElem? (i := 425) (by decide +kernel)⟩
theorem lw_p5 : lw_okq (⟨"ParityArrayModel", "read", "(I)J"⟩, 9) := ⟨⟨by decide +kernel, by decide +kernel⟩, List.mem_of_getElem? (i := 381) (by decide +kernel), List.mem_of_getElem? (i := 428) (by decide +kernel), List.mem_of_getElem? (i := 429) (by decide +kernel)⟩
theorem lw_p6 : lw_okq (⟨"ParityArrayModel", "fresh", "(I)I"⟩, 9) := ⟨⟨by decide +kernel, by decide +kernel⟩, List.mem_of_getElem? (i := 381) (by decide +kernel), List.mem_of_getElem? (i := 432) (by decide +kernel), List.mem_of_getElem? (i := 433) (by decide +kernel)⟩
theorem lw_p7 : lw_okq (⟨"ParityArrayModel", "isThere", "(II)Z"⟩, 9) := ⟨⟨by decide +kernel, by decide +kernel⟩, List.mem_of_getElem? (i := 381) (by decide +kernel), List.mem_of_getElem? (i := 436) (by decide +kernel), List.mem_of_getElem? (i := 437) (by decide +kernel)⟩
def lw_privs_1 : List (MethodName × Nat) := [(⟨"java/lang/Throwable", "fillInStackTrace", "(I)Ljava/lang/Throwable;"⟩, 6), (⟨"ParityArray$Array5", "load", "(II[B)V"⟩, 9), (⟨"ParityArray$Array5", "isThere", "(II)Z"⟩, 9), (⟨"ParityArray$Array5", "write", "(I[BIZ)V"⟩, 9), (⟨"ParityArrayModel", "fails", "(I)I"⟩, 9), (⟨"ParityArrayModel", "read", "(I)J"⟩, 9), (⟨"ParityArrayModel", "fresh", "(I)I"⟩, 9), (⟨"ParityArrayModel", "isThere", "(II)Z"⟩, 9)]
theorem lw_r1 : ∀ q ∈ lw_privs_1, lw_okq q := List.forall_mem_cons.mpr ⟨lw_p0, List.forall_mem_cons.mpr ⟨lw_p1, List.forall_mem_cons.mpr ⟨lw_p2, List.forall_mem_cons.mpr ⟨lw_p3, List.forall_mem_cons.mpr ⟨lw_p4, List.forall_mem_cons.mpr ⟨lw_p5, List.forall_mem_cons.mpr ⟨lw_p6, List.forall_mem_cons.mpr ⟨lw_p7, fun _ h => absurd h List.not_mem_nil⟩⟩⟩⟩⟩⟩⟩⟩
def lw_privs : List (MethodName × Nat) := lw_privs_1
def lw_tbl : List Cond := k2_sels lw_privs ++ tables_1
theorem lw_privs_ok : ∀ q ∈ lw_privs, lw_okq q := lw_r1
/-! names, field tables, words: printed by tools/mk_names.py -/
def zR_La : String := "ParityArrayLaw"
def zR_PA : String := "ParityArray"
def zF_PA : u_T := fun k => match k with
  | 0 => ("ParityArray", "power", "LParityArray$Power;", true)
  | 1 => ("ParityArray", "array", "LParityArray$Array5;", true)
  | 2 => ("ParityArray", "row", "[B", true)
  | _ => ("ParityArray", "isOff", "Z", false)
def zt_PA : Nat → FieldType := fun k => match k with
  | 0 => .object "ParityArray$Power"
  | 1 => .object "ParityArray$Array5"
  | 2 => .array .byte
  | _ => .boolean
theorem zn_PA : ∀ a, a < 4 → ∀ b, b < 4 → a ≠ b → (zF_PA a).2.1 ≠ (zF_PA b).2.1 := by decide +kernel
theorem zo_PA : ∀ k, k < 4 → parseFieldDescriptor (zF_PA k).2.2.1 = some (zt_PA k) := by decide +kernel
theorem zi_PA : ∀ w ∈ u_ws zR_PA zF_PA 4, w ∈ lw_tbl := by decide +kernel
def zR_Pw : String := "ParityArray$Power"
def zF_Pw : u_T := fun k => match k with
  | 0 => ("ParityArray$Power", "when", "I", false)
  | 1 => ("ParityArray$Power", "left", "I", false)
  | 2 => ("ParityArray$Power", "bytes", "I", false)
  | 3 => ("ParityArray$Power", "isArmed", "Z", false)
  | _ => ("ParityArray$Power", "isBehind", "Z", false)
def zt_Pw : Nat → FieldType := fun k => match k with
  | 0 => .int
  | 1 => .int
  | 2 => .int
  | 3 => .boolean
  | _ => .boolean
theorem zn_Pw : ∀ a, a < 5 → ∀ b, b < 5 → a ≠ b → (zF_Pw a).2.1 ≠ (zF_Pw b).2.1 := by decide +kernel
theorem zo_Pw : ∀ k, k < 5 → parseFieldDescriptor (zF_Pw k).2.2.1 = some (zt_Pw k) := by decide +kernel
theorem zi_Pw : ∀ w ∈ u_ws zR_Pw zF_Pw 5, w ∈ lw_tbl := by decide +kernel
def zR_A5 : String := "ParityArray$Array5"
def zF_A5 : u_T := fun k => match k with
  | 0 => ("ParityArray$Array5", "disk", "[B", true)
  | 1 => ("ParityArray$Array5", "one", "[B", true)
  | 2 => ("ParityArray$Array5", "part", "[B", true)
  | 3 => ("ParityArray$Array5", "record", "[B", true)
  | 4 => ("ParityArray$Array5", "power", "LParityArray$Power;", true)
  | 5 => ("ParityArray$Array5", "sick", "I", false)
  | 6 => ("ParityArray$Array5", "rebuilt", "I", false)
  | 7 => ("ParityArray$Array5", "isNew", "Z", false)
  | _ => ("ParityArray$Array5", "isLasting", "Z", false)
def zt_A5 : Nat → FieldType := fun k => match k with
  | 0 => .array .byte
  | 1 => .array .byte
  | 2 => .array .byte
  | 3 => .array .byte
  | 4 => .object "ParityArray$Power"
  | 5 => .int
  | 6 => .int
  | 7 => .boolean
  | _ => .boolean
theorem zn_A5 : ∀ a, a < 9 → ∀ b, b < 9 → a ≠ b → (zF_A5 a).2.1 ≠ (zF_A5 b).2.1 := by decide +kernel
theorem zo_A5 : ∀ k, k < 9 → parseFieldDescriptor (zF_A5 k).2.2.1 = some (zt_A5 k) := by decide +kernel
theorem zi_A5 : ∀ w ∈ u_ws zR_A5 zF_A5 9, w ∈ lw_tbl := by decide +kernel
def zR_Mo : String := "ParityArrayModel"
def zF_Mo : u_T := fun k => match k with
  | 0 => ("ParityArrayModel", "bytes", "[B", true)
  | 1 => ("ParityArrayModel", "on", "Z", false)
  | 2 => ("ParityArrayModel", "sick", "I", false)
  | 3 => ("ParityArrayModel", "fresh", "Z", false)
  | 4 => ("ParityArrayModel", "rebuilt", "I", false)
  | 5 => ("ParityArrayModel", "fails", "I", false)
  | 6 => ("ParityArrayModel", "write", "I", false)
  | 7 => ("ParityArrayModel", "cut", "I", false)
  | _ => ("ParityArrayModel", "thrown", "I", false)
def zt_Mo : Nat → FieldType := fun k => match k with
  | 0 => .array .byte
  | 1 => .boolean
  | 2 => .int
  | 3 => .boolean
  | 4 => .int
  | 5 => .int
  | 6 => .int
  | 7 => .int
  | _ => .int
theorem zn_Mo : ∀ a, a < 9 → ∀ b, b < 9 → a ≠ b → (zF_Mo a).2.1 ≠ (zF_Mo b).2.1 := by decide +kernel
theorem zo_Mo : ∀ k, k < 9 → parseFieldDescriptor (zF_Mo k).2.2.1 = some (zt_Mo k) := by decide +kernel
theorem zi_Mo : ∀ w ∈ u_ws zR_Mo zF_Mo 9, w ∈ lw_tbl := by decide +kernel
abbrev zcl : List vw_C := [(zR_PA, zF_PA, 4), (zR_Pw, zF_Pw, 5), (zR_A5, zF_A5, 9), (zR_Mo, zF_Mo, 9)]
def zy_PA_init : MethodName := ⟨"ParityArray", "<init>", "()V"⟩
abbrev zb_PA_init : ByteArray := prog_1_method_1_code
def zy_PA_at : MethodName := ⟨"ParityArray", "at", "(Z)V"⟩
abbrev zb_PA_at : ByteArray := prog_1_method_2_code
def zy_PA_state : MethodName := ⟨"ParityArray", "state", "(Z)V"⟩
abbrev zb_PA_state : ByteArray := prog_1_method_3_code
def zy_PA_get : MethodName := ⟨"ParityArray", "get", "(II)J"⟩
abbrev zb_PA_get : ByteArray := prog_1_method_4_code
def zy_PA_set : MethodName := ⟨"ParityArray", "set", "(IIJ)J"⟩
abbrev zb_PA_set : ByteArray := prog_1_method_5_code
def zy_PA_die : MethodName := ⟨"ParityArray", "die", "(I)V"⟩
abbrev zb_PA_die : ByteArray := prog_1_method_6_code
def zy_PA_replace : MethodName := ⟨"ParityArray", "replace", "()I"⟩
abbrev zb_PA_replace : ByteArray := prog_1_method_7_code
def zy_PA_rebuild : MethodName := ⟨"ParityArray", "rebuild", "()I"⟩
abbrev zb_PA_rebuild : ByteArray := prog_1_method_8_code
def zy_PA_power : MethodName := ⟨"ParityArray", "power", "(IIZ)V"⟩
abbrev zb_PA_power : ByteArray := prog_1_method_9_code
def zy_PA_recover : MethodName := ⟨"ParityArray", "recover", "()V"⟩
abbrev zb_PA_recover : ByteArray := prog_1_method_10_code
def zy_PA_told : MethodName := ⟨"ParityArray", "told", "(I)I"⟩
abbrev zb_PA_told : ByteArray := prog_1_method_11_code
def zy_PA_check : MethodName := ⟨"ParityArray", "check", "()I"⟩
abbrev zb_PA_check : ByteArray := prog_1_method_12_code
def zy_Mo_init : MethodName := ⟨"ParityArrayModel", "<init>", "()V"⟩
abbrev zb_Mo_init : ByteArray := prog_5_method_1_code
def zy_Mo_thrown : MethodName := ⟨"ParityArrayModel", "thrown", "()I"⟩
abbrev zb_Mo_thrown : ByteArray := prog_5_method_2_code
def zy_Mo_fails : MethodName := ⟨"ParityArrayModel", "fails", "(I)I"⟩
abbrev zb_Mo_fails : ByteArray := prog_5_method_3_code
def zy_Mo_isThere : MethodName := ⟨"ParityArrayModel", "isThere", "(II)Z"⟩
abbrev zb_Mo_isThere : ByteArray := prog_5_method_4_code
def zy_Mo_fresh : MethodName := ⟨"ParityArrayModel", "fresh", "(I)I"⟩
abbrev zb_Mo_fresh : ByteArray := prog_5_method_5_code
def zy_Mo_read : MethodName := ⟨"ParityArrayModel", "read", "(I)J"⟩
abbrev zb_Mo_read : ByteArray := prog_5_method_6_code
def zy_Mo_set : MethodName := ⟨"ParityArrayModel", "set", "(IIJ)J"⟩
abbrev zb_Mo_set : ByteArray := prog_5_method_7_code
def zy_Mo_get : MethodName := ⟨"ParityArrayModel", "get", "(II)J"⟩
abbrev zb_Mo_get : ByteArray := prog_5_method_8_code
def zy_Mo_die : MethodName := ⟨"ParityArrayModel", "die", "(I)V"⟩
abbrev zb_Mo_die : ByteArray := prog_5_method_9_code
def zy_Mo_replace : MethodName := ⟨"ParityArrayModel", "replace", "()I"⟩
abbrev zb_Mo_replace : ByteArray := prog_5_method_10_code
def zy_Mo_rebuild : MethodName := ⟨"ParityArrayModel", "rebuild", "()I"⟩
abbrev zb_Mo_rebuild : ByteArray := prog_5_method_11_code
def zy_Mo_power : MethodName := ⟨"ParityArrayModel", "power", "(IIZ)V"⟩
abbrev zb_Mo_power : ByteArray := prog_5_method_12_code
def zy_Mo_recover : MethodName := ⟨"ParityArrayModel", "recover", "()V"⟩
abbrev zb_Mo_recover : ByteArray := prog_5_method_13_code
def zy_Mo_told : MethodName := ⟨"ParityArrayModel", "told", "(I)I"⟩
abbrev zb_Mo_told : ByteArray := prog_5_method_14_code
def zy_Mo_check : MethodName := ⟨"ParityArrayModel", "check", "()I"⟩
abbrev zb_Mo_check : ByteArray := prog_5_method_15_code
def zy_A5_init : MethodName := ⟨"ParityArray$Array5", "<init>", "(LParityArray$Power;)V"⟩
abbrev zb_A5_init : ByteArray := prog_2_method_1_code
def zy_A5_isThere : MethodName := ⟨"ParityArray$Array5", "isThere", "(II)Z"⟩
abbrev zb_A5_isThere : ByteArray := prog_2_method_2_code
def zy_A5_at : MethodName := ⟨"ParityArray$Array5", "at", "(II)I"⟩
abbrev zb_A5_at : ByteArray := prog_2_method_3_code
def zy_A5_parityOf : MethodName := ⟨"ParityArray$Array5", "parityOf", "(I)I"⟩
abbrev zb_A5_parityOf : ByteArray := prog_2_method_4_code
def zy_A5_diskOf : MethodName := ⟨"ParityArray$Array5", "diskOf", "(II)I"⟩
abbrev zb_A5_diskOf : ByteArray := prog_2_method_5_code
def zy_A5_write4 : MethodName := ⟨"ParityArray$Array5", "write", "(I[BIZ)V"⟩
abbrev zb_A5_write4 : ByteArray := prog_2_method_6_code
def zy_A5_load : MethodName := ⟨"ParityArray$Array5", "load", "(II[B)V"⟩
abbrev zb_A5_load : ByteArray := prog_2_method_7_code
def zy_A5_read : MethodName := ⟨"ParityArray$Array5", "read", "(I[B)V"⟩
abbrev zb_A5_read : ByteArray := prog_2_method_8_code
def zy_A5_write3 : MethodName := ⟨"ParityArray$Array5", "write", "(I[BZ)V"⟩
abbrev zb_A5_write3 : ByteArray := prog_2_method_9_code
def zy_A5_recover : MethodName := ⟨"ParityArray$Array5", "recover", "()V"⟩
abbrev zb_A5_recover : ByteArray := prog_2_method_10_code
def zy_A5_replace : MethodName := ⟨"ParityArray$Array5", "replace", "()V"⟩
abbrev zb_A5_replace : ByteArray := prog_2_method_11_code
def zy_A5_rebuild : MethodName := ⟨"ParityArray$Array5", "rebuild", "()I"⟩
abbrev zb_A5_rebuild : ByteArray := prog_2_method_12_code
def zy_A5_wrong : MethodName := ⟨"ParityArray$Array5", "wrong", "()I"⟩
abbrev zb_A5_wrong : ByteArray := prog_2_method_13_code
def zy_Pw_init : MethodName := ⟨"ParityArray$Power", "<init>", "()V"⟩
abbrev zb_Pw_init : ByteArray := prog_3_method_1_code
def zy_Pw_say : MethodName := ⟨"ParityArray$Power", "say", "(III)V"⟩
abbrev zb_Pw_say : ByteArray := prog_3_method_2_code
def zy_Pw_begin : MethodName := ⟨"ParityArray$Power", "begin", "(Z)V"⟩
abbrev zb_Pw_begin : ByteArray := prog_3_method_3_code
def zy_Pw_write : MethodName := ⟨"ParityArray$Power", "write", "(Z)I"⟩
abbrev zb_Pw_write : ByteArray := prog_3_method_4_code
def zy_La_set : MethodName := ⟨"ParityArrayLaw", "set", "(LParityArray;IIJ[J)I"⟩
abbrev zb_La_set : ByteArray := method_3_code
def zy_La_get : MethodName := ⟨"ParityArrayLaw", "get", "(LParityArray;II[J)I"⟩
abbrev zb_La_get : ByteArray := method_4_code
def zy_La_die : MethodName := ⟨"ParityArrayLaw", "die", "(LParityArray;I)I"⟩
abbrev zb_La_die : ByteArray := method_5_code
def zy_La_replace : MethodName := ⟨"ParityArrayLaw", "replace", "(LParityArray;[J)I"⟩
abbrev zb_La_replace : ByteArray := method_6_code
def zy_La_rebuild : MethodName := ⟨"ParityArrayLaw", "rebuild", "(LParityArray;[J)I"⟩
abbrev zb_La_rebuild : ByteArray := method_7_code
def zy_La_power : MethodName := ⟨"ParityArrayLaw", "power", "(LParityArray;IIZ)I"⟩
abbrev zb_La_power : ByteArray := method_8_code
def zy_La_recover : MethodName := ⟨"ParityArrayLaw", "recover", "(LParityArray;)I"⟩
abbrev zb_La_recover : ByteArray := method_9_code
def zy_La_told : MethodName := ⟨"ParityArrayLaw", "told", "(LParityArray;I[J)I"⟩
abbrev zb_La_told : ByteArray := method_10_code
def zy_La_check : MethodName := ⟨"ParityArrayLaw", "check", "(LParityArray;[J)I"⟩
abbrev zb_La_check : ByteArray := method_11_code
theorem zq_0 : Cond.initialized "ParityArrayLaw" ∈ lw_tbl := List.mem_append_right _ (List.mem_of_getElem? (i := 0) (by decide +kernel))
theorem zq_1 : Cond.initialized "ParityArray" ∈ lw_tbl := List.mem_append_right _ (List.mem_of_getElem? (i := 1) (by decide +kernel))
theorem zq_2 : Cond.initialized "ParityArray$Power" ∈ lw_tbl := List.mem_append_right _ (List.mem_of_getElem? (i := 2) (by decide +kernel))
theorem zq_3 : Cond.initialized "ParityArray$Array5" ∈ lw_tbl := List.mem_append_right _ (List.mem_of_getElem? (i := 3) (by decide +kernel))
theorem zq_4 : Cond.initialized "ParityArrayModel" ∈ lw_tbl := List.mem_append_right _ (List.mem_of_getElem? (i := 4) (by decide +kernel))
theorem zq_5 : Cond.initialized "java/lang/Throwable" ∈ lw_tbl := List.mem_append_right _ (List.mem_of_getElem? (i := 5) (by decide +kernel))
theorem zq_6 : Cond.initialized "java/lang/Exception" ∈ lw_tbl := List.mem_append_right _ (List.mem_of_getElem? (i := 6) (by decide +kernel))
theorem zq_7 : Cond.initialized "java/lang/RuntimeException" ∈ lw_tbl := List.mem_append_right _ (List.mem_of_getElem? (i := 7) (by decide +kernel))
theorem zq_8 : Cond.initialized "java/lang/IndexOutOfBoundsException" ∈ lw_tbl := List.mem_append_right _ (List.mem_of_getElem? (i := 8) (by decide +kernel))
theorem zq_9 : Cond.initialized "java/lang/ArrayIndexOutOfBoundsException" ∈ lw_tbl := List.mem_append_right _ (List.mem_of_getElem? (i := 9) (by decide +kernel))
theorem zq_10 : Cond.initialized "java/lang/String" ∈ lw_tbl := List.mem_append_right _ (List.mem_of_getElem? (i := 10) (by decide +kernel))
theorem zq_11 : Cond.initialized "java/lang/ArithmeticException" ∈ lw_tbl := List.mem_append_right _ (List.mem_of_getElem? (i := 11) (by decide +kernel))
theorem zq_12 : Cond.initialized "java/lang/IllegalStateException" ∈ lw_tbl := List.mem_append_right _ (List.mem_of_getElem? (i := 12) (by decide +kernel))
theorem zq_13 : Cond.initialized "java/lang/System" ∈ lw_tbl := List.mem_append_right _ (List.mem_of_getElem? (i := 13) (by decide +kernel))
theorem zq_14 : Cond.initialized "java/lang/IllegalArgumentException" ∈ lw_tbl := List.mem_append_right _ (List.mem_of_getElem? (i := 14) (by decide +kernel))
theorem zq_15 : Cond.classLink "ParityArrayLaw" 8 "ParityArray" ∈ lw_tbl := List.mem_append_right _ (List.mem_of_getElem? (i := 15) (by decide +kernel))
theorem zq_16 : Cond.instantiable "ParityArray" 4 ∈ lw_tbl := List.mem_append_right _ (List.mem_of_getElem? (i := 16) (by decide +kernel))
theorem zq_17 : Cond.methodLink "ParityArrayLaw" 50 ⟨"ParityArray", "<init>", "()V"⟩ ∈ lw_tbl := List.mem_append_right _ (List.mem_of_getElem? (i := 17) (by decide +kernel))
theorem zq_18 : Cond.instanceMethod ⟨"ParityArray", "<init>", "()V"⟩ ∈ lw_tbl := List.mem_append_right _ (List.mem_of_getElem? (i := 18) (by decide +kernel))
theorem zq_19 : Cond.code ⟨"ParityArray", "<init>", "()V"⟩ prog_1_method_1_code 1 none ∈ lw_tbl := List.mem_append_right _ (List.mem_of_getElem? (i := 19) (by decide +kernel))
theorem zq_20 : Cond.methodLink "ParityArray" 1 ⟨"java/lang/Object", "<init>", "()V"⟩ ∈ lw_tbl := List.mem_append_right _ (List.mem_of_getElem? (i := 20) (by decide +kernel))
theorem zq_21 : Cond.instanceMethod ⟨"java/lang/Object", "<init>", "()V"⟩ ∈ lw_tbl := List.mem_append_right _ (List.mem_of_getElem? (i := 21) (by decide +kernel))
theorem zq_22 : Cond.code ⟨"java/lang/Object", "<init>", "()V"⟩ object_method_1_code 1 none ∈ lw_tbl := List.mem_append_right _ (List.mem_of_getElem? (i := 22) (by decide +kernel))
theorem zq_23 : Cond.classLink "ParityArray" 7 "ParityArray$Power" ∈ lw_tbl := List.mem_append_right _ (List.mem_of_getElem? (i := 23) (by decide +kernel))
theorem zq_24 : Cond.instantiable "ParityArray$Power" 5 ∈ lw_tbl := List.mem_append_right _ (List.mem_of_getElem? (i := 24) (by decide +kernel))
theorem zq_25 : Cond.methodLinkNest "ParityArray" 9 ⟨"ParityArray$Power", "<init>", "()V"⟩ "ParityArray" ∈ lw_tbl := List.mem_append_right _ (List.mem_of_getElem? (i := 25) (by decide +kernel))
theorem zq_26 : Cond.instanceMethod ⟨"ParityArray$Power", "<init>", "()V"⟩ ∈ lw_tbl := List.mem_append_right _ (List.mem_of_getElem? (i := 26) (by decide +kernel))
theorem zq_27 : Cond.code ⟨"ParityArray$Power", "<init>", "()V"⟩ prog_3_method_1_code 1 none ∈ lw_tbl := List.mem_append_right _ (List.mem_of_getElem? (i := 27) (by decide +kernel))
theorem zq_28 : Cond.methodLink "ParityArray$Power" 1 ⟨"java/lang/Object", "<init>", "()V"⟩ ∈ lw_tbl := List.mem_append_right _ (List.mem_of_getElem? (i := 28) (by decide +kernel))
theorem zq_29 : Cond.fieldLink "ParityArray$Power" 7 "ParityArray$Power" "when" "I" ∈ lw_tbl := List.mem_append_right _ (List.mem_of_getElem? (i := 29) (by decide +kernel))
theorem zq_30 : Cond.fieldLink "ParityArray" 66 "ParityArray$Power" "when" "I" ∈ lw_tbl := List.mem_append_right _ (List.mem_of_getElem? (i := 30) (by decide +kernel))
theorem zq_31 : Cond.fieldLink "ParityArray$Power" 13 "ParityArray$Power" "left" "I" ∈ lw_tbl := List.mem_append_right _ (List.mem_of_getElem? (i := 31) (by decide +kernel))
theorem zq_32 : Cond.fieldLink "ParityArray$Power" 16 "ParityArray$Power" "bytes" "I" ∈ lw_tbl := List.mem_append_right _ (List.mem_of_getElem? (i := 32) (by decide +kernel))
theorem zq_33 : Cond.fieldLink "ParityArray$Power" 19 "ParityArray$Power" "isArmed" "Z" ∈ lw_tbl := List.mem_append_right _ (List.mem_of_getElem? (i := 33) (by decide +kernel))
theorem zq_34 : Cond.fieldLink "ParityArray" 57 "ParityArray$Power" "isArmed" "Z" ∈ lw_tbl := List.mem_append_right _ (List.mem_of_getElem? (i := 34) (by decide +kernel))
theorem zq_35 : Cond.fieldLink "ParityArray$Power" 23 "ParityArray$Power" "isBehind" "Z" ∈ lw_tbl := List.mem_append_right _ (List.mem_of_getElem? (i := 35) (by decide +kernel))
theorem zq_36 : Cond.lays "ParityArray$Power" "ParityArray$Power" "when" "I" ∈ lw_tbl := List.mem_append_right _ (List.mem_of_getElem? (i := 36) (by decide +kernel))
theorem zq_38 : Cond.lays "ParityArray$Power" "ParityArray$Power" "left" "I" ∈ lw_tbl := List.mem_append_right _ (List.mem_of_getElem? (i := 38) (by decide +kernel))
theorem zq_40 : Cond.lays "ParityArray$Power" "ParityArray$Power" "bytes" "I" ∈ lw_tbl := List.mem_append_right _ (List.mem_of_getElem? (i := 40) (by decide +kernel))
theorem zq_42 : Cond.lays "ParityArray$Power" "ParityArray$Power" "isArmed" "Z" ∈ lw_tbl := List.mem_append_right _ (List.mem_of_getElem? (i := 42) (by decide +kernel))
theorem zq_44 : Cond.lays "ParityArray$Power" "ParityArray$Power" "isBehind" "Z" ∈ lw_tbl := List.mem_append_right _ (List.mem_of_getElem? (i := 44) (by decide +kernel))
theorem zq_46 : Cond.superclass "ParityArray$Power" "java/lang/Object" ∈ lw_tbl := List.mem_append_right _ (List.mem_of_getElem? (i := 46) (by decide +kernel))
theorem zq_47 : Cond.classLink "ParityArray" 16 "ParityArray$Array5" ∈ lw_tbl := List.mem_append_right _ (List.mem_of_getElem? (i := 47) (by decide +kernel))
theorem zq_48 : Cond.instantiable "ParityArray$Array5" 9 ∈ lw_tbl := List.mem_append_right _ (List.mem_of_getElem? (i := 48) (by decide +kernel))
theorem zq_49 : Cond.methodLink "ParityArray" 18 ⟨"ParityArray$Array5", "<init>", "(LParityArray$Power;)V"⟩ ∈ lw_tbl := List.mem_append_right _ (List.mem_of_getElem? (i := 49) (by decide +kernel))
theorem zq_50 : Cond.instanceMethod ⟨"ParityArray$Array5", "<init>", "(LParityArray$Power;)V"⟩ ∈ lw_tbl := List.mem_append_right _ (List.mem_of_getElem? (i := 50) (by decide +kernel))
theorem zq_51 : Cond.code ⟨"ParityArray$Array5", "<init>", "(LParityArray$Power;)V"⟩ prog_2_method_1_code 2 none ∈ lw_tbl := List.mem_append_right _ (List.mem_of_getElem? (i := 51) (by decide +kernel))
theorem zq_52 : Cond.methodLink "ParityArray$Array5" 3 ⟨"java/lang/Object", "<init>", "()V"⟩ ∈ lw_tbl := List.mem_append_right _ (List.mem_of_getElem? (i := 52) (by decide +kernel))
theorem zq_53 : Cond.constant "ParityArray$Array5" 11 (96680 : Int32) ∈ lw_tbl := List.mem_append_right _ (List.mem_of_getElem? (i := 53) (by decide +kernel))
theorem zq_54 : Cond.fieldLink "ParityArray$Array5" 12 "ParityArray$Array5" "disk" "[B" ∈ lw_tbl := List.mem_append_right _ (List.mem_of_getElem? (i := 54) (by decide +kernel))
theorem zq_55 : Cond.fieldLink "ParityArray$Array5" 16 "ParityArray$Array5" "one" "[B" ∈ lw_tbl := List.mem_append_right _ (List.mem_of_getElem? (i := 55) (by decide +kernel))
theorem zq_56 : Cond.fieldLink "ParityArray$Array5" 19 "ParityArray$Array5" "part" "[B" ∈ lw_tbl := List.mem_append_right _ (List.mem_of_getElem? (i := 56) (by decide +kernel))
theorem zq_57 : Cond.fieldLink "ParityArray$Array5" 22 "ParityArray$Array5" "record" "[B" ∈ lw_tbl := List.mem_append_right _ (List.mem_of_getElem? (i := 57) (by decide +kernel))
theorem zq_58 : Cond.fieldLink "ParityArray$Array5" 29 "ParityArray$Array5" "power" "LParityArray$Power;" ∈ lw_tbl := List.mem_append_right _ (List.mem_of_getElem? (i := 58) (by decide +kernel))
theorem zq_59 : Cond.fieldLink "ParityArray$Array5" 25 "ParityArray$Array5" "sick" "I" ∈ lw_tbl := List.mem_append_right _ (List.mem_of_getElem? (i := 59) (by decide +kernel))
theorem zq_60 : Cond.fieldLink "ParityArray" 71 "ParityArray$Array5" "sick" "I" ∈ lw_tbl := List.mem_append_right _ (List.mem_of_getElem? (i := 60) (by decide +kernel))
theorem zq_61 : Cond.fieldLink "ParityArray$Array5" 37 "ParityArray$Array5" "rebuilt" "I" ∈ lw_tbl := List.mem_append_right _ (List.mem_of_getElem? (i := 61) (by decide +kernel))
theorem zq_62 : Cond.fieldLink "ParityArray" 94 "ParityArray$Array5" "rebuilt" "I" ∈ lw_tbl := List.mem_append_right _ (List.mem_of_getElem? (i := 62) (by decide +kernel))
theorem zq_63 : Cond.fieldLink "ParityArray$Array5" 33 "ParityArray$Array5" "isNew" "Z" ∈ lw_tbl := List.mem_append_right _ (List.mem_of_getElem? (i := 63) (by decide +kernel))
theorem zq_64 : Cond.fieldLink "ParityArray" 74 "ParityArray$Array5" "isNew" "Z" ∈ lw_tbl := List.mem_append_right _ (List.mem_of_getElem? (i := 64) (by decide +kernel))
theorem zq_65 : Cond.fieldLink "ParityArray$Array5" 56 "ParityArray$Array5" "isLasting" "Z" ∈ lw_tbl := List.mem_append_right _ (List.mem_of_getElem? (i := 65) (by decide +kernel))
theorem zq_66 : Cond.laysFinal "ParityArray$Array5" "ParityArray$Array5" "disk" "[B" ∈ lw_tbl := List.mem_append_right _ (List.mem_of_getElem? (i := 66) (by decide +kernel))
theorem zq_68 : Cond.laysFinal "ParityArray$Array5" "ParityArray$Array5" "one" "[B" ∈ lw_tbl := List.mem_append_right _ (List.mem_of_getElem? (i := 68) (by decide +kernel))
theorem zq_70 : Cond.laysFinal "ParityArray$Array5" "ParityArray$Array5" "part" "[B" ∈ lw_tbl := List.mem_append_right _ (List.mem_of_getElem? (i := 70) (by decide +kernel))
theorem zq_72 : Cond.laysFinal "ParityArray$Array5" "ParityArray$Array5" "record" "[B" ∈ lw_tbl := List.mem_append_right _ (List.mem_of_getElem? (i := 72) (by decide +kernel))
theorem zq_74 : Cond.laysFinal "ParityArray$Array5" "ParityArray$Array5" "power" "LParityArray$Power;" ∈ lw_tbl := List.mem_append_right _ (List.mem_of_getElem? (i := 74) (by decide +kernel))
theorem zq_76 : Cond.lays "ParityArray$Array5" "ParityArray$Array5" "sick" "I" ∈ lw_tbl := List.mem_append_right _ (List.mem_of_getElem? (i := 76) (by decide +kernel))
theorem zq_78 : Cond.lays "ParityArray$Array5" "ParityArray$Array5" "rebuilt" "I" ∈ lw_tbl := List.mem_append_right _ (List.mem_of_getElem? (i := 78) (by decide +kernel))
theorem zq_80 : Cond.lays "ParityArray$Array5" "ParityArray$Array5" "isNew" "Z" ∈ lw_tbl := List.mem_append_right _ (List.mem_of_getElem? (i := 80) (by decide +kernel))
theorem zq_82 : Cond.lays "ParityArray$Array5" "ParityArray$Array5" "isLasting" "Z" ∈ lw_tbl := List.mem_append_right _ (List.mem_of_getElem? (i := 82) (by decide +kernel))
theorem zq_84 : Cond.superclass "ParityArray$Array5" "java/lang/Object" ∈ lw_tbl := List.mem_append_right _ (List.mem_of_getElem? (i := 84) (by decide +kernel))
theorem zq_85 : Cond.arrayClass FieldType.byte ∈ lw_tbl := List.mem_append_right _ (List.mem_of_getElem? (i := 85) (by decide +kernel))
theorem zq_86 : Cond.fieldLink "ParityArray" 10 "ParityArray" "power" "LParityArray$Power;" ∈ lw_tbl := List.mem_append_right _ (List.mem_of_getElem? (i := 86) (by decide +kernel))
theorem zq_87 : Cond.fieldLink "ParityArray" 21 "ParityArray" "array" "LParityArray$Array5;" ∈ lw_tbl := List.mem_append_right _ (List.mem_of_getElem? (i := 87) (by decide +kernel))
theorem zq_88 : Cond.fieldLink "ParityArray" 25 "ParityArray" "row" "[B" ∈ lw_tbl := List.mem_append_right _ (List.mem_of_getElem? (i := 88) (by decide +kernel))
theorem zq_89 : Cond.fieldLink "ParityArray" 35 "ParityArray" "isOff" "Z" ∈ lw_tbl := List.mem_append_right _ (List.mem_of_getElem? (i := 89) (by decide +kernel))
theorem zq_90 : Cond.laysFinal "ParityArray" "ParityArray" "power" "LParityArray$Power;" ∈ lw_tbl := List.mem_append_right _ (List.mem_of_getElem? (i := 90) (by decide +kernel))
theorem zq_92 : Cond.laysFinal "ParityArray" "ParityArray" "array" "LParityArray$Array5;" ∈ lw_tbl := List.mem_append_right _ (List.mem_of_getElem? (i := 92) (by decide +kernel))
theorem zq_94 : Cond.laysFinal "ParityArray" "ParityArray" "row" "[B" ∈ lw_tbl := List.mem_append_right _ (List.mem_of_getElem? (i := 94) (by decide +kernel))
theorem zq_96 : Cond.lays "ParityArray" "ParityArray" "isOff" "Z" ∈ lw_tbl := List.mem_append_right _ (List.mem_of_getElem? (i := 96) (by decide +kernel))
theorem zq_98 : Cond.superclass "ParityArray" "java/lang/Object" ∈ lw_tbl := List.mem_append_right _ (List.mem_of_getElem? (i := 98) (by decide +kernel))
theorem zq_99 : Cond.methodLink "ParityArrayLaw" 56 ⟨"ParityArrayLaw", "set", "(LParityArray;IIJ[J)I"⟩ ∈ lw_tbl := List.mem_append_right _ (List.mem_of_getElem? (i := 99) (by decide +kernel))
theorem zq_100 : Cond.static ⟨"ParityArrayLaw", "set", "(LParityArray;IIJ[J)I"⟩ ∈ lw_tbl := List.mem_append_right _ (List.mem_of_getElem? (i := 100) (by decide +kernel))
theorem zq_101 : Cond.codeWith ⟨"ParityArrayLaw", "set", "(LParityArray;IIJ[J)I"⟩ method_3_code 7 (some FieldType.int) [(0, 11, 14, 13), (0, 11, 18, 15), (0, 11, 22, 17)] ∈ lw_tbl := List.mem_append_right _ (List.mem_of_getElem? (i := 101) (by decide +kernel))
theorem zq_102 : Cond.classLink "ParityArrayLaw" 13 "java/lang/IllegalStateException" ∈ lw_tbl := List.mem_append_right _ (List.mem_of_getElem? (i := 102) (by decide +kernel))
theorem zq_103 : Cond.classLink "ParityArrayLaw" 15 "java/lang/IndexOutOfBoundsException" ∈ lw_tbl := List.mem_append_right _ (List.mem_of_getElem? (i := 103) (by decide +kernel))
theorem zq_104 : Cond.instantiable "java/lang/ArrayIndexOutOfBoundsException" 6 ∈ lw_tbl := List.mem_append_right _ (List.mem_of_getElem? (i := 104) (by decide +kernel))
theorem zq_105 : Cond.instanceMethod ⟨"java/lang/ArrayIndexOutOfBoundsException", "<init>", "(Ljava/lang/String;)V"⟩ ∈ lw_tbl := List.mem_append_right _ (List.mem_of_getElem? (i := 105) (by decide +kernel))
theorem zq_106 : Cond.code ⟨"java/lang/ArrayIndexOutOfBoundsException", "<init>", "(Ljava/lang/String;)V"⟩ prog_7_method_2_code 2 none ∈ lw_tbl := List.mem_append_right _ (List.mem_of_getElem? (i := 106) (by decide +kernel))
theorem zq_107 : Cond.methodLink "java/lang/ArrayIndexOutOfBoundsException" 7 ⟨"java/lang/IndexOutOfBoundsException", "<init>", "(Ljava/lang/String;)V"⟩ ∈ lw_tbl := List.mem_append_right _ (List.mem_of_getElem? (i := 107) (by decide +kernel))
theorem zq_108 : Cond.instanceMethod ⟨"java/lang/IndexOutOfBoundsException", "<init>", "(Ljava/lang/String;)V"⟩ ∈ lw_tbl := List.mem_append_right _ (List.mem_of_getElem? (i := 108) (by decide +kernel))
theorem zq_109 : Cond.code ⟨"java/lang/IndexOutOfBoundsException", "<init>", "(Ljava/lang/String;)V"⟩ prog_11_method_2_code 2 none ∈ lw_tbl := List.mem_append_right _ (List.mem_of_getElem? (i := 109) (by decide +kernel))
theorem zq_110 : Cond.methodLink "java/lang/IndexOutOfBoundsException" 7 ⟨"java/lang/RuntimeException", "<init>", "(Ljava/lang/String;)V"⟩ ∈ lw_tbl := List.mem_append_right _ (List.mem_of_getElem? (i := 110) (by decide +kernel))
theorem zq_111 : Cond.instanceMethod ⟨"java/lang/RuntimeException", "<init>", "(Ljava/lang/String;)V"⟩ ∈ lw_tbl := List.mem_append_right _ (List.mem_of_getElem? (i := 111) (by decide +kernel))
theorem zq_112 : Cond.code ⟨"java/lang/RuntimeException", "<init>", "(Ljava/lang/String;)V"⟩ prog_12_method_2_code 2 none ∈ lw_tbl := List.mem_append_right _ (List.mem_of_getElem? (i := 112) (by decide +kernel))
theorem zq_113 : Cond.methodLink "java/lang/RuntimeException" 7 ⟨"java/lang/Exception", "<init>", "(Ljava/lang/String;)V"⟩ ∈ lw_tbl := List.mem_append_right _ (List.mem_of_getElem? (i := 113) (by decide +kernel))
theorem zq_114 : Cond.instanceMethod ⟨"java/lang/Exception", "<init>", "(Ljava/lang/String;)V"⟩ ∈ lw_tbl := List.mem_append_right _ (List.mem_of_getElem? (i := 114) (by decide +kernel))
theorem zq_115 : Cond.code ⟨"java/lang/Exception", "<init>", "(Ljava/lang/String;)V"⟩ prog_8_method_2_code 2 none ∈ lw_tbl := List.mem_append_right _ (List.mem_of_getElem? (i := 115) (by decide +kernel))
theorem zq_116 : Cond.methodLink "java/lang/Exception" 7 ⟨"java/lang/Throwable", "<init>", "(Ljava/lang/String;)V"⟩ ∈ lw_tbl := List.mem_append_right _ (List.mem_of_getElem? (i := 116) (by decide +kernel))
theorem zq_117 : Cond.instanceMethod ⟨"java/lang/Throwable", "<init>", "(Ljava/lang/String;)V"⟩ ∈ lw_tbl := List.mem_append_right _ (List.mem_of_getElem? (i := 117) (by decide +kernel))
theorem zq_118 : Cond.code ⟨"java/lang/Throwable", "<init>", "(Ljava/lang/String;)V"⟩ prog_15_method_2_code 2 none ∈ lw_tbl := List.mem_append_right _ (List.mem_of_getElem? (i := 118) (by decide +kernel))
theorem zq_119 : Cond.methodLink "java/lang/Throwable" 1 ⟨"java/lang/Object", "<init>", "()V"⟩ ∈ lw_tbl := List.mem_append_right _ (List.mem_of_getElem? (i := 119) (by decide +kernel))
theorem zq_120 : Cond.fieldLink "java/lang/Throwable" 13 "java/lang/Throwable" "UNASSIGNED_STACK" "[Ljava/lang/StackTraceElement;" ∈ lw_tbl := List.mem_append_right _ (List.mem_of_getElem? (i := 120) (by decide +kernel))
theorem zq_121 : Cond.laysStatic "java/lang/Throwable" "UNASSIGNED_STACK" "[Ljava/lang/StackTraceElement;" ∈ lw_tbl := List.mem_append_right _ (List.mem_of_getElem? (i := 121) (by decide +kernel))
theorem zq_122 : Cond.fieldLink "java/lang/Throwable" 20 "java/lang/Throwable" "SUPPRESSED_SENTINEL" "Ljava/util/List;" ∈ lw_tbl := List.mem_append_right _ (List.mem_of_getElem? (i := 122) (by decide +kernel))
theorem zq_123 : Cond.laysStatic "java/lang/Throwable" "SUPPRESSED_SENTINEL" "Ljava/util/List;" ∈ lw_tbl := List.mem_append_right _ (List.mem_of_getElem? (i := 123) (by decide +kernel))
theorem zq_124 : Cond.methodLink "java/lang/Throwable" 27 ⟨"java/lang/Throwable", "fillInStackTrace", "()Ljava/lang/Throwable;"⟩ ∈ lw_tbl := List.mem_append_right _ (List.mem_of_getElem? (i := 124) (by decide +kernel))
theorem zq_125 : Cond.instanceMethod ⟨"java/lang/Throwable", "fillInStackTrace", "()Ljava/lang/Throwable;"⟩ ∈ lw_tbl := List.mem_append_right _ (List.mem_of_getElem? (i := 125) (by decide +kernel))
theorem zq_126 : Cond.sameMethod "java/lang/Throwable" "java/lang/Throwable" "fillInStackTrace" "()Ljava/lang/Throwable;" ∈ lw_tbl := List.mem_append_right _ (List.mem_of_getElem? (i := 126) (by decide +kernel))
theorem zq_127 : Cond.selects "java/lang/ArithmeticException" ⟨"java/lang/Throwable", "fillInStackTrace", "()Ljava/lang/Throwable;"⟩ ⟨"java/lang/Throwable", "fillInStackTrace", "()Ljava/lang/Throwable;"⟩ ∈ lw_tbl := List.mem_append_right _ (List.mem_of_getElem? (i := 127) (by decide +kernel))
theorem zq_128 : Cond.selects "java/lang/ArrayIndexOutOfBoundsException" ⟨"java/lang/Throwable", "fillInStackTrace", "()Ljava/lang/Throwable;"⟩ ⟨"java/lang/Throwable", "fillInStackTrace", "()Ljava/lang/Throwable;"⟩ ∈ lw_tbl := List.mem_append_right _ (List.mem_of_getElem? (i := 128) (by decide +kernel))
theorem zq_129 : Cond.selects "java/lang/IllegalArgumentException" ⟨"java/lang/Throwable", "fillInStackTrace", "()Ljava/lang/Throwable;"⟩ ⟨"java/lang/Throwable", "fillInStackTrace", "()Ljava/lang/Throwable;"⟩ ∈ lw_tbl := List.mem_append_right _ (List.mem_of_getElem? (i := 129) (by decide +kernel))
theorem zq_130 : Cond.selects "java/lang/IllegalStateException" ⟨"java/lang/Throwable", "fillInStackTrace", "()Ljava/lang/Throwable;"⟩ ⟨"java/lang/Throwable", "fillInStackTrace", "()Ljava/lang/Throwable;"⟩ ∈ lw_tbl := List.mem_append_right _ (List.mem_of_getElem? (i := 130) (by decide +kernel))
theorem zq_131 : Cond.selects "java/lang/IndexOutOfBoundsException" ⟨"java/lang/Throwable", "fillInStackTrace", "()Ljava/lang/Throwable;"⟩ ⟨"java/lang/Throwable", "fillInStackTrace", "()Ljava/lang/Throwable;"⟩ ∈ lw_tbl := List.mem_append_right _ (List.mem_of_getElem? (i := 131) (by decide +kernel))
theorem zq_132 : Cond.codeSync ⟨"java/lang/Throwable", "fillInStackTrace", "()Ljava/lang/Throwable;"⟩ prog_15_method_18_code 1 (some (FieldType.object "java/lang/Throwable")) ∈ lw_tbl := List.mem_append_right _ (List.mem_of_getElem? (i := 132) (by decide +kernel))
theorem zq_133 : Cond.methodLink "java/lang/Throwable" 202 ⟨"java/lang/Throwable", "fillInStackTrace", "(I)Ljava/lang/Throwable;"⟩ ∈ lw_tbl := List.mem_append_right _ (List.mem_of_getElem? (i := 133) (by decide +kernel))
theorem zq_134 : Cond.privateMethod ⟨"java/lang/Throwable", "fillInStackTrace", "(I)Ljava/lang/Throwable;"⟩ ∈ lw_tbl := List.mem_append_right _ (List.mem_of_getElem? (i := 134) (by decide +kernel))
theorem zq_135 : Cond.instanceMethod ⟨"java/lang/Throwable", "fillInStackTrace", "(I)Ljava/lang/Throwable;"⟩ ∈ lw_tbl := List.mem_append_right _ (List.mem_of_getElem? (i := 135) (by decide +kernel))
theorem zq_136 : Cond.instantiable "java/lang/Throwable" 6 ∈ lw_tbl := List.mem_append_right _ (List.mem_of_getElem? (i := 136) (by decide +kernel))
theorem zq_137 : Cond.native ⟨"java/lang/Throwable", "fillInStackTrace", "(I)Ljava/lang/Throwable;"⟩ ∈ lw_tbl := List.mem_append_right _ (List.mem_of_getElem? (i := 137) (by decide +kernel))
theorem zq_138 : Cond.fieldLink "java/lang/Throwable" 198 "java/lang/Throwable" "backtrace" "Ljava/lang/Object;" ∈ lw_tbl := List.mem_append_right _ (List.mem_of_getElem? (i := 138) (by decide +kernel))
theorem zq_139 : Cond.fieldLink "java/lang/Throwable" 31 "java/lang/Throwable" "detailMessage" "Ljava/lang/String;" ∈ lw_tbl := List.mem_append_right _ (List.mem_of_getElem? (i := 139) (by decide +kernel))
theorem zq_140 : Cond.fieldLink "java/lang/Throwable" 7 "java/lang/Throwable" "cause" "Ljava/lang/Throwable;" ∈ lw_tbl := List.mem_append_right _ (List.mem_of_getElem? (i := 140) (by decide +kernel))
theorem zq_141 : Cond.fieldLink "java/lang/Throwable" 17 "java/lang/Throwable" "stackTrace" "[Ljava/lang/StackTraceElement;" ∈ lw_tbl := List.mem_append_right _ (List.mem_of_getElem? (i := 141) (by decide +kernel))
theorem zq_142 : Cond.fieldLink "java/lang/Throwable" 24 "java/lang/Throwable" "suppressedExceptions" "Ljava/util/List;" ∈ lw_tbl := List.mem_append_right _ (List.mem_of_getElem? (i := 142) (by decide +kernel))
theorem zq_143 : Cond.lays "java/lang/ArrayIndexOutOfBoundsException" "java/lang/Throwable" "backtrace" "Ljava/lang/Object;" ∈ lw_tbl := List.mem_append_right _ (List.mem_of_getElem? (i := 143) (by decide +kernel))
theorem zq_145 : Cond.lays "java/lang/ArrayIndexOutOfBoundsException" "java/lang/Throwable" "detailMessage" "Ljava/lang/String;" ∈ lw_tbl := List.mem_append_right _ (List.mem_of_getElem? (i := 145) (by decide +kernel))
theorem zq_147 : Cond.lays "java/lang/ArrayIndexOutOfBoundsException" "java/lang/Throwable" "cause" "Ljava/lang/Throwable;" ∈ lw_tbl := List.mem_append_right _ (List.mem_of_getElem? (i := 147) (by decide +kernel))
theorem zq_149 : Cond.lays "java/lang/ArrayIndexOutOfBoundsException" "java/lang/Throwable" "stackTrace" "[Ljava/lang/StackTraceElement;" ∈ lw_tbl := List.mem_append_right _ (List.mem_of_getElem? (i := 149) (by decide +kernel))
theorem zq_151 : Cond.lays "java/lang/ArrayIndexOutOfBoundsException" "java/lang/Throwable" "depth" "I" ∈ lw_tbl := List.mem_append_right _ (List.mem_of_getElem? (i := 151) (by decide +kernel))
theorem zq_153 : Cond.lays "java/lang/ArrayIndexOutOfBoundsException" "java/lang/Throwable" "suppressedExceptions" "Ljava/util/List;" ∈ lw_tbl := List.mem_append_right _ (List.mem_of_getElem? (i := 153) (by decide +kernel))
theorem zq_155 : Cond.superclass "java/lang/ArrayIndexOutOfBoundsException" "java/lang/IndexOutOfBoundsException" ∈ lw_tbl := List.mem_append_right _ (List.mem_of_getElem? (i := 155) (by decide +kernel))
theorem zq_156 : Cond.castable "java/lang/ArrayIndexOutOfBoundsException" "java/lang/ArrayIndexOutOfBoundsException" ∈ lw_tbl := List.mem_append_right _ (List.mem_of_getElem? (i := 156) (by decide +kernel))
theorem zq_157 : Cond.declares ⟨"java/lang/IndexOutOfBoundsException", "<init>", "()V"⟩ ∈ lw_tbl := List.mem_append_right _ (List.mem_of_getElem? (i := 157) (by decide +kernel))
theorem zq_158 : Cond.declares ⟨"java/lang/IndexOutOfBoundsException", "<init>", "(Ljava/lang/String;)V"⟩ ∈ lw_tbl := List.mem_append_right _ (List.mem_of_getElem? (i := 158) (by decide +kernel))
theorem zq_159 : Cond.declares ⟨"java/lang/RuntimeException", "<init>", "()V"⟩ ∈ lw_tbl := List.mem_append_right _ (List.mem_of_getElem? (i := 159) (by decide +kernel))
theorem zq_160 : Cond.declares ⟨"java/lang/RuntimeException", "<init>", "(Ljava/lang/String;)V"⟩ ∈ lw_tbl := List.mem_append_right _ (List.mem_of_getElem? (i := 160) (by decide +kernel))
theorem zq_161 : Cond.declares ⟨"java/lang/Exception", "<init>", "()V"⟩ ∈ lw_tbl := List.mem_append_right _ (List.mem_of_getElem? (i := 161) (by decide +kernel))
theorem zq_162 : Cond.declares ⟨"java/lang/Exception", "<init>", "(Ljava/lang/String;)V"⟩ ∈ lw_tbl := List.mem_append_right _ (List.mem_of_getElem? (i := 162) (by decide +kernel))
theorem zq_163 : Cond.declares ⟨"java/lang/Throwable", "<init>", "()V"⟩ ∈ lw_tbl := List.mem_append_right _ (List.mem_of_getElem? (i := 163) (by decide +kernel))
theorem zq_164 : Cond.declares ⟨"java/lang/Throwable", "<init>", "(Ljava/lang/String;)V"⟩ ∈ lw_tbl := List.mem_append_right _ (List.mem_of_getElem? (i := 164) (by decide +kernel))
theorem zq_165 : Cond.selects "java/lang/ArrayIndexOutOfBoundsException" ⟨"java/lang/Throwable", "fillInStackTrace", "(I)Ljava/lang/Throwable;"⟩ ⟨"java/lang/Throwable", "fillInStackTrace", "(I)Ljava/lang/Throwable;"⟩ ∈ lw_tbl := List.mem_append_right _ (List.mem_of_getElem? (i := 165) (by decide +kernel))
theorem zq_166 : Cond.lays "java/lang/Throwable" "java/lang/Throwable" "cause" "Ljava/lang/Throwable;" ∈ lw_tbl := List.mem_append_right _ (List.mem_of_getElem? (i := 166) (by decide +kernel))
theorem zq_167 : Cond.lays "java/lang/Throwable" "java/lang/Throwable" "stackTrace" "[Ljava/lang/StackTraceElement;" ∈ lw_tbl := List.mem_append_right _ (List.mem_of_getElem? (i := 167) (by decide +kernel))
theorem zq_168 : Cond.lays "java/lang/Throwable" "java/lang/Throwable" "suppressedExceptions" "Ljava/util/List;" ∈ lw_tbl := List.mem_append_right _ (List.mem_of_getElem? (i := 168) (by decide +kernel))
theorem zq_169 : Cond.lays "java/lang/Throwable" "java/lang/Throwable" "detailMessage" "Ljava/lang/String;" ∈ lw_tbl := List.mem_append_right _ (List.mem_of_getElem? (i := 169) (by decide +kernel))
theorem zq_170 : Cond.lays "java/lang/Throwable" "java/lang/Throwable" "backtrace" "Ljava/lang/Object;" ∈ lw_tbl := List.mem_append_right _ (List.mem_of_getElem? (i := 170) (by decide +kernel))
theorem zq_171 : Cond.fieldLink "java/lang/Throwable" 198 "java/lang/Throwable" "backtrace" "Ljava/lang/Object;" ∈ lw_tbl := List.mem_append_right _ (List.mem_of_getElem? (i := 171) (by decide +kernel))
theorem zq_172 : Cond.superclass "java/lang/Throwable" "java/lang/Object" ∈ lw_tbl := List.mem_append_right _ (List.mem_of_getElem? (i := 172) (by decide +kernel))
theorem zq_173 : Cond.instanceMethod ⟨"java/lang/Throwable", "<init>", "()V"⟩ ∈ lw_tbl := List.mem_append_right _ (List.mem_of_getElem? (i := 173) (by decide +kernel))
theorem zq_174 : Cond.code ⟨"java/lang/Throwable", "<init>", "()V"⟩ prog_15_method_1_code 1 none ∈ lw_tbl := List.mem_append_right _ (List.mem_of_getElem? (i := 174) (by decide +kernel))
theorem zq_175 : Cond.instantiable "java/lang/String" 4 ∈ lw_tbl := List.mem_append_right _ (List.mem_of_getElem? (i := 175) (by decide +kernel))
theorem zq_176 : Cond.laysFinal "java/lang/String" "java/lang/String" "value" "[B" ∈ lw_tbl := List.mem_append_right _ (List.mem_of_getElem? (i := 176) (by decide +kernel))
theorem zq_178 : Cond.laysFinal "java/lang/String" "java/lang/String" "coder" "B" ∈ lw_tbl := List.mem_append_right _ (List.mem_of_getElem? (i := 178) (by decide +kernel))
theorem zq_180 : Cond.classLink "ParityArrayLaw" 17 "java/lang/ArithmeticException" ∈ lw_tbl := List.mem_append_right _ (List.mem_of_getElem? (i := 180) (by decide +kernel))
theorem zq_181 : Cond.instantiable "java/lang/ArithmeticException" 6 ∈ lw_tbl := List.mem_append_right _ (List.mem_of_getElem? (i := 181) (by decide +kernel))
theorem zq_182 : Cond.instanceMethod ⟨"java/lang/ArithmeticException", "<init>", "(Ljava/lang/String;)V"⟩ ∈ lw_tbl := List.mem_append_right _ (List.mem_of_getElem? (i := 182) (by decide +kernel))
theorem zq_183 : Cond.code ⟨"java/lang/ArithmeticException", "<init>", "(Ljava/lang/String;)V"⟩ prog_6_method_2_code 2 none ∈ lw_tbl := List.mem_append_right _ (List.mem_of_getElem? (i := 183) (by decide +kernel))
theorem zq_184 : Cond.methodLink "java/lang/ArithmeticException" 7 ⟨"java/lang/RuntimeException", "<init>", "(Ljava/lang/String;)V"⟩ ∈ lw_tbl := List.mem_append_right _ (List.mem_of_getElem? (i := 184) (by decide +kernel))
theorem zq_185 : Cond.lays "java/lang/ArithmeticException" "java/lang/Throwable" "backtrace" "Ljava/lang/Object;" ∈ lw_tbl := List.mem_append_right _ (List.mem_of_getElem? (i := 185) (by decide +kernel))
theorem zq_186 : Cond.lays "java/lang/ArithmeticException" "java/lang/Throwable" "detailMessage" "Ljava/lang/String;" ∈ lw_tbl := List.mem_append_right _ (List.mem_of_getElem? (i := 186) (by decide +kernel))
theorem zq_187 : Cond.lays "java/lang/ArithmeticException" "java/lang/Throwable" "cause" "Ljava/lang/Throwable;" ∈ lw_tbl := List.mem_append_right _ (List.mem_of_getElem? (i := 187) (by decide +kernel))
theorem zq_188 : Cond.lays "java/lang/ArithmeticException" "java/lang/Throwable" "stackTrace" "[Ljava/lang/StackTraceElement;" ∈ lw_tbl := List.mem_append_right _ (List.mem_of_getElem? (i := 188) (by decide +kernel))
theorem zq_189 : Cond.lays "java/lang/ArithmeticException" "java/lang/Throwable" "depth" "I" ∈ lw_tbl := List.mem_append_right _ (List.mem_of_getElem? (i := 189) (by decide +kernel))
theorem zq_190 : Cond.lays "java/lang/ArithmeticException" "java/lang/Throwable" "suppressedExceptions" "Ljava/util/List;" ∈ lw_tbl := List.mem_append_right _ (List.mem_of_getElem? (i := 190) (by decide +kernel))
theorem zq_191 : Cond.superclass "java/lang/ArithmeticException" "java/lang/RuntimeException" ∈ lw_tbl := List.mem_append_right _ (List.mem_of_getElem? (i := 191) (by decide +kernel))
theorem zq_192 : Cond.castable "java/lang/ArithmeticException" "java/lang/ArithmeticException" ∈ lw_tbl := List.mem_append_right _ (List.mem_of_getElem? (i := 192) (by decide +kernel))
theorem zq_193 : Cond.selects "java/lang/ArithmeticException" ⟨"java/lang/Throwable", "fillInStackTrace", "(I)Ljava/lang/Throwable;"⟩ ⟨"java/lang/Throwable", "fillInStackTrace", "(I)Ljava/lang/Throwable;"⟩ ∈ lw_tbl := List.mem_append_right _ (List.mem_of_getElem? (i := 193) (by decide +kernel))
theorem zq_194 : Cond.methodLink "ParityArrayLaw" 7 ⟨"ParityArray", "set", "(IIJ)J"⟩ ∈ lw_tbl := List.mem_append_right _ (List.mem_of_getElem? (i := 194) (by decide +kernel))
theorem zq_195 : Cond.instanceMethod ⟨"ParityArray", "set", "(IIJ)J"⟩ ∈ lw_tbl := List.mem_append_right _ (List.mem_of_getElem? (i := 195) (by decide +kernel))
theorem zq_196 : Cond.selects "ParityArray" ⟨"ParityArray", "set", "(IIJ)J"⟩ ⟨"ParityArray", "set", "(IIJ)J"⟩ ∈ lw_tbl := List.mem_append_right _ (List.mem_of_getElem? (i := 196) (by decide +kernel))
theorem zq_197 : Cond.codeWith ⟨"ParityArray", "set", "(IIJ)J"⟩ prog_1_method_5_code 9 (some FieldType.long) [(65, 78, 81, 64)] ∈ lw_tbl := List.mem_append_right _ (List.mem_of_getElem? (i := 197) (by decide +kernel))
theorem zq_198 : Cond.classLink "ParityArray" 64 "java/lang/ArithmeticException" ∈ lw_tbl := List.mem_append_right _ (List.mem_of_getElem? (i := 198) (by decide +kernel))
theorem zq_199 : Cond.methodLink "ParityArray" 50 ⟨"ParityArray", "get", "(II)J"⟩ ∈ lw_tbl := List.mem_append_right _ (List.mem_of_getElem? (i := 199) (by decide +kernel))
theorem zq_200 : Cond.instanceMethod ⟨"ParityArray", "get", "(II)J"⟩ ∈ lw_tbl := List.mem_append_right _ (List.mem_of_getElem? (i := 200) (by decide +kernel))
theorem zq_201 : Cond.selects "ParityArray" ⟨"ParityArray", "get", "(II)J"⟩ ⟨"ParityArray", "get", "(II)J"⟩ ∈ lw_tbl := List.mem_append_right _ (List.mem_of_getElem? (i := 201) (by decide +kernel))
theorem zq_202 : Cond.code ⟨"ParityArray", "get", "(II)J"⟩ prog_1_method_4_code 6 (some FieldType.long) ∈ lw_tbl := List.mem_append_right _ (List.mem_of_getElem? (i := 202) (by decide +kernel))
theorem zq_203 : Cond.methodLink "ParityArray" 39 ⟨"ParityArray", "state", "(Z)V"⟩ ∈ lw_tbl := List.mem_append_right _ (List.mem_of_getElem? (i := 203) (by decide +kernel))
theorem zq_204 : Cond.static ⟨"ParityArray", "state", "(Z)V"⟩ ∈ lw_tbl := List.mem_append_right _ (List.mem_of_getElem? (i := 204) (by decide +kernel))
theorem zq_205 : Cond.code ⟨"ParityArray", "state", "(Z)V"⟩ prog_1_method_3_code 1 none ∈ lw_tbl := List.mem_append_right _ (List.mem_of_getElem? (i := 205) (by decide +kernel))
theorem zq_206 : Cond.classLink "ParityArray" 32 "java/lang/IllegalStateException" ∈ lw_tbl := List.mem_append_right _ (List.mem_of_getElem? (i := 206) (by decide +kernel))
theorem zq_207 : Cond.instantiable "java/lang/IllegalStateException" 6 ∈ lw_tbl := List.mem_append_right _ (List.mem_of_getElem? (i := 207) (by decide +kernel))
theorem zq_208 : Cond.castable "java/lang/IllegalStateException" "java/lang/IllegalStateException" ∈ lw_tbl := List.mem_append_right _ (List.mem_of_getElem? (i := 208) (by decide +kernel))
theorem zq_209 : Cond.selects "java/lang/IllegalStateException" ⟨"java/lang/Throwable", "fillInStackTrace", "(I)Ljava/lang/Throwable;"⟩ ⟨"java/lang/Throwable", "fillInStackTrace", "(I)Ljava/lang/Throwable;"⟩ ∈ lw_tbl := List.mem_append_right _ (List.mem_of_getElem? (i := 209) (by decide +kernel))
theorem zq_210 : Cond.lays "java/lang/IllegalStateException" "java/lang/Throwable" "cause" "Ljava/lang/Throwable;" ∈ lw_tbl := List.mem_append_right _ (List.mem_of_getElem? (i := 210) (by decide +kernel))
theorem zq_211 : Cond.lays "java/lang/IllegalStateException" "java/lang/Throwable" "stackTrace" "[Ljava/lang/StackTraceElement;" ∈ lw_tbl := List.mem_append_right _ (List.mem_of_getElem? (i := 211) (by decide +kernel))
theorem zq_212 : Cond.lays "java/lang/IllegalStateException" "java/lang/Throwable" "suppressedExceptions" "Ljava/util/List;" ∈ lw_tbl := List.mem_append_right _ (List.mem_of_getElem? (i := 212) (by decide +kernel))
theorem zq_213 : Cond.lays "java/lang/IllegalStateException" "java/lang/Throwable" "detailMessage" "Ljava/lang/String;" ∈ lw_tbl := List.mem_append_right _ (List.mem_of_getElem? (i := 213) (by decide +kernel))
theorem zq_214 : Cond.lays "java/lang/IllegalStateException" "java/lang/Throwable" "backtrace" "Ljava/lang/Object;" ∈ lw_tbl := List.mem_append_right _ (List.mem_of_getElem? (i := 214) (by decide +kernel))
theorem zq_215 : Cond.methodLink "ParityArray" 34 ⟨"java/lang/IllegalStateException", "<init>", "()V"⟩ ∈ lw_tbl := List.mem_append_right _ (List.mem_of_getElem? (i := 215) (by decide +kernel))
theorem zq_216 : Cond.instanceMethod ⟨"java/lang/IllegalStateException", "<init>", "()V"⟩ ∈ lw_tbl := List.mem_append_right _ (List.mem_of_getElem? (i := 216) (by decide +kernel))
theorem zq_217 : Cond.code ⟨"java/lang/IllegalStateException", "<init>", "()V"⟩ prog_10_method_1_code 1 none ∈ lw_tbl := List.mem_append_right _ (List.mem_of_getElem? (i := 217) (by decide +kernel))
theorem zq_218 : Cond.methodLink "java/lang/IllegalStateException" 1 ⟨"java/lang/RuntimeException", "<init>", "()V"⟩ ∈ lw_tbl := List.mem_append_right _ (List.mem_of_getElem? (i := 218) (by decide +kernel))
theorem zq_219 : Cond.instanceMethod ⟨"java/lang/RuntimeException", "<init>", "()V"⟩ ∈ lw_tbl := List.mem_append_right _ (List.mem_of_getElem? (i := 219) (by decide +kernel))
theorem zq_220 : Cond.code ⟨"java/lang/RuntimeException", "<init>", "()V"⟩ prog_12_method_1_code 1 none ∈ lw_tbl := List.mem_append_right _ (List.mem_of_getElem? (i := 220) (by decide +kernel))
theorem zq_221 : Cond.methodLink "java/lang/RuntimeException" 1 ⟨"java/lang/Exception", "<init>", "()V"⟩ ∈ lw_tbl := List.mem_append_right _ (List.mem_of_getElem? (i := 221) (by decide +kernel))
theorem zq_222 : Cond.instanceMethod ⟨"java/lang/Exception", "<init>", "()V"⟩ ∈ lw_tbl := List.mem_append_right _ (List.mem_of_getElem? (i := 222) (by decide +kernel))
theorem zq_223 : Cond.code ⟨"java/lang/Exception", "<init>", "()V"⟩ prog_8_method_1_code 1 none ∈ lw_tbl := List.mem_append_right _ (List.mem_of_getElem? (i := 223) (by decide +kernel))
theorem zq_224 : Cond.methodLink "java/lang/Exception" 1 ⟨"java/lang/Throwable", "<init>", "()V"⟩ ∈ lw_tbl := List.mem_append_right _ (List.mem_of_getElem? (i := 224) (by decide +kernel))
theorem zq_225 : Cond.lays "java/lang/IllegalStateException" "java/lang/Throwable" "depth" "I" ∈ lw_tbl := List.mem_append_right _ (List.mem_of_getElem? (i := 225) (by decide +kernel))
theorem zq_226 : Cond.superclass "java/lang/IllegalStateException" "java/lang/RuntimeException" ∈ lw_tbl := List.mem_append_right _ (List.mem_of_getElem? (i := 226) (by decide +kernel))
theorem zq_227 : Cond.methodLink "ParityArray" 43 ⟨"ParityArray", "at", "(Z)V"⟩ ∈ lw_tbl := List.mem_append_right _ (List.mem_of_getElem? (i := 227) (by decide +kernel))
theorem zq_228 : Cond.static ⟨"ParityArray", "at", "(Z)V"⟩ ∈ lw_tbl := List.mem_append_right _ (List.mem_of_getElem? (i := 228) (by decide +kernel))
theorem zq_229 : Cond.code ⟨"ParityArray", "at", "(Z)V"⟩ prog_1_method_2_code 1 none ∈ lw_tbl := List.mem_append_right _ (List.mem_of_getElem? (i := 229) (by decide +kernel))
theorem zq_230 : Cond.classLink "ParityArray" 29 "java/lang/IndexOutOfBoundsException" ∈ lw_tbl := List.mem_append_right _ (List.mem_of_getElem? (i := 230) (by decide +kernel))
theorem zq_231 : Cond.instantiable "java/lang/IndexOutOfBoundsException" 6 ∈ lw_tbl := List.mem_append_right _ (List.mem_of_getElem? (i := 231) (by decide +kernel))
theorem zq_232 : Cond.castable "java/lang/IndexOutOfBoundsException" "java/lang/IndexOutOfBoundsException" ∈ lw_tbl := List.mem_append_right _ (List.mem_of_getElem? (i := 232) (by decide +kernel))
theorem zq_233 : Cond.selects "java/lang/IndexOutOfBoundsException" ⟨"java/lang/Throwable", "fillInStackTrace", "(I)Ljava/lang/Throwable;"⟩ ⟨"java/lang/Throwable", "fillInStackTrace", "(I)Ljava/lang/Throwable;"⟩ ∈ lw_tbl := List.mem_append_right _ (List.mem_of_getElem? (i := 233) (by decide +kernel))
theorem zq_234 : Cond.lays "java/lang/IndexOutOfBoundsException" "java/lang/Throwable" "cause" "Ljava/lang/Throwable;" ∈ lw_tbl := List.mem_append_right _ (List.mem_of_getElem? (i := 234) (by decide +kernel))
theorem zq_235 : Cond.lays "java/lang/IndexOutOfBoundsException" "java/lang/Throwable" "stackTrace" "[Ljava/lang/StackTraceElement;" ∈ lw_tbl := List.mem_append_right _ (List.mem_of_getElem? (i := 235) (by decide +kernel))
theorem zq_236 : Cond.lays "java/lang/IndexOutOfBoundsException" "java/lang/Throwable" "suppressedExceptions" "Ljava/util/List;" ∈ lw_tbl := List.mem_append_right _ (List.mem_of_getElem? (i := 236) (by decide +kernel))
theorem zq_237 : Cond.lays "java/lang/IndexOutOfBoundsException" "java/lang/Throwable" "detailMessage" "Ljava/lang/String;" ∈ lw_tbl := List.mem_append_right _ (List.mem_of_getElem? (i := 237) (by decide +kernel))
theorem zq_238 : Cond.lays "java/lang/IndexOutOfBoundsException" "java/lang/Throwable" "backtrace" "Ljava/lang/Object;" ∈ lw_tbl := List.mem_append_right _ (List.mem_of_getElem? (i := 238) (by decide +kernel))
theorem zq_239 : Cond.methodLink "ParityArray" 31 ⟨"java/lang/IndexOutOfBoundsException", "<init>", "()V"⟩ ∈ lw_tbl := List.mem_append_right _ (List.mem_of_getElem? (i := 239) (by decide +kernel))
theorem zq_240 : Cond.instanceMethod ⟨"java/lang/IndexOutOfBoundsException", "<init>", "()V"⟩ ∈ lw_tbl := List.mem_append_right _ (List.mem_of_getElem? (i := 240) (by decide +kernel))
theorem zq_241 : Cond.code ⟨"java/lang/IndexOutOfBoundsException", "<init>", "()V"⟩ prog_11_method_1_code 1 none ∈ lw_tbl := List.mem_append_right _ (List.mem_of_getElem? (i := 241) (by decide +kernel))
theorem zq_242 : Cond.methodLink "java/lang/IndexOutOfBoundsException" 1 ⟨"java/lang/RuntimeException", "<init>", "()V"⟩ ∈ lw_tbl := List.mem_append_right _ (List.mem_of_getElem? (i := 242) (by decide +kernel))
theorem zq_243 : Cond.lays "java/lang/IndexOutOfBoundsException" "java/lang/Throwable" "depth" "I" ∈ lw_tbl := List.mem_append_right _ (List.mem_of_getElem? (i := 243) (by decide +kernel))
theorem zq_244 : Cond.superclass "java/lang/IndexOutOfBoundsException" "java/lang/RuntimeException" ∈ lw_tbl := List.mem_append_right _ (List.mem_of_getElem? (i := 244) (by decide +kernel))
theorem zq_245 : Cond.methodLink "ParityArray" 46 ⟨"ParityArray$Array5", "read", "(I[B)V"⟩ ∈ lw_tbl := List.mem_append_right _ (List.mem_of_getElem? (i := 245) (by decide +kernel))
theorem zq_246 : Cond.instanceMethod ⟨"ParityArray$Array5", "read", "(I[B)V"⟩ ∈ lw_tbl := List.mem_append_right _ (List.mem_of_getElem? (i := 246) (by decide +kernel))
theorem zq_247 : Cond.selects "ParityArray$Array5" ⟨"ParityArray$Array5", "read", "(I[B)V"⟩ ⟨"ParityArray$Array5", "read", "(I[B)V"⟩ ∈ lw_tbl := List.mem_append_right _ (List.mem_of_getElem? (i := 247) (by decide +kernel))
theorem zq_248 : Cond.code ⟨"ParityArray$Array5", "read", "(I[B)V"⟩ prog_2_method_8_code 3 none ∈ lw_tbl := List.mem_append_right _ (List.mem_of_getElem? (i := 248) (by decide +kernel))
theorem zq_249 : Cond.methodLink "ParityArray$Array5" 70 ⟨"ParityArray$Array5", "diskOf", "(II)I"⟩ ∈ lw_tbl := List.mem_append_right _ (List.mem_of_getElem? (i := 249) (by decide +kernel))
theorem zq_250 : Cond.static ⟨"ParityArray$Array5", "diskOf", "(II)I"⟩ ∈ lw_tbl := List.mem_append_right _ (List.mem_of_getElem? (i := 250) (by decide +kernel))
theorem zq_251 : Cond.code ⟨"ParityArray$Array5", "diskOf", "(II)I"⟩ prog_2_method_5_code 2 (some FieldType.int) ∈ lw_tbl := List.mem_append_right _ (List.mem_of_getElem? (i := 251) (by decide +kernel))
theorem zq_252 : Cond.methodLink "ParityArray$Array5" 40 ⟨"ParityArray$Array5", "parityOf", "(I)I"⟩ ∈ lw_tbl := List.mem_append_right _ (List.mem_of_getElem? (i := 252) (by decide +kernel))
theorem zq_253 : Cond.static ⟨"ParityArray$Array5", "parityOf", "(I)I"⟩ ∈ lw_tbl := List.mem_append_right _ (List.mem_of_getElem? (i := 253) (by decide +kernel))
theorem zq_254 : Cond.code ⟨"ParityArray$Array5", "parityOf", "(I)I"⟩ prog_2_method_4_code 1 (some FieldType.int) ∈ lw_tbl := List.mem_append_right _ (List.mem_of_getElem? (i := 254) (by decide +kernel))
theorem zq_255 : Cond.methodLink "ParityArray$Array5" 73 ⟨"ParityArray$Array5", "load", "(II[B)V"⟩ ∈ lw_tbl := List.mem_append_right _ (List.mem_of_getElem? (i := 255) (by decide +kernel))
theorem zq_256 : Cond.privateMethod ⟨"ParityArray$Array5", "load", "(II[B)V"⟩ ∈ lw_tbl := List.mem_append_right _ (List.mem_of_getElem? (i := 256) (by decide +kernel))
theorem zq_257 : Cond.instanceMethod ⟨"ParityArray$Array5", "load", "(II[B)V"⟩ ∈ lw_tbl := List.mem_append_right _ (List.mem_of_getElem? (i := 257) (by decide +kernel))
theorem zq_258 : Cond.code ⟨"ParityArray$Array5", "load", "(II[B)V"⟩ prog_2_method_7_code 6 none ∈ lw_tbl := List.mem_append_right _ (List.mem_of_getElem? (i := 258) (by decide +kernel))
theorem zq_259 : Cond.methodLink "ParityArray$Array5" 62 ⟨"ParityArray$Array5", "isThere", "(II)Z"⟩ ∈ lw_tbl := List.mem_append_right _ (List.mem_of_getElem? (i := 259) (by decide +kernel))
theorem zq_260 : Cond.privateMethod ⟨"ParityArray$Array5", "isThere", "(II)Z"⟩ ∈ lw_tbl := List.mem_append_right _ (List.mem_of_getElem? (i := 260) (by decide +kernel))
theorem zq_261 : Cond.instanceMethod ⟨"ParityArray$Array5", "isThere", "(II)Z"⟩ ∈ lw_tbl := List.mem_append_right _ (List.mem_of_getElem? (i := 261) (by decide +kernel))
theorem zq_262 : Cond.code ⟨"ParityArray$Array5", "isThere", "(II)Z"⟩ prog_2_method_2_code 3 (some FieldType.boolean) ∈ lw_tbl := List.mem_append_right _ (List.mem_of_getElem? (i := 262) (by decide +kernel))
theorem zq_263 : Cond.methodLink "ParityArray$Array5" 66 ⟨"ParityArray$Array5", "at", "(II)I"⟩ ∈ lw_tbl := List.mem_append_right _ (List.mem_of_getElem? (i := 263) (by decide +kernel))
theorem zq_264 : Cond.static ⟨"ParityArray$Array5", "at", "(II)I"⟩ ∈ lw_tbl := List.mem_append_right _ (List.mem_of_getElem? (i := 264) (by decide +kernel))
theorem zq_265 : Cond.code ⟨"ParityArray$Array5", "at", "(II)I"⟩ prog_2_method_3_code 2 (some FieldType.int) ∈ lw_tbl := List.mem_append_right _ (List.mem_of_getElem? (i := 265) (by decide +kernel))
theorem zq_266 : Cond.methodLink "ParityArray$Array5" 50 ⟨"java/lang/System", "arraycopy", "(Ljava/lang/Object;ILjava/lang/Object;II)V"⟩ ∈ lw_tbl := List.mem_append_right _ (List.mem_of_getElem? (i := 266) (by decide +kernel))
theorem zq_267 : Cond.static ⟨"java/lang/System", "arraycopy", "(Ljava/lang/Object;ILjava/lang/Object;II)V"⟩ ∈ lw_tbl := List.mem_append_right _ (List.mem_of_getElem? (i := 267) (by decide +kernel))
theorem zq_268 : Cond.native ⟨"java/lang/System", "arraycopy", "(Ljava/lang/Object;ILjava/lang/Object;II)V"⟩ ∈ lw_tbl := List.mem_append_right _ (List.mem_of_getElem? (i := 268) (by decide +kernel))
theorem zq_269 : Cond.methodLink "ParityArray" 54 ⟨"ParityArray$Power", "begin", "(Z)V"⟩ ∈ lw_tbl := List.mem_append_right _ (List.mem_of_getElem? (i := 269) (by decide +kernel))
theorem zq_270 : Cond.instanceMethod ⟨"ParityArray$Power", "begin", "(Z)V"⟩ ∈ lw_tbl := List.mem_append_right _ (List.mem_of_getElem? (i := 270) (by decide +kernel))
theorem zq_271 : Cond.selects "ParityArray$Power" ⟨"ParityArray$Power", "begin", "(Z)V"⟩ ⟨"ParityArray$Power", "begin", "(Z)V"⟩ ∈ lw_tbl := List.mem_append_right _ (List.mem_of_getElem? (i := 271) (by decide +kernel))
theorem zq_272 : Cond.code ⟨"ParityArray$Power", "begin", "(Z)V"⟩ prog_3_method_3_code 2 none ∈ lw_tbl := List.mem_append_right _ (List.mem_of_getElem? (i := 272) (by decide +kernel))
theorem zq_273 : Cond.methodLink "ParityArray" 60 ⟨"ParityArray$Array5", "write", "(I[BZ)V"⟩ ∈ lw_tbl := List.mem_append_right _ (List.mem_of_getElem? (i := 273) (by decide +kernel))
theorem zq_274 : Cond.instanceMethod ⟨"ParityArray$Array5", "write", "(I[BZ)V"⟩ ∈ lw_tbl := List.mem_append_right _ (List.mem_of_getElem? (i := 274) (by decide +kernel))
theorem zq_275 : Cond.selects "ParityArray$Array5" ⟨"ParityArray$Array5", "write", "(I[BZ)V"⟩ ⟨"ParityArray$Array5", "write", "(I[BZ)V"⟩ ∈ lw_tbl := List.mem_append_right _ (List.mem_of_getElem? (i := 275) (by decide +kernel))
theorem zq_276 : Cond.code ⟨"ParityArray$Array5", "write", "(I[BZ)V"⟩ prog_2_method_9_code 11 none ∈ lw_tbl := List.mem_append_right _ (List.mem_of_getElem? (i := 276) (by decide +kernel))
theorem zq_277 : Cond.methodLink "ParityArray$Array5" 77 ⟨"ParityArray$Array5", "write", "(I[BIZ)V"⟩ ∈ lw_tbl := List.mem_append_right _ (List.mem_of_getElem? (i := 277) (by decide +kernel))
theorem zq_278 : Cond.privateMethod ⟨"ParityArray$Array5", "write", "(I[BIZ)V"⟩ ∈ lw_tbl := List.mem_append_right _ (List.mem_of_getElem? (i := 278) (by decide +kernel))
theorem zq_279 : Cond.instanceMethod ⟨"ParityArray$Array5", "write", "(I[BIZ)V"⟩ ∈ lw_tbl := List.mem_append_right _ (List.mem_of_getElem? (i := 279) (by decide +kernel))
theorem zq_280 : Cond.code ⟨"ParityArray$Array5", "write", "(I[BIZ)V"⟩ prog_2_method_6_code 6 none ∈ lw_tbl := List.mem_append_right _ (List.mem_of_getElem? (i := 280) (by decide +kernel))
theorem zq_281 : Cond.methodLink "ParityArray$Array5" 44 ⟨"ParityArray$Power", "write", "(Z)I"⟩ ∈ lw_tbl := List.mem_append_right _ (List.mem_of_getElem? (i := 281) (by decide +kernel))
theorem zq_282 : Cond.instanceMethod ⟨"ParityArray$Power", "write", "(Z)I"⟩ ∈ lw_tbl := List.mem_append_right _ (List.mem_of_getElem? (i := 282) (by decide +kernel))
theorem zq_283 : Cond.selects "ParityArray$Power" ⟨"ParityArray$Power", "write", "(Z)I"⟩ ⟨"ParityArray$Power", "write", "(Z)I"⟩ ∈ lw_tbl := List.mem_append_right _ (List.mem_of_getElem? (i := 283) (by decide +kernel))
theorem zq_284 : Cond.code ⟨"ParityArray$Power", "write", "(Z)I"⟩ prog_3_method_4_code 2 (some FieldType.int) ∈ lw_tbl := List.mem_append_right _ (List.mem_of_getElem? (i := 284) (by decide +kernel))
theorem zq_285 : Cond.classLink "ParityArray$Array5" 59 "java/lang/ArithmeticException" ∈ lw_tbl := List.mem_append_right _ (List.mem_of_getElem? (i := 285) (by decide +kernel))
theorem zq_286 : Cond.methodLink "ParityArray$Array5" 61 ⟨"java/lang/ArithmeticException", "<init>", "()V"⟩ ∈ lw_tbl := List.mem_append_right _ (List.mem_of_getElem? (i := 286) (by decide +kernel))
theorem zq_287 : Cond.instanceMethod ⟨"java/lang/ArithmeticException", "<init>", "()V"⟩ ∈ lw_tbl := List.mem_append_right _ (List.mem_of_getElem? (i := 287) (by decide +kernel))
theorem zq_288 : Cond.code ⟨"java/lang/ArithmeticException", "<init>", "()V"⟩ prog_6_method_1_code 1 none ∈ lw_tbl := List.mem_append_right _ (List.mem_of_getElem? (i := 288) (by decide +kernel))
theorem zq_289 : Cond.methodLink "java/lang/ArithmeticException" 1 ⟨"java/lang/RuntimeException", "<init>", "()V"⟩ ∈ lw_tbl := List.mem_append_right _ (List.mem_of_getElem? (i := 289) (by decide +kernel))
theorem zq_290 : Cond.methodLink "ParityArray" 70 ⟨"java/lang/ArithmeticException", "<init>", "()V"⟩ ∈ lw_tbl := List.mem_append_right _ (List.mem_of_getElem? (i := 290) (by decide +kernel))
theorem zq_291 : Cond.methodLink "ParityArrayLaw" 65 ⟨"ParityArrayLaw", "get", "(LParityArray;II[J)I"⟩ ∈ lw_tbl := List.mem_append_right _ (List.mem_of_getElem? (i := 291) (by decide +kernel))
theorem zq_292 : Cond.static ⟨"ParityArrayLaw", "get", "(LParityArray;II[J)I"⟩ ∈ lw_tbl := List.mem_append_right _ (List.mem_of_getElem? (i := 292) (by decide +kernel))
theorem zq_293 : Cond.codeWith ⟨"ParityArrayLaw", "get", "(LParityArray;II[J)I"⟩ method_4_code 5 (some FieldType.int) [(0, 9, 12, 13), (0, 9, 16, 15)] ∈ lw_tbl := List.mem_append_right _ (List.mem_of_getElem? (i := 293) (by decide +kernel))
theorem zq_294 : Cond.methodLink "ParityArrayLaw" 19 ⟨"ParityArray", "get", "(II)J"⟩ ∈ lw_tbl := List.mem_append_right _ (List.mem_of_getElem? (i := 294) (by decide +kernel))
theorem zq_295 : Cond.methodLink "ParityArrayLaw" 69 ⟨"ParityArrayLaw", "die", "(LParityArray;I)I"⟩ ∈ lw_tbl := List.mem_append_right _ (List.mem_of_getElem? (i := 295) (by decide +kernel))
theorem zq_296 : Cond.static ⟨"ParityArrayLaw", "die", "(LParityArray;I)I"⟩ ∈ lw_tbl := List.mem_append_right _ (List.mem_of_getElem? (i := 296) (by decide +kernel))
theorem zq_297 : Cond.codeWith ⟨"ParityArrayLaw", "die", "(LParityArray;I)I"⟩ method_5_code 3 (some FieldType.int) [(0, 5, 8, 15), (0, 5, 11, 13)] ∈ lw_tbl := List.mem_append_right _ (List.mem_of_getElem? (i := 297) (by decide +kernel))
theorem zq_298 : Cond.methodLink "ParityArrayLaw" 23 ⟨"ParityArray", "die", "(I)V"⟩ ∈ lw_tbl := List.mem_append_right _ (List.mem_of_getElem? (i := 298) (by decide +kernel))
theorem zq_299 : Cond.instanceMethod ⟨"ParityArray", "die", "(I)V"⟩ ∈ lw_tbl := List.mem_append_right _ (List.mem_of_getElem? (i := 299) (by decide +kernel))
theorem zq_300 : Cond.selects "ParityArray" ⟨"ParityArray", "die", "(I)V"⟩ ⟨"ParityArray", "die", "(I)V"⟩ ∈ lw_tbl := List.mem_append_right _ (List.mem_of_getElem? (i := 300) (by decide +kernel))
theorem zq_301 : Cond.code ⟨"ParityArray", "die", "(I)V"⟩ prog_1_method_6_code 2 none ∈ lw_tbl := List.mem_append_right _ (List.mem_of_getElem? (i := 301) (by decide +kernel))
theorem zq_302 : Cond.methodLink "ParityArrayLaw" 73 ⟨"ParityArrayLaw", "replace", "(LParityArray;[J)I"⟩ ∈ lw_tbl := List.mem_append_right _ (List.mem_of_getElem? (i := 302) (by decide +kernel))
theorem zq_303 : Cond.static ⟨"ParityArrayLaw", "replace", "(LParityArray;[J)I"⟩ ∈ lw_tbl := List.mem_append_right _ (List.mem_of_getElem? (i := 303) (by decide +kernel))
theorem zq_304 : Cond.codeWith ⟨"ParityArrayLaw", "replace", "(LParityArray;[J)I"⟩ method_6_code 3 (some FieldType.int) [(0, 8, 11, 13)] ∈ lw_tbl := List.mem_append_right _ (List.mem_of_getElem? (i := 304) (by decide +kernel))
theorem zq_305 : Cond.methodLink "ParityArrayLaw" 27 ⟨"ParityArray", "replace", "()I"⟩ ∈ lw_tbl := List.mem_append_right _ (List.mem_of_getElem? (i := 305) (by decide +kernel))
theorem zq_306 : Cond.instanceMethod ⟨"ParityArray", "replace", "()I"⟩ ∈ lw_tbl := List.mem_append_right _ (List.mem_of_getElem? (i := 306) (by decide +kernel))
theorem zq_307 : Cond.selects "ParityArray" ⟨"ParityArray", "replace", "()I"⟩ ⟨"ParityArray", "replace", "()I"⟩ ∈ lw_tbl := List.mem_append_right _ (List.mem_of_getElem? (i := 307) (by decide +kernel))
theorem zq_308 : Cond.code ⟨"ParityArray", "replace", "()I"⟩ prog_1_method_7_code 1 (some FieldType.int) ∈ lw_tbl := List.mem_append_right _ (List.mem_of_getElem? (i := 308) (by decide +kernel))
theorem zq_309 : Cond.methodLink "ParityArray" 77 ⟨"ParityArray$Array5", "replace", "()V"⟩ ∈ lw_tbl := List.mem_append_right _ (List.mem_of_getElem? (i := 309) (by decide +kernel))
theorem zq_310 : Cond.instanceMethod ⟨"ParityArray$Array5", "replace", "()V"⟩ ∈ lw_tbl := List.mem_append_right _ (List.mem_of_getElem? (i := 310) (by decide +kernel))
theorem zq_311 : Cond.selects "ParityArray$Array5" ⟨"ParityArray$Array5", "replace", "()V"⟩ ⟨"ParityArray$Array5", "replace", "()V"⟩ ∈ lw_tbl := List.mem_append_right _ (List.mem_of_getElem? (i := 311) (by decide +kernel))
theorem zq_312 : Cond.code ⟨"ParityArray$Array5", "replace", "()V"⟩ prog_2_method_11_code 2 none ∈ lw_tbl := List.mem_append_right _ (List.mem_of_getElem? (i := 312) (by decide +kernel))
theorem zq_313 : Cond.methodLink "ParityArrayLaw" 77 ⟨"ParityArrayLaw", "rebuild", "(LParityArray;[J)I"⟩ ∈ lw_tbl := List.mem_append_right _ (List.mem_of_getElem? (i := 313) (by decide +kernel))
theorem zq_314 : Cond.static ⟨"ParityArrayLaw", "rebuild", "(LParityArray;[J)I"⟩ ∈ lw_tbl := List.mem_append_right _ (List.mem_of_getElem? (i := 314) (by decide +kernel))
theorem zq_315 : Cond.codeWith ⟨"ParityArrayLaw", "rebuild", "(LParityArray;[J)I"⟩ method_7_code 3 (some FieldType.int) [(0, 8, 11, 13)] ∈ lw_tbl := List.mem_append_right _ (List.mem_of_getElem? (i := 315) (by decide +kernel))
theorem zq_316 : Cond.methodLink "ParityArrayLaw" 31 ⟨"ParityArray", "rebuild", "()I"⟩ ∈ lw_tbl := List.mem_append_right _ (List.mem_of_getElem? (i := 316) (by decide +kernel))
theorem zq_317 : Cond.instanceMethod ⟨"ParityArray", "rebuild", "()I"⟩ ∈ lw_tbl := List.mem_append_right _ (List.mem_of_getElem? (i := 317) (by decide +kernel))
theorem zq_318 : Cond.selects "ParityArray" ⟨"ParityArray", "rebuild", "()I"⟩ ⟨"ParityArray", "rebuild", "()I"⟩ ∈ lw_tbl := List.mem_append_right _ (List.mem_of_getElem? (i := 318) (by decide +kernel))
theorem zq_319 : Cond.code ⟨"ParityArray", "rebuild", "()I"⟩ prog_1_method_8_code 1 (some FieldType.int) ∈ lw_tbl := List.mem_append_right _ (List.mem_of_getElem? (i := 319) (by decide +kernel))
theorem zq_320 : Cond.methodLink "ParityArray" 80 ⟨"ParityArray$Array5", "rebuild", "()I"⟩ ∈ lw_tbl := List.mem_append_right _ (List.mem_of_getElem? (i := 320) (by decide +kernel))
theorem zq_321 : Cond.instanceMethod ⟨"ParityArray$Array5", "rebuild", "()I"⟩ ∈ lw_tbl := List.mem_append_right _ (List.mem_of_getElem? (i := 321) (by decide +kernel))
theorem zq_322 : Cond.selects "ParityArray$Array5" ⟨"ParityArray$Array5", "rebuild", "()I"⟩ ⟨"ParityArray$Array5", "rebuild", "()I"⟩ ∈ lw_tbl := List.mem_append_right _ (List.mem_of_getElem? (i := 322) (by decide +kernel))
theorem zq_323 : Cond.code ⟨"ParityArray$Array5", "rebuild", "()I"⟩ prog_2_method_12_code 1 (some FieldType.int) ∈ lw_tbl := List.mem_append_right _ (List.mem_of_getElem? (i := 323) (by decide +kernel))
theorem zq_324 : Cond.methodLink "ParityArrayLaw" 80 ⟨"ParityArrayLaw", "power", "(LParityArray;IIZ)I"⟩ ∈ lw_tbl := List.mem_append_right _ (List.mem_of_getElem? (i := 324) (by decide +kernel))
theorem zq_325 : Cond.static ⟨"ParityArrayLaw", "power", "(LParityArray;IIZ)I"⟩ ∈ lw_tbl := List.mem_append_right _ (List.mem_of_getElem? (i := 325) (by decide +kernel))
theorem zq_326 : Cond.codeWith ⟨"ParityArrayLaw", "power", "(LParityArray;IIZ)I"⟩ method_8_code 5 (some FieldType.int) [(0, 7, 10, 38)] ∈ lw_tbl := List.mem_append_right _ (List.mem_of_getElem? (i := 326) (by decide +kernel))
theorem zq_327 : Cond.classLink "ParityArrayLaw" 38 "java/lang/IllegalArgumentException" ∈ lw_tbl := List.mem_append_right _ (List.mem_of_getElem? (i := 327) (by decide +kernel))
theorem zq_328 : Cond.methodLink "ParityArrayLaw" 34 ⟨"ParityArray", "power", "(IIZ)V"⟩ ∈ lw_tbl := List.mem_append_right _ (List.mem_of_getElem? (i := 328) (by decide +kernel))
theorem zq_329 : Cond.instanceMethod ⟨"ParityArray", "power", "(IIZ)V"⟩ ∈ lw_tbl := List.mem_append_right _ (List.mem_of_getElem? (i := 329) (by decide +kernel))
theorem zq_330 : Cond.selects "ParityArray" ⟨"ParityArray", "power", "(IIZ)V"⟩ ⟨"ParityArray", "power", "(IIZ)V"⟩ ∈ lw_tbl := List.mem_append_right _ (List.mem_of_getElem? (i := 330) (by decide +kernel))
theorem zq_331 : Cond.code ⟨"ParityArray", "power", "(IIZ)V"⟩ prog_1_method_9_code 4 none ∈ lw_tbl := List.mem_append_right _ (List.mem_of_getElem? (i := 331) (by decide +kernel))
theorem zq_332 : Cond.classLink "ParityArray" 84 "java/lang/IllegalArgumentException" ∈ lw_tbl := List.mem_append_right _ (List.mem_of_getElem? (i := 332) (by decide +kernel))
theorem zq_333 : Cond.instantiable "java/lang/IllegalArgumentException" 6 ∈ lw_tbl := List.mem_append_right _ (List.mem_of_getElem? (i := 333) (by decide +kernel))
theorem zq_334 : Cond.castable "java/lang/IllegalArgumentException" "java/lang/IllegalArgumentException" ∈ lw_tbl := List.mem_append_right _ (List.mem_of_getElem? (i := 334) (by decide +kernel))
theorem zq_335 : Cond.selects "java/lang/IllegalArgumentException" ⟨"java/lang/Throwable", "fillInStackTrace", "(I)Ljava/lang/Throwable;"⟩ ⟨"java/lang/Throwable", "fillInStackTrace", "(I)Ljava/lang/Throwable;"⟩ ∈ lw_tbl := List.mem_append_right _ (List.mem_of_getElem? (i := 335) (by decide +kernel))
theorem zq_336 : Cond.lays "java/lang/IllegalArgumentException" "java/lang/Throwable" "cause" "Ljava/lang/Throwable;" ∈ lw_tbl := List.mem_append_right _ (List.mem_of_getElem? (i := 336) (by decide +kernel))
theorem zq_337 : Cond.lays "java/lang/IllegalArgumentException" "java/lang/Throwable" "stackTrace" "[Ljava/lang/StackTraceElement;" ∈ lw_tbl := List.mem_append_right _ (List.mem_of_getElem? (i := 337) (by decide +kernel))
theorem zq_338 : Cond.lays "java/lang/IllegalArgumentException" "java/lang/Throwable" "suppressedExceptions" "Ljava/util/List;" ∈ lw_tbl := List.mem_append_right _ (List.mem_of_getElem? (i := 338) (by decide +kernel))
theorem zq_339 : Cond.lays "java/lang/IllegalArgumentException" "java/lang/Throwable" "detailMessage" "Ljava/lang/String;" ∈ lw_tbl := List.mem_append_right _ (List.mem_of_getElem? (i := 339) (by decide +kernel))
theorem zq_340 : Cond.lays "java/lang/IllegalArgumentException" "java/lang/Throwable" "backtrace" "Ljava/lang/Object;" ∈ lw_tbl := List.mem_append_right _ (List.mem_of_getElem? (i := 340) (by decide +kernel))
theorem zq_341 : Cond.methodLink "ParityArray" 86 ⟨"java/lang/IllegalArgumentException", "<init>", "()V"⟩ ∈ lw_tbl := List.mem_append_right _ (List.mem_of_getElem? (i := 341) (by decide +kernel))
theorem zq_342 : Cond.instanceMethod ⟨"java/lang/IllegalArgumentException", "<init>", "()V"⟩ ∈ lw_tbl := List.mem_append_right _ (List.mem_of_getElem? (i := 342) (by decide +kernel))
theorem zq_343 : Cond.code ⟨"java/lang/IllegalArgumentException", "<init>", "()V"⟩ prog_9_method_1_code 1 none ∈ lw_tbl := List.mem_append_right _ (List.mem_of_getElem? (i := 343) (by decide +kernel))
theorem zq_344 : Cond.methodLink "java/lang/IllegalArgumentException" 1 ⟨"java/lang/RuntimeException", "<init>", "()V"⟩ ∈ lw_tbl := List.mem_append_right _ (List.mem_of_getElem? (i := 344) (by decide +kernel))
theorem zq_345 : Cond.lays "java/lang/IllegalArgumentException" "java/lang/Throwable" "depth" "I" ∈ lw_tbl := List.mem_append_right _ (List.mem_of_getElem? (i := 345) (by decide +kernel))
theorem zq_346 : Cond.superclass "java/lang/IllegalArgumentException" "java/lang/RuntimeException" ∈ lw_tbl := List.mem_append_right _ (List.mem_of_getElem? (i := 346) (by decide +kernel))
theorem zq_347 : Cond.methodLink "ParityArray" 87 ⟨"ParityArray$Power", "say", "(III)V"⟩ ∈ lw_tbl := List.mem_append_right _ (List.mem_of_getElem? (i := 347) (by decide +kernel))
theorem zq_348 : Cond.instanceMethod ⟨"ParityArray$Power", "say", "(III)V"⟩ ∈ lw_tbl := List.mem_append_right _ (List.mem_of_getElem? (i := 348) (by decide +kernel))
theorem zq_349 : Cond.selects "ParityArray$Power" ⟨"ParityArray$Power", "say", "(III)V"⟩ ⟨"ParityArray$Power", "say", "(III)V"⟩ ∈ lw_tbl := List.mem_append_right _ (List.mem_of_getElem? (i := 349) (by decide +kernel))
theorem zq_350 : Cond.code ⟨"ParityArray$Power", "say", "(III)V"⟩ prog_3_method_2_code 4 none ∈ lw_tbl := List.mem_append_right _ (List.mem_of_getElem? (i := 350) (by decide +kernel))
theorem zq_351 : Cond.methodLink "ParityArrayLaw" 84 ⟨"ParityArrayLaw", "recover", "(LParityArray;)I"⟩ ∈ lw_tbl := List.mem_append_right _ (List.mem_of_getElem? (i := 351) (by decide +kernel))
theorem zq_352 : Cond.static ⟨"ParityArrayLaw", "recover", "(LParityArray;)I"⟩ ∈ lw_tbl := List.mem_append_right _ (List.mem_of_getElem? (i := 352) (by decide +kernel))
theorem zq_353 : Cond.codeWith ⟨"ParityArrayLaw", "recover", "(LParityArray;)I"⟩ method_9_code 2 (some FieldType.int) [(0, 4, 7, 17)] ∈ lw_tbl := List.mem_append_right _ (List.mem_of_getElem? (i := 353) (by decide +kernel))
theorem zq_354 : Cond.methodLink "ParityArrayLaw" 40 ⟨"ParityArray", "recover", "()V"⟩ ∈ lw_tbl := List.mem_append_right _ (List.mem_of_getElem? (i := 354) (by decide +kernel))
theorem zq_355 : Cond.instanceMethod ⟨"ParityArray", "recover", "()V"⟩ ∈ lw_tbl := List.mem_append_right _ (List.mem_of_getElem? (i := 355) (by decide +kernel))
theorem zq_356 : Cond.selects "ParityArray" ⟨"ParityArray", "recover", "()V"⟩ ⟨"ParityArray", "recover", "()V"⟩ ∈ lw_tbl := List.mem_append_right _ (List.mem_of_getElem? (i := 356) (by decide +kernel))
theorem zq_357 : Cond.codeWith ⟨"ParityArray", "recover", "()V"⟩ prog_1_method_10_code 3 none [(21, 28, 31, 64)] ∈ lw_tbl := List.mem_append_right _ (List.mem_of_getElem? (i := 357) (by decide +kernel))
theorem zq_358 : Cond.methodLink "ParityArray" 91 ⟨"ParityArray$Array5", "recover", "()V"⟩ ∈ lw_tbl := List.mem_append_right _ (List.mem_of_getElem? (i := 358) (by decide +kernel))
theorem zq_359 : Cond.instanceMethod ⟨"ParityArray$Array5", "recover", "()V"⟩ ∈ lw_tbl := List.mem_append_right _ (List.mem_of_getElem? (i := 359) (by decide +kernel))
theorem zq_360 : Cond.selects "ParityArray$Array5" ⟨"ParityArray$Array5", "recover", "()V"⟩ ⟨"ParityArray$Array5", "recover", "()V"⟩ ∈ lw_tbl := List.mem_append_right _ (List.mem_of_getElem? (i := 360) (by decide +kernel))
theorem zq_361 : Cond.code ⟨"ParityArray$Array5", "recover", "()V"⟩ prog_2_method_10_code 7 none ∈ lw_tbl := List.mem_append_right _ (List.mem_of_getElem? (i := 361) (by decide +kernel))
theorem zq_362 : Cond.methodLink "ParityArrayLaw" 88 ⟨"ParityArrayLaw", "told", "(LParityArray;I[J)I"⟩ ∈ lw_tbl := List.mem_append_right _ (List.mem_of_getElem? (i := 362) (by decide +kernel))
theorem zq_363 : Cond.static ⟨"ParityArrayLaw", "told", "(LParityArray;I[J)I"⟩ ∈ lw_tbl := List.mem_append_right _ (List.mem_of_getElem? (i := 363) (by decide +kernel))
theorem zq_364 : Cond.codeWith ⟨"ParityArrayLaw", "told", "(LParityArray;I[J)I"⟩ method_10_code 4 (some FieldType.int) [(0, 9, 12, 38)] ∈ lw_tbl := List.mem_append_right _ (List.mem_of_getElem? (i := 364) (by decide +kernel))
theorem zq_365 : Cond.methodLink "ParityArrayLaw" 43 ⟨"ParityArray", "told", "(I)I"⟩ ∈ lw_tbl := List.mem_append_right _ (List.mem_of_getElem? (i := 365) (by decide +kernel))
theorem zq_366 : Cond.instanceMethod ⟨"ParityArray", "told", "(I)I"⟩ ∈ lw_tbl := List.mem_append_right _ (List.mem_of_getElem? (i := 366) (by decide +kernel))
theorem zq_367 : Cond.selects "ParityArray" ⟨"ParityArray", "told", "(I)I"⟩ ⟨"ParityArray", "told", "(I)I"⟩ ∈ lw_tbl := List.mem_append_right _ (List.mem_of_getElem? (i := 367) (by decide +kernel))
theorem zq_368 : Cond.code ⟨"ParityArray", "told", "(I)I"⟩ prog_1_method_11_code 2 (some FieldType.int) ∈ lw_tbl := List.mem_append_right _ (List.mem_of_getElem? (i := 368) (by decide +kernel))
theorem zq_369 : Cond.methodLink "ParityArrayLaw" 92 ⟨"ParityArrayLaw", "check", "(LParityArray;[J)I"⟩ ∈ lw_tbl := List.mem_append_right _ (List.mem_of_getElem? (i := 369) (by decide +kernel))
theorem zq_370 : Cond.static ⟨"ParityArrayLaw", "check", "(LParityArray;[J)I"⟩ ∈ lw_tbl := List.mem_append_right _ (List.mem_of_getElem? (i := 370) (by decide +kernel))
theorem zq_371 : Cond.codeWith ⟨"ParityArrayLaw", "check", "(LParityArray;[J)I"⟩ method_11_code 3 (some FieldType.int) [(0, 8, 11, 13)] ∈ lw_tbl := List.mem_append_right _ (List.mem_of_getElem? (i := 371) (by decide +kernel))
theorem zq_372 : Cond.methodLink "ParityArrayLaw" 47 ⟨"ParityArray", "check", "()I"⟩ ∈ lw_tbl := List.mem_append_right _ (List.mem_of_getElem? (i := 372) (by decide +kernel))
theorem zq_373 : Cond.instanceMethod ⟨"ParityArray", "check", "()I"⟩ ∈ lw_tbl := List.mem_append_right _ (List.mem_of_getElem? (i := 373) (by decide +kernel))
theorem zq_374 : Cond.selects "ParityArray" ⟨"ParityArray", "check", "()I"⟩ ⟨"ParityArray", "check", "()I"⟩ ∈ lw_tbl := List.mem_append_right _ (List.mem_of_getElem? (i := 374) (by decide +kernel))
theorem zq_375 : Cond.code ⟨"ParityArray", "check", "()I"⟩ prog_1_method_12_code 1 (some FieldType.int) ∈ lw_tbl := List.mem_append_right _ (List.mem_of_getElem? (i := 375) (by decide +kernel))
theorem zq_376 : Cond.methodLink "ParityArray" 97 ⟨"ParityArray$Array5", "wrong", "()I"⟩ ∈ lw_tbl := List.mem_append_right _ (List.mem_of_getElem? (i := 376) (by decide +kernel))
theorem zq_377 : Cond.instanceMethod ⟨"ParityArray$Array5", "wrong", "()I"⟩ ∈ lw_tbl := List.mem_append_right _ (List.mem_of_getElem? (i := 377) (by decide +kernel))
theorem zq_378 : Cond.selects "ParityArray$Array5" ⟨"ParityArray$Array5", "wrong", "()I"⟩ ⟨"ParityArray$Array5", "wrong", "()I"⟩ ∈ lw_tbl := List.mem_append_right _ (List.mem_of_getElem? (i := 378) (by decide +kernel))
theorem zq_379 : Cond.code ⟨"ParityArray$Array5", "wrong", "()I"⟩ prog_2_method_13_code 7 (some FieldType.int) ∈ lw_tbl := List.mem_append_right _ (List.mem_of_getElem? (i := 379) (by decide +kernel))
theorem zq_380 : Cond.classLink "ParityArrayLaw" 51 "ParityArrayModel" ∈ lw_tbl := List.mem_append_right _ (List.mem_of_getElem? (i := 380) (by decide +kernel))
theorem zq_381 : Cond.instantiable "ParityArrayModel" 9 ∈ lw_tbl := List.mem_append_right _ (List.mem_of_getElem? (i := 381) (by decide +kernel))
theorem zq_382 : Cond.methodLink "ParityArrayLaw" 53 ⟨"ParityArrayModel", "<init>", "()V"⟩ ∈ lw_tbl := List.mem_append_right _ (List.mem_of_getElem? (i := 382) (by decide +kernel))
theorem zq_383 : Cond.instanceMethod ⟨"ParityArrayModel", "<init>", "()V"⟩ ∈ lw_tbl := List.mem_append_right _ (List.mem_of_getElem? (i := 383) (by decide +kernel))
theorem zq_384 : Cond.code ⟨"ParityArrayModel", "<init>", "()V"⟩ prog_5_method_1_code 1 none ∈ lw_tbl := List.mem_append_right _ (List.mem_of_getElem? (i := 384) (by decide +kernel))
theorem zq_385 : Cond.methodLink "ParityArrayModel" 1 ⟨"java/lang/Object", "<init>", "()V"⟩ ∈ lw_tbl := List.mem_append_right _ (List.mem_of_getElem? (i := 385) (by decide +kernel))
theorem zq_386 : Cond.constant "ParityArrayModel" 7 (76800 : Int32) ∈ lw_tbl := List.mem_append_right _ (List.mem_of_getElem? (i := 386) (by decide +kernel))
theorem zq_387 : Cond.fieldLink "ParityArrayModel" 8 "ParityArrayModel" "bytes" "[B" ∈ lw_tbl := List.mem_append_right _ (List.mem_of_getElem? (i := 387) (by decide +kernel))
theorem zq_388 : Cond.fieldLink "ParityArrayModel" 14 "ParityArrayModel" "on" "Z" ∈ lw_tbl := List.mem_append_right _ (List.mem_of_getElem? (i := 388) (by decide +kernel))
theorem zq_389 : Cond.fieldLink "ParityArrayModel" 18 "ParityArrayModel" "sick" "I" ∈ lw_tbl := List.mem_append_right _ (List.mem_of_getElem? (i := 389) (by decide +kernel))
theorem zq_390 : Cond.fieldLink "ParityArrayModel" 25 "ParityArrayModel" "fresh" "Z" ∈ lw_tbl := List.mem_append_right _ (List.mem_of_getElem? (i := 390) (by decide +kernel))
theorem zq_391 : Cond.fieldLink "ParityArrayModel" 28 "ParityArrayModel" "rebuilt" "I" ∈ lw_tbl := List.mem_append_right _ (List.mem_of_getElem? (i := 391) (by decide +kernel))
theorem zq_392 : Cond.fieldLink "ParityArrayModel" 49 "ParityArrayModel" "fails" "I" ∈ lw_tbl := List.mem_append_right _ (List.mem_of_getElem? (i := 392) (by decide +kernel))
theorem zq_393 : Cond.fieldLink "ParityArrayModel" 35 "ParityArrayModel" "write" "I" ∈ lw_tbl := List.mem_append_right _ (List.mem_of_getElem? (i := 393) (by decide +kernel))
theorem zq_394 : Cond.fieldLink "ParityArrayModel" 38 "ParityArrayModel" "cut" "I" ∈ lw_tbl := List.mem_append_right _ (List.mem_of_getElem? (i := 394) (by decide +kernel))
theorem zq_395 : Cond.fieldLink "ParityArrayModel" 22 "ParityArrayModel" "thrown" "I" ∈ lw_tbl := List.mem_append_right _ (List.mem_of_getElem? (i := 395) (by decide +kernel))
theorem zq_396 : Cond.laysFinal "ParityArrayModel" "ParityArrayModel" "bytes" "[B" ∈ lw_tbl := List.mem_append_right _ (List.mem_of_getElem? (i := 396) (by decide +kernel))
theorem zq_398 : Cond.lays "ParityArrayModel" "ParityArrayModel" "on" "Z" ∈ lw_tbl := List.mem_append_right _ (List.mem_of_getElem? (i := 398) (by decide +kernel))
theorem zq_400 : Cond.lays "ParityArrayModel" "ParityArrayModel" "sick" "I" ∈ lw_tbl := List.mem_append_right _ (List.mem_of_getElem? (i := 400) (by decide +kernel))
theorem zq_402 : Cond.lays "ParityArrayModel" "ParityArrayModel" "fresh" "Z" ∈ lw_tbl := List.mem_append_right _ (List.mem_of_getElem? (i := 402) (by decide +kernel))
theorem zq_404 : Cond.lays "ParityArrayModel" "ParityArrayModel" "rebuilt" "I" ∈ lw_tbl := List.mem_append_right _ (List.mem_of_getElem? (i := 404) (by decide +kernel))
theorem zq_406 : Cond.lays "ParityArrayModel" "ParityArrayModel" "fails" "I" ∈ lw_tbl := List.mem_append_right _ (List.mem_of_getElem? (i := 406) (by decide +kernel))
theorem zq_408 : Cond.lays "ParityArrayModel" "ParityArrayModel" "write" "I" ∈ lw_tbl := List.mem_append_right _ (List.mem_of_getElem? (i := 408) (by decide +kernel))
theorem zq_410 : Cond.lays "ParityArrayModel" "ParityArrayModel" "cut" "I" ∈ lw_tbl := List.mem_append_right _ (List.mem_of_getElem? (i := 410) (by decide +kernel))
theorem zq_412 : Cond.lays "ParityArrayModel" "ParityArrayModel" "thrown" "I" ∈ lw_tbl := List.mem_append_right _ (List.mem_of_getElem? (i := 412) (by decide +kernel))
theorem zq_414 : Cond.superclass "ParityArrayModel" "java/lang/Object" ∈ lw_tbl := List.mem_append_right _ (List.mem_of_getElem? (i := 414) (by decide +kernel))
theorem zq_415 : Cond.methodLink "ParityArrayLaw" 62 ⟨"ParityArrayModel", "thrown", "()I"⟩ ∈ lw_tbl := List.mem_append_right _ (List.mem_of_getElem? (i := 415) (by decide +kernel))
theorem zq_416 : Cond.instanceMethod ⟨"ParityArrayModel", "thrown", "()I"⟩ ∈ lw_tbl := List.mem_append_right _ (List.mem_of_getElem? (i := 416) (by decide +kernel))
theorem zq_417 : Cond.selects "ParityArrayModel" ⟨"ParityArrayModel", "thrown", "()I"⟩ ⟨"ParityArrayModel", "thrown", "()I"⟩ ∈ lw_tbl := List.mem_append_right _ (List.mem_of_getElem? (i := 417) (by decide +kernel))
theorem zq_418 : Cond.code ⟨"ParityArrayModel", "thrown", "()I"⟩ prog_5_method_2_code 1 (some FieldType.int) ∈ lw_tbl := List.mem_append_right _ (List.mem_of_getElem? (i := 418) (by decide +kernel))
theorem zq_419 : Cond.methodLink "ParityArrayLaw" 61 ⟨"ParityArrayModel", "set", "(IIJ)J"⟩ ∈ lw_tbl := List.mem_append_right _ (List.mem_of_getElem? (i := 419) (by decide +kernel))
theorem zq_420 : Cond.instanceMethod ⟨"ParityArrayModel", "set", "(IIJ)J"⟩ ∈ lw_tbl := List.mem_append_right _ (List.mem_of_getElem? (i := 420) (by decide +kernel))
theorem zq_421 : Cond.selects "ParityArrayModel" ⟨"ParityArrayModel", "set", "(IIJ)J"⟩ ⟨"ParityArrayModel", "set", "(IIJ)J"⟩ ∈ lw_tbl := List.mem_append_right _ (List.mem_of_getElem? (i := 421) (by decide +kernel))
theorem zq_422 : Cond.code ⟨"ParityArrayModel", "set", "(IIJ)J"⟩ prog_5_method_7_code 11 (some FieldType.long) ∈ lw_tbl := List.mem_append_right _ (List.mem_of_getElem? (i := 422) (by decide +kernel))
theorem zq_423 : Cond.methodLink "ParityArrayModel" 41 ⟨"ParityArrayModel", "fails", "(I)I"⟩ ∈ lw_tbl := List.mem_append_right _ (List.mem_of_getElem? (i := 423) (by decide +kernel))
theorem zq_424 : Cond.privateMethod ⟨"ParityArrayModel", "fails", "(I)I"⟩ ∈ lw_tbl := List.mem_append_right _ (List.mem_of_getElem? (i := 424) (by decide +kernel))
theorem zq_425 : Cond.instanceMethod ⟨"ParityArrayModel", "fails", "(I)I"⟩ ∈ lw_tbl := List.mem_append_right _ (List.mem_of_getElem? (i := 425) (by decide +kernel))
theorem zq_426 : Cond.code ⟨"ParityArrayModel", "fails", "(I)I"⟩ prog_5_method_3_code 2 (some FieldType.int) ∈ lw_tbl := List.mem_append_right _ (List.mem_of_getElem? (i := 426) (by decide +kernel))
theorem zq_427 : Cond.methodLink "ParityArrayModel" 45 ⟨"ParityArrayModel", "read", "(I)J"⟩ ∈ lw_tbl := List.mem_append_right _ (List.mem_of_getElem? (i := 427) (by decide +kernel))
theorem zq_428 : Cond.privateMethod ⟨"ParityArrayModel", "read", "(I)J"⟩ ∈ lw_tbl := List.mem_append_right _ (List.mem_of_getElem? (i := 428) (by decide +kernel))
theorem zq_429 : Cond.instanceMethod ⟨"ParityArrayModel", "read", "(I)J"⟩ ∈ lw_tbl := List.mem_append_right _ (List.mem_of_getElem? (i := 429) (by decide +kernel))
theorem zq_430 : Cond.code ⟨"ParityArrayModel", "read", "(I)J"⟩ prog_5_method_6_code 5 (some FieldType.long) ∈ lw_tbl := List.mem_append_right _ (List.mem_of_getElem? (i := 430) (by decide +kernel))
theorem zq_431 : Cond.methodLink "ParityArrayModel" 51 ⟨"ParityArrayModel", "fresh", "(I)I"⟩ ∈ lw_tbl := List.mem_append_right _ (List.mem_of_getElem? (i := 431) (by decide +kernel))
theorem zq_432 : Cond.privateMethod ⟨"ParityArrayModel", "fresh", "(I)I"⟩ ∈ lw_tbl := List.mem_append_right _ (List.mem_of_getElem? (i := 432) (by decide +kernel))
theorem zq_433 : Cond.instanceMethod ⟨"ParityArrayModel", "fresh", "(I)I"⟩ ∈ lw_tbl := List.mem_append_right _ (List.mem_of_getElem? (i := 433) (by decide +kernel))
theorem zq_434 : Cond.code ⟨"ParityArrayModel", "fresh", "(I)I"⟩ prog_5_method_5_code 4 (some FieldType.int) ∈ lw_tbl := List.mem_append_right _ (List.mem_of_getElem? (i := 434) (by decide +kernel))
theorem zq_435 : Cond.methodLink "ParityArrayModel" 31 ⟨"ParityArrayModel", "isThere", "(II)Z"⟩ ∈ lw_tbl := List.mem_append_right _ (List.mem_of_getElem? (i := 435) (by decide +kernel))
theorem zq_436 : Cond.privateMethod ⟨"ParityArrayModel", "isThere", "(II)Z"⟩ ∈ lw_tbl := List.mem_append_right _ (List.mem_of_getElem? (i := 436) (by decide +kernel))
theorem zq_437 : Cond.instanceMethod ⟨"ParityArrayModel", "isThere", "(II)Z"⟩ ∈ lw_tbl := List.mem_append_right _ (List.mem_of_getElem? (i := 437) (by decide +kernel))
theorem zq_438 : Cond.code ⟨"ParityArrayModel", "isThere", "(II)Z"⟩ prog_5_method_4_code 3 (some FieldType.boolean) ∈ lw_tbl := List.mem_append_right _ (List.mem_of_getElem? (i := 438) (by decide +kernel))
theorem zq_439 : Cond.methodLink "ParityArrayLaw" 68 ⟨"ParityArrayModel", "get", "(II)J"⟩ ∈ lw_tbl := List.mem_append_right _ (List.mem_of_getElem? (i := 439) (by decide +kernel))
theorem zq_440 : Cond.instanceMethod ⟨"ParityArrayModel", "get", "(II)J"⟩ ∈ lw_tbl := List.mem_append_right _ (List.mem_of_getElem? (i := 440) (by decide +kernel))
theorem zq_441 : Cond.selects "ParityArrayModel" ⟨"ParityArrayModel", "get", "(II)J"⟩ ⟨"ParityArrayModel", "get", "(II)J"⟩ ∈ lw_tbl := List.mem_append_right _ (List.mem_of_getElem? (i := 441) (by decide +kernel))
theorem zq_442 : Cond.code ⟨"ParityArrayModel", "get", "(II)J"⟩ prog_5_method_8_code 3 (some FieldType.long) ∈ lw_tbl := List.mem_append_right _ (List.mem_of_getElem? (i := 442) (by decide +kernel))
theorem zq_443 : Cond.methodLink "ParityArrayLaw" 72 ⟨"ParityArrayModel", "die", "(I)V"⟩ ∈ lw_tbl := List.mem_append_right _ (List.mem_of_getElem? (i := 443) (by decide +kernel))
theorem zq_444 : Cond.instanceMethod ⟨"ParityArrayModel", "die", "(I)V"⟩ ∈ lw_tbl := List.mem_append_right _ (List.mem_of_getElem? (i := 444) (by decide +kernel))
theorem zq_445 : Cond.selects "ParityArrayModel" ⟨"ParityArrayModel", "die", "(I)V"⟩ ⟨"ParityArrayModel", "die", "(I)V"⟩ ∈ lw_tbl := List.mem_append_right _ (List.mem_of_getElem? (i := 445) (by decide +kernel))
theorem zq_446 : Cond.code ⟨"ParityArrayModel", "die", "(I)V"⟩ prog_5_method_9_code 2 none ∈ lw_tbl := List.mem_append_right _ (List.mem_of_getElem? (i := 446) (by decide +kernel))
theorem zq_447 : Cond.methodLink "ParityArrayLaw" 76 ⟨"ParityArrayModel", "replace", "()I"⟩ ∈ lw_tbl := List.mem_append_right _ (List.mem_of_getElem? (i := 447) (by decide +kernel))
theorem zq_448 : Cond.instanceMethod ⟨"ParityArrayModel", "replace", "()I"⟩ ∈ lw_tbl := List.mem_append_right _ (List.mem_of_getElem? (i := 448) (by decide +kernel))
theorem zq_449 : Cond.selects "ParityArrayModel" ⟨"ParityArrayModel", "replace", "()I"⟩ ⟨"ParityArrayModel", "replace", "()I"⟩ ∈ lw_tbl := List.mem_append_right _ (List.mem_of_getElem? (i := 449) (by decide +kernel))
theorem zq_450 : Cond.code ⟨"ParityArrayModel", "replace", "()I"⟩ prog_5_method_10_code 1 (some FieldType.int) ∈ lw_tbl := List.mem_append_right _ (List.mem_of_getElem? (i := 450) (by decide +kernel))
theorem zq_451 : Cond.methodLink "ParityArrayLaw" 79 ⟨"ParityArrayModel", "rebuild", "()I"⟩ ∈ lw_tbl := List.mem_append_right _ (List.mem_of_getElem? (i := 451) (by decide +kernel))
theorem zq_452 : Cond.instanceMethod ⟨"ParityArrayModel", "rebuild", "()I"⟩ ∈ lw_tbl := List.mem_append_right _ (List.mem_of_getElem? (i := 452) (by decide +kernel))
theorem zq_453 : Cond.selects "ParityArrayModel" ⟨"ParityArrayModel", "rebuild", "()I"⟩ ⟨"ParityArrayModel", "rebuild", "()I"⟩ ∈ lw_tbl := List.mem_append_right _ (List.mem_of_getElem? (i := 453) (by decide +kernel))
theorem zq_454 : Cond.code ⟨"ParityArrayModel", "rebuild", "()I"⟩ prog_5_method_11_code 2 (some FieldType.int) ∈ lw_tbl := List.mem_append_right _ (List.mem_of_getElem? (i := 454) (by decide +kernel))
theorem zq_455 : Cond.methodLink "ParityArrayLaw" 83 ⟨"ParityArrayModel", "power", "(IIZ)V"⟩ ∈ lw_tbl := List.mem_append_right _ (List.mem_of_getElem? (i := 455) (by decide +kernel))
theorem zq_456 : Cond.instanceMethod ⟨"ParityArrayModel", "power", "(IIZ)V"⟩ ∈ lw_tbl := List.mem_append_right _ (List.mem_of_getElem? (i := 456) (by decide +kernel))
theorem zq_457 : Cond.selects "ParityArrayModel" ⟨"ParityArrayModel", "power", "(IIZ)V"⟩ ⟨"ParityArrayModel", "power", "(IIZ)V"⟩ ∈ lw_tbl := List.mem_append_right _ (List.mem_of_getElem? (i := 457) (by decide +kernel))
theorem zq_458 : Cond.code ⟨"ParityArrayModel", "power", "(IIZ)V"⟩ prog_5_method_12_code 4 none ∈ lw_tbl := List.mem_append_right _ (List.mem_of_getElem? (i := 458) (by decide +kernel))
theorem zq_459 : Cond.methodLink "ParityArrayLaw" 87 ⟨"ParityArrayModel", "recover", "()V"⟩ ∈ lw_tbl := List.mem_append_right _ (List.mem_of_getElem? (i := 459) (by decide +kernel))
theorem zq_460 : Cond.instanceMethod ⟨"ParityArrayModel", "recover", "()V"⟩ ∈ lw_tbl := List.mem_append_right _ (List.mem_of_getElem? (i := 460) (by decide +kernel))
theorem zq_461 : Cond.selects "ParityArrayModel" ⟨"ParityArrayModel", "recover", "()V"⟩ ⟨"ParityArrayModel", "recover", "()V"⟩ ∈ lw_tbl := List.mem_append_right _ (List.mem_of_getElem? (i := 461) (by decide +kernel))
theorem zq_462 : Cond.code ⟨"ParityArrayModel", "recover", "()V"⟩ prog_5_method_13_code 1 none ∈ lw_tbl := List.mem_append_right _ (List.mem_of_getElem? (i := 462) (by decide +kernel))
theorem zq_463 : Cond.methodLink "ParityArrayLaw" 91 ⟨"ParityArrayModel", "told", "(I)I"⟩ ∈ lw_tbl := List.mem_append_right _ (List.mem_of_getElem? (i := 463) (by decide +kernel))
theorem zq_464 : Cond.instanceMethod ⟨"ParityArrayModel", "told", "(I)I"⟩ ∈ lw_tbl := List.mem_append_right _ (List.mem_of_getElem? (i := 464) (by decide +kernel))
theorem zq_465 : Cond.selects "ParityArrayModel" ⟨"ParityArrayModel", "told", "(I)I"⟩ ⟨"ParityArrayModel", "told", "(I)I"⟩ ∈ lw_tbl := List.mem_append_right _ (List.mem_of_getElem? (i := 465) (by decide +kernel))
theorem zq_466 : Cond.code ⟨"ParityArrayModel", "told", "(I)I"⟩ prog_5_method_14_code 2 (some FieldType.int) ∈ lw_tbl := List.mem_append_right _ (List.mem_of_getElem? (i := 466) (by decide +kernel))
theorem zq_467 : Cond.methodLink "ParityArrayLaw" 94 ⟨"ParityArrayModel", "check", "()I"⟩ ∈ lw_tbl := List.mem_append_right _ (List.mem_of_getElem? (i := 467) (by decide +kernel))
theorem zq_468 : Cond.instanceMethod ⟨"ParityArrayModel", "check", "()I"⟩ ∈ lw_tbl := List.mem_append_right _ (List.mem_of_getElem? (i := 468) (by decide +kernel))
theorem zq_469 : Cond.selects "ParityArrayModel" ⟨"ParityArrayModel", "check", "()I"⟩ ⟨"ParityArrayModel", "check", "()I"⟩ ∈ lw_tbl := List.mem_append_right _ (List.mem_of_getElem? (i := 469) (by decide +kernel))
theorem zq_470 : Cond.code ⟨"ParityArrayModel", "check", "()I"⟩ prog_5_method_15_code 1 (some FieldType.int) ∈ lw_tbl := List.mem_append_right _ (List.mem_of_getElem? (i := 470) (by decide +kernel))
theorem zq_471 : Cond.constantLong "ParityArrayLaw" 54 (4294967295 : Int64) ∈ lw_tbl := List.mem_append_right _ (List.mem_of_getElem? (i := 471) (by decide +kernel))
theorem zq_472 : Cond.arrayClass FieldType.long ∈ lw_tbl := List.mem_append_right _ (List.mem_of_getElem? (i := 472) (by decide +kernel))
theorem zq_473 : Cond.sameMethod "java/lang/Throwable" "java/lang/Throwable" "fillInStackTrace" "(I)Ljava/lang/Throwable;" ∈ lw_tbl := List.mem_append_right _ (List.mem_of_getElem? (i := 473) (by decide +kernel))
theorem zq_474 : Cond.castable "java/lang/ArrayIndexOutOfBoundsException" "java/lang/IndexOutOfBoundsException" ∈ lw_tbl := List.mem_append_right _ (List.mem_of_getElem? (i := 474) (by decide +kernel))
theorem zs_0 : Cond.selects "java/lang/Throwable" ⟨"java/lang/Throwable", "fillInStackTrace", "(I)Ljava/lang/Throwable;"⟩ ⟨"java/lang/Throwable", "fillInStackTrace", "(I)Ljava/lang/Throwable;"⟩ ∈ lw_tbl := List.mem_append_left _ (List.mem_of_getElem? (i := 0) (by decide +kernel))
theorem zs_1 : Cond.selects "ParityArray$Array5" ⟨"ParityArray$Array5", "load", "(II[B)V"⟩ ⟨"ParityArray$Array5", "load", "(II[B)V"⟩ ∈ lw_tbl := List.mem_append_left _ (List.mem_of_getElem? (i := 1) (by decide +kernel))
theorem zs_2 : Cond.selects "ParityArray$Array5" ⟨"ParityArray$Array5", "isThere", "(II)Z"⟩ ⟨"ParityArray$Array5", "isThere", "(II)Z"⟩ ∈ lw_tbl := List.mem_append_left _ (List.mem_of_getElem? (i := 2) (by decide +kernel))
theorem zs_3 : Cond.selects "ParityArray$Array5" ⟨"ParityArray$Array5", "write", "(I[BIZ)V"⟩ ⟨"ParityArray$Array5", "write", "(I[BIZ)V"⟩ ∈ lw_tbl := List.mem_append_left _ (List.mem_of_getElem? (i := 3) (by decide +kernel))
theorem zs_4 : Cond.selects "ParityArrayModel" ⟨"ParityArrayModel", "fails", "(I)I"⟩ ⟨"ParityArrayModel", "fails", "(I)I"⟩ ∈ lw_tbl := List.mem_append_left _ (List.mem_of_getElem? (i := 4) (by decide +kernel))
theorem zs_5 : Cond.selects "ParityArrayModel" ⟨"ParityArrayModel", "read", "(I)J"⟩ ⟨"ParityArrayModel", "read", "(I)J"⟩ ∈ lw_tbl := List.mem_append_left _ (List.mem_of_getElem? (i := 5) (by decide +kernel))
theorem zs_6 : Cond.selects "ParityArrayModel" ⟨"ParityArrayModel", "fresh", "(I)I"⟩ ⟨"ParityArrayModel", "fresh", "(I)I"⟩ ∈ lw_tbl := List.mem_append_left _ (List.mem_of_getElem? (i := 6) (by decide +kernel))
theorem zs_7 : Cond.selects "ParityArrayModel" ⟨"ParityArrayModel", "isThere", "(II)Z"⟩ ⟨"ParityArrayModel", "isThere", "(II)Z"⟩ ∈ lw_tbl := List.mem_append_left _ (List.mem_of_getElem? (i := 7) (by decide +kernel))
end
section
/-! the frame of this proof: words that stay, the statics of Throwable, contracts as walks, calls that come back or throw, catch, throw -/
/-- the words that stay when the tables grow warmer -/
def zx_ok (w : Cond) : Bool := goodWord w || (match w with | .methodLinkNest _ _ _ _ => true | .castable _ _ => true | .declares _ => true | _ => false)
/-- those words of the tables hold at U, for whatever arguments -/
def xT (U : State) : Prop := ∀ w ∈ lw_tbl, zx_ok w = true → ∀ a : Array Value, w.before a U = true
theorem xT.warm {s U : State} (hW : s.WarmedH U.vm) (h : xT s) : xT U := by
  intro w hw hn a
  by_cases hg : goodWord w = true
  · exact word_at hW (good_of_word hg) (h w hw hn #[])
  · cases w with
    | methodLinkNest x i y z => exact va_Nw.use rfl (va_Nw.warmM hW (h _ hw hn #[]))
    | castable x y => exact va_tabs (u := s.setVm U.vm) rfl rfl (Cond.faceAtom_setVm hW.alike _ rfl (h _ hw hn #[]))
    | declares x => exact va_tabs (u := s.setVm U.vm) rfl rfl (Cond.faceAtom_setVm hW.alike _ rfl (h _ hw hn #[]))
    | _ => simp [zx_ok, hg] at hn
theorem xT.u {s : State} (h : xT s) {a : Array Value} {w : Cond} (hw : w ∈ lw_tbl) (hn : zx_ok w = true := by rfl) : w.before a s = true := h w hw hn a
/-- the words that speak of Throwable's statics -/
def zx_S4 : List Cond := [.laysStatic "java/lang/Throwable" "UNASSIGNED_STACK" "[Ljava/lang/StackTraceElement;", .laysStatic "java/lang/Throwable" "SUPPRESSED_SENTINEL" "Ljava/util/List;", .isRef (.static "java/lang/Throwable" "UNASSIGNED_STACK" "[Ljava/lang/StackTraceElement;"), .isRef (.static "java/lang/Throwable" "SUPPRESSED_SENTINEL" "Ljava/util/List;")]
/-- the cell of Throwable's statics is none of A; wherever it is as it is, those words hold -/
def xZ (A : Nat → Prop) (U : State) (H : Heap) : Prop := ∃ (aS : Nat) (cS : Cell), H[aS]? = some cS ∧ cS.vm.isStatics = true ∧ ¬ A aS ∧ ∀ (V : State) (a : Array Value), U.vm.Alike V.vm → V.heap[aS]? = some cS → ∀ w ∈ zx_S4, w.before a V = true
theorem xZ.moved {A : Nat → Prop} {u U : State} {H : Heap} (hvm : u.vm.Alike U.vm) (h : xZ A u H) : xZ A U H := by
  obtain ⟨aS, cS, h1, h2, h3, h4⟩ := h
  exact ⟨aS, cS, h1, h2, h3, fun V a hV => h4 V a (hvm.trans hV)⟩
theorem xZ.kept {A : Nat → Prop} {U : State} {H H1 : Heap} (h : xZ A U H) (hq : ∀ a : Nat, a < H.size → ¬ A a → H1[a]? = H[a]?) : xZ A U H1 := by
  obtain ⟨aS, cS, h1, h2, h3, h4⟩ := h
  exact ⟨aS, cS, by rw [hq aS (Array.getElem?_eq_some_iff.mp h1).1 h3]; exact h1, h2, h3, h4⟩
theorem xZ.narrow {A B : Nat → Prop} {U : State} {H : Heap} (h : xZ A U H) (hAB : ∀ q, B q → A q) : xZ B U H := by
  obtain ⟨aS, cS, h1, h2, h3, h4⟩ := h
  exact ⟨aS, cS, h1, h2, fun z => h3 (hAB _ z), h4⟩
theorem xZ.use {A : Nat → Prop} {U : State} (h : xZ A U U.heap) (a : Array Value) : ∀ w ∈ zx_S4, w.before a U = true := by
  obtain ⟨aS, cS, h1, h2, h3, h4⟩ := h
  exact h4 U a (Vm.Alike.refl _) h1
/-- one static of Throwable, wherever its cell is as it is -/
theorem zx_st1 {args : Array Value} {s : State} {C n d : String} (hl : (Cond.laysStatic C n d).before args s = true) (hr : (Cond.isRef (.static C n d)).before args s = true) :
    ∃ (cT : ClassId) (k : Class) (aS : Nat) (cS : Cell), s.vm.findClass C = some cT ∧ s.vm.classes[cT]? = some k ∧ k.statics = some aS ∧ s.heap[aS]? = some cS ∧ cS.vm.isStatics = true ∧ ∀ (V : State) (a : Array Value), s.vm.Alike V.vm → V.heap[aS]? = some cS → (Cond.laysStatic C n d).before a V = true ∧ (Cond.isRef (.static C n d)).before a V = true := by
  obtain ⟨c, k, i, f, aS, cell, hc, hi, hst, ha, hcell, hs, hcls, hlt, hty⟩ := Cond.laysStatic_spec hl
  obtain ⟨u, hu⟩ := Cond.staticRefV hi hst ha hcell hs hr
  refine ⟨c, k, aS, cell, hc, (State.fieldFound?_spec hi).1, ha, hcell, hs, fun V a hvm hV => ?_⟩
  obtain ⟨k', hi', he⟩ := State.fieldFound?_setVm (s := s) hvm hi
  have hi2 : V.fieldFound? C n d = some (c, k', i, f) := by simpa only [State.fieldFound?, State.vm_setVm] using hi'
  have hc2 : V.vm.findClass C = some c := by rw [hvm.findClass]; exact hc
  have ha2 : k'.statics = some aS := by rw [he]; exact ha
  have hty2 : k'.staticTypes[f.slot]? = some f.type := by rw [he]; exact hty
  refine ⟨?_, ?_⟩
  · simp [Cond.before, Cond.holds, Cond.value, hc2, hi2, ha2, hV, hst, hs, hcls, hlt, hty2]
  · obtain ⟨uv, huv⟩ := u
    have e1 : (Term.static C n d).eval a V none [] V = some uv := by
      simp [Term.eval, State.fieldNamed?, hi2, hst, ha2, hV, hs]
      exact hu
    simp only [Cond.before, Cond.holds, Cond.value, e1]
    cases uv with
    | null => rfl
    | ref x => rfl
    | _ => simp [Value.isRef] at huv
/-- at the law's start -/
theorem zx_Zof {args : Array Value} {s : State} {A : Nat → Prop} (h : ∀ w ∈ zx_S4, w.before args s = true) (hA : ∀ a : Nat, a < s.heap.size → ¬ A a) : xZ A s s.heap := by
  obtain ⟨cT, k, aS, cS, h1, h2, h3, h4, h5, h6⟩ := zx_st1 (h _ (List.mem_of_getElem? (i := 0) rfl)) (h _ (List.mem_of_getElem? (i := 2) rfl))
  obtain ⟨cT', k', aS', cS', h1', h2', h3', h4', h5', h6'⟩ := zx_st1 (h _ (List.mem_of_getElem? (i := 1) rfl)) (h _ (List.mem_of_getElem? (i := 3) rfl))
  cases h1.symm.trans h1'
  cases h2.symm.trans h2'
  cases h3.symm.trans h3'
  cases h4.symm.trans h4'
  refine ⟨aS, cS, h4, h5, hA aS (Array.getElem?_eq_some_iff.mp h4).1, fun V a hvm hV w hw => ?_⟩
  obtain ⟨a1, a2⟩ := h6 V a hvm hV
  obtain ⟨b1, b2⟩ := h6' V a hvm hV
  simp only [zx_S4, List.mem_cons, List.not_mem_nil, or_false] at hw
  rcases hw with rfl | rfl | rfl | rfl
  · exact a1
  · exact b1
  · exact a2
  · exact b2
/-- the class numbers: the worlds' classes, byte[], long[], the four exceptions -/
abbrev xG : Type := va_G × ClassId × ClassId × ClassId × ClassId × ClassId × ClassId
abbrev gB (G : xG) : ClassId := G.2.1
abbrev gJ (G : xG) : ClassId := G.2.2.1
abbrev gIS (G : xG) : ClassId := G.2.2.2.1
abbrev gIO (G : xG) : ClassId := G.2.2.2.2.1
abbrev gAr (G : xG) : ClassId := G.2.2.2.2.2.1
abbrev gIA (G : xG) : ClassId := G.2.2.2.2.2.2
def xK (G : xG) (U : State) : Prop := va_K G.1 zcl [(gB G, .byte), (gJ G, .long)] U ∧ U.vm.findClass "java/lang/IllegalStateException" = some (gIS G) ∧ U.vm.findClass "java/lang/IndexOutOfBoundsException" = some (gIO G) ∧ U.vm.findClass "java/lang/ArithmeticException" = some (gAr G) ∧ U.vm.findClass "java/lang/IllegalArgumentException" = some (gIA G) ∧
  U.vm.assignable (gIO G) (gIS G) = false ∧ U.vm.assignable (gAr G) (gIS G) = false ∧ U.vm.assignable (gAr G) (gIO G) = false ∧ U.vm.assignable (gIS G) (gIO G) = false
theorem xK.moved {G : xG} {u U : State} (hvm : u.vm.Alike U.vm) (h : xK G u) : xK G U := by
  obtain ⟨h1, h2, h3, h4, h5, h6, h7, h8, h9⟩ := h
  exact ⟨va_K.moved hvm h1, by rw [hvm.findClass]; exact h2, by rw [hvm.findClass]; exact h3, by rw [hvm.findClass]; exact h4, by rw [hvm.findClass]; exact h5, by rw [hvm.assignable]; exact h6, by rw [hvm.assignable]; exact h7, by rw [hvm.assignable]; exact h8, by rw [hvm.assignable]; exact h9⟩
/-- what a walk knows of its own method -/
def xFix (p : Program) (s : State) (m : MethodId) (meth : Method) (c : Code) (cc : ByteArray) (nL : Nat) (own nm : String) (ret : Option FieldType) (hs : List (Nat × Nat × Nat × Nat)) : Prop :=
  p.tables.exec = Jvm.exec ∧ c.code = cc ∧ meth.sig.returnType = ret ∧ c.maxLocals = nL ∧ s.vm.findClass own = some m.cls ∧ meth.locks = false ∧ meth.name = nm ∧ c.exceptionTable.toList.map (fun h => (h.startPc, h.endPc, h.handlerPc, h.catchType)) = hs
/-- an invocation's end: it returned, or it threw; at most mc cells of ms slots are new; no old cell but of A was written -/
def xQ (below : List Frame) (s : State) (A : Nat → Prop) (mc ms : Nat) (Rt : Option Value → Heap → Prop) (Th : Addr → Heap → Prop) : State → Prop := fun t =>
  ∃ o, t.status = .running ∧ Ended t below o ∧ ((∃ v, o = .returned v ∧ Rt v t.heap) ∨ (∃ x, o = .threw x ∧ Th x t.heap)) ∧ ∃ L, s.WarmedH t.vm ∧ s.sameButNew ({ t with vm := s.vm } : State) L mc ms ∧ ∀ q ∈ L, A q.base
/-- A CONTRACT: from every state with the heap H0 the method comes to its end -/
def XM (l : Launch) (G : xG) (R : Room) (y : MethodName) (cc : ByteArray) (nL : Nat) (ret : Option FieldType) (hs : List (Nat × Nat × Nat × Nat)) (H0 : Heap) (A : Nat → Prop) (av : List Value) (mc ms : Nat) (Rt : Option Value → Heap → Prop) (Th : Addr → Heap → Prop) : Prop :=
  ∀ (p : Program) (e : Env) (s : State) (m : MethodId) (below : List Frame) (meth : Method) (c : Code), xFix p s m meth c cc nL y.cls y.name ret hs → xT s → xK G s → s.heap = H0 → xZ A s H0 →
    W p l e R s m av.toArray below meth c H0 [] 0 0 (xQ below s A mc ms Rt Th) (entryFrame m av.toArray nL)
/-- what the tables say of a method, with or without handlers -/
def xY (s : State) (y : MethodName) (cc : ByteArray) (nL : Nat) (ret : Option FieldType) (hs : List (Nat × Nat × Nat × Nat)) : Prop :=
  ∃ mk meth c, s.methodNamed? y = some mk ∧ s.vm.method? mk = some meth ∧ meth.code = some c ∧ c.code = cc ∧ c.maxLocals = nL ∧ meth.sig.returnType = ret ∧ meth.locks = false ∧ c.exceptionTable.toList.map (fun h => (h.startPc, h.endPc, h.handlerPc, h.catchType)) = hs ∧ parseMethodDescriptor y.desc = some meth.sig
theorem xY.of {args : Array Value} {s : State} {y : MethodName} {cc : ByteArray} {nL : Nat} {ret : Option FieldType} (h : (Cond.code y cc nL ret).before args s = true) : xY s y cc nL ret [] := by
  obtain ⟨mk, hn⟩ := Cond.code_named h
  obtain ⟨meth, c, h1, h2, h3, h4, h5, h6, h7, h8⟩ := Cond.code_spec hn h
  have h0 : c.exceptionTable.size = 0 := by simpa [Array.isEmpty] using h7
  have h9 : c.exceptionTable.toList = [] := List.eq_nil_of_length_eq_zero (by simpa using h0)
  exact ⟨mk, meth, c, hn, h1, h2, h3, h4, h5, h6, by rw [h9]; rfl, h8⟩
theorem xY.ofW {args : Array Value} {s : State} {y : MethodName} {cc : ByteArray} {nL : Nat} {ret : Option FieldType} {hs : List (Nat × Nat × Nat × Nat)} (h : (Cond.codeWith y cc nL ret hs).before args s = true) : xY s y cc nL ret hs := by
  obtain ⟨mk, meth, c, hn, h1, h2, h3, h4, h5, h6, h7, h8⟩ := Cond.codeWith_spec h
  exact ⟨mk, meth, c, hn, h1, h2, h3, h4, h6, h7, h5, h8⟩
section XA
variable {p : Program} {l : Launch} {e : Env} {R : Room} {s : State} {m : MethodId} {args : Array Value} {below : List Frame} {meth : Method} {c : Code} {T : State} {H : Heap} {locs : List Loc} {cells slots : Nat} {Q : State → Prop} {G : xG}
/-- x is being thrown over the frame g -/
def WT (p : Program) (l : Launch) (e : Env) (R : Room) (s : State) (m : MethodId) (args : Array Value) (below : List Frame) (meth : Method) (c : Code) (H : Heap) (locs : List Loc) (cells slots : Nat) (Q : State → Prop) (g : JFrame) (x : Addr) : Prop :=
  ∀ T : State, T.heap = H → Stand p l e R s m args below meth c T locs cells slots → ∃ t, Steps p.tables e below ((T.setTop g).pushFrame (.throwing x)) t ∧ Q t
theorem xT.stand (hT : xT s) (X : Stand p l e R s m args below meth c T locs cells slots) : xT T := hT.warm X.warmed
/-- the callee's walk, from the machine's own 'doInvoke' -/
theorem zx_core (X : Stand p l e R s m args below meth c T locs cells slots) (hexec : p.tables.exec = Jvm.exec) {g : JFrame} (hg : g.method = m) (hsize : g.locals.size = c.maxLocals) {ig : Instr} (hdg : decode c.code g.pc = .ok (ig, 3))
    {y : MethodName} {cc : ByteArray} {nL : Nat} {ret : Option FieldType} {hs : List (Nat × Nat × Nat × Nat)} (hpl : plainName y.cls = true) {mk : MethodId} (hn : s.methodNamed? y = some mk) (hY : xY s y cc nL ret hs)
    {R' : Room} {A' : Nat → Prop} {av : List Value} {mc ms : Nat} {Rt : Option Value → Heap → Prop} {Th : Addr → Heap → Prop} (hM : XM l G R' y cc nL ret hs T.heap A' av mc ms Rt Th) (hT : xT s) (hK : xK G s) (hZ : xZ A' s T.heap)
    (hrc : R'.cells = mc) (hrs : R'.slots = ms) (hframes : R'.frames + 1 ≤ R.frames) (hlocals : 2 * g.monitorRoom + (g.stack.map fun v => v.category).sum + (nL + 11) + R'.locals ≤ R.locals) (hcells : cells + mc ≤ R.cells) (hslots : slots + ms ≤ R.slots) :
    (∃ (v : Option Value) (T' : State) (L : List Loc), Stand p l e R s m args below meth c T' (locs ++ L) (cells + mc) (slots + ms) ∧ (∀ q ∈ L, A' q.base) ∧ Rt v T'.heap ∧ T.heap.size ≤ T'.heap.size ∧ (∀ q : Nat, q < T.heap.size → ¬ A' q → T'.heap[q]? = T.heap[q]?) ∧
      ∀ acts, Steps p.tables e below (doInvoke e (T.setTop g) acts mk av.toArray).1 (T'.setTop { g with pc := g.pc + 3, stack := v.toList ++ g.stack })) ∨
    (∃ (x : Addr) (T' : State) (L : List Loc), Stand p l e R s m args below meth c T' (locs ++ L) (cells + mc) (slots + ms) ∧ (∀ q ∈ L, A' q.base) ∧ Th x T'.heap ∧ T.heap.size ≤ T'.heap.size ∧ (∀ q : Nat, q < T.heap.size → ¬ A' q → T'.heap[q]? = T.heap[q]?) ∧
      ∀ acts, Steps p.tables e below (doInvoke e (T.setTop g) acts mk av.toArray).1 ((T'.setTop g).pushFrame (.throwing x))) := by
  obtain ⟨mk', methk, ck, hn', hmk, hck, hcc, hnl, hret, hlk, htab, -⟩ := hY
  cases hn.symm.trans hn'
  have hnT : T.methodNamed? y = some mk := X.named hn
  have hmkT : T.vm.method? mk = some methk := by rw [X.warmed.alike.method?]; exact hmk
  have hpT : T.plainMethod mk := State.plainMethod.of_named (plainFor_of_name hpl) hnT hmkT
  obtain ⟨Y, hdo⟩ := X.into hg hsize hdg av.toArray (R' := R') hmkT hck hlk hpT hframes (by rw [hnl]; exact hlocals) (by rw [hrc]; exact hcells) (by rw [hrs]; exact hslots)
  have hvm : (T.calling g mk av.toArray).vm = T.vm := rfl
  have hheap : (T.calling g mk av.toArray).heap = T.heap := rfl
  have hnC : (T.calling g mk av.toArray).methodNamed? y = some mk := hnT
  have hWs : s.WarmedH (T.calling g mk av.toArray).vm := X.warmed
  have hal : s.vm.Alike (T.calling g mk av.toArray).vm := X.warmed.alike
  have hWk := hM p e (T.calling g mk av.toArray) mk (.java g :: below) methk ck ⟨hexec, hcc, hret, hnl, findClass_of_methodNamed hnC, hlk, (name_of_methodNamed hnC hmkT).1, htab⟩ (hT.warm hWs) (hK.moved hal) hheap (hZ.moved hal)
  rw [← hnl] at hWk
  obtain ⟨t, hst, o, hrun, hend, hout, L, hWm, hsame, hL⟩ := hWk _ (by rfl) Y
  have hsz : T.heap.size ≤ t.heap.size := hsame.2.1
  have hkeep : ∀ q : Nat, q < T.heap.size → ¬ A' q → t.heap[q]? = T.heap[q]? := by
    intro q hq hA
    have hc : (T.calling g mk av.toArray).heap[q]? = some T.heap[q] := Array.getElem?_eq_getElem hq
    have := State.sameButNew.kept_off hsame (a := q) (fun i hi => hA (hL _ hi)) hc
    rw [Array.getElem?_eq_getElem hq]
    exact this
  rcases hout with ⟨v, rfl, hv⟩ | ⟨x, rfl, hx⟩
  · obtain ⟨T', X', -, -, ht⟩ := X.outOf hg hdg hend hWm hsame
    have hh : T'.heap = t.heap := by rw [ht]; rfl
    refine Or.inl ⟨v, T', L, X', hL, by rw [hh]; exact hv, by rw [hh]; exact hsz, fun q h1 h2 => by rw [hh]; exact hkeep q h1 h2, fun acts => ?_⟩
    rw [hdo acts, ← ht]
    exact Steps.weaken (mid := [.java g]) hst
  · obtain ⟨T', X', -, -, ht⟩ := X.outOfThrown hg hend hWm hsame
    have hh : T'.heap = t.heap := by rw [ht]; rfl
    refine Or.inr ⟨x, T', L, X', hL, by rw [hh]; exact hx, by rw [hh]; exact hsz, fun q h1 h2 => by rw [hh]; exact hkeep q h1 h2, fun acts => ?_⟩
    rw [hdo acts, ← ht]
    exact Steps.weaken (mid := [.java g]) hst
end XA
end
section
/-! rows: calls (static, virtual, constructors, a nest mate's constructor), returns, catch, throw -/
section XB
variable {p : Program} {l : Launch} {e : Env} {R : Room} {s : State} {m : MethodId} {args : Array Value} {below : List Frame} {meth : Method} {c : Code} {T : State} {H : Heap} {locs : List Loc} {cells slots : Nat} {Q : State → Prop} {G : xG}
variable {own nm : String} {cc : ByteArray} {nL : Nat} {ret : Option FieldType} {hs : List (Nat × Nat × Nat × Nat)}
variable {y : MethodName} {cc' : ByteArray} {nL' : Nat} {ret' : Option FieldType} {hs' : List (Nat × Nat × Nat × Nat)} {R' : Room} {A0 A' : Nat → Prop} {H0 : Heap} {av As rest st0 : List Value} {mc ms index pc : Nat} {ls : Array Slot} {Rt : Option Value → Heap → Prop} {Th : Addr → Heap → Prop} {b : Addr}
/-- the room that a call wants -/
def xRm (R R' : Room) (nL' cells slots mc ms w : Nat) : Prop := R'.cells = mc ∧ R'.slots = ms ∧ R'.frames + 1 ≤ R.frames ∧ w + (nL' + 11) + R'.locals ≤ R.locals ∧ cells + mc ≤ R.cells ∧ slots + ms ≤ R.slots
/-- a call's two ways on -/
def xKR (p : Program) (l : Launch) (e : Env) (R : Room) (s : State) (m : MethodId) (args : Array Value) (below : List Frame) (meth : Method) (c : Code) (H : Heap) (cells slots : Nat) (Q : State → Prop) (A0 A' : Nat → Prop) (H0 : Heap) (pc : Nat) (ls : Array Slot) (rest : List Value) (Rt : Option Value → Heap → Prop) : Prop :=
  ∀ (v : Option Value) (H1 : Heap) (locs1 : List Loc), Rt v H1 → H.size ≤ H1.size → (∀ q : Nat, q < H.size → ¬ A' q → H1[q]? = H[q]?) → va_S A0 H0 H1 locs1 → W p l e R s m args below meth c H1 locs1 cells slots Q (F0 m (pc + 3) ls (v.toList ++ rest))
def xKT (p : Program) (l : Launch) (e : Env) (R : Room) (s : State) (m : MethodId) (args : Array Value) (below : List Frame) (meth : Method) (c : Code) (H : Heap) (cells slots : Nat) (Q : State → Prop) (A0 A' : Nat → Prop) (H0 : Heap) (pc : Nat) (ls : Array Slot) (rest : List Value) (Th : Addr → Heap → Prop) : Prop :=
  ∀ (x : Addr) (H1 : Heap) (locs1 : List Loc), Th x H1 → H.size ≤ H1.size → (∀ q : Nat, q < H.size → ¬ A' q → H1[q]? = H[q]?) → va_S A0 H0 H1 locs1 → WT p l e R s m args below meth c H1 locs1 cells slots Q (F0 m pc ls rest) x
theorem zx_S {A0 A' : Nat → Prop} {H0 H H1 : Heap} {locs L : List Loc} (hS : va_S A0 H0 H locs) (hA : ∀ q, A' q → A0 q) (hL : ∀ q ∈ L, A' q.base) (hz : H.size ≤ H1.size) (hk : ∀ q : Nat, q < H.size → ¬ A' q → H1[q]? = H[q]?) : va_S A0 H0 H1 (locs ++ L) := by
  refine ⟨Nat.le_trans hS.1 hz, fun q h1 h2 => ?_, fun q hq => ?_⟩
  · rw [hk q (Nat.lt_of_lt_of_le h1 hS.1) (fun z => h2 (hA q z))]
    exact hS.2.1 q h1 h2
  · rcases List.mem_append.mp hq with h | h
    · exact hS.2.2 q h
    · exact hA _ (hL q h)
/-- whatever brings the machine to the callee's invocation -/
theorem zx_call (F : xFix p s m meth c cc nL own nm ret hs) (hT : xT s) (hK : xK G s) (hpl : plainName y.cls = true) (hY : xY s y cc' nL' ret' hs') (hM : XM l G R' y cc' nL' ret' hs' H A' av mc ms Rt Th) (hZ : xZ A' s H) (hA : ∀ q, A' q → A0 q) (hS : va_S A0 H0 H locs)
    (hl : ls.size = nL) {ig : Instr} (hdg : decode cc pc = .ok (ig, 3)) (hrm : xRm R R' nL' cells slots mc ms ((rest.map fun v => v.category).sum))
    (step : ∀ T : State, T.heap = H → Stand p l e R s m args below meth c T locs cells slots → ∃ (vm₁ : Vm) (mk : MethodId), s.methodNamed? y = some mk ∧ Stand p l e R s m args below meth c (T.setVm vm₁) locs cells slots ∧ ∀ target, (∀ acts, Steps p.tables e below (doInvoke e ((T.setVm vm₁).setTop (F0 m pc ls rest)) acts mk av.toArray).1 target) → Steps p.tables e below (T.setTop (F0 m pc ls st0)) target)
    (kR : xKR p l e R s m args below meth c H (cells + mc) (slots + ms) Q A0 A' H0 pc ls rest Rt) (kT : xKT p l e R s m args below meth c H (cells + mc) (slots + ms) Q A0 A' H0 pc ls rest Th) : W p l e R s m args below meth c H locs cells slots Q (F0 m pc ls st0) := by
  intro T hTH X
  obtain ⟨vm₁, mk, hn, X₁, st⟩ := step T hTH X
  obtain ⟨hx, hb, hr, hml, hown, hlk, hnm, htab⟩ := F
  obtain ⟨r1, r2, r3, r4, r5, r6⟩ := hrm
  have hH1 : (T.setVm vm₁).heap = H := hTH
  rcases zx_core X₁ hx (g := F0 m pc ls rest) rfl (by rw [hml]; exact hl) (by rw [hb]; exact hdg) hpl hn hY (by rw [hH1]; exact hM) hT hK (by rw [hH1]; exact hZ) r1 r2 r3 (by show 2 * 0 + (rest.map fun v => v.category).sum + _ + _ ≤ _; omega) r5 r6 with ⟨v, T', L, X', hL, hv, hz, hk, hgo⟩ | ⟨v, T', L, X', hL, hv, hz, hk, hgo⟩
  · rw [hH1] at hz hk
    obtain ⟨t, a1, b1⟩ := kR v T'.heap (locs ++ L) hv hz hk (zx_S hS hA hL hz hk) T' rfl X'
    exact ⟨t, st t (fun acts => (hgo acts).trans a1), b1⟩
  · rw [hH1] at hz hk
    obtain ⟨t, a1, b1⟩ := kT v T'.heap (locs ++ L) hv hz hk (zx_S hS hA hL hz hk) T' rfl X'
    exact ⟨t, st t (fun acts => (hgo acts).trans a1), b1⟩
theorem zx_callS (F : xFix p s m meth c cc nL own nm ret hs) (hT : xT s) (hK : xK G s) (hpl : plainName y.cls = true ∧ y.cls ≠ "java/lang/invoke/MethodHandle" ∧ y.cls ≠ "java/lang/invoke/VarHandle" ∧ (parseMethodDescriptor y.desc).map (fun d => d.parameters.length) = some av.length) (hY : xY s y cc' nL' ret' hs') (hM : XM l G R' y cc' nL' ret' hs' H A' av mc ms Rt Th) (hZ : xZ A' s H) (hA : ∀ q, A' q → A0 q) (hS : va_S A0 H0 H locs)
    (hlink : (Cond.methodLink own index y).before args s = true) (hstat : (Cond.static y).before args s = true) (hini : (Cond.initialized y.cls).before args s = true)
    (hl : ls.size = nL) (hdg : decode cc pc = .ok (.invokestatic index, 3)) (hst : st0 = av.reverse ++ rest) (hrm : xRm R R' nL' cells slots mc ms ((rest.map fun v => v.category).sum))
    (kR : xKR p l e R s m args below meth c H (cells + mc) (slots + ms) Q A0 A' H0 pc ls rest Rt) (kT : xKT p l e R s m args below meth c H (cells + mc) (slots + ms) Q A0 A' H0 pc ls rest Th) : W p l e R s m args below meth c H locs cells slots Q (F0 m pc ls st0) := by
  refine zx_call F hT hK hpl.1 hY hM hZ hA hS hl hdg hrm (fun T hTH X => ?_) kR kT
  obtain ⟨hx, hb, hr, hml, hown, hlk, hnm, htab⟩ := F
  obtain ⟨mk, methM, cM, hn, hmM, -, -, -, -, -, -, hsig⟩ := hY
  obtain ⟨kP, hkP, -⟩ := className_of_methodNamed hn
  have hinitP : kP.init = .initialized := Cond.initialized_spec (findClass_of_methodNamed hn) hkP hini
  have hlen : av.length = methM.sig.parameters.length := by
    have := hpl.2.2.2
    rw [hsig] at this
    simpa using this.symm
  obtain ⟨vm₁, X₁, st⟩ := X.invokestatic hx hown hlink hn hmM (Cond.static_spec hn hmM hstat) hkP hinitP ⟨hpl.2.1, hpl.2.2.1⟩ (g := F0 m pc ls st0) rfl (argsL := av) (rest := rest) hlen hst (by rw [hb]; exact hdg)
  exact ⟨vm₁, mk, hn, X₁, st⟩
theorem zx_callV (F : xFix p s m meth c cc nL own nm ret hs) (hT : xT s) (hK : xK G s) (hpl : plainName y.cls = true ∧ y.cls ≠ "java/lang/invoke/MethodHandle" ∧ y.cls ≠ "java/lang/invoke/VarHandle" ∧ (parseMethodDescriptor y.desc).map (fun d => d.parameters.length) = some As.length) (hY : xY s y cc' nL' ret' hs') (hM : XM l G R' y cc' nL' ret' hs' H A' (.ref b :: As) mc ms Rt Th) (hZ : xZ A' s H) (hA : ∀ q, A' q → A0 q) (hS : va_S A0 H0 H locs)
    (hlink : (Cond.methodLink own index y).before args s = true) (hinst : (Cond.instanceMethod y).before args s = true) (hsel : (Cond.selects y.cls y y).before args s = true) (hrecv : ∃ cell : Cell, H[b]? = some cell ∧ cell.vm.isStatics = false ∧ s.vm.findClass y.cls = some cell.cls)
    (hl : ls.size = nL) (hdg : decode cc pc = .ok (.invokevirtual index, 3)) (hst : st0 = As.reverse ++ .ref b :: rest) (hrm : xRm R R' nL' cells slots mc ms ((rest.map fun v => v.category).sum))
    (kR : xKR p l e R s m args below meth c H (cells + mc) (slots + ms) Q A0 A' H0 pc ls rest Rt) (kT : xKT p l e R s m args below meth c H (cells + mc) (slots + ms) Q A0 A' H0 pc ls rest Th) : W p l e R s m args below meth c H locs cells slots Q (F0 m pc ls st0) := by
  refine zx_call F hT hK hpl.1 hY hM hZ hA hS hl hdg hrm (fun T hTH X => ?_) kR kT
  obtain ⟨hx, hb, hr, hml, hown, hlk, hnm, htab⟩ := F
  obtain ⟨mk, methM, cM, hn, hmM, -, -, -, -, -, -, hsig⟩ := hY
  obtain ⟨mk2, meth2, hn2, hm2, hstM, habM⟩ := Cond.instanceMethod_spec hinst
  cases hn.symm.trans hn2
  cases hmM.symm.trans hm2
  obtain ⟨cell, hc, ho, hcl⟩ := hrecv
  obtain ⟨c2, r2, m2, q1, q2, q3, q4, kP, hkP, hkPi⟩ := Cond.selects_spec hsel
  cases hcl.symm.trans q1
  cases (State.methodFound?_of_named hn ⟨hpl.2.1, hpl.2.2.1⟩).symm.trans q2
  cases hn.symm.trans q3
  have hselP : selectMethod e.platform s.vm cell.cls mk = .method mk := by rw [Launch.admits_selectMethod X.admits]; exact q4
  have hlen : As.length = methM.sig.parameters.length := by
    have := hpl.2.2.2
    rw [hsig] at this
    simpa using this.symm
  obtain ⟨vm₁, X₁, st⟩ := X.invokevirtual hx hown hlink hn hmM hstM hkP hkPi ⟨hpl.2.1, hpl.2.2.1⟩ (a := b) (cell := cell) (by rw [hTH]; exact hc)
    (fun z h => by rw [h] at ho; cases ho) hselP hmM habM hkP hkPi (g := F0 m pc ls st0) rfl (argsL := As) (rest := rest) hlen hst (by rw [hb]; exact hdg)
  exact ⟨vm₁, mk, hn, X₁, st⟩
theorem zx_callI (F : xFix p s m meth c cc nL own nm ret hs) (hT : xT s) (hK : xK G s) (hpl : plainName y.cls = true ∧ y.cls ≠ "java/lang/invoke/MethodHandle" ∧ y.cls ≠ "java/lang/invoke/VarHandle" ∧ (parseMethodDescriptor y.desc).map (fun d => d.parameters.length) = some As.length) (hy1 : y.name = "<init>") (hcode : (Cond.code y cc' nL' none).before args s = true) (hM : XM l G R' y cc' nL' none [] H A' (.ref b :: As) mc ms Rt Th) (hZ : xZ A' s H) (hA : ∀ q, A' q → A0 q) (hS : va_S A0 H0 H locs)
    (hlink : (Cond.methodLink own index y).before args s = true) (hinst : (Cond.instanceMethod y).before args s = true)
    (hl : ls.size = nL) (hdg : decode cc pc = .ok (.invokespecial index, 3)) (hst : st0 = As.reverse ++ .ref b :: rest) (hrm : xRm R R' nL' cells slots mc ms ((rest.map fun v => v.category).sum))
    (kR : xKR p l e R s m args below meth c H (cells + mc) (slots + ms) Q A0 A' H0 pc ls rest Rt) (kT : xKT p l e R s m args below meth c H (cells + mc) (slots + ms) Q A0 A' H0 pc ls rest Th) : W p l e R s m args below meth c H locs cells slots Q (F0 m pc ls st0) := by
  refine zx_call F hT hK hpl.1 (xY.of hcode) hM hZ hA hS hl hdg hrm (fun T hTH X => ?_) kR kT
  obtain ⟨hx, hb, hr, hml, hown, hlk, hnm, htab⟩ := F
  have hplt : e.platform.magicAccessors = ({} : Platform).magicAccessors := by rw [X.admits.platform]
  obtain ⟨mk, methM, cM, kP, vm₁, hn, hmM, hcM, -, hlM, -, hkP, -, hW₁, st⟩ := Steps.initColdArgs (e := e) X.here hx X.warmed hplt hown hy1 ⟨hpl.2.1, hpl.2.2.1⟩ hlink hinst hcode (f := F0 m pc ls st0) rfl (argsL := As) (rest := rest) (fun sig h => by have := hpl.2.2.2; rw [h] at this; simpa using this.symm) hst (by rw [hb]; exact hdg)
  exact ⟨vm₁, mk, hn, X.noted hW₁, st⟩
theorem zx_callIN {host : String} (F : xFix p s m meth c cc nL own nm ret hs) (hT : xT s) (hK : xK G s) (hpl : plainName y.cls = true ∧ y.cls ≠ "java/lang/invoke/MethodHandle" ∧ y.cls ≠ "java/lang/invoke/VarHandle" ∧ (parseMethodDescriptor y.desc).map (fun d => d.parameters.length) = some As.length) (hy1 : y.name = "<init>") (hcode : (Cond.code y cc' nL' none).before args s = true) (hM : XM l G R' y cc' nL' none [] H A' (.ref b :: As) mc ms Rt Th) (hZ : xZ A' s H) (hA : ∀ q, A' q → A0 q) (hS : va_S A0 H0 H locs)
    (hlink : (Cond.methodLinkNest own index y host).before args s = true) (hinst : (Cond.instanceMethod y).before args s = true)
    (hl : ls.size = nL) (hdg : decode cc pc = .ok (.invokespecial index, 3)) (hst : st0 = As.reverse ++ .ref b :: rest) (hrm : xRm R R' nL' cells slots mc ms ((rest.map fun v => v.category).sum))
    (kR : xKR p l e R s m args below meth c H (cells + mc) (slots + ms) Q A0 A' H0 pc ls rest Rt) (kT : xKT p l e R s m args below meth c H (cells + mc) (slots + ms) Q A0 A' H0 pc ls rest Th) : W p l e R s m args below meth c H locs cells slots Q (F0 m pc ls st0) := by
  refine zx_call F hT hK hpl.1 (xY.of hcode) hM hZ hA hS hl hdg hrm (fun T hTH X => ?_) kR kT
  obtain ⟨hx, hb, hr, hml, hown, hlk, hnm, htab⟩ := F
  have hplt : e.platform.magicAccessors = ({} : Platform).magicAccessors := by rw [X.admits.platform]
  obtain ⟨mk, methM, cM, kP, vm₁, hn, hmM, hcM, -, hlM, -, hkP, -, hW₁, st⟩ := Steps.initColdArgsNest (e := e) X.here hx X.warmed hplt hown hy1 ⟨hpl.2.1, hpl.2.2.1⟩ hlink hinst hcode (f := F0 m pc ls st0) rfl (argsL := As) (rest := rest) (fun sig h => by have := hpl.2.2.2; rw [h] at this; simpa using this.symm) hst (by rw [hb]; exact hdg)
  exact ⟨vm₁, mk, hn, X.noted hW₁, st⟩
/-! returns -/
variable {A : Nat → Prop}
theorem zx_vret (F : xFix p s m meth c cc nL own nm none hs) (hA : ∀ q ∈ locs, A q.base) (hdg : decode cc pc = .ok (.return_, 1)) (hq : Rt none H) : W p l e R s m args below meth c H locs cells slots (xQ below s A cells slots Rt Th) (F0 m pc ls []) := by
  obtain ⟨hx, hb, hr, hml, hown, hlk, hnm, htab⟩ := F
  intro T hT X
  obtain ⟨fs, hret, hrun, hended, hW, hframe⟩ := X.leave (v := none) (fun _ => rfl) hlk
  have hmeth' : T.vm.method? m = some meth := X.method'
  refine ⟨T.setFrames fs, ?_, .returned none, hrun, hended, Or.inl ⟨none, rfl, ?_⟩, locs, hW, hframe, hA⟩
  · jvm_step X.here [X.here.top, hx, hb, hdg, hmeth', hr]
    first | (intro acts; rw [hret _ acts rfl rfl rfl]) | rw [hret _ _ rfl rfl rfl]
    exact Steps.refl _
  · show Rt none T.heap
    rw [hT]; exact hq
theorem zx_iret {v : Int32} {ty : FieldType} (F : xFix p s m meth c cc nL own nm (some ty) hs) (hn : narrow ty (.int v) = .int v) (hA : ∀ q ∈ locs, A q.base) (hdg : decode cc pc = .ok (.ireturn, 1)) (hq : Rt (some (.int v)) H) : W p l e R s m args below meth c H locs cells slots (xQ below s A cells slots Rt Th) (F0 m pc ls [.int v]) := by
  obtain ⟨hx, hb, hr, hml, hown, hlk, hnm, htab⟩ := F
  intro T hT X
  obtain ⟨fs, hret, hrun, hended, hW, hframe⟩ := X.leave (v := some (.int v)) (fun h => by rw [hr] at h; cases h) hlk
  have hmeth' : T.vm.method? m = some meth := X.method'
  refine ⟨T.setFrames fs, ?_, .returned (some (.int v)), hrun, hended, Or.inl ⟨_, rfl, ?_⟩, locs, hW, hframe, hA⟩
  · jvm_step X.here [X.here.top, hx, hb, hdg, hmeth', hr, hn]
    (try refine ⟨rfl, ?_⟩); (try refine ⟨rfl, ?_⟩)
    first | (intro acts; rw [hret _ acts rfl rfl rfl]) | rw [hret _ _ rfl rfl rfl]
    exact Steps.refl _
  · show Rt _ T.heap
    rw [hT]; exact hq
theorem zx_lret {v : Int64} (F : xFix p s m meth c cc nL own nm (some .long) hs) (hA : ∀ q ∈ locs, A q.base) (hdg : decode cc pc = .ok (.lreturn, 1)) (hq : Rt (some (.long v)) H) : W p l e R s m args below meth c H locs cells slots (xQ below s A cells slots Rt Th) (F0 m pc ls [.long v]) := by
  obtain ⟨hx, hb, hr, hml, hown, hlk, hnm, htab⟩ := F
  intro T hT X
  obtain ⟨fs, hret, hrun, hended, hW, hframe⟩ := X.leave (v := some (.long v)) (fun h => by rw [hr] at h; cases h) hlk
  have hmeth' : T.vm.method? m = some meth := X.method'
  refine ⟨T.setFrames fs, ?_, .returned (some (.long v)), hrun, hended, Or.inl ⟨_, rfl, ?_⟩, locs, hW, hframe, hA⟩
  · jvm_step X.here [X.here.top, hx, hb, hdg, hmeth', hr]
    (try refine ⟨rfl, ?_⟩); (try refine ⟨rfl, ?_⟩)
    first | (intro acts; rw [hret _ acts rfl rfl rfl]) | rw [hret _ _ rfl rfl rfl]
    exact Steps.refl _
  · show Rt _ T.heap
    rw [hT]; exact hq
/-- the end of a contract may count fewer cells than its bound -/
theorem zx_wide {mc' ms' : Nat} {g : JFrame} (h1 : mc ≤ mc') (h2 : ms ≤ ms') (k : W p l e R s m args below meth c H locs cells slots (xQ below s A mc ms Rt Th) g) : W p l e R s m args below meth c H locs cells slots (xQ below s A mc' ms' Rt Th) g := by
  intro T hT X
  obtain ⟨t, a, o, b1, b2, b3, L, b4, b5, b6⟩ := k T hT X
  exact ⟨t, a, o, b1, b2, b3, L, b4, b5.mono h1 h2, b6⟩
/-- thrown out of the method -/
theorem zx_out {x : Addr} (F : xFix p s m meth c cc nL own nm ret hs) (hA : ∀ q ∈ locs, A q.base) (hout : hs.all (fun q => !(decide (q.1 ≤ pc) && decide (pc < q.2.1))) = true) (hq : Th x H) : WT p l e R s m args below meth c H locs cells slots (xQ below s A cells slots Rt Th) (F0 m pc ls rest) x := by
  obtain ⟨hx, hb, hr, hml, hown, hlk, hnm, htab⟩ := F
  intro T hT X
  have hcov : ∀ z ∈ c.exceptionTable.toList, covers z (F0 m pc ls rest).pc = false := by
    intro z hz
    have h1 : (z.startPc, z.endPc, z.handlerPc, z.catchType) ∈ hs := by rw [← htab]; exact List.mem_map.mpr ⟨z, hz, rfl⟩
    have h2 := List.all_eq_true.mp hout _ h1
    simp at h2
    simp [covers]
    omega
  obtain ⟨h1, h2, h3, h4, h5⟩ := X.leaveThrown x (g := F0 m pc ls rest) rfl rfl rfl hcov hlk
  exact ⟨_, h1, .threw x, h2, h3, Or.inr ⟨x, rfl, by show Th x T.heap; rw [hT]; exact hq⟩, locs, h4, h5, hA⟩
/-- what the search for a handler finds, from the entries 'tb' on, the tables growing warmer meanwhile -/
def xGo (p : Program) (l : Launch) (e : Env) (R : Room) (s : State) (m : MethodId) (args : Array Value) (below : List Frame) (meth : Method) (c : Code) (T : State) (locs : List Loc) (cells slots : Nat) (g : JFrame) (x : Addr) (tb : List ExceptionTableEntry) (pcH : Nat) : Prop :=
  ∃ vm' : Vm, Stand p l e R s m args below meth c (T.setVm vm') locs cells slots ∧ ∀ (Q : Handler → Pre) (E : CtlPost) (d : Bool) (acts : List Action), wp (findHandler.go g x tb) Q E e d acts ((T.setTop g).pushFrame (.throwing x)) ↔ Q (.found pcH) d acts (((T.setVm vm').setTop g).pushFrame (.throwing x))
theorem zx_ent (X : Stand p l e R s m args below meth c T locs cells slots) {x : Addr} {z : ExceptionTableEntry} {tb : List ExceptionTableEntry} {g : JFrame} (hg : g.method = m) {C : String} {cX cH : ClassId} (hown : s.vm.findClass own = some m.cls) (hcov : covers z g.pc = true) (h0 : z.catchType ≠ 0) (hlink : (Cond.classLink own z.catchType C).before args s = true) (hC : s.vm.findClass C = some cH)
    (hcell : ∃ cell : Cell, T.heap[x]? = some cell ∧ cell.vm = .none ∧ cell.cls = cX) (hcX : ∃ k, s.vm.classes[cX]? = some k) :
    ∃ vm' : Vm, Stand p l e R s m args below meth c (T.setVm vm') locs cells slots ∧ ∀ (Q : Handler → Pre) (E : CtlPost) (d : Bool) (acts : List Action), wp (findHandler.go g x (z :: tb)) Q E e d acts ((T.setTop g).pushFrame (.throwing x)) ↔
      if s.vm.assignable cX cH = true then Q (.found z.handlerPc) d acts (((T.setVm vm').setTop g).pushFrame (.throwing x)) else wp (findHandler.go g x tb) Q E e d acts (((T.setVm vm').setTop g).pushFrame (.throwing x)) := by
  subst hg
  have hplt : e.platform.magicAccessors = ({} : Platform).magicAccessors := by rw [X.admits.platform]
  obtain ⟨c', hc', hcl⟩ := Cond.classLink_spec hown hlink e.platform hplt
  cases hC.symm.trans hc'
  obtain ⟨dk, _, _, kt, hd, _, _, _, _, hkt, _, hopen⟩ := hcl.here
  have hcl₀ := X.warmed.classLinks hcl
  have hW' : s.WarmedH (T.vm.noted g.method.cls z.catchType (.cls cH)) := X.warmed.noted hd hopen (State.rightAt_cls hcl)
  refine ⟨T.vm.noted g.method.cls z.catchType (.cls cH), X.noted hW', fun Q E d acts => ?_⟩
  obtain ⟨cell, hce, hv, hcls⟩ := hcell
  obtain ⟨kx, hkx⟩ := hcX
  obtain ⟨ks', hks', -⟩ := hW'.alike.2.2 _ _ hkx
  obtain ⟨kt', hkt', -⟩ := hW'.alike.2.2 _ _ hkt
  obtain ⟨ha, ht⟩ := (resolveClass_links e.toSetting hcl₀).op (op := VmOp.resolveClass g.method.cls z.catchType) rfl
  have hsz : (T.vm.noted g.method.cls z.catchType (.cls cH)).classes.size ≤ T.vm.classes.size := by simp
  have e1 : ((T.setTop g).pushFrame (.throwing x)).vm = T.vm := Stand.throwing_vm T g x
  have e2 : ((T.setTop g).pushFrame (.throwing x)).heap = T.heap := Stand.throwing_heap T g x
  have e3 : ((T.setTop g).pushFrame (.throwing x)).setVm (T.vm.noted g.method.cls z.catchType (.cls cH)) = (((T.setVm (T.vm.noted g.method.cls z.catchType (.cls cH))).setTop g).pushFrame (.throwing x)) := rfl
  have hasg : (T.vm.noted g.method.cls z.catchType (.cls cH)).assignable cX cH = s.vm.assignable cX cH := by rw [hW'.alike.assignable]
  simp only [covers] at hcov
  subst hcls
  have hobj : ∀ k, cell.vm ≠ .statics k := fun k h => by rw [hv] at h; cases h
  rw [← e3]
  cases hfit : s.vm.assignable cell.cls cH <;> rw [hfit] at hasg <;>
    simp [findHandler.go, hcov, h0, e1, e2, ha, ht, hsz, hce, hobj, hks', hkt', hasg, VmOp.dirties, VmOp.acts]
theorem zx_hit (X : Stand p l e R s m args below meth c T locs cells slots) {x : Addr} {z : ExceptionTableEntry} {tb : List ExceptionTableEntry} {g : JFrame} (hg : g.method = m) {C : String} {cX cH : ClassId} (hown : s.vm.findClass own = some m.cls) (hcov : covers z g.pc = true) (h0 : z.catchType ≠ 0) (hlink : (Cond.classLink own z.catchType C).before args s = true) (hC : s.vm.findClass C = some cH)
    (hcell : ∃ cell : Cell, T.heap[x]? = some cell ∧ cell.vm = .none ∧ cell.cls = cX) (hcX : ∃ k, s.vm.classes[cX]? = some k) (hasg : s.vm.assignable cX cH = true) : xGo p l e R s m args below meth c T locs cells slots g x (z :: tb) z.handlerPc := by
  obtain ⟨vm', X', h⟩ := zx_ent X (tb := tb) hg hown hcov h0 hlink hC hcell hcX
  exact ⟨vm', X', fun Q E d acts => by rw [h Q E d acts, if_pos hasg]⟩
theorem zx_pass (X : Stand p l e R s m args below meth c T locs cells slots) {x : Addr} {z : ExceptionTableEntry} {tb : List ExceptionTableEntry} {g : JFrame} (hg : g.method = m) {C : String} {cX cH : ClassId} {pcH : Nat} (hown : s.vm.findClass own = some m.cls) (hcov : covers z g.pc = true) (h0 : z.catchType ≠ 0) (hlink : (Cond.classLink own z.catchType C).before args s = true) (hC : s.vm.findClass C = some cH)
    (hcell : ∃ cell : Cell, T.heap[x]? = some cell ∧ cell.vm = .none ∧ cell.cls = cX) (hcX : ∃ k, s.vm.classes[cX]? = some k) (hasg : s.vm.assignable cX cH = false)
    (k : ∀ T' : State, T'.heap = T.heap → Stand p l e R s m args below meth c T' locs cells slots → xGo p l e R s m args below meth c T' locs cells slots g x tb pcH) : xGo p l e R s m args below meth c T locs cells slots g x (z :: tb) pcH := by
  obtain ⟨vm', X', h⟩ := zx_ent X (tb := tb) hg hown hcov h0 hlink hC hcell hcX
  obtain ⟨vm2, X2, h2⟩ := k (T.setVm vm') rfl X'
  exact ⟨vm2, X2, fun Q E d acts => by rw [h Q E d acts, if_neg (by rw [hasg]; decide)]; exact h2 Q E d acts⟩
/-- into the handler -/
theorem zx_catch {x : Addr} {pcH : Nat} (hgo : ∀ T : State, T.heap = H → Stand p l e R s m args below meth c T locs cells slots → xGo p l e R s m args below meth c T locs cells slots (F0 m pc ls rest) x c.exceptionTable.toList pcH)
    (k : W p l e R s m args below meth c H locs cells slots Q (F0 m pcH ls [.ref x])) : WT p l e R s m args below meth c H locs cells slots Q (F0 m pc ls rest) x := by
  intro T hT X
  obtain ⟨vm', X', h⟩ := hgo T hT X
  obtain ⟨t, a1, b1⟩ := k (T.setVm vm') hT X'
  refine ⟨t, ?_, b1⟩
  have hh : At T m c below := X.here
  obtain ⟨g1, g2⟩ := At.throwing (g := F0 m pc ls rest) hh x
  refine Steps.head g1 g2 ?_
  rw [stepThread_throwing (frames_entered hh.top _)]
  have hm' : ((T.setTop (F0 m pc ls rest)).pushFrame (.throwing x)).vm.method? (F0 m pc ls rest).method = some meth := by rw [Stand.throwing_vm]; exact X.method'
  have hfind : ∀ (Q : Handler → Pre) (E : CtlPost) (d : Bool) (acts : List Action), wp (findHandler (F0 m pc ls rest) x) Q E e d acts ((T.setTop (F0 m pc ls rest)).pushFrame (.throwing x)) ↔ Q (.found pcH) d acts (((T.setVm vm').setTop (F0 m pc ls rest)).pushFrame (.throwing x)) := fun Q E d acts => by
    rw [Jvm.W.findHandler_eq hm' X.code]; exact h Q E d acts
  have hstep : (stepThrowing e ((T.setTop (F0 m pc ls rest)).pushFrame (.throwing x)) x (.java (F0 m pc ls rest) :: T.frames.tail)).1 = ((((T.setVm vm').setTop (F0 m pc ls rest)).pushFrame (.throwing x)).setFrames (.java { F0 m pc ls rest with pc := pcH, stack := [.ref x] } :: T.frames.tail)) := by
    simp only [stepThrowing, searchFrame, vmDo]
    generalize hr : Sem.go _ e false [] _ = res
    obtain ⟨as, rfl, ha⟩ := Sem.eq_ok_of hr (a := Handler.found pcH) (s' := (((T.setVm vm').setTop (F0 m pc ls rest)).pushFrame (.throwing x))) (acts' := []) (by simp [hfind])
    rfl
  rw [hstep]
  obtain ⟨g₀, hg⟩ := Option.isSome_iff_exists.mp hh.top
  obtain ⟨r, hr⟩ := State.topJava?_eq_some.mp hg
  have hr' : (T.setVm vm').frames = .java g₀ :: r := hr
  rw [State.pushFrame, State.setFrames_setFrames, State.setTop_of_frames _ hr', State.setFrames_setFrames]
  rw [State.setTop_of_frames _ hr'] at a1
  rw [hr]
  exact a1
end XB
end
section
/-! 'throw new X()', X of the JDK, its constructor without arguments: the walk is set on a new base, then the library's own row for it -/
section XC
variable {p : Program} {l : Launch} {e : Env} {R : Room} {s : State} {m : MethodId} {args : Array Value} {below : List Frame} {meth : Method} {c : Code} {T : State} {H : Heap} {locs : List Loc} {cells slots : Nat} {Q : State → Prop} {G : xG}
variable {own nm : String} {cc : ByteArray} {nL : Nat} {ret : Option FieldType} {hs : List (Nat × Nat × Nat × Nat)}
variable {A : Nat → Prop} {rest : List Value} {pc : Nat} {ls : Array Slot} {Rt : Option Value → Heap → Prop} {Th : Addr → Heap → Prop}
theorem zx_rebase {g : JFrame} {R1 : Room} (hRf : R1.frames = R.frames) (hRl : R1.locals = R.locals) (hRc : cells + R1.cells ≤ R.cells) (hRs : slots + R1.slots ≤ R.slots)
    (k : ∀ s' : State, s'.heap = H → s.WarmedH s'.vm → (∀ (t : State) (L : List Loc) (kc kn : Nat), s'.WarmedH t.vm → s'.sameButNew ({ t with vm := s'.vm } : State) L kc kn → s.WarmedH t.vm ∧ s.sameButNew ({ t with vm := s.vm } : State) (locs ++ L) (cells + kc) (slots + kn)) → W p l e R1 s' m args below meth c H [] 0 0 Q g) : W p l e R s m args below meth c H locs cells slots Q g := by
  intro T hT X
  obtain ⟨g₀, hfr⟩ := X.frames_eq
  have hcur : T.cur < T.threads.size := State.cur_lt_of_frames hfr
  have hF : (T.setFrames (.invoking m args :: below)).frames = .invoking m args :: below := State.frames_setFrames _ hcur
  obtain ⟨th, hth, -⟩ := State.frames_cons hfr
  obtain ⟨th2, hth2, -⟩ := State.frames_cons hF
  have hcur2 : (T.setFrames (.invoking m args :: below)).cur < (T.setFrames (.invoking m args :: below)).threads.size := State.cur_lt_of_frames hF
  have eT : (T.setFrames (.invoking m args :: below)).setFrames T.frames = T := by rw [State.setFrames_setFrames, State.setFrames_self hth]
  have hmT : T.vm.method? m = some meth := X.method'
  refine k (T.setFrames (.invoking m args :: below)) hT X.warmed ?_ T hT ⟨X.admits, X.cas, X.clock, hF, ?_, ?_, hmT, X.code, X.here, X.tail, State.WarmedH.refl _, ?_, ?_, ?_⟩
  · intro t L kc kn hW hS
    have hW2 : T.WarmedH t.vm := hW
    refine ⟨State.WarmedH.trans X.warmed hW2, ?_⟩
    have hB : T.sameButNew ({ t with vm := T.vm } : State) L kc kn := by
      obtain ⟨q1, q2, q3, q4, q5, q6⟩ := hS
      refine ⟨?_, q2, q3, q4, q5, q6⟩
      rw [State.setFrames_setFrames] at q1
      exact q1
    exact X.same.trans (hB.setVm s.vm)
  · have h := X.room
    have hl1 := State.localsInUse_invoking X.frames X.method X.code
    have hl2 := State.localsInUse_invoking hF (show (T.setFrames (.invoking m args :: below)).vm.method? m = some meth from hmT) X.code
    simp only [State.hasRoom, Bool.and_eq_true, decide_eq_true_eq] at h ⊢
    rw [hl1, X.frames] at h
    rw [hl2, hF, State.stackLimits_setFrames, State.stackBytes_setFrames, X.limits, X.bytes, hRf, hRl]
    have hz : T.heap.size ≤ s.heap.size + cells := X.heapSize
    have hu : T.slotsUsed ≤ s.slotsUsed + slots := X.used
    have hbk : (T.setFrames (.invoking m args :: below)).slotsTrue = true := X.book
    have e1 : (T.setFrames (.invoking m args :: below)).heap = T.heap := rfl
    have e2 : (T.setFrames (.invoking m args :: below)).slotsUsed = T.slotsUsed := rfl
    rw [e1, e2]
    obtain ⟨⟨⟨⟨h1, h2⟩, h3⟩, h4⟩, h5⟩ := h
    exact ⟨⟨⟨⟨h1, h2⟩, by omega⟩, by omega⟩, hbk⟩
  · have hh := X.hears
    unfold State.hears at hh ⊢
    have hm2 : ∀ z, (T.setFrames (.invoking m args :: below)).vm.method? z = s.vm.method? z := fun z => X.warmed.alike.method? z
    split <;> simp_all [State.code?_eq]
  · rw [State.stackLimits_setFrames]
  · rw [State.stackBytes_setFrames]
  · have h := (State.sameButNew.refl (T.setFrames (.invoking m args :: below)) hth2).setFrames T.frames hcur2
    rw [eT] at h
    exact h
/-- an exception of the class number cX at x -/
def xE (cX : ClassId) (x : Addr) (H : Heap) : Prop := ∃ ce : Cell, H[x]? = some ce ∧ ce.vm = .none ∧ ce.cls = cX
def zx_in (own : String) (ic : Nat) (cls : String) (names : List String) : Bool := (Bundle.ownAtoms0 own ic cls names).all (fun w => decide (w ∈ zx_S4) || (decide (w ∈ lw_tbl) && zx_ok w))
theorem zx_throw {cls : String} {names : List String} {ik ic : Nat} {cX : ClassId} (F : xFix p s m meth c cc nL own nm ret hs) (hfl : l.flags = flags0) (hT : xT s) (hZ : xZ A s s.heap) (hS : va_S A s.heap H locs)
    (hcls : Bundle.fit cls = true) (hnames : ∀ n ∈ names, Bundle.fit n = true) (hin : zx_in own ic cls names = true) (hcl : Cond.classLink own ik cls ∈ lw_tbl) (hini : Cond.initialized cls ∈ lw_tbl) (hins : Cond.instantiable cls 6 ∈ lw_tbl) (hcX : s.vm.findClass cls = some cX)
    (hl : ls.size = nL) (d0 : decode cc pc = .ok (.new ik, 3)) (d3 : decode cc (pc + 3) = .ok (.dup, 1)) (d4 : decode cc (pc + 4) = .ok (.invokespecial ic, 3)) (d7 : decode cc (pc + 7) = .ok (.athrow, 1)) (hout : hs.all (fun q => !(decide (q.1 ≤ pc + 7) && decide (pc + 7 < q.2.1))) = true)
    (hrm : names.length + 3 < R.frames ∧ (rest.map fun v => v.category).sum + (13 * (names.length + 1) + 42) ≤ R.locals ∧ cells + 1 ≤ R.cells ∧ slots + 6 ≤ R.slots)
    (hq : ∀ H1 : Heap, H1.size = H.size + 1 → (∀ q : Nat, q < H.size → H1[q]? = H[q]?) → xE cX H.size H1 → Th H.size H1) :
    W p l e R s m args below meth c H locs cells slots (xQ below s A (cells + 1) (slots + 6) Rt Th) (F0 m pc ls rest) := by
  obtain ⟨hx, hb, hr, hml, hown, hlk, hnm, htab⟩ := F
  obtain ⟨r1, r2, r3, r4⟩ := hrm
  refine zx_rebase (R1 := { frames := R.frames, locals := R.locals, cells := R.cells - cells, slots := R.slots - slots }) rfl rfl (by show cells + (R.cells - cells) ≤ _; omega) (by show slots + (R.slots - slots) ≤ _; omega) (fun s' hs' hW' htr => ?_)
  have hT' := hT.warm hW'
  have hown' : s'.vm.findClass own = some m.cls := by rw [hW'.alike.findClass]; exact hown
  have hcX' : s'.vm.findClass cls = some cX := by rw [hW'.alike.findClass]; exact hcX
  have hZ' : xZ A s' s'.heap := by
    have h1 := hZ.kept (fun a h1 h2 => hS.2.1 a h1 h2)
    rw [hs']
    exact h1.moved hW'.alike
  have hatoms : ∀ a ∈ Bundle.ownAtoms0 own ic cls names, a.before args s' = true := by
    intro a ha
    have h1 := List.all_eq_true.mp hin a ha
    simp only [Bool.or_eq_true, Bool.and_eq_true, decide_eq_true_eq] at h1
    rcases h1 with h1 | ⟨h1, h2⟩
    · exact hZ'.use args a h1
    · exact hT' a h1 h2 args
  refine W.newc (g := F0 m pc ls rest) hx hb hown' (hT'.u hcl) (hT'.u hins) (hT'.u hini) rfl d0 (by show 0 + 1 ≤ R.cells - cells; omega) (by show 0 + 6 ≤ R.slots - slots; omega) (fun cC kC h1 h2 h3 h4 => ?_)
  cases hcX'.symm.trans h1
  refine lv_dup hx hb d3 rfl ?_
  intro T hTH X
  have hcell : T.heap[H.size]? = some (freshCell cX kC) := by
    rw [hTH]
    simp [freshCell]
  have hcov : ∀ z ∈ c.exceptionTable.toList, covers z (pc + 4 + 3) = false := by
    intro z hz
    have h1 : (z.startPc, z.endPc, z.handlerPc, z.catchType) ∈ hs := by rw [← htab]; exact List.mem_map.mpr ⟨z, hz, rfl⟩
    have h2 := List.all_eq_true.mp hout _ h1
    simp at h2
    simp [covers]
    omega
  obtain ⟨U, st, hrun, hend, hWU, hsame, ce, hce, how⟩ := X.ctorThrow0 hx (Launch.traces_off hfl X.admits) (own := own) (cls := cls) (names := names) (ic := ic) hown' hcls hnames hatoms (fun z hz => by cases hz) (a := H.size) hcX' h2 hcell (by rw [hs']; exact Nat.le_refl _)
    (g := F0 m (pc + 3 + 1) ls (.ref H.size :: .ref H.size :: rest)) rfl (by rw [hml]; exact hl) rfl rfl (rest := rest) rfl (by rw [hb]; exact d4) (by rw [hb]; exact d7) hcov r1 (by show 2 * 0 + (1 + (rest.map fun v => v.category).sum) + _ ≤ R.locals; omega) hlk
  obtain ⟨hw, hsm⟩ := htr U [] (0 + 1) (0 + 6) hWU hsame
  have hlt : H.size < U.heap.size := (Array.getElem?_eq_some_iff.mp hce).1
  have hup : U.heap.size ≤ s'.heap.size + (0 + 1) := hsame.2.2.1
  rw [hs'] at hup
  refine ⟨U, st, .threw H.size, hrun, hend, Or.inr ⟨H.size, rfl, hq U.heap (by omega) (fun q hq => ?_) ⟨ce, hce, how.vm, ?_⟩⟩, locs ++ [], hw, hsm.mono (by omega) (by omega), fun q hq => ?_⟩
  · have hc : s'.heap[q]? = some H[q] := by rw [hs']; exact Array.getElem?_eq_getElem hq
    rw [Array.getElem?_eq_getElem hq]
    exact State.sameButNew.kept_nil hsame hc
  · exact Option.some.inj (how.cls.symm.trans hcX')
  · rw [List.append_nil] at hq
    exact hS.2.2 q hq
end XC
theorem zx_in_1 : zx_in "ParityArray" 31 "java/lang/IndexOutOfBoundsException" ["java/lang/RuntimeException", "java/lang/Exception"] = true := by decide +kernel
theorem zx_in_2 : zx_in "ParityArray" 34 "java/lang/IllegalStateException" ["java/lang/RuntimeException", "java/lang/Exception"] = true := by decide +kernel
theorem zx_in_3 : zx_in "ParityArray" 70 "java/lang/ArithmeticException" ["java/lang/RuntimeException", "java/lang/Exception"] = true := by decide +kernel
theorem zx_in_4 : zx_in "ParityArray" 86 "java/lang/IllegalArgumentException" ["java/lang/RuntimeException", "java/lang/Exception"] = true := by decide +kernel
theorem zx_in_5 : zx_in "ParityArray$Array5" 61 "java/lang/ArithmeticException" ["java/lang/RuntimeException", "java/lang/Exception"] = true := by decide +kernel
theorem zx_names : ∀ n ∈ ["java/lang/RuntimeException", "java/lang/Exception"], Bundle.fit n = true := by decide +kernel
end
section
/-! decode rows, printed by tools/mk_dec.py -/
theorem zd_A5_init_0 : decode zb_A5_init 0 = .ok (.aload_n 0, 1) := by decide +kernel
theorem zd_A5_init_1 : decode zb_A5_init 1 = .ok (.invokespecial 3, 3) := by decide +kernel
theorem zd_A5_init_4 : decode zb_A5_init 4 = .ok (.aload_n 0, 1) := by decide +kernel
theorem zd_A5_init_5 : decode zb_A5_init 5 = .ok (.ldc 11, 2) := by decide +kernel
theorem zd_A5_init_7 : decode zb_A5_init 7 = .ok (.newarray .byte, 2) := by decide +kernel
theorem zd_A5_init_9 : decode zb_A5_init 9 = .ok (.putfield 12, 3) := by decide +kernel
theorem zd_A5_init_12 : decode zb_A5_init 12 = .ok (.aload_n 0, 1) := by decide +kernel
theorem zd_A5_init_13 : decode zb_A5_init 13 = .ok (.sipush 128, 3) := by decide +kernel
theorem zd_A5_init_16 : decode zb_A5_init 16 = .ok (.newarray .byte, 2) := by decide +kernel
theorem zd_A5_init_18 : decode zb_A5_init 18 = .ok (.putfield 16, 3) := by decide +kernel
theorem zd_A5_init_21 : decode zb_A5_init 21 = .ok (.aload_n 0, 1) := by decide +kernel
theorem zd_A5_init_22 : decode zb_A5_init 22 = .ok (.sipush 128, 3) := by decide +kernel
theorem zd_A5_init_25 : decode zb_A5_init 25 = .ok (.newarray .byte, 2) := by decide +kernel
theorem zd_A5_init_27 : decode zb_A5_init 27 = .ok (.putfield 19, 3) := by decide +kernel
theorem zd_A5_init_30 : decode zb_A5_init 30 = .ok (.aload_n 0, 1) := by decide +kernel
theorem zd_A5_init_31 : decode zb_A5_init 31 = .ok (.sipush 136, 3) := by decide +kernel
theorem zd_A5_init_34 : decode zb_A5_init 34 = .ok (.newarray .byte, 2) := by decide +kernel
theorem zd_A5_init_36 : decode zb_A5_init 36 = .ok (.putfield 22, 3) := by decide +kernel
theorem zd_A5_init_39 : decode zb_A5_init 39 = .ok (.aload_n 0, 1) := by decide +kernel
theorem zd_A5_init_40 : decode zb_A5_init 40 = .ok (.iconst (-1), 1) := by decide +kernel
theorem zd_A5_init_41 : decode zb_A5_init 41 = .ok (.putfield 25, 3) := by decide +kernel
theorem zd_A5_init_44 : decode zb_A5_init 44 = .ok (.aload_n 0, 1) := by decide +kernel
theorem zd_A5_init_45 : decode zb_A5_init 45 = .ok (.aload_n 1, 1) := by decide +kernel
theorem zd_A5_init_46 : decode zb_A5_init 46 = .ok (.putfield 29, 3) := by decide +kernel
theorem zd_A5_init_49 : decode zb_A5_init 49 = .ok (.return_, 1) := by decide +kernel
theorem zd_A5_isThere_0 : decode zb_A5_isThere 0 = .ok (.iload_n 1, 1) := by decide +kernel
theorem zd_A5_isThere_1 : decode zb_A5_isThere 1 = .ok (.aload_n 0, 1) := by decide +kernel
theorem zd_A5_isThere_2 : decode zb_A5_isThere 2 = .ok (.getfield 25, 3) := by decide +kernel
theorem zd_A5_isThere_5 : decode zb_A5_isThere 5 = .ok (.if_icmp .ne 18, 3) := by decide +kernel
theorem zd_A5_isThere_8 : decode zb_A5_isThere 8 = .ok (.aload_n 0, 1) := by decide +kernel
theorem zd_A5_isThere_9 : decode zb_A5_isThere 9 = .ok (.getfield 33, 3) := by decide +kernel
theorem zd_A5_isThere_12 : decode zb_A5_isThere 12 = .ok (.ifCond .eq 15, 3) := by decide +kernel
theorem zd_A5_isThere_15 : decode zb_A5_isThere 15 = .ok (.iload_n 2, 1) := by decide +kernel
theorem zd_A5_isThere_16 : decode zb_A5_isThere 16 = .ok (.aload_n 0, 1) := by decide +kernel
theorem zd_A5_isThere_17 : decode zb_A5_isThere 17 = .ok (.getfield 37, 3) := by decide +kernel
theorem zd_A5_isThere_20 : decode zb_A5_isThere 20 = .ok (.if_icmp .ge 7, 3) := by decide +kernel
theorem zd_A5_isThere_23 : decode zb_A5_isThere 23 = .ok (.iconst 1, 1) := by decide +kernel
theorem zd_A5_isThere_24 : decode zb_A5_isThere 24 = .ok (.goto 4, 3) := by decide +kernel
theorem zd_A5_isThere_27 : decode zb_A5_isThere 27 = .ok (.iconst 0, 1) := by decide +kernel
theorem zd_A5_isThere_28 : decode zb_A5_isThere 28 = .ok (.ireturn, 1) := by decide +kernel
theorem zd_A5_at_0 : decode zb_A5_at 0 = .ok (.iload_n 0, 1) := by decide +kernel
theorem zd_A5_at_1 : decode zb_A5_at 1 = .ok (.sipush 19336, 3) := by decide +kernel
theorem zd_A5_at_4 : decode zb_A5_at 4 = .ok (.imul, 1) := by decide +kernel
theorem zd_A5_at_5 : decode zb_A5_at 5 = .ok (.sipush 136, 3) := by decide +kernel
theorem zd_A5_at_8 : decode zb_A5_at 8 = .ok (.iadd, 1) := by decide +kernel
theorem zd_A5_at_9 : decode zb_A5_at 9 = .ok (.iload_n 1, 1) := by decide +kernel
theorem zd_A5_at_10 : decode zb_A5_at 10 = .ok (.sipush 128, 3) := by decide +kernel
theorem zd_A5_at_13 : decode zb_A5_at 13 = .ok (.imul, 1) := by decide +kernel
theorem zd_A5_at_14 : decode zb_A5_at 14 = .ok (.iadd, 1) := by decide +kernel
theorem zd_A5_at_15 : decode zb_A5_at 15 = .ok (.ireturn, 1) := by decide +kernel
theorem zd_A5_parityOf_0 : decode zb_A5_parityOf 0 = .ok (.iload_n 0, 1) := by decide +kernel
theorem zd_A5_parityOf_1 : decode zb_A5_parityOf 1 = .ok (.iconst 5, 1) := by decide +kernel
theorem zd_A5_parityOf_2 : decode zb_A5_parityOf 2 = .ok (.irem, 1) := by decide +kernel
theorem zd_A5_parityOf_3 : decode zb_A5_parityOf 3 = .ok (.ireturn, 1) := by decide +kernel
theorem zd_A5_diskOf_0 : decode zb_A5_diskOf 0 = .ok (.iload_n 1, 1) := by decide +kernel
theorem zd_A5_diskOf_1 : decode zb_A5_diskOf 1 = .ok (.iload_n 0, 1) := by decide +kernel
theorem zd_A5_diskOf_2 : decode zb_A5_diskOf 2 = .ok (.invokestatic 40, 3) := by decide +kernel
theorem zd_A5_diskOf_5 : decode zb_A5_diskOf 5 = .ok (.if_icmp .ge 7, 3) := by decide +kernel
theorem zd_A5_diskOf_8 : decode zb_A5_diskOf 8 = .ok (.iload_n 1, 1) := by decide +kernel
theorem zd_A5_diskOf_9 : decode zb_A5_diskOf 9 = .ok (.goto 6, 3) := by decide +kernel
theorem zd_A5_diskOf_12 : decode zb_A5_diskOf 12 = .ok (.iload_n 1, 1) := by decide +kernel
theorem zd_A5_diskOf_13 : decode zb_A5_diskOf 13 = .ok (.iconst 1, 1) := by decide +kernel
theorem zd_A5_diskOf_14 : decode zb_A5_diskOf 14 = .ok (.iadd, 1) := by decide +kernel
theorem zd_A5_diskOf_15 : decode zb_A5_diskOf 15 = .ok (.ireturn, 1) := by decide +kernel
theorem zd_A5_write4_0 : decode zb_A5_write4 0 = .ok (.aload_n 0, 1) := by decide +kernel
theorem zd_A5_write4_1 : decode zb_A5_write4 1 = .ok (.getfield 29, 3) := by decide +kernel
theorem zd_A5_write4_4 : decode zb_A5_write4 4 = .ok (.iload 4, 2) := by decide +kernel
theorem zd_A5_write4_6 : decode zb_A5_write4 6 = .ok (.invokevirtual 44, 3) := by decide +kernel
theorem zd_A5_write4_9 : decode zb_A5_write4 9 = .ok (.istore 5, 2) := by decide +kernel
theorem zd_A5_write4_11 : decode zb_A5_write4 11 = .ok (.aload_n 2, 1) := by decide +kernel
theorem zd_A5_write4_12 : decode zb_A5_write4 12 = .ok (.iconst 0, 1) := by decide +kernel
theorem zd_A5_write4_13 : decode zb_A5_write4 13 = .ok (.aload_n 0, 1) := by decide +kernel
theorem zd_A5_write4_14 : decode zb_A5_write4 14 = .ok (.getfield 12, 3) := by decide +kernel
theorem zd_A5_write4_17 : decode zb_A5_write4 17 = .ok (.iload_n 1, 1) := by decide +kernel
theorem zd_A5_write4_18 : decode zb_A5_write4 18 = .ok (.iload 5, 2) := by decide +kernel
theorem zd_A5_write4_20 : decode zb_A5_write4 20 = .ok (.ifCond .lt 9, 3) := by decide +kernel
theorem zd_A5_write4_23 : decode zb_A5_write4 23 = .ok (.iload 5, 2) := by decide +kernel
theorem zd_A5_write4_25 : decode zb_A5_write4 25 = .ok (.iload_n 3, 1) := by decide +kernel
theorem zd_A5_write4_26 : decode zb_A5_write4 26 = .ok (.if_icmp .le 7, 3) := by decide +kernel
theorem zd_A5_write4_29 : decode zb_A5_write4 29 = .ok (.iload_n 3, 1) := by decide +kernel
theorem zd_A5_write4_30 : decode zb_A5_write4 30 = .ok (.goto 5, 3) := by decide +kernel
theorem zd_A5_write4_33 : decode zb_A5_write4 33 = .ok (.iload 5, 2) := by decide +kernel
theorem zd_A5_write4_35 : decode zb_A5_write4 35 = .ok (.invokestatic 50, 3) := by decide +kernel
theorem zd_A5_write4_38 : decode zb_A5_write4 38 = .ok (.iload 4, 2) := by decide +kernel
theorem zd_A5_write4_40 : decode zb_A5_write4 40 = .ok (.ifCond .eq 19, 3) := by decide +kernel
theorem zd_A5_write4_43 : decode zb_A5_write4 43 = .ok (.iload 5, 2) := by decide +kernel
theorem zd_A5_write4_45 : decode zb_A5_write4 45 = .ok (.ifCond .lt 9, 3) := by decide +kernel
theorem zd_A5_write4_48 : decode zb_A5_write4 48 = .ok (.iload 5, 2) := by decide +kernel
theorem zd_A5_write4_50 : decode zb_A5_write4 50 = .ok (.iload_n 3, 1) := by decide +kernel
theorem zd_A5_write4_51 : decode zb_A5_write4 51 = .ok (.if_icmp .lt 8, 3) := by decide +kernel
theorem zd_A5_write4_54 : decode zb_A5_write4 54 = .ok (.aload_n 0, 1) := by decide +kernel
theorem zd_A5_write4_55 : decode zb_A5_write4 55 = .ok (.iconst 1, 1) := by decide +kernel
theorem zd_A5_write4_56 : decode zb_A5_write4 56 = .ok (.putfield 56, 3) := by decide +kernel
theorem zd_A5_write4_59 : decode zb_A5_write4 59 = .ok (.iload 5, 2) := by decide +kernel
theorem zd_A5_write4_61 : decode zb_A5_write4 61 = .ok (.ifCond .lt 11, 3) := by decide +kernel
theorem zd_A5_write4_64 : decode zb_A5_write4 64 = .ok (.new 59, 3) := by decide +kernel
theorem zd_A5_write4_67 : decode zb_A5_write4 67 = .ok (.dup, 1) := by decide +kernel
theorem zd_A5_write4_68 : decode zb_A5_write4 68 = .ok (.invokespecial 61, 3) := by decide +kernel
theorem zd_A5_write4_71 : decode zb_A5_write4 71 = .ok (.athrow, 1) := by decide +kernel
theorem zd_A5_write4_72 : decode zb_A5_write4 72 = .ok (.return_, 1) := by decide +kernel
theorem zd_A5_load_0 : decode zb_A5_load 0 = .ok (.aload_n 0, 1) := by decide +kernel
theorem zd_A5_load_1 : decode zb_A5_load 1 = .ok (.iload_n 1, 1) := by decide +kernel
theorem zd_A5_load_2 : decode zb_A5_load 2 = .ok (.iload_n 2, 1) := by decide +kernel
theorem zd_A5_load_3 : decode zb_A5_load 3 = .ok (.invokevirtual 62, 3) := by decide +kernel
theorem zd_A5_load_6 : decode zb_A5_load 6 = .ok (.ifCond .eq 21, 3) := by decide +kernel
theorem zd_A5_load_9 : decode zb_A5_load 9 = .ok (.aload_n 0, 1) := by decide +kernel
theorem zd_A5_load_10 : decode zb_A5_load 10 = .ok (.getfield 12, 3) := by decide +kernel
theorem zd_A5_load_13 : decode zb_A5_load 13 = .ok (.iload_n 1, 1) := by decide +kernel
theorem zd_A5_load_14 : decode zb_A5_load 14 = .ok (.iload_n 2, 1) := by decide +kernel
theorem zd_A5_load_15 : decode zb_A5_load 15 = .ok (.invokestatic 66, 3) := by decide +kernel
theorem zd_A5_load_18 : decode zb_A5_load 18 = .ok (.aload_n 3, 1) := by decide +kernel
theorem zd_A5_load_19 : decode zb_A5_load 19 = .ok (.iconst 0, 1) := by decide +kernel
theorem zd_A5_load_20 : decode zb_A5_load 20 = .ok (.sipush 128, 3) := by decide +kernel
theorem zd_A5_load_23 : decode zb_A5_load 23 = .ok (.invokestatic 50, 3) := by decide +kernel
theorem zd_A5_load_26 : decode zb_A5_load 26 = .ok (.return_, 1) := by decide +kernel
theorem zd_A5_load_27 : decode zb_A5_load 27 = .ok (.iconst 0, 1) := by decide +kernel
theorem zd_A5_load_28 : decode zb_A5_load 28 = .ok (.istore 4, 2) := by decide +kernel
theorem zd_A5_load_30 : decode zb_A5_load 30 = .ok (.iload 4, 2) := by decide +kernel
theorem zd_A5_load_32 : decode zb_A5_load 32 = .ok (.sipush 128, 3) := by decide +kernel
theorem zd_A5_load_35 : decode zb_A5_load 35 = .ok (.if_icmp .ge 14, 3) := by decide +kernel
theorem zd_A5_load_38 : decode zb_A5_load 38 = .ok (.aload_n 3, 1) := by decide +kernel
theorem zd_A5_load_39 : decode zb_A5_load 39 = .ok (.iload 4, 2) := by decide +kernel
theorem zd_A5_load_41 : decode zb_A5_load 41 = .ok (.iconst 0, 1) := by decide +kernel
theorem zd_A5_load_42 : decode zb_A5_load 42 = .ok (.bastore, 1) := by decide +kernel
theorem zd_A5_load_43 : decode zb_A5_load 43 = .ok (.iinc 4 1, 3) := by decide +kernel
theorem zd_A5_load_46 : decode zb_A5_load 46 = .ok (.goto (-16), 3) := by decide +kernel
theorem zd_A5_load_49 : decode zb_A5_load 49 = .ok (.iconst 0, 1) := by decide +kernel
theorem zd_A5_load_50 : decode zb_A5_load 50 = .ok (.istore 4, 2) := by decide +kernel
theorem zd_A5_load_52 : decode zb_A5_load 52 = .ok (.iload 4, 2) := by decide +kernel
theorem zd_A5_load_54 : decode zb_A5_load 54 = .ok (.iconst 5, 1) := by decide +kernel
theorem zd_A5_load_55 : decode zb_A5_load 55 = .ok (.if_icmp .ge 54, 3) := by decide +kernel
theorem zd_A5_load_58 : decode zb_A5_load 58 = .ok (.iload 4, 2) := by decide +kernel
theorem zd_A5_load_60 : decode zb_A5_load 60 = .ok (.iload_n 1, 1) := by decide +kernel
theorem zd_A5_load_61 : decode zb_A5_load 61 = .ok (.if_icmp .eq 42, 3) := by decide +kernel
theorem zd_A5_load_64 : decode zb_A5_load 64 = .ok (.iconst 0, 1) := by decide +kernel
theorem zd_A5_load_65 : decode zb_A5_load 65 = .ok (.istore 5, 2) := by decide +kernel
theorem zd_A5_load_67 : decode zb_A5_load 67 = .ok (.iload 5, 2) := by decide +kernel
theorem zd_A5_load_69 : decode zb_A5_load 69 = .ok (.sipush 128, 3) := by decide +kernel
theorem zd_A5_load_72 : decode zb_A5_load 72 = .ok (.if_icmp .ge 31, 3) := by decide +kernel
theorem zd_A5_load_75 : decode zb_A5_load 75 = .ok (.aload_n 3, 1) := by decide +kernel
theorem zd_A5_load_76 : decode zb_A5_load 76 = .ok (.iload 5, 2) := by decide +kernel
theorem zd_A5_load_78 : decode zb_A5_load 78 = .ok (.dup2, 1) := by decide +kernel
theorem zd_A5_load_79 : decode zb_A5_load 79 = .ok (.baload, 1) := by decide +kernel
theorem zd_A5_load_80 : decode zb_A5_load 80 = .ok (.aload_n 0, 1) := by decide +kernel
theorem zd_A5_load_81 : decode zb_A5_load 81 = .ok (.getfield 12, 3) := by decide +kernel
theorem zd_A5_load_84 : decode zb_A5_load 84 = .ok (.iload 4, 2) := by decide +kernel
theorem zd_A5_load_86 : decode zb_A5_load 86 = .ok (.iload_n 2, 1) := by decide +kernel
theorem zd_A5_load_87 : decode zb_A5_load 87 = .ok (.invokestatic 66, 3) := by decide +kernel
theorem zd_A5_load_90 : decode zb_A5_load 90 = .ok (.iload 5, 2) := by decide +kernel
theorem zd_A5_load_92 : decode zb_A5_load 92 = .ok (.iadd, 1) := by decide +kernel
theorem zd_A5_load_93 : decode zb_A5_load 93 = .ok (.baload, 1) := by decide +kernel
theorem zd_A5_load_94 : decode zb_A5_load 94 = .ok (.ixor, 1) := by decide +kernel
theorem zd_A5_load_95 : decode zb_A5_load 95 = .ok (.i2b, 1) := by decide +kernel
theorem zd_A5_load_96 : decode zb_A5_load 96 = .ok (.bastore, 1) := by decide +kernel
theorem zd_A5_load_97 : decode zb_A5_load 97 = .ok (.iinc 5 1, 3) := by decide +kernel
theorem zd_A5_load_100 : decode zb_A5_load 100 = .ok (.goto (-33), 3) := by decide +kernel
theorem zd_A5_load_103 : decode zb_A5_load 103 = .ok (.iinc 4 1, 3) := by decide +kernel
theorem zd_A5_load_106 : decode zb_A5_load 106 = .ok (.goto (-54), 3) := by decide +kernel
theorem zd_A5_load_109 : decode zb_A5_load 109 = .ok (.return_, 1) := by decide +kernel
theorem zd_A5_read_0 : decode zb_A5_read 0 = .ok (.aload_n 0, 1) := by decide +kernel
theorem zd_A5_read_1 : decode zb_A5_read 1 = .ok (.iload_n 1, 1) := by decide +kernel
theorem zd_A5_read_2 : decode zb_A5_read 2 = .ok (.iconst 4, 1) := by decide +kernel
theorem zd_A5_read_3 : decode zb_A5_read 3 = .ok (.idiv, 1) := by decide +kernel
theorem zd_A5_read_4 : decode zb_A5_read 4 = .ok (.iload_n 1, 1) := by decide +kernel
theorem zd_A5_read_5 : decode zb_A5_read 5 = .ok (.iconst 3, 1) := by decide +kernel
theorem zd_A5_read_6 : decode zb_A5_read 6 = .ok (.iand, 1) := by decide +kernel
theorem zd_A5_read_7 : decode zb_A5_read 7 = .ok (.invokestatic 70, 3) := by decide +kernel
theorem zd_A5_read_10 : decode zb_A5_read 10 = .ok (.iload_n 1, 1) := by decide +kernel
theorem zd_A5_read_11 : decode zb_A5_read 11 = .ok (.iconst 4, 1) := by decide +kernel
theorem zd_A5_read_12 : decode zb_A5_read 12 = .ok (.idiv, 1) := by decide +kernel
theorem zd_A5_read_13 : decode zb_A5_read 13 = .ok (.aload_n 2, 1) := by decide +kernel
theorem zd_A5_read_14 : decode zb_A5_read 14 = .ok (.invokevirtual 73, 3) := by decide +kernel
theorem zd_A5_read_17 : decode zb_A5_read 17 = .ok (.return_, 1) := by decide +kernel
theorem zd_A5_write3_0 : decode zb_A5_write3 0 = .ok (.iload_n 1, 1) := by decide +kernel
theorem zd_A5_write3_1 : decode zb_A5_write3 1 = .ok (.iconst 4, 1) := by decide +kernel
theorem zd_A5_write3_2 : decode zb_A5_write3 2 = .ok (.idiv, 1) := by decide +kernel
theorem zd_A5_write3_3 : decode zb_A5_write3 3 = .ok (.istore 4, 2) := by decide +kernel
theorem zd_A5_write3_5 : decode zb_A5_write3 5 = .ok (.iload_n 1, 1) := by decide +kernel
theorem zd_A5_write3_6 : decode zb_A5_write3 6 = .ok (.iconst 3, 1) := by decide +kernel
theorem zd_A5_write3_7 : decode zb_A5_write3 7 = .ok (.iand, 1) := by decide +kernel
theorem zd_A5_write3_8 : decode zb_A5_write3 8 = .ok (.istore 5, 2) := by decide +kernel
theorem zd_A5_write3_10 : decode zb_A5_write3 10 = .ok (.iload 4, 2) := by decide +kernel
theorem zd_A5_write3_12 : decode zb_A5_write3 12 = .ok (.iload 5, 2) := by decide +kernel
theorem zd_A5_write3_14 : decode zb_A5_write3 14 = .ok (.invokestatic 70, 3) := by decide +kernel
theorem zd_A5_write3_17 : decode zb_A5_write3 17 = .ok (.istore 6, 2) := by decide +kernel
theorem zd_A5_write3_19 : decode zb_A5_write3 19 = .ok (.iload 4, 2) := by decide +kernel
theorem zd_A5_write3_21 : decode zb_A5_write3 21 = .ok (.invokestatic 40, 3) := by decide +kernel
theorem zd_A5_write3_24 : decode zb_A5_write3 24 = .ok (.istore 7, 2) := by decide +kernel
theorem zd_A5_write3_26 : decode zb_A5_write3 26 = .ok (.aload_n 0, 1) := by decide +kernel
theorem zd_A5_write3_27 : decode zb_A5_write3 27 = .ok (.iload 7, 2) := by decide +kernel
theorem zd_A5_write3_29 : decode zb_A5_write3 29 = .ok (.iload 4, 2) := by decide +kernel
theorem zd_A5_write3_31 : decode zb_A5_write3 31 = .ok (.invokevirtual 62, 3) := by decide +kernel
theorem zd_A5_write3_34 : decode zb_A5_write3 34 = .ok (.ifCond .ne 20, 3) := by decide +kernel
theorem zd_A5_write3_37 : decode zb_A5_write3 37 = .ok (.aload_n 0, 1) := by decide +kernel
theorem zd_A5_write3_38 : decode zb_A5_write3 38 = .ok (.iload 6, 2) := by decide +kernel
theorem zd_A5_write3_40 : decode zb_A5_write3 40 = .ok (.iload 4, 2) := by decide +kernel
theorem zd_A5_write3_42 : decode zb_A5_write3 42 = .ok (.invokestatic 66, 3) := by decide +kernel
theorem zd_A5_write3_45 : decode zb_A5_write3 45 = .ok (.aload_n 2, 1) := by decide +kernel
theorem zd_A5_write3_46 : decode zb_A5_write3 46 = .ok (.sipush 128, 3) := by decide +kernel
theorem zd_A5_write3_49 : decode zb_A5_write3 49 = .ok (.iload_n 3, 1) := by decide +kernel
theorem zd_A5_write3_50 : decode zb_A5_write3 50 = .ok (.invokevirtual 77, 3) := by decide +kernel
theorem zd_A5_write3_53 : decode zb_A5_write3 53 = .ok (.return_, 1) := by decide +kernel
theorem zd_A5_write3_54 : decode zb_A5_write3 54 = .ok (.iconst 0, 1) := by decide +kernel
theorem zd_A5_write3_55 : decode zb_A5_write3 55 = .ok (.istore 8, 2) := by decide +kernel
theorem zd_A5_write3_57 : decode zb_A5_write3 57 = .ok (.iload 8, 2) := by decide +kernel
theorem zd_A5_write3_59 : decode zb_A5_write3 59 = .ok (.sipush 128, 3) := by decide +kernel
theorem zd_A5_write3_62 : decode zb_A5_write3 62 = .ok (.if_icmp .ge 17, 3) := by decide +kernel
theorem zd_A5_write3_65 : decode zb_A5_write3 65 = .ok (.aload_n 0, 1) := by decide +kernel
theorem zd_A5_write3_66 : decode zb_A5_write3 66 = .ok (.getfield 19, 3) := by decide +kernel
theorem zd_A5_write3_69 : decode zb_A5_write3 69 = .ok (.iload 8, 2) := by decide +kernel
theorem zd_A5_write3_71 : decode zb_A5_write3 71 = .ok (.iconst 0, 1) := by decide +kernel
theorem zd_A5_write3_72 : decode zb_A5_write3 72 = .ok (.bastore, 1) := by decide +kernel
theorem zd_A5_write3_73 : decode zb_A5_write3 73 = .ok (.iinc 8 1, 3) := by decide +kernel
theorem zd_A5_write3_76 : decode zb_A5_write3 76 = .ok (.goto (-19), 3) := by decide +kernel
theorem zd_A5_write3_79 : decode zb_A5_write3 79 = .ok (.iconst 0, 1) := by decide +kernel
theorem zd_A5_write3_80 : decode zb_A5_write3 80 = .ok (.istore 8, 2) := by decide +kernel
theorem zd_A5_write3_82 : decode zb_A5_write3 82 = .ok (.iload 8, 2) := by decide +kernel
theorem zd_A5_write3_84 : decode zb_A5_write3 84 = .ok (.iconst 4, 1) := by decide +kernel
theorem zd_A5_write3_85 : decode zb_A5_write3 85 = .ok (.if_icmp .ge 71, 3) := by decide +kernel
theorem zd_A5_write3_88 : decode zb_A5_write3 88 = .ok (.iload 8, 2) := by decide +kernel
theorem zd_A5_write3_90 : decode zb_A5_write3 90 = .ok (.iload 5, 2) := by decide +kernel
theorem zd_A5_write3_92 : decode zb_A5_write3 92 = .ok (.if_icmp .ne 6, 3) := by decide +kernel
theorem zd_A5_write3_95 : decode zb_A5_write3 95 = .ok (.goto 55, 3) := by decide +kernel
theorem zd_A5_write3_98 : decode zb_A5_write3 98 = .ok (.aload_n 0, 1) := by decide +kernel
theorem zd_A5_write3_99 : decode zb_A5_write3 99 = .ok (.iload 4, 2) := by decide +kernel
theorem zd_A5_write3_101 : decode zb_A5_write3 101 = .ok (.iload 8, 2) := by decide +kernel
theorem zd_A5_write3_103 : decode zb_A5_write3 103 = .ok (.invokestatic 70, 3) := by decide +kernel
theorem zd_A5_write3_106 : decode zb_A5_write3 106 = .ok (.iload 4, 2) := by decide +kernel
theorem zd_A5_write3_108 : decode zb_A5_write3 108 = .ok (.aload_n 0, 1) := by decide +kernel
theorem zd_A5_write3_109 : decode zb_A5_write3 109 = .ok (.getfield 16, 3) := by decide +kernel
theorem zd_A5_write3_112 : decode zb_A5_write3 112 = .ok (.invokevirtual 73, 3) := by decide +kernel
theorem zd_A5_write3_115 : decode zb_A5_write3 115 = .ok (.iconst 0, 1) := by decide +kernel
theorem zd_A5_write3_116 : decode zb_A5_write3 116 = .ok (.istore 9, 2) := by decide +kernel
theorem zd_A5_write3_118 : decode zb_A5_write3 118 = .ok (.iload 9, 2) := by decide +kernel
theorem zd_A5_write3_120 : decode zb_A5_write3 120 = .ok (.sipush 128, 3) := by decide +kernel
theorem zd_A5_write3_123 : decode zb_A5_write3 123 = .ok (.if_icmp .ge 27, 3) := by decide +kernel
theorem zd_A5_write3_126 : decode zb_A5_write3 126 = .ok (.aload_n 0, 1) := by decide +kernel
theorem zd_A5_write3_127 : decode zb_A5_write3 127 = .ok (.getfield 19, 3) := by decide +kernel
theorem zd_A5_write3_130 : decode zb_A5_write3 130 = .ok (.iload 9, 2) := by decide +kernel
theorem zd_A5_write3_132 : decode zb_A5_write3 132 = .ok (.dup2, 1) := by decide +kernel
theorem zd_A5_write3_133 : decode zb_A5_write3 133 = .ok (.baload, 1) := by decide +kernel
theorem zd_A5_write3_134 : decode zb_A5_write3 134 = .ok (.aload_n 0, 1) := by decide +kernel
theorem zd_A5_write3_135 : decode zb_A5_write3 135 = .ok (.getfield 16, 3) := by decide +kernel
theorem zd_A5_write3_138 : decode zb_A5_write3 138 = .ok (.iload 9, 2) := by decide +kernel
theorem zd_A5_write3_140 : decode zb_A5_write3 140 = .ok (.baload, 1) := by decide +kernel
theorem zd_A5_write3_141 : decode zb_A5_write3 141 = .ok (.ixor, 1) := by decide +kernel
theorem zd_A5_write3_142 : decode zb_A5_write3 142 = .ok (.i2b, 1) := by decide +kernel
theorem zd_A5_write3_143 : decode zb_A5_write3 143 = .ok (.bastore, 1) := by decide +kernel
theorem zd_A5_write3_144 : decode zb_A5_write3 144 = .ok (.iinc 9 1, 3) := by decide +kernel
theorem zd_A5_write3_147 : decode zb_A5_write3 147 = .ok (.goto (-29), 3) := by decide +kernel
theorem zd_A5_write3_150 : decode zb_A5_write3 150 = .ok (.iinc 8 1, 3) := by decide +kernel
theorem zd_A5_write3_153 : decode zb_A5_write3 153 = .ok (.goto (-71), 3) := by decide +kernel
theorem zd_A5_write3_156 : decode zb_A5_write3 156 = .ok (.iload 7, 2) := by decide +kernel
theorem zd_A5_write3_158 : decode zb_A5_write3 158 = .ok (.iconst 0, 1) := by decide +kernel
theorem zd_A5_write3_159 : decode zb_A5_write3 159 = .ok (.invokestatic 66, 3) := by decide +kernel
theorem zd_A5_write3_162 : decode zb_A5_write3 162 = .ok (.sipush 136, 3) := by decide +kernel
theorem zd_A5_write3_165 : decode zb_A5_write3 165 = .ok (.isub, 1) := by decide +kernel
theorem zd_A5_write3_166 : decode zb_A5_write3 166 = .ok (.istore 8, 2) := by decide +kernel
theorem zd_A5_write3_168 : decode zb_A5_write3 168 = .ok (.aload_n 0, 1) := by decide +kernel
theorem zd_A5_write3_169 : decode zb_A5_write3 169 = .ok (.getfield 12, 3) := by decide +kernel
theorem zd_A5_write3_172 : decode zb_A5_write3 172 = .ok (.iload 8, 2) := by decide +kernel
theorem zd_A5_write3_174 : decode zb_A5_write3 174 = .ok (.sipush 136, 3) := by decide +kernel
theorem zd_A5_write3_177 : decode zb_A5_write3 177 = .ok (.iadd, 1) := by decide +kernel
theorem zd_A5_write3_178 : decode zb_A5_write3 178 = .ok (.iconst 1, 1) := by decide +kernel
theorem zd_A5_write3_179 : decode zb_A5_write3 179 = .ok (.isub, 1) := by decide +kernel
theorem zd_A5_write3_180 : decode zb_A5_write3 180 = .ok (.baload, 1) := by decide +kernel
theorem zd_A5_write3_181 : decode zb_A5_write3 181 = .ok (.iconst 1, 1) := by decide +kernel
theorem zd_A5_write3_182 : decode zb_A5_write3 182 = .ok (.if_icmp .ne 7, 3) := by decide +kernel
theorem zd_A5_write3_185 : decode zb_A5_write3 185 = .ok (.iconst 2, 1) := by decide +kernel
theorem zd_A5_write3_186 : decode zb_A5_write3 186 = .ok (.goto 4, 3) := by decide +kernel
theorem zd_A5_write3_189 : decode zb_A5_write3 189 = .ok (.iconst 1, 1) := by decide +kernel
theorem zd_A5_write3_190 : decode zb_A5_write3 190 = .ok (.istore 9, 2) := by decide +kernel
theorem zd_A5_write3_192 : decode zb_A5_write3 192 = .ok (.aload_n 0, 1) := by decide +kernel
theorem zd_A5_write3_193 : decode zb_A5_write3 193 = .ok (.getfield 22, 3) := by decide +kernel
theorem zd_A5_write3_196 : decode zb_A5_write3 196 = .ok (.iconst 0, 1) := by decide +kernel
theorem zd_A5_write3_197 : decode zb_A5_write3 197 = .ok (.iload 9, 2) := by decide +kernel
theorem zd_A5_write3_199 : decode zb_A5_write3 199 = .ok (.i2b, 1) := by decide +kernel
theorem zd_A5_write3_200 : decode zb_A5_write3 200 = .ok (.bastore, 1) := by decide +kernel
theorem zd_A5_write3_201 : decode zb_A5_write3 201 = .ok (.aload_n 0, 1) := by decide +kernel
theorem zd_A5_write3_202 : decode zb_A5_write3 202 = .ok (.getfield 22, 3) := by decide +kernel
theorem zd_A5_write3_205 : decode zb_A5_write3 205 = .ok (.iconst 1, 1) := by decide +kernel
theorem zd_A5_write3_206 : decode zb_A5_write3 206 = .ok (.iload 4, 2) := by decide +kernel
theorem zd_A5_write3_208 : decode zb_A5_write3 208 = .ok (.i2b, 1) := by decide +kernel
theorem zd_A5_write3_209 : decode zb_A5_write3 209 = .ok (.bastore, 1) := by decide +kernel
theorem zd_A5_write3_210 : decode zb_A5_write3 210 = .ok (.aload_n 0, 1) := by decide +kernel
theorem zd_A5_write3_211 : decode zb_A5_write3 211 = .ok (.getfield 22, 3) := by decide +kernel
theorem zd_A5_write3_214 : decode zb_A5_write3 214 = .ok (.iconst 2, 1) := by decide +kernel
theorem zd_A5_write3_215 : decode zb_A5_write3 215 = .ok (.iload 5, 2) := by decide +kernel
theorem zd_A5_write3_217 : decode zb_A5_write3 217 = .ok (.i2b, 1) := by decide +kernel
theorem zd_A5_write3_218 : decode zb_A5_write3 218 = .ok (.bastore, 1) := by decide +kernel
theorem zd_A5_write3_219 : decode zb_A5_write3 219 = .ok (.aload_n 0, 1) := by decide +kernel
theorem zd_A5_write3_220 : decode zb_A5_write3 220 = .ok (.getfield 19, 3) := by decide +kernel
theorem zd_A5_write3_223 : decode zb_A5_write3 223 = .ok (.iconst 0, 1) := by decide +kernel
theorem zd_A5_write3_224 : decode zb_A5_write3 224 = .ok (.aload_n 0, 1) := by decide +kernel
theorem zd_A5_write3_225 : decode zb_A5_write3 225 = .ok (.getfield 22, 3) := by decide +kernel
theorem zd_A5_write3_228 : decode zb_A5_write3 228 = .ok (.iconst 3, 1) := by decide +kernel
theorem zd_A5_write3_229 : decode zb_A5_write3 229 = .ok (.sipush 128, 3) := by decide +kernel
theorem zd_A5_write3_232 : decode zb_A5_write3 232 = .ok (.invokestatic 50, 3) := by decide +kernel
theorem zd_A5_write3_235 : decode zb_A5_write3 235 = .ok (.aload_n 0, 1) := by decide +kernel
theorem zd_A5_write3_236 : decode zb_A5_write3 236 = .ok (.getfield 22, 3) := by decide +kernel
theorem zd_A5_write3_239 : decode zb_A5_write3 239 = .ok (.sipush 135, 3) := by decide +kernel
theorem zd_A5_write3_242 : decode zb_A5_write3 242 = .ok (.iload 9, 2) := by decide +kernel
theorem zd_A5_write3_244 : decode zb_A5_write3 244 = .ok (.i2b, 1) := by decide +kernel
theorem zd_A5_write3_245 : decode zb_A5_write3 245 = .ok (.bastore, 1) := by decide +kernel
theorem zd_A5_write3_246 : decode zb_A5_write3 246 = .ok (.aload_n 0, 1) := by decide +kernel
theorem zd_A5_write3_247 : decode zb_A5_write3 247 = .ok (.iload 8, 2) := by decide +kernel
theorem zd_A5_write3_249 : decode zb_A5_write3 249 = .ok (.aload_n 0, 1) := by decide +kernel
theorem zd_A5_write3_250 : decode zb_A5_write3 250 = .ok (.getfield 22, 3) := by decide +kernel
theorem zd_A5_write3_253 : decode zb_A5_write3 253 = .ok (.sipush 136, 3) := by decide +kernel
theorem zd_A5_write3_256 : decode zb_A5_write3 256 = .ok (.iconst 0, 1) := by decide +kernel
theorem zd_A5_write3_257 : decode zb_A5_write3 257 = .ok (.invokevirtual 77, 3) := by decide +kernel
theorem zd_A5_write3_260 : decode zb_A5_write3 260 = .ok (.iconst 0, 1) := by decide +kernel
theorem zd_A5_write3_261 : decode zb_A5_write3 261 = .ok (.istore 10, 2) := by decide +kernel
theorem zd_A5_write3_263 : decode zb_A5_write3 263 = .ok (.iload 10, 2) := by decide +kernel
theorem zd_A5_write3_265 : decode zb_A5_write3 265 = .ok (.sipush 128, 3) := by decide +kernel
theorem zd_A5_write3_268 : decode zb_A5_write3 268 = .ok (.if_icmp .ge 24, 3) := by decide +kernel
theorem zd_A5_write3_271 : decode zb_A5_write3 271 = .ok (.aload_n 0, 1) := by decide +kernel
theorem zd_A5_write3_272 : decode zb_A5_write3 272 = .ok (.getfield 19, 3) := by decide +kernel
theorem zd_A5_write3_275 : decode zb_A5_write3 275 = .ok (.iload 10, 2) := by decide +kernel
theorem zd_A5_write3_277 : decode zb_A5_write3 277 = .ok (.dup2, 1) := by decide +kernel
theorem zd_A5_write3_278 : decode zb_A5_write3 278 = .ok (.baload, 1) := by decide +kernel
theorem zd_A5_write3_279 : decode zb_A5_write3 279 = .ok (.aload_n 2, 1) := by decide +kernel
theorem zd_A5_write3_280 : decode zb_A5_write3 280 = .ok (.iload 10, 2) := by decide +kernel
theorem zd_A5_write3_282 : decode zb_A5_write3 282 = .ok (.baload, 1) := by decide +kernel
theorem zd_A5_write3_283 : decode zb_A5_write3 283 = .ok (.ixor, 1) := by decide +kernel
theorem zd_A5_write3_284 : decode zb_A5_write3 284 = .ok (.i2b, 1) := by decide +kernel
theorem zd_A5_write3_285 : decode zb_A5_write3 285 = .ok (.bastore, 1) := by decide +kernel
theorem zd_A5_write3_286 : decode zb_A5_write3 286 = .ok (.iinc 10 1, 3) := by decide +kernel
theorem zd_A5_write3_289 : decode zb_A5_write3 289 = .ok (.goto (-26), 3) := by decide +kernel
theorem zd_A5_write3_292 : decode zb_A5_write3 292 = .ok (.aload_n 0, 1) := by decide +kernel
theorem zd_A5_write3_293 : decode zb_A5_write3 293 = .ok (.iload 6, 2) := by decide +kernel
theorem zd_A5_write3_295 : decode zb_A5_write3 295 = .ok (.iload 4, 2) := by decide +kernel
theorem zd_A5_write3_297 : decode zb_A5_write3 297 = .ok (.invokevirtual 62, 3) := by decide +kernel
theorem zd_A5_write3_300 : decode zb_A5_write3 300 = .ok (.istore 10, 2) := by decide +kernel
theorem zd_A5_write3_302 : decode zb_A5_write3 302 = .ok (.iload 10, 2) := by decide +kernel
theorem zd_A5_write3_304 : decode zb_A5_write3 304 = .ok (.ifCond .eq 19, 3) := by decide +kernel
theorem zd_A5_write3_307 : decode zb_A5_write3 307 = .ok (.aload_n 0, 1) := by decide +kernel
theorem zd_A5_write3_308 : decode zb_A5_write3 308 = .ok (.iload 6, 2) := by decide +kernel
theorem zd_A5_write3_310 : decode zb_A5_write3 310 = .ok (.iload 4, 2) := by decide +kernel
theorem zd_A5_write3_312 : decode zb_A5_write3 312 = .ok (.invokestatic 66, 3) := by decide +kernel
theorem zd_A5_write3_315 : decode zb_A5_write3 315 = .ok (.aload_n 2, 1) := by decide +kernel
theorem zd_A5_write3_316 : decode zb_A5_write3 316 = .ok (.sipush 128, 3) := by decide +kernel
theorem zd_A5_write3_319 : decode zb_A5_write3 319 = .ok (.iload_n 3, 1) := by decide +kernel
theorem zd_A5_write3_320 : decode zb_A5_write3 320 = .ok (.invokevirtual 77, 3) := by decide +kernel
theorem zd_A5_write3_323 : decode zb_A5_write3 323 = .ok (.aload_n 0, 1) := by decide +kernel
theorem zd_A5_write3_324 : decode zb_A5_write3 324 = .ok (.iload 7, 2) := by decide +kernel
theorem zd_A5_write3_326 : decode zb_A5_write3 326 = .ok (.iload 4, 2) := by decide +kernel
theorem zd_A5_write3_328 : decode zb_A5_write3 328 = .ok (.invokestatic 66, 3) := by decide +kernel
theorem zd_A5_write3_331 : decode zb_A5_write3 331 = .ok (.aload_n 0, 1) := by decide +kernel
theorem zd_A5_write3_332 : decode zb_A5_write3 332 = .ok (.getfield 19, 3) := by decide +kernel
theorem zd_A5_write3_335 : decode zb_A5_write3 335 = .ok (.sipush 128, 3) := by decide +kernel
theorem zd_A5_write3_338 : decode zb_A5_write3 338 = .ok (.iload_n 3, 1) := by decide +kernel
theorem zd_A5_write3_339 : decode zb_A5_write3 339 = .ok (.ifCond .eq 12, 3) := by decide +kernel
theorem zd_A5_write3_342 : decode zb_A5_write3 342 = .ok (.iload 10, 2) := by decide +kernel
theorem zd_A5_write3_344 : decode zb_A5_write3 344 = .ok (.ifCond .ne 7, 3) := by decide +kernel
theorem zd_A5_write3_347 : decode zb_A5_write3 347 = .ok (.iconst 1, 1) := by decide +kernel
theorem zd_A5_write3_348 : decode zb_A5_write3 348 = .ok (.goto 4, 3) := by decide +kernel
theorem zd_A5_write3_351 : decode zb_A5_write3 351 = .ok (.iconst 0, 1) := by decide +kernel
theorem zd_A5_write3_352 : decode zb_A5_write3 352 = .ok (.invokevirtual 77, 3) := by decide +kernel
theorem zd_A5_write3_355 : decode zb_A5_write3 355 = .ok (.return_, 1) := by decide +kernel
theorem zd_A5_recover_0 : decode zb_A5_recover 0 = .ok (.iconst 0, 1) := by decide +kernel
theorem zd_A5_recover_1 : decode zb_A5_recover 1 = .ok (.istore_n 1, 1) := by decide +kernel
theorem zd_A5_recover_2 : decode zb_A5_recover 2 = .ok (.iload_n 1, 1) := by decide +kernel
theorem zd_A5_recover_3 : decode zb_A5_recover 3 = .ok (.iconst 5, 1) := by decide +kernel
theorem zd_A5_recover_4 : decode zb_A5_recover 4 = .ok (.if_icmp .ge 207, 3) := by decide +kernel
theorem zd_A5_recover_7 : decode zb_A5_recover 7 = .ok (.iload_n 1, 1) := by decide +kernel
theorem zd_A5_recover_8 : decode zb_A5_recover 8 = .ok (.iconst 0, 1) := by decide +kernel
theorem zd_A5_recover_9 : decode zb_A5_recover 9 = .ok (.invokestatic 66, 3) := by decide +kernel
theorem zd_A5_recover_12 : decode zb_A5_recover 12 = .ok (.sipush 136, 3) := by decide +kernel
theorem zd_A5_recover_15 : decode zb_A5_recover 15 = .ok (.isub, 1) := by decide +kernel
theorem zd_A5_recover_16 : decode zb_A5_recover 16 = .ok (.istore_n 2, 1) := by decide +kernel
theorem zd_A5_recover_17 : decode zb_A5_recover 17 = .ok (.aload_n 0, 1) := by decide +kernel
theorem zd_A5_recover_18 : decode zb_A5_recover 18 = .ok (.getfield 12, 3) := by decide +kernel
theorem zd_A5_recover_21 : decode zb_A5_recover 21 = .ok (.iload_n 2, 1) := by decide +kernel
theorem zd_A5_recover_22 : decode zb_A5_recover 22 = .ok (.iconst 1, 1) := by decide +kernel
theorem zd_A5_recover_23 : decode zb_A5_recover 23 = .ok (.iadd, 1) := by decide +kernel
theorem zd_A5_recover_24 : decode zb_A5_recover 24 = .ok (.baload, 1) := by decide +kernel
theorem zd_A5_recover_25 : decode zb_A5_recover 25 = .ok (.sipush 255, 3) := by decide +kernel
theorem zd_A5_recover_28 : decode zb_A5_recover 28 = .ok (.iand, 1) := by decide +kernel
theorem zd_A5_recover_29 : decode zb_A5_recover 29 = .ok (.istore_n 3, 1) := by decide +kernel
theorem zd_A5_recover_30 : decode zb_A5_recover 30 = .ok (.iload_n 3, 1) := by decide +kernel
theorem zd_A5_recover_31 : decode zb_A5_recover 31 = .ok (.aload_n 0, 1) := by decide +kernel
theorem zd_A5_recover_32 : decode zb_A5_recover 32 = .ok (.getfield 12, 3) := by decide +kernel
theorem zd_A5_recover_35 : decode zb_A5_recover 35 = .ok (.iload_n 2, 1) := by decide +kernel
theorem zd_A5_recover_36 : decode zb_A5_recover 36 = .ok (.iconst 2, 1) := by decide +kernel
theorem zd_A5_recover_37 : decode zb_A5_recover 37 = .ok (.iadd, 1) := by decide +kernel
theorem zd_A5_recover_38 : decode zb_A5_recover 38 = .ok (.baload, 1) := by decide +kernel
theorem zd_A5_recover_39 : decode zb_A5_recover 39 = .ok (.invokestatic 70, 3) := by decide +kernel
theorem zd_A5_recover_42 : decode zb_A5_recover 42 = .ok (.istore 4, 2) := by decide +kernel
theorem zd_A5_recover_44 : decode zb_A5_recover 44 = .ok (.aload_n 0, 1) := by decide +kernel
theorem zd_A5_recover_45 : decode zb_A5_recover 45 = .ok (.getfield 12, 3) := by decide +kernel
theorem zd_A5_recover_48 : decode zb_A5_recover 48 = .ok (.iload_n 2, 1) := by decide +kernel
theorem zd_A5_recover_49 : decode zb_A5_recover 49 = .ok (.baload, 1) := by decide +kernel
theorem zd_A5_recover_50 : decode zb_A5_recover 50 = .ok (.ifCond .eq 155, 3) := by decide +kernel
theorem zd_A5_recover_53 : decode zb_A5_recover 53 = .ok (.aload_n 0, 1) := by decide +kernel
theorem zd_A5_recover_54 : decode zb_A5_recover 54 = .ok (.getfield 12, 3) := by decide +kernel
theorem zd_A5_recover_57 : decode zb_A5_recover 57 = .ok (.iload_n 2, 1) := by decide +kernel
theorem zd_A5_recover_58 : decode zb_A5_recover 58 = .ok (.baload, 1) := by decide +kernel
theorem zd_A5_recover_59 : decode zb_A5_recover 59 = .ok (.aload_n 0, 1) := by decide +kernel
theorem zd_A5_recover_60 : decode zb_A5_recover 60 = .ok (.getfield 12, 3) := by decide +kernel
theorem zd_A5_recover_63 : decode zb_A5_recover 63 = .ok (.iload_n 2, 1) := by decide +kernel
theorem zd_A5_recover_64 : decode zb_A5_recover 64 = .ok (.sipush 136, 3) := by decide +kernel
theorem zd_A5_recover_67 : decode zb_A5_recover 67 = .ok (.iadd, 1) := by decide +kernel
theorem zd_A5_recover_68 : decode zb_A5_recover 68 = .ok (.iconst 1, 1) := by decide +kernel
theorem zd_A5_recover_69 : decode zb_A5_recover 69 = .ok (.isub, 1) := by decide +kernel
theorem zd_A5_recover_70 : decode zb_A5_recover 70 = .ok (.baload, 1) := by decide +kernel
theorem zd_A5_recover_71 : decode zb_A5_recover 71 = .ok (.if_icmp .ne 134, 3) := by decide +kernel
theorem zd_A5_recover_74 : decode zb_A5_recover 74 = .ok (.aload_n 0, 1) := by decide +kernel
theorem zd_A5_recover_75 : decode zb_A5_recover 75 = .ok (.iload_n 1, 1) := by decide +kernel
theorem zd_A5_recover_76 : decode zb_A5_recover 76 = .ok (.iload_n 3, 1) := by decide +kernel
theorem zd_A5_recover_77 : decode zb_A5_recover 77 = .ok (.invokevirtual 62, 3) := by decide +kernel
theorem zd_A5_recover_80 : decode zb_A5_recover 80 = .ok (.ifCond .eq 125, 3) := by decide +kernel
theorem zd_A5_recover_83 : decode zb_A5_recover 83 = .ok (.aload_n 0, 1) := by decide +kernel
theorem zd_A5_recover_84 : decode zb_A5_recover 84 = .ok (.iload 4, 2) := by decide +kernel
theorem zd_A5_recover_86 : decode zb_A5_recover 86 = .ok (.iload_n 3, 1) := by decide +kernel
theorem zd_A5_recover_87 : decode zb_A5_recover 87 = .ok (.invokevirtual 62, 3) := by decide +kernel
theorem zd_A5_recover_90 : decode zb_A5_recover 90 = .ok (.ifCond .ne 6, 3) := by decide +kernel
theorem zd_A5_recover_93 : decode zb_A5_recover 93 = .ok (.goto 112, 3) := by decide +kernel
theorem zd_A5_recover_96 : decode zb_A5_recover 96 = .ok (.iconst 1, 1) := by decide +kernel
theorem zd_A5_recover_97 : decode zb_A5_recover 97 = .ok (.istore 5, 2) := by decide +kernel
theorem zd_A5_recover_99 : decode zb_A5_recover 99 = .ok (.iconst 0, 1) := by decide +kernel
theorem zd_A5_recover_100 : decode zb_A5_recover 100 = .ok (.istore 6, 2) := by decide +kernel
theorem zd_A5_recover_102 : decode zb_A5_recover 102 = .ok (.iload 6, 2) := by decide +kernel
theorem zd_A5_recover_104 : decode zb_A5_recover 104 = .ok (.sipush 128, 3) := by decide +kernel
theorem zd_A5_recover_107 : decode zb_A5_recover 107 = .ok (.if_icmp .ge 76, 3) := by decide +kernel
theorem zd_A5_recover_110 : decode zb_A5_recover 110 = .ok (.aload_n 0, 1) := by decide +kernel
theorem zd_A5_recover_111 : decode zb_A5_recover 111 = .ok (.getfield 19, 3) := by decide +kernel
theorem zd_A5_recover_114 : decode zb_A5_recover 114 = .ok (.iload 6, 2) := by decide +kernel
theorem zd_A5_recover_116 : decode zb_A5_recover 116 = .ok (.aload_n 0, 1) := by decide +kernel
theorem zd_A5_recover_117 : decode zb_A5_recover 117 = .ok (.getfield 12, 3) := by decide +kernel
theorem zd_A5_recover_120 : decode zb_A5_recover 120 = .ok (.iload_n 2, 1) := by decide +kernel
theorem zd_A5_recover_121 : decode zb_A5_recover 121 = .ok (.iconst 3, 1) := by decide +kernel
theorem zd_A5_recover_122 : decode zb_A5_recover 122 = .ok (.iadd, 1) := by decide +kernel
theorem zd_A5_recover_123 : decode zb_A5_recover 123 = .ok (.iload 6, 2) := by decide +kernel
theorem zd_A5_recover_125 : decode zb_A5_recover 125 = .ok (.iadd, 1) := by decide +kernel
theorem zd_A5_recover_126 : decode zb_A5_recover 126 = .ok (.baload, 1) := by decide +kernel
theorem zd_A5_recover_127 : decode zb_A5_recover 127 = .ok (.aload_n 0, 1) := by decide +kernel
theorem zd_A5_recover_128 : decode zb_A5_recover 128 = .ok (.getfield 12, 3) := by decide +kernel
theorem zd_A5_recover_131 : decode zb_A5_recover 131 = .ok (.iload 4, 2) := by decide +kernel
theorem zd_A5_recover_133 : decode zb_A5_recover 133 = .ok (.iload_n 3, 1) := by decide +kernel
theorem zd_A5_recover_134 : decode zb_A5_recover 134 = .ok (.invokestatic 66, 3) := by decide +kernel
theorem zd_A5_recover_137 : decode zb_A5_recover 137 = .ok (.iload 6, 2) := by decide +kernel
theorem zd_A5_recover_139 : decode zb_A5_recover 139 = .ok (.iadd, 1) := by decide +kernel
theorem zd_A5_recover_140 : decode zb_A5_recover 140 = .ok (.baload, 1) := by decide +kernel
theorem zd_A5_recover_141 : decode zb_A5_recover 141 = .ok (.ixor, 1) := by decide +kernel
theorem zd_A5_recover_142 : decode zb_A5_recover 142 = .ok (.i2b, 1) := by decide +kernel
theorem zd_A5_recover_143 : decode zb_A5_recover 143 = .ok (.bastore, 1) := by decide +kernel
theorem zd_A5_recover_144 : decode zb_A5_recover 144 = .ok (.iload 5, 2) := by decide +kernel
theorem zd_A5_recover_146 : decode zb_A5_recover 146 = .ok (.aload_n 0, 1) := by decide +kernel
theorem zd_A5_recover_147 : decode zb_A5_recover 147 = .ok (.getfield 19, 3) := by decide +kernel
theorem zd_A5_recover_150 : decode zb_A5_recover 150 = .ok (.iload 6, 2) := by decide +kernel
theorem zd_A5_recover_152 : decode zb_A5_recover 152 = .ok (.baload, 1) := by decide +kernel
theorem zd_A5_recover_153 : decode zb_A5_recover 153 = .ok (.aload_n 0, 1) := by decide +kernel
theorem zd_A5_recover_154 : decode zb_A5_recover 154 = .ok (.getfield 12, 3) := by decide +kernel
theorem zd_A5_recover_157 : decode zb_A5_recover 157 = .ok (.iload_n 1, 1) := by decide +kernel
theorem zd_A5_recover_158 : decode zb_A5_recover 158 = .ok (.iload_n 3, 1) := by decide +kernel
theorem zd_A5_recover_159 : decode zb_A5_recover 159 = .ok (.invokestatic 66, 3) := by decide +kernel
theorem zd_A5_recover_162 : decode zb_A5_recover 162 = .ok (.iload 6, 2) := by decide +kernel
theorem zd_A5_recover_164 : decode zb_A5_recover 164 = .ok (.iadd, 1) := by decide +kernel
theorem zd_A5_recover_165 : decode zb_A5_recover 165 = .ok (.baload, 1) := by decide +kernel
theorem zd_A5_recover_166 : decode zb_A5_recover 166 = .ok (.if_icmp .ne 7, 3) := by decide +kernel
theorem zd_A5_recover_169 : decode zb_A5_recover 169 = .ok (.iconst 1, 1) := by decide +kernel
theorem zd_A5_recover_170 : decode zb_A5_recover 170 = .ok (.goto 4, 3) := by decide +kernel
theorem zd_A5_recover_173 : decode zb_A5_recover 173 = .ok (.iconst 0, 1) := by decide +kernel
theorem zd_A5_recover_174 : decode zb_A5_recover 174 = .ok (.iand, 1) := by decide +kernel
theorem zd_A5_recover_175 : decode zb_A5_recover 175 = .ok (.istore 5, 2) := by decide +kernel
theorem zd_A5_recover_177 : decode zb_A5_recover 177 = .ok (.iinc 6 1, 3) := by decide +kernel
theorem zd_A5_recover_180 : decode zb_A5_recover 180 = .ok (.goto (-78), 3) := by decide +kernel
theorem zd_A5_recover_183 : decode zb_A5_recover 183 = .ok (.iload 5, 2) := by decide +kernel
theorem zd_A5_recover_185 : decode zb_A5_recover 185 = .ok (.ifCond .ne 20, 3) := by decide +kernel
theorem zd_A5_recover_188 : decode zb_A5_recover 188 = .ok (.aload_n 0, 1) := by decide +kernel
theorem zd_A5_recover_189 : decode zb_A5_recover 189 = .ok (.iload_n 1, 1) := by decide +kernel
theorem zd_A5_recover_190 : decode zb_A5_recover 190 = .ok (.iload_n 3, 1) := by decide +kernel
theorem zd_A5_recover_191 : decode zb_A5_recover 191 = .ok (.invokestatic 66, 3) := by decide +kernel
theorem zd_A5_recover_194 : decode zb_A5_recover 194 = .ok (.aload_n 0, 1) := by decide +kernel
theorem zd_A5_recover_195 : decode zb_A5_recover 195 = .ok (.getfield 19, 3) := by decide +kernel
theorem zd_A5_recover_198 : decode zb_A5_recover 198 = .ok (.sipush 128, 3) := by decide +kernel
theorem zd_A5_recover_201 : decode zb_A5_recover 201 = .ok (.iconst 0, 1) := by decide +kernel
theorem zd_A5_recover_202 : decode zb_A5_recover 202 = .ok (.invokevirtual 77, 3) := by decide +kernel
theorem zd_A5_recover_205 : decode zb_A5_recover 205 = .ok (.iinc 1 1, 3) := by decide +kernel
theorem zd_A5_recover_208 : decode zb_A5_recover 208 = .ok (.goto (-206), 3) := by decide +kernel
theorem zd_A5_recover_211 : decode zb_A5_recover 211 = .ok (.return_, 1) := by decide +kernel
theorem zd_A5_replace_0 : decode zb_A5_replace 0 = .ok (.aload_n 0, 1) := by decide +kernel
theorem zd_A5_replace_1 : decode zb_A5_replace 1 = .ok (.getfield 25, 3) := by decide +kernel
theorem zd_A5_replace_4 : decode zb_A5_replace 4 = .ok (.iconst 0, 1) := by decide +kernel
theorem zd_A5_replace_5 : decode zb_A5_replace 5 = .ok (.invokestatic 66, 3) := by decide +kernel
theorem zd_A5_replace_8 : decode zb_A5_replace 8 = .ok (.sipush 136, 3) := by decide +kernel
theorem zd_A5_replace_11 : decode zb_A5_replace 11 = .ok (.isub, 1) := by decide +kernel
theorem zd_A5_replace_12 : decode zb_A5_replace 12 = .ok (.istore_n 1, 1) := by decide +kernel
theorem zd_A5_replace_13 : decode zb_A5_replace 13 = .ok (.iload_n 1, 1) := by decide +kernel
theorem zd_A5_replace_14 : decode zb_A5_replace 14 = .ok (.aload_n 0, 1) := by decide +kernel
theorem zd_A5_replace_15 : decode zb_A5_replace 15 = .ok (.getfield 25, 3) := by decide +kernel
theorem zd_A5_replace_18 : decode zb_A5_replace 18 = .ok (.iconst 0, 1) := by decide +kernel
theorem zd_A5_replace_19 : decode zb_A5_replace 19 = .ok (.invokestatic 66, 3) := by decide +kernel
theorem zd_A5_replace_22 : decode zb_A5_replace 22 = .ok (.sipush 19200, 3) := by decide +kernel
theorem zd_A5_replace_25 : decode zb_A5_replace 25 = .ok (.iadd, 1) := by decide +kernel
theorem zd_A5_replace_26 : decode zb_A5_replace 26 = .ok (.if_icmp .ge 16, 3) := by decide +kernel
theorem zd_A5_replace_29 : decode zb_A5_replace 29 = .ok (.aload_n 0, 1) := by decide +kernel
theorem zd_A5_replace_30 : decode zb_A5_replace 30 = .ok (.getfield 12, 3) := by decide +kernel
theorem zd_A5_replace_33 : decode zb_A5_replace 33 = .ok (.iload_n 1, 1) := by decide +kernel
theorem zd_A5_replace_34 : decode zb_A5_replace 34 = .ok (.iconst 0, 1) := by decide +kernel
theorem zd_A5_replace_35 : decode zb_A5_replace 35 = .ok (.bastore, 1) := by decide +kernel
theorem zd_A5_replace_36 : decode zb_A5_replace 36 = .ok (.iinc 1 1, 3) := by decide +kernel
theorem zd_A5_replace_39 : decode zb_A5_replace 39 = .ok (.goto (-26), 3) := by decide +kernel
theorem zd_A5_replace_42 : decode zb_A5_replace 42 = .ok (.aload_n 0, 1) := by decide +kernel
theorem zd_A5_replace_43 : decode zb_A5_replace 43 = .ok (.iconst 1, 1) := by decide +kernel
theorem zd_A5_replace_44 : decode zb_A5_replace 44 = .ok (.putfield 33, 3) := by decide +kernel
theorem zd_A5_replace_47 : decode zb_A5_replace 47 = .ok (.aload_n 0, 1) := by decide +kernel
theorem zd_A5_replace_48 : decode zb_A5_replace 48 = .ok (.iconst 0, 1) := by decide +kernel
theorem zd_A5_replace_49 : decode zb_A5_replace 49 = .ok (.putfield 37, 3) := by decide +kernel
theorem zd_A5_replace_52 : decode zb_A5_replace 52 = .ok (.return_, 1) := by decide +kernel
theorem zd_A5_rebuild_0 : decode zb_A5_rebuild 0 = .ok (.aload_n 0, 1) := by decide +kernel
theorem zd_A5_rebuild_1 : decode zb_A5_rebuild 1 = .ok (.aload_n 0, 1) := by decide +kernel
theorem zd_A5_rebuild_2 : decode zb_A5_rebuild 2 = .ok (.getfield 25, 3) := by decide +kernel
theorem zd_A5_rebuild_5 : decode zb_A5_rebuild 5 = .ok (.aload_n 0, 1) := by decide +kernel
theorem zd_A5_rebuild_6 : decode zb_A5_rebuild 6 = .ok (.getfield 37, 3) := by decide +kernel
theorem zd_A5_rebuild_9 : decode zb_A5_rebuild 9 = .ok (.aload_n 0, 1) := by decide +kernel
theorem zd_A5_rebuild_10 : decode zb_A5_rebuild 10 = .ok (.getfield 16, 3) := by decide +kernel
theorem zd_A5_rebuild_13 : decode zb_A5_rebuild 13 = .ok (.invokevirtual 73, 3) := by decide +kernel
theorem zd_A5_rebuild_16 : decode zb_A5_rebuild 16 = .ok (.aload_n 0, 1) := by decide +kernel
theorem zd_A5_rebuild_17 : decode zb_A5_rebuild 17 = .ok (.getfield 16, 3) := by decide +kernel
theorem zd_A5_rebuild_20 : decode zb_A5_rebuild 20 = .ok (.iconst 0, 1) := by decide +kernel
theorem zd_A5_rebuild_21 : decode zb_A5_rebuild 21 = .ok (.aload_n 0, 1) := by decide +kernel
theorem zd_A5_rebuild_22 : decode zb_A5_rebuild 22 = .ok (.getfield 12, 3) := by decide +kernel
theorem zd_A5_rebuild_25 : decode zb_A5_rebuild 25 = .ok (.aload_n 0, 1) := by decide +kernel
theorem zd_A5_rebuild_26 : decode zb_A5_rebuild 26 = .ok (.getfield 25, 3) := by decide +kernel
theorem zd_A5_rebuild_29 : decode zb_A5_rebuild 29 = .ok (.aload_n 0, 1) := by decide +kernel
theorem zd_A5_rebuild_30 : decode zb_A5_rebuild 30 = .ok (.getfield 37, 3) := by decide +kernel
theorem zd_A5_rebuild_33 : decode zb_A5_rebuild 33 = .ok (.invokestatic 66, 3) := by decide +kernel
theorem zd_A5_rebuild_36 : decode zb_A5_rebuild 36 = .ok (.sipush 128, 3) := by decide +kernel
theorem zd_A5_rebuild_39 : decode zb_A5_rebuild 39 = .ok (.invokestatic 50, 3) := by decide +kernel
theorem zd_A5_rebuild_42 : decode zb_A5_rebuild 42 = .ok (.aload_n 0, 1) := by decide +kernel
theorem zd_A5_rebuild_43 : decode zb_A5_rebuild 43 = .ok (.dup, 1) := by decide +kernel
theorem zd_A5_rebuild_44 : decode zb_A5_rebuild 44 = .ok (.getfield 37, 3) := by decide +kernel
theorem zd_A5_rebuild_47 : decode zb_A5_rebuild 47 = .ok (.iconst 1, 1) := by decide +kernel
theorem zd_A5_rebuild_48 : decode zb_A5_rebuild 48 = .ok (.iadd, 1) := by decide +kernel
theorem zd_A5_rebuild_49 : decode zb_A5_rebuild 49 = .ok (.putfield 37, 3) := by decide +kernel
theorem zd_A5_rebuild_52 : decode zb_A5_rebuild 52 = .ok (.aload_n 0, 1) := by decide +kernel
theorem zd_A5_rebuild_53 : decode zb_A5_rebuild 53 = .ok (.getfield 37, 3) := by decide +kernel
theorem zd_A5_rebuild_56 : decode zb_A5_rebuild 56 = .ok (.sipush 150, 3) := by decide +kernel
theorem zd_A5_rebuild_59 : decode zb_A5_rebuild 59 = .ok (.if_icmp .ge 12, 3) := by decide +kernel
theorem zd_A5_rebuild_62 : decode zb_A5_rebuild 62 = .ok (.sipush 150, 3) := by decide +kernel
theorem zd_A5_rebuild_65 : decode zb_A5_rebuild 65 = .ok (.aload_n 0, 1) := by decide +kernel
theorem zd_A5_rebuild_66 : decode zb_A5_rebuild 66 = .ok (.getfield 37, 3) := by decide +kernel
theorem zd_A5_rebuild_69 : decode zb_A5_rebuild 69 = .ok (.isub, 1) := by decide +kernel
theorem zd_A5_rebuild_70 : decode zb_A5_rebuild 70 = .ok (.ireturn, 1) := by decide +kernel
theorem zd_A5_rebuild_71 : decode zb_A5_rebuild 71 = .ok (.aload_n 0, 1) := by decide +kernel
theorem zd_A5_rebuild_72 : decode zb_A5_rebuild 72 = .ok (.iconst (-1), 1) := by decide +kernel
theorem zd_A5_rebuild_73 : decode zb_A5_rebuild 73 = .ok (.putfield 25, 3) := by decide +kernel
theorem zd_A5_rebuild_76 : decode zb_A5_rebuild 76 = .ok (.aload_n 0, 1) := by decide +kernel
theorem zd_A5_rebuild_77 : decode zb_A5_rebuild 77 = .ok (.iconst 0, 1) := by decide +kernel
theorem zd_A5_rebuild_78 : decode zb_A5_rebuild 78 = .ok (.putfield 33, 3) := by decide +kernel
theorem zd_A5_rebuild_81 : decode zb_A5_rebuild 81 = .ok (.aload_n 0, 1) := by decide +kernel
theorem zd_A5_rebuild_82 : decode zb_A5_rebuild 82 = .ok (.iconst 0, 1) := by decide +kernel
theorem zd_A5_rebuild_83 : decode zb_A5_rebuild 83 = .ok (.putfield 37, 3) := by decide +kernel
theorem zd_A5_rebuild_86 : decode zb_A5_rebuild 86 = .ok (.iconst 0, 1) := by decide +kernel
theorem zd_A5_rebuild_87 : decode zb_A5_rebuild 87 = .ok (.ireturn, 1) := by decide +kernel
theorem zd_A5_wrong_0 : decode zb_A5_wrong 0 = .ok (.iconst 0, 1) := by decide +kernel
theorem zd_A5_wrong_1 : decode zb_A5_wrong 1 = .ok (.istore_n 1, 1) := by decide +kernel
theorem zd_A5_wrong_2 : decode zb_A5_wrong 2 = .ok (.iconst 0, 1) := by decide +kernel
theorem zd_A5_wrong_3 : decode zb_A5_wrong 3 = .ok (.istore_n 2, 1) := by decide +kernel
theorem zd_A5_wrong_4 : decode zb_A5_wrong 4 = .ok (.iload_n 2, 1) := by decide +kernel
theorem zd_A5_wrong_5 : decode zb_A5_wrong 5 = .ok (.sipush 150, 3) := by decide +kernel
theorem zd_A5_wrong_8 : decode zb_A5_wrong 8 = .ok (.if_icmp .ge 93, 3) := by decide +kernel
theorem zd_A5_wrong_11 : decode zb_A5_wrong 11 = .ok (.aload_n 0, 1) := by decide +kernel
theorem zd_A5_wrong_12 : decode zb_A5_wrong 12 = .ok (.getfield 25, 3) := by decide +kernel
theorem zd_A5_wrong_15 : decode zb_A5_wrong 15 = .ok (.ifCond .ge 86, 3) := by decide +kernel
theorem zd_A5_wrong_18 : decode zb_A5_wrong 18 = .ok (.iconst 1, 1) := by decide +kernel
theorem zd_A5_wrong_19 : decode zb_A5_wrong 19 = .ok (.istore_n 3, 1) := by decide +kernel
theorem zd_A5_wrong_20 : decode zb_A5_wrong 20 = .ok (.iconst 0, 1) := by decide +kernel
theorem zd_A5_wrong_21 : decode zb_A5_wrong 21 = .ok (.istore 4, 2) := by decide +kernel
theorem zd_A5_wrong_23 : decode zb_A5_wrong 23 = .ok (.iload 4, 2) := by decide +kernel
theorem zd_A5_wrong_25 : decode zb_A5_wrong 25 = .ok (.sipush 128, 3) := by decide +kernel
theorem zd_A5_wrong_28 : decode zb_A5_wrong 28 = .ok (.if_icmp .ge 60, 3) := by decide +kernel
theorem zd_A5_wrong_31 : decode zb_A5_wrong 31 = .ok (.iconst 0, 1) := by decide +kernel
theorem zd_A5_wrong_32 : decode zb_A5_wrong 32 = .ok (.istore 5, 2) := by decide +kernel
theorem zd_A5_wrong_34 : decode zb_A5_wrong 34 = .ok (.iconst 0, 1) := by decide +kernel
theorem zd_A5_wrong_35 : decode zb_A5_wrong 35 = .ok (.istore 6, 2) := by decide +kernel
theorem zd_A5_wrong_37 : decode zb_A5_wrong 37 = .ok (.iload 6, 2) := by decide +kernel
theorem zd_A5_wrong_39 : decode zb_A5_wrong 39 = .ok (.iconst 5, 1) := by decide +kernel
theorem zd_A5_wrong_40 : decode zb_A5_wrong 40 = .ok (.if_icmp .ge 28, 3) := by decide +kernel
theorem zd_A5_wrong_43 : decode zb_A5_wrong 43 = .ok (.iload 5, 2) := by decide +kernel
theorem zd_A5_wrong_45 : decode zb_A5_wrong 45 = .ok (.aload_n 0, 1) := by decide +kernel
theorem zd_A5_wrong_46 : decode zb_A5_wrong 46 = .ok (.getfield 12, 3) := by decide +kernel
theorem zd_A5_wrong_49 : decode zb_A5_wrong 49 = .ok (.iload 6, 2) := by decide +kernel
theorem zd_A5_wrong_51 : decode zb_A5_wrong 51 = .ok (.iload_n 2, 1) := by decide +kernel
theorem zd_A5_wrong_52 : decode zb_A5_wrong 52 = .ok (.invokestatic 66, 3) := by decide +kernel
theorem zd_A5_wrong_55 : decode zb_A5_wrong 55 = .ok (.iload 4, 2) := by decide +kernel
theorem zd_A5_wrong_57 : decode zb_A5_wrong 57 = .ok (.iadd, 1) := by decide +kernel
theorem zd_A5_wrong_58 : decode zb_A5_wrong 58 = .ok (.baload, 1) := by decide +kernel
theorem zd_A5_wrong_59 : decode zb_A5_wrong 59 = .ok (.ixor, 1) := by decide +kernel
theorem zd_A5_wrong_60 : decode zb_A5_wrong 60 = .ok (.istore 5, 2) := by decide +kernel
theorem zd_A5_wrong_62 : decode zb_A5_wrong 62 = .ok (.iinc 6 1, 3) := by decide +kernel
theorem zd_A5_wrong_65 : decode zb_A5_wrong 65 = .ok (.goto (-28), 3) := by decide +kernel
theorem zd_A5_wrong_68 : decode zb_A5_wrong 68 = .ok (.iload_n 3, 1) := by decide +kernel
theorem zd_A5_wrong_69 : decode zb_A5_wrong 69 = .ok (.iload 5, 2) := by decide +kernel
theorem zd_A5_wrong_71 : decode zb_A5_wrong 71 = .ok (.i2b, 1) := by decide +kernel
theorem zd_A5_wrong_72 : decode zb_A5_wrong 72 = .ok (.ifCond .ne 7, 3) := by decide +kernel
theorem zd_A5_wrong_75 : decode zb_A5_wrong 75 = .ok (.iconst 1, 1) := by decide +kernel
theorem zd_A5_wrong_76 : decode zb_A5_wrong 76 = .ok (.goto 4, 3) := by decide +kernel
theorem zd_A5_wrong_79 : decode zb_A5_wrong 79 = .ok (.iconst 0, 1) := by decide +kernel
theorem zd_A5_wrong_80 : decode zb_A5_wrong 80 = .ok (.iand, 1) := by decide +kernel
theorem zd_A5_wrong_81 : decode zb_A5_wrong 81 = .ok (.istore_n 3, 1) := by decide +kernel
theorem zd_A5_wrong_82 : decode zb_A5_wrong 82 = .ok (.iinc 4 1, 3) := by decide +kernel
theorem zd_A5_wrong_85 : decode zb_A5_wrong 85 = .ok (.goto (-62), 3) := by decide +kernel
theorem zd_A5_wrong_88 : decode zb_A5_wrong 88 = .ok (.iload_n 3, 1) := by decide +kernel
theorem zd_A5_wrong_89 : decode zb_A5_wrong 89 = .ok (.ifCond .ne 6, 3) := by decide +kernel
theorem zd_A5_wrong_92 : decode zb_A5_wrong 92 = .ok (.iinc 1 1, 3) := by decide +kernel
theorem zd_A5_wrong_95 : decode zb_A5_wrong 95 = .ok (.iinc 2 1, 3) := by decide +kernel
theorem zd_A5_wrong_98 : decode zb_A5_wrong 98 = .ok (.goto (-94), 3) := by decide +kernel
theorem zd_A5_wrong_101 : decode zb_A5_wrong 101 = .ok (.iload_n 1, 1) := by decide +kernel
theorem zd_A5_wrong_102 : decode zb_A5_wrong 102 = .ok (.ireturn, 1) := by decide +kernel
theorem zd_Pw_init_0 : decode zb_Pw_init 0 = .ok (.aload_n 0, 1) := by decide +kernel
theorem zd_Pw_init_1 : decode zb_Pw_init 1 = .ok (.invokespecial 1, 3) := by decide +kernel
theorem zd_Pw_init_4 : decode zb_Pw_init 4 = .ok (.aload_n 0, 1) := by decide +kernel
theorem zd_Pw_init_5 : decode zb_Pw_init 5 = .ok (.iconst 4, 1) := by decide +kernel
theorem zd_Pw_init_6 : decode zb_Pw_init 6 = .ok (.putfield 7, 3) := by decide +kernel
theorem zd_Pw_init_9 : decode zb_Pw_init 9 = .ok (.return_, 1) := by decide +kernel
theorem zd_Pw_say_0 : decode zb_Pw_say 0 = .ok (.aload_n 0, 1) := by decide +kernel
theorem zd_Pw_say_1 : decode zb_Pw_say 1 = .ok (.iload_n 1, 1) := by decide +kernel
theorem zd_Pw_say_2 : decode zb_Pw_say 2 = .ok (.putfield 7, 3) := by decide +kernel
theorem zd_Pw_say_5 : decode zb_Pw_say 5 = .ok (.aload_n 0, 1) := by decide +kernel
theorem zd_Pw_say_6 : decode zb_Pw_say 6 = .ok (.iload_n 2, 1) := by decide +kernel
theorem zd_Pw_say_7 : decode zb_Pw_say 7 = .ok (.putfield 13, 3) := by decide +kernel
theorem zd_Pw_say_10 : decode zb_Pw_say 10 = .ok (.aload_n 0, 1) := by decide +kernel
theorem zd_Pw_say_11 : decode zb_Pw_say 11 = .ok (.iload_n 3, 1) := by decide +kernel
theorem zd_Pw_say_12 : decode zb_Pw_say 12 = .ok (.putfield 16, 3) := by decide +kernel
theorem zd_Pw_say_15 : decode zb_Pw_say 15 = .ok (.return_, 1) := by decide +kernel
theorem zd_Pw_begin_0 : decode zb_Pw_begin 0 = .ok (.aload_n 0, 1) := by decide +kernel
theorem zd_Pw_begin_1 : decode zb_Pw_begin 1 = .ok (.aload_n 0, 1) := by decide +kernel
theorem zd_Pw_begin_2 : decode zb_Pw_begin 2 = .ok (.getfield 7, 3) := by decide +kernel
theorem zd_Pw_begin_5 : decode zb_Pw_begin 5 = .ok (.iconst 4, 1) := by decide +kernel
theorem zd_Pw_begin_6 : decode zb_Pw_begin 6 = .ok (.if_icmp .ge 24, 3) := by decide +kernel
theorem zd_Pw_begin_9 : decode zb_Pw_begin 9 = .ok (.iload_n 1, 1) := by decide +kernel
theorem zd_Pw_begin_10 : decode zb_Pw_begin 10 = .ok (.aload_n 0, 1) := by decide +kernel
theorem zd_Pw_begin_11 : decode zb_Pw_begin 11 = .ok (.getfield 7, 3) := by decide +kernel
theorem zd_Pw_begin_14 : decode zb_Pw_begin 14 = .ok (.iconst 3, 1) := by decide +kernel
theorem zd_Pw_begin_15 : decode zb_Pw_begin 15 = .ok (.if_icmp .ne 7, 3) := by decide +kernel
theorem zd_Pw_begin_18 : decode zb_Pw_begin 18 = .ok (.iconst 1, 1) := by decide +kernel
theorem zd_Pw_begin_19 : decode zb_Pw_begin 19 = .ok (.goto 4, 3) := by decide +kernel
theorem zd_Pw_begin_22 : decode zb_Pw_begin 22 = .ok (.iconst 0, 1) := by decide +kernel
theorem zd_Pw_begin_23 : decode zb_Pw_begin 23 = .ok (.if_icmp .ne 7, 3) := by decide +kernel
theorem zd_Pw_begin_26 : decode zb_Pw_begin 26 = .ok (.iconst 1, 1) := by decide +kernel
theorem zd_Pw_begin_27 : decode zb_Pw_begin 27 = .ok (.goto 4, 3) := by decide +kernel
theorem zd_Pw_begin_30 : decode zb_Pw_begin 30 = .ok (.iconst 0, 1) := by decide +kernel
theorem zd_Pw_begin_31 : decode zb_Pw_begin 31 = .ok (.putfield 19, 3) := by decide +kernel
theorem zd_Pw_begin_34 : decode zb_Pw_begin 34 = .ok (.aload_n 0, 1) := by decide +kernel
theorem zd_Pw_begin_35 : decode zb_Pw_begin 35 = .ok (.iconst 0, 1) := by decide +kernel
theorem zd_Pw_begin_36 : decode zb_Pw_begin 36 = .ok (.putfield 23, 3) := by decide +kernel
theorem zd_Pw_begin_39 : decode zb_Pw_begin 39 = .ok (.return_, 1) := by decide +kernel
theorem zd_Pw_write_0 : decode zb_Pw_write 0 = .ok (.aload_n 0, 1) := by decide +kernel
theorem zd_Pw_write_1 : decode zb_Pw_write 1 = .ok (.getfield 19, 3) := by decide +kernel
theorem zd_Pw_write_4 : decode zb_Pw_write 4 = .ok (.ifCond .ne 5, 3) := by decide +kernel
theorem zd_Pw_write_7 : decode zb_Pw_write 7 = .ok (.iconst (-1), 1) := by decide +kernel
theorem zd_Pw_write_8 : decode zb_Pw_write 8 = .ok (.ireturn, 1) := by decide +kernel
theorem zd_Pw_write_9 : decode zb_Pw_write 9 = .ok (.iload_n 1, 1) := by decide +kernel
theorem zd_Pw_write_10 : decode zb_Pw_write 10 = .ok (.ifCond .eq 36, 3) := by decide +kernel
theorem zd_Pw_write_13 : decode zb_Pw_write 13 = .ok (.aload_n 0, 1) := by decide +kernel
theorem zd_Pw_write_14 : decode zb_Pw_write 14 = .ok (.iconst 1, 1) := by decide +kernel
theorem zd_Pw_write_15 : decode zb_Pw_write 15 = .ok (.putfield 23, 3) := by decide +kernel
theorem zd_Pw_write_18 : decode zb_Pw_write 18 = .ok (.aload_n 0, 1) := by decide +kernel
theorem zd_Pw_write_19 : decode zb_Pw_write 19 = .ok (.getfield 7, 3) := by decide +kernel
theorem zd_Pw_write_22 : decode zb_Pw_write 22 = .ok (.ifCond .ne 7, 3) := by decide +kernel
theorem zd_Pw_write_25 : decode zb_Pw_write 25 = .ok (.iconst 0, 1) := by decide +kernel
theorem zd_Pw_write_26 : decode zb_Pw_write 26 = .ok (.goto 19, 3) := by decide +kernel
theorem zd_Pw_write_29 : decode zb_Pw_write 29 = .ok (.aload_n 0, 1) := by decide +kernel
theorem zd_Pw_write_30 : decode zb_Pw_write 30 = .ok (.getfield 7, 3) := by decide +kernel
theorem zd_Pw_write_33 : decode zb_Pw_write 33 = .ok (.iconst 1, 1) := by decide +kernel
theorem zd_Pw_write_34 : decode zb_Pw_write 34 = .ok (.if_icmp .ne 10, 3) := by decide +kernel
theorem zd_Pw_write_37 : decode zb_Pw_write 37 = .ok (.aload_n 0, 1) := by decide +kernel
theorem zd_Pw_write_38 : decode zb_Pw_write 38 = .ok (.getfield 16, 3) := by decide +kernel
theorem zd_Pw_write_41 : decode zb_Pw_write 41 = .ok (.goto 4, 3) := by decide +kernel
theorem zd_Pw_write_44 : decode zb_Pw_write 44 = .ok (.iconst (-1), 1) := by decide +kernel
theorem zd_Pw_write_45 : decode zb_Pw_write 45 = .ok (.ireturn, 1) := by decide +kernel
theorem zd_Pw_write_46 : decode zb_Pw_write 46 = .ok (.aload_n 0, 1) := by decide +kernel
theorem zd_Pw_write_47 : decode zb_Pw_write 47 = .ok (.getfield 7, 3) := by decide +kernel
theorem zd_Pw_write_50 : decode zb_Pw_write 50 = .ok (.iconst 1, 1) := by decide +kernel
theorem zd_Pw_write_51 : decode zb_Pw_write 51 = .ok (.if_icmp .eq 18, 3) := by decide +kernel
theorem zd_Pw_write_54 : decode zb_Pw_write 54 = .ok (.aload_n 0, 1) := by decide +kernel
theorem zd_Pw_write_55 : decode zb_Pw_write 55 = .ok (.getfield 7, 3) := by decide +kernel
theorem zd_Pw_write_58 : decode zb_Pw_write 58 = .ok (.iconst 2, 1) := by decide +kernel
theorem zd_Pw_write_59 : decode zb_Pw_write 59 = .ok (.if_icmp .ne 12, 3) := by decide +kernel
theorem zd_Pw_write_62 : decode zb_Pw_write 62 = .ok (.aload_n 0, 1) := by decide +kernel
theorem zd_Pw_write_63 : decode zb_Pw_write 63 = .ok (.getfield 23, 3) := by decide +kernel
theorem zd_Pw_write_66 : decode zb_Pw_write 66 = .ok (.ifCond .ne 5, 3) := by decide +kernel
theorem zd_Pw_write_69 : decode zb_Pw_write 69 = .ok (.iconst (-1), 1) := by decide +kernel
theorem zd_Pw_write_70 : decode zb_Pw_write 70 = .ok (.ireturn, 1) := by decide +kernel
theorem zd_Pw_write_71 : decode zb_Pw_write 71 = .ok (.aload_n 0, 1) := by decide +kernel
theorem zd_Pw_write_72 : decode zb_Pw_write 72 = .ok (.dup, 1) := by decide +kernel
theorem zd_Pw_write_73 : decode zb_Pw_write 73 = .ok (.getfield 13, 3) := by decide +kernel
theorem zd_Pw_write_76 : decode zb_Pw_write 76 = .ok (.dup_x1, 1) := by decide +kernel
theorem zd_Pw_write_77 : decode zb_Pw_write 77 = .ok (.iconst 1, 1) := by decide +kernel
theorem zd_Pw_write_78 : decode zb_Pw_write 78 = .ok (.isub, 1) := by decide +kernel
theorem zd_Pw_write_79 : decode zb_Pw_write 79 = .ok (.putfield 13, 3) := by decide +kernel
theorem zd_Pw_write_82 : decode zb_Pw_write 82 = .ok (.ifCond .ne 10, 3) := by decide +kernel
theorem zd_Pw_write_85 : decode zb_Pw_write 85 = .ok (.aload_n 0, 1) := by decide +kernel
theorem zd_Pw_write_86 : decode zb_Pw_write 86 = .ok (.getfield 16, 3) := by decide +kernel
theorem zd_Pw_write_89 : decode zb_Pw_write 89 = .ok (.goto 4, 3) := by decide +kernel
theorem zd_Pw_write_92 : decode zb_Pw_write 92 = .ok (.iconst (-1), 1) := by decide +kernel
theorem zd_Pw_write_93 : decode zb_Pw_write 93 = .ok (.ireturn, 1) := by decide +kernel
end
section
/-! decode rows, printed by tools/mk_dec.py -/
theorem zd_PA_init_0 : decode zb_PA_init 0 = .ok (.aload_n 0, 1) := by decide +kernel
theorem zd_PA_init_1 : decode zb_PA_init 1 = .ok (.invokespecial 1, 3) := by decide +kernel
theorem zd_PA_init_4 : decode zb_PA_init 4 = .ok (.aload_n 0, 1) := by decide +kernel
theorem zd_PA_init_5 : decode zb_PA_init 5 = .ok (.new 7, 3) := by decide +kernel
theorem zd_PA_init_8 : decode zb_PA_init 8 = .ok (.dup, 1) := by decide +kernel
theorem zd_PA_init_9 : decode zb_PA_init 9 = .ok (.invokespecial 9, 3) := by decide +kernel
theorem zd_PA_init_12 : decode zb_PA_init 12 = .ok (.putfield 10, 3) := by decide +kernel
theorem zd_PA_init_15 : decode zb_PA_init 15 = .ok (.aload_n 0, 1) := by decide +kernel
theorem zd_PA_init_16 : decode zb_PA_init 16 = .ok (.new 16, 3) := by decide +kernel
theorem zd_PA_init_19 : decode zb_PA_init 19 = .ok (.dup, 1) := by decide +kernel
theorem zd_PA_init_20 : decode zb_PA_init 20 = .ok (.aload_n 0, 1) := by decide +kernel
theorem zd_PA_init_21 : decode zb_PA_init 21 = .ok (.getfield 10, 3) := by decide +kernel
theorem zd_PA_init_24 : decode zb_PA_init 24 = .ok (.invokespecial 18, 3) := by decide +kernel
theorem zd_PA_init_27 : decode zb_PA_init 27 = .ok (.putfield 21, 3) := by decide +kernel
theorem zd_PA_init_30 : decode zb_PA_init 30 = .ok (.aload_n 0, 1) := by decide +kernel
theorem zd_PA_init_31 : decode zb_PA_init 31 = .ok (.sipush 128, 3) := by decide +kernel
theorem zd_PA_init_34 : decode zb_PA_init 34 = .ok (.newarray .byte, 2) := by decide +kernel
theorem zd_PA_init_36 : decode zb_PA_init 36 = .ok (.putfield 25, 3) := by decide +kernel
theorem zd_PA_init_39 : decode zb_PA_init 39 = .ok (.return_, 1) := by decide +kernel
theorem zd_PA_at_0 : decode zb_PA_at 0 = .ok (.iload_n 0, 1) := by decide +kernel
theorem zd_PA_at_1 : decode zb_PA_at 1 = .ok (.ifCond .ne 11, 3) := by decide +kernel
theorem zd_PA_at_4 : decode zb_PA_at 4 = .ok (.new 29, 3) := by decide +kernel
theorem zd_PA_at_7 : decode zb_PA_at 7 = .ok (.dup, 1) := by decide +kernel
theorem zd_PA_at_8 : decode zb_PA_at 8 = .ok (.invokespecial 31, 3) := by decide +kernel
theorem zd_PA_at_11 : decode zb_PA_at 11 = .ok (.athrow, 1) := by decide +kernel
theorem zd_PA_at_12 : decode zb_PA_at 12 = .ok (.return_, 1) := by decide +kernel
theorem zd_PA_state_0 : decode zb_PA_state 0 = .ok (.iload_n 0, 1) := by decide +kernel
theorem zd_PA_state_1 : decode zb_PA_state 1 = .ok (.ifCond .ne 11, 3) := by decide +kernel
theorem zd_PA_state_4 : decode zb_PA_state 4 = .ok (.new 32, 3) := by decide +kernel
theorem zd_PA_state_7 : decode zb_PA_state 7 = .ok (.dup, 1) := by decide +kernel
theorem zd_PA_state_8 : decode zb_PA_state 8 = .ok (.invokespecial 34, 3) := by decide +kernel
theorem zd_PA_state_11 : decode zb_PA_state 11 = .ok (.athrow, 1) := by decide +kernel
theorem zd_PA_state_12 : decode zb_PA_state 12 = .ok (.return_, 1) := by decide +kernel
theorem zd_PA_get_0 : decode zb_PA_get 0 = .ok (.aload_n 0, 1) := by decide +kernel
theorem zd_PA_get_1 : decode zb_PA_get 1 = .ok (.getfield 35, 3) := by decide +kernel
theorem zd_PA_get_4 : decode zb_PA_get 4 = .ok (.ifCond .ne 7, 3) := by decide +kernel
theorem zd_PA_get_7 : decode zb_PA_get 7 = .ok (.iconst 1, 1) := by decide +kernel
theorem zd_PA_get_8 : decode zb_PA_get 8 = .ok (.goto 4, 3) := by decide +kernel
theorem zd_PA_get_11 : decode zb_PA_get 11 = .ok (.iconst 0, 1) := by decide +kernel
theorem zd_PA_get_12 : decode zb_PA_get 12 = .ok (.invokestatic 39, 3) := by decide +kernel
theorem zd_PA_get_15 : decode zb_PA_get 15 = .ok (.iload_n 1, 1) := by decide +kernel
theorem zd_PA_get_16 : decode zb_PA_get 16 = .ok (.ifCond .lt 24, 3) := by decide +kernel
theorem zd_PA_get_19 : decode zb_PA_get 19 = .ok (.iload_n 1, 1) := by decide +kernel
theorem zd_PA_get_20 : decode zb_PA_get 20 = .ok (.sipush 600, 3) := by decide +kernel
theorem zd_PA_get_23 : decode zb_PA_get 23 = .ok (.if_icmp .ge 17, 3) := by decide +kernel
theorem zd_PA_get_26 : decode zb_PA_get 26 = .ok (.iload_n 2, 1) := by decide +kernel
theorem zd_PA_get_27 : decode zb_PA_get 27 = .ok (.ifCond .lt 13, 3) := by decide +kernel
theorem zd_PA_get_30 : decode zb_PA_get 30 = .ok (.iload_n 2, 1) := by decide +kernel
theorem zd_PA_get_31 : decode zb_PA_get 31 = .ok (.bipush 16, 2) := by decide +kernel
theorem zd_PA_get_33 : decode zb_PA_get 33 = .ok (.if_icmp .ge 7, 3) := by decide +kernel
theorem zd_PA_get_36 : decode zb_PA_get 36 = .ok (.iconst 1, 1) := by decide +kernel
theorem zd_PA_get_37 : decode zb_PA_get 37 = .ok (.goto 4, 3) := by decide +kernel
theorem zd_PA_get_40 : decode zb_PA_get 40 = .ok (.iconst 0, 1) := by decide +kernel
theorem zd_PA_get_41 : decode zb_PA_get 41 = .ok (.invokestatic 43, 3) := by decide +kernel
theorem zd_PA_get_44 : decode zb_PA_get 44 = .ok (.aload_n 0, 1) := by decide +kernel
theorem zd_PA_get_45 : decode zb_PA_get 45 = .ok (.getfield 21, 3) := by decide +kernel
theorem zd_PA_get_48 : decode zb_PA_get 48 = .ok (.iload_n 1, 1) := by decide +kernel
theorem zd_PA_get_49 : decode zb_PA_get 49 = .ok (.aload_n 0, 1) := by decide +kernel
theorem zd_PA_get_50 : decode zb_PA_get 50 = .ok (.getfield 25, 3) := by decide +kernel
theorem zd_PA_get_53 : decode zb_PA_get 53 = .ok (.invokevirtual 46, 3) := by decide +kernel
theorem zd_PA_get_56 : decode zb_PA_get 56 = .ok (.lconst 0, 1) := by decide +kernel
theorem zd_PA_get_57 : decode zb_PA_get 57 = .ok (.lstore_n 3, 1) := by decide +kernel
theorem zd_PA_get_58 : decode zb_PA_get 58 = .ok (.iconst 0, 1) := by decide +kernel
theorem zd_PA_get_59 : decode zb_PA_get 59 = .ok (.istore 5, 2) := by decide +kernel
theorem zd_PA_get_61 : decode zb_PA_get 61 = .ok (.iload 5, 2) := by decide +kernel
theorem zd_PA_get_63 : decode zb_PA_get 63 = .ok (.bipush 8, 2) := by decide +kernel
theorem zd_PA_get_65 : decode zb_PA_get 65 = .ok (.if_icmp .ge 32, 3) := by decide +kernel
theorem zd_PA_get_68 : decode zb_PA_get 68 = .ok (.lload_n 3, 1) := by decide +kernel
theorem zd_PA_get_69 : decode zb_PA_get 69 = .ok (.bipush 8, 2) := by decide +kernel
theorem zd_PA_get_71 : decode zb_PA_get 71 = .ok (.lshl, 1) := by decide +kernel
theorem zd_PA_get_72 : decode zb_PA_get 72 = .ok (.aload_n 0, 1) := by decide +kernel
theorem zd_PA_get_73 : decode zb_PA_get 73 = .ok (.getfield 25, 3) := by decide +kernel
theorem zd_PA_get_76 : decode zb_PA_get 76 = .ok (.bipush 8, 2) := by decide +kernel
theorem zd_PA_get_78 : decode zb_PA_get 78 = .ok (.iload_n 2, 1) := by decide +kernel
theorem zd_PA_get_79 : decode zb_PA_get 79 = .ok (.imul, 1) := by decide +kernel
theorem zd_PA_get_80 : decode zb_PA_get 80 = .ok (.iload 5, 2) := by decide +kernel
theorem zd_PA_get_82 : decode zb_PA_get 82 = .ok (.iadd, 1) := by decide +kernel
theorem zd_PA_get_83 : decode zb_PA_get 83 = .ok (.baload, 1) := by decide +kernel
theorem zd_PA_get_84 : decode zb_PA_get 84 = .ok (.sipush 255, 3) := by decide +kernel
theorem zd_PA_get_87 : decode zb_PA_get 87 = .ok (.iand, 1) := by decide +kernel
theorem zd_PA_get_88 : decode zb_PA_get 88 = .ok (.i2l, 1) := by decide +kernel
theorem zd_PA_get_89 : decode zb_PA_get 89 = .ok (.lor, 1) := by decide +kernel
theorem zd_PA_get_90 : decode zb_PA_get 90 = .ok (.lstore_n 3, 1) := by decide +kernel
theorem zd_PA_get_91 : decode zb_PA_get 91 = .ok (.iinc 5 1, 3) := by decide +kernel
theorem zd_PA_get_94 : decode zb_PA_get 94 = .ok (.goto (-33), 3) := by decide +kernel
theorem zd_PA_get_97 : decode zb_PA_get 97 = .ok (.lload_n 3, 1) := by decide +kernel
theorem zd_PA_get_98 : decode zb_PA_get 98 = .ok (.lreturn, 1) := by decide +kernel
theorem zd_PA_set_0 : decode zb_PA_set 0 = .ok (.aload_n 0, 1) := by decide +kernel
theorem zd_PA_set_1 : decode zb_PA_set 1 = .ok (.iload_n 1, 1) := by decide +kernel
theorem zd_PA_set_2 : decode zb_PA_set 2 = .ok (.iload_n 2, 1) := by decide +kernel
theorem zd_PA_set_3 : decode zb_PA_set 3 = .ok (.invokevirtual 50, 3) := by decide +kernel
theorem zd_PA_set_6 : decode zb_PA_set 6 = .ok (.lstore 5, 2) := by decide +kernel
theorem zd_PA_set_8 : decode zb_PA_set 8 = .ok (.iconst 0, 1) := by decide +kernel
theorem zd_PA_set_9 : decode zb_PA_set 9 = .ok (.istore 7, 2) := by decide +kernel
theorem zd_PA_set_11 : decode zb_PA_set 11 = .ok (.iload 7, 2) := by decide +kernel
theorem zd_PA_set_13 : decode zb_PA_set 13 = .ok (.bipush 8, 2) := by decide +kernel
theorem zd_PA_set_15 : decode zb_PA_set 15 = .ok (.if_icmp .ge 33, 3) := by decide +kernel
theorem zd_PA_set_18 : decode zb_PA_set 18 = .ok (.aload_n 0, 1) := by decide +kernel
theorem zd_PA_set_19 : decode zb_PA_set 19 = .ok (.getfield 25, 3) := by decide +kernel
theorem zd_PA_set_22 : decode zb_PA_set 22 = .ok (.bipush 8, 2) := by decide +kernel
theorem zd_PA_set_24 : decode zb_PA_set 24 = .ok (.iload_n 2, 1) := by decide +kernel
theorem zd_PA_set_25 : decode zb_PA_set 25 = .ok (.imul, 1) := by decide +kernel
theorem zd_PA_set_26 : decode zb_PA_set 26 = .ok (.iload 7, 2) := by decide +kernel
theorem zd_PA_set_28 : decode zb_PA_set 28 = .ok (.iadd, 1) := by decide +kernel
theorem zd_PA_set_29 : decode zb_PA_set 29 = .ok (.lload_n 3, 1) := by decide +kernel
theorem zd_PA_set_30 : decode zb_PA_set 30 = .ok (.bipush 56, 2) := by decide +kernel
theorem zd_PA_set_32 : decode zb_PA_set 32 = .ok (.bipush 8, 2) := by decide +kernel
theorem zd_PA_set_34 : decode zb_PA_set 34 = .ok (.iload 7, 2) := by decide +kernel
theorem zd_PA_set_36 : decode zb_PA_set 36 = .ok (.imul, 1) := by decide +kernel
theorem zd_PA_set_37 : decode zb_PA_set 37 = .ok (.isub, 1) := by decide +kernel
theorem zd_PA_set_38 : decode zb_PA_set 38 = .ok (.lshr, 1) := by decide +kernel
theorem zd_PA_set_39 : decode zb_PA_set 39 = .ok (.l2i, 1) := by decide +kernel
theorem zd_PA_set_40 : decode zb_PA_set 40 = .ok (.i2b, 1) := by decide +kernel
theorem zd_PA_set_41 : decode zb_PA_set 41 = .ok (.bastore, 1) := by decide +kernel
theorem zd_PA_set_42 : decode zb_PA_set 42 = .ok (.iinc 7 1, 3) := by decide +kernel
theorem zd_PA_set_45 : decode zb_PA_set 45 = .ok (.goto (-34), 3) := by decide +kernel
theorem zd_PA_set_48 : decode zb_PA_set 48 = .ok (.aload_n 0, 1) := by decide +kernel
theorem zd_PA_set_49 : decode zb_PA_set 49 = .ok (.getfield 10, 3) := by decide +kernel
theorem zd_PA_set_52 : decode zb_PA_set 52 = .ok (.iconst 0, 1) := by decide +kernel
theorem zd_PA_set_53 : decode zb_PA_set 53 = .ok (.invokevirtual 54, 3) := by decide +kernel
theorem zd_PA_set_56 : decode zb_PA_set 56 = .ok (.aload_n 0, 1) := by decide +kernel
theorem zd_PA_set_57 : decode zb_PA_set 57 = .ok (.getfield 10, 3) := by decide +kernel
theorem zd_PA_set_60 : decode zb_PA_set 60 = .ok (.getfield 57, 3) := by decide +kernel
theorem zd_PA_set_63 : decode zb_PA_set 63 = .ok (.istore 7, 2) := by decide +kernel
theorem zd_PA_set_65 : decode zb_PA_set 65 = .ok (.aload_n 0, 1) := by decide +kernel
theorem zd_PA_set_66 : decode zb_PA_set 66 = .ok (.getfield 21, 3) := by decide +kernel
theorem zd_PA_set_69 : decode zb_PA_set 69 = .ok (.iload_n 1, 1) := by decide +kernel
theorem zd_PA_set_70 : decode zb_PA_set 70 = .ok (.aload_n 0, 1) := by decide +kernel
theorem zd_PA_set_71 : decode zb_PA_set 71 = .ok (.getfield 25, 3) := by decide +kernel
theorem zd_PA_set_74 : decode zb_PA_set 74 = .ok (.iconst 0, 1) := by decide +kernel
theorem zd_PA_set_75 : decode zb_PA_set 75 = .ok (.invokevirtual 60, 3) := by decide +kernel
theorem zd_PA_set_78 : decode zb_PA_set 78 = .ok (.goto 26, 3) := by decide +kernel
theorem zd_PA_set_81 : decode zb_PA_set 81 = .ok (.astore 8, 2) := by decide +kernel
theorem zd_PA_set_83 : decode zb_PA_set 83 = .ok (.aload_n 0, 1) := by decide +kernel
theorem zd_PA_set_84 : decode zb_PA_set 84 = .ok (.getfield 10, 3) := by decide +kernel
theorem zd_PA_set_87 : decode zb_PA_set 87 = .ok (.iconst 4, 1) := by decide +kernel
theorem zd_PA_set_88 : decode zb_PA_set 88 = .ok (.putfield 66, 3) := by decide +kernel
theorem zd_PA_set_91 : decode zb_PA_set 91 = .ok (.aload_n 0, 1) := by decide +kernel
theorem zd_PA_set_92 : decode zb_PA_set 92 = .ok (.iconst 1, 1) := by decide +kernel
theorem zd_PA_set_93 : decode zb_PA_set 93 = .ok (.putfield 35, 3) := by decide +kernel
theorem zd_PA_set_96 : decode zb_PA_set 96 = .ok (.new 64, 3) := by decide +kernel
theorem zd_PA_set_99 : decode zb_PA_set 99 = .ok (.dup, 1) := by decide +kernel
theorem zd_PA_set_100 : decode zb_PA_set 100 = .ok (.invokespecial 70, 3) := by decide +kernel
theorem zd_PA_set_103 : decode zb_PA_set 103 = .ok (.athrow, 1) := by decide +kernel
theorem zd_PA_set_104 : decode zb_PA_set 104 = .ok (.iload 7, 2) := by decide +kernel
theorem zd_PA_set_106 : decode zb_PA_set 106 = .ok (.ifCond .ne 6, 3) := by decide +kernel
theorem zd_PA_set_109 : decode zb_PA_set 109 = .ok (.lload 5, 2) := by decide +kernel
theorem zd_PA_set_111 : decode zb_PA_set 111 = .ok (.lreturn, 1) := by decide +kernel
theorem zd_PA_set_112 : decode zb_PA_set 112 = .ok (.aload_n 0, 1) := by decide +kernel
theorem zd_PA_set_113 : decode zb_PA_set 113 = .ok (.getfield 10, 3) := by decide +kernel
theorem zd_PA_set_116 : decode zb_PA_set 116 = .ok (.iconst 4, 1) := by decide +kernel
theorem zd_PA_set_117 : decode zb_PA_set 117 = .ok (.putfield 66, 3) := by decide +kernel
theorem zd_PA_set_120 : decode zb_PA_set 120 = .ok (.aload_n 0, 1) := by decide +kernel
theorem zd_PA_set_121 : decode zb_PA_set 121 = .ok (.iconst 1, 1) := by decide +kernel
theorem zd_PA_set_122 : decode zb_PA_set 122 = .ok (.putfield 35, 3) := by decide +kernel
theorem zd_PA_set_125 : decode zb_PA_set 125 = .ok (.new 64, 3) := by decide +kernel
theorem zd_PA_set_128 : decode zb_PA_set 128 = .ok (.dup, 1) := by decide +kernel
theorem zd_PA_set_129 : decode zb_PA_set 129 = .ok (.invokespecial 70, 3) := by decide +kernel
theorem zd_PA_set_132 : decode zb_PA_set 132 = .ok (.athrow, 1) := by decide +kernel
theorem zd_PA_die_0 : decode zb_PA_die 0 = .ok (.iload_n 1, 1) := by decide +kernel
theorem zd_PA_die_1 : decode zb_PA_die 1 = .ok (.ifCond .lt 12, 3) := by decide +kernel
theorem zd_PA_die_4 : decode zb_PA_die 4 = .ok (.iload_n 1, 1) := by decide +kernel
theorem zd_PA_die_5 : decode zb_PA_die 5 = .ok (.iconst 5, 1) := by decide +kernel
theorem zd_PA_die_6 : decode zb_PA_die 6 = .ok (.if_icmp .ge 7, 3) := by decide +kernel
theorem zd_PA_die_9 : decode zb_PA_die 9 = .ok (.iconst 1, 1) := by decide +kernel
theorem zd_PA_die_10 : decode zb_PA_die 10 = .ok (.goto 4, 3) := by decide +kernel
theorem zd_PA_die_13 : decode zb_PA_die 13 = .ok (.iconst 0, 1) := by decide +kernel
theorem zd_PA_die_14 : decode zb_PA_die 14 = .ok (.invokestatic 43, 3) := by decide +kernel
theorem zd_PA_die_17 : decode zb_PA_die 17 = .ok (.aload_n 0, 1) := by decide +kernel
theorem zd_PA_die_18 : decode zb_PA_die 18 = .ok (.getfield 35, 3) := by decide +kernel
theorem zd_PA_die_21 : decode zb_PA_die 21 = .ok (.ifCond .ne 17, 3) := by decide +kernel
theorem zd_PA_die_24 : decode zb_PA_die 24 = .ok (.aload_n 0, 1) := by decide +kernel
theorem zd_PA_die_25 : decode zb_PA_die 25 = .ok (.getfield 21, 3) := by decide +kernel
theorem zd_PA_die_28 : decode zb_PA_die 28 = .ok (.getfield 71, 3) := by decide +kernel
theorem zd_PA_die_31 : decode zb_PA_die 31 = .ok (.ifCond .ge 7, 3) := by decide +kernel
theorem zd_PA_die_34 : decode zb_PA_die 34 = .ok (.iconst 1, 1) := by decide +kernel
theorem zd_PA_die_35 : decode zb_PA_die 35 = .ok (.goto 4, 3) := by decide +kernel
theorem zd_PA_die_38 : decode zb_PA_die 38 = .ok (.iconst 0, 1) := by decide +kernel
theorem zd_PA_die_39 : decode zb_PA_die 39 = .ok (.invokestatic 39, 3) := by decide +kernel
theorem zd_PA_die_42 : decode zb_PA_die 42 = .ok (.aload_n 0, 1) := by decide +kernel
theorem zd_PA_die_43 : decode zb_PA_die 43 = .ok (.getfield 21, 3) := by decide +kernel
theorem zd_PA_die_46 : decode zb_PA_die 46 = .ok (.iload_n 1, 1) := by decide +kernel
theorem zd_PA_die_47 : decode zb_PA_die 47 = .ok (.putfield 71, 3) := by decide +kernel
theorem zd_PA_die_50 : decode zb_PA_die 50 = .ok (.return_, 1) := by decide +kernel
theorem zd_PA_replace_0 : decode zb_PA_replace 0 = .ok (.aload_n 0, 1) := by decide +kernel
theorem zd_PA_replace_1 : decode zb_PA_replace 1 = .ok (.getfield 21, 3) := by decide +kernel
theorem zd_PA_replace_4 : decode zb_PA_replace 4 = .ok (.getfield 71, 3) := by decide +kernel
theorem zd_PA_replace_7 : decode zb_PA_replace 7 = .ok (.ifCond .lt 17, 3) := by decide +kernel
theorem zd_PA_replace_10 : decode zb_PA_replace 10 = .ok (.aload_n 0, 1) := by decide +kernel
theorem zd_PA_replace_11 : decode zb_PA_replace 11 = .ok (.getfield 21, 3) := by decide +kernel
theorem zd_PA_replace_14 : decode zb_PA_replace 14 = .ok (.getfield 74, 3) := by decide +kernel
theorem zd_PA_replace_17 : decode zb_PA_replace 17 = .ok (.ifCond .ne 7, 3) := by decide +kernel
theorem zd_PA_replace_20 : decode zb_PA_replace 20 = .ok (.iconst 1, 1) := by decide +kernel
theorem zd_PA_replace_21 : decode zb_PA_replace 21 = .ok (.goto 4, 3) := by decide +kernel
theorem zd_PA_replace_24 : decode zb_PA_replace 24 = .ok (.iconst 0, 1) := by decide +kernel
theorem zd_PA_replace_25 : decode zb_PA_replace 25 = .ok (.invokestatic 39, 3) := by decide +kernel
theorem zd_PA_replace_28 : decode zb_PA_replace 28 = .ok (.aload_n 0, 1) := by decide +kernel
theorem zd_PA_replace_29 : decode zb_PA_replace 29 = .ok (.getfield 21, 3) := by decide +kernel
theorem zd_PA_replace_32 : decode zb_PA_replace 32 = .ok (.invokevirtual 77, 3) := by decide +kernel
theorem zd_PA_replace_35 : decode zb_PA_replace 35 = .ok (.aload_n 0, 1) := by decide +kernel
theorem zd_PA_replace_36 : decode zb_PA_replace 36 = .ok (.getfield 21, 3) := by decide +kernel
theorem zd_PA_replace_39 : decode zb_PA_replace 39 = .ok (.getfield 71, 3) := by decide +kernel
theorem zd_PA_replace_42 : decode zb_PA_replace 42 = .ok (.ireturn, 1) := by decide +kernel
theorem zd_PA_rebuild_0 : decode zb_PA_rebuild 0 = .ok (.aload_n 0, 1) := by decide +kernel
theorem zd_PA_rebuild_1 : decode zb_PA_rebuild 1 = .ok (.getfield 35, 3) := by decide +kernel
theorem zd_PA_rebuild_4 : decode zb_PA_rebuild 4 = .ok (.ifCond .ne 17, 3) := by decide +kernel
theorem zd_PA_rebuild_7 : decode zb_PA_rebuild 7 = .ok (.aload_n 0, 1) := by decide +kernel
theorem zd_PA_rebuild_8 : decode zb_PA_rebuild 8 = .ok (.getfield 21, 3) := by decide +kernel
theorem zd_PA_rebuild_11 : decode zb_PA_rebuild 11 = .ok (.getfield 74, 3) := by decide +kernel
theorem zd_PA_rebuild_14 : decode zb_PA_rebuild 14 = .ok (.ifCond .eq 7, 3) := by decide +kernel
theorem zd_PA_rebuild_17 : decode zb_PA_rebuild 17 = .ok (.iconst 1, 1) := by decide +kernel
theorem zd_PA_rebuild_18 : decode zb_PA_rebuild 18 = .ok (.goto 4, 3) := by decide +kernel
theorem zd_PA_rebuild_21 : decode zb_PA_rebuild 21 = .ok (.iconst 0, 1) := by decide +kernel
theorem zd_PA_rebuild_22 : decode zb_PA_rebuild 22 = .ok (.invokestatic 39, 3) := by decide +kernel
theorem zd_PA_rebuild_25 : decode zb_PA_rebuild 25 = .ok (.aload_n 0, 1) := by decide +kernel
theorem zd_PA_rebuild_26 : decode zb_PA_rebuild 26 = .ok (.getfield 21, 3) := by decide +kernel
theorem zd_PA_rebuild_29 : decode zb_PA_rebuild 29 = .ok (.invokevirtual 80, 3) := by decide +kernel
theorem zd_PA_rebuild_32 : decode zb_PA_rebuild 32 = .ok (.ireturn, 1) := by decide +kernel
theorem zd_PA_power_0 : decode zb_PA_power 0 = .ok (.iload_n 1, 1) := by decide +kernel
theorem zd_PA_power_1 : decode zb_PA_power 1 = .ok (.ifCond .lt 20, 3) := by decide +kernel
theorem zd_PA_power_4 : decode zb_PA_power 4 = .ok (.iload_n 1, 1) := by decide +kernel
theorem zd_PA_power_5 : decode zb_PA_power 5 = .ok (.bipush 10, 2) := by decide +kernel
theorem zd_PA_power_7 : decode zb_PA_power 7 = .ok (.if_icmp .gt 14, 3) := by decide +kernel
theorem zd_PA_power_10 : decode zb_PA_power 10 = .ok (.iload_n 2, 1) := by decide +kernel
theorem zd_PA_power_11 : decode zb_PA_power 11 = .ok (.ifCond .lt 10, 3) := by decide +kernel
theorem zd_PA_power_14 : decode zb_PA_power 14 = .ok (.iload_n 2, 1) := by decide +kernel
theorem zd_PA_power_15 : decode zb_PA_power 15 = .ok (.sipush 200, 3) := by decide +kernel
theorem zd_PA_power_18 : decode zb_PA_power 18 = .ok (.if_icmp .le 11, 3) := by decide +kernel
theorem zd_PA_power_21 : decode zb_PA_power 21 = .ok (.new 84, 3) := by decide +kernel
theorem zd_PA_power_24 : decode zb_PA_power 24 = .ok (.dup, 1) := by decide +kernel
theorem zd_PA_power_25 : decode zb_PA_power 25 = .ok (.invokespecial 86, 3) := by decide +kernel
theorem zd_PA_power_28 : decode zb_PA_power 28 = .ok (.athrow, 1) := by decide +kernel
theorem zd_PA_power_29 : decode zb_PA_power 29 = .ok (.aload_n 0, 1) := by decide +kernel
theorem zd_PA_power_30 : decode zb_PA_power 30 = .ok (.getfield 10, 3) := by decide +kernel
theorem zd_PA_power_33 : decode zb_PA_power 33 = .ok (.iload_n 3, 1) := by decide +kernel
theorem zd_PA_power_34 : decode zb_PA_power 34 = .ok (.ifCond .eq 7, 3) := by decide +kernel
theorem zd_PA_power_37 : decode zb_PA_power 37 = .ok (.iconst 3, 1) := by decide +kernel
theorem zd_PA_power_38 : decode zb_PA_power 38 = .ok (.goto 4, 3) := by decide +kernel
theorem zd_PA_power_41 : decode zb_PA_power 41 = .ok (.iconst 0, 1) := by decide +kernel
theorem zd_PA_power_42 : decode zb_PA_power 42 = .ok (.iload_n 1, 1) := by decide +kernel
theorem zd_PA_power_43 : decode zb_PA_power 43 = .ok (.iload_n 2, 1) := by decide +kernel
theorem zd_PA_power_44 : decode zb_PA_power 44 = .ok (.invokevirtual 87, 3) := by decide +kernel
theorem zd_PA_power_47 : decode zb_PA_power 47 = .ok (.return_, 1) := by decide +kernel
theorem zd_PA_recover_0 : decode zb_PA_recover 0 = .ok (.aload_n 0, 1) := by decide +kernel
theorem zd_PA_recover_1 : decode zb_PA_recover 1 = .ok (.getfield 10, 3) := by decide +kernel
theorem zd_PA_recover_4 : decode zb_PA_recover 4 = .ok (.iconst 1, 1) := by decide +kernel
theorem zd_PA_recover_5 : decode zb_PA_recover 5 = .ok (.invokevirtual 54, 3) := by decide +kernel
theorem zd_PA_recover_8 : decode zb_PA_recover 8 = .ok (.aload_n 0, 1) := by decide +kernel
theorem zd_PA_recover_9 : decode zb_PA_recover 9 = .ok (.getfield 10, 3) := by decide +kernel
theorem zd_PA_recover_12 : decode zb_PA_recover 12 = .ok (.getfield 57, 3) := by decide +kernel
theorem zd_PA_recover_15 : decode zb_PA_recover 15 = .ok (.istore_n 1, 1) := by decide +kernel
theorem zd_PA_recover_16 : decode zb_PA_recover 16 = .ok (.aload_n 0, 1) := by decide +kernel
theorem zd_PA_recover_17 : decode zb_PA_recover 17 = .ok (.iconst 1, 1) := by decide +kernel
theorem zd_PA_recover_18 : decode zb_PA_recover 18 = .ok (.putfield 35, 3) := by decide +kernel
theorem zd_PA_recover_21 : decode zb_PA_recover 21 = .ok (.aload_n 0, 1) := by decide +kernel
theorem zd_PA_recover_22 : decode zb_PA_recover 22 = .ok (.getfield 21, 3) := by decide +kernel
theorem zd_PA_recover_25 : decode zb_PA_recover 25 = .ok (.invokevirtual 91, 3) := by decide +kernel
theorem zd_PA_recover_28 : decode zb_PA_recover 28 = .ok (.goto 20, 3) := by decide +kernel
theorem zd_PA_recover_31 : decode zb_PA_recover 31 = .ok (.astore_n 2, 1) := by decide +kernel
theorem zd_PA_recover_32 : decode zb_PA_recover 32 = .ok (.aload_n 0, 1) := by decide +kernel
theorem zd_PA_recover_33 : decode zb_PA_recover 33 = .ok (.getfield 10, 3) := by decide +kernel
theorem zd_PA_recover_36 : decode zb_PA_recover 36 = .ok (.iconst 4, 1) := by decide +kernel
theorem zd_PA_recover_37 : decode zb_PA_recover 37 = .ok (.putfield 66, 3) := by decide +kernel
theorem zd_PA_recover_40 : decode zb_PA_recover 40 = .ok (.new 64, 3) := by decide +kernel
theorem zd_PA_recover_43 : decode zb_PA_recover 43 = .ok (.dup, 1) := by decide +kernel
theorem zd_PA_recover_44 : decode zb_PA_recover 44 = .ok (.invokespecial 70, 3) := by decide +kernel
theorem zd_PA_recover_47 : decode zb_PA_recover 47 = .ok (.athrow, 1) := by decide +kernel
theorem zd_PA_recover_48 : decode zb_PA_recover 48 = .ok (.aload_n 0, 1) := by decide +kernel
theorem zd_PA_recover_49 : decode zb_PA_recover 49 = .ok (.getfield 10, 3) := by decide +kernel
theorem zd_PA_recover_52 : decode zb_PA_recover 52 = .ok (.iconst 4, 1) := by decide +kernel
theorem zd_PA_recover_53 : decode zb_PA_recover 53 = .ok (.putfield 66, 3) := by decide +kernel
theorem zd_PA_recover_56 : decode zb_PA_recover 56 = .ok (.iload_n 1, 1) := by decide +kernel
theorem zd_PA_recover_57 : decode zb_PA_recover 57 = .ok (.ifCond .eq 11, 3) := by decide +kernel
theorem zd_PA_recover_60 : decode zb_PA_recover 60 = .ok (.new 64, 3) := by decide +kernel
theorem zd_PA_recover_63 : decode zb_PA_recover 63 = .ok (.dup, 1) := by decide +kernel
theorem zd_PA_recover_64 : decode zb_PA_recover 64 = .ok (.invokespecial 70, 3) := by decide +kernel
theorem zd_PA_recover_67 : decode zb_PA_recover 67 = .ok (.athrow, 1) := by decide +kernel
theorem zd_PA_recover_68 : decode zb_PA_recover 68 = .ok (.aload_n 0, 1) := by decide +kernel
theorem zd_PA_recover_69 : decode zb_PA_recover 69 = .ok (.getfield 10, 3) := by decide +kernel
theorem zd_PA_recover_72 : decode zb_PA_recover 72 = .ok (.iconst 0, 1) := by decide +kernel
theorem zd_PA_recover_73 : decode zb_PA_recover 73 = .ok (.putfield 57, 3) := by decide +kernel
theorem zd_PA_recover_76 : decode zb_PA_recover 76 = .ok (.aload_n 0, 1) := by decide +kernel
theorem zd_PA_recover_77 : decode zb_PA_recover 77 = .ok (.iconst 0, 1) := by decide +kernel
theorem zd_PA_recover_78 : decode zb_PA_recover 78 = .ok (.putfield 35, 3) := by decide +kernel
theorem zd_PA_recover_81 : decode zb_PA_recover 81 = .ok (.return_, 1) := by decide +kernel
theorem zd_PA_told_0 : decode zb_PA_told 0 = .ok (.iload_n 1, 1) := by decide +kernel
theorem zd_PA_told_1 : decode zb_PA_told 1 = .ok (.tableswitch 76 0 3 #[31, 44, 52, 68], 31) := by decide +kernel
theorem zd_PA_told_32 : decode zb_PA_told 32 = .ok (.aload_n 0, 1) := by decide +kernel
theorem zd_PA_told_33 : decode zb_PA_told 33 = .ok (.getfield 35, 3) := by decide +kernel
theorem zd_PA_told_36 : decode zb_PA_told 36 = .ok (.ifCond .eq 7, 3) := by decide +kernel
theorem zd_PA_told_39 : decode zb_PA_told 39 = .ok (.iconst 0, 1) := by decide +kernel
theorem zd_PA_told_40 : decode zb_PA_told 40 = .ok (.goto 4, 3) := by decide +kernel
theorem zd_PA_told_43 : decode zb_PA_told 43 = .ok (.iconst 1, 1) := by decide +kernel
theorem zd_PA_told_44 : decode zb_PA_told 44 = .ok (.ireturn, 1) := by decide +kernel
theorem zd_PA_told_45 : decode zb_PA_told 45 = .ok (.aload_n 0, 1) := by decide +kernel
theorem zd_PA_told_46 : decode zb_PA_told 46 = .ok (.getfield 21, 3) := by decide +kernel
theorem zd_PA_told_49 : decode zb_PA_told 49 = .ok (.getfield 71, 3) := by decide +kernel
theorem zd_PA_told_52 : decode zb_PA_told 52 = .ok (.ireturn, 1) := by decide +kernel
theorem zd_PA_told_53 : decode zb_PA_told 53 = .ok (.aload_n 0, 1) := by decide +kernel
theorem zd_PA_told_54 : decode zb_PA_told 54 = .ok (.getfield 21, 3) := by decide +kernel
theorem zd_PA_told_57 : decode zb_PA_told 57 = .ok (.getfield 74, 3) := by decide +kernel
theorem zd_PA_told_60 : decode zb_PA_told 60 = .ok (.ifCond .eq 7, 3) := by decide +kernel
theorem zd_PA_told_63 : decode zb_PA_told 63 = .ok (.iconst 1, 1) := by decide +kernel
theorem zd_PA_told_64 : decode zb_PA_told 64 = .ok (.goto 4, 3) := by decide +kernel
theorem zd_PA_told_67 : decode zb_PA_told 67 = .ok (.iconst 0, 1) := by decide +kernel
theorem zd_PA_told_68 : decode zb_PA_told 68 = .ok (.ireturn, 1) := by decide +kernel
theorem zd_PA_told_69 : decode zb_PA_told 69 = .ok (.aload_n 0, 1) := by decide +kernel
theorem zd_PA_told_70 : decode zb_PA_told 70 = .ok (.getfield 21, 3) := by decide +kernel
theorem zd_PA_told_73 : decode zb_PA_told 73 = .ok (.getfield 94, 3) := by decide +kernel
theorem zd_PA_told_76 : decode zb_PA_told 76 = .ok (.ireturn, 1) := by decide +kernel
theorem zd_PA_told_77 : decode zb_PA_told 77 = .ok (.new 84, 3) := by decide +kernel
theorem zd_PA_told_80 : decode zb_PA_told 80 = .ok (.dup, 1) := by decide +kernel
theorem zd_PA_told_81 : decode zb_PA_told 81 = .ok (.invokespecial 86, 3) := by decide +kernel
theorem zd_PA_told_84 : decode zb_PA_told 84 = .ok (.athrow, 1) := by decide +kernel
theorem zd_PA_check_0 : decode zb_PA_check 0 = .ok (.aload_n 0, 1) := by decide +kernel
theorem zd_PA_check_1 : decode zb_PA_check 1 = .ok (.getfield 35, 3) := by decide +kernel
theorem zd_PA_check_4 : decode zb_PA_check 4 = .ok (.ifCond .ne 7, 3) := by decide +kernel
theorem zd_PA_check_7 : decode zb_PA_check 7 = .ok (.iconst 1, 1) := by decide +kernel
theorem zd_PA_check_8 : decode zb_PA_check 8 = .ok (.goto 4, 3) := by decide +kernel
theorem zd_PA_check_11 : decode zb_PA_check 11 = .ok (.iconst 0, 1) := by decide +kernel
theorem zd_PA_check_12 : decode zb_PA_check 12 = .ok (.invokestatic 39, 3) := by decide +kernel
theorem zd_PA_check_15 : decode zb_PA_check 15 = .ok (.aload_n 0, 1) := by decide +kernel
theorem zd_PA_check_16 : decode zb_PA_check 16 = .ok (.getfield 21, 3) := by decide +kernel
theorem zd_PA_check_19 : decode zb_PA_check 19 = .ok (.invokevirtual 97, 3) := by decide +kernel
theorem zd_PA_check_22 : decode zb_PA_check 22 = .ok (.ireturn, 1) := by decide +kernel
theorem zd_Mo_init_0 : decode zb_Mo_init 0 = .ok (.aload_n 0, 1) := by decide +kernel
theorem zd_Mo_init_1 : decode zb_Mo_init 1 = .ok (.invokespecial 1, 3) := by decide +kernel
theorem zd_Mo_init_4 : decode zb_Mo_init 4 = .ok (.aload_n 0, 1) := by decide +kernel
theorem zd_Mo_init_5 : decode zb_Mo_init 5 = .ok (.ldc 7, 2) := by decide +kernel
theorem zd_Mo_init_7 : decode zb_Mo_init 7 = .ok (.newarray .byte, 2) := by decide +kernel
theorem zd_Mo_init_9 : decode zb_Mo_init 9 = .ok (.putfield 8, 3) := by decide +kernel
theorem zd_Mo_init_12 : decode zb_Mo_init 12 = .ok (.aload_n 0, 1) := by decide +kernel
theorem zd_Mo_init_13 : decode zb_Mo_init 13 = .ok (.iconst 1, 1) := by decide +kernel
theorem zd_Mo_init_14 : decode zb_Mo_init 14 = .ok (.putfield 14, 3) := by decide +kernel
theorem zd_Mo_init_17 : decode zb_Mo_init 17 = .ok (.aload_n 0, 1) := by decide +kernel
theorem zd_Mo_init_18 : decode zb_Mo_init 18 = .ok (.iconst (-1), 1) := by decide +kernel
theorem zd_Mo_init_19 : decode zb_Mo_init 19 = .ok (.putfield 18, 3) := by decide +kernel
theorem zd_Mo_init_22 : decode zb_Mo_init 22 = .ok (.return_, 1) := by decide +kernel
theorem zd_Mo_thrown_0 : decode zb_Mo_thrown 0 = .ok (.aload_n 0, 1) := by decide +kernel
theorem zd_Mo_thrown_1 : decode zb_Mo_thrown 1 = .ok (.getfield 22, 3) := by decide +kernel
theorem zd_Mo_thrown_4 : decode zb_Mo_thrown 4 = .ok (.ireturn, 1) := by decide +kernel
theorem zd_Mo_fails_0 : decode zb_Mo_fails 0 = .ok (.aload_n 0, 1) := by decide +kernel
theorem zd_Mo_fails_1 : decode zb_Mo_fails 1 = .ok (.iload_n 1, 1) := by decide +kernel
theorem zd_Mo_fails_2 : decode zb_Mo_fails 2 = .ok (.putfield 22, 3) := by decide +kernel
theorem zd_Mo_fails_5 : decode zb_Mo_fails 5 = .ok (.iconst 0, 1) := by decide +kernel
theorem zd_Mo_fails_6 : decode zb_Mo_fails 6 = .ok (.ireturn, 1) := by decide +kernel
theorem zd_Mo_isThere_0 : decode zb_Mo_isThere 0 = .ok (.iload_n 1, 1) := by decide +kernel
theorem zd_Mo_isThere_1 : decode zb_Mo_isThere 1 = .ok (.aload_n 0, 1) := by decide +kernel
theorem zd_Mo_isThere_2 : decode zb_Mo_isThere 2 = .ok (.getfield 18, 3) := by decide +kernel
theorem zd_Mo_isThere_5 : decode zb_Mo_isThere 5 = .ok (.if_icmp .ne 18, 3) := by decide +kernel
theorem zd_Mo_isThere_8 : decode zb_Mo_isThere 8 = .ok (.aload_n 0, 1) := by decide +kernel
theorem zd_Mo_isThere_9 : decode zb_Mo_isThere 9 = .ok (.getfield 25, 3) := by decide +kernel
theorem zd_Mo_isThere_12 : decode zb_Mo_isThere 12 = .ok (.ifCond .eq 15, 3) := by decide +kernel
theorem zd_Mo_isThere_15 : decode zb_Mo_isThere 15 = .ok (.iload_n 2, 1) := by decide +kernel
theorem zd_Mo_isThere_16 : decode zb_Mo_isThere 16 = .ok (.aload_n 0, 1) := by decide +kernel
theorem zd_Mo_isThere_17 : decode zb_Mo_isThere 17 = .ok (.getfield 28, 3) := by decide +kernel
theorem zd_Mo_isThere_20 : decode zb_Mo_isThere 20 = .ok (.if_icmp .ge 7, 3) := by decide +kernel
theorem zd_Mo_isThere_23 : decode zb_Mo_isThere 23 = .ok (.iconst 1, 1) := by decide +kernel
theorem zd_Mo_isThere_24 : decode zb_Mo_isThere 24 = .ok (.goto 4, 3) := by decide +kernel
theorem zd_Mo_isThere_27 : decode zb_Mo_isThere 27 = .ok (.iconst 0, 1) := by decide +kernel
theorem zd_Mo_isThere_28 : decode zb_Mo_isThere 28 = .ok (.ireturn, 1) := by decide +kernel
theorem zd_Mo_fresh_0 : decode zb_Mo_fresh 0 = .ok (.iload_n 1, 1) := by decide +kernel
theorem zd_Mo_fresh_1 : decode zb_Mo_fresh 1 = .ok (.iconst 4, 1) := by decide +kernel
theorem zd_Mo_fresh_2 : decode zb_Mo_fresh 2 = .ok (.idiv, 1) := by decide +kernel
theorem zd_Mo_fresh_3 : decode zb_Mo_fresh 3 = .ok (.istore_n 2, 1) := by decide +kernel
theorem zd_Mo_fresh_4 : decode zb_Mo_fresh 4 = .ok (.aload_n 0, 1) := by decide +kernel
theorem zd_Mo_fresh_5 : decode zb_Mo_fresh 5 = .ok (.iload_n 2, 1) := by decide +kernel
theorem zd_Mo_fresh_6 : decode zb_Mo_fresh 6 = .ok (.iconst 5, 1) := by decide +kernel
theorem zd_Mo_fresh_7 : decode zb_Mo_fresh 7 = .ok (.irem, 1) := by decide +kernel
theorem zd_Mo_fresh_8 : decode zb_Mo_fresh 8 = .ok (.iload_n 2, 1) := by decide +kernel
theorem zd_Mo_fresh_9 : decode zb_Mo_fresh 9 = .ok (.invokevirtual 31, 3) := by decide +kernel
theorem zd_Mo_fresh_12 : decode zb_Mo_fresh 12 = .ok (.ifCond .eq 7, 3) := by decide +kernel
theorem zd_Mo_fresh_15 : decode zb_Mo_fresh 15 = .ok (.iconst 1, 1) := by decide +kernel
theorem zd_Mo_fresh_16 : decode zb_Mo_fresh 16 = .ok (.goto 4, 3) := by decide +kernel
theorem zd_Mo_fresh_19 : decode zb_Mo_fresh 19 = .ok (.iconst 0, 1) := by decide +kernel
theorem zd_Mo_fresh_20 : decode zb_Mo_fresh 20 = .ok (.istore_n 3, 1) := by decide +kernel
theorem zd_Mo_fresh_21 : decode zb_Mo_fresh 21 = .ok (.aload_n 0, 1) := by decide +kernel
theorem zd_Mo_fresh_22 : decode zb_Mo_fresh 22 = .ok (.getfield 35, 3) := by decide +kernel
theorem zd_Mo_fresh_25 : decode zb_Mo_fresh 25 = .ok (.iload_n 3, 1) := by decide +kernel
theorem zd_Mo_fresh_26 : decode zb_Mo_fresh 26 = .ok (.if_icmp .ge 5, 3) := by decide +kernel
theorem zd_Mo_fresh_29 : decode zb_Mo_fresh 29 = .ok (.iconst 0, 1) := by decide +kernel
theorem zd_Mo_fresh_30 : decode zb_Mo_fresh 30 = .ok (.ireturn, 1) := by decide +kernel
theorem zd_Mo_fresh_31 : decode zb_Mo_fresh 31 = .ok (.aload_n 0, 1) := by decide +kernel
theorem zd_Mo_fresh_32 : decode zb_Mo_fresh 32 = .ok (.getfield 35, 3) := by decide +kernel
theorem zd_Mo_fresh_35 : decode zb_Mo_fresh 35 = .ok (.iload_n 3, 1) := by decide +kernel
theorem zd_Mo_fresh_36 : decode zb_Mo_fresh 36 = .ok (.if_icmp .le 7, 3) := by decide +kernel
theorem zd_Mo_fresh_39 : decode zb_Mo_fresh 39 = .ok (.sipush 128, 3) := by decide +kernel
theorem zd_Mo_fresh_42 : decode zb_Mo_fresh 42 = .ok (.ireturn, 1) := by decide +kernel
theorem zd_Mo_fresh_43 : decode zb_Mo_fresh 43 = .ok (.aload_n 0, 1) := by decide +kernel
theorem zd_Mo_fresh_44 : decode zb_Mo_fresh 44 = .ok (.getfield 38, 3) := by decide +kernel
theorem zd_Mo_fresh_47 : decode zb_Mo_fresh 47 = .ok (.sipush 128, 3) := by decide +kernel
theorem zd_Mo_fresh_50 : decode zb_Mo_fresh 50 = .ok (.if_icmp .ge 10, 3) := by decide +kernel
theorem zd_Mo_fresh_53 : decode zb_Mo_fresh 53 = .ok (.aload_n 0, 1) := by decide +kernel
theorem zd_Mo_fresh_54 : decode zb_Mo_fresh 54 = .ok (.getfield 38, 3) := by decide +kernel
theorem zd_Mo_fresh_57 : decode zb_Mo_fresh 57 = .ok (.goto 6, 3) := by decide +kernel
theorem zd_Mo_fresh_60 : decode zb_Mo_fresh 60 = .ok (.sipush 128, 3) := by decide +kernel
theorem zd_Mo_fresh_63 : decode zb_Mo_fresh 63 = .ok (.ireturn, 1) := by decide +kernel
theorem zd_Mo_read_0 : decode zb_Mo_read 0 = .ok (.lconst 0, 1) := by decide +kernel
theorem zd_Mo_read_1 : decode zb_Mo_read 1 = .ok (.lstore_n 2, 1) := by decide +kernel
theorem zd_Mo_read_2 : decode zb_Mo_read 2 = .ok (.iconst 0, 1) := by decide +kernel
theorem zd_Mo_read_3 : decode zb_Mo_read 3 = .ok (.istore 4, 2) := by decide +kernel
theorem zd_Mo_read_5 : decode zb_Mo_read 5 = .ok (.iload 4, 2) := by decide +kernel
theorem zd_Mo_read_7 : decode zb_Mo_read 7 = .ok (.bipush 8, 2) := by decide +kernel
theorem zd_Mo_read_9 : decode zb_Mo_read 9 = .ok (.if_icmp .ge 29, 3) := by decide +kernel
theorem zd_Mo_read_12 : decode zb_Mo_read 12 = .ok (.lload_n 2, 1) := by decide +kernel
theorem zd_Mo_read_13 : decode zb_Mo_read 13 = .ok (.bipush 8, 2) := by decide +kernel
theorem zd_Mo_read_15 : decode zb_Mo_read 15 = .ok (.lshl, 1) := by decide +kernel
theorem zd_Mo_read_16 : decode zb_Mo_read 16 = .ok (.aload_n 0, 1) := by decide +kernel
theorem zd_Mo_read_17 : decode zb_Mo_read 17 = .ok (.getfield 8, 3) := by decide +kernel
theorem zd_Mo_read_20 : decode zb_Mo_read 20 = .ok (.iload_n 1, 1) := by decide +kernel
theorem zd_Mo_read_21 : decode zb_Mo_read 21 = .ok (.iload 4, 2) := by decide +kernel
theorem zd_Mo_read_23 : decode zb_Mo_read 23 = .ok (.iadd, 1) := by decide +kernel
theorem zd_Mo_read_24 : decode zb_Mo_read 24 = .ok (.baload, 1) := by decide +kernel
theorem zd_Mo_read_25 : decode zb_Mo_read 25 = .ok (.sipush 255, 3) := by decide +kernel
theorem zd_Mo_read_28 : decode zb_Mo_read 28 = .ok (.iand, 1) := by decide +kernel
theorem zd_Mo_read_29 : decode zb_Mo_read 29 = .ok (.i2l, 1) := by decide +kernel
theorem zd_Mo_read_30 : decode zb_Mo_read 30 = .ok (.lor, 1) := by decide +kernel
theorem zd_Mo_read_31 : decode zb_Mo_read 31 = .ok (.lstore_n 2, 1) := by decide +kernel
theorem zd_Mo_read_32 : decode zb_Mo_read 32 = .ok (.iinc 4 1, 3) := by decide +kernel
theorem zd_Mo_read_35 : decode zb_Mo_read 35 = .ok (.goto (-30), 3) := by decide +kernel
theorem zd_Mo_read_38 : decode zb_Mo_read 38 = .ok (.lload_n 2, 1) := by decide +kernel
theorem zd_Mo_read_39 : decode zb_Mo_read 39 = .ok (.lreturn, 1) := by decide +kernel
theorem zd_Mo_set_0 : decode zb_Mo_set 0 = .ok (.aload_n 0, 1) := by decide +kernel
theorem zd_Mo_set_1 : decode zb_Mo_set 1 = .ok (.getfield 14, 3) := by decide +kernel
theorem zd_Mo_set_4 : decode zb_Mo_set 4 = .ok (.ifCond .ne 10, 3) := by decide +kernel
theorem zd_Mo_set_7 : decode zb_Mo_set 7 = .ok (.aload_n 0, 1) := by decide +kernel
theorem zd_Mo_set_8 : decode zb_Mo_set 8 = .ok (.iconst 1, 1) := by decide +kernel
theorem zd_Mo_set_9 : decode zb_Mo_set 9 = .ok (.invokevirtual 41, 3) := by decide +kernel
theorem zd_Mo_set_12 : decode zb_Mo_set 12 = .ok (.i2l, 1) := by decide +kernel
theorem zd_Mo_set_13 : decode zb_Mo_set 13 = .ok (.lreturn, 1) := by decide +kernel
theorem zd_Mo_set_14 : decode zb_Mo_set 14 = .ok (.iload_n 1, 1) := by decide +kernel
theorem zd_Mo_set_15 : decode zb_Mo_set 15 = .ok (.ifCond .lt 20, 3) := by decide +kernel
theorem zd_Mo_set_18 : decode zb_Mo_set 18 = .ok (.iload_n 1, 1) := by decide +kernel
theorem zd_Mo_set_19 : decode zb_Mo_set 19 = .ok (.sipush 600, 3) := by decide +kernel
theorem zd_Mo_set_22 : decode zb_Mo_set 22 = .ok (.if_icmp .ge 13, 3) := by decide +kernel
theorem zd_Mo_set_25 : decode zb_Mo_set 25 = .ok (.iload_n 2, 1) := by decide +kernel
theorem zd_Mo_set_26 : decode zb_Mo_set 26 = .ok (.ifCond .lt 9, 3) := by decide +kernel
theorem zd_Mo_set_29 : decode zb_Mo_set 29 = .ok (.iload_n 2, 1) := by decide +kernel
theorem zd_Mo_set_30 : decode zb_Mo_set 30 = .ok (.bipush 16, 2) := by decide +kernel
theorem zd_Mo_set_32 : decode zb_Mo_set 32 = .ok (.if_icmp .lt 10, 3) := by decide +kernel
theorem zd_Mo_set_35 : decode zb_Mo_set 35 = .ok (.aload_n 0, 1) := by decide +kernel
theorem zd_Mo_set_36 : decode zb_Mo_set 36 = .ok (.iconst 2, 1) := by decide +kernel
theorem zd_Mo_set_37 : decode zb_Mo_set 37 = .ok (.invokevirtual 41, 3) := by decide +kernel
theorem zd_Mo_set_40 : decode zb_Mo_set 40 = .ok (.i2l, 1) := by decide +kernel
theorem zd_Mo_set_41 : decode zb_Mo_set 41 = .ok (.lreturn, 1) := by decide +kernel
theorem zd_Mo_set_42 : decode zb_Mo_set 42 = .ok (.iload_n 1, 1) := by decide +kernel
theorem zd_Mo_set_43 : decode zb_Mo_set 43 = .ok (.sipush 128, 3) := by decide +kernel
theorem zd_Mo_set_46 : decode zb_Mo_set 46 = .ok (.imul, 1) := by decide +kernel
theorem zd_Mo_set_47 : decode zb_Mo_set 47 = .ok (.bipush 8, 2) := by decide +kernel
theorem zd_Mo_set_49 : decode zb_Mo_set 49 = .ok (.iload_n 2, 1) := by decide +kernel
theorem zd_Mo_set_50 : decode zb_Mo_set 50 = .ok (.imul, 1) := by decide +kernel
theorem zd_Mo_set_51 : decode zb_Mo_set 51 = .ok (.iadd, 1) := by decide +kernel
theorem zd_Mo_set_52 : decode zb_Mo_set 52 = .ok (.istore 5, 2) := by decide +kernel
theorem zd_Mo_set_54 : decode zb_Mo_set 54 = .ok (.aload_n 0, 1) := by decide +kernel
theorem zd_Mo_set_55 : decode zb_Mo_set 55 = .ok (.iload 5, 2) := by decide +kernel
theorem zd_Mo_set_57 : decode zb_Mo_set 57 = .ok (.invokevirtual 45, 3) := by decide +kernel
theorem zd_Mo_set_60 : decode zb_Mo_set 60 = .ok (.lstore 6, 2) := by decide +kernel
theorem zd_Mo_set_62 : decode zb_Mo_set 62 = .ok (.aload_n 0, 1) := by decide +kernel
theorem zd_Mo_set_63 : decode zb_Mo_set 63 = .ok (.getfield 49, 3) := by decide +kernel
theorem zd_Mo_set_66 : decode zb_Mo_set 66 = .ok (.iconst 1, 1) := by decide +kernel
theorem zd_Mo_set_67 : decode zb_Mo_set 67 = .ok (.if_icmp .ne 7, 3) := by decide +kernel
theorem zd_Mo_set_70 : decode zb_Mo_set 70 = .ok (.iconst 1, 1) := by decide +kernel
theorem zd_Mo_set_71 : decode zb_Mo_set 71 = .ok (.goto 4, 3) := by decide +kernel
theorem zd_Mo_set_74 : decode zb_Mo_set 74 = .ok (.iconst 0, 1) := by decide +kernel
theorem zd_Mo_set_75 : decode zb_Mo_set 75 = .ok (.istore 8, 2) := by decide +kernel
theorem zd_Mo_set_77 : decode zb_Mo_set 77 = .ok (.iload 8, 2) := by decide +kernel
theorem zd_Mo_set_79 : decode zb_Mo_set 79 = .ok (.ifCond .eq 11, 3) := by decide +kernel
theorem zd_Mo_set_82 : decode zb_Mo_set 82 = .ok (.aload_n 0, 1) := by decide +kernel
theorem zd_Mo_set_83 : decode zb_Mo_set 83 = .ok (.iload_n 1, 1) := by decide +kernel
theorem zd_Mo_set_84 : decode zb_Mo_set 84 = .ok (.invokevirtual 51, 3) := by decide +kernel
theorem zd_Mo_set_87 : decode zb_Mo_set 87 = .ok (.goto 6, 3) := by decide +kernel
theorem zd_Mo_set_90 : decode zb_Mo_set 90 = .ok (.sipush 128, 3) := by decide +kernel
theorem zd_Mo_set_93 : decode zb_Mo_set 93 = .ok (.istore 9, 2) := by decide +kernel
theorem zd_Mo_set_95 : decode zb_Mo_set 95 = .ok (.iconst 0, 1) := by decide +kernel
theorem zd_Mo_set_96 : decode zb_Mo_set 96 = .ok (.istore 10, 2) := by decide +kernel
theorem zd_Mo_set_98 : decode zb_Mo_set 98 = .ok (.iload 10, 2) := by decide +kernel
theorem zd_Mo_set_100 : decode zb_Mo_set 100 = .ok (.bipush 8, 2) := by decide +kernel
theorem zd_Mo_set_102 : decode zb_Mo_set 102 = .ok (.if_icmp .ge 43, 3) := by decide +kernel
theorem zd_Mo_set_105 : decode zb_Mo_set 105 = .ok (.bipush 8, 2) := by decide +kernel
theorem zd_Mo_set_107 : decode zb_Mo_set 107 = .ok (.iload_n 2, 1) := by decide +kernel
theorem zd_Mo_set_108 : decode zb_Mo_set 108 = .ok (.imul, 1) := by decide +kernel
theorem zd_Mo_set_109 : decode zb_Mo_set 109 = .ok (.iload 10, 2) := by decide +kernel
theorem zd_Mo_set_111 : decode zb_Mo_set 111 = .ok (.iadd, 1) := by decide +kernel
theorem zd_Mo_set_112 : decode zb_Mo_set 112 = .ok (.iload 9, 2) := by decide +kernel
theorem zd_Mo_set_114 : decode zb_Mo_set 114 = .ok (.if_icmp .ge 25, 3) := by decide +kernel
theorem zd_Mo_set_117 : decode zb_Mo_set 117 = .ok (.aload_n 0, 1) := by decide +kernel
theorem zd_Mo_set_118 : decode zb_Mo_set 118 = .ok (.getfield 8, 3) := by decide +kernel
theorem zd_Mo_set_121 : decode zb_Mo_set 121 = .ok (.iload 5, 2) := by decide +kernel
theorem zd_Mo_set_123 : decode zb_Mo_set 123 = .ok (.iload 10, 2) := by decide +kernel
theorem zd_Mo_set_125 : decode zb_Mo_set 125 = .ok (.iadd, 1) := by decide +kernel
theorem zd_Mo_set_126 : decode zb_Mo_set 126 = .ok (.lload_n 3, 1) := by decide +kernel
theorem zd_Mo_set_127 : decode zb_Mo_set 127 = .ok (.bipush 56, 2) := by decide +kernel
theorem zd_Mo_set_129 : decode zb_Mo_set 129 = .ok (.bipush 8, 2) := by decide +kernel
theorem zd_Mo_set_131 : decode zb_Mo_set 131 = .ok (.iload 10, 2) := by decide +kernel
theorem zd_Mo_set_133 : decode zb_Mo_set 133 = .ok (.imul, 1) := by decide +kernel
theorem zd_Mo_set_134 : decode zb_Mo_set 134 = .ok (.isub, 1) := by decide +kernel
theorem zd_Mo_set_135 : decode zb_Mo_set 135 = .ok (.lshr, 1) := by decide +kernel
theorem zd_Mo_set_136 : decode zb_Mo_set 136 = .ok (.l2i, 1) := by decide +kernel
theorem zd_Mo_set_137 : decode zb_Mo_set 137 = .ok (.i2b, 1) := by decide +kernel
theorem zd_Mo_set_138 : decode zb_Mo_set 138 = .ok (.bastore, 1) := by decide +kernel
theorem zd_Mo_set_139 : decode zb_Mo_set 139 = .ok (.iinc 10 1, 3) := by decide +kernel
theorem zd_Mo_set_142 : decode zb_Mo_set 142 = .ok (.goto (-44), 3) := by decide +kernel
theorem zd_Mo_set_145 : decode zb_Mo_set 145 = .ok (.aload_n 0, 1) := by decide +kernel
theorem zd_Mo_set_146 : decode zb_Mo_set 146 = .ok (.iload 8, 2) := by decide +kernel
theorem zd_Mo_set_148 : decode zb_Mo_set 148 = .ok (.ifCond .eq 7, 3) := by decide +kernel
theorem zd_Mo_set_151 : decode zb_Mo_set 151 = .ok (.iconst 3, 1) := by decide +kernel
theorem zd_Mo_set_152 : decode zb_Mo_set 152 = .ok (.goto 4, 3) := by decide +kernel
theorem zd_Mo_set_155 : decode zb_Mo_set 155 = .ok (.iconst 0, 1) := by decide +kernel
theorem zd_Mo_set_156 : decode zb_Mo_set 156 = .ok (.putfield 22, 3) := by decide +kernel
theorem zd_Mo_set_159 : decode zb_Mo_set 159 = .ok (.iload 8, 2) := by decide +kernel
theorem zd_Mo_set_161 : decode zb_Mo_set 161 = .ok (.ifCond .ne 6, 3) := by decide +kernel
theorem zd_Mo_set_164 : decode zb_Mo_set 164 = .ok (.lload 6, 2) := by decide +kernel
theorem zd_Mo_set_166 : decode zb_Mo_set 166 = .ok (.lreturn, 1) := by decide +kernel
theorem zd_Mo_set_167 : decode zb_Mo_set 167 = .ok (.aload_n 0, 1) := by decide +kernel
theorem zd_Mo_set_168 : decode zb_Mo_set 168 = .ok (.iconst 0, 1) := by decide +kernel
theorem zd_Mo_set_169 : decode zb_Mo_set 169 = .ok (.putfield 49, 3) := by decide +kernel
theorem zd_Mo_set_172 : decode zb_Mo_set 172 = .ok (.aload_n 0, 1) := by decide +kernel
theorem zd_Mo_set_173 : decode zb_Mo_set 173 = .ok (.iconst 0, 1) := by decide +kernel
theorem zd_Mo_set_174 : decode zb_Mo_set 174 = .ok (.putfield 14, 3) := by decide +kernel
theorem zd_Mo_set_177 : decode zb_Mo_set 177 = .ok (.lconst 0, 1) := by decide +kernel
theorem zd_Mo_set_178 : decode zb_Mo_set 178 = .ok (.lreturn, 1) := by decide +kernel
theorem zd_Mo_get_0 : decode zb_Mo_get 0 = .ok (.aload_n 0, 1) := by decide +kernel
theorem zd_Mo_get_1 : decode zb_Mo_get 1 = .ok (.getfield 14, 3) := by decide +kernel
theorem zd_Mo_get_4 : decode zb_Mo_get 4 = .ok (.ifCond .ne 10, 3) := by decide +kernel
theorem zd_Mo_get_7 : decode zb_Mo_get 7 = .ok (.aload_n 0, 1) := by decide +kernel
theorem zd_Mo_get_8 : decode zb_Mo_get 8 = .ok (.iconst 1, 1) := by decide +kernel
theorem zd_Mo_get_9 : decode zb_Mo_get 9 = .ok (.invokevirtual 41, 3) := by decide +kernel
theorem zd_Mo_get_12 : decode zb_Mo_get 12 = .ok (.i2l, 1) := by decide +kernel
theorem zd_Mo_get_13 : decode zb_Mo_get 13 = .ok (.lreturn, 1) := by decide +kernel
theorem zd_Mo_get_14 : decode zb_Mo_get 14 = .ok (.iload_n 1, 1) := by decide +kernel
theorem zd_Mo_get_15 : decode zb_Mo_get 15 = .ok (.ifCond .lt 20, 3) := by decide +kernel
theorem zd_Mo_get_18 : decode zb_Mo_get 18 = .ok (.iload_n 1, 1) := by decide +kernel
theorem zd_Mo_get_19 : decode zb_Mo_get 19 = .ok (.sipush 600, 3) := by decide +kernel
theorem zd_Mo_get_22 : decode zb_Mo_get 22 = .ok (.if_icmp .ge 13, 3) := by decide +kernel
theorem zd_Mo_get_25 : decode zb_Mo_get 25 = .ok (.iload_n 2, 1) := by decide +kernel
theorem zd_Mo_get_26 : decode zb_Mo_get 26 = .ok (.ifCond .lt 9, 3) := by decide +kernel
theorem zd_Mo_get_29 : decode zb_Mo_get 29 = .ok (.iload_n 2, 1) := by decide +kernel
theorem zd_Mo_get_30 : decode zb_Mo_get 30 = .ok (.bipush 16, 2) := by decide +kernel
theorem zd_Mo_get_32 : decode zb_Mo_get 32 = .ok (.if_icmp .lt 10, 3) := by decide +kernel
theorem zd_Mo_get_35 : decode zb_Mo_get 35 = .ok (.aload_n 0, 1) := by decide +kernel
theorem zd_Mo_get_36 : decode zb_Mo_get 36 = .ok (.iconst 2, 1) := by decide +kernel
theorem zd_Mo_get_37 : decode zb_Mo_get 37 = .ok (.invokevirtual 41, 3) := by decide +kernel
theorem zd_Mo_get_40 : decode zb_Mo_get 40 = .ok (.i2l, 1) := by decide +kernel
theorem zd_Mo_get_41 : decode zb_Mo_get 41 = .ok (.lreturn, 1) := by decide +kernel
theorem zd_Mo_get_42 : decode zb_Mo_get 42 = .ok (.aload_n 0, 1) := by decide +kernel
theorem zd_Mo_get_43 : decode zb_Mo_get 43 = .ok (.iconst 0, 1) := by decide +kernel
theorem zd_Mo_get_44 : decode zb_Mo_get 44 = .ok (.putfield 22, 3) := by decide +kernel
theorem zd_Mo_get_47 : decode zb_Mo_get 47 = .ok (.aload_n 0, 1) := by decide +kernel
theorem zd_Mo_get_48 : decode zb_Mo_get 48 = .ok (.iload_n 1, 1) := by decide +kernel
theorem zd_Mo_get_49 : decode zb_Mo_get 49 = .ok (.sipush 128, 3) := by decide +kernel
theorem zd_Mo_get_52 : decode zb_Mo_get 52 = .ok (.imul, 1) := by decide +kernel
theorem zd_Mo_get_53 : decode zb_Mo_get 53 = .ok (.bipush 8, 2) := by decide +kernel
theorem zd_Mo_get_55 : decode zb_Mo_get 55 = .ok (.iload_n 2, 1) := by decide +kernel
theorem zd_Mo_get_56 : decode zb_Mo_get 56 = .ok (.imul, 1) := by decide +kernel
theorem zd_Mo_get_57 : decode zb_Mo_get 57 = .ok (.iadd, 1) := by decide +kernel
theorem zd_Mo_get_58 : decode zb_Mo_get 58 = .ok (.invokevirtual 45, 3) := by decide +kernel
theorem zd_Mo_get_61 : decode zb_Mo_get 61 = .ok (.lreturn, 1) := by decide +kernel
theorem zd_Mo_die_0 : decode zb_Mo_die 0 = .ok (.aload_n 0, 1) := by decide +kernel
theorem zd_Mo_die_1 : decode zb_Mo_die 1 = .ok (.iload_n 1, 1) := by decide +kernel
theorem zd_Mo_die_2 : decode zb_Mo_die 2 = .ok (.ifCond .lt 8, 3) := by decide +kernel
theorem zd_Mo_die_5 : decode zb_Mo_die 5 = .ok (.iload_n 1, 1) := by decide +kernel
theorem zd_Mo_die_6 : decode zb_Mo_die 6 = .ok (.iconst 4, 1) := by decide +kernel
theorem zd_Mo_die_7 : decode zb_Mo_die 7 = .ok (.if_icmp .le 7, 3) := by decide +kernel
theorem zd_Mo_die_10 : decode zb_Mo_die 10 = .ok (.iconst 1, 1) := by decide +kernel
theorem zd_Mo_die_11 : decode zb_Mo_die 11 = .ok (.goto 23, 3) := by decide +kernel
theorem zd_Mo_die_14 : decode zb_Mo_die 14 = .ok (.aload_n 0, 1) := by decide +kernel
theorem zd_Mo_die_15 : decode zb_Mo_die 15 = .ok (.getfield 14, 3) := by decide +kernel
theorem zd_Mo_die_18 : decode zb_Mo_die 18 = .ok (.ifCond .eq 11, 3) := by decide +kernel
theorem zd_Mo_die_21 : decode zb_Mo_die 21 = .ok (.aload_n 0, 1) := by decide +kernel
theorem zd_Mo_die_22 : decode zb_Mo_die 22 = .ok (.getfield 18, 3) := by decide +kernel
theorem zd_Mo_die_25 : decode zb_Mo_die 25 = .ok (.iconst (-1), 1) := by decide +kernel
theorem zd_Mo_die_26 : decode zb_Mo_die 26 = .ok (.if_icmp .eq 7, 3) := by decide +kernel
theorem zd_Mo_die_29 : decode zb_Mo_die 29 = .ok (.iconst 2, 1) := by decide +kernel
theorem zd_Mo_die_30 : decode zb_Mo_die 30 = .ok (.goto 4, 3) := by decide +kernel
theorem zd_Mo_die_33 : decode zb_Mo_die 33 = .ok (.iconst 0, 1) := by decide +kernel
theorem zd_Mo_die_34 : decode zb_Mo_die 34 = .ok (.putfield 22, 3) := by decide +kernel
theorem zd_Mo_die_37 : decode zb_Mo_die 37 = .ok (.aload_n 0, 1) := by decide +kernel
theorem zd_Mo_die_38 : decode zb_Mo_die 38 = .ok (.getfield 22, 3) := by decide +kernel
theorem zd_Mo_die_41 : decode zb_Mo_die 41 = .ok (.ifCond .eq 4, 3) := by decide +kernel
theorem zd_Mo_die_44 : decode zb_Mo_die 44 = .ok (.return_, 1) := by decide +kernel
theorem zd_Mo_die_45 : decode zb_Mo_die 45 = .ok (.aload_n 0, 1) := by decide +kernel
theorem zd_Mo_die_46 : decode zb_Mo_die 46 = .ok (.iload_n 1, 1) := by decide +kernel
theorem zd_Mo_die_47 : decode zb_Mo_die 47 = .ok (.putfield 18, 3) := by decide +kernel
theorem zd_Mo_die_50 : decode zb_Mo_die 50 = .ok (.aload_n 0, 1) := by decide +kernel
theorem zd_Mo_die_51 : decode zb_Mo_die 51 = .ok (.iconst 0, 1) := by decide +kernel
theorem zd_Mo_die_52 : decode zb_Mo_die 52 = .ok (.putfield 25, 3) := by decide +kernel
theorem zd_Mo_die_55 : decode zb_Mo_die 55 = .ok (.aload_n 0, 1) := by decide +kernel
theorem zd_Mo_die_56 : decode zb_Mo_die 56 = .ok (.iconst 0, 1) := by decide +kernel
theorem zd_Mo_die_57 : decode zb_Mo_die 57 = .ok (.putfield 28, 3) := by decide +kernel
theorem zd_Mo_die_60 : decode zb_Mo_die 60 = .ok (.return_, 1) := by decide +kernel
theorem zd_Mo_replace_0 : decode zb_Mo_replace 0 = .ok (.aload_n 0, 1) := by decide +kernel
theorem zd_Mo_replace_1 : decode zb_Mo_replace 1 = .ok (.getfield 18, 3) := by decide +kernel
theorem zd_Mo_replace_4 : decode zb_Mo_replace 4 = .ok (.iconst (-1), 1) := by decide +kernel
theorem zd_Mo_replace_5 : decode zb_Mo_replace 5 = .ok (.if_icmp .eq 10, 3) := by decide +kernel
theorem zd_Mo_replace_8 : decode zb_Mo_replace 8 = .ok (.aload_n 0, 1) := by decide +kernel
theorem zd_Mo_replace_9 : decode zb_Mo_replace 9 = .ok (.getfield 25, 3) := by decide +kernel
theorem zd_Mo_replace_12 : decode zb_Mo_replace 12 = .ok (.ifCond .eq 9, 3) := by decide +kernel
theorem zd_Mo_replace_15 : decode zb_Mo_replace 15 = .ok (.aload_n 0, 1) := by decide +kernel
theorem zd_Mo_replace_16 : decode zb_Mo_replace 16 = .ok (.iconst 1, 1) := by decide +kernel
theorem zd_Mo_replace_17 : decode zb_Mo_replace 17 = .ok (.invokevirtual 41, 3) := by decide +kernel
theorem zd_Mo_replace_20 : decode zb_Mo_replace 20 = .ok (.ireturn, 1) := by decide +kernel
theorem zd_Mo_replace_21 : decode zb_Mo_replace 21 = .ok (.aload_n 0, 1) := by decide +kernel
theorem zd_Mo_replace_22 : decode zb_Mo_replace 22 = .ok (.iconst 0, 1) := by decide +kernel
theorem zd_Mo_replace_23 : decode zb_Mo_replace 23 = .ok (.putfield 22, 3) := by decide +kernel
theorem zd_Mo_replace_26 : decode zb_Mo_replace 26 = .ok (.aload_n 0, 1) := by decide +kernel
theorem zd_Mo_replace_27 : decode zb_Mo_replace 27 = .ok (.iconst 1, 1) := by decide +kernel
theorem zd_Mo_replace_28 : decode zb_Mo_replace 28 = .ok (.putfield 25, 3) := by decide +kernel
theorem zd_Mo_replace_31 : decode zb_Mo_replace 31 = .ok (.aload_n 0, 1) := by decide +kernel
theorem zd_Mo_replace_32 : decode zb_Mo_replace 32 = .ok (.getfield 18, 3) := by decide +kernel
theorem zd_Mo_replace_35 : decode zb_Mo_replace 35 = .ok (.ireturn, 1) := by decide +kernel
theorem zd_Mo_rebuild_0 : decode zb_Mo_rebuild 0 = .ok (.aload_n 0, 1) := by decide +kernel
theorem zd_Mo_rebuild_1 : decode zb_Mo_rebuild 1 = .ok (.getfield 14, 3) := by decide +kernel
theorem zd_Mo_rebuild_4 : decode zb_Mo_rebuild 4 = .ok (.ifCond .eq 18, 3) := by decide +kernel
theorem zd_Mo_rebuild_7 : decode zb_Mo_rebuild 7 = .ok (.aload_n 0, 1) := by decide +kernel
theorem zd_Mo_rebuild_8 : decode zb_Mo_rebuild 8 = .ok (.getfield 18, 3) := by decide +kernel
theorem zd_Mo_rebuild_11 : decode zb_Mo_rebuild 11 = .ok (.iconst (-1), 1) := by decide +kernel
theorem zd_Mo_rebuild_12 : decode zb_Mo_rebuild 12 = .ok (.if_icmp .eq 10, 3) := by decide +kernel
theorem zd_Mo_rebuild_15 : decode zb_Mo_rebuild 15 = .ok (.aload_n 0, 1) := by decide +kernel
theorem zd_Mo_rebuild_16 : decode zb_Mo_rebuild 16 = .ok (.getfield 25, 3) := by decide +kernel
theorem zd_Mo_rebuild_19 : decode zb_Mo_rebuild 19 = .ok (.ifCond .ne 9, 3) := by decide +kernel
theorem zd_Mo_rebuild_22 : decode zb_Mo_rebuild 22 = .ok (.aload_n 0, 1) := by decide +kernel
theorem zd_Mo_rebuild_23 : decode zb_Mo_rebuild 23 = .ok (.iconst 1, 1) := by decide +kernel
theorem zd_Mo_rebuild_24 : decode zb_Mo_rebuild 24 = .ok (.invokevirtual 41, 3) := by decide +kernel
theorem zd_Mo_rebuild_27 : decode zb_Mo_rebuild 27 = .ok (.ireturn, 1) := by decide +kernel
theorem zd_Mo_rebuild_28 : decode zb_Mo_rebuild 28 = .ok (.aload_n 0, 1) := by decide +kernel
theorem zd_Mo_rebuild_29 : decode zb_Mo_rebuild 29 = .ok (.iconst 0, 1) := by decide +kernel
theorem zd_Mo_rebuild_30 : decode zb_Mo_rebuild 30 = .ok (.putfield 22, 3) := by decide +kernel
theorem zd_Mo_rebuild_33 : decode zb_Mo_rebuild 33 = .ok (.aload_n 0, 1) := by decide +kernel
theorem zd_Mo_rebuild_34 : decode zb_Mo_rebuild 34 = .ok (.dup, 1) := by decide +kernel
theorem zd_Mo_rebuild_35 : decode zb_Mo_rebuild 35 = .ok (.getfield 28, 3) := by decide +kernel
theorem zd_Mo_rebuild_38 : decode zb_Mo_rebuild 38 = .ok (.iconst 1, 1) := by decide +kernel
theorem zd_Mo_rebuild_39 : decode zb_Mo_rebuild 39 = .ok (.iadd, 1) := by decide +kernel
theorem zd_Mo_rebuild_40 : decode zb_Mo_rebuild 40 = .ok (.putfield 28, 3) := by decide +kernel
theorem zd_Mo_rebuild_43 : decode zb_Mo_rebuild 43 = .ok (.sipush 150, 3) := by decide +kernel
theorem zd_Mo_rebuild_46 : decode zb_Mo_rebuild 46 = .ok (.aload_n 0, 1) := by decide +kernel
theorem zd_Mo_rebuild_47 : decode zb_Mo_rebuild 47 = .ok (.getfield 28, 3) := by decide +kernel
theorem zd_Mo_rebuild_50 : decode zb_Mo_rebuild 50 = .ok (.isub, 1) := by decide +kernel
theorem zd_Mo_rebuild_51 : decode zb_Mo_rebuild 51 = .ok (.istore_n 1, 1) := by decide +kernel
theorem zd_Mo_rebuild_52 : decode zb_Mo_rebuild 52 = .ok (.iload_n 1, 1) := by decide +kernel
theorem zd_Mo_rebuild_53 : decode zb_Mo_rebuild 53 = .ok (.ifCond .le 5, 3) := by decide +kernel
theorem zd_Mo_rebuild_56 : decode zb_Mo_rebuild 56 = .ok (.iload_n 1, 1) := by decide +kernel
theorem zd_Mo_rebuild_57 : decode zb_Mo_rebuild 57 = .ok (.ireturn, 1) := by decide +kernel
theorem zd_Mo_rebuild_58 : decode zb_Mo_rebuild 58 = .ok (.aload_n 0, 1) := by decide +kernel
theorem zd_Mo_rebuild_59 : decode zb_Mo_rebuild 59 = .ok (.iconst (-1), 1) := by decide +kernel
theorem zd_Mo_rebuild_60 : decode zb_Mo_rebuild 60 = .ok (.putfield 18, 3) := by decide +kernel
theorem zd_Mo_rebuild_63 : decode zb_Mo_rebuild 63 = .ok (.aload_n 0, 1) := by decide +kernel
theorem zd_Mo_rebuild_64 : decode zb_Mo_rebuild 64 = .ok (.iconst 0, 1) := by decide +kernel
theorem zd_Mo_rebuild_65 : decode zb_Mo_rebuild 65 = .ok (.putfield 25, 3) := by decide +kernel
theorem zd_Mo_rebuild_68 : decode zb_Mo_rebuild 68 = .ok (.aload_n 0, 1) := by decide +kernel
theorem zd_Mo_rebuild_69 : decode zb_Mo_rebuild 69 = .ok (.iconst 0, 1) := by decide +kernel
theorem zd_Mo_rebuild_70 : decode zb_Mo_rebuild 70 = .ok (.putfield 28, 3) := by decide +kernel
theorem zd_Mo_rebuild_73 : decode zb_Mo_rebuild 73 = .ok (.iconst 0, 1) := by decide +kernel
theorem zd_Mo_rebuild_74 : decode zb_Mo_rebuild 74 = .ok (.ireturn, 1) := by decide +kernel
theorem zd_Mo_power_0 : decode zb_Mo_power 0 = .ok (.aload_n 0, 1) := by decide +kernel
theorem zd_Mo_power_1 : decode zb_Mo_power 1 = .ok (.iload_n 1, 1) := by decide +kernel
theorem zd_Mo_power_2 : decode zb_Mo_power 2 = .ok (.ifCond .lt 20, 3) := by decide +kernel
theorem zd_Mo_power_5 : decode zb_Mo_power 5 = .ok (.iload_n 1, 1) := by decide +kernel
theorem zd_Mo_power_6 : decode zb_Mo_power 6 = .ok (.bipush 10, 2) := by decide +kernel
theorem zd_Mo_power_8 : decode zb_Mo_power 8 = .ok (.if_icmp .gt 14, 3) := by decide +kernel
theorem zd_Mo_power_11 : decode zb_Mo_power 11 = .ok (.iload_n 2, 1) := by decide +kernel
theorem zd_Mo_power_12 : decode zb_Mo_power 12 = .ok (.ifCond .lt 10, 3) := by decide +kernel
theorem zd_Mo_power_15 : decode zb_Mo_power 15 = .ok (.iload_n 2, 1) := by decide +kernel
theorem zd_Mo_power_16 : decode zb_Mo_power 16 = .ok (.sipush 200, 3) := by decide +kernel
theorem zd_Mo_power_19 : decode zb_Mo_power 19 = .ok (.if_icmp .le 7, 3) := by decide +kernel
theorem zd_Mo_power_22 : decode zb_Mo_power 22 = .ok (.iconst 1, 1) := by decide +kernel
theorem zd_Mo_power_23 : decode zb_Mo_power 23 = .ok (.goto 4, 3) := by decide +kernel
theorem zd_Mo_power_26 : decode zb_Mo_power 26 = .ok (.iconst 0, 1) := by decide +kernel
theorem zd_Mo_power_27 : decode zb_Mo_power 27 = .ok (.putfield 22, 3) := by decide +kernel
theorem zd_Mo_power_30 : decode zb_Mo_power 30 = .ok (.aload_n 0, 1) := by decide +kernel
theorem zd_Mo_power_31 : decode zb_Mo_power 31 = .ok (.getfield 22, 3) := by decide +kernel
theorem zd_Mo_power_34 : decode zb_Mo_power 34 = .ok (.ifCond .eq 4, 3) := by decide +kernel
theorem zd_Mo_power_37 : decode zb_Mo_power 37 = .ok (.return_, 1) := by decide +kernel
theorem zd_Mo_power_38 : decode zb_Mo_power 38 = .ok (.aload_n 0, 1) := by decide +kernel
theorem zd_Mo_power_39 : decode zb_Mo_power 39 = .ok (.iload_n 3, 1) := by decide +kernel
theorem zd_Mo_power_40 : decode zb_Mo_power 40 = .ok (.ifCond .eq 7, 3) := by decide +kernel
theorem zd_Mo_power_43 : decode zb_Mo_power 43 = .ok (.iconst 2, 1) := by decide +kernel
theorem zd_Mo_power_44 : decode zb_Mo_power 44 = .ok (.goto 4, 3) := by decide +kernel
theorem zd_Mo_power_47 : decode zb_Mo_power 47 = .ok (.iconst 1, 1) := by decide +kernel
theorem zd_Mo_power_48 : decode zb_Mo_power 48 = .ok (.putfield 49, 3) := by decide +kernel
theorem zd_Mo_power_51 : decode zb_Mo_power 51 = .ok (.aload_n 0, 1) := by decide +kernel
theorem zd_Mo_power_52 : decode zb_Mo_power 52 = .ok (.iload_n 1, 1) := by decide +kernel
theorem zd_Mo_power_53 : decode zb_Mo_power 53 = .ok (.putfield 35, 3) := by decide +kernel
theorem zd_Mo_power_56 : decode zb_Mo_power 56 = .ok (.aload_n 0, 1) := by decide +kernel
theorem zd_Mo_power_57 : decode zb_Mo_power 57 = .ok (.iload_n 2, 1) := by decide +kernel
theorem zd_Mo_power_58 : decode zb_Mo_power 58 = .ok (.putfield 38, 3) := by decide +kernel
theorem zd_Mo_power_61 : decode zb_Mo_power 61 = .ok (.return_, 1) := by decide +kernel
theorem zd_Mo_recover_0 : decode zb_Mo_recover 0 = .ok (.aload_n 0, 1) := by decide +kernel
theorem zd_Mo_recover_1 : decode zb_Mo_recover 1 = .ok (.aload_n 0, 1) := by decide +kernel
theorem zd_Mo_recover_2 : decode zb_Mo_recover 2 = .ok (.getfield 49, 3) := by decide +kernel
theorem zd_Mo_recover_5 : decode zb_Mo_recover 5 = .ok (.iconst 2, 1) := by decide +kernel
theorem zd_Mo_recover_6 : decode zb_Mo_recover 6 = .ok (.if_icmp .eq 7, 3) := by decide +kernel
theorem zd_Mo_recover_9 : decode zb_Mo_recover 9 = .ok (.iconst 1, 1) := by decide +kernel
theorem zd_Mo_recover_10 : decode zb_Mo_recover 10 = .ok (.goto 4, 3) := by decide +kernel
theorem zd_Mo_recover_13 : decode zb_Mo_recover 13 = .ok (.iconst 0, 1) := by decide +kernel
theorem zd_Mo_recover_14 : decode zb_Mo_recover 14 = .ok (.putfield 14, 3) := by decide +kernel
theorem zd_Mo_recover_17 : decode zb_Mo_recover 17 = .ok (.aload_n 0, 1) := by decide +kernel
theorem zd_Mo_recover_18 : decode zb_Mo_recover 18 = .ok (.aload_n 0, 1) := by decide +kernel
theorem zd_Mo_recover_19 : decode zb_Mo_recover 19 = .ok (.getfield 14, 3) := by decide +kernel
theorem zd_Mo_recover_22 : decode zb_Mo_recover 22 = .ok (.ifCond .eq 7, 3) := by decide +kernel
theorem zd_Mo_recover_25 : decode zb_Mo_recover 25 = .ok (.iconst 0, 1) := by decide +kernel
theorem zd_Mo_recover_26 : decode zb_Mo_recover 26 = .ok (.goto 4, 3) := by decide +kernel
theorem zd_Mo_recover_29 : decode zb_Mo_recover 29 = .ok (.iconst 1, 1) := by decide +kernel
theorem zd_Mo_recover_30 : decode zb_Mo_recover 30 = .ok (.putfield 22, 3) := by decide +kernel
theorem zd_Mo_recover_33 : decode zb_Mo_recover 33 = .ok (.aload_n 0, 1) := by decide +kernel
theorem zd_Mo_recover_34 : decode zb_Mo_recover 34 = .ok (.iconst 0, 1) := by decide +kernel
theorem zd_Mo_recover_35 : decode zb_Mo_recover 35 = .ok (.putfield 49, 3) := by decide +kernel
theorem zd_Mo_recover_38 : decode zb_Mo_recover 38 = .ok (.return_, 1) := by decide +kernel
theorem zd_Mo_told_0 : decode zb_Mo_told 0 = .ok (.iload_n 1, 1) := by decide +kernel
theorem zd_Mo_told_1 : decode zb_Mo_told 1 = .ok (.ifCond .lt 8, 3) := by decide +kernel
theorem zd_Mo_told_4 : decode zb_Mo_told 4 = .ok (.iload_n 1, 1) := by decide +kernel
theorem zd_Mo_told_5 : decode zb_Mo_told 5 = .ok (.iconst 3, 1) := by decide +kernel
theorem zd_Mo_told_6 : decode zb_Mo_told 6 = .ok (.if_icmp .le 9, 3) := by decide +kernel
theorem zd_Mo_told_9 : decode zb_Mo_told 9 = .ok (.aload_n 0, 1) := by decide +kernel
theorem zd_Mo_told_10 : decode zb_Mo_told 10 = .ok (.iconst 1, 1) := by decide +kernel
theorem zd_Mo_told_11 : decode zb_Mo_told 11 = .ok (.invokevirtual 41, 3) := by decide +kernel
theorem zd_Mo_told_14 : decode zb_Mo_told 14 = .ok (.ireturn, 1) := by decide +kernel
theorem zd_Mo_told_15 : decode zb_Mo_told 15 = .ok (.aload_n 0, 1) := by decide +kernel
theorem zd_Mo_told_16 : decode zb_Mo_told 16 = .ok (.iconst 0, 1) := by decide +kernel
theorem zd_Mo_told_17 : decode zb_Mo_told 17 = .ok (.putfield 22, 3) := by decide +kernel
theorem zd_Mo_told_20 : decode zb_Mo_told 20 = .ok (.iload_n 1, 1) := by decide +kernel
theorem zd_Mo_told_21 : decode zb_Mo_told 21 = .ok (.ifCond .ne 18, 3) := by decide +kernel
theorem zd_Mo_told_24 : decode zb_Mo_told 24 = .ok (.aload_n 0, 1) := by decide +kernel
theorem zd_Mo_told_25 : decode zb_Mo_told 25 = .ok (.getfield 14, 3) := by decide +kernel
theorem zd_Mo_told_28 : decode zb_Mo_told 28 = .ok (.ifCond .eq 7, 3) := by decide +kernel
theorem zd_Mo_told_31 : decode zb_Mo_told 31 = .ok (.iconst 1, 1) := by decide +kernel
theorem zd_Mo_told_32 : decode zb_Mo_told 32 = .ok (.goto 43, 3) := by decide +kernel
theorem zd_Mo_told_35 : decode zb_Mo_told 35 = .ok (.iconst 0, 1) := by decide +kernel
theorem zd_Mo_told_36 : decode zb_Mo_told 36 = .ok (.goto 39, 3) := by decide +kernel
theorem zd_Mo_told_39 : decode zb_Mo_told 39 = .ok (.iload_n 1, 1) := by decide +kernel
theorem zd_Mo_told_40 : decode zb_Mo_told 40 = .ok (.iconst 1, 1) := by decide +kernel
theorem zd_Mo_told_41 : decode zb_Mo_told 41 = .ok (.if_icmp .ne 10, 3) := by decide +kernel
theorem zd_Mo_told_44 : decode zb_Mo_told 44 = .ok (.aload_n 0, 1) := by decide +kernel
theorem zd_Mo_told_45 : decode zb_Mo_told 45 = .ok (.getfield 18, 3) := by decide +kernel
theorem zd_Mo_told_48 : decode zb_Mo_told 48 = .ok (.goto 27, 3) := by decide +kernel
theorem zd_Mo_told_51 : decode zb_Mo_told 51 = .ok (.iload_n 1, 1) := by decide +kernel
theorem zd_Mo_told_52 : decode zb_Mo_told 52 = .ok (.iconst 2, 1) := by decide +kernel
theorem zd_Mo_told_53 : decode zb_Mo_told 53 = .ok (.if_icmp .ne 18, 3) := by decide +kernel
theorem zd_Mo_told_56 : decode zb_Mo_told 56 = .ok (.aload_n 0, 1) := by decide +kernel
theorem zd_Mo_told_57 : decode zb_Mo_told 57 = .ok (.getfield 25, 3) := by decide +kernel
theorem zd_Mo_told_60 : decode zb_Mo_told 60 = .ok (.ifCond .eq 7, 3) := by decide +kernel
theorem zd_Mo_told_63 : decode zb_Mo_told 63 = .ok (.iconst 1, 1) := by decide +kernel
theorem zd_Mo_told_64 : decode zb_Mo_told 64 = .ok (.goto 11, 3) := by decide +kernel
theorem zd_Mo_told_67 : decode zb_Mo_told 67 = .ok (.iconst 0, 1) := by decide +kernel
theorem zd_Mo_told_68 : decode zb_Mo_told 68 = .ok (.goto 7, 3) := by decide +kernel
theorem zd_Mo_told_71 : decode zb_Mo_told 71 = .ok (.aload_n 0, 1) := by decide +kernel
theorem zd_Mo_told_72 : decode zb_Mo_told 72 = .ok (.getfield 28, 3) := by decide +kernel
theorem zd_Mo_told_75 : decode zb_Mo_told 75 = .ok (.ireturn, 1) := by decide +kernel
theorem zd_Mo_check_0 : decode zb_Mo_check 0 = .ok (.aload_n 0, 1) := by decide +kernel
theorem zd_Mo_check_1 : decode zb_Mo_check 1 = .ok (.aload_n 0, 1) := by decide +kernel
theorem zd_Mo_check_2 : decode zb_Mo_check 2 = .ok (.getfield 14, 3) := by decide +kernel
theorem zd_Mo_check_5 : decode zb_Mo_check 5 = .ok (.ifCond .eq 7, 3) := by decide +kernel
theorem zd_Mo_check_8 : decode zb_Mo_check 8 = .ok (.iconst 0, 1) := by decide +kernel
theorem zd_Mo_check_9 : decode zb_Mo_check 9 = .ok (.goto 4, 3) := by decide +kernel
theorem zd_Mo_check_12 : decode zb_Mo_check 12 = .ok (.iconst 1, 1) := by decide +kernel
theorem zd_Mo_check_13 : decode zb_Mo_check 13 = .ok (.putfield 22, 3) := by decide +kernel
theorem zd_Mo_check_16 : decode zb_Mo_check 16 = .ok (.iconst 0, 1) := by decide +kernel
theorem zd_Mo_check_17 : decode zb_Mo_check 17 = .ok (.ireturn, 1) := by decide +kernel
end
section
/-! decode rows, printed by tools/mk_dec.py -/
theorem zd_La_set_0 : decode zb_La_set 0 = .ok (.aload 5, 2) := by decide +kernel
theorem zd_La_set_2 : decode zb_La_set 2 = .ok (.iconst 0, 1) := by decide +kernel
theorem zd_La_set_3 : decode zb_La_set 3 = .ok (.aload_n 0, 1) := by decide +kernel
theorem zd_La_set_4 : decode zb_La_set 4 = .ok (.iload_n 1, 1) := by decide +kernel
theorem zd_La_set_5 : decode zb_La_set 5 = .ok (.iload_n 2, 1) := by decide +kernel
theorem zd_La_set_6 : decode zb_La_set 6 = .ok (.lload_n 3, 1) := by decide +kernel
theorem zd_La_set_7 : decode zb_La_set 7 = .ok (.invokevirtual 7, 3) := by decide +kernel
theorem zd_La_set_10 : decode zb_La_set 10 = .ok (.lastore, 1) := by decide +kernel
theorem zd_La_set_11 : decode zb_La_set 11 = .ok (.goto 15, 3) := by decide +kernel
theorem zd_La_set_14 : decode zb_La_set 14 = .ok (.astore 6, 2) := by decide +kernel
theorem zd_La_set_16 : decode zb_La_set 16 = .ok (.iconst 1, 1) := by decide +kernel
theorem zd_La_set_17 : decode zb_La_set 17 = .ok (.ireturn, 1) := by decide +kernel
theorem zd_La_set_18 : decode zb_La_set 18 = .ok (.astore 6, 2) := by decide +kernel
theorem zd_La_set_20 : decode zb_La_set 20 = .ok (.iconst 2, 1) := by decide +kernel
theorem zd_La_set_21 : decode zb_La_set 21 = .ok (.ireturn, 1) := by decide +kernel
theorem zd_La_set_22 : decode zb_La_set 22 = .ok (.astore 6, 2) := by decide +kernel
theorem zd_La_set_24 : decode zb_La_set 24 = .ok (.iconst 3, 1) := by decide +kernel
theorem zd_La_set_25 : decode zb_La_set 25 = .ok (.ireturn, 1) := by decide +kernel
theorem zd_La_set_26 : decode zb_La_set 26 = .ok (.iconst 0, 1) := by decide +kernel
theorem zd_La_set_27 : decode zb_La_set 27 = .ok (.ireturn, 1) := by decide +kernel
theorem zd_La_get_0 : decode zb_La_get 0 = .ok (.aload_n 3, 1) := by decide +kernel
theorem zd_La_get_1 : decode zb_La_get 1 = .ok (.iconst 0, 1) := by decide +kernel
theorem zd_La_get_2 : decode zb_La_get 2 = .ok (.aload_n 0, 1) := by decide +kernel
theorem zd_La_get_3 : decode zb_La_get 3 = .ok (.iload_n 1, 1) := by decide +kernel
theorem zd_La_get_4 : decode zb_La_get 4 = .ok (.iload_n 2, 1) := by decide +kernel
theorem zd_La_get_5 : decode zb_La_get 5 = .ok (.invokevirtual 19, 3) := by decide +kernel
theorem zd_La_get_8 : decode zb_La_get 8 = .ok (.lastore, 1) := by decide +kernel
theorem zd_La_get_9 : decode zb_La_get 9 = .ok (.goto 11, 3) := by decide +kernel
theorem zd_La_get_12 : decode zb_La_get 12 = .ok (.astore 4, 2) := by decide +kernel
theorem zd_La_get_14 : decode zb_La_get 14 = .ok (.iconst 1, 1) := by decide +kernel
theorem zd_La_get_15 : decode zb_La_get 15 = .ok (.ireturn, 1) := by decide +kernel
theorem zd_La_get_16 : decode zb_La_get 16 = .ok (.astore 4, 2) := by decide +kernel
theorem zd_La_get_18 : decode zb_La_get 18 = .ok (.iconst 2, 1) := by decide +kernel
theorem zd_La_get_19 : decode zb_La_get 19 = .ok (.ireturn, 1) := by decide +kernel
theorem zd_La_get_20 : decode zb_La_get 20 = .ok (.iconst 0, 1) := by decide +kernel
theorem zd_La_get_21 : decode zb_La_get 21 = .ok (.ireturn, 1) := by decide +kernel
theorem zd_La_die_0 : decode zb_La_die 0 = .ok (.aload_n 0, 1) := by decide +kernel
theorem zd_La_die_1 : decode zb_La_die 1 = .ok (.iload_n 1, 1) := by decide +kernel
theorem zd_La_die_2 : decode zb_La_die 2 = .ok (.invokevirtual 23, 3) := by decide +kernel
theorem zd_La_die_5 : decode zb_La_die 5 = .ok (.goto 9, 3) := by decide +kernel
theorem zd_La_die_8 : decode zb_La_die 8 = .ok (.astore_n 2, 1) := by decide +kernel
theorem zd_La_die_9 : decode zb_La_die 9 = .ok (.iconst 1, 1) := by decide +kernel
theorem zd_La_die_10 : decode zb_La_die 10 = .ok (.ireturn, 1) := by decide +kernel
theorem zd_La_die_11 : decode zb_La_die 11 = .ok (.astore_n 2, 1) := by decide +kernel
theorem zd_La_die_12 : decode zb_La_die 12 = .ok (.iconst 2, 1) := by decide +kernel
theorem zd_La_die_13 : decode zb_La_die 13 = .ok (.ireturn, 1) := by decide +kernel
theorem zd_La_die_14 : decode zb_La_die 14 = .ok (.iconst 0, 1) := by decide +kernel
theorem zd_La_die_15 : decode zb_La_die 15 = .ok (.ireturn, 1) := by decide +kernel
theorem zd_La_replace_0 : decode zb_La_replace 0 = .ok (.aload_n 1, 1) := by decide +kernel
theorem zd_La_replace_1 : decode zb_La_replace 1 = .ok (.iconst 0, 1) := by decide +kernel
theorem zd_La_replace_2 : decode zb_La_replace 2 = .ok (.aload_n 0, 1) := by decide +kernel
theorem zd_La_replace_3 : decode zb_La_replace 3 = .ok (.invokevirtual 27, 3) := by decide +kernel
theorem zd_La_replace_6 : decode zb_La_replace 6 = .ok (.i2l, 1) := by decide +kernel
theorem zd_La_replace_7 : decode zb_La_replace 7 = .ok (.lastore, 1) := by decide +kernel
theorem zd_La_replace_8 : decode zb_La_replace 8 = .ok (.goto 6, 3) := by decide +kernel
theorem zd_La_replace_11 : decode zb_La_replace 11 = .ok (.astore_n 2, 1) := by decide +kernel
theorem zd_La_replace_12 : decode zb_La_replace 12 = .ok (.iconst 1, 1) := by decide +kernel
theorem zd_La_replace_13 : decode zb_La_replace 13 = .ok (.ireturn, 1) := by decide +kernel
theorem zd_La_replace_14 : decode zb_La_replace 14 = .ok (.iconst 0, 1) := by decide +kernel
theorem zd_La_replace_15 : decode zb_La_replace 15 = .ok (.ireturn, 1) := by decide +kernel
theorem zd_La_rebuild_0 : decode zb_La_rebuild 0 = .ok (.aload_n 1, 1) := by decide +kernel
theorem zd_La_rebuild_1 : decode zb_La_rebuild 1 = .ok (.iconst 0, 1) := by decide +kernel
theorem zd_La_rebuild_2 : decode zb_La_rebuild 2 = .ok (.aload_n 0, 1) := by decide +kernel
theorem zd_La_rebuild_3 : decode zb_La_rebuild 3 = .ok (.invokevirtual 31, 3) := by decide +kernel
theorem zd_La_rebuild_6 : decode zb_La_rebuild 6 = .ok (.i2l, 1) := by decide +kernel
theorem zd_La_rebuild_7 : decode zb_La_rebuild 7 = .ok (.lastore, 1) := by decide +kernel
theorem zd_La_rebuild_8 : decode zb_La_rebuild 8 = .ok (.goto 6, 3) := by decide +kernel
theorem zd_La_rebuild_11 : decode zb_La_rebuild 11 = .ok (.astore_n 2, 1) := by decide +kernel
theorem zd_La_rebuild_12 : decode zb_La_rebuild 12 = .ok (.iconst 1, 1) := by decide +kernel
theorem zd_La_rebuild_13 : decode zb_La_rebuild 13 = .ok (.ireturn, 1) := by decide +kernel
theorem zd_La_rebuild_14 : decode zb_La_rebuild 14 = .ok (.iconst 0, 1) := by decide +kernel
theorem zd_La_rebuild_15 : decode zb_La_rebuild 15 = .ok (.ireturn, 1) := by decide +kernel
theorem zd_La_power_0 : decode zb_La_power 0 = .ok (.aload_n 0, 1) := by decide +kernel
theorem zd_La_power_1 : decode zb_La_power 1 = .ok (.iload_n 1, 1) := by decide +kernel
theorem zd_La_power_2 : decode zb_La_power 2 = .ok (.iload_n 2, 1) := by decide +kernel
theorem zd_La_power_3 : decode zb_La_power 3 = .ok (.iload_n 3, 1) := by decide +kernel
theorem zd_La_power_4 : decode zb_La_power 4 = .ok (.invokevirtual 34, 3) := by decide +kernel
theorem zd_La_power_7 : decode zb_La_power 7 = .ok (.goto 7, 3) := by decide +kernel
theorem zd_La_power_10 : decode zb_La_power 10 = .ok (.astore 4, 2) := by decide +kernel
theorem zd_La_power_12 : decode zb_La_power 12 = .ok (.iconst 1, 1) := by decide +kernel
theorem zd_La_power_13 : decode zb_La_power 13 = .ok (.ireturn, 1) := by decide +kernel
theorem zd_La_power_14 : decode zb_La_power 14 = .ok (.iconst 0, 1) := by decide +kernel
theorem zd_La_power_15 : decode zb_La_power 15 = .ok (.ireturn, 1) := by decide +kernel
theorem zd_La_recover_0 : decode zb_La_recover 0 = .ok (.aload_n 0, 1) := by decide +kernel
theorem zd_La_recover_1 : decode zb_La_recover 1 = .ok (.invokevirtual 40, 3) := by decide +kernel
theorem zd_La_recover_4 : decode zb_La_recover 4 = .ok (.goto 6, 3) := by decide +kernel
theorem zd_La_recover_7 : decode zb_La_recover 7 = .ok (.astore_n 1, 1) := by decide +kernel
theorem zd_La_recover_8 : decode zb_La_recover 8 = .ok (.iconst 1, 1) := by decide +kernel
theorem zd_La_recover_9 : decode zb_La_recover 9 = .ok (.ireturn, 1) := by decide +kernel
theorem zd_La_recover_10 : decode zb_La_recover 10 = .ok (.iconst 0, 1) := by decide +kernel
theorem zd_La_recover_11 : decode zb_La_recover 11 = .ok (.ireturn, 1) := by decide +kernel
theorem zd_La_told_0 : decode zb_La_told 0 = .ok (.aload_n 2, 1) := by decide +kernel
theorem zd_La_told_1 : decode zb_La_told 1 = .ok (.iconst 0, 1) := by decide +kernel
theorem zd_La_told_2 : decode zb_La_told 2 = .ok (.aload_n 0, 1) := by decide +kernel
theorem zd_La_told_3 : decode zb_La_told 3 = .ok (.iload_n 1, 1) := by decide +kernel
theorem zd_La_told_4 : decode zb_La_told 4 = .ok (.invokevirtual 43, 3) := by decide +kernel
theorem zd_La_told_7 : decode zb_La_told 7 = .ok (.i2l, 1) := by decide +kernel
theorem zd_La_told_8 : decode zb_La_told 8 = .ok (.lastore, 1) := by decide +kernel
theorem zd_La_told_9 : decode zb_La_told 9 = .ok (.goto 6, 3) := by decide +kernel
theorem zd_La_told_12 : decode zb_La_told 12 = .ok (.astore_n 3, 1) := by decide +kernel
theorem zd_La_told_13 : decode zb_La_told 13 = .ok (.iconst 1, 1) := by decide +kernel
theorem zd_La_told_14 : decode zb_La_told 14 = .ok (.ireturn, 1) := by decide +kernel
theorem zd_La_told_15 : decode zb_La_told 15 = .ok (.iconst 0, 1) := by decide +kernel
theorem zd_La_told_16 : decode zb_La_told 16 = .ok (.ireturn, 1) := by decide +kernel
theorem zd_La_check_0 : decode zb_La_check 0 = .ok (.aload_n 1, 1) := by decide +kernel
theorem zd_La_check_1 : decode zb_La_check 1 = .ok (.iconst 0, 1) := by decide +kernel
theorem zd_La_check_2 : decode zb_La_check 2 = .ok (.aload_n 0, 1) := by decide +kernel
theorem zd_La_check_3 : decode zb_La_check 3 = .ok (.invokevirtual 47, 3) := by decide +kernel
theorem zd_La_check_6 : decode zb_La_check 6 = .ok (.i2l, 1) := by decide +kernel
theorem zd_La_check_7 : decode zb_La_check 7 = .ok (.lastore, 1) := by decide +kernel
theorem zd_La_check_8 : decode zb_La_check 8 = .ok (.goto 6, 3) := by decide +kernel
theorem zd_La_check_11 : decode zb_La_check 11 = .ok (.astore_n 2, 1) := by decide +kernel
theorem zd_La_check_12 : decode zb_La_check 12 = .ok (.iconst 1, 1) := by decide +kernel
theorem zd_La_check_13 : decode zb_La_check 13 = .ok (.ireturn, 1) := by decide +kernel
theorem zd_La_check_14 : decode zb_La_check 14 = .ok (.iconst 0, 1) := by decide +kernel
theorem zd_La_check_15 : decode zb_La_check 15 = .ok (.ireturn, 1) := by decide +kernel
theorem zd_La_law_0 : decode code 0 = .ok (.new 8, 3) := by decide +kernel
theorem zd_La_law_3 : decode code 3 = .ok (.dup, 1) := by decide +kernel
theorem zd_La_law_4 : decode code 4 = .ok (.invokespecial 50, 3) := by decide +kernel
theorem zd_La_law_7 : decode code 7 = .ok (.astore_n 1, 1) := by decide +kernel
theorem zd_La_law_8 : decode code 8 = .ok (.new 51, 3) := by decide +kernel
theorem zd_La_law_11 : decode code 11 = .ok (.dup, 1) := by decide +kernel
theorem zd_La_law_12 : decode code 12 = .ok (.invokespecial 53, 3) := by decide +kernel
theorem zd_La_law_15 : decode code 15 = .ok (.astore_n 2, 1) := by decide +kernel
theorem zd_La_law_16 : decode code 16 = .ok (.iconst 1, 1) := by decide +kernel
theorem zd_La_law_17 : decode code 17 = .ok (.newarray .long, 2) := by decide +kernel
theorem zd_La_law_19 : decode code 19 = .ok (.astore_n 3, 1) := by decide +kernel
theorem zd_La_law_20 : decode code 20 = .ok (.iconst 0, 1) := by decide +kernel
theorem zd_La_law_21 : decode code 21 = .ok (.istore 4, 2) := by decide +kernel
theorem zd_La_law_23 : decode code 23 = .ok (.iload 4, 2) := by decide +kernel
theorem zd_La_law_25 : decode code 25 = .ok (.aload_n 0, 1) := by decide +kernel
theorem zd_La_law_26 : decode code 26 = .ok (.arraylength, 1) := by decide +kernel
theorem zd_La_law_27 : decode code 27 = .ok (.iconst 5, 1) := by decide +kernel
theorem zd_La_law_28 : decode code 28 = .ok (.isub, 1) := by decide +kernel
theorem zd_La_law_29 : decode code 29 = .ok (.if_icmp .gt 567, 3) := by decide +kernel
theorem zd_La_law_32 : decode code 32 = .ok (.aload_n 0, 1) := by decide +kernel
theorem zd_La_law_33 : decode code 33 = .ok (.iload 4, 2) := by decide +kernel
theorem zd_La_law_35 : decode code 35 = .ok (.iaload, 1) := by decide +kernel
theorem zd_La_law_36 : decode code 36 = .ok (.bipush 15, 2) := by decide +kernel
theorem zd_La_law_38 : decode code 38 = .ok (.iand, 1) := by decide +kernel
theorem zd_La_law_39 : decode code 39 = .ok (.tableswitch 551 0 8 #[49, 160, 227, 263, 307, 351, 427, 451, 507], 49) := by decide +kernel
theorem zd_La_law_88 : decode code 88 = .ok (.aload_n 1, 1) := by decide +kernel
theorem zd_La_law_89 : decode code 89 = .ok (.aload_n 0, 1) := by decide +kernel
theorem zd_La_law_90 : decode code 90 = .ok (.iload 4, 2) := by decide +kernel
theorem zd_La_law_92 : decode code 92 = .ok (.iconst 1, 1) := by decide +kernel
theorem zd_La_law_93 : decode code 93 = .ok (.iadd, 1) := by decide +kernel
theorem zd_La_law_94 : decode code 94 = .ok (.iaload, 1) := by decide +kernel
theorem zd_La_law_95 : decode code 95 = .ok (.aload_n 0, 1) := by decide +kernel
theorem zd_La_law_96 : decode code 96 = .ok (.iload 4, 2) := by decide +kernel
theorem zd_La_law_98 : decode code 98 = .ok (.iconst 2, 1) := by decide +kernel
theorem zd_La_law_99 : decode code 99 = .ok (.iadd, 1) := by decide +kernel
theorem zd_La_law_100 : decode code 100 = .ok (.iaload, 1) := by decide +kernel
theorem zd_La_law_101 : decode code 101 = .ok (.aload_n 0, 1) := by decide +kernel
theorem zd_La_law_102 : decode code 102 = .ok (.iload 4, 2) := by decide +kernel
theorem zd_La_law_104 : decode code 104 = .ok (.iconst 3, 1) := by decide +kernel
theorem zd_La_law_105 : decode code 105 = .ok (.iadd, 1) := by decide +kernel
theorem zd_La_law_106 : decode code 106 = .ok (.iaload, 1) := by decide +kernel
theorem zd_La_law_107 : decode code 107 = .ok (.i2l, 1) := by decide +kernel
theorem zd_La_law_108 : decode code 108 = .ok (.bipush 32, 2) := by decide +kernel
theorem zd_La_law_110 : decode code 110 = .ok (.lshl, 1) := by decide +kernel
theorem zd_La_law_111 : decode code 111 = .ok (.aload_n 0, 1) := by decide +kernel
theorem zd_La_law_112 : decode code 112 = .ok (.iload 4, 2) := by decide +kernel
theorem zd_La_law_114 : decode code 114 = .ok (.iconst 4, 1) := by decide +kernel
theorem zd_La_law_115 : decode code 115 = .ok (.iadd, 1) := by decide +kernel
theorem zd_La_law_116 : decode code 116 = .ok (.iaload, 1) := by decide +kernel
theorem zd_La_law_117 : decode code 117 = .ok (.i2l, 1) := by decide +kernel
theorem zd_La_law_118 : decode code 118 = .ok (.ldc2_w 54, 3) := by decide +kernel
theorem zd_La_law_121 : decode code 121 = .ok (.land, 1) := by decide +kernel
theorem zd_La_law_122 : decode code 122 = .ok (.lor, 1) := by decide +kernel
theorem zd_La_law_123 : decode code 123 = .ok (.aload_n 3, 1) := by decide +kernel
theorem zd_La_law_124 : decode code 124 = .ok (.invokestatic 56, 3) := by decide +kernel
theorem zd_La_law_127 : decode code 127 = .ok (.istore 5, 2) := by decide +kernel
theorem zd_La_law_129 : decode code 129 = .ok (.aload_n 2, 1) := by decide +kernel
theorem zd_La_law_130 : decode code 130 = .ok (.aload_n 0, 1) := by decide +kernel
theorem zd_La_law_131 : decode code 131 = .ok (.iload 4, 2) := by decide +kernel
theorem zd_La_law_133 : decode code 133 = .ok (.iconst 1, 1) := by decide +kernel
theorem zd_La_law_134 : decode code 134 = .ok (.iadd, 1) := by decide +kernel
theorem zd_La_law_135 : decode code 135 = .ok (.iaload, 1) := by decide +kernel
theorem zd_La_law_136 : decode code 136 = .ok (.aload_n 0, 1) := by decide +kernel
theorem zd_La_law_137 : decode code 137 = .ok (.iload 4, 2) := by decide +kernel
theorem zd_La_law_139 : decode code 139 = .ok (.iconst 2, 1) := by decide +kernel
theorem zd_La_law_140 : decode code 140 = .ok (.iadd, 1) := by decide +kernel
theorem zd_La_law_141 : decode code 141 = .ok (.iaload, 1) := by decide +kernel
theorem zd_La_law_142 : decode code 142 = .ok (.aload_n 0, 1) := by decide +kernel
theorem zd_La_law_143 : decode code 143 = .ok (.iload 4, 2) := by decide +kernel
theorem zd_La_law_145 : decode code 145 = .ok (.iconst 3, 1) := by decide +kernel
theorem zd_La_law_146 : decode code 146 = .ok (.iadd, 1) := by decide +kernel
theorem zd_La_law_147 : decode code 147 = .ok (.iaload, 1) := by decide +kernel
theorem zd_La_law_148 : decode code 148 = .ok (.i2l, 1) := by decide +kernel
theorem zd_La_law_149 : decode code 149 = .ok (.bipush 32, 2) := by decide +kernel
theorem zd_La_law_151 : decode code 151 = .ok (.lshl, 1) := by decide +kernel
theorem zd_La_law_152 : decode code 152 = .ok (.aload_n 0, 1) := by decide +kernel
theorem zd_La_law_153 : decode code 153 = .ok (.iload 4, 2) := by decide +kernel
theorem zd_La_law_155 : decode code 155 = .ok (.iconst 4, 1) := by decide +kernel
theorem zd_La_law_156 : decode code 156 = .ok (.iadd, 1) := by decide +kernel
theorem zd_La_law_157 : decode code 157 = .ok (.iaload, 1) := by decide +kernel
theorem zd_La_law_158 : decode code 158 = .ok (.i2l, 1) := by decide +kernel
theorem zd_La_law_159 : decode code 159 = .ok (.ldc2_w 54, 3) := by decide +kernel
theorem zd_La_law_162 : decode code 162 = .ok (.land, 1) := by decide +kernel
theorem zd_La_law_163 : decode code 163 = .ok (.lor, 1) := by decide +kernel
theorem zd_La_law_164 : decode code 164 = .ok (.invokevirtual 61, 3) := by decide +kernel
theorem zd_La_law_167 : decode code 167 = .ok (.lstore 6, 2) := by decide +kernel
theorem zd_La_law_169 : decode code 169 = .ok (.aload_n 2, 1) := by decide +kernel
theorem zd_La_law_170 : decode code 170 = .ok (.invokevirtual 62, 3) := by decide +kernel
theorem zd_La_law_173 : decode code 173 = .ok (.iload 5, 2) := by decide +kernel
theorem zd_La_law_175 : decode code 175 = .ok (.if_icmp .eq 5, 3) := by decide +kernel
theorem zd_La_law_178 : decode code 178 = .ok (.iconst 0, 1) := by decide +kernel
theorem zd_La_law_179 : decode code 179 = .ok (.ireturn, 1) := by decide +kernel
theorem zd_La_law_180 : decode code 180 = .ok (.iload 5, 2) := by decide +kernel
theorem zd_La_law_182 : decode code 182 = .ok (.ifCond .ne 14, 3) := by decide +kernel
theorem zd_La_law_185 : decode code 185 = .ok (.aload_n 3, 1) := by decide +kernel
theorem zd_La_law_186 : decode code 186 = .ok (.iconst 0, 1) := by decide +kernel
theorem zd_La_law_187 : decode code 187 = .ok (.laload, 1) := by decide +kernel
theorem zd_La_law_188 : decode code 188 = .ok (.lload 6, 2) := by decide +kernel
theorem zd_La_law_190 : decode code 190 = .ok (.lcmp, 1) := by decide +kernel
theorem zd_La_law_191 : decode code 191 = .ok (.ifCond .eq 5, 3) := by decide +kernel
theorem zd_La_law_194 : decode code 194 = .ok (.iconst 0, 1) := by decide +kernel
theorem zd_La_law_195 : decode code 195 = .ok (.ireturn, 1) := by decide +kernel
theorem zd_La_law_196 : decode code 196 = .ok (.goto 394, 3) := by decide +kernel
theorem zd_La_law_199 : decode code 199 = .ok (.aload_n 1, 1) := by decide +kernel
theorem zd_La_law_200 : decode code 200 = .ok (.aload_n 0, 1) := by decide +kernel
theorem zd_La_law_201 : decode code 201 = .ok (.iload 4, 2) := by decide +kernel
theorem zd_La_law_203 : decode code 203 = .ok (.iconst 1, 1) := by decide +kernel
theorem zd_La_law_204 : decode code 204 = .ok (.iadd, 1) := by decide +kernel
theorem zd_La_law_205 : decode code 205 = .ok (.iaload, 1) := by decide +kernel
theorem zd_La_law_206 : decode code 206 = .ok (.aload_n 0, 1) := by decide +kernel
theorem zd_La_law_207 : decode code 207 = .ok (.iload 4, 2) := by decide +kernel
theorem zd_La_law_209 : decode code 209 = .ok (.iconst 2, 1) := by decide +kernel
theorem zd_La_law_210 : decode code 210 = .ok (.iadd, 1) := by decide +kernel
theorem zd_La_law_211 : decode code 211 = .ok (.iaload, 1) := by decide +kernel
theorem zd_La_law_212 : decode code 212 = .ok (.aload_n 3, 1) := by decide +kernel
theorem zd_La_law_213 : decode code 213 = .ok (.invokestatic 65, 3) := by decide +kernel
theorem zd_La_law_216 : decode code 216 = .ok (.istore 5, 2) := by decide +kernel
theorem zd_La_law_218 : decode code 218 = .ok (.aload_n 2, 1) := by decide +kernel
theorem zd_La_law_219 : decode code 219 = .ok (.aload_n 0, 1) := by decide +kernel
theorem zd_La_law_220 : decode code 220 = .ok (.iload 4, 2) := by decide +kernel
theorem zd_La_law_222 : decode code 222 = .ok (.iconst 1, 1) := by decide +kernel
theorem zd_La_law_223 : decode code 223 = .ok (.iadd, 1) := by decide +kernel
theorem zd_La_law_224 : decode code 224 = .ok (.iaload, 1) := by decide +kernel
theorem zd_La_law_225 : decode code 225 = .ok (.aload_n 0, 1) := by decide +kernel
theorem zd_La_law_226 : decode code 226 = .ok (.iload 4, 2) := by decide +kernel
theorem zd_La_law_228 : decode code 228 = .ok (.iconst 2, 1) := by decide +kernel
theorem zd_La_law_229 : decode code 229 = .ok (.iadd, 1) := by decide +kernel
theorem zd_La_law_230 : decode code 230 = .ok (.iaload, 1) := by decide +kernel
theorem zd_La_law_231 : decode code 231 = .ok (.invokevirtual 68, 3) := by decide +kernel
theorem zd_La_law_234 : decode code 234 = .ok (.lstore 6, 2) := by decide +kernel
theorem zd_La_law_236 : decode code 236 = .ok (.aload_n 2, 1) := by decide +kernel
theorem zd_La_law_237 : decode code 237 = .ok (.invokevirtual 62, 3) := by decide +kernel
theorem zd_La_law_240 : decode code 240 = .ok (.iload 5, 2) := by decide +kernel
theorem zd_La_law_242 : decode code 242 = .ok (.if_icmp .eq 5, 3) := by decide +kernel
theorem zd_La_law_245 : decode code 245 = .ok (.iconst 0, 1) := by decide +kernel
theorem zd_La_law_246 : decode code 246 = .ok (.ireturn, 1) := by decide +kernel
theorem zd_La_law_247 : decode code 247 = .ok (.iload 5, 2) := by decide +kernel
theorem zd_La_law_249 : decode code 249 = .ok (.ifCond .ne 14, 3) := by decide +kernel
theorem zd_La_law_252 : decode code 252 = .ok (.aload_n 3, 1) := by decide +kernel
theorem zd_La_law_253 : decode code 253 = .ok (.iconst 0, 1) := by decide +kernel
theorem zd_La_law_254 : decode code 254 = .ok (.laload, 1) := by decide +kernel
theorem zd_La_law_255 : decode code 255 = .ok (.lload 6, 2) := by decide +kernel
theorem zd_La_law_257 : decode code 257 = .ok (.lcmp, 1) := by decide +kernel
theorem zd_La_law_258 : decode code 258 = .ok (.ifCond .eq 5, 3) := by decide +kernel
theorem zd_La_law_261 : decode code 261 = .ok (.iconst 0, 1) := by decide +kernel
theorem zd_La_law_262 : decode code 262 = .ok (.ireturn, 1) := by decide +kernel
theorem zd_La_law_263 : decode code 263 = .ok (.goto 327, 3) := by decide +kernel
theorem zd_La_law_266 : decode code 266 = .ok (.aload_n 1, 1) := by decide +kernel
theorem zd_La_law_267 : decode code 267 = .ok (.aload_n 0, 1) := by decide +kernel
theorem zd_La_law_268 : decode code 268 = .ok (.iload 4, 2) := by decide +kernel
theorem zd_La_law_270 : decode code 270 = .ok (.iconst 1, 1) := by decide +kernel
theorem zd_La_law_271 : decode code 271 = .ok (.iadd, 1) := by decide +kernel
theorem zd_La_law_272 : decode code 272 = .ok (.iaload, 1) := by decide +kernel
theorem zd_La_law_273 : decode code 273 = .ok (.invokestatic 69, 3) := by decide +kernel
theorem zd_La_law_276 : decode code 276 = .ok (.istore 5, 2) := by decide +kernel
theorem zd_La_law_278 : decode code 278 = .ok (.aload_n 2, 1) := by decide +kernel
theorem zd_La_law_279 : decode code 279 = .ok (.aload_n 0, 1) := by decide +kernel
theorem zd_La_law_280 : decode code 280 = .ok (.iload 4, 2) := by decide +kernel
theorem zd_La_law_282 : decode code 282 = .ok (.iconst 1, 1) := by decide +kernel
theorem zd_La_law_283 : decode code 283 = .ok (.iadd, 1) := by decide +kernel
theorem zd_La_law_284 : decode code 284 = .ok (.iaload, 1) := by decide +kernel
theorem zd_La_law_285 : decode code 285 = .ok (.invokevirtual 72, 3) := by decide +kernel
theorem zd_La_law_288 : decode code 288 = .ok (.aload_n 2, 1) := by decide +kernel
theorem zd_La_law_289 : decode code 289 = .ok (.invokevirtual 62, 3) := by decide +kernel
theorem zd_La_law_292 : decode code 292 = .ok (.iload 5, 2) := by decide +kernel
theorem zd_La_law_294 : decode code 294 = .ok (.if_icmp .eq 5, 3) := by decide +kernel
theorem zd_La_law_297 : decode code 297 = .ok (.iconst 0, 1) := by decide +kernel
theorem zd_La_law_298 : decode code 298 = .ok (.ireturn, 1) := by decide +kernel
theorem zd_La_law_299 : decode code 299 = .ok (.goto 291, 3) := by decide +kernel
theorem zd_La_law_302 : decode code 302 = .ok (.aload_n 1, 1) := by decide +kernel
theorem zd_La_law_303 : decode code 303 = .ok (.aload_n 3, 1) := by decide +kernel
theorem zd_La_law_304 : decode code 304 = .ok (.invokestatic 73, 3) := by decide +kernel
theorem zd_La_law_307 : decode code 307 = .ok (.istore 5, 2) := by decide +kernel
theorem zd_La_law_309 : decode code 309 = .ok (.aload_n 2, 1) := by decide +kernel
theorem zd_La_law_310 : decode code 310 = .ok (.invokevirtual 76, 3) := by decide +kernel
theorem zd_La_law_313 : decode code 313 = .ok (.istore 6, 2) := by decide +kernel
theorem zd_La_law_315 : decode code 315 = .ok (.aload_n 2, 1) := by decide +kernel
theorem zd_La_law_316 : decode code 316 = .ok (.invokevirtual 62, 3) := by decide +kernel
theorem zd_La_law_319 : decode code 319 = .ok (.iload 5, 2) := by decide +kernel
theorem zd_La_law_321 : decode code 321 = .ok (.if_icmp .eq 5, 3) := by decide +kernel
theorem zd_La_law_324 : decode code 324 = .ok (.iconst 0, 1) := by decide +kernel
theorem zd_La_law_325 : decode code 325 = .ok (.ireturn, 1) := by decide +kernel
theorem zd_La_law_326 : decode code 326 = .ok (.iload 5, 2) := by decide +kernel
theorem zd_La_law_328 : decode code 328 = .ok (.ifCond .ne 15, 3) := by decide +kernel
theorem zd_La_law_331 : decode code 331 = .ok (.aload_n 3, 1) := by decide +kernel
theorem zd_La_law_332 : decode code 332 = .ok (.iconst 0, 1) := by decide +kernel
theorem zd_La_law_333 : decode code 333 = .ok (.laload, 1) := by decide +kernel
theorem zd_La_law_334 : decode code 334 = .ok (.iload 6, 2) := by decide +kernel
theorem zd_La_law_336 : decode code 336 = .ok (.i2l, 1) := by decide +kernel
theorem zd_La_law_337 : decode code 337 = .ok (.lcmp, 1) := by decide +kernel
theorem zd_La_law_338 : decode code 338 = .ok (.ifCond .eq 5, 3) := by decide +kernel
theorem zd_La_law_341 : decode code 341 = .ok (.iconst 0, 1) := by decide +kernel
theorem zd_La_law_342 : decode code 342 = .ok (.ireturn, 1) := by decide +kernel
theorem zd_La_law_343 : decode code 343 = .ok (.goto 247, 3) := by decide +kernel
theorem zd_La_law_346 : decode code 346 = .ok (.aload_n 1, 1) := by decide +kernel
theorem zd_La_law_347 : decode code 347 = .ok (.aload_n 3, 1) := by decide +kernel
theorem zd_La_law_348 : decode code 348 = .ok (.invokestatic 77, 3) := by decide +kernel
theorem zd_La_law_351 : decode code 351 = .ok (.istore 5, 2) := by decide +kernel
theorem zd_La_law_353 : decode code 353 = .ok (.aload_n 2, 1) := by decide +kernel
theorem zd_La_law_354 : decode code 354 = .ok (.invokevirtual 79, 3) := by decide +kernel
theorem zd_La_law_357 : decode code 357 = .ok (.istore 6, 2) := by decide +kernel
theorem zd_La_law_359 : decode code 359 = .ok (.aload_n 2, 1) := by decide +kernel
theorem zd_La_law_360 : decode code 360 = .ok (.invokevirtual 62, 3) := by decide +kernel
theorem zd_La_law_363 : decode code 363 = .ok (.iload 5, 2) := by decide +kernel
theorem zd_La_law_365 : decode code 365 = .ok (.if_icmp .eq 5, 3) := by decide +kernel
theorem zd_La_law_368 : decode code 368 = .ok (.iconst 0, 1) := by decide +kernel
theorem zd_La_law_369 : decode code 369 = .ok (.ireturn, 1) := by decide +kernel
theorem zd_La_law_370 : decode code 370 = .ok (.iload 5, 2) := by decide +kernel
theorem zd_La_law_372 : decode code 372 = .ok (.ifCond .ne 15, 3) := by decide +kernel
theorem zd_La_law_375 : decode code 375 = .ok (.aload_n 3, 1) := by decide +kernel
theorem zd_La_law_376 : decode code 376 = .ok (.iconst 0, 1) := by decide +kernel
theorem zd_La_law_377 : decode code 377 = .ok (.laload, 1) := by decide +kernel
theorem zd_La_law_378 : decode code 378 = .ok (.iload 6, 2) := by decide +kernel
theorem zd_La_law_380 : decode code 380 = .ok (.i2l, 1) := by decide +kernel
theorem zd_La_law_381 : decode code 381 = .ok (.lcmp, 1) := by decide +kernel
theorem zd_La_law_382 : decode code 382 = .ok (.ifCond .eq 5, 3) := by decide +kernel
theorem zd_La_law_385 : decode code 385 = .ok (.iconst 0, 1) := by decide +kernel
theorem zd_La_law_386 : decode code 386 = .ok (.ireturn, 1) := by decide +kernel
theorem zd_La_law_387 : decode code 387 = .ok (.goto 203, 3) := by decide +kernel
theorem zd_La_law_390 : decode code 390 = .ok (.aload_n 1, 1) := by decide +kernel
theorem zd_La_law_391 : decode code 391 = .ok (.aload_n 0, 1) := by decide +kernel
theorem zd_La_law_392 : decode code 392 = .ok (.iload 4, 2) := by decide +kernel
theorem zd_La_law_394 : decode code 394 = .ok (.iconst 1, 1) := by decide +kernel
theorem zd_La_law_395 : decode code 395 = .ok (.iadd, 1) := by decide +kernel
theorem zd_La_law_396 : decode code 396 = .ok (.iaload, 1) := by decide +kernel
theorem zd_La_law_397 : decode code 397 = .ok (.aload_n 0, 1) := by decide +kernel
theorem zd_La_law_398 : decode code 398 = .ok (.iload 4, 2) := by decide +kernel
theorem zd_La_law_400 : decode code 400 = .ok (.iconst 2, 1) := by decide +kernel
theorem zd_La_law_401 : decode code 401 = .ok (.iadd, 1) := by decide +kernel
theorem zd_La_law_402 : decode code 402 = .ok (.iaload, 1) := by decide +kernel
theorem zd_La_law_403 : decode code 403 = .ok (.aload_n 0, 1) := by decide +kernel
theorem zd_La_law_404 : decode code 404 = .ok (.iload 4, 2) := by decide +kernel
theorem zd_La_law_406 : decode code 406 = .ok (.iconst 3, 1) := by decide +kernel
theorem zd_La_law_407 : decode code 407 = .ok (.iadd, 1) := by decide +kernel
theorem zd_La_law_408 : decode code 408 = .ok (.iaload, 1) := by decide +kernel
theorem zd_La_law_409 : decode code 409 = .ok (.ifCond .eq 7, 3) := by decide +kernel
theorem zd_La_law_412 : decode code 412 = .ok (.iconst 1, 1) := by decide +kernel
theorem zd_La_law_413 : decode code 413 = .ok (.goto 4, 3) := by decide +kernel
theorem zd_La_law_416 : decode code 416 = .ok (.iconst 0, 1) := by decide +kernel
theorem zd_La_law_417 : decode code 417 = .ok (.invokestatic 80, 3) := by decide +kernel
theorem zd_La_law_420 : decode code 420 = .ok (.istore 5, 2) := by decide +kernel
theorem zd_La_law_422 : decode code 422 = .ok (.aload_n 2, 1) := by decide +kernel
theorem zd_La_law_423 : decode code 423 = .ok (.aload_n 0, 1) := by decide +kernel
theorem zd_La_law_424 : decode code 424 = .ok (.iload 4, 2) := by decide +kernel
theorem zd_La_law_426 : decode code 426 = .ok (.iconst 1, 1) := by decide +kernel
theorem zd_La_law_427 : decode code 427 = .ok (.iadd, 1) := by decide +kernel
theorem zd_La_law_428 : decode code 428 = .ok (.iaload, 1) := by decide +kernel
theorem zd_La_law_429 : decode code 429 = .ok (.aload_n 0, 1) := by decide +kernel
theorem zd_La_law_430 : decode code 430 = .ok (.iload 4, 2) := by decide +kernel
theorem zd_La_law_432 : decode code 432 = .ok (.iconst 2, 1) := by decide +kernel
theorem zd_La_law_433 : decode code 433 = .ok (.iadd, 1) := by decide +kernel
theorem zd_La_law_434 : decode code 434 = .ok (.iaload, 1) := by decide +kernel
theorem zd_La_law_435 : decode code 435 = .ok (.aload_n 0, 1) := by decide +kernel
theorem zd_La_law_436 : decode code 436 = .ok (.iload 4, 2) := by decide +kernel
theorem zd_La_law_438 : decode code 438 = .ok (.iconst 3, 1) := by decide +kernel
theorem zd_La_law_439 : decode code 439 = .ok (.iadd, 1) := by decide +kernel
theorem zd_La_law_440 : decode code 440 = .ok (.iaload, 1) := by decide +kernel
theorem zd_La_law_441 : decode code 441 = .ok (.ifCond .eq 7, 3) := by decide +kernel
theorem zd_La_law_444 : decode code 444 = .ok (.iconst 1, 1) := by decide +kernel
theorem zd_La_law_445 : decode code 445 = .ok (.goto 4, 3) := by decide +kernel
theorem zd_La_law_448 : decode code 448 = .ok (.iconst 0, 1) := by decide +kernel
theorem zd_La_law_449 : decode code 449 = .ok (.invokevirtual 83, 3) := by decide +kernel
theorem zd_La_law_452 : decode code 452 = .ok (.aload_n 2, 1) := by decide +kernel
theorem zd_La_law_453 : decode code 453 = .ok (.invokevirtual 62, 3) := by decide +kernel
theorem zd_La_law_456 : decode code 456 = .ok (.iload 5, 2) := by decide +kernel
theorem zd_La_law_458 : decode code 458 = .ok (.if_icmp .eq 5, 3) := by decide +kernel
theorem zd_La_law_461 : decode code 461 = .ok (.iconst 0, 1) := by decide +kernel
theorem zd_La_law_462 : decode code 462 = .ok (.ireturn, 1) := by decide +kernel
theorem zd_La_law_463 : decode code 463 = .ok (.goto 127, 3) := by decide +kernel
theorem zd_La_law_466 : decode code 466 = .ok (.aload_n 1, 1) := by decide +kernel
theorem zd_La_law_467 : decode code 467 = .ok (.invokestatic 84, 3) := by decide +kernel
theorem zd_La_law_470 : decode code 470 = .ok (.istore 5, 2) := by decide +kernel
theorem zd_La_law_472 : decode code 472 = .ok (.aload_n 2, 1) := by decide +kernel
theorem zd_La_law_473 : decode code 473 = .ok (.invokevirtual 87, 3) := by decide +kernel
theorem zd_La_law_476 : decode code 476 = .ok (.aload_n 2, 1) := by decide +kernel
theorem zd_La_law_477 : decode code 477 = .ok (.invokevirtual 62, 3) := by decide +kernel
theorem zd_La_law_480 : decode code 480 = .ok (.iload 5, 2) := by decide +kernel
theorem zd_La_law_482 : decode code 482 = .ok (.if_icmp .eq 5, 3) := by decide +kernel
theorem zd_La_law_485 : decode code 485 = .ok (.iconst 0, 1) := by decide +kernel
theorem zd_La_law_486 : decode code 486 = .ok (.ireturn, 1) := by decide +kernel
theorem zd_La_law_487 : decode code 487 = .ok (.goto 103, 3) := by decide +kernel
theorem zd_La_law_490 : decode code 490 = .ok (.aload_n 1, 1) := by decide +kernel
theorem zd_La_law_491 : decode code 491 = .ok (.aload_n 0, 1) := by decide +kernel
theorem zd_La_law_492 : decode code 492 = .ok (.iload 4, 2) := by decide +kernel
theorem zd_La_law_494 : decode code 494 = .ok (.iconst 1, 1) := by decide +kernel
theorem zd_La_law_495 : decode code 495 = .ok (.iadd, 1) := by decide +kernel
theorem zd_La_law_496 : decode code 496 = .ok (.iaload, 1) := by decide +kernel
theorem zd_La_law_497 : decode code 497 = .ok (.aload_n 3, 1) := by decide +kernel
theorem zd_La_law_498 : decode code 498 = .ok (.invokestatic 88, 3) := by decide +kernel
theorem zd_La_law_501 : decode code 501 = .ok (.istore 5, 2) := by decide +kernel
theorem zd_La_law_503 : decode code 503 = .ok (.aload_n 2, 1) := by decide +kernel
theorem zd_La_law_504 : decode code 504 = .ok (.aload_n 0, 1) := by decide +kernel
theorem zd_La_law_505 : decode code 505 = .ok (.iload 4, 2) := by decide +kernel
theorem zd_La_law_507 : decode code 507 = .ok (.iconst 1, 1) := by decide +kernel
theorem zd_La_law_508 : decode code 508 = .ok (.iadd, 1) := by decide +kernel
theorem zd_La_law_509 : decode code 509 = .ok (.iaload, 1) := by decide +kernel
theorem zd_La_law_510 : decode code 510 = .ok (.invokevirtual 91, 3) := by decide +kernel
theorem zd_La_law_513 : decode code 513 = .ok (.istore 6, 2) := by decide +kernel
theorem zd_La_law_515 : decode code 515 = .ok (.aload_n 2, 1) := by decide +kernel
theorem zd_La_law_516 : decode code 516 = .ok (.invokevirtual 62, 3) := by decide +kernel
theorem zd_La_law_519 : decode code 519 = .ok (.iload 5, 2) := by decide +kernel
theorem zd_La_law_521 : decode code 521 = .ok (.if_icmp .eq 5, 3) := by decide +kernel
theorem zd_La_law_524 : decode code 524 = .ok (.iconst 0, 1) := by decide +kernel
theorem zd_La_law_525 : decode code 525 = .ok (.ireturn, 1) := by decide +kernel
theorem zd_La_law_526 : decode code 526 = .ok (.iload 5, 2) := by decide +kernel
theorem zd_La_law_528 : decode code 528 = .ok (.ifCond .ne 15, 3) := by decide +kernel
theorem zd_La_law_531 : decode code 531 = .ok (.aload_n 3, 1) := by decide +kernel
theorem zd_La_law_532 : decode code 532 = .ok (.iconst 0, 1) := by decide +kernel
theorem zd_La_law_533 : decode code 533 = .ok (.laload, 1) := by decide +kernel
theorem zd_La_law_534 : decode code 534 = .ok (.iload 6, 2) := by decide +kernel
theorem zd_La_law_536 : decode code 536 = .ok (.i2l, 1) := by decide +kernel
theorem zd_La_law_537 : decode code 537 = .ok (.lcmp, 1) := by decide +kernel
theorem zd_La_law_538 : decode code 538 = .ok (.ifCond .eq 5, 3) := by decide +kernel
theorem zd_La_law_541 : decode code 541 = .ok (.iconst 0, 1) := by decide +kernel
theorem zd_La_law_542 : decode code 542 = .ok (.ireturn, 1) := by decide +kernel
theorem zd_La_law_543 : decode code 543 = .ok (.goto 47, 3) := by decide +kernel
theorem zd_La_law_546 : decode code 546 = .ok (.aload_n 1, 1) := by decide +kernel
theorem zd_La_law_547 : decode code 547 = .ok (.aload_n 3, 1) := by decide +kernel
theorem zd_La_law_548 : decode code 548 = .ok (.invokestatic 92, 3) := by decide +kernel
theorem zd_La_law_551 : decode code 551 = .ok (.istore 5, 2) := by decide +kernel
theorem zd_La_law_553 : decode code 553 = .ok (.aload_n 2, 1) := by decide +kernel
theorem zd_La_law_554 : decode code 554 = .ok (.invokevirtual 94, 3) := by decide +kernel
theorem zd_La_law_557 : decode code 557 = .ok (.istore 6, 2) := by decide +kernel
theorem zd_La_law_559 : decode code 559 = .ok (.aload_n 2, 1) := by decide +kernel
theorem zd_La_law_560 : decode code 560 = .ok (.invokevirtual 62, 3) := by decide +kernel
theorem zd_La_law_563 : decode code 563 = .ok (.iload 5, 2) := by decide +kernel
theorem zd_La_law_565 : decode code 565 = .ok (.if_icmp .eq 5, 3) := by decide +kernel
theorem zd_La_law_568 : decode code 568 = .ok (.iconst 0, 1) := by decide +kernel
theorem zd_La_law_569 : decode code 569 = .ok (.ireturn, 1) := by decide +kernel
theorem zd_La_law_570 : decode code 570 = .ok (.iload 5, 2) := by decide +kernel
theorem zd_La_law_572 : decode code 572 = .ok (.ifCond .ne 15, 3) := by decide +kernel
theorem zd_La_law_575 : decode code 575 = .ok (.aload_n 3, 1) := by decide +kernel
theorem zd_La_law_576 : decode code 576 = .ok (.iconst 0, 1) := by decide +kernel
theorem zd_La_law_577 : decode code 577 = .ok (.laload, 1) := by decide +kernel
theorem zd_La_law_578 : decode code 578 = .ok (.iload 6, 2) := by decide +kernel
theorem zd_La_law_580 : decode code 580 = .ok (.i2l, 1) := by decide +kernel
theorem zd_La_law_581 : decode code 581 = .ok (.lcmp, 1) := by decide +kernel
theorem zd_La_law_582 : decode code 582 = .ok (.ifCond .eq 5, 3) := by decide +kernel
theorem zd_La_law_585 : decode code 585 = .ok (.iconst 0, 1) := by decide +kernel
theorem zd_La_law_586 : decode code 586 = .ok (.ireturn, 1) := by decide +kernel
theorem zd_La_law_587 : decode code 587 = .ok (.goto 3, 3) := by decide +kernel
theorem zd_La_law_590 : decode code 590 = .ok (.iinc 4 5, 3) := by decide +kernel
theorem zd_La_law_593 : decode code 593 = .ok (.goto (-570), 3) := by decide +kernel
theorem zd_La_law_596 : decode code 596 = .ok (.iconst 1, 1) := by decide +kernel
theorem zd_La_law_597 : decode code 597 = .ok (.ireturn, 1) := by decide +kernel
end
section
/-! this claim's cells and rows on them: byte arrays hold bytes, fields by class, calls within one world -/
def bz (f : Nat → Int8) : Nat → Int32 := fun j => (f j).toInt32
def ub (f : Nat → Int8) (k : Nat) (x : Int8) : Nat → Int8 := fun j => if j = k then x else f j
def bI (b : Bool) : Int32 := if b then 1 else 0
abbrev eB (G : xG) (n : Nat) (f : Nat → Int8) : va_E := .inl (gB G, n, .inl (bz f))
abbrev eJ (G : xG) (f : Nat → Int64) : va_E := .inl (gJ G, 1, .inr (.inl f))
abbrev ePA (pw ar rw : Nat) (off : Bool) : va_E := .inr (0, [.ref pw, .ref ar, .ref rw, .int (bI off)])
abbrev ePw (wn lf bt : Int32) (am bh : Bool) : va_E := .inr (1, [.int wn, .int lf, .int bt, .int (bI am), .int (bI bh)])
abbrev eA5 (dk on pt rc pw : Nat) (sk rb : Int32) (nw la : Bool) : va_E := .inr (2, [.ref dk, .ref on, .ref pt, .ref rc, .ref pw, .int sk, .int rb, .int (bI nw), .int (bI la)])
abbrev eMo (by_ : Nat) (on : Bool) (sk : Int32) (fr : Bool) (rb fl wr ct th : Int32) : va_E := .inr (3, [.ref by_, .int (bI on), .int sk, .int (bI fr), .int rb, .int fl, .int wr, .int ct, .int th])
theorem bI_n (b : Bool) : narrow .boolean (.int (bI b)) = .int (bI b) := by cases b <;> rfl
theorem bI_f (b : Bool) : fits .boolean (.int (bI b)) = true := by cases b <;> rfl
theorem bI_0 {b : Bool} : bI b = 0 ↔ b = false := by cases b <;> decide
theorem bI_1 {b : Bool} : bI b = 1 ↔ b = true := by cases b <;> decide
theorem bz_ub (f : Nat → Int8) (k : Nat) (x : Int32) : upd (bz f) k (vp_nar .byte x) = bz (ub f k x.toInt8) := by
  funext j
  simp only [upd, bz, ub, vp_nar_byte]
  split <;> rfl
theorem bz_cpy (f g : Nat → Int8) (sp dp n : Nat) : va_cpy (bz f) (bz g) sp dp n = bz (va_cpy f g sp dp n) := by
  funext j
  simp only [va_cpy, bz]
  split <;> rfl
theorem bz_0 : bz (fun _ => 0) = fun _ => 0 := by
  funext j
  rfl
theorem zw_D {A : Nat → Prop} {ws ws' : va_W} (h : va_D A ws) (he : ws'.map (fun q => q.1) = ws.map (fun q => q.1)) : va_D A ws' := by
  have key : ∀ (k : Nat) (q : Nat × va_E), ws'[k]? = some q → ∃ q0, ws[k]? = some q0 ∧ q0.1 = q.1 := by
    intro k q hk
    have h1 : (ws'.map (fun q => q.1))[k]? = some q.1 := by rw [List.getElem?_map, hk]; rfl
    rw [he, List.getElem?_map] at h1
    cases h2 : ws[k]? with
    | none => rw [h2] at h1; cases h1
    | some q0 => rw [h2] at h1; exact ⟨q0, rfl, Option.some.inj h1⟩
  refine ⟨fun i j x y hi hj hxy => ?_, fun k q hk => ?_⟩
  · obtain ⟨x0, h1, h2⟩ := key i x hi
    obtain ⟨y0, h3, h4⟩ := key j y hj
    exact h.1 i j x0 y0 h1 h3 (h2.trans (hxy.trans h4.symm))
  · obtain ⟨q0, h1, h2⟩ := key k q hk
    rw [← h2]
    exact h.2 k q0 h1
theorem zj_PA : ∀ w ∈ u_ws zR_PA zF_PA 4, zx_ok w = true := by decide +kernel
theorem zk_PA : ∀ k, k < 4 → (zF_PA k).1 = zR_PA := by decide +kernel
theorem zj_Pw : ∀ w ∈ u_ws zR_Pw zF_Pw 5, zx_ok w = true := by decide +kernel
theorem zk_Pw : ∀ k, k < 5 → (zF_Pw k).1 = zR_Pw := by decide +kernel
theorem zj_A5 : ∀ w ∈ u_ws zR_A5 zF_A5 9, zx_ok w = true := by decide +kernel
theorem zk_A5 : ∀ k, k < 9 → (zF_A5 k).1 = zR_A5 := by decide +kernel
theorem zj_Mo : ∀ w ∈ u_ws zR_Mo zF_Mo 9, zx_ok w = true := by decide +kernel
theorem zk_Mo : ∀ k, k < 9 → (zF_Mo k).1 = zR_Mo := by decide +kernel
theorem zw_DP {A : Nat → Prop} {D : va_G} {cl : List vw_C} {H : Heap} {ws ws' : va_W} (h : va_D A ws) (_ : va_P D cl ws' H) (he : ws'.map (fun q => q.1) = ws.map (fun q => q.1)) : va_D A ws' := zw_D h he
theorem zl_inc (k : Nat) : nI k + Int32.ofInt 1 = nI (k + 1) := nI_1 k
section XD
variable {p : Program} {l : Launch} {e : Env} {R : Room} {s : State} {m : MethodId} {args : Array Value} {below : List Frame} {meth : Method} {c : Code} {H : Heap} {locs : List Loc} {cells slots : Nat} {Q : State → Prop} {G : xG}
variable {own nm : String} {cc : ByteArray} {nL : Nat} {ret : Option FieldType} {hs : List (Nat × Nat × Nat × Nat)}
variable {A : Nat → Prop} {rest : List Value} {pc : Nat} {ls : Array Slot} {ws : va_W} {a : Nat} {H0 : Heap}
theorem zw_bald (F : xFix p s m meth c cc nL own nm ret hs) (hK : xK G s) (hP : va_P G.1 zcl ws H) (q0 : Nat) {n : Nat} {f : Nat → Int8} (ha : ws[q0]? = some (a, eB G n f)) {i : Int32} (j : Nat) (hi : i = nI j) (hj : j < n) (hn : n < 2 ^ 31) (hdg : decode cc pc = .ok (.baload, 1))
    (kk : W p l e R s m args below meth c H locs cells slots Q (F0 m (pc + 1) ls (.int (f j).toInt32 :: rest))) : W p l e R s m args below meth c H locs cells slots Q (F0 m pc ls (.int i :: .ref a :: rest)) := by
  subst hi
  refine va_bald F.1 F.2.1 hK.1 hP q0 0 ha rfl (vp_in_nI hj hn) hdg ?_
  rw [nI_clamp (by omega)]
  exact kk
theorem zw_bast (F : xFix p s m meth c cc nL own nm ret hs) (hK : xK G s) (hP : va_P G.1 zcl ws H) (hD : va_D A ws) (hS : va_S A H0 H locs) (q0 : Nat) {n : Nat} {f : Nat → Int8} (ha : ws[q0]? = some (a, eB G n f)) {i x : Int32} (j : Nat) (hi : i = nI j) (hj : j < n) (hn : n < 2 ^ 31) (hdg : decode cc pc = .ok (.bastore, 1))
    (kk : ∀ (H1 : Heap) (locs1 : List Loc), va_P G.1 zcl (ws.set q0 (a, eB G n (ub f j x.toInt8))) H1 → va_D A (ws.set q0 (a, eB G n (ub f j x.toInt8))) → va_S A H0 H1 locs1 → W p l e R s m args below meth c H1 locs1 cells slots Q (F0 m (pc + 1) ls rest)) : W p l e R s m args below meth c H locs cells slots Q (F0 m pc ls (.int x :: .int i :: .ref a :: rest)) := by
  subst hi
  refine va_bast F.1 F.2.1 hK.1 hP hD hS q0 0 ha rfl (vp_in_nI hj hn) hdg (fun H1 locs1 h1 _ h3 => kk H1 locs1 ?_ (hD.set ha) h3)
  rw [nI_clamp (by omega), bz_ub] at h1
  exact h1
theorem zw_lald (F : xFix p s m meth c cc nL own nm ret hs) (hK : xK G s) (hP : va_P G.1 zcl ws H) (q0 : Nat) {f : Nat → Int64} (ha : ws[q0]? = some (a, eJ G f)) (hdg : decode cc pc = .ok (.laload, 1))
    (kk : W p l e R s m args below meth c H locs cells slots Q (F0 m (pc + 1) ls (.long (f 0) :: rest))) : W p l e R s m args below meth c H locs cells slots Q (F0 m pc ls (.int 0 :: .ref a :: rest)) :=
  va_lald F.1 F.2.1 hK.1 hP q0 1 ha rfl (by show vp_in 0 1; unfold vp_in; decide) hdg kk
theorem zw_last (F : xFix p s m meth c cc nL own nm ret hs) (hK : xK G s) (hP : va_P G.1 zcl ws H) (hD : va_D A ws) (hS : va_S A H0 H locs) (q0 : Nat) {f : Nat → Int64} {x : Int64} (ha : ws[q0]? = some (a, eJ G f)) (hdg : decode cc pc = .ok (.lastore, 1))
    (kk : ∀ (H1 : Heap) (locs1 : List Loc), va_P G.1 zcl (ws.set q0 (a, eJ G (vp_updL f 0 x))) H1 → va_D A (ws.set q0 (a, eJ G (vp_updL f 0 x))) → va_S A H0 H1 locs1 → W p l e R s m args below meth c H1 locs1 cells slots Q (F0 m (pc + 1) ls rest)) : W p l e R s m args below meth c H locs cells slots Q (F0 m pc ls (.long x :: .int 0 :: .ref a :: rest)) :=
  va_last F.1 F.2.1 hK.1 hP hD hS q0 1 ha rfl (by show vp_in 0 1; unfold vp_in; decide) hdg (fun H1 locs1 h1 h2 h3 => kk H1 locs1 h1 h2 h3)
theorem zw_ti {x : Int32} (y : Int32) (h : x = y) (k : W p l e R s m args below meth c H locs cells slots Q (F0 m pc ls (.int y :: rest))) : W p l e R s m args below meth c H locs cells slots Q (F0 m pc ls (.int x :: rest)) := by rw [h]; exact k
theorem zw_tl {x : Int64} (y : Int64) (h : x = y) (k : W p l e R s m args below meth c H locs cells slots Q (F0 m pc ls (.long y :: rest))) : W p l e R s m args below meth c H locs cells slots Q (F0 m pc ls (.long x :: rest)) := by rw [h]; exact k
theorem zw_app {v : Value} (k : W p l e R s m args below meth c H locs cells slots Q (F0 m pc ls (v :: rest))) : W p l e R s m args below meth c H locs cells slots Q (F0 m pc ls ((some v).toList ++ rest)) := k
theorem zw_app0 (k : W p l e R s m args below meth c H locs cells slots Q (F0 m pc ls rest)) : W p l e R s m args below meth c H locs cells slots Q (F0 m pc ls ((none : Option Value).toList ++ rest)) := k
theorem zx_Ts (hT : xT s) : ∀ w ∈ lw_tbl.filter zx_ok, w.before args s = true := fun w hw => hT w (List.mem_filter.mp hw).1 (List.mem_filter.mp hw).2 args
theorem zg_PA {index : Nat} (F : xFix p s m meth c cc nL own nm ret hs) (hT : xT s) (hK : xK G s) (hP : va_P G.1 zcl ws H) (q0 : Nat) {fs : List Value} (he : ws[q0]? = some (a, .inr (0, fs))) (k : Nat) (hk : k < 4) (hw : Cond.fieldLink own index zR_PA (zF_PA k).2.1 (zF_PA k).2.2.1 ∈ lw_tbl) {v : Value} (hv : fs[k]? = some v) (hdg : decode cc pc = .ok (.getfield index, 3))
    (kk : W p l e R s m args below meth c H locs cells slots Q (F0 m (pc + 3) ls (v :: rest))) : W p l e R s m args below meth c H locs cells slots Q (F0 m pc ls (.ref a :: rest)) :=
  va_get (D := G.1) (C := zR_PA) (T := zF_PA) (N := 4) F.1 F.2.1 (zx_Ts hT) (fun w hw => List.mem_filter.mpr ⟨zi_PA w hw, zj_PA w hw⟩) F.2.2.2.2.1 hK.1 hP q0 he rfl k hk (hT.u hw) (fun _ h => by rw [zk_PA k hk] at h; exact h) hv hdg kk
theorem zp_PA {index : Nat} (F : xFix p s m meth c cc nL own nm ret hs) (hT : xT s) (hK : xK G s) (hP : va_P G.1 zcl ws H) (hD : va_D A ws) (hS : va_S A H0 H locs) (q0 : Nat) {fs : List Value} (he : ws[q0]? = some (a, .inr (0, fs))) (k : Nat) (hk : k < 4) (hw : Cond.fieldLink own index zR_PA (zF_PA k).2.1 (zF_PA k).2.2.1 ∈ lw_tbl) (hfin : (zF_PA k).2.2.2 = false) {v : Value} (hn : narrow (zt_PA k) v = v) (hfit : fits (zt_PA k) v = true) (hl : k < fs.length) (hdg : decode cc pc = .ok (.putfield index, 3))
    (kk : ∀ (H1 : Heap) (locs1 : List Loc), va_P G.1 zcl (ws.set q0 (a, .inr (0, fs.set k v))) H1 → va_D A (ws.set q0 (a, .inr (0, fs.set k v))) → va_S A H0 H1 locs1 → W p l e R s m args below meth c H1 locs1 cells slots Q (F0 m (pc + 3) ls rest)) : W p l e R s m args below meth c H locs cells slots Q (F0 m pc ls (v :: .ref a :: rest)) :=
  va_put (D := G.1) (C := zR_PA) (T := zF_PA) (N := 4) (ty := zt_PA k) F.1 F.2.1 (zx_Ts hT) (fun w hw => List.mem_filter.mpr ⟨zi_PA w hw, zj_PA w hw⟩) zt_PA zo_PA zn_PA F.2.2.2.2.1 hK.1 hP hD hS q0 he rfl k hk (hT.u hw) (fun _ h => by rw [zk_PA k hk] at h; exact h) hfin (zo_PA k hk) hn hfit hl hdg (fun H1 locs1 h1 h2 h3 => kk H1 locs1 h1 h2 h3)
theorem zf_PA {index : Nat} (F : xFix p s m meth c cc nL own nm ret hs) (hT : xT s) (hK : xK G s) (hP : va_P G.1 zcl ws H) (hD : va_D A ws) (hS : va_S A H0 H locs) (q0 : Nat) {fs : List Value} (he : ws[q0]? = some (a, .inr (0, fs))) (k : Nat) (hk : k < 4) (hw : Cond.fieldLink own index zR_PA (zF_PA k).2.1 (zF_PA k).2.2.1 ∈ lw_tbl) (hfin : (zF_PA k).2.2.2 = true) (hi : nm = "<init>") (ho : own = zR_PA) {v : Value} (hn : narrow (zt_PA k) v = v) (hfit : fits (zt_PA k) v = true) (hl : k < fs.length) (hdg : decode cc pc = .ok (.putfield index, 3))
    (kk : ∀ (H1 : Heap) (locs1 : List Loc), va_P G.1 zcl (ws.set q0 (a, .inr (0, fs.set k v))) H1 → va_D A (ws.set q0 (a, .inr (0, fs.set k v))) → va_S A H0 H1 locs1 → W p l e R s m args below meth c H1 locs1 cells slots Q (F0 m (pc + 3) ls rest)) : W p l e R s m args below meth c H locs cells slots Q (F0 m pc ls (v :: .ref a :: rest)) :=
  va_putF (D := G.1) (C := zR_PA) (T := zF_PA) (N := 4) (ty := zt_PA k) F.1 F.2.1 (zx_Ts hT) (fun w hw => List.mem_filter.mpr ⟨zi_PA w hw, zj_PA w hw⟩) zt_PA zo_PA zn_PA F.2.2.2.2.1 hK.1 hP hD hS q0 he rfl k hk (hT.u hw) (fun _ h => by rw [zk_PA k hk] at h; exact h) hfin (by rw [F.2.2.2.2.2.2.1]; exact hi) (by rw [zk_PA k hk]; exact ho.symm) (zo_PA k hk) hn hfit hl hdg (fun H1 locs1 h1 h2 h3 => kk H1 locs1 h1 h2 h3)
theorem zN_PA {index : Nat} (F : xFix p s m meth c cc nL own nm ret hs) (hT : xT s) (hK : xK G s) (hP : va_P G.1 zcl ws H) (hD : va_D A ws) (hS : va_S A H0 H locs) (hA : ∀ q, H0.size ≤ q → A q) (hw : Cond.classLink own index zR_PA ∈ lw_tbl) (hi : Cond.instantiable zR_PA 4 ∈ lw_tbl) (hini : Cond.initialized zR_PA ∈ lw_tbl) {fs : List Value} (hfs : ∀ j, j < 4 → defaultValue (zt_PA j) = vp_V fs j) (hcells : cells + 1 ≤ R.cells) (hslots : slots + 4 ≤ R.slots) (hdg : decode cc pc = .ok (.new index, 3))
    (kk : ∀ (q : Nat) (H1 : Heap), va_P G.1 zcl (ws ++ [(q, .inr (0, fs))]) H1 → va_D A (ws ++ [(q, .inr (0, fs))]) → va_S A H0 H1 locs → W p l e R s m args below meth c H1 locs (cells + 1) (slots + 4) Q (F0 m (pc + 3) ls (.ref q :: rest))) : W p l e R s m args below meth c H locs cells slots Q (F0 m pc ls rest) :=
  va_new (D := G.1) (C := zR_PA) (T := zF_PA) (N := 4) F.1 F.2.1 (zx_Ts hT) (fun w hw => List.mem_filter.mpr ⟨zi_PA w hw, zj_PA w hw⟩) zt_PA zo_PA F.2.2.2.2.1 (hT.u hw) (hT.u hi) (hT.u hini) hK.1 hP hD hS hA rfl hfs hcells hslots hdg kk
theorem zg_Pw {index : Nat} (F : xFix p s m meth c cc nL own nm ret hs) (hT : xT s) (hK : xK G s) (hP : va_P G.1 zcl ws H) (q0 : Nat) {fs : List Value} (he : ws[q0]? = some (a, .inr (1, fs))) (k : Nat) (hk : k < 5) (hw : Cond.fieldLink own index zR_Pw (zF_Pw k).2.1 (zF_Pw k).2.2.1 ∈ lw_tbl) {v : Value} (hv : fs[k]? = some v) (hdg : decode cc pc = .ok (.getfield index, 3))
    (kk : W p l e R s m args below meth c H locs cells slots Q (F0 m (pc + 3) ls (v :: rest))) : W p l e R s m args below meth c H locs cells slots Q (F0 m pc ls (.ref a :: rest)) :=
  va_get (D := G.1) (C := zR_Pw) (T := zF_Pw) (N := 5) F.1 F.2.1 (zx_Ts hT) (fun w hw => List.mem_filter.mpr ⟨zi_Pw w hw, zj_Pw w hw⟩) F.2.2.2.2.1 hK.1 hP q0 he rfl k hk (hT.u hw) (fun _ h => by rw [zk_Pw k hk] at h; exact h) hv hdg kk
theorem zp_Pw {index : Nat} (F : xFix p s m meth c cc nL own nm ret hs) (hT : xT s) (hK : xK G s) (hP : va_P G.1 zcl ws H) (hD : va_D A ws) (hS : va_S A H0 H locs) (q0 : Nat) {fs : List Value} (he : ws[q0]? = some (a, .inr (1, fs))) (k : Nat) (hk : k < 5) (hw : Cond.fieldLink own index zR_Pw (zF_Pw k).2.1 (zF_Pw k).2.2.1 ∈ lw_tbl) (hfin : (zF_Pw k).2.2.2 = false) {v : Value} (hn : narrow (zt_Pw k) v = v) (hfit : fits (zt_Pw k) v = true) (hl : k < fs.length) (hdg : decode cc pc = .ok (.putfield index, 3))
    (kk : ∀ (H1 : Heap) (locs1 : List Loc), va_P G.1 zcl (ws.set q0 (a, .inr (1, fs.set k v))) H1 → va_D A (ws.set q0 (a, .inr (1, fs.set k v))) → va_S A H0 H1 locs1 → W p l e R s m args below meth c H1 locs1 cells slots Q (F0 m (pc + 3) ls rest)) : W p l e R s m args below meth c H locs cells slots Q (F0 m pc ls (v :: .ref a :: rest)) :=
  va_put (D := G.1) (C := zR_Pw) (T := zF_Pw) (N := 5) (ty := zt_Pw k) F.1 F.2.1 (zx_Ts hT) (fun w hw => List.mem_filter.mpr ⟨zi_Pw w hw, zj_Pw w hw⟩) zt_Pw zo_Pw zn_Pw F.2.2.2.2.1 hK.1 hP hD hS q0 he rfl k hk (hT.u hw) (fun _ h => by rw [zk_Pw k hk] at h; exact h) hfin (zo_Pw k hk) hn hfit hl hdg (fun H1 locs1 h1 h2 h3 => kk H1 locs1 h1 h2 h3)
theorem zf_Pw {index : Nat} (F : xFix p s m meth c cc nL own nm ret hs) (hT : xT s) (hK : xK G s) (hP : va_P G.1 zcl ws H) (hD : va_D A ws) (hS : va_S A H0 H locs) (q0 : Nat) {fs : List Value} (he : ws[q0]? = some (a, .inr (1, fs))) (k : Nat) (hk : k < 5) (hw : Cond.fieldLink own index zR_Pw (zF_Pw k).2.1 (zF_Pw k).2.2.1 ∈ lw_tbl) (hfin : (zF_Pw k).2.2.2 = true) (hi : nm = "<init>") (ho : own = zR_Pw) {v : Value} (hn : narrow (zt_Pw k) v = v) (hfit : fits (zt_Pw k) v = true) (hl : k < fs.length) (hdg : decode cc pc = .ok (.putfield index, 3))
    (kk : ∀ (H1 : Heap) (locs1 : List Loc), va_P G.1 zcl (ws.set q0 (a, .inr (1, fs.set k v))) H1 → va_D A (ws.set q0 (a, .inr (1, fs.set k v))) → va_S A H0 H1 locs1 → W p l e R s m args below meth c H1 locs1 cells slots Q (F0 m (pc + 3) ls rest)) : W p l e R s m args below meth c H locs cells slots Q (F0 m pc ls (v :: .ref a :: rest)) :=
  va_putF (D := G.1) (C := zR_Pw) (T := zF_Pw) (N := 5) (ty := zt_Pw k) F.1 F.2.1 (zx_Ts hT) (fun w hw => List.mem_filter.mpr ⟨zi_Pw w hw, zj_Pw w hw⟩) zt_Pw zo_Pw zn_Pw F.2.2.2.2.1 hK.1 hP hD hS q0 he rfl k hk (hT.u hw) (fun _ h => by rw [zk_Pw k hk] at h; exact h) hfin (by rw [F.2.2.2.2.2.2.1]; exact hi) (by rw [zk_Pw k hk]; exact ho.symm) (zo_Pw k hk) hn hfit hl hdg (fun H1 locs1 h1 h2 h3 => kk H1 locs1 h1 h2 h3)
theorem zN_Pw {index : Nat} (F : xFix p s m meth c cc nL own nm ret hs) (hT : xT s) (hK : xK G s) (hP : va_P G.1 zcl ws H) (hD : va_D A ws) (hS : va_S A H0 H locs) (hA : ∀ q, H0.size ≤ q → A q) (hw : Cond.classLink own index zR_Pw ∈ lw_tbl) (hi : Cond.instantiable zR_Pw 5 ∈ lw_tbl) (hini : Cond.initialized zR_Pw ∈ lw_tbl) {fs : List Value} (hfs : ∀ j, j < 5 → defaultValue (zt_Pw j) = vp_V fs j) (hcells : cells + 1 ≤ R.cells) (hslots : slots + 5 ≤ R.slots) (hdg : decode cc pc = .ok (.new index, 3))
    (kk : ∀ (q : Nat) (H1 : Heap), va_P G.1 zcl (ws ++ [(q, .inr (1, fs))]) H1 → va_D A (ws ++ [(q, .inr (1, fs))]) → va_S A H0 H1 locs → W p l e R s m args below meth c H1 locs (cells + 1) (slots + 5) Q (F0 m (pc + 3) ls (.ref q :: rest))) : W p l e R s m args below meth c H locs cells slots Q (F0 m pc ls rest) :=
  va_new (D := G.1) (C := zR_Pw) (T := zF_Pw) (N := 5) F.1 F.2.1 (zx_Ts hT) (fun w hw => List.mem_filter.mpr ⟨zi_Pw w hw, zj_Pw w hw⟩) zt_Pw zo_Pw F.2.2.2.2.1 (hT.u hw) (hT.u hi) (hT.u hini) hK.1 hP hD hS hA rfl hfs hcells hslots hdg kk
theorem zg_A5 {index : Nat} (F : xFix p s m meth c cc nL own nm ret hs) (hT : xT s) (hK : xK G s) (hP : va_P G.1 zcl ws H) (q0 : Nat) {fs : List Value} (he : ws[q0]? = some (a, .inr (2, fs))) (k : Nat) (hk : k < 9) (hw : Cond.fieldLink own index zR_A5 (zF_A5 k).2.1 (zF_A5 k).2.2.1 ∈ lw_tbl) {v : Value} (hv : fs[k]? = some v) (hdg : decode cc pc = .ok (.getfield index, 3))
    (kk : W p l e R s m args below meth c H locs cells slots Q (F0 m (pc + 3) ls (v :: rest))) : W p l e R s m args below meth c H locs cells slots Q (F0 m pc ls (.ref a :: rest)) :=
  va_get (D := G.1) (C := zR_A5) (T := zF_A5) (N := 9) F.1 F.2.1 (zx_Ts hT) (fun w hw => List.mem_filter.mpr ⟨zi_A5 w hw, zj_A5 w hw⟩) F.2.2.2.2.1 hK.1 hP q0 he rfl k hk (hT.u hw) (fun _ h => by rw [zk_A5 k hk] at h; exact h) hv hdg kk
theorem zp_A5 {index : Nat} (F : xFix p s m meth c cc nL own nm ret hs) (hT : xT s) (hK : xK G s) (hP : va_P G.1 zcl ws H) (hD : va_D A ws) (hS : va_S A H0 H locs) (q0 : Nat) {fs : List Value} (he : ws[q0]? = some (a, .inr (2, fs))) (k : Nat) (hk : k < 9) (hw : Cond.fieldLink own index zR_A5 (zF_A5 k).2.1 (zF_A5 k).2.2.1 ∈ lw_tbl) (hfin : (zF_A5 k).2.2.2 = false) {v : Value} (hn : narrow (zt_A5 k) v = v) (hfit : fits (zt_A5 k) v = true) (hl : k < fs.length) (hdg : decode cc pc = .ok (.putfield index, 3))
    (kk : ∀ (H1 : Heap) (locs1 : List Loc), va_P G.1 zcl (ws.set q0 (a, .inr (2, fs.set k v))) H1 → va_D A (ws.set q0 (a, .inr (2, fs.set k v))) → va_S A H0 H1 locs1 → W p l e R s m args below meth c H1 locs1 cells slots Q (F0 m (pc + 3) ls rest)) : W p l e R s m args below meth c H locs cells slots Q (F0 m pc ls (v :: .ref a :: rest)) :=
  va_put (D := G.1) (C := zR_A5) (T := zF_A5) (N := 9) (ty := zt_A5 k) F.1 F.2.1 (zx_Ts hT) (fun w hw => List.mem_filter.mpr ⟨zi_A5 w hw, zj_A5 w hw⟩) zt_A5 zo_A5 zn_A5 F.2.2.2.2.1 hK.1 hP hD hS q0 he rfl k hk (hT.u hw) (fun _ h => by rw [zk_A5 k hk] at h; exact h) hfin (zo_A5 k hk) hn hfit hl hdg (fun H1 locs1 h1 h2 h3 => kk H1 locs1 h1 h2 h3)
theorem zf_A5 {index : Nat} (F : xFix p s m meth c cc nL own nm ret hs) (hT : xT s) (hK : xK G s) (hP : va_P G.1 zcl ws H) (hD : va_D A ws) (hS : va_S A H0 H locs) (q0 : Nat) {fs : List Value} (he : ws[q0]? = some (a, .inr (2, fs))) (k : Nat) (hk : k < 9) (hw : Cond.fieldLink own index zR_A5 (zF_A5 k).2.1 (zF_A5 k).2.2.1 ∈ lw_tbl) (hfin : (zF_A5 k).2.2.2 = true) (hi : nm = "<init>") (ho : own = zR_A5) {v : Value} (hn : narrow (zt_A5 k) v = v) (hfit : fits (zt_A5 k) v = true) (hl : k < fs.length) (hdg : decode cc pc = .ok (.putfield index, 3))
    (kk : ∀ (H1 : Heap) (locs1 : List Loc), va_P G.1 zcl (ws.set q0 (a, .inr (2, fs.set k v))) H1 → va_D A (ws.set q0 (a, .inr (2, fs.set k v))) → va_S A H0 H1 locs1 → W p l e R s m args below meth c H1 locs1 cells slots Q (F0 m (pc + 3) ls rest)) : W p l e R s m args below meth c H locs cells slots Q (F0 m pc ls (v :: .ref a :: rest)) :=
  va_putF (D := G.1) (C := zR_A5) (T := zF_A5) (N := 9) (ty := zt_A5 k) F.1 F.2.1 (zx_Ts hT) (fun w hw => List.mem_filter.mpr ⟨zi_A5 w hw, zj_A5 w hw⟩) zt_A5 zo_A5 zn_A5 F.2.2.2.2.1 hK.1 hP hD hS q0 he rfl k hk (hT.u hw) (fun _ h => by rw [zk_A5 k hk] at h; exact h) hfin (by rw [F.2.2.2.2.2.2.1]; exact hi) (by rw [zk_A5 k hk]; exact ho.symm) (zo_A5 k hk) hn hfit hl hdg (fun H1 locs1 h1 h2 h3 => kk H1 locs1 h1 h2 h3)
theorem zN_A5 {index : Nat} (F : xFix p s m meth c cc nL own nm ret hs) (hT : xT s) (hK : xK G s) (hP : va_P G.1 zcl ws H) (hD : va_D A ws) (hS : va_S A H0 H locs) (hA : ∀ q, H0.size ≤ q → A q) (hw : Cond.classLink own index zR_A5 ∈ lw_tbl) (hi : Cond.instantiable zR_A5 9 ∈ lw_tbl) (hini : Cond.initialized zR_A5 ∈ lw_tbl) {fs : List Value} (hfs : ∀ j, j < 9 → defaultValue (zt_A5 j) = vp_V fs j) (hcells : cells + 1 ≤ R.cells) (hslots : slots + 9 ≤ R.slots) (hdg : decode cc pc = .ok (.new index, 3))
    (kk : ∀ (q : Nat) (H1 : Heap), va_P G.1 zcl (ws ++ [(q, .inr (2, fs))]) H1 → va_D A (ws ++ [(q, .inr (2, fs))]) → va_S A H0 H1 locs → W p l e R s m args below meth c H1 locs (cells + 1) (slots + 9) Q (F0 m (pc + 3) ls (.ref q :: rest))) : W p l e R s m args below meth c H locs cells slots Q (F0 m pc ls rest) :=
  va_new (D := G.1) (C := zR_A5) (T := zF_A5) (N := 9) F.1 F.2.1 (zx_Ts hT) (fun w hw => List.mem_filter.mpr ⟨zi_A5 w hw, zj_A5 w hw⟩) zt_A5 zo_A5 F.2.2.2.2.1 (hT.u hw) (hT.u hi) (hT.u hini) hK.1 hP hD hS hA rfl hfs hcells hslots hdg kk
theorem zg_Mo {index : Nat} (F : xFix p s m meth c cc nL own nm ret hs) (hT : xT s) (hK : xK G s) (hP : va_P G.1 zcl ws H) (q0 : Nat) {fs : List Value} (he : ws[q0]? = some (a, .inr (3, fs))) (k : Nat) (hk : k < 9) (hw : Cond.fieldLink own index zR_Mo (zF_Mo k).2.1 (zF_Mo k).2.2.1 ∈ lw_tbl) {v : Value} (hv : fs[k]? = some v) (hdg : decode cc pc = .ok (.getfield index, 3))
    (kk : W p l e R s m args below meth c H locs cells slots Q (F0 m (pc + 3) ls (v :: rest))) : W p l e R s m args below meth c H locs cells slots Q (F0 m pc ls (.ref a :: rest)) :=
  va_get (D := G.1) (C := zR_Mo) (T := zF_Mo) (N := 9) F.1 F.2.1 (zx_Ts hT) (fun w hw => List.mem_filter.mpr ⟨zi_Mo w hw, zj_Mo w hw⟩) F.2.2.2.2.1 hK.1 hP q0 he rfl k hk (hT.u hw) (fun _ h => by rw [zk_Mo k hk] at h; exact h) hv hdg kk
theorem zp_Mo {index : Nat} (F : xFix p s m meth c cc nL own nm ret hs) (hT : xT s) (hK : xK G s) (hP : va_P G.1 zcl ws H) (hD : va_D A ws) (hS : va_S A H0 H locs) (q0 : Nat) {fs : List Value} (he : ws[q0]? = some (a, .inr (3, fs))) (k : Nat) (hk : k < 9) (hw : Cond.fieldLink own index zR_Mo (zF_Mo k).2.1 (zF_Mo k).2.2.1 ∈ lw_tbl) (hfin : (zF_Mo k).2.2.2 = false) {v : Value} (hn : narrow (zt_Mo k) v = v) (hfit : fits (zt_Mo k) v = true) (hl : k < fs.length) (hdg : decode cc pc = .ok (.putfield index, 3))
    (kk : ∀ (H1 : Heap) (locs1 : List Loc), va_P G.1 zcl (ws.set q0 (a, .inr (3, fs.set k v))) H1 → va_D A (ws.set q0 (a, .inr (3, fs.set k v))) → va_S A H0 H1 locs1 → W p l e R s m args below meth c H1 locs1 cells slots Q (F0 m (pc + 3) ls rest)) : W p l e R s m args below meth c H locs cells slots Q (F0 m pc ls (v :: .ref a :: rest)) :=
  va_put (D := G.1) (C := zR_Mo) (T := zF_Mo) (N := 9) (ty := zt_Mo k) F.1 F.2.1 (zx_Ts hT) (fun w hw => List.mem_filter.mpr ⟨zi_Mo w hw, zj_Mo w hw⟩) zt_Mo zo_Mo zn_Mo F.2.2.2.2.1 hK.1 hP hD hS q0 he rfl k hk (hT.u hw) (fun _ h => by rw [zk_Mo k hk] at h; exact h) hfin (zo_Mo k hk) hn hfit hl hdg (fun H1 locs1 h1 h2 h3 => kk H1 locs1 h1 h2 h3)
theorem zf_Mo {index : Nat} (F : xFix p s m meth c cc nL own nm ret hs) (hT : xT s) (hK : xK G s) (hP : va_P G.1 zcl ws H) (hD : va_D A ws) (hS : va_S A H0 H locs) (q0 : Nat) {fs : List Value} (he : ws[q0]? = some (a, .inr (3, fs))) (k : Nat) (hk : k < 9) (hw : Cond.fieldLink own index zR_Mo (zF_Mo k).2.1 (zF_Mo k).2.2.1 ∈ lw_tbl) (hfin : (zF_Mo k).2.2.2 = true) (hi : nm = "<init>") (ho : own = zR_Mo) {v : Value} (hn : narrow (zt_Mo k) v = v) (hfit : fits (zt_Mo k) v = true) (hl : k < fs.length) (hdg : decode cc pc = .ok (.putfield index, 3))
    (kk : ∀ (H1 : Heap) (locs1 : List Loc), va_P G.1 zcl (ws.set q0 (a, .inr (3, fs.set k v))) H1 → va_D A (ws.set q0 (a, .inr (3, fs.set k v))) → va_S A H0 H1 locs1 → W p l e R s m args below meth c H1 locs1 cells slots Q (F0 m (pc + 3) ls rest)) : W p l e R s m args below meth c H locs cells slots Q (F0 m pc ls (v :: .ref a :: rest)) :=
  va_putF (D := G.1) (C := zR_Mo) (T := zF_Mo) (N := 9) (ty := zt_Mo k) F.1 F.2.1 (zx_Ts hT) (fun w hw => List.mem_filter.mpr ⟨zi_Mo w hw, zj_Mo w hw⟩) zt_Mo zo_Mo zn_Mo F.2.2.2.2.1 hK.1 hP hD hS q0 he rfl k hk (hT.u hw) (fun _ h => by rw [zk_Mo k hk] at h; exact h) hfin (by rw [F.2.2.2.2.2.2.1]; exact hi) (by rw [zk_Mo k hk]; exact ho.symm) (zo_Mo k hk) hn hfit hl hdg (fun H1 locs1 h1 h2 h3 => kk H1 locs1 h1 h2 h3)
theorem zN_Mo {index : Nat} (F : xFix p s m meth c cc nL own nm ret hs) (hT : xT s) (hK : xK G s) (hP : va_P G.1 zcl ws H) (hD : va_D A ws) (hS : va_S A H0 H locs) (hA : ∀ q, H0.size ≤ q → A q) (hw : Cond.classLink own index zR_Mo ∈ lw_tbl) (hi : Cond.instantiable zR_Mo 9 ∈ lw_tbl) (hini : Cond.initialized zR_Mo ∈ lw_tbl) {fs : List Value} (hfs : ∀ j, j < 9 → defaultValue (zt_Mo j) = vp_V fs j) (hcells : cells + 1 ≤ R.cells) (hslots : slots + 9 ≤ R.slots) (hdg : decode cc pc = .ok (.new index, 3))
    (kk : ∀ (q : Nat) (H1 : Heap), va_P G.1 zcl (ws ++ [(q, .inr (3, fs))]) H1 → va_D A (ws ++ [(q, .inr (3, fs))]) → va_S A H0 H1 locs → W p l e R s m args below meth c H1 locs (cells + 1) (slots + 9) Q (F0 m (pc + 3) ls (.ref q :: rest))) : W p l e R s m args below meth c H locs cells slots Q (F0 m pc ls rest) :=
  va_new (D := G.1) (C := zR_Mo) (T := zF_Mo) (N := 9) F.1 F.2.1 (zx_Ts hT) (fun w hw => List.mem_filter.mpr ⟨zi_Mo w hw, zj_Mo w hw⟩) zt_Mo zo_Mo F.2.2.2.2.1 (hT.u hw) (hT.u hi) (hT.u hini) hK.1 hP hD hS hA rfl hfs hcells hslots hdg kk
/-- a new byte array -/
theorem zN_B (F : xFix p s m meth c cc nL own nm ret hs) (hT : xT s) (hK : xK G s) (hP : va_P G.1 zcl ws H) (hD : va_D A ws) (hS : va_S A H0 H locs) (hA : ∀ q, H0.size ≤ q → A q) {n : Int32} (N : Nat) (hn : n = nI N) (hN : N < 2 ^ 29) (hcells : cells + 1 ≤ R.cells) (hslots : slots + N ≤ R.slots) (hdg : decode cc pc = .ok (.newarray .byte, 2))
    (kk : ∀ (q : Nat) (H1 : Heap), va_P G.1 zcl (ws ++ [(q, eB G N (fun _ => 0))]) H1 → va_D A (ws ++ [(q, eB G N (fun _ => 0))]) → va_S A H0 H1 locs → W p l e R s m args below meth c H1 locs (cells + 1) (slots + N) Q (F0 m (pc + 2) ls (.ref q :: rest))) : W p l e R s m args below meth c H locs cells slots Q (F0 m pc ls (.int n :: rest)) := by
  subst hn
  refine va_newa (atype := .byte) (ty := .byte) (a0 := (N, .inl (fun _ => 0))) F.1 F.2.1 (hT.u zq_85) rfl hK.1 hP hD hS hA (fun cA => rfl) (nI_pos (by omega)) (nI_clamp (by omega)) (by show N * 1 ≤ _; omega) hcells hslots hdg (fun q cA H1 h1 h2 h3 h4 => ?_)
  have hc : cA = gB G := by
    have e1 : va_RA s cA .byte := (h1.2 2 (cA, .byte) rfl).2
    have e2 : va_RA s (gB G) .byte := (h1.2 0 (gB G, .byte) rfl).2
    exact Option.some.inj (e1.symm.trans e2)
  subst hc
  rw [← bz_0] at h2 h3
  exact kk q H1 h2 h3 h4
/-- a new long[1] -/
theorem zN_J (F : xFix p s m meth c cc nL own nm ret hs) (hT : xT s) (hK : xK G s) (hP : va_P G.1 zcl ws H) (hD : va_D A ws) (hS : va_S A H0 H locs) (hA : ∀ q, H0.size ≤ q → A q) (hcells : cells + 1 ≤ R.cells) (hslots : slots + 1 ≤ R.slots) (hdg : decode cc pc = .ok (.newarray .long, 2))
    (kk : ∀ (q : Nat) (H1 : Heap), va_P G.1 zcl (ws ++ [(q, eJ G (fun _ => 0))]) H1 → va_D A (ws ++ [(q, eJ G (fun _ => 0))]) → va_S A H0 H1 locs → W p l e R s m args below meth c H1 locs (cells + 1) (slots + 1) Q (F0 m (pc + 2) ls (.ref q :: rest))) : W p l e R s m args below meth c H locs cells slots Q (F0 m pc ls (.int 1 :: rest)) := by
  refine va_newa (atype := .long) (ty := .long) (N' := 1) (a0 := (1, .inr (.inl (fun _ => 0)))) F.1 F.2.1 (hT.u zq_472) rfl hK.1 hP hD hS hA (fun cA => rfl) (by decide) (by decide) (by decide) hcells hslots hdg (fun q cA H1 h1 h2 h3 h4 => ?_)
  have hc : cA = gJ G := by
    have e1 : va_RA s cA .long := (h1.2 2 (cA, .long) rfl).2
    have e2 : va_RA s (gJ G) .long := (h1.2 1 (gJ G, .long) rfl).2
    exact Option.some.inj (e1.symm.trans e2)
  subst hc
  exact kk q H1 h2 h3 h4
/-- System.arraycopy between two byte arrays of the world -/
theorem zw_copy (F : xFix p s m meth c cc nL own nm ret hs) (hT : xT s) (hK : xK G s) (hP : va_P G.1 zcl ws H) (hD : va_D A ws) (hS : va_S A H0 H locs) (ho : own = zR_A5) (q0 q1 : Nat) {a0 n0 n1 : Nat} {f g : Nat → Int8} (ha0 : ws[q0]? = some (a0, eB G n0 f)) (ha1 : ws[q1]? = some (a, eB G n1 g)) {sp dp n : Int32} (sp' dp' n' : Nat) (h1 : sp = nI sp') (h2 : dp = nI dp') (h3 : n = nI n') (h4 : sp' + n' ≤ n0) (h5 : dp' + n' ≤ n1) (h6 : n0 < 2 ^ 31) (h7 : n1 < 2 ^ 31)
    (hl : ls.size = nL) (hframes : 1 ≤ R.frames) (hlocals : (rest.map fun v => v.category).sum + (nativeFrameWords "java/lang/System" "arraycopy" 5 + 11) ≤ R.locals) (hdg : decode cc pc = .ok (.invokestatic 50, 3))
    (kk : ∀ (H1 : Heap) (locs1 : List Loc), va_P G.1 zcl (ws.set q1 (a, eB G n1 (va_cpy f g sp' dp' n'))) H1 → va_D A (ws.set q1 (a, eB G n1 (va_cpy f g sp' dp' n'))) → va_S A H0 H1 locs1 → W p l e R s m args below meth c H1 locs1 cells slots Q (F0 m (pc + 3) ls rest)) : W p l e R s m args below meth c H locs cells slots Q (F0 m pc ls (.int n :: .int dp :: .ref a :: .int sp :: .ref a0 :: rest)) := by
  subst h1 h2 h3 ho
  refine va_copyi (ty := .byte) F.1 F.2.1 (by rw [F.2.2.2.1]; exact hl.symm) F.2.2.2.2.1 (hT.u zq_266) (hT.u zq_268) (hT.u zq_267) (hT.u zq_13) hK.1 hP hD hS q0 q1 0 0 ha0 ha1 rfl rfl rfl (nI_pos (by omega)) (nI_pos (by omega)) (nI_pos (by omega)) (by rw [nI_clamp (by omega), nI_clamp (by omega)]; exact h4) (by rw [nI_clamp (by omega), nI_clamp (by omega)]; exact h5) (fun i _ => ?_) hframes hlocals hdg (fun H1 locs1 q1 _ q3 => kk H1 locs1 ?_ (hD.set ha1) q3)
  · show fits .byte (.int (bz f _)) = true
    unfold bz
    have := pk_fb ((f ((nI sp').toNatClampNeg + i)).toInt32)
    simpa using this
  · rw [nI_clamp (by omega), nI_clamp (by omega), nI_clamp (by omega), bz_cpy] at q1
    exact q1
variable {y : MethodName} {cc' : ByteArray} {nL' : Nat} {ret' : Option FieldType} {hs' : List (Nat × Nat × Nat × Nat)} {R' : Room} {av As st0 : List Value} {mc ms index : Nat} {Rt : Option Value → Heap → Prop} {Th : Addr → Heap → Prop} {b : Addr}
/-- a static call, the callee's world being the caller's -/
theorem zk_S (F : xFix p s m meth c cc nL own nm ret hs) (hT : xT s) (hK : xK G s) (hZ : xZ A s s.heap) (hS : va_S A s.heap H locs) (hl : ls.size = nL) (hM : XM l G R' y cc' nL' ret' hs' H A av mc ms Rt Th) (hpl : plainName y.cls = true ∧ y.cls ≠ "java/lang/invoke/MethodHandle" ∧ y.cls ≠ "java/lang/invoke/VarHandle" ∧ (parseMethodDescriptor y.desc).map (fun d => d.parameters.length) = some av.length) (hY : xY s y cc' nL' ret' hs')
    (hlink : Cond.methodLink own index y ∈ lw_tbl) (hstat : Cond.static y ∈ lw_tbl) (hini : Cond.initialized y.cls ∈ lw_tbl) (hdg : decode cc pc = .ok (.invokestatic index, 3)) (hst : st0 = av.reverse ++ rest) (hrm : xRm R R' nL' cells slots mc ms ((rest.map fun v => v.category).sum))
    (kR : ∀ (v : Option Value) (H1 : Heap) (locs1 : List Loc), Rt v H1 → va_S A s.heap H1 locs1 → W p l e R s m args below meth c H1 locs1 (cells + mc) (slots + ms) Q (F0 m (pc + 3) ls (v.toList ++ rest)))
    (kT : ∀ (x : Addr) (H1 : Heap) (locs1 : List Loc), Th x H1 → va_S A s.heap H1 locs1 → WT p l e R s m args below meth c H1 locs1 (cells + mc) (slots + ms) Q (F0 m pc ls rest) x) : W p l e R s m args below meth c H locs cells slots Q (F0 m pc ls st0) :=
  zx_callS F hT hK hpl hY hM (hZ.kept (fun a h1 h2 => hS.2.1 a h1 h2)) (fun _ h => h) hS (hT.u hlink) (hT.u hstat) (hT.u hini) hl hdg hst hrm (fun v H1 locs1 h1 _ _ h4 => kR v H1 locs1 h1 h4) (fun x H1 locs1 h1 _ _ h4 => kT x H1 locs1 h1 h4)
theorem zk_V (F : xFix p s m meth c cc nL own nm ret hs) (hT : xT s) (hK : xK G s) (hZ : xZ A s s.heap) (hS : va_S A s.heap H locs) (hl : ls.size = nL) (hP : va_P G.1 zcl ws H) (q0 : Nat) {ci : Nat} {qc : vw_C} {fs : List Value} (he : ws[q0]? = some (b, .inr (ci, fs))) (hc : zcl[ci]? = some qc) (hcl : qc.1 = y.cls) (hM : XM l G R' y cc' nL' ret' hs' H A (.ref b :: As) mc ms Rt Th) (hpl : plainName y.cls = true ∧ y.cls ≠ "java/lang/invoke/MethodHandle" ∧ y.cls ≠ "java/lang/invoke/VarHandle" ∧ (parseMethodDescriptor y.desc).map (fun d => d.parameters.length) = some As.length) (hY : xY s y cc' nL' ret' hs')
    (hlink : Cond.methodLink own index y ∈ lw_tbl) (hinst : Cond.instanceMethod y ∈ lw_tbl) (hsel : Cond.selects y.cls y y ∈ lw_tbl) (hdg : decode cc pc = .ok (.invokevirtual index, 3)) (hst : st0 = As.reverse ++ .ref b :: rest) (hrm : xRm R R' nL' cells slots mc ms ((rest.map fun v => v.category).sum))
    (kR : ∀ (v : Option Value) (H1 : Heap) (locs1 : List Loc), Rt v H1 → va_S A s.heap H1 locs1 → W p l e R s m args below meth c H1 locs1 (cells + mc) (slots + ms) Q (F0 m (pc + 3) ls (v.toList ++ rest)))
    (kT : ∀ (x : Addr) (H1 : Heap) (locs1 : List Loc), Th x H1 → va_S A s.heap H1 locs1 → WT p l e R s m args below meth c H1 locs1 (cells + mc) (slots + ms) Q (F0 m pc ls rest) x) : W p l e R s m args below meth c H locs cells slots Q (F0 m pc ls st0) :=
  zx_callV F hT hK hpl hY hM (hZ.kept (fun a h1 h2 => hS.2.1 a h1 h2)) (fun _ h => h) hS (hT.u hlink) (hT.u hinst) (hT.u hsel) (by rw [← hcl]; exact va_recv hK.1 hP hc he) hl hdg hst hrm (fun v H1 locs1 h1 _ _ h4 => kR v H1 locs1 h1 h4) (fun x H1 locs1 h1 _ _ h4 => kT x H1 locs1 h1 h4)
theorem zk_I (F : xFix p s m meth c cc nL own nm ret hs) (hT : xT s) (hK : xK G s) (hZ : xZ A s s.heap) (hS : va_S A s.heap H locs) (hl : ls.size = nL) (hM : XM l G R' y cc' nL' none [] H A (.ref b :: As) mc ms Rt Th) (hpl : plainName y.cls = true ∧ y.cls ≠ "java/lang/invoke/MethodHandle" ∧ y.cls ≠ "java/lang/invoke/VarHandle" ∧ (parseMethodDescriptor y.desc).map (fun d => d.parameters.length) = some As.length) (hy : y.name = "<init>") (hcode : Cond.code y cc' nL' none ∈ lw_tbl)
    (hlink : Cond.methodLink own index y ∈ lw_tbl) (hinst : Cond.instanceMethod y ∈ lw_tbl) (hdg : decode cc pc = .ok (.invokespecial index, 3)) (hst : st0 = As.reverse ++ .ref b :: rest) (hrm : xRm R R' nL' cells slots mc ms ((rest.map fun v => v.category).sum))
    (kR : ∀ (v : Option Value) (H1 : Heap) (locs1 : List Loc), Rt v H1 → va_S A s.heap H1 locs1 → W p l e R s m args below meth c H1 locs1 (cells + mc) (slots + ms) Q (F0 m (pc + 3) ls (v.toList ++ rest)))
    (kT : ∀ (x : Addr) (H1 : Heap) (locs1 : List Loc), Th x H1 → va_S A s.heap H1 locs1 → WT p l e R s m args below meth c H1 locs1 (cells + mc) (slots + ms) Q (F0 m pc ls rest) x) : W p l e R s m args below meth c H locs cells slots Q (F0 m pc ls st0) :=
  zx_callI F hT hK hpl hy (hT.u hcode) hM (hZ.kept (fun a h1 h2 => hS.2.1 a h1 h2)) (fun _ h => h) hS (hT.u hlink) (hT.u hinst) hl hdg hst hrm (fun v H1 locs1 h1 _ _ h4 => kR v H1 locs1 h1 h4) (fun x H1 locs1 h1 _ _ h4 => kT x H1 locs1 h1 h4)
theorem zk_IN {host : String} (F : xFix p s m meth c cc nL own nm ret hs) (hT : xT s) (hK : xK G s) (hZ : xZ A s s.heap) (hS : va_S A s.heap H locs) (hl : ls.size = nL) (hM : XM l G R' y cc' nL' none [] H A (.ref b :: As) mc ms Rt Th) (hpl : plainName y.cls = true ∧ y.cls ≠ "java/lang/invoke/MethodHandle" ∧ y.cls ≠ "java/lang/invoke/VarHandle" ∧ (parseMethodDescriptor y.desc).map (fun d => d.parameters.length) = some As.length) (hy : y.name = "<init>") (hcode : Cond.code y cc' nL' none ∈ lw_tbl)
    (hlink : Cond.methodLinkNest own index y host ∈ lw_tbl) (hinst : Cond.instanceMethod y ∈ lw_tbl) (hdg : decode cc pc = .ok (.invokespecial index, 3)) (hst : st0 = As.reverse ++ .ref b :: rest) (hrm : xRm R R' nL' cells slots mc ms ((rest.map fun v => v.category).sum))
    (kR : ∀ (v : Option Value) (H1 : Heap) (locs1 : List Loc), Rt v H1 → va_S A s.heap H1 locs1 → W p l e R s m args below meth c H1 locs1 (cells + mc) (slots + ms) Q (F0 m (pc + 3) ls (v.toList ++ rest)))
    (kT : ∀ (x : Addr) (H1 : Heap) (locs1 : List Loc), Th x H1 → va_S A s.heap H1 locs1 → WT p l e R s m args below meth c H1 locs1 (cells + mc) (slots + ms) Q (F0 m pc ls rest) x) : W p l e R s m args below meth c H locs cells slots Q (F0 m pc ls st0) :=
  zx_callIN F hT hK hpl hy (hT.u hcode) hM (hZ.kept (fun a h1 h2 => hS.2.1 a h1 h2)) (fun _ h => h) hS (hT.u hlink) (hT.u hinst) hl hdg hst hrm (fun v H1 locs1 h1 _ _ h4 => kR v H1 locs1 h1 h4) (fun x H1 locs1 h1 _ _ h4 => kT x H1 locs1 h1 h4)
end XD
abbrev rmz (f lo cl sl : Nat) : Room := { frames := f, cells := cl, slots := sl, locals := lo }
end
section
/-! facts on each method for its calls, printed by tools/mk_calls.py -/
theorem zl_PA_init : plainName zy_PA_init.cls = true ∧ zy_PA_init.cls ≠ "java/lang/invoke/MethodHandle" ∧ zy_PA_init.cls ≠ "java/lang/invoke/VarHandle" ∧ (parseMethodDescriptor zy_PA_init.desc).map (fun d => d.parameters.length) = some 0 := by decide +kernel
theorem zY_PA_init {s : State} (hT : xT s) : xY s zy_PA_init zb_PA_init 1 none [] := xY.of (hT.u (a := #[]) zq_19)
theorem zl_PA_at : plainName zy_PA_at.cls = true ∧ zy_PA_at.cls ≠ "java/lang/invoke/MethodHandle" ∧ zy_PA_at.cls ≠ "java/lang/invoke/VarHandle" ∧ (parseMethodDescriptor zy_PA_at.desc).map (fun d => d.parameters.length) = some 1 := by decide +kernel
theorem zY_PA_at {s : State} (hT : xT s) : xY s zy_PA_at zb_PA_at 1 none [] := xY.of (hT.u (a := #[]) zq_229)
theorem zl_PA_state : plainName zy_PA_state.cls = true ∧ zy_PA_state.cls ≠ "java/lang/invoke/MethodHandle" ∧ zy_PA_state.cls ≠ "java/lang/invoke/VarHandle" ∧ (parseMethodDescriptor zy_PA_state.desc).map (fun d => d.parameters.length) = some 1 := by decide +kernel
theorem zY_PA_state {s : State} (hT : xT s) : xY s zy_PA_state zb_PA_state 1 none [] := xY.of (hT.u (a := #[]) zq_205)
theorem zl_PA_get : plainName zy_PA_get.cls = true ∧ zy_PA_get.cls ≠ "java/lang/invoke/MethodHandle" ∧ zy_PA_get.cls ≠ "java/lang/invoke/VarHandle" ∧ (parseMethodDescriptor zy_PA_get.desc).map (fun d => d.parameters.length) = some 2 := by decide +kernel
theorem zY_PA_get {s : State} (hT : xT s) : xY s zy_PA_get zb_PA_get 6 (some FieldType.long) [] := xY.of (hT.u (a := #[]) zq_202)
theorem zl_PA_set : plainName zy_PA_set.cls = true ∧ zy_PA_set.cls ≠ "java/lang/invoke/MethodHandle" ∧ zy_PA_set.cls ≠ "java/lang/invoke/VarHandle" ∧ (parseMethodDescriptor zy_PA_set.desc).map (fun d => d.parameters.length) = some 3 := by decide +kernel
theorem zY_PA_set {s : State} (hT : xT s) : xY s zy_PA_set zb_PA_set 9 (some FieldType.long) [(65, 78, 81, 64)] := xY.ofW (hT.u (a := #[]) zq_197)
theorem zl_PA_die : plainName zy_PA_die.cls = true ∧ zy_PA_die.cls ≠ "java/lang/invoke/MethodHandle" ∧ zy_PA_die.cls ≠ "java/lang/invoke/VarHandle" ∧ (parseMethodDescriptor zy_PA_die.desc).map (fun d => d.parameters.length) = some 1 := by decide +kernel
theorem zY_PA_die {s : State} (hT : xT s) : xY s zy_PA_die zb_PA_die 2 none [] := xY.of (hT.u (a := #[]) zq_301)
theorem zl_PA_replace : plainName zy_PA_replace.cls = true ∧ zy_PA_replace.cls ≠ "java/lang/invoke/MethodHandle" ∧ zy_PA_replace.cls ≠ "java/lang/invoke/VarHandle" ∧ (parseMethodDescriptor zy_PA_replace.desc).map (fun d => d.parameters.length) = some 0 := by decide +kernel
theorem zY_PA_replace {s : State} (hT : xT s) : xY s zy_PA_replace zb_PA_replace 1 (some FieldType.int) [] := xY.of (hT.u (a := #[]) zq_308)
theorem zl_PA_rebuild : plainName zy_PA_rebuild.cls = true ∧ zy_PA_rebuild.cls ≠ "java/lang/invoke/MethodHandle" ∧ zy_PA_rebuild.cls ≠ "java/lang/invoke/VarHandle" ∧ (parseMethodDescriptor zy_PA_rebuild.desc).map (fun d => d.parameters.length) = some 0 := by decide +kernel
theorem zY_PA_rebuild {s : State} (hT : xT s) : xY s zy_PA_rebuild zb_PA_rebuild 1 (some FieldType.int) [] := xY.of (hT.u (a := #[]) zq_319)
theorem zl_PA_power : plainName zy_PA_power.cls = true ∧ zy_PA_power.cls ≠ "java/lang/invoke/MethodHandle" ∧ zy_PA_power.cls ≠ "java/lang/invoke/VarHandle" ∧ (parseMethodDescriptor zy_PA_power.desc).map (fun d => d.parameters.length) = some 3 := by decide +kernel
theorem zY_PA_power {s : State} (hT : xT s) : xY s zy_PA_power zb_PA_power 4 none [] := xY.of (hT.u (a := #[]) zq_331)
theorem zl_PA_recover : plainName zy_PA_recover.cls = true ∧ zy_PA_recover.cls ≠ "java/lang/invoke/MethodHandle" ∧ zy_PA_recover.cls ≠ "java/lang/invoke/VarHandle" ∧ (parseMethodDescriptor zy_PA_recover.desc).map (fun d => d.parameters.length) = some 0 := by decide +kernel
theorem zY_PA_recover {s : State} (hT : xT s) : xY s zy_PA_recover zb_PA_recover 3 none [(21, 28, 31, 64)] := xY.ofW (hT.u (a := #[]) zq_357)
theorem zl_PA_told : plainName zy_PA_told.cls = true ∧ zy_PA_told.cls ≠ "java/lang/invoke/MethodHandle" ∧ zy_PA_told.cls ≠ "java/lang/invoke/VarHandle" ∧ (parseMethodDescriptor zy_PA_told.desc).map (fun d => d.parameters.length) = some 1 := by decide +kernel
theorem zY_PA_told {s : State} (hT : xT s) : xY s zy_PA_told zb_PA_told 2 (some FieldType.int) [] := xY.of (hT.u (a := #[]) zq_368)
theorem zl_PA_check : plainName zy_PA_check.cls = true ∧ zy_PA_check.cls ≠ "java/lang/invoke/MethodHandle" ∧ zy_PA_check.cls ≠ "java/lang/invoke/VarHandle" ∧ (parseMethodDescriptor zy_PA_check.desc).map (fun d => d.parameters.length) = some 0 := by decide +kernel
theorem zY_PA_check {s : State} (hT : xT s) : xY s zy_PA_check zb_PA_check 1 (some FieldType.int) [] := xY.of (hT.u (a := #[]) zq_375)
theorem zl_Mo_init : plainName zy_Mo_init.cls = true ∧ zy_Mo_init.cls ≠ "java/lang/invoke/MethodHandle" ∧ zy_Mo_init.cls ≠ "java/lang/invoke/VarHandle" ∧ (parseMethodDescriptor zy_Mo_init.desc).map (fun d => d.parameters.length) = some 0 := by decide +kernel
theorem zY_Mo_init {s : State} (hT : xT s) : xY s zy_Mo_init zb_Mo_init 1 none [] := xY.of (hT.u (a := #[]) zq_384)
theorem zl_Mo_thrown : plainName zy_Mo_thrown.cls = true ∧ zy_Mo_thrown.cls ≠ "java/lang/invoke/MethodHandle" ∧ zy_Mo_thrown.cls ≠ "java/lang/invoke/VarHandle" ∧ (parseMethodDescriptor zy_Mo_thrown.desc).map (fun d => d.parameters.length) = some 0 := by decide +kernel
theorem zY_Mo_thrown {s : State} (hT : xT s) : xY s zy_Mo_thrown zb_Mo_thrown 1 (some FieldType.int) [] := xY.of (hT.u (a := #[]) zq_418)
theorem zl_Mo_fails : plainName zy_Mo_fails.cls = true ∧ zy_Mo_fails.cls ≠ "java/lang/invoke/MethodHandle" ∧ zy_Mo_fails.cls ≠ "java/lang/invoke/VarHandle" ∧ (parseMethodDescriptor zy_Mo_fails.desc).map (fun d => d.parameters.length) = some 1 := by decide +kernel
theorem zY_Mo_fails {s : State} (hT : xT s) : xY s zy_Mo_fails zb_Mo_fails 2 (some FieldType.int) [] := xY.of (hT.u (a := #[]) zq_426)
theorem zl_Mo_isThere : plainName zy_Mo_isThere.cls = true ∧ zy_Mo_isThere.cls ≠ "java/lang/invoke/MethodHandle" ∧ zy_Mo_isThere.cls ≠ "java/lang/invoke/VarHandle" ∧ (parseMethodDescriptor zy_Mo_isThere.desc).map (fun d => d.parameters.length) = some 2 := by decide +kernel
theorem zY_Mo_isThere {s : State} (hT : xT s) : xY s zy_Mo_isThere zb_Mo_isThere 3 (some FieldType.boolean) [] := xY.of (hT.u (a := #[]) zq_438)
theorem zl_Mo_fresh : plainName zy_Mo_fresh.cls = true ∧ zy_Mo_fresh.cls ≠ "java/lang/invoke/MethodHandle" ∧ zy_Mo_fresh.cls ≠ "java/lang/invoke/VarHandle" ∧ (parseMethodDescriptor zy_Mo_fresh.desc).map (fun d => d.parameters.length) = some 1 := by decide +kernel
theorem zY_Mo_fresh {s : State} (hT : xT s) : xY s zy_Mo_fresh zb_Mo_fresh 4 (some FieldType.int) [] := xY.of (hT.u (a := #[]) zq_434)
theorem zl_Mo_read : plainName zy_Mo_read.cls = true ∧ zy_Mo_read.cls ≠ "java/lang/invoke/MethodHandle" ∧ zy_Mo_read.cls ≠ "java/lang/invoke/VarHandle" ∧ (parseMethodDescriptor zy_Mo_read.desc).map (fun d => d.parameters.length) = some 1 := by decide +kernel
theorem zY_Mo_read {s : State} (hT : xT s) : xY s zy_Mo_read zb_Mo_read 5 (some FieldType.long) [] := xY.of (hT.u (a := #[]) zq_430)
theorem zl_Mo_set : plainName zy_Mo_set.cls = true ∧ zy_Mo_set.cls ≠ "java/lang/invoke/MethodHandle" ∧ zy_Mo_set.cls ≠ "java/lang/invoke/VarHandle" ∧ (parseMethodDescriptor zy_Mo_set.desc).map (fun d => d.parameters.length) = some 3 := by decide +kernel
theorem zY_Mo_set {s : State} (hT : xT s) : xY s zy_Mo_set zb_Mo_set 11 (some FieldType.long) [] := xY.of (hT.u (a := #[]) zq_422)
theorem zl_Mo_get : plainName zy_Mo_get.cls = true ∧ zy_Mo_get.cls ≠ "java/lang/invoke/MethodHandle" ∧ zy_Mo_get.cls ≠ "java/lang/invoke/VarHandle" ∧ (parseMethodDescriptor zy_Mo_get.desc).map (fun d => d.parameters.length) = some 2 := by decide +kernel
theorem zY_Mo_get {s : State} (hT : xT s) : xY s zy_Mo_get zb_Mo_get 3 (some FieldType.long) [] := xY.of (hT.u (a := #[]) zq_442)
theorem zl_Mo_die : plainName zy_Mo_die.cls = true ∧ zy_Mo_die.cls ≠ "java/lang/invoke/MethodHandle" ∧ zy_Mo_die.cls ≠ "java/lang/invoke/VarHandle" ∧ (parseMethodDescriptor zy_Mo_die.desc).map (fun d => d.parameters.length) = some 1 := by decide +kernel
theorem zY_Mo_die {s : State} (hT : xT s) : xY s zy_Mo_die zb_Mo_die 2 none [] := xY.of (hT.u (a := #[]) zq_446)
theorem zl_Mo_replace : plainName zy_Mo_replace.cls = true ∧ zy_Mo_replace.cls ≠ "java/lang/invoke/MethodHandle" ∧ zy_Mo_replace.cls ≠ "java/lang/invoke/VarHandle" ∧ (parseMethodDescriptor zy_Mo_replace.desc).map (fun d => d.parameters.length) = some 0 := by decide +kernel
theorem zY_Mo_replace {s : State} (hT : xT s) : xY s zy_Mo_replace zb_Mo_replace 1 (some FieldType.int) [] := xY.of (hT.u (a := #[]) zq_450)
theorem zl_Mo_rebuild : plainName zy_Mo_rebuild.cls = true ∧ zy_Mo_rebuild.cls ≠ "java/lang/invoke/MethodHandle" ∧ zy_Mo_rebuild.cls ≠ "java/lang/invoke/VarHandle" ∧ (parseMethodDescriptor zy_Mo_rebuild.desc).map (fun d => d.parameters.length) = some 0 := by decide +kernel
theorem zY_Mo_rebuild {s : State} (hT : xT s) : xY s zy_Mo_rebuild zb_Mo_rebuild 2 (some FieldType.int) [] := xY.of (hT.u (a := #[]) zq_454)
theorem zl_Mo_power : plainName zy_Mo_power.cls = true ∧ zy_Mo_power.cls ≠ "java/lang/invoke/MethodHandle" ∧ zy_Mo_power.cls ≠ "java/lang/invoke/VarHandle" ∧ (parseMethodDescriptor zy_Mo_power.desc).map (fun d => d.parameters.length) = some 3 := by decide +kernel
theorem zY_Mo_power {s : State} (hT : xT s) : xY s zy_Mo_power zb_Mo_power 4 none [] := xY.of (hT.u (a := #[]) zq_458)
theorem zl_Mo_recover : plainName zy_Mo_recover.cls = true ∧ zy_Mo_recover.cls ≠ "java/lang/invoke/MethodHandle" ∧ zy_Mo_recover.cls ≠ "java/lang/invoke/VarHandle" ∧ (parseMethodDescriptor zy_Mo_recover.desc).map (fun d => d.parameters.length) = some 0 := by decide +kernel
theorem zY_Mo_recover {s : State} (hT : xT s) : xY s zy_Mo_recover zb_Mo_recover 1 none [] := xY.of (hT.u (a := #[]) zq_462)
theorem zl_Mo_told : plainName zy_Mo_told.cls = true ∧ zy_Mo_told.cls ≠ "java/lang/invoke/MethodHandle" ∧ zy_Mo_told.cls ≠ "java/lang/invoke/VarHandle" ∧ (parseMethodDescriptor zy_Mo_told.desc).map (fun d => d.parameters.length) = some 1 := by decide +kernel
theorem zY_Mo_told {s : State} (hT : xT s) : xY s zy_Mo_told zb_Mo_told 2 (some FieldType.int) [] := xY.of (hT.u (a := #[]) zq_466)
theorem zl_Mo_check : plainName zy_Mo_check.cls = true ∧ zy_Mo_check.cls ≠ "java/lang/invoke/MethodHandle" ∧ zy_Mo_check.cls ≠ "java/lang/invoke/VarHandle" ∧ (parseMethodDescriptor zy_Mo_check.desc).map (fun d => d.parameters.length) = some 0 := by decide +kernel
theorem zY_Mo_check {s : State} (hT : xT s) : xY s zy_Mo_check zb_Mo_check 1 (some FieldType.int) [] := xY.of (hT.u (a := #[]) zq_470)
theorem zl_A5_init : plainName zy_A5_init.cls = true ∧ zy_A5_init.cls ≠ "java/lang/invoke/MethodHandle" ∧ zy_A5_init.cls ≠ "java/lang/invoke/VarHandle" ∧ (parseMethodDescriptor zy_A5_init.desc).map (fun d => d.parameters.length) = some 1 := by decide +kernel
theorem zY_A5_init {s : State} (hT : xT s) : xY s zy_A5_init zb_A5_init 2 none [] := xY.of (hT.u (a := #[]) zq_51)
theorem zl_A5_isThere : plainName zy_A5_isThere.cls = true ∧ zy_A5_isThere.cls ≠ "java/lang/invoke/MethodHandle" ∧ zy_A5_isThere.cls ≠ "java/lang/invoke/VarHandle" ∧ (parseMethodDescriptor zy_A5_isThere.desc).map (fun d => d.parameters.length) = some 2 := by decide +kernel
theorem zY_A5_isThere {s : State} (hT : xT s) : xY s zy_A5_isThere zb_A5_isThere 3 (some FieldType.boolean) [] := xY.of (hT.u (a := #[]) zq_262)
theorem zl_A5_at : plainName zy_A5_at.cls = true ∧ zy_A5_at.cls ≠ "java/lang/invoke/MethodHandle" ∧ zy_A5_at.cls ≠ "java/lang/invoke/VarHandle" ∧ (parseMethodDescriptor zy_A5_at.desc).map (fun d => d.parameters.length) = some 2 := by decide +kernel
theorem zY_A5_at {s : State} (hT : xT s) : xY s zy_A5_at zb_A5_at 2 (some FieldType.int) [] := xY.of (hT.u (a := #[]) zq_265)
theorem zl_A5_parityOf : plainName zy_A5_parityOf.cls = true ∧ zy_A5_parityOf.cls ≠ "java/lang/invoke/MethodHandle" ∧ zy_A5_parityOf.cls ≠ "java/lang/invoke/VarHandle" ∧ (parseMethodDescriptor zy_A5_parityOf.desc).map (fun d => d.parameters.length) = some 1 := by decide +kernel
theorem zY_A5_parityOf {s : State} (hT : xT s) : xY s zy_A5_parityOf zb_A5_parityOf 1 (some FieldType.int) [] := xY.of (hT.u (a := #[]) zq_254)
theorem zl_A5_diskOf : plainName zy_A5_diskOf.cls = true ∧ zy_A5_diskOf.cls ≠ "java/lang/invoke/MethodHandle" ∧ zy_A5_diskOf.cls ≠ "java/lang/invoke/VarHandle" ∧ (parseMethodDescriptor zy_A5_diskOf.desc).map (fun d => d.parameters.length) = some 2 := by decide +kernel
theorem zY_A5_diskOf {s : State} (hT : xT s) : xY s zy_A5_diskOf zb_A5_diskOf 2 (some FieldType.int) [] := xY.of (hT.u (a := #[]) zq_251)
theorem zl_A5_write4 : plainName zy_A5_write4.cls = true ∧ zy_A5_write4.cls ≠ "java/lang/invoke/MethodHandle" ∧ zy_A5_write4.cls ≠ "java/lang/invoke/VarHandle" ∧ (parseMethodDescriptor zy_A5_write4.desc).map (fun d => d.parameters.length) = some 4 := by decide +kernel
theorem zY_A5_write4 {s : State} (hT : xT s) : xY s zy_A5_write4 zb_A5_write4 6 none [] := xY.of (hT.u (a := #[]) zq_280)
theorem zl_A5_load : plainName zy_A5_load.cls = true ∧ zy_A5_load.cls ≠ "java/lang/invoke/MethodHandle" ∧ zy_A5_load.cls ≠ "java/lang/invoke/VarHandle" ∧ (parseMethodDescriptor zy_A5_load.desc).map (fun d => d.parameters.length) = some 3 := by decide +kernel
theorem zY_A5_load {s : State} (hT : xT s) : xY s zy_A5_load zb_A5_load 6 none [] := xY.of (hT.u (a := #[]) zq_258)
theorem zl_A5_read : plainName zy_A5_read.cls = true ∧ zy_A5_read.cls ≠ "java/lang/invoke/MethodHandle" ∧ zy_A5_read.cls ≠ "java/lang/invoke/VarHandle" ∧ (parseMethodDescriptor zy_A5_read.desc).map (fun d => d.parameters.length) = some 2 := by decide +kernel
theorem zY_A5_read {s : State} (hT : xT s) : xY s zy_A5_read zb_A5_read 3 none [] := xY.of (hT.u (a := #[]) zq_248)
theorem zl_A5_write3 : plainName zy_A5_write3.cls = true ∧ zy_A5_write3.cls ≠ "java/lang/invoke/MethodHandle" ∧ zy_A5_write3.cls ≠ "java/lang/invoke/VarHandle" ∧ (parseMethodDescriptor zy_A5_write3.desc).map (fun d => d.parameters.length) = some 3 := by decide +kernel
theorem zY_A5_write3 {s : State} (hT : xT s) : xY s zy_A5_write3 zb_A5_write3 11 none [] := xY.of (hT.u (a := #[]) zq_276)
theorem zl_A5_recover : plainName zy_A5_recover.cls = true ∧ zy_A5_recover.cls ≠ "java/lang/invoke/MethodHandle" ∧ zy_A5_recover.cls ≠ "java/lang/invoke/VarHandle" ∧ (parseMethodDescriptor zy_A5_recover.desc).map (fun d => d.parameters.length) = some 0 := by decide +kernel
theorem zY_A5_recover {s : State} (hT : xT s) : xY s zy_A5_recover zb_A5_recover 7 none [] := xY.of (hT.u (a := #[]) zq_361)
theorem zl_A5_replace : plainName zy_A5_replace.cls = true ∧ zy_A5_replace.cls ≠ "java/lang/invoke/MethodHandle" ∧ zy_A5_replace.cls ≠ "java/lang/invoke/VarHandle" ∧ (parseMethodDescriptor zy_A5_replace.desc).map (fun d => d.parameters.length) = some 0 := by decide +kernel
theorem zY_A5_replace {s : State} (hT : xT s) : xY s zy_A5_replace zb_A5_replace 2 none [] := xY.of (hT.u (a := #[]) zq_312)
theorem zl_A5_rebuild : plainName zy_A5_rebuild.cls = true ∧ zy_A5_rebuild.cls ≠ "java/lang/invoke/MethodHandle" ∧ zy_A5_rebuild.cls ≠ "java/lang/invoke/VarHandle" ∧ (parseMethodDescriptor zy_A5_rebuild.desc).map (fun d => d.parameters.length) = some 0 := by decide +kernel
theorem zY_A5_rebuild {s : State} (hT : xT s) : xY s zy_A5_rebuild zb_A5_rebuild 1 (some FieldType.int) [] := xY.of (hT.u (a := #[]) zq_323)
theorem zl_A5_wrong : plainName zy_A5_wrong.cls = true ∧ zy_A5_wrong.cls ≠ "java/lang/invoke/MethodHandle" ∧ zy_A5_wrong.cls ≠ "java/lang/invoke/VarHandle" ∧ (parseMethodDescriptor zy_A5_wrong.desc).map (fun d => d.parameters.length) = some 0 := by decide +kernel
theorem zY_A5_wrong {s : State} (hT : xT s) : xY s zy_A5_wrong zb_A5_wrong 7 (some FieldType.int) [] := xY.of (hT.u (a := #[]) zq_379)
theorem zl_Pw_init : plainName zy_Pw_init.cls = true ∧ zy_Pw_init.cls ≠ "java/lang/invoke/MethodHandle" ∧ zy_Pw_init.cls ≠ "java/lang/invoke/VarHandle" ∧ (parseMethodDescriptor zy_Pw_init.desc).map (fun d => d.parameters.length) = some 0 := by decide +kernel
theorem zY_Pw_init {s : State} (hT : xT s) : xY s zy_Pw_init zb_Pw_init 1 none [] := xY.of (hT.u (a := #[]) zq_27)
theorem zl_Pw_say : plainName zy_Pw_say.cls = true ∧ zy_Pw_say.cls ≠ "java/lang/invoke/MethodHandle" ∧ zy_Pw_say.cls ≠ "java/lang/invoke/VarHandle" ∧ (parseMethodDescriptor zy_Pw_say.desc).map (fun d => d.parameters.length) = some 3 := by decide +kernel
theorem zY_Pw_say {s : State} (hT : xT s) : xY s zy_Pw_say zb_Pw_say 4 none [] := xY.of (hT.u (a := #[]) zq_350)
theorem zl_Pw_begin : plainName zy_Pw_begin.cls = true ∧ zy_Pw_begin.cls ≠ "java/lang/invoke/MethodHandle" ∧ zy_Pw_begin.cls ≠ "java/lang/invoke/VarHandle" ∧ (parseMethodDescriptor zy_Pw_begin.desc).map (fun d => d.parameters.length) = some 1 := by decide +kernel
theorem zY_Pw_begin {s : State} (hT : xT s) : xY s zy_Pw_begin zb_Pw_begin 2 none [] := xY.of (hT.u (a := #[]) zq_272)
theorem zl_Pw_write : plainName zy_Pw_write.cls = true ∧ zy_Pw_write.cls ≠ "java/lang/invoke/MethodHandle" ∧ zy_Pw_write.cls ≠ "java/lang/invoke/VarHandle" ∧ (parseMethodDescriptor zy_Pw_write.desc).map (fun d => d.parameters.length) = some 1 := by decide +kernel
theorem zY_Pw_write {s : State} (hT : xT s) : xY s zy_Pw_write zb_Pw_write 2 (some FieldType.int) [] := xY.of (hT.u (a := #[]) zq_284)
theorem zl_La_set : plainName zy_La_set.cls = true ∧ zy_La_set.cls ≠ "java/lang/invoke/MethodHandle" ∧ zy_La_set.cls ≠ "java/lang/invoke/VarHandle" ∧ (parseMethodDescriptor zy_La_set.desc).map (fun d => d.parameters.length) = some 5 := by decide +kernel
theorem zY_La_set {s : State} (hT : xT s) : xY s zy_La_set zb_La_set 7 (some FieldType.int) [(0, 11, 14, 13), (0, 11, 18, 15), (0, 11, 22, 17)] := xY.ofW (hT.u (a := #[]) zq_101)
theorem zl_La_get : plainName zy_La_get.cls = true ∧ zy_La_get.cls ≠ "java/lang/invoke/MethodHandle" ∧ zy_La_get.cls ≠ "java/lang/invoke/VarHandle" ∧ (parseMethodDescriptor zy_La_get.desc).map (fun d => d.parameters.length) = some 4 := by decide +kernel
theorem zY_La_get {s : State} (hT : xT s) : xY s zy_La_get zb_La_get 5 (some FieldType.int) [(0, 9, 12, 13), (0, 9, 16, 15)] := xY.ofW (hT.u (a := #[]) zq_293)
theorem zl_La_die : plainName zy_La_die.cls = true ∧ zy_La_die.cls ≠ "java/lang/invoke/MethodHandle" ∧ zy_La_die.cls ≠ "java/lang/invoke/VarHandle" ∧ (parseMethodDescriptor zy_La_die.desc).map (fun d => d.parameters.length) = some 2 := by decide +kernel
theorem zY_La_die {s : State} (hT : xT s) : xY s zy_La_die zb_La_die 3 (some FieldType.int) [(0, 5, 8, 15), (0, 5, 11, 13)] := xY.ofW (hT.u (a := #[]) zq_297)
theorem zl_La_replace : plainName zy_La_replace.cls = true ∧ zy_La_replace.cls ≠ "java/lang/invoke/MethodHandle" ∧ zy_La_replace.cls ≠ "java/lang/invoke/VarHandle" ∧ (parseMethodDescriptor zy_La_replace.desc).map (fun d => d.parameters.length) = some 2 := by decide +kernel
theorem zY_La_replace {s : State} (hT : xT s) : xY s zy_La_replace zb_La_replace 3 (some FieldType.int) [(0, 8, 11, 13)] := xY.ofW (hT.u (a := #[]) zq_304)
theorem zl_La_rebuild : plainName zy_La_rebuild.cls = true ∧ zy_La_rebuild.cls ≠ "java/lang/invoke/MethodHandle" ∧ zy_La_rebuild.cls ≠ "java/lang/invoke/VarHandle" ∧ (parseMethodDescriptor zy_La_rebuild.desc).map (fun d => d.parameters.length) = some 2 := by decide +kernel
theorem zY_La_rebuild {s : State} (hT : xT s) : xY s zy_La_rebuild zb_La_rebuild 3 (some FieldType.int) [(0, 8, 11, 13)] := xY.ofW (hT.u (a := #[]) zq_315)
theorem zl_La_power : plainName zy_La_power.cls = true ∧ zy_La_power.cls ≠ "java/lang/invoke/MethodHandle" ∧ zy_La_power.cls ≠ "java/lang/invoke/VarHandle" ∧ (parseMethodDescriptor zy_La_power.desc).map (fun d => d.parameters.length) = some 4 := by decide +kernel
theorem zY_La_power {s : State} (hT : xT s) : xY s zy_La_power zb_La_power 5 (some FieldType.int) [(0, 7, 10, 38)] := xY.ofW (hT.u (a := #[]) zq_326)
theorem zl_La_recover : plainName zy_La_recover.cls = true ∧ zy_La_recover.cls ≠ "java/lang/invoke/MethodHandle" ∧ zy_La_recover.cls ≠ "java/lang/invoke/VarHandle" ∧ (parseMethodDescriptor zy_La_recover.desc).map (fun d => d.parameters.length) = some 1 := by decide +kernel
theorem zY_La_recover {s : State} (hT : xT s) : xY s zy_La_recover zb_La_recover 2 (some FieldType.int) [(0, 4, 7, 17)] := xY.ofW (hT.u (a := #[]) zq_353)
theorem zl_La_told : plainName zy_La_told.cls = true ∧ zy_La_told.cls ≠ "java/lang/invoke/MethodHandle" ∧ zy_La_told.cls ≠ "java/lang/invoke/VarHandle" ∧ (parseMethodDescriptor zy_La_told.desc).map (fun d => d.parameters.length) = some 3 := by decide +kernel
theorem zY_La_told {s : State} (hT : xT s) : xY s zy_La_told zb_La_told 4 (some FieldType.int) [(0, 9, 12, 38)] := xY.ofW (hT.u (a := #[]) zq_364)
theorem zl_La_check : plainName zy_La_check.cls = true ∧ zy_La_check.cls ≠ "java/lang/invoke/MethodHandle" ∧ zy_La_check.cls ≠ "java/lang/invoke/VarHandle" ∧ (parseMethodDescriptor zy_La_check.desc).map (fun d => d.parameters.length) = some 2 := by decide +kernel
theorem zY_La_check {s : State} (hT : xT s) : xY s zy_La_check zb_La_check 3 (some FieldType.int) [(0, 8, 11, 13)] := xY.ofW (hT.u (a := #[]) zq_371)
end
section
/-! contracts of the leaves -/
def atN (d t : Nat) : Nat := d * 19336 + 136 + t * 128
def dO (t i : Nat) : Nat := if i < t % 5 then i else i + 1
/-- is block t of disk d there? sk: the sick disk (5: none) -/
def thr (sk : Nat) (nw : Bool) (rb d t : Nat) : Bool := decide (d ≠ sk) || (nw && decide (t < rb))
def sI (sk : Nat) : Int32 := if sk < 5 then nI sk else -1
theorem sI_eq {d sk : Nat} (hd : d < 5) : nI d = sI sk ↔ d = sk := by
  unfold sI
  split
  · exact nI_eq (by omega) (by omega)
  · constructor
    · intro h
      have h1 := congrArg Int32.toInt h
      rw [nI_toInt (by omega)] at h1
      have h2 : (-1 : Int32).toInt = -1 := by decide
      omega
    · intro h
      omega
/-- whether power will fail in what begins: a set (re = false) or a reopen -/
def zarm (re : Bool) (wn : Int32) : Bool := decide (wn < 4) && (re == decide (wn = 3))
def wstep (w : Int64) (b : Int8) : Int64 := (w <<< ((nI 8).toInt64 &&& 63)) ||| (b.toInt32 &&& nI 255).toInt64
def wd8 (f : Nat → Int8) : Nat → Int64
  | 0 => 0
  | k + 1 => wstep (wd8 f k) (f k)
theorem zw_kept {D : va_G} {cl : List vw_C} {ws : va_W} {H H1 : Heap} (hP : va_P D cl ws H) (hk : ∀ q : Nat, q < H.size → H1[q]? = H[q]?) : va_P D cl ws H1 := hP.kept (fun k q h => hk q.1 ((hP k q h).lt))
set_option maxHeartbeats 4000000 in
set_option maxRecDepth 20000 in
theorem zc_A5_at (l : Launch) (G : xG) {H0 : Heap} {A : Nat → Prop} (d t : Nat) : XM l G (rmz 8 120 0 0) zy_A5_at zb_A5_at 2 (some FieldType.int) [] H0 A [.int (nI d), .int (nI t)] 0 0 (fun v H => v = some (.int (nI (atN d t))) ∧ H0 = H) (fun _ _ => False) := by
  intro p e s m below meth c F hT hK hH hZ
  subst hH
  have hx := F.1
  have hb := F.2.1
  have hS : va_S A s.heap s.heap [] := va_S.rf
  have hl := lv_entry ([.int (nI d), .int (nI t)]) (n := 2) (Nat.le_of_ble_eq_true rfl)
  rw [lg_entry_eq]
  generalize (lg_sl ([.int (nI d), .int (nI t)]) ++ List.replicate (2 - (lg_sl ([.int (nI d), .int (nI t)])).length) Slot.unset).toArray = ls at hl ⊢
  have hl : lv_has ls 2 [(0, .int (nI d)), (1, .int (nI t))] := hl
  refine lv_iload_n hx hb zd_A5_at_0 rfl (lv_at hl 0 rfl) ?_
  refine lv_sipush (v := nI 19336) hx hb zd_A5_at_1 (by decide) ?_
  refine lv_imul hx hb zd_A5_at_4 ?_
  refine lv_sipush (v := nI 136) hx hb zd_A5_at_5 (by decide) ?_
  refine lv_iadd hx hb zd_A5_at_8 ?_
  refine lv_iload_n hx hb zd_A5_at_9 rfl (lv_at hl 1 rfl) ?_
  refine lv_sipush (v := nI 128) hx hb zd_A5_at_10 (by decide) ?_
  refine lv_imul hx hb zd_A5_at_13 ?_
  refine lv_iadd hx hb zd_A5_at_14 ?_
  rw [pk_mul, nI_add, pk_mul, nI_add]
  exact zx_iret F rfl hS.2.2 zd_A5_at_15 ⟨rfl, rfl⟩
set_option maxHeartbeats 4000000 in
set_option maxRecDepth 20000 in
theorem zc_A5_parityOf (l : Launch) (G : xG) {H0 : Heap} {A : Nat → Prop} (t : Nat) (ht : t < 2 ^ 31) : XM l G (rmz 8 120 0 0) zy_A5_parityOf zb_A5_parityOf 1 (some FieldType.int) [] H0 A [.int (nI t)] 0 0 (fun v H => v = some (.int (nI (t % 5))) ∧ H0 = H) (fun _ _ => False) := by
  intro p e s m below meth c F hT hK hH hZ
  subst hH
  have hx := F.1
  have hb := F.2.1
  have hS : va_S A s.heap s.heap [] := va_S.rf
  have hl := lv_entry ([.int (nI t)]) (n := 1) (Nat.le_of_ble_eq_true rfl)
  rw [lg_entry_eq]
  generalize (lg_sl ([.int (nI t)]) ++ List.replicate (1 - (lg_sl ([.int (nI t)])).length) Slot.unset).toArray = ls at hl ⊢
  have hl : lv_has ls 1 [(0, .int (nI t))] := hl
  refine lv_iload_n hx hb zd_A5_parityOf_0 rfl (lv_at hl 0 rfl) ?_
  refine lv_iconst (v := nI 5) hx hb zd_A5_parityOf_1 (by decide) ?_
  refine lv_irem hx hb zd_A5_parityOf_2 (by decide) ?_
  rw [pk_rem ht (by decide) (by decide)]
  exact zx_iret F rfl hS.2.2 zd_A5_parityOf_3 ⟨rfl, rfl⟩
set_option maxHeartbeats 4000000 in
set_option maxRecDepth 20000 in
theorem zc_A5_diskOf (l : Launch) (G : xG) {H0 : Heap} {A : Nat → Prop} (t i : Nat) (ht : t < 2 ^ 31) (hi : i < 2 ^ 30) : XM l G (rmz 9 200 0 0) zy_A5_diskOf zb_A5_diskOf 2 (some FieldType.int) [] H0 A [.int (nI t), .int (nI i)] 0 0 (fun v H => v = some (.int (nI (dO t i))) ∧ H0 = H) (fun _ _ => False) := by
  intro p e s m below meth c F hT hK hH hZ
  subst hH
  have hx := F.1
  have hb := F.2.1
  have hS : va_S A s.heap s.heap [] := va_S.rf
  have hl := lv_entry ([.int (nI t), .int (nI i)]) (n := 2) (Nat.le_of_ble_eq_true rfl)
  rw [lg_entry_eq]
  generalize (lg_sl ([.int (nI t), .int (nI i)]) ++ List.replicate (2 - (lg_sl ([.int (nI t), .int (nI i)])).length) Slot.unset).toArray = ls at hl ⊢
  have hl : lv_has ls 2 [(0, .int (nI t)), (1, .int (nI i))] := hl
  refine lv_iload_n hx hb zd_A5_diskOf_0 rfl (lv_at hl 1 rfl) ?_
  refine lv_iload_n hx hb zd_A5_diskOf_1 rfl (lv_at hl 0 rfl) ?_
  refine zk_S F hT hK hZ hS hl.1 (zc_A5_parityOf l G t ht) zl_A5_parityOf (zY_A5_parityOf hT) zq_252 zq_253 zq_3 zd_A5_diskOf_2 rfl ⟨rfl, rfl, Nat.le_of_ble_eq_true rfl, Nat.le_of_ble_eq_true rfl, Nat.le_of_ble_eq_true rfl, Nat.le_of_ble_eq_true rfl⟩ (fun v H locs hv hS => ?_) (fun x H locs hv hS => hv.elim)
  obtain ⟨rfl, rfl⟩ := hv
  refine zw_app ?_
  refine lv_icmp_ge (tgt := 12) hx hb zd_A5_diskOf_5 rfl (fun hc => ?_) (fun hc => ?_)
  · refine lv_iload_n hx hb zd_A5_diskOf_12 rfl (lv_at hl 1 rfl) ?_
    refine lv_iconst (v := nI 1) hx hb zd_A5_diskOf_13 (by decide) ?_
    refine lv_iadd hx hb zd_A5_diskOf_14 ?_
    have hc := (nI_leI (by omega) (by omega)).mp hc
    rw [nI_add]
    exact zx_iret F rfl hS.2.2 zd_A5_diskOf_15 ⟨by unfold dO; rw [if_neg (by omega)], rfl⟩
  · have hc : ¬ t % 5 ≤ i := fun h => hc ((nI_leI (a := t % 5) (b := i) (by omega) (by omega)).mpr h)
    refine lv_iload_n hx hb zd_A5_diskOf_8 rfl (lv_at hl 1 rfl) ?_
    refine lv_goto (tgt := 15) hx hb zd_A5_diskOf_9 rfl ?_
    exact zx_iret F rfl hS.2.2 zd_A5_diskOf_15 ⟨by unfold dO; rw [if_pos (by omega)], rfl⟩
set_option maxHeartbeats 4000000 in
set_option maxRecDepth 20000 in
theorem zc_A5_isThere (l : Launch) (G : xG) {H0 : Heap} {A : Nat → Prop} (ar dk on pt rc pw sk rb d t : Nat) (nw la : Bool) (wr : va_W) (hd : d < 5) (ht : t < 2 ^ 31) (hrb : rb < 2 ^ 31) (hP : va_P G.1 zcl ([(ar, eA5 dk on pt rc pw (sI sk) (nI rb) nw la)] ++ wr) H0) : XM l G (rmz 8 120 0 0) zy_A5_isThere zb_A5_isThere 3 (some FieldType.boolean) [] H0 A [.ref ar, .int (nI d), .int (nI t)] 0 0 (fun v H => v = some (.int (bI (thr sk nw rb d t))) ∧ H0 = H) (fun _ _ => False) := by
  intro p e s m below meth c F hT hK hH hZ
  subst hH
  have hx := F.1
  have hb := F.2.1
  have hS : va_S A s.heap s.heap [] := va_S.rf
  have hl := lv_entry ([.ref ar, .int (nI d), .int (nI t)]) (n := 3) (Nat.le_of_ble_eq_true rfl)
  rw [lg_entry_eq]
  generalize (lg_sl ([.ref ar, .int (nI d), .int (nI t)]) ++ List.replicate (3 - (lg_sl ([.ref ar, .int (nI d), .int (nI t)])).length) Slot.unset).toArray = ls at hl ⊢
  have hl : lv_has ls 3 [(0, .ref ar), (1, .int (nI d)), (2, .int (nI t))] := hl
  refine lv_iload_n hx hb zd_A5_isThere_0 rfl (lv_at hl 1 rfl) ?_
  refine lv_aload_n hx hb zd_A5_isThere_1 rfl (lv_at hl 0 rfl) ?_
  refine zg_A5 F hT hK hP 0 rfl 5 (by decide) zq_59 rfl zd_A5_isThere_2 ?_
  refine lv_icmp_ne (tgt := 23) hx hb zd_A5_isThere_5 rfl (fun hc => ?_) (fun hc => ?_)
  · have hc : ¬ d = sk := fun h => hc ((sI_eq hd).mpr h)
    refine lv_iconst (v := 1) hx hb zd_A5_isThere_23 (by decide) ?_
    refine lv_goto (tgt := 28) hx hb zd_A5_isThere_24 rfl ?_
    exact zx_iret F rfl hS.2.2 zd_A5_isThere_28 ⟨by rw [show thr sk nw rb d t = true by simp [thr, hc]]; rfl, rfl⟩
  · have hc := (sI_eq hd).mp hc
    refine lv_aload_n hx hb zd_A5_isThere_8 rfl (lv_at hl 0 rfl) ?_
    refine zg_A5 F hT hK hP 0 rfl 7 (by decide) zq_63 rfl zd_A5_isThere_9 ?_
    refine lv_if_eq (tgt := 27) hx hb zd_A5_isThere_12 rfl (fun hn => ?_) (fun hn => ?_)
    · have hn := bI_0.mp hn
      refine lv_iconst (v := 0) hx hb zd_A5_isThere_27 (by decide) ?_
      exact zx_iret F rfl hS.2.2 zd_A5_isThere_28 ⟨by rw [show thr sk nw rb d t = false by simp [thr, hc, hn]]; rfl, rfl⟩
    · have hn : nw = true := by cases nw with | false => exact absurd rfl hn | true => rfl
      refine lv_iload_n hx hb zd_A5_isThere_15 rfl (lv_at hl 2 rfl) ?_
      refine lv_aload_n hx hb zd_A5_isThere_16 rfl (lv_at hl 0 rfl) ?_
      refine zg_A5 F hT hK hP 0 rfl 6 (by decide) zq_61 rfl zd_A5_isThere_17 ?_
      refine lv_icmp_ge (tgt := 27) hx hb zd_A5_isThere_20 rfl (fun hr => ?_) (fun hr => ?_)
      · have hr : rb ≤ t := (nI_leI (by omega) (by omega)).mp hr
        refine lv_iconst (v := 0) hx hb zd_A5_isThere_27 (by decide) ?_
        exact zx_iret F rfl hS.2.2 zd_A5_isThere_28 ⟨by rw [show thr sk nw rb d t = false by simp [thr, hc, hn]; omega]; rfl, rfl⟩
      · have hr : ¬ rb ≤ t := fun h => hr ((nI_leI (by omega) (by omega)).mpr h)
        refine lv_iconst (v := 1) hx hb zd_A5_isThere_23 (by decide) ?_
        refine lv_goto (tgt := 28) hx hb zd_A5_isThere_24 rfl ?_
        exact zx_iret F rfl hS.2.2 zd_A5_isThere_28 ⟨by rw [show thr sk nw rb d t = true by simp [thr, hn]; omega]; rfl, rfl⟩
set_option maxHeartbeats 4000000 in
set_option maxRecDepth 20000 in
theorem zc_Mo_isThere (l : Launch) (G : xG) {H0 : Heap} {A : Nat → Prop} (mo by_ sk rb d t : Nat) (on_ nw : Bool) (fl wt ct th : Int32) (wr : va_W) (hd : d < 5) (ht : t < 2 ^ 31) (hrb : rb < 2 ^ 31) (hP : va_P G.1 zcl ([(mo, eMo by_ on_ (sI sk) nw (nI rb) fl wt ct th)] ++ wr) H0) : XM l G (rmz 8 120 0 0) zy_Mo_isThere zb_Mo_isThere 3 (some FieldType.boolean) [] H0 A [.ref mo, .int (nI d), .int (nI t)] 0 0 (fun v H => v = some (.int (bI (thr sk nw rb d t))) ∧ H0 = H) (fun _ _ => False) := by
  intro p e s m below meth c F hT hK hH hZ
  subst hH
  have hx := F.1
  have hb := F.2.1
  have hS : va_S A s.heap s.heap [] := va_S.rf
  have hl := lv_entry ([.ref mo, .int (nI d), .int (nI t)]) (n := 3) (Nat.le_of_ble_eq_true rfl)
  rw [lg_entry_eq]
  generalize (lg_sl ([.ref mo, .int (nI d), .int (nI t)]) ++ List.replicate (3 - (lg_sl ([.ref mo, .int (nI d), .int (nI t)])).length) Slot.unset).toArray = ls at hl ⊢
  have hl : lv_has ls 3 [(0, .ref mo), (1, .int (nI d)), (2, .int (nI t))] := hl
  refine lv_iload_n hx hb zd_Mo_isThere_0 rfl (lv_at hl 1 rfl) ?_
  refine lv_aload_n hx hb zd_Mo_isThere_1 rfl (lv_at hl 0 rfl) ?_
  refine zg_Mo F hT hK hP 0 rfl 2 (by decide) zq_389 rfl zd_Mo_isThere_2 ?_
  refine lv_icmp_ne (tgt := 23) hx hb zd_Mo_isThere_5 rfl (fun hc => ?_) (fun hc => ?_)
  · have hc : ¬ d = sk := fun h => hc ((sI_eq hd).mpr h)
    refine lv_iconst (v := 1) hx hb zd_Mo_isThere_23 (by decide) ?_
    refine lv_goto (tgt := 28) hx hb zd_Mo_isThere_24 rfl ?_
    exact zx_iret F rfl hS.2.2 zd_Mo_isThere_28 ⟨by rw [show thr sk nw rb d t = true by simp [thr, hc]]; rfl, rfl⟩
  · have hc := (sI_eq hd).mp hc
    refine lv_aload_n hx hb zd_Mo_isThere_8 rfl (lv_at hl 0 rfl) ?_
    refine zg_Mo F hT hK hP 0 rfl 3 (by decide) zq_390 rfl zd_Mo_isThere_9 ?_
    refine lv_if_eq (tgt := 27) hx hb zd_Mo_isThere_12 rfl (fun hn => ?_) (fun hn => ?_)
    · have hn := bI_0.mp hn
      refine lv_iconst (v := 0) hx hb zd_Mo_isThere_27 (by decide) ?_
      exact zx_iret F rfl hS.2.2 zd_Mo_isThere_28 ⟨by rw [show thr sk nw rb d t = false by simp [thr, hc, hn]]; rfl, rfl⟩
    · have hn : nw = true := by cases nw with | false => exact absurd rfl hn | true => rfl
      refine lv_iload_n hx hb zd_Mo_isThere_15 rfl (lv_at hl 2 rfl) ?_
      refine lv_aload_n hx hb zd_Mo_isThere_16 rfl (lv_at hl 0 rfl) ?_
      refine zg_Mo F hT hK hP 0 rfl 4 (by decide) zq_391 rfl zd_Mo_isThere_17 ?_
      refine lv_icmp_ge (tgt := 27) hx hb zd_Mo_isThere_20 rfl (fun hr => ?_) (fun hr => ?_)
      · have hr : rb ≤ t := (nI_leI (by omega) (by omega)).mp hr
        refine lv_iconst (v := 0) hx hb zd_Mo_isThere_27 (by decide) ?_
        exact zx_iret F rfl hS.2.2 zd_Mo_isThere_28 ⟨by rw [show thr sk nw rb d t = false by simp [thr, hc, hn]; omega]; rfl, rfl⟩
      · have hr : ¬ rb ≤ t := fun h => hr ((nI_leI (by omega) (by omega)).mpr h)
        refine lv_iconst (v := 1) hx hb zd_Mo_isThere_23 (by decide) ?_
        refine lv_goto (tgt := 28) hx hb zd_Mo_isThere_24 rfl ?_
        exact zx_iret F rfl hS.2.2 zd_Mo_isThere_28 ⟨by rw [show thr sk nw rb d t = true by simp [thr, hn]; omega]; rfl, rfl⟩
set_option maxHeartbeats 4000000 in
set_option maxRecDepth 20000 in
theorem zc_Pw_say (l : Launch) (G : xG) {H0 : Heap} {A : Nat → Prop} (pw : Nat) (wn lf bt w k b : Int32) (am bh : Bool) (wr : va_W) (hP : va_P G.1 zcl ([(pw, ePw wn lf bt am bh)] ++ wr) H0) (hD : va_D A ([(pw, ePw wn lf bt am bh)] ++ wr)) : XM l G (rmz 8 120 0 0) zy_Pw_say zb_Pw_say 4 none [] H0 A [.ref pw, .int w, .int k, .int b] 0 0 (fun v H => v = none ∧ va_P G.1 zcl ([(pw, ePw w k b am bh)] ++ wr) H) (fun _ _ => False) := by
  intro p e s m below meth c F hT hK hH hZ
  subst hH
  have hx := F.1
  have hb := F.2.1
  have hS : va_S A s.heap s.heap [] := va_S.rf
  have hl := lv_entry ([.ref pw, .int w, .int k, .int b]) (n := 4) (Nat.le_of_ble_eq_true rfl)
  rw [lg_entry_eq]
  generalize (lg_sl ([.ref pw, .int w, .int k, .int b]) ++ List.replicate (4 - (lg_sl ([.ref pw, .int w, .int k, .int b])).length) Slot.unset).toArray = ls at hl ⊢
  have hl : lv_has ls 4 [(0, .ref pw), (1, .int w), (2, .int k), (3, .int b)] := hl
  refine lv_aload_n hx hb zd_Pw_say_0 rfl (lv_at hl 0 rfl) ?_
  refine lv_iload_n hx hb zd_Pw_say_1 rfl (lv_at hl 1 rfl) ?_
  refine zp_Pw F hT hK hP hD hS 0 rfl 0 (by decide) zq_29 rfl rfl rfl (Nat.le_of_ble_eq_true rfl) zd_Pw_say_2 (fun H locs hP hD hS => ?_)
  have hP : va_P G.1 zcl ([(_, .inr (1, [_, _, _, _, _]))] ++ wr) H := hP
  have hD : va_D A ([(_, .inr (1, [_, _, _, _, _]))] ++ wr) := hD
  refine lv_aload_n hx hb zd_Pw_say_5 rfl (lv_at hl 0 rfl) ?_
  refine lv_iload_n hx hb zd_Pw_say_6 rfl (lv_at hl 2 rfl) ?_
  refine zp_Pw F hT hK hP hD hS 0 rfl 1 (by decide) zq_31 rfl rfl rfl (Nat.le_of_ble_eq_true rfl) zd_Pw_say_7 (fun H locs hP hD hS => ?_)
  have hP : va_P G.1 zcl ([(_, .inr (1, [_, _, _, _, _]))] ++ wr) H := hP
  have hD : va_D A ([(_, .inr (1, [_, _, _, _, _]))] ++ wr) := hD
  refine lv_aload_n hx hb zd_Pw_say_10 rfl (lv_at hl 0 rfl) ?_
  refine lv_iload_n hx hb zd_Pw_say_11 rfl (lv_at hl 3 rfl) ?_
  refine zp_Pw F hT hK hP hD hS 0 rfl 2 (by decide) zq_32 rfl rfl rfl (Nat.le_of_ble_eq_true rfl) zd_Pw_say_12 (fun H locs hP hD hS => ?_)
  have hP : va_P G.1 zcl ([(_, .inr (1, [_, _, _, _, _]))] ++ wr) H := hP
  have hD : va_D A ([(_, .inr (1, [_, _, _, _, _]))] ++ wr) := hD
  exact zx_vret F hS.2.2 zd_Pw_say_15 ⟨rfl, hP⟩
set_option maxHeartbeats 4000000 in
set_option maxRecDepth 20000 in
theorem zc_Pw_begin (l : Launch) (G : xG) {H0 : Heap} {A : Nat → Prop} (pw : Nat) (wn lf bt : Int32) (am bh re : Bool) (wr : va_W) (hP : va_P G.1 zcl ([(pw, ePw wn lf bt am bh)] ++ wr) H0) (hD : va_D A ([(pw, ePw wn lf bt am bh)] ++ wr)) : XM l G (rmz 8 120 0 0) zy_Pw_begin zb_Pw_begin 2 none [] H0 A [.ref pw, .int (bI re)] 0 0 (fun v H => v = none ∧ va_P G.1 zcl ([(pw, ePw wn lf bt (zarm re wn) false)] ++ wr) H) (fun _ _ => False) := by
  intro p e s m below meth c F hT hK hH hZ
  subst hH
  have hx := F.1
  have hb := F.2.1
  have hS : va_S A s.heap s.heap [] := va_S.rf
  have hl := lv_entry ([.ref pw, .int (bI re)]) (n := 2) (Nat.le_of_ble_eq_true rfl)
  rw [lg_entry_eq]
  generalize (lg_sl ([.ref pw, .int (bI re)]) ++ List.replicate (2 - (lg_sl ([.ref pw, .int (bI re)])).length) Slot.unset).toArray = ls at hl ⊢
  have hl : lv_has ls 2 [(0, .ref pw), (1, .int (bI re))] := hl
  refine lv_aload_n hx hb zd_Pw_begin_0 rfl (lv_at hl 0 rfl) ?_
  refine lv_aload_n hx hb zd_Pw_begin_1 rfl (lv_at hl 0 rfl) ?_
  refine zg_Pw F hT hK hP 0 rfl 0 (by decide) zq_29 rfl zd_Pw_begin_2 ?_
  refine lv_iconst (v := 4) hx hb zd_Pw_begin_5 (by decide) ?_
  refine lv_icmp_ge (tgt := 30) hx hb zd_Pw_begin_6 rfl (fun h4 => ?_) (fun h4 => ?_)
  · refine lv_iconst (v := 0) hx hb zd_Pw_begin_30 (by decide) ?_
    have e9 : zarm re wn = false := by simp [zarm]; intro h; exact absurd h4 (Int32.not_le.mpr h)
    refine zp_Pw F hT hK hP hD hS 0 rfl 3 (by decide) zq_33 rfl rfl rfl (Nat.le_of_ble_eq_true rfl) zd_Pw_begin_31 (fun H locs hP hD hS => ?_)
    have hP : va_P G.1 zcl ([(_, .inr (1, [_, _, _, _, _]))] ++ wr) H := hP
    have hD : va_D A ([(_, .inr (1, [_, _, _, _, _]))] ++ wr) := hD
    refine lv_aload_n hx hb zd_Pw_begin_34 rfl (lv_at hl 0 rfl) ?_
    refine lv_iconst (v := 0) hx hb zd_Pw_begin_35 (by decide) ?_
    refine zp_Pw F hT hK hP hD hS 0 rfl 4 (by decide) zq_35 rfl rfl rfl (Nat.le_of_ble_eq_true rfl) zd_Pw_begin_36 (fun H locs hP hD hS => ?_)
    have hP : va_P G.1 zcl ([(_, .inr (1, [_, _, _, _, _]))] ++ wr) H := hP
    have hD : va_D A ([(_, .inr (1, [_, _, _, _, _]))] ++ wr) := hD
    exact zx_vret F hS.2.2 zd_Pw_begin_39 ⟨rfl, by rw [e9]; exact hP⟩
  · have h4 := Int32.not_le.mp h4
    refine lv_iload_n hx hb zd_Pw_begin_9 rfl (lv_at hl 1 rfl) ?_
    refine lv_aload_n hx hb zd_Pw_begin_10 rfl (lv_at hl 0 rfl) ?_
    refine zg_Pw F hT hK hP 0 rfl 0 (by decide) zq_29 rfl zd_Pw_begin_11 ?_
    refine lv_iconst (v := 3) hx hb zd_Pw_begin_14 (by decide) ?_
    refine lv_icmp_ne (tgt := 22) hx hb zd_Pw_begin_15 rfl (fun h3 => ?_) (fun h3 => ?_)
    · refine lv_iconst (v := 0) hx hb zd_Pw_begin_22 (by decide) ?_
      refine lv_icmp_ne (tgt := 30) hx hb zd_Pw_begin_23 rfl (fun hr => ?_) (fun hr => ?_)
      · refine lv_iconst (v := 0) hx hb zd_Pw_begin_30 (by decide) ?_
        have hr : re = true := by cases re with | true => rfl | false => exact absurd rfl hr
        have e9 : zarm re wn = false := by simp [zarm, hr, h3]
        refine zp_Pw F hT hK hP hD hS 0 rfl 3 (by decide) zq_33 rfl rfl rfl (Nat.le_of_ble_eq_true rfl) zd_Pw_begin_31 (fun H locs hP hD hS => ?_)
        have hP : va_P G.1 zcl ([(_, .inr (1, [_, _, _, _, _]))] ++ wr) H := hP
        have hD : va_D A ([(_, .inr (1, [_, _, _, _, _]))] ++ wr) := hD
        refine lv_aload_n hx hb zd_Pw_begin_34 rfl (lv_at hl 0 rfl) ?_
        refine lv_iconst (v := 0) hx hb zd_Pw_begin_35 (by decide) ?_
        refine zp_Pw F hT hK hP hD hS 0 rfl 4 (by decide) zq_35 rfl rfl rfl (Nat.le_of_ble_eq_true rfl) zd_Pw_begin_36 (fun H locs hP hD hS => ?_)
        have hP : va_P G.1 zcl ([(_, .inr (1, [_, _, _, _, _]))] ++ wr) H := hP
        have hD : va_D A ([(_, .inr (1, [_, _, _, _, _]))] ++ wr) := hD
        exact zx_vret F hS.2.2 zd_Pw_begin_39 ⟨rfl, by rw [e9]; exact hP⟩
      · have hr : re = false := bI_0.mp hr
        refine lv_iconst (v := 1) hx hb zd_Pw_begin_26 (by decide) ?_
        refine lv_goto (tgt := 31) hx hb zd_Pw_begin_27 rfl ?_
        have e9 : zarm re wn = true := by simp [zarm, hr, h3]; exact h4
        refine zp_Pw F hT hK hP hD hS 0 rfl 3 (by decide) zq_33 rfl rfl rfl (Nat.le_of_ble_eq_true rfl) zd_Pw_begin_31 (fun H locs hP hD hS => ?_)
        have hP : va_P G.1 zcl ([(_, .inr (1, [_, _, _, _, _]))] ++ wr) H := hP
        have hD : va_D A ([(_, .inr (1, [_, _, _, _, _]))] ++ wr) := hD
        refine lv_aload_n hx hb zd_Pw_begin_34 rfl (lv_at hl 0 rfl) ?_
        refine lv_iconst (v := 0) hx hb zd_Pw_begin_35 (by decide) ?_
        refine zp_Pw F hT hK hP hD hS 0 rfl 4 (by decide) zq_35 rfl rfl rfl (Nat.le_of_ble_eq_true rfl) zd_Pw_begin_36 (fun H locs hP hD hS => ?_)
        have hP : va_P G.1 zcl ([(_, .inr (1, [_, _, _, _, _]))] ++ wr) H := hP
        have hD : va_D A ([(_, .inr (1, [_, _, _, _, _]))] ++ wr) := hD
        exact zx_vret F hS.2.2 zd_Pw_begin_39 ⟨rfl, by rw [e9]; exact hP⟩
    · refine lv_iconst (v := 1) hx hb zd_Pw_begin_18 (by decide) ?_
      refine lv_goto (tgt := 23) hx hb zd_Pw_begin_19 rfl ?_
      refine lv_icmp_ne (tgt := 30) hx hb zd_Pw_begin_23 rfl (fun hr => ?_) (fun hr => ?_)
      · refine lv_iconst (v := 0) hx hb zd_Pw_begin_30 (by decide) ?_
        have hr : re = false := by cases re with | false => rfl | true => exact absurd rfl hr
        have e9 : zarm re wn = false := by simp [zarm, hr, h3]
        refine zp_Pw F hT hK hP hD hS 0 rfl 3 (by decide) zq_33 rfl rfl rfl (Nat.le_of_ble_eq_true rfl) zd_Pw_begin_31 (fun H locs hP hD hS => ?_)
        have hP : va_P G.1 zcl ([(_, .inr (1, [_, _, _, _, _]))] ++ wr) H := hP
        have hD : va_D A ([(_, .inr (1, [_, _, _, _, _]))] ++ wr) := hD
        refine lv_aload_n hx hb zd_Pw_begin_34 rfl (lv_at hl 0 rfl) ?_
        refine lv_iconst (v := 0) hx hb zd_Pw_begin_35 (by decide) ?_
        refine zp_Pw F hT hK hP hD hS 0 rfl 4 (by decide) zq_35 rfl rfl rfl (Nat.le_of_ble_eq_true rfl) zd_Pw_begin_36 (fun H locs hP hD hS => ?_)
        have hP : va_P G.1 zcl ([(_, .inr (1, [_, _, _, _, _]))] ++ wr) H := hP
        have hD : va_D A ([(_, .inr (1, [_, _, _, _, _]))] ++ wr) := hD
        exact zx_vret F hS.2.2 zd_Pw_begin_39 ⟨rfl, by rw [e9]; exact hP⟩
      · have hr : re = true := bI_1.mp hr
        refine lv_iconst (v := 1) hx hb zd_Pw_begin_26 (by decide) ?_
        refine lv_goto (tgt := 31) hx hb zd_Pw_begin_27 rfl ?_
        have e9 : zarm re wn = true := by rw [h3, hr]; decide
        refine zp_Pw F hT hK hP hD hS 0 rfl 3 (by decide) zq_33 rfl rfl rfl (Nat.le_of_ble_eq_true rfl) zd_Pw_begin_31 (fun H locs hP hD hS => ?_)
        have hP : va_P G.1 zcl ([(_, .inr (1, [_, _, _, _, _]))] ++ wr) H := hP
        have hD : va_D A ([(_, .inr (1, [_, _, _, _, _]))] ++ wr) := hD
        refine lv_aload_n hx hb zd_Pw_begin_34 rfl (lv_at hl 0 rfl) ?_
        refine lv_iconst (v := 0) hx hb zd_Pw_begin_35 (by decide) ?_
        refine zp_Pw F hT hK hP hD hS 0 rfl 4 (by decide) zq_35 rfl rfl rfl (Nat.le_of_ble_eq_true rfl) zd_Pw_begin_36 (fun H locs hP hD hS => ?_)
        have hP : va_P G.1 zcl ([(_, .inr (1, [_, _, _, _, _]))] ++ wr) H := hP
        have hD : va_D A ([(_, .inr (1, [_, _, _, _, _]))] ++ wr) := hD
        exact zx_vret F hS.2.2 zd_Pw_begin_39 ⟨rfl, by rw [e9]; exact hP⟩
set_option maxHeartbeats 4000000 in
set_option maxRecDepth 20000 in
theorem zc_Pw_write (l : Launch) (G : xG) {H0 : Heap} {A : Nat → Prop} (pw : Nat) (wn lf bt : Int32) (am bh : Bool) (wr : va_W) (hP : va_P G.1 zcl ([(pw, ePw wn lf bt am bh)] ++ wr) H0) (hD : va_D A ([(pw, ePw wn lf bt am bh)] ++ wr)) (h1 : ¬ wn = 1) (h2 : ¬ wn = 2) : XM l G (rmz 8 120 0 0) zy_Pw_write zb_Pw_write 2 (some FieldType.int) [] H0 A [.ref pw, .int 0] 0 0 (fun v H => v = some (.int (if am = true ∧ lf = 0 then bt else -1)) ∧ va_P G.1 zcl ([(pw, ePw wn (if am = true then lf - 1 else lf) bt am bh)] ++ wr) H) (fun _ _ => False) := by
  intro p e s m below meth c F hT hK hH hZ
  subst hH
  have hx := F.1
  have hb := F.2.1
  have hS : va_S A s.heap s.heap [] := va_S.rf
  have hl := lv_entry ([.ref pw, .int 0]) (n := 2) (Nat.le_of_ble_eq_true rfl)
  rw [lg_entry_eq]
  generalize (lg_sl ([.ref pw, .int 0]) ++ List.replicate (2 - (lg_sl ([.ref pw, .int 0])).length) Slot.unset).toArray = ls at hl ⊢
  have hl : lv_has ls 2 [(0, .ref pw), (1, .int 0)] := hl
  cases am with
  | false =>
    refine lv_aload_n hx hb zd_Pw_write_0 rfl (lv_at hl 0 rfl) ?_
    refine zg_Pw F hT hK hP 0 rfl 3 (by decide) zq_33 rfl zd_Pw_write_1 ?_
    refine lv_if_ne (tgt := 9) hx hb zd_Pw_write_4 rfl (fun hc9 => absurd hc9 (by decide)) (fun _ => ?_)
    refine lv_iconst (v := (-1)) hx hb zd_Pw_write_7 (by decide) ?_
    exact zx_iret F rfl hS.2.2 zd_Pw_write_8 ⟨rfl, hP⟩
  | true =>
    refine lv_aload_n hx hb zd_Pw_write_0 rfl (lv_at hl 0 rfl) ?_
    refine zg_Pw F hT hK hP 0 rfl 3 (by decide) zq_33 rfl zd_Pw_write_1 ?_
    refine lv_if_ne (tgt := 9) hx hb zd_Pw_write_4 rfl (fun _ => ?_) (fun hc9 => absurd hc9 (by decide))
    refine lv_iload_n hx hb zd_Pw_write_9 rfl (lv_at hl 1 rfl) ?_
    refine lv_if_eq (tgt := 46) hx hb zd_Pw_write_10 rfl (fun _ => ?_) (fun hc9 => absurd hc9 (by decide))
    refine lv_aload_n hx hb zd_Pw_write_46 rfl (lv_at hl 0 rfl) ?_
    refine zg_Pw F hT hK hP 0 rfl 0 (by decide) zq_29 rfl zd_Pw_write_47 ?_
    refine lv_iconst (v := 1) hx hb zd_Pw_write_50 (by decide) ?_
    refine lv_icmp_eq (tgt := 69) hx hb zd_Pw_write_51 rfl (fun hc9 => absurd hc9 h1) (fun _ => ?_)
    refine lv_aload_n hx hb zd_Pw_write_54 rfl (lv_at hl 0 rfl) ?_
    refine zg_Pw F hT hK hP 0 rfl 0 (by decide) zq_29 rfl zd_Pw_write_55 ?_
    refine lv_iconst (v := 2) hx hb zd_Pw_write_58 (by decide) ?_
    refine lv_icmp_ne (tgt := 71) hx hb zd_Pw_write_59 rfl (fun _ => ?_) (fun hc9 => absurd hc9 (fun h => h2 h))
    refine lv_aload_n hx hb zd_Pw_write_71 rfl (lv_at hl 0 rfl) ?_
    refine lv_dup hx hb zd_Pw_write_72 rfl ?_
    refine zg_Pw F hT hK hP 0 rfl 1 (by decide) zq_31 rfl zd_Pw_write_73 ?_
    refine lv_dup_x1 hx hb zd_Pw_write_76 rfl rfl ?_
    refine lv_iconst (v := 1) hx hb zd_Pw_write_77 (by decide) ?_
    refine lv_isub hx hb zd_Pw_write_78 ?_
    refine zp_Pw F hT hK hP hD hS 0 rfl 1 (by decide) zq_31 rfl rfl rfl (Nat.le_of_ble_eq_true rfl) zd_Pw_write_79 (fun H locs hP hD hS => ?_)
    have hP : va_P G.1 zcl ([(_, .inr (1, [_, _, _, _, _]))] ++ wr) H := hP
    have hD : va_D A ([(_, .inr (1, [_, _, _, _, _]))] ++ wr) := hD
    refine lv_if_ne (tgt := 92) hx hb zd_Pw_write_82 rfl (fun h0 => ?_) (fun h0 => ?_)
    · refine lv_iconst (v := (-1)) hx hb zd_Pw_write_92 (by decide) ?_
      exact zx_iret F rfl hS.2.2 zd_Pw_write_93 ⟨by rw [if_neg (fun h => h0 h.2)], hP⟩
    · refine lv_aload_n hx hb zd_Pw_write_85 rfl (lv_at hl 0 rfl) ?_
      refine zg_Pw F hT hK hP 0 rfl 2 (by decide) zq_32 rfl zd_Pw_write_86 ?_
      refine lv_goto (tgt := 93) hx hb zd_Pw_write_89 rfl ?_
      exact zx_iret F rfl hS.2.2 zd_Pw_write_93 ⟨by rw [if_pos ⟨rfl, h0⟩], hP⟩
set_option maxHeartbeats 4000000 in
set_option maxRecDepth 20000 in
theorem zc_Mo_thrown (l : Launch) (G : xG) {H0 : Heap} {A : Nat → Prop} (mo by_ : Nat) (on_ nw : Bool) (sk rb fl wt ct th : Int32) (wr : va_W) (hP : va_P G.1 zcl ([(mo, eMo by_ on_ sk nw rb fl wt ct th)] ++ wr) H0) : XM l G (rmz 8 120 0 0) zy_Mo_thrown zb_Mo_thrown 1 (some FieldType.int) [] H0 A [.ref mo] 0 0 (fun v H => v = some (.int th) ∧ H0 = H) (fun _ _ => False) := by
  intro p e s m below meth c F hT hK hH hZ
  subst hH
  have hx := F.1
  have hb := F.2.1
  have hS : va_S A s.heap s.heap [] := va_S.rf
  have hl := lv_entry ([.ref mo]) (n := 1) (Nat.le_of_ble_eq_true rfl)
  rw [lg_entry_eq]
  generalize (lg_sl ([.ref mo]) ++ List.replicate (1 - (lg_sl ([.ref mo])).length) Slot.unset).toArray = ls at hl ⊢
  have hl : lv_has ls 1 [(0, .ref mo)] := hl
  refine lv_aload_n hx hb zd_Mo_thrown_0 rfl (lv_at hl 0 rfl) ?_
  refine zg_Mo F hT hK hP 0 rfl 8 (by decide) zq_395 rfl zd_Mo_thrown_1 ?_
  exact zx_iret F rfl hS.2.2 zd_Mo_thrown_4 ⟨rfl, rfl⟩
set_option maxHeartbeats 4000000 in
set_option maxRecDepth 20000 in
theorem zc_Mo_fails (l : Launch) (G : xG) {H0 : Heap} {A : Nat → Prop} (mo by_ : Nat) (on_ nw : Bool) (sk rb fl wt ct th : Int32) (z : Int32) (wr : va_W) (hP : va_P G.1 zcl ([(mo, eMo by_ on_ sk nw rb fl wt ct th)] ++ wr) H0) (hD : va_D A ([(mo, eMo by_ on_ sk nw rb fl wt ct th)] ++ wr)) : XM l G (rmz 8 120 0 0) zy_Mo_fails zb_Mo_fails 2 (some FieldType.int) [] H0 A [.ref mo, .int z] 0 0 (fun v H => v = some (.int 0) ∧ va_P G.1 zcl ([(mo, eMo by_ on_ sk nw rb fl wt ct z)] ++ wr) H) (fun _ _ => False) := by
  intro p e s m below meth c F hT hK hH hZ
  subst hH
  have hx := F.1
  have hb := F.2.1
  have hS : va_S A s.heap s.heap [] := va_S.rf
  have hl := lv_entry ([.ref mo, .int z]) (n := 2) (Nat.le_of_ble_eq_true rfl)
  rw [lg_entry_eq]
  generalize (lg_sl ([.ref mo, .int z]) ++ List.replicate (2 - (lg_sl ([.ref mo, .int z])).length) Slot.unset).toArray = ls at hl ⊢
  have hl : lv_has ls 2 [(0, .ref mo), (1, .int z)] := hl
  refine lv_aload_n hx hb zd_Mo_fails_0 rfl (lv_at hl 0 rfl) ?_
  refine lv_iload_n hx hb zd_Mo_fails_1 rfl (lv_at hl 1 rfl) ?_
  refine zp_Mo F hT hK hP hD hS 0 rfl 8 (by decide) zq_395 rfl rfl rfl (Nat.le_of_ble_eq_true rfl) zd_Mo_fails_2 (fun H locs hP hD hS => ?_)
  have hP : va_P G.1 zcl ([(_, .inr (3, [_, _, _, _, _, _, _, _, _]))] ++ wr) H := hP
  have hD : va_D A ([(_, .inr (3, [_, _, _, _, _, _, _, _, _]))] ++ wr) := hD
  refine lv_iconst (v := 0) hx hb zd_Mo_fails_5 (by decide) ?_
  exact zx_iret F rfl hS.2.2 zd_Mo_fails_6 ⟨rfl, hP⟩
set_option maxHeartbeats 4000000 in
set_option maxRecDepth 20000 in
theorem zc_Mo_read (l : Launch) (G : xG) {H0 : Heap} {A : Nat → Prop} (mo by_ : Nat) (on_ nw : Bool) (sk rb fl wt ct th : Int32) (at_ : Nat) (M : Nat → Int8) (wr : va_W) (hat : at_ + 8 ≤ 76800) (hP : va_P G.1 zcl ([(mo, eMo by_ on_ sk nw rb fl wt ct th), (by_, eB G 76800 M)] ++ wr) H0) : XM l G (rmz 8 120 0 0) zy_Mo_read zb_Mo_read 5 (some FieldType.long) [] H0 A [.ref mo, .int (nI at_)] 0 0 (fun v H => v = some (.long (wd8 (fun j => M (at_ + j)) 8)) ∧ H0 = H) (fun _ _ => False) := by
  intro p e s m below meth c F hT hK hH hZ
  subst hH
  have hx := F.1
  have hb := F.2.1
  have hS : va_S A s.heap s.heap [] := va_S.rf
  have hl := lv_entry ([.ref mo, .int (nI at_)]) (n := 5) (Nat.le_of_ble_eq_true rfl)
  rw [lg_entry_eq]
  generalize (lg_sl ([.ref mo, .int (nI at_)]) ++ List.replicate (5 - (lg_sl ([.ref mo, .int (nI at_)])).length) Slot.unset).toArray = ls at hl ⊢
  have hl : lv_has ls 5 [(0, .ref mo), (1, .int (nI at_))] := hl
  have loop : ∀ (n k : Nat), n + k = 8 → ∀ (ls : Array Slot), lv_has ls 5 [(4, .int (nI k)), (2, .long (wd8 (fun j => M (at_ + j)) k)), (0, .ref mo), (1, .int (nI at_))] → W p l e (rmz 8 120 0 0) s m ([.ref mo, .int (nI at_)] : List Value).toArray below meth c s.heap [] 0 0 (xQ below s A 0 0 (fun v H => v = some (.long (wd8 (fun j => M (at_ + j)) 8)) ∧ s.heap = H) (fun _ _ => False)) (F0 m 5 ls []) := by
    intro n
    induction n with
    | zero =>
      intro k hk ls hl
      obtain rfl : k = 8 := by omega
      refine lv_iload hx hb zd_Mo_read_5 (lv_at hl 0 rfl) ?_
      refine lv_bipush (v := nI 8) hx hb zd_Mo_read_7 (by decide) ?_
      refine lv_icmp_ge (tgt := 38) hx hb zd_Mo_read_9 rfl (fun _ => ?_) (fun hc9 => absurd hc9 (fun h => h (Int32.le_refl _)))
      refine lv_lload_n hx hb zd_Mo_read_38 rfl (lv_at hl 1 rfl) ?_
      exact zx_lret F hS.2.2 zd_Mo_read_39 ⟨rfl, rfl⟩
    | succ n ih =>
      intro k hk ls hl
      refine lv_iload hx hb zd_Mo_read_5 (lv_at hl 0 rfl) ?_
      refine lv_bipush (v := nI 8) hx hb zd_Mo_read_7 (by decide) ?_
      refine lv_icmp_ge (tgt := 38) hx hb zd_Mo_read_9 rfl (fun hc9 => absurd hc9 (nI_ge (by omega) (by decide))) (fun _ => ?_)
      refine lv_lload_n hx hb zd_Mo_read_12 rfl (lv_at hl 1 rfl) ?_
      refine lv_bipush (v := nI 8) hx hb zd_Mo_read_13 (by decide) ?_
      refine lv_lshl hx hb zd_Mo_read_15 rfl ?_
      refine lv_aload_n hx hb zd_Mo_read_16 rfl (lv_at hl 2 rfl) ?_
      refine zg_Mo F hT hK hP 0 rfl 0 (by decide) zq_387 rfl zd_Mo_read_17 ?_
      refine lv_iload_n hx hb zd_Mo_read_20 rfl (lv_at hl 3 rfl) ?_
      refine lv_iload hx hb zd_Mo_read_21 (lv_at hl 0 rfl) ?_
      refine lv_iadd hx hb zd_Mo_read_23 ?_
      refine zw_bald F hK hP 1 rfl (at_ + k) (nI_add _ _) (by omega) (by decide) zd_Mo_read_24 ?_
      refine lv_sipush (v := nI 255) hx hb zd_Mo_read_25 (by decide) ?_
      refine lv_iand hx hb zd_Mo_read_28 ?_
      refine lv_i2l hx hb zd_Mo_read_29 rfl ?_
      refine lv_lor hx hb zd_Mo_read_30 ?_
      refine lv_lstore_n hx hb zd_Mo_read_31 rfl hl (by decide) rfl (fun ls hl => ?_)
      have hl : lv_has ls 5 [(2, _), (4, _), (0, _), (1, _)] := hl
      refine lv_iinc (k := 1) hx hb zd_Mo_read_32 hl rfl (zl_inc k) (by decide) rfl (fun ls hl => ?_)
      have hl : lv_has ls 5 [(4, _), (2, _), (0, _), (1, _)] := hl
      refine lv_goto (tgt := 5) hx hb zd_Mo_read_35 rfl ?_
      exact ih (k + 1) (by omega) ls hl
  refine lv_lconst (v := 0) hx hb zd_Mo_read_0 (by decide) ?_
  refine lv_lstore_n hx hb zd_Mo_read_1 rfl hl (by decide) rfl (fun ls hl => ?_)
  have hl : lv_has ls 5 [(2, _), (0, _), (1, _)] := hl
  refine lv_iconst (v := 0) hx hb zd_Mo_read_2 (by decide) ?_
  refine lv_istore hx hb zd_Mo_read_3 hl (by decide) rfl (fun ls hl => ?_)
  have hl : lv_has ls 5 [(4, _), (2, _), (0, _), (1, _)] := hl
  exact loop 8 0 rfl ls hl
set_option maxHeartbeats 4000000 in
set_option maxRecDepth 20000 in
theorem zc_PA_at (l : Launch) (G : xG) {H0 : Heap} {A : Nat → Prop} (b : Bool) (hfl : l.flags = flags0) : XM l G (rmz 8 120 1 6) zy_PA_at zb_PA_at 1 none [] H0 A [.int (bI b)] 1 6 (fun v H => v = none ∧ b = true ∧ H0 = H) (fun x H => b = false ∧ xE (gIO G) x H ∧ (∀ q : Nat, q < H0.size → H[q]? = H0[q]?) ∧ H0.size ≤ x) := by
  intro p e s m below meth c F hT hK hH hZ
  subst hH
  have hx := F.1
  have hb := F.2.1
  have hS : va_S A s.heap s.heap [] := va_S.rf
  have hl := lv_entry ([.int (bI b)]) (n := 1) (Nat.le_of_ble_eq_true rfl)
  rw [lg_entry_eq]
  generalize (lg_sl ([.int (bI b)]) ++ List.replicate (1 - (lg_sl ([.int (bI b)])).length) Slot.unset).toArray = ls at hl ⊢
  have hl : lv_has ls 1 [(0, .int (bI b))] := hl
  cases b with
  | true =>
    refine lv_iload_n hx hb zd_PA_at_0 rfl (lv_at hl 0 rfl) ?_
    refine lv_if_ne (tgt := 12) hx hb zd_PA_at_1 rfl (fun _ => ?_) (fun hc9 => absurd hc9 (by decide))
    refine zx_wide (mc := 0) (ms := 0) (by omega) (by omega) ?_
    exact zx_vret F hS.2.2 zd_PA_at_12 ⟨rfl, rfl, rfl⟩
  | false =>
    refine lv_iload_n hx hb zd_PA_at_0 rfl (lv_at hl 0 rfl) ?_
    refine lv_if_ne (tgt := 12) hx hb zd_PA_at_1 rfl (fun hc9 => absurd hc9 (by decide)) (fun _ => ?_)
    exact zx_throw (cls := "java/lang/IndexOutOfBoundsException") (names := ["java/lang/RuntimeException", "java/lang/Exception"]) F hfl hT hZ hS (by decide +kernel) zx_names zx_in_1 zq_230 zq_8 zq_231 hK.2.2.1 hl.1 zd_PA_at_4 zd_PA_at_7 zd_PA_at_8 zd_PA_at_11 rfl ⟨by decide, by decide, by decide, by decide⟩ (fun H1 _ h2 h3 => ⟨rfl, h3, h2, Nat.le_refl _⟩)
set_option maxHeartbeats 4000000 in
set_option maxRecDepth 20000 in
theorem zc_PA_state (l : Launch) (G : xG) {H0 : Heap} {A : Nat → Prop} (b : Bool) (hfl : l.flags = flags0) : XM l G (rmz 8 120 1 6) zy_PA_state zb_PA_state 1 none [] H0 A [.int (bI b)] 1 6 (fun v H => v = none ∧ b = true ∧ H0 = H) (fun x H => b = false ∧ xE (gIS G) x H ∧ (∀ q : Nat, q < H0.size → H[q]? = H0[q]?) ∧ H0.size ≤ x) := by
  intro p e s m below meth c F hT hK hH hZ
  subst hH
  have hx := F.1
  have hb := F.2.1
  have hS : va_S A s.heap s.heap [] := va_S.rf
  have hl := lv_entry ([.int (bI b)]) (n := 1) (Nat.le_of_ble_eq_true rfl)
  rw [lg_entry_eq]
  generalize (lg_sl ([.int (bI b)]) ++ List.replicate (1 - (lg_sl ([.int (bI b)])).length) Slot.unset).toArray = ls at hl ⊢
  have hl : lv_has ls 1 [(0, .int (bI b))] := hl
  cases b with
  | true =>
    refine lv_iload_n hx hb zd_PA_state_0 rfl (lv_at hl 0 rfl) ?_
    refine lv_if_ne (tgt := 12) hx hb zd_PA_state_1 rfl (fun _ => ?_) (fun hc9 => absurd hc9 (by decide))
    refine zx_wide (mc := 0) (ms := 0) (by omega) (by omega) ?_
    exact zx_vret F hS.2.2 zd_PA_state_12 ⟨rfl, rfl, rfl⟩
  | false =>
    refine lv_iload_n hx hb zd_PA_state_0 rfl (lv_at hl 0 rfl) ?_
    refine lv_if_ne (tgt := 12) hx hb zd_PA_state_1 rfl (fun hc9 => absurd hc9 (by decide)) (fun _ => ?_)
    exact zx_throw (cls := "java/lang/IllegalStateException") (names := ["java/lang/RuntimeException", "java/lang/Exception"]) F hfl hT hZ hS (by decide +kernel) zx_names zx_in_2 zq_206 zq_12 zq_207 hK.2.1 hl.1 zd_PA_state_4 zd_PA_state_7 zd_PA_state_8 zd_PA_state_11 rfl ⟨by decide, by decide, by decide, by decide⟩ (fun H1 _ h2 h3 => ⟨rfl, h3, h2, Nat.le_refl _⟩)
end
section
/-! Array5: load, read, write(to, from, n, lasting), replace, rebuild, wrong -/
theorem zb_xor (a b : Int8) : ((a.toInt32 ^^^ b.toInt32).toInt8.toInt32).toInt8 = a ^^^ b := by
  rw [Int8.toInt8_toInt32]
  apply Int8.toBitVec_inj.mp
  simp
/-- the XOR of the blocks t of the disks below e, but for disk d -/
def xacc (D : Nat → Int8) (d t j : Nat) : Nat → Int8
  | 0 => 0
  | e + 1 => if e = d then xacc D d t j e else xacc D d t j e ^^^ D (atN e t + j)
/-- what 'load' gives -/
def ldv (sk : Nat) (nw : Bool) (rb : Nat) (D : Nat → Int8) (d t j : Nat) : Int8 := if thr sk nw rb d t = true then D (atN d t + j) else xacc D d t j 5
theorem zl_inner {D Y : Nat → Int8} {d t e k : Nat} (hne : ¬ e = d) (hY : ∀ j, j < 128 → Y j = if j < k then xacc D d t j (e + 1) else xacc D d t j e) (hk : k < 128) : ∀ j, j < 128 → ub Y k ((((Y k).toInt32 ^^^ (D (atN e t + k)).toInt32).toInt8.toInt32).toInt8) j = if j < k + 1 then xacc D d t j (e + 1) else xacc D d t j e := by
  intro j hj
  unfold ub
  by_cases h : j = k
  · subst h
    rw [if_pos rfl, zb_xor, if_pos (by omega), hY j hj, if_neg (by omega)]
    simp [xacc, hne]
  · rw [if_neg h, hY j hj]
    by_cases h2 : j < k
    · rw [if_pos h2, if_pos (by omega)]
    · rw [if_neg h2, if_neg (by omega)]
set_option maxHeartbeats 4000000 in
set_option maxRecDepth 20000 in
theorem zc_A5_load (l : Launch) (G : xG) {H0 : Heap} {A : Nat → Prop} (ar dk on pt rc pw sk rb : Nat) (nw la : Bool) (to d t : Nat) (D X : Nat → Int8) (wr : va_W) (hd : d < 5) (ht : t < 150) (hrb : rb < 2 ^ 31) (hP : va_P G.1 zcl ([(ar, eA5 dk on pt rc pw (sI sk) (nI rb) nw la), (dk, eB G 96680 D), (to, eB G 128 X)] ++ wr) H0) (hD : va_D A ([(ar, eA5 dk on pt rc pw (sI sk) (nI rb) nw la), (dk, eB G 96680 D), (to, eB G 128 X)] ++ wr)) : XM l G (rmz 9 200 0 0) zy_A5_load zb_A5_load 6 none [] H0 A [.ref ar, .int (nI d), .int (nI t), .ref to] 0 0 (fun v H => v = none ∧ ∃ Y : Nat → Int8, (∀ j, j < 128 → Y j = ldv sk nw rb D d t j) ∧ va_P G.1 zcl ([(ar, eA5 dk on pt rc pw (sI sk) (nI rb) nw la), (dk, eB G 96680 D), (to, eB G 128 Y)] ++ wr) H) (fun _ _ => False) := by
  intro p e s m below meth c F hT hK hH hZ
  subst hH
  have hx := F.1
  have hb := F.2.1
  have hS : va_S A s.heap s.heap [] := va_S.rf
  have hl := lv_entry ([.ref ar, .int (nI d), .int (nI t), .ref to]) (n := 6) (Nat.le_of_ble_eq_true rfl)
  rw [lg_entry_eq]
  generalize (lg_sl ([.ref ar, .int (nI d), .int (nI t), .ref to]) ++ List.replicate (6 - (lg_sl ([.ref ar, .int (nI d), .int (nI t), .ref to])).length) Slot.unset).toArray = ls at hl ⊢
  have hl : lv_has ls 6 [(0, .ref ar), (1, .int (nI d)), (2, .int (nI t)), (3, .ref to)] := hl
  refine lv_aload_n hx hb zd_A5_load_0 rfl (lv_at hl 0 rfl) ?_
  refine lv_iload_n hx hb zd_A5_load_1 rfl (lv_at hl 1 rfl) ?_
  refine lv_iload_n hx hb zd_A5_load_2 rfl (lv_at hl 2 rfl) ?_
  refine zk_V F hT hK hZ hS hl.1 hP 0 rfl rfl rfl (zc_A5_isThere l G ar dk on pt rc pw sk rb d t nw la _ hd (by omega) hrb hP) zl_A5_isThere (zY_A5_isThere hT) zq_259 zq_261 zs_2 zd_A5_load_3 rfl ⟨rfl, rfl, Nat.le_of_ble_eq_true rfl, Nat.le_of_ble_eq_true rfl, Nat.le_of_ble_eq_true rfl, Nat.le_of_ble_eq_true rfl⟩ (fun v H locs hv hS => ?_) (fun x H locs hv hS => hv.elim)
  obtain ⟨rfl, rfl⟩ := hv
  refine zw_app ?_
  refine lv_if_eq (tgt := 27) hx hb zd_A5_load_6 rfl (fun hc => ?_) (fun hc => ?_)
  · have hc : thr sk nw rb d t = false := bI_0.mp hc
    have inner : ∀ (e9 : Nat), e9 < 5 → ¬ e9 = d → (∀ (H : Heap) (locs : List Loc) (ls : Array Slot) (Y : Nat → Int8), (∀ j, j < 128 → Y j = xacc D d t j (e9 + 1)) → va_P G.1 zcl ([(ar, eA5 dk on pt rc pw (sI sk) (nI rb) nw la), (dk, eB G 96680 D), (to, eB G 128 Y)] ++ wr) H → va_S A s.heap H locs → lv_has ls 6 [(4, .int (nI e9)), (0, .ref ar), (1, .int (nI d)), (2, .int (nI t)), (3, .ref to)] → W p l e (rmz 9 200 0 0) s m ([.ref ar, .int (nI d), .int (nI t), .ref to] : List Value).toArray below meth c H locs 0 0 (xQ below s A 0 0 (fun v H => v = none ∧ ∃ Y : Nat → Int8, (∀ j, j < 128 → Y j = ldv sk nw rb D d t j) ∧ va_P G.1 zcl ([(ar, eA5 dk on pt rc pw (sI sk) (nI rb) nw la), (dk, eB G 96680 D), (to, eB G 128 Y)] ++ wr) H) (fun _ _ => False)) (F0 m 103 ls [])) → ∀ (n k : Nat), n + k = 128 → ∀ (H : Heap) (locs : List Loc) (ls : Array Slot) (Y : Nat → Int8), (∀ j, j < 128 → Y j = if j < k then xacc D d t j (e9 + 1) else xacc D d t j e9) → va_P G.1 zcl ([(ar, eA5 dk on pt rc pw (sI sk) (nI rb) nw la), (dk, eB G 96680 D), (to, eB G 128 Y)] ++ wr) H → va_S A s.heap H locs → lv_has ls 6 [(5, .int (nI k)), (4, .int (nI e9)), (0, .ref ar), (1, .int (nI d)), (2, .int (nI t)), (3, .ref to)] → W p l e (rmz 9 200 0 0) s m ([.ref ar, .int (nI d), .int (nI t), .ref to] : List Value).toArray below meth c H locs 0 0 (xQ below s A 0 0 (fun v H => v = none ∧ ∃ Y : Nat → Int8, (∀ j, j < 128 → Y j = ldv sk nw rb D d t j) ∧ va_P G.1 zcl ([(ar, eA5 dk on pt rc pw (sI sk) (nI rb) nw la), (dk, eB G 96680 D), (to, eB G 128 Y)] ++ wr) H) (fun _ _ => False)) (F0 m 67 ls []) := by
      intro e9 he hne kk n
      induction n with
      | zero =>
        intro k hk H locs ls Y hY hP hS hl
        obtain rfl : k = 128 := by omega
        refine lv_iload hx hb zd_A5_load_67 (lv_at hl 0 rfl) ?_
        refine lv_sipush (v := nI 128) hx hb zd_A5_load_69 (by decide) ?_
        refine lv_icmp_ge (tgt := 103) hx hb zd_A5_load_72 rfl (fun _ => ?_) (fun hc9 => absurd hc9 (fun h => h (Int32.le_refl _)))
        exact kk H locs ls Y (fun j hj => by rw [hY j hj, if_pos hj]) hP hS (lv_sub hl [1, 2, 3, 4, 5] rfl)
      | succ n ih =>
        intro k hk H locs ls Y hY hP hS hl
        have hD := zw_DP hD hP (by simp only [List.map_append, List.map_cons, List.map_nil])
        refine lv_iload hx hb zd_A5_load_67 (lv_at hl 0 rfl) ?_
        refine lv_sipush (v := nI 128) hx hb zd_A5_load_69 (by decide) ?_
        refine lv_icmp_ge (tgt := 103) hx hb zd_A5_load_72 rfl (fun hc9 => absurd hc9 (nI_ge (by omega) (by decide))) (fun _ => ?_)
        refine lv_aload_n hx hb zd_A5_load_75 rfl (lv_at hl 5 rfl) ?_
        refine lv_iload hx hb zd_A5_load_76 (lv_at hl 0 rfl) ?_
        refine lv_dup2_11 hx hb zd_A5_load_78 rfl rfl ?_
        refine zw_bald F hK hP 2 rfl k rfl (by omega) (by decide) zd_A5_load_79 ?_
        refine lv_aload_n hx hb zd_A5_load_80 rfl (lv_at hl 2 rfl) ?_
        refine zg_A5 F hT hK hP 0 rfl 0 (by decide) zq_54 rfl zd_A5_load_81 ?_
        refine lv_iload hx hb zd_A5_load_84 (lv_at hl 1 rfl) ?_
        refine lv_iload_n hx hb zd_A5_load_86 rfl (lv_at hl 4 rfl) ?_
        refine zk_S F hT hK hZ hS hl.1 (zc_A5_at l G e9 t) zl_A5_at (zY_A5_at hT) zq_263 zq_264 zq_3 zd_A5_load_87 rfl ⟨rfl, rfl, Nat.le_of_ble_eq_true rfl, Nat.le_of_ble_eq_true rfl, Nat.le_of_ble_eq_true rfl, Nat.le_of_ble_eq_true rfl⟩ (fun v H locs hv hS => ?_) (fun x H locs hv hS => hv.elim)
        obtain ⟨rfl, rfl⟩ := hv
        refine zw_app ?_
        refine lv_iload hx hb zd_A5_load_90 (lv_at hl 0 rfl) ?_
        refine lv_iadd hx hb zd_A5_load_92 ?_
        refine zw_bald F hK hP 1 rfl (atN e9 t + k) (nI_add _ _) (by unfold atN; omega) (by decide) zd_A5_load_93 ?_
        refine lv_ixor hx hb zd_A5_load_94 ?_
        refine lv_i2b hx hb zd_A5_load_95 rfl ?_
        refine zw_bast F hK hP hD hS 2 rfl k rfl (by omega) (by decide) zd_A5_load_96 (fun H locs hP hD hS => ?_)
        have hP : va_P G.1 zcl ([(_, _), (_, _), (_, _)] ++ wr) H := hP
        have hD : va_D A ([(_, _), (_, _), (_, _)] ++ wr) := hD
        refine lv_iinc (k := 0) hx hb zd_A5_load_97 hl rfl (zl_inc k) (by decide) rfl (fun ls hl => ?_)
        have hl : lv_has ls 6 [(5, _), (4, _), (0, _), (1, _), (2, _), (3, _)] := hl
        refine lv_goto (tgt := 67) hx hb zd_A5_load_100 rfl ?_
        exact ih (k + 1) (by omega) H locs ls _ (zl_inner hne hY (by omega)) hP hS hl
    have outer : ∀ (n e9 : Nat), n + e9 = 5 → ∀ (H : Heap) (locs : List Loc) (ls : Array Slot) (Y : Nat → Int8), (∀ j, j < 128 → Y j = xacc D d t j e9) → va_P G.1 zcl ([(ar, eA5 dk on pt rc pw (sI sk) (nI rb) nw la), (dk, eB G 96680 D), (to, eB G 128 Y)] ++ wr) H → va_S A s.heap H locs → lv_has ls 6 [(4, .int (nI e9)), (0, .ref ar), (1, .int (nI d)), (2, .int (nI t)), (3, .ref to)] → W p l e (rmz 9 200 0 0) s m ([.ref ar, .int (nI d), .int (nI t), .ref to] : List Value).toArray below meth c H locs 0 0 (xQ below s A 0 0 (fun v H => v = none ∧ ∃ Y : Nat → Int8, (∀ j, j < 128 → Y j = ldv sk nw rb D d t j) ∧ va_P G.1 zcl ([(ar, eA5 dk on pt rc pw (sI sk) (nI rb) nw la), (dk, eB G 96680 D), (to, eB G 128 Y)] ++ wr) H) (fun _ _ => False)) (F0 m 52 ls []) := by
      intro n
      induction n with
      | zero =>
        intro e9 he H locs ls Y hY hP hS hl
        obtain rfl : e9 = 5 := by omega
        refine lv_iload hx hb zd_A5_load_52 (lv_at hl 0 rfl) ?_
        refine lv_iconst (v := nI 5) hx hb zd_A5_load_54 (by decide) ?_
        refine lv_icmp_ge (tgt := 109) hx hb zd_A5_load_55 rfl (fun _ => ?_) (fun hc9 => absurd hc9 (fun h => h (Int32.le_refl _)))
        exact zx_vret F hS.2.2 zd_A5_load_109 ⟨rfl, Y, fun j hj => by unfold ldv; rw [if_neg (by rw [hc]; decide)]; exact hY j hj, hP⟩
      | succ n ih =>
        intro e9 he H locs ls Y hY hP hS hl
        have tail : ∀ (H : Heap) (locs : List Loc) (ls : Array Slot) (Y : Nat → Int8), (∀ j, j < 128 → Y j = xacc D d t j (e9 + 1)) → va_P G.1 zcl ([(ar, eA5 dk on pt rc pw (sI sk) (nI rb) nw la), (dk, eB G 96680 D), (to, eB G 128 Y)] ++ wr) H → va_S A s.heap H locs → lv_has ls 6 [(4, .int (nI e9)), (0, .ref ar), (1, .int (nI d)), (2, .int (nI t)), (3, .ref to)] → W p l e (rmz 9 200 0 0) s m ([.ref ar, .int (nI d), .int (nI t), .ref to] : List Value).toArray below meth c H locs 0 0 (xQ below s A 0 0 (fun v H => v = none ∧ ∃ Y : Nat → Int8, (∀ j, j < 128 → Y j = ldv sk nw rb D d t j) ∧ va_P G.1 zcl ([(ar, eA5 dk on pt rc pw (sI sk) (nI rb) nw la), (dk, eB G 96680 D), (to, eB G 128 Y)] ++ wr) H) (fun _ _ => False)) (F0 m 103 ls []) := by
          intro H locs ls Y hY hP hS hl
          refine lv_iinc (k := 0) hx hb zd_A5_load_103 hl rfl (zl_inc e9) (by decide) rfl (fun ls hl => ?_)
          have hl : lv_has ls 6 [(4, _), (0, _), (1, _), (2, _), (3, _)] := hl
          refine lv_goto (tgt := 52) hx hb zd_A5_load_106 rfl ?_
          exact ih (e9 + 1) (by omega) H locs ls Y hY hP hS hl
        refine lv_iload hx hb zd_A5_load_52 (lv_at hl 0 rfl) ?_
        refine lv_iconst (v := nI 5) hx hb zd_A5_load_54 (by decide) ?_
        refine lv_icmp_ge (tgt := 109) hx hb zd_A5_load_55 rfl (fun hc9 => absurd hc9 (nI_ge (by omega) (by decide))) (fun _ => ?_)
        refine lv_iload hx hb zd_A5_load_58 (lv_at hl 0 rfl) ?_
        refine lv_iload_n hx hb zd_A5_load_60 rfl (lv_at hl 2 rfl) ?_
        refine lv_icmp_eq (tgt := 103) hx hb zd_A5_load_61 rfl (fun hd9 => ?_) (fun hd9 => ?_)
        · have hd9 : e9 = d := (nI_eq (by omega) (by omega)).mp hd9
          exact tail H locs ls Y (fun j hj => by rw [hY j hj]; simp [xacc, hd9]) hP hS hl
        · have hd9 : ¬ e9 = d := fun h => hd9 ((nI_eq (by omega) (by omega)).mpr h)
          refine lv_iconst (v := 0) hx hb zd_A5_load_64 (by decide) ?_
          refine lv_istore hx hb zd_A5_load_65 hl (by decide) rfl (fun ls hl => ?_)
          have hl : lv_has ls 6 [(5, _), (4, _), (0, _), (1, _), (2, _), (3, _)] := hl
          exact inner e9 (by omega) hd9 tail 128 0 rfl H locs ls Y (fun j hj => by rw [hY j hj, if_neg (by omega)]) hP hS hl
    have zero : ∀ (n k : Nat), n + k = 128 → ∀ (H : Heap) (locs : List Loc) (ls : Array Slot) (Y : Nat → Int8), (∀ j, j < k → Y j = 0) → va_P G.1 zcl ([(ar, eA5 dk on pt rc pw (sI sk) (nI rb) nw la), (dk, eB G 96680 D), (to, eB G 128 Y)] ++ wr) H → va_S A s.heap H locs → lv_has ls 6 [(4, .int (nI k)), (0, .ref ar), (1, .int (nI d)), (2, .int (nI t)), (3, .ref to)] → W p l e (rmz 9 200 0 0) s m ([.ref ar, .int (nI d), .int (nI t), .ref to] : List Value).toArray below meth c H locs 0 0 (xQ below s A 0 0 (fun v H => v = none ∧ ∃ Y : Nat → Int8, (∀ j, j < 128 → Y j = ldv sk nw rb D d t j) ∧ va_P G.1 zcl ([(ar, eA5 dk on pt rc pw (sI sk) (nI rb) nw la), (dk, eB G 96680 D), (to, eB G 128 Y)] ++ wr) H) (fun _ _ => False)) (F0 m 30 ls []) := by
      intro n
      induction n with
      | zero =>
        intro k hk H locs ls Y hY hP hS hl
        obtain rfl : k = 128 := by omega
        refine lv_iload hx hb zd_A5_load_30 (lv_at hl 0 rfl) ?_
        refine lv_sipush (v := nI 128) hx hb zd_A5_load_32 (by decide) ?_
        refine lv_icmp_ge (tgt := 49) hx hb zd_A5_load_35 rfl (fun _ => ?_) (fun hc9 => absurd hc9 (fun h => h (Int32.le_refl _)))
        refine lv_iconst (v := 0) hx hb zd_A5_load_49 (by decide) ?_
        refine lv_istore hx hb zd_A5_load_50 hl (by decide) rfl (fun ls hl => ?_)
        have hl : lv_has ls 6 [(4, _), (0, _), (1, _), (2, _), (3, _)] := hl
        exact outer 5 0 rfl H locs ls Y (fun j hj => by rw [hY j hj]; rfl) hP hS hl
      | succ n ih =>
        intro k hk H locs ls Y hY hP hS hl
        have hD := zw_DP hD hP (by simp only [List.map_append, List.map_cons, List.map_nil])
        refine lv_iload hx hb zd_A5_load_30 (lv_at hl 0 rfl) ?_
        refine lv_sipush (v := nI 128) hx hb zd_A5_load_32 (by decide) ?_
        refine lv_icmp_ge (tgt := 49) hx hb zd_A5_load_35 rfl (fun hc9 => absurd hc9 (nI_ge (by omega) (by decide))) (fun _ => ?_)
        refine lv_aload_n hx hb zd_A5_load_38 rfl (lv_at hl 4 rfl) ?_
        refine lv_iload hx hb zd_A5_load_39 (lv_at hl 0 rfl) ?_
        refine lv_iconst (v := 0) hx hb zd_A5_load_41 (by decide) ?_
        refine zw_bast F hK hP hD hS 2 rfl k rfl (by omega) (by decide) zd_A5_load_42 (fun H locs hP hD hS => ?_)
        have hP : va_P G.1 zcl ([(_, _), (_, _), (_, _)] ++ wr) H := hP
        have hD : va_D A ([(_, _), (_, _), (_, _)] ++ wr) := hD
        refine lv_iinc (k := 0) hx hb zd_A5_load_43 hl rfl (zl_inc k) (by decide) rfl (fun ls hl => ?_)
        have hl : lv_has ls 6 [(4, _), (0, _), (1, _), (2, _), (3, _)] := hl
        refine lv_goto (tgt := 30) hx hb zd_A5_load_46 rfl ?_
        exact ih (k + 1) (by omega) H locs ls _ (fun j hj => by
          unfold ub
          by_cases h : j = k
          · rw [if_pos h]; rfl
          · rw [if_neg h]; exact hY j (by omega)) hP hS hl
    refine lv_iconst (v := 0) hx hb zd_A5_load_27 (by decide) ?_
    refine lv_istore hx hb zd_A5_load_28 hl (by decide) rfl (fun ls hl => ?_)
    have hl : lv_has ls 6 [(4, _), (0, _), (1, _), (2, _), (3, _)] := hl
    exact zero 128 0 rfl _ _ ls X (fun j hj => absurd hj (by omega)) hP hS hl
  · have hc : thr sk nw rb d t = true := by cases h : thr sk nw rb d t with | true => rfl | false => rw [h] at hc; exact absurd rfl hc
    refine lv_aload_n hx hb zd_A5_load_9 rfl (lv_at hl 0 rfl) ?_
    refine zg_A5 F hT hK hP 0 rfl 0 (by decide) zq_54 rfl zd_A5_load_10 ?_
    refine lv_iload_n hx hb zd_A5_load_13 rfl (lv_at hl 1 rfl) ?_
    refine lv_iload_n hx hb zd_A5_load_14 rfl (lv_at hl 2 rfl) ?_
    refine zk_S F hT hK hZ hS hl.1 (zc_A5_at l G d t) zl_A5_at (zY_A5_at hT) zq_263 zq_264 zq_3 zd_A5_load_15 rfl ⟨rfl, rfl, Nat.le_of_ble_eq_true rfl, Nat.le_of_ble_eq_true rfl, Nat.le_of_ble_eq_true rfl, Nat.le_of_ble_eq_true rfl⟩ (fun v H locs hv hS => ?_) (fun x H locs hv hS => hv.elim)
    obtain ⟨rfl, rfl⟩ := hv
    refine zw_app ?_
    refine lv_aload_n hx hb zd_A5_load_18 rfl (lv_at hl 3 rfl) ?_
    refine lv_iconst (v := 0) hx hb zd_A5_load_19 (by decide) ?_
    refine lv_sipush (v := nI 128) hx hb zd_A5_load_20 (by decide) ?_
    refine zw_copy F hT hK hP hD hS rfl 1 2 rfl rfl (atN d t) 0 128 rfl rfl rfl (by unfold atN; omega) (by omega) (by decide) (by decide) hl.1 (by decide) (by decide) zd_A5_load_23 (fun H locs hP hD hS => ?_)
    exact zx_vret F hS.2.2 zd_A5_load_26 ⟨rfl, _, fun j hj => by unfold ldv; rw [if_pos hc, pk_cpy_in (by omega) (by omega)]; rfl, hP⟩
set_option maxHeartbeats 4000000 in
set_option maxRecDepth 20000 in
theorem zc_A5_read (l : Launch) (G : xG) {H0 : Heap} {A : Nat → Prop} (ar dk on pt rc pw sk rb : Nat) (nw la : Bool) (to n : Nat) (D X : Nat → Int8) (wr : va_W) (hn : n < 600) (hrb : rb < 2 ^ 31) (hP : va_P G.1 zcl ([(ar, eA5 dk on pt rc pw (sI sk) (nI rb) nw la), (dk, eB G 96680 D), (to, eB G 128 X)] ++ wr) H0) (hD : va_D A ([(ar, eA5 dk on pt rc pw (sI sk) (nI rb) nw la), (dk, eB G 96680 D), (to, eB G 128 X)] ++ wr)) : XM l G (rmz 10 280 0 0) zy_A5_read zb_A5_read 3 none [] H0 A [.ref ar, .int (nI n), .ref to] 0 0 (fun v H => v = none ∧ ∃ Y : Nat → Int8, (∀ j, j < 128 → Y j = ldv sk nw rb D (dO (n / 4) (n % 4)) (n / 4) j) ∧ va_P G.1 zcl ([(ar, eA5 dk on pt rc pw (sI sk) (nI rb) nw la), (dk, eB G 96680 D), (to, eB G 128 Y)] ++ wr) H) (fun _ _ => False) := by
  intro p e s m below meth c F hT hK hH hZ
  subst hH
  have hx := F.1
  have hb := F.2.1
  have hS : va_S A s.heap s.heap [] := va_S.rf
  have hl := lv_entry ([.ref ar, .int (nI n), .ref to]) (n := 3) (Nat.le_of_ble_eq_true rfl)
  rw [lg_entry_eq]
  generalize (lg_sl ([.ref ar, .int (nI n), .ref to]) ++ List.replicate (3 - (lg_sl ([.ref ar, .int (nI n), .ref to])).length) Slot.unset).toArray = ls at hl ⊢
  have hl : lv_has ls 3 [(0, .ref ar), (1, .int (nI n)), (2, .ref to)] := hl
  refine lv_aload_n hx hb zd_A5_read_0 rfl (lv_at hl 0 rfl) ?_
  refine lv_iload_n hx hb zd_A5_read_1 rfl (lv_at hl 1 rfl) ?_
  refine lv_iconst (v := nI 4) hx hb zd_A5_read_2 (by decide) ?_
  refine lv_idiv hx hb zd_A5_read_3 (by decide) ?_
  rw [pk_div (by omega) (by decide) (by decide)]
  refine lv_iload_n hx hb zd_A5_read_4 rfl (lv_at hl 1 rfl) ?_
  refine lv_iconst (v := nI 3) hx hb zd_A5_read_5 (by decide) ?_
  refine lv_iand hx hb zd_A5_read_6 ?_
  rw [pk_andN (by omega) 2 (by decide)]
  refine zk_S F hT hK hZ hS hl.1 (zc_A5_diskOf l G (n / 4) (n % 2 ^ 2) (by omega) (by omega)) zl_A5_diskOf (zY_A5_diskOf hT) zq_249 zq_250 zq_3 zd_A5_read_7 rfl ⟨rfl, rfl, Nat.le_of_ble_eq_true rfl, Nat.le_of_ble_eq_true rfl, Nat.le_of_ble_eq_true rfl, Nat.le_of_ble_eq_true rfl⟩ (fun v H locs hv hS => ?_) (fun x H locs hv hS => hv.elim)
  obtain ⟨rfl, rfl⟩ := hv
  refine zw_app ?_
  refine lv_iload_n hx hb zd_A5_read_10 rfl (lv_at hl 1 rfl) ?_
  refine lv_iconst (v := nI 4) hx hb zd_A5_read_11 (by decide) ?_
  refine lv_idiv hx hb zd_A5_read_12 (by decide) ?_
  rw [pk_div (by omega) (by decide) (by decide)]
  refine lv_aload_n hx hb zd_A5_read_13 rfl (lv_at hl 2 rfl) ?_
  refine zk_V F hT hK hZ hS hl.1 hP 0 rfl rfl rfl (zc_A5_load l G ar dk on pt rc pw sk rb nw la to (dO (n / 4) (n % 2 ^ 2)) (n / 4) D X wr (by unfold dO; split <;> omega) (by omega) hrb hP hD) zl_A5_load (zY_A5_load hT) zq_255 zq_257 zs_1 zd_A5_read_14 rfl ⟨rfl, rfl, Nat.le_of_ble_eq_true rfl, Nat.le_of_ble_eq_true rfl, Nat.le_of_ble_eq_true rfl, Nat.le_of_ble_eq_true rfl⟩ (fun v H locs hv hS => ?_) (fun x H locs hv hS => hv.elim)
  obtain ⟨rfl, Y, hY, hP⟩ := hv
  refine zw_app0 ?_
  exact zx_vret F hS.2.2 zd_A5_read_17 ⟨rfl, Y, hY, hP⟩
end
section
/-! Array5: write(to, from, n, lasting), replace, rebuild, wrong -/
theorem zw_perm {D : va_G} {cl : List vw_C} {pre pre' wr : va_W} {H : Heap} (hP : va_P D cl (pre ++ wr) H) (is : List Nat) (hs : is.filterMap (fun i => pre[i]?) = pre') : va_P D cl (pre' ++ wr) H := by
  have h1 : va_P D cl pre H := fun k q hk => hP k q (by rw [List.getElem?_append_left (List.getElem?_eq_some_iff.mp hk).1]; exact hk)
  have h2 : va_P D cl wr H := fun k q hk => hP (pre.length + k) q (by rw [List.getElem?_append_right (by omega)]; simpa using hk)
  exact (h1.sub is hs).app h2
theorem zw_permD {A : Nat → Prop} {D : va_G} {cl : List vw_C} {pre pre' wr : va_W} {H : Heap} (hD : va_D A (pre ++ wr)) (_ : va_P D cl (pre' ++ wr) H) (is : List Nat) (hn : va_nd is = true) (hs : is.map (fun i => pre[i]?) = pre'.map some) : va_D A (pre' ++ wr) := by
  have l1 : ∀ (k : Nat) (q : Nat × va_E), pre[k]? = some q → (pre ++ wr)[k]? = some q := fun k q hk => by rw [List.getElem?_append_left (List.getElem?_eq_some_iff.mp hk).1]; exact hk
  have l2 : ∀ (k : Nat) (q : Nat × va_E), wr[k]? = some q → (pre ++ wr)[pre.length + k]? = some q := fun k q hk => by rw [List.getElem?_append_right (by omega)]; simpa using hk
  have h1 : va_D A pre := ⟨fun i j x y hi hj e => hD.1 i j x y (l1 i x hi) (l1 j y hj) e, fun k q hk => hD.2 k q (l1 k q hk)⟩
  have h2 : va_D A wr := ⟨fun i j x y hi hj e => by have := hD.1 _ _ x y (l2 i x hi) (l2 j y hj) e; omega, fun k q hk => hD.2 _ q (l2 k q hk)⟩
  refine va_D.app (h1.sub is hn hs) h2 (fun i j x y hx hy e => ?_)
  have h3 : (is.map (fun i => pre[i]?))[i]? = some (some x) := by rw [hs, List.getElem?_map, hx]; rfl
  rw [List.getElem?_map] at h3
  cases hi : is[i]? with
  | none => rw [hi] at h3; cases h3
  | some i0 =>
    rw [hi] at h3
    have h4 : pre[i0]? = some x := Option.some.inj h3
    have := hD.1 _ _ x y (l1 i0 x h4) (l2 j y hy) e
    have h5 := (List.getElem?_eq_some_iff.mp h4).1
    omega
set_option maxHeartbeats 4000000 in
set_option maxRecDepth 20000 in
theorem zc_A5_write4 (l : Launch) (G : xG) {H0 : Heap} {A : Nat → Prop} (ar dk on pt rc pw sk rb : Nat) (nw la : Bool) (fr nF p0 n0 b : Nat) (wn lf : Int32) (am bh : Bool) (D X : Nat → Int8) (wr : va_W) (hfl : l.flags = flags0) (h1 : ¬ wn = 1) (h2 : ¬ wn = 2) (hp : p0 + n0 ≤ 96680) (hn : n0 ≤ nF) (hF : nF < 2 ^ 31) (hb0 : b < 2 ^ 31) (hP : va_P G.1 zcl ([(ar, eA5 dk on pt rc pw (sI sk) (nI rb) nw la), (pw, ePw wn lf (nI b) am bh), (dk, eB G 96680 D), (fr, eB G nF X)] ++ wr) H0) (hD : va_D A ([(ar, eA5 dk on pt rc pw (sI sk) (nI rb) nw la), (pw, ePw wn lf (nI b) am bh), (dk, eB G 96680 D), (fr, eB G nF X)] ++ wr)) : XM l G (rmz 9 200 1 6) zy_A5_write4 zb_A5_write4 6 none [] H0 A [.ref ar, .int (nI p0), .ref fr, .int (nI n0), .int 0] 1 6 (fun v H => v = none ∧ ¬ (am = true ∧ lf = 0) ∧ va_P G.1 zcl ([(ar, eA5 dk on pt rc pw (sI sk) (nI rb) nw la), (pw, ePw wn (if am = true then lf - 1 else lf) (nI b) am bh), (dk, eB G 96680 (va_cpy X D 0 p0 n0)), (fr, eB G nF X)] ++ wr) H) (fun x H => (am = true ∧ lf = 0) ∧ xE (gAr G) x H ∧ va_P G.1 zcl ([(ar, eA5 dk on pt rc pw (sI sk) (nI rb) nw la), (pw, ePw wn (if am = true then lf - 1 else lf) (nI b) am bh), (dk, eB G 96680 (va_cpy X D 0 p0 (min b n0))), (fr, eB G nF X)] ++ wr) H) := by
  intro p e s m below meth c F hT hK hH hZ
  subst hH
  have hx := F.1
  have hb := F.2.1
  have hS : va_S A s.heap s.heap [] := va_S.rf
  have hl := lv_entry ([.ref ar, .int (nI p0), .ref fr, .int (nI n0), .int 0]) (n := 6) (Nat.le_of_ble_eq_true rfl)
  rw [lg_entry_eq]
  generalize (lg_sl ([.ref ar, .int (nI p0), .ref fr, .int (nI n0), .int 0]) ++ List.replicate (6 - (lg_sl ([.ref ar, .int (nI p0), .ref fr, .int (nI n0), .int 0])).length) Slot.unset).toArray = ls at hl ⊢
  have hl : lv_has ls 6 [(0, .ref ar), (1, .int (nI p0)), (2, .ref fr), (3, .int (nI n0)), (4, .int 0)] := hl
  have hP9 := zw_perm hP [1, 0, 2, 3] rfl
  have hP9 : va_P G.1 zcl ([(_, _), (_, _), (_, _), (_, _)] ++ wr) s.heap := hP9
  have hD := zw_permD hD hP9 [1, 0, 2, 3] (by decide) rfl
  have hP := hP9
  refine lv_aload_n hx hb zd_A5_write4_0 rfl (lv_at hl 0 rfl) ?_
  refine zg_A5 F hT hK hP 1 rfl 4 (by decide) zq_58 rfl zd_A5_write4_1 ?_
  refine lv_iload hx hb zd_A5_write4_4 (lv_at hl 4 rfl) ?_
  refine zk_V F hT hK hZ hS hl.1 hP 0 rfl rfl rfl (zc_Pw_write l G pw wn lf (nI b) am bh _ hP hD h1 h2) zl_Pw_write (zY_Pw_write hT) zq_281 zq_282 zq_283 zd_A5_write4_6 rfl ⟨rfl, rfl, Nat.le_of_ble_eq_true rfl, Nat.le_of_ble_eq_true rfl, Nat.le_of_ble_eq_true rfl, Nat.le_of_ble_eq_true rfl⟩ (fun v H locs hv hS => ?_) (fun x H locs hv hS => hv.elim)
  obtain ⟨rfl, hP⟩ := hv
  refine zw_app ?_
  have hP : va_P G.1 zcl ([(_, _), (_, _), (_, _), (_, _)] ++ wr) H := hP
  have hD := zw_DP hD hP (by simp only [List.map_append, List.map_cons, List.map_nil])
  have hP9 := zw_perm hP [1, 0, 2, 3] rfl
  have hP9 : va_P G.1 zcl ([(_, _), (_, _), (_, _), (_, _)] ++ wr) H := hP9
  have hD := zw_permD hD hP9 [1, 0, 2, 3] (by decide) rfl
  have hP := hP9
  by_cases hcut : am = true ∧ lf = 0
  · rw [if_pos hcut]
    refine lv_istore hx hb zd_A5_write4_9 hl (by decide) rfl (fun ls hl => ?_)
    have hl : lv_has ls 6 [(5, _), (0, _), (1, _), (2, _), (3, _), (4, _)] := hl
    refine lv_aload_n hx hb zd_A5_write4_11 rfl (lv_at hl 3 rfl) ?_
    refine lv_iconst (v := nI 0) hx hb zd_A5_write4_12 (by decide) ?_
    refine lv_aload_n hx hb zd_A5_write4_13 rfl (lv_at hl 1 rfl) ?_
    refine zg_A5 F hT hK hP 0 rfl 0 (by decide) zq_54 rfl zd_A5_write4_14 ?_
    refine lv_iload_n hx hb zd_A5_write4_17 rfl (lv_at hl 2 rfl) ?_
    refine lv_iload hx hb zd_A5_write4_18 (lv_at hl 0 rfl) ?_
    refine lv_if_lt (tgt := 29) hx hb zd_A5_write4_20 rfl (fun hc9 => absurd hc9 (nI_pos hb0)) (fun _ => ?_)
    refine lv_iload hx hb zd_A5_write4_23 (lv_at hl 0 rfl) ?_
    refine lv_iload_n hx hb zd_A5_write4_25 rfl (lv_at hl 4 rfl) ?_
    refine lv_icmp_le (tgt := 33) hx hb zd_A5_write4_26 rfl (fun hbn => ?_) (fun hbn => ?_)
    · have hbn : b ≤ n0 := (nI_leI (by omega) (by omega)).mp hbn
      refine lv_iload hx hb zd_A5_write4_33 (lv_at hl 0 rfl) ?_
      refine zw_copy F hT hK hP hD hS rfl 3 2 rfl rfl 0 p0 (b) rfl rfl rfl (by omega) (by omega) (by omega) (by decide) hl.1 (by decide) (by decide) zd_A5_write4_35 (fun H locs hP hD hS => ?_)
      have hP : va_P G.1 zcl ([(_, _), (_, _), (_, _), (_, _)] ++ wr) H := hP
      have hD : va_D A ([(_, _), (_, _), (_, _), (_, _)] ++ wr) := hD
      refine lv_iload hx hb zd_A5_write4_38 (lv_at hl 5 rfl) ?_
      refine lv_if_eq (tgt := 59) hx hb zd_A5_write4_40 rfl (fun _ => ?_) (fun hc9 => absurd hc9 (by decide))
      refine lv_iload hx hb zd_A5_write4_59 (lv_at hl 0 rfl) ?_
      refine lv_if_lt (tgt := 72) hx hb zd_A5_write4_61 rfl (fun hc9 => absurd hc9 (nI_pos hb0)) (fun _ => ?_)
      exact zx_throw (cls := "java/lang/ArithmeticException") (names := ["java/lang/RuntimeException", "java/lang/Exception"]) F hfl hT hZ hS (by decide +kernel) zx_names zx_in_5 zq_285 zq_11 zq_181 hK.2.2.2.1 hl.1 zd_A5_write4_64 zd_A5_write4_67 zd_A5_write4_68 zd_A5_write4_71 rfl ⟨by decide, by decide, by decide, by decide⟩ (fun H1 _ hk he => ⟨hcut, he, by rw [show min b n0 = b by omega]; exact zw_kept hP hk⟩)
    · have hbn : ¬ b ≤ n0 := fun h => hbn ((nI_leI (by omega) (by omega)).mpr h)
      refine lv_iload_n hx hb zd_A5_write4_29 rfl (lv_at hl 4 rfl) ?_
      refine lv_goto (tgt := 35) hx hb zd_A5_write4_30 rfl ?_
      refine zw_copy F hT hK hP hD hS rfl 3 2 rfl rfl 0 p0 (n0) rfl rfl rfl (by omega) (by omega) (by omega) (by decide) hl.1 (by decide) (by decide) zd_A5_write4_35 (fun H locs hP hD hS => ?_)
      have hP : va_P G.1 zcl ([(_, _), (_, _), (_, _), (_, _)] ++ wr) H := hP
      have hD : va_D A ([(_, _), (_, _), (_, _), (_, _)] ++ wr) := hD
      refine lv_iload hx hb zd_A5_write4_38 (lv_at hl 5 rfl) ?_
      refine lv_if_eq (tgt := 59) hx hb zd_A5_write4_40 rfl (fun _ => ?_) (fun hc9 => absurd hc9 (by decide))
      refine lv_iload hx hb zd_A5_write4_59 (lv_at hl 0 rfl) ?_
      refine lv_if_lt (tgt := 72) hx hb zd_A5_write4_61 rfl (fun hc9 => absurd hc9 (nI_pos hb0)) (fun _ => ?_)
      exact zx_throw (cls := "java/lang/ArithmeticException") (names := ["java/lang/RuntimeException", "java/lang/Exception"]) F hfl hT hZ hS (by decide +kernel) zx_names zx_in_5 zq_285 zq_11 zq_181 hK.2.2.2.1 hl.1 zd_A5_write4_64 zd_A5_write4_67 zd_A5_write4_68 zd_A5_write4_71 rfl ⟨by decide, by decide, by decide, by decide⟩ (fun H1 _ hk he => ⟨hcut, he, by rw [show min b n0 = n0 by omega]; exact zw_kept hP hk⟩)
  · rw [if_neg hcut]
    refine lv_istore hx hb zd_A5_write4_9 hl (by decide) rfl (fun ls hl => ?_)
    have hl : lv_has ls 6 [(5, _), (0, _), (1, _), (2, _), (3, _), (4, _)] := hl
    refine lv_aload_n hx hb zd_A5_write4_11 rfl (lv_at hl 3 rfl) ?_
    refine lv_iconst (v := nI 0) hx hb zd_A5_write4_12 (by decide) ?_
    refine lv_aload_n hx hb zd_A5_write4_13 rfl (lv_at hl 1 rfl) ?_
    refine zg_A5 F hT hK hP 0 rfl 0 (by decide) zq_54 rfl zd_A5_write4_14 ?_
    refine lv_iload_n hx hb zd_A5_write4_17 rfl (lv_at hl 2 rfl) ?_
    refine lv_iload hx hb zd_A5_write4_18 (lv_at hl 0 rfl) ?_
    refine lv_if_lt (tgt := 29) hx hb zd_A5_write4_20 rfl (fun _ => ?_) (fun hc9 => absurd hc9 (fun h => h (by decide)))
    refine lv_iload_n hx hb zd_A5_write4_29 rfl (lv_at hl 4 rfl) ?_
    refine lv_goto (tgt := 35) hx hb zd_A5_write4_30 rfl ?_
    refine zw_copy F hT hK hP hD hS rfl 3 2 rfl rfl 0 p0 (n0) rfl rfl rfl (by omega) (by omega) (by omega) (by decide) hl.1 (by decide) (by decide) zd_A5_write4_35 (fun H locs hP hD hS => ?_)
    have hP : va_P G.1 zcl ([(_, _), (_, _), (_, _), (_, _)] ++ wr) H := hP
    have hD : va_D A ([(_, _), (_, _), (_, _), (_, _)] ++ wr) := hD
    refine lv_iload hx hb zd_A5_write4_38 (lv_at hl 5 rfl) ?_
    refine lv_if_eq (tgt := 59) hx hb zd_A5_write4_40 rfl (fun _ => ?_) (fun hc9 => absurd hc9 (by decide))
    refine lv_iload hx hb zd_A5_write4_59 (lv_at hl 0 rfl) ?_
    refine lv_if_lt (tgt := 72) hx hb zd_A5_write4_61 rfl (fun _ => ?_) (fun hc9 => absurd hc9 (fun h => h (by decide)))
    refine W.widen (k := 1) (n := 6) (by omega) (by omega) ?_
    exact zx_vret F hS.2.2 zd_A5_write4_72 ⟨rfl, hcut, hP⟩
theorem sI_lt {sk : Nat} (h : sk < 5) : sI sk = nI sk := if_pos h
set_option maxHeartbeats 4000000 in
set_option maxRecDepth 20000 in
theorem zc_A5_replace (l : Launch) (G : xG) {H0 : Heap} {A : Nat → Prop} (ar dk on pt rc pw sk rb : Nat) (nw la : Bool) (D : Nat → Int8) (wr : va_W) (hsk : sk < 5) (hP : va_P G.1 zcl ([(ar, eA5 dk on pt rc pw (sI sk) (nI rb) nw la), (dk, eB G 96680 D)] ++ wr) H0) (hD : va_D A ([(ar, eA5 dk on pt rc pw (sI sk) (nI rb) nw la), (dk, eB G 96680 D)] ++ wr)) : XM l G (rmz 10 280 0 0) zy_A5_replace zb_A5_replace 2 none [] H0 A [.ref ar] 0 0 (fun v H => v = none ∧ ∃ Y : Nat → Int8, (∀ j, j < 19336 → Y (19336 * sk + j) = 0) ∧ (∀ i, (i < 19336 * sk ∨ 19336 * sk + 19336 ≤ i) → Y i = D i) ∧ va_P G.1 zcl ([(ar, eA5 dk on pt rc pw (sI sk) (nI 0) true la), (dk, eB G 96680 Y)] ++ wr) H) (fun _ _ => False) := by
  intro p e s m below meth c F hT hK hH hZ
  subst hH
  have hx := F.1
  have hb := F.2.1
  have hS : va_S A s.heap s.heap [] := va_S.rf
  have hl := lv_entry ([.ref ar]) (n := 2) (Nat.le_of_ble_eq_true rfl)
  rw [lg_entry_eq]
  generalize (lg_sl ([.ref ar]) ++ List.replicate (2 - (lg_sl ([.ref ar])).length) Slot.unset).toArray = ls at hl ⊢
  have hl : lv_has ls 2 [(0, .ref ar)] := hl
  have loop : ∀ (n k : Nat), n + k = 19336 → ∀ (H : Heap) (locs : List Loc) (ls : Array Slot) (Y : Nat → Int8), (∀ j, j < k → Y (19336 * sk + j) = 0) → (∀ i, (i < 19336 * sk ∨ 19336 * sk + k ≤ i) → Y i = D i) → va_P G.1 zcl ([(ar, eA5 dk on pt rc pw (sI sk) (nI rb) nw la), (dk, eB G 96680 Y)] ++ wr) H → va_S A s.heap H locs → lv_has ls 2 [(1, .int (nI (19336 * sk + k))), (0, .ref ar)] → W p l e (rmz 10 280 0 0) s m ([.ref ar] : List Value).toArray below meth c H locs 0 0 (xQ below s A 0 0 (fun v H => v = none ∧ ∃ Y : Nat → Int8, (∀ j, j < 19336 → Y (19336 * sk + j) = 0) ∧ (∀ i, (i < 19336 * sk ∨ 19336 * sk + 19336 ≤ i) → Y i = D i) ∧ va_P G.1 zcl ([(ar, eA5 dk on pt rc pw (sI sk) (nI 0) true la), (dk, eB G 96680 Y)] ++ wr) H) (fun _ _ => False)) (F0 m 13 ls []) := by
    intro n
    induction n with
    | zero =>
      intro k hk H locs ls Y h1 h2 hP hS hl
      obtain rfl : k = 19336 := by omega
      have hD := zw_DP hD hP (by simp only [List.map_append, List.map_cons, List.map_nil])
      refine lv_iload_n hx hb zd_A5_replace_13 rfl (lv_at hl 0 rfl) ?_
      refine lv_aload_n hx hb zd_A5_replace_14 rfl (lv_at hl 1 rfl) ?_
      refine zg_A5 F hT hK hP 0 rfl 5 (by decide) zq_59 rfl zd_A5_replace_15 ?_
      refine zw_ti (nI sk) (sI_lt hsk) ?_
      refine lv_iconst (v := nI 0) hx hb zd_A5_replace_18 (by decide) ?_
      refine zk_S F hT hK hZ hS hl.1 (zc_A5_at l G sk 0) zl_A5_at (zY_A5_at hT) zq_263 zq_264 zq_3 zd_A5_replace_19 rfl ⟨rfl, rfl, Nat.le_of_ble_eq_true rfl, Nat.le_of_ble_eq_true rfl, Nat.le_of_ble_eq_true rfl, Nat.le_of_ble_eq_true rfl⟩ (fun v H locs hv hS => ?_) (fun x H locs hv hS => hv.elim)
      obtain ⟨rfl, rfl⟩ := hv
      refine zw_app ?_
      refine lv_sipush (v := nI 19200) hx hb zd_A5_replace_22 (by decide) ?_
      refine lv_iadd hx hb zd_A5_replace_25 ?_
      refine zw_ti (nI (19336 * sk + 19336)) (by rw [nI_add]; congr 1; unfold atN; omega) ?_
      refine lv_icmp_ge (tgt := 42) hx hb zd_A5_replace_26 rfl (fun _ => ?_) (fun hc9 => absurd hc9 (fun h => h (Int32.le_refl _)))
      refine lv_aload_n hx hb zd_A5_replace_42 rfl (lv_at hl 1 rfl) ?_
      refine lv_iconst (v := 1) hx hb zd_A5_replace_43 (by decide) ?_
      refine zp_A5 F hT hK hP hD hS 0 rfl 7 (by decide) zq_63 rfl rfl rfl (Nat.le_of_ble_eq_true rfl) zd_A5_replace_44 (fun H locs hP hD hS => ?_)
      have hP : va_P G.1 zcl ([(_, .inr (2, [_, _, _, _, _, _, _, _, _])), (_, _)] ++ wr) H := hP
      have hD : va_D A ([(_, .inr (2, [_, _, _, _, _, _, _, _, _])), (_, _)] ++ wr) := hD
      refine lv_aload_n hx hb zd_A5_replace_47 rfl (lv_at hl 1 rfl) ?_
      refine lv_iconst (v := 0) hx hb zd_A5_replace_48 (by decide) ?_
      refine zp_A5 F hT hK hP hD hS 0 rfl 6 (by decide) zq_61 rfl rfl rfl (Nat.le_of_ble_eq_true rfl) zd_A5_replace_49 (fun H locs hP hD hS => ?_)
      have hP : va_P G.1 zcl ([(_, .inr (2, [_, _, _, _, _, _, _, _, _])), (_, _)] ++ wr) H := hP
      have hD : va_D A ([(_, .inr (2, [_, _, _, _, _, _, _, _, _])), (_, _)] ++ wr) := hD
      exact zx_vret F hS.2.2 zd_A5_replace_52 ⟨rfl, Y, h1, h2, hP⟩
    | succ n ih =>
      intro k hk H locs ls Y h1 h2 hP hS hl
      have hD := zw_DP hD hP (by simp only [List.map_append, List.map_cons, List.map_nil])
      refine lv_iload_n hx hb zd_A5_replace_13 rfl (lv_at hl 0 rfl) ?_
      refine lv_aload_n hx hb zd_A5_replace_14 rfl (lv_at hl 1 rfl) ?_
      refine zg_A5 F hT hK hP 0 rfl 5 (by decide) zq_59 rfl zd_A5_replace_15 ?_
      refine zw_ti (nI sk) (sI_lt hsk) ?_
      refine lv_iconst (v := nI 0) hx hb zd_A5_replace_18 (by decide) ?_
      refine zk_S F hT hK hZ hS hl.1 (zc_A5_at l G sk 0) zl_A5_at (zY_A5_at hT) zq_263 zq_264 zq_3 zd_A5_replace_19 rfl ⟨rfl, rfl, Nat.le_of_ble_eq_true rfl, Nat.le_of_ble_eq_true rfl, Nat.le_of_ble_eq_true rfl, Nat.le_of_ble_eq_true rfl⟩ (fun v H locs hv hS => ?_) (fun x H locs hv hS => hv.elim)
      obtain ⟨rfl, rfl⟩ := hv
      refine zw_app ?_
      refine lv_sipush (v := nI 19200) hx hb zd_A5_replace_22 (by decide) ?_
      refine lv_iadd hx hb zd_A5_replace_25 ?_
      refine zw_ti (nI (19336 * sk + 19336)) (by rw [nI_add]; congr 1; unfold atN; omega) ?_
      refine lv_icmp_ge (tgt := 42) hx hb zd_A5_replace_26 rfl (fun hc9 => absurd hc9 (nI_ge (by omega) (by omega))) (fun _ => ?_)
      refine lv_aload_n hx hb zd_A5_replace_29 rfl (lv_at hl 1 rfl) ?_
      refine zg_A5 F hT hK hP 0 rfl 0 (by decide) zq_54 rfl zd_A5_replace_30 ?_
      refine lv_iload_n hx hb zd_A5_replace_33 rfl (lv_at hl 0 rfl) ?_
      refine lv_iconst (v := 0) hx hb zd_A5_replace_34 (by decide) ?_
      refine zw_bast F hK hP hD hS 1 rfl (19336 * sk + k) rfl (by omega) (by decide) zd_A5_replace_35 (fun H locs hP hD hS => ?_)
      have hP : va_P G.1 zcl ([(_, _), (_, _)] ++ wr) H := hP
      have hD : va_D A ([(_, _), (_, _)] ++ wr) := hD
      refine lv_iinc (k := 0) hx hb zd_A5_replace_36 hl rfl (zl_inc _) (by decide) rfl (fun ls hl => ?_)
      have hl : lv_has ls 2 [(1, _), (0, _)] := hl
      refine lv_goto (tgt := 13) hx hb zd_A5_replace_39 rfl ?_
      exact ih (k + 1) (by omega) H locs ls _ (fun j hj => by
        unfold ub
        by_cases h : j = k
        · rw [if_pos (by omega)]; rfl
        · rw [if_neg (by omega)]; exact h1 j (by omega)) (fun i hi => by
        unfold ub
        rw [if_neg (by omega)]; exact h2 i (by omega)) hP hS hl
  refine lv_aload_n hx hb zd_A5_replace_0 rfl (lv_at hl 0 rfl) ?_
  refine zg_A5 F hT hK hP 0 rfl 5 (by decide) zq_59 rfl zd_A5_replace_1 ?_
  refine zw_ti (nI sk) (sI_lt hsk) ?_
  refine lv_iconst (v := nI 0) hx hb zd_A5_replace_4 (by decide) ?_
  refine zk_S F hT hK hZ hS hl.1 (zc_A5_at l G sk 0) zl_A5_at (zY_A5_at hT) zq_263 zq_264 zq_3 zd_A5_replace_5 rfl ⟨rfl, rfl, Nat.le_of_ble_eq_true rfl, Nat.le_of_ble_eq_true rfl, Nat.le_of_ble_eq_true rfl, Nat.le_of_ble_eq_true rfl⟩ (fun v H locs hv hS => ?_) (fun x H locs hv hS => hv.elim)
  obtain ⟨rfl, rfl⟩ := hv
  refine zw_app ?_
  refine lv_sipush (v := nI 136) hx hb zd_A5_replace_8 (by decide) ?_
  refine lv_isub hx hb zd_A5_replace_11 ?_
  refine zw_ti (nI (19336 * sk + 0)) (by rw [pk_sub (by unfold atN; omega)]; congr 1; unfold atN; omega) ?_
  refine lv_istore_n hx hb zd_A5_replace_12 rfl hl (by decide) rfl (fun ls hl => ?_)
  have hl : lv_has ls 2 [(1, _), (0, _)] := hl
  exact loop 19336 0 rfl _ _ ls D (fun j hj => absurd hj (by omega)) (fun i _ => rfl) hP hS hl
set_option maxHeartbeats 4000000 in
set_option maxRecDepth 20000 in
theorem zc_A5_rebuild (l : Launch) (G : xG) {H0 : Heap} {A : Nat → Prop} (ar dk on pt rc pw sk rb : Nat) (la : Bool) (D X : Nat → Int8) (wr : va_W) (hsk : sk < 5) (hrb : rb < 150) (hP : va_P G.1 zcl ([(ar, eA5 dk on pt rc pw (sI sk) (nI rb) true la), (dk, eB G 96680 D), (on, eB G 128 X)] ++ wr) H0) (hD : va_D A ([(ar, eA5 dk on pt rc pw (sI sk) (nI rb) true la), (dk, eB G 96680 D), (on, eB G 128 X)] ++ wr)) : XM l G (rmz 10 280 0 0) zy_A5_rebuild zb_A5_rebuild 1 (some FieldType.int) [] H0 A [.ref ar] 0 0 (fun v H => v = some (.int (nI (149 - rb))) ∧ ∃ Y : Nat → Int8, (∀ j, j < 128 → Y j = xacc D sk rb j 5) ∧ va_P G.1 zcl ([(ar, eA5 dk on pt rc pw (sI (if rb + 1 < 150 then sk else 5)) (nI (if rb + 1 < 150 then rb + 1 else 0)) (decide (rb + 1 < 150)) la), (dk, eB G 96680 (va_cpy Y D 0 (atN sk rb) 128)), (on, eB G 128 Y)] ++ wr) H) (fun _ _ => False) := by
  intro p e s m below meth c F hT hK hH hZ
  subst hH
  have hx := F.1
  have hb := F.2.1
  have hS : va_S A s.heap s.heap [] := va_S.rf
  have hl := lv_entry ([.ref ar]) (n := 1) (Nat.le_of_ble_eq_true rfl)
  rw [lg_entry_eq]
  generalize (lg_sl ([.ref ar]) ++ List.replicate (1 - (lg_sl ([.ref ar])).length) Slot.unset).toArray = ls at hl ⊢
  have hl : lv_has ls 1 [(0, .ref ar)] := hl
  refine lv_aload_n hx hb zd_A5_rebuild_0 rfl (lv_at hl 0 rfl) ?_
  refine lv_aload_n hx hb zd_A5_rebuild_1 rfl (lv_at hl 0 rfl) ?_
  refine zg_A5 F hT hK hP 0 rfl 5 (by decide) zq_59 rfl zd_A5_rebuild_2 ?_
  refine zw_ti (nI sk) (sI_lt hsk) ?_
  refine lv_aload_n hx hb zd_A5_rebuild_5 rfl (lv_at hl 0 rfl) ?_
  refine zg_A5 F hT hK hP 0 rfl 6 (by decide) zq_61 rfl zd_A5_rebuild_6 ?_
  refine lv_aload_n hx hb zd_A5_rebuild_9 rfl (lv_at hl 0 rfl) ?_
  refine zg_A5 F hT hK hP 0 rfl 1 (by decide) zq_55 rfl zd_A5_rebuild_10 ?_
  refine zk_V F hT hK hZ hS hl.1 hP 0 rfl rfl rfl (zc_A5_load l G ar dk on pt rc pw sk rb true la on sk rb D X wr hsk hrb (by omega) hP hD) zl_A5_load (zY_A5_load hT) zq_255 zq_257 zs_1 zd_A5_rebuild_13 rfl ⟨rfl, rfl, Nat.le_of_ble_eq_true rfl, Nat.le_of_ble_eq_true rfl, Nat.le_of_ble_eq_true rfl, Nat.le_of_ble_eq_true rfl⟩ (fun v H locs hv hS => ?_) (fun x H locs hv hS => hv.elim)
  obtain ⟨rfl, Y, hY, hP⟩ := hv
  refine zw_app0 ?_
  have hY : ∀ j, j < 128 → Y j = xacc D sk rb j 5 := fun j hj => by rw [hY j hj]; unfold ldv; rw [if_neg (by simp [thr])]
  have hP : va_P G.1 zcl ([(_, _), (_, _), (_, _)] ++ wr) H := hP
  have hD := zw_DP hD hP (by simp only [List.map_append, List.map_cons, List.map_nil])
  refine lv_aload_n hx hb zd_A5_rebuild_16 rfl (lv_at hl 0 rfl) ?_
  refine zg_A5 F hT hK hP 0 rfl 1 (by decide) zq_55 rfl zd_A5_rebuild_17 ?_
  refine lv_iconst (v := nI 0) hx hb zd_A5_rebuild_20 (by decide) ?_
  refine lv_aload_n hx hb zd_A5_rebuild_21 rfl (lv_at hl 0 rfl) ?_
  refine zg_A5 F hT hK hP 0 rfl 0 (by decide) zq_54 rfl zd_A5_rebuild_22 ?_
  refine lv_aload_n hx hb zd_A5_rebuild_25 rfl (lv_at hl 0 rfl) ?_
  refine zg_A5 F hT hK hP 0 rfl 5 (by decide) zq_59 rfl zd_A5_rebuild_26 ?_
  refine zw_ti (nI sk) (sI_lt hsk) ?_
  refine lv_aload_n hx hb zd_A5_rebuild_29 rfl (lv_at hl 0 rfl) ?_
  refine zg_A5 F hT hK hP 0 rfl 6 (by decide) zq_61 rfl zd_A5_rebuild_30 ?_
  refine zk_S F hT hK hZ hS hl.1 (zc_A5_at l G sk rb) zl_A5_at (zY_A5_at hT) zq_263 zq_264 zq_3 zd_A5_rebuild_33 rfl ⟨rfl, rfl, Nat.le_of_ble_eq_true rfl, Nat.le_of_ble_eq_true rfl, Nat.le_of_ble_eq_true rfl, Nat.le_of_ble_eq_true rfl⟩ (fun v H locs hv hS => ?_) (fun x H locs hv hS => hv.elim)
  obtain ⟨rfl, rfl⟩ := hv
  refine zw_app ?_
  refine lv_sipush (v := nI 128) hx hb zd_A5_rebuild_36 (by decide) ?_
  refine zw_copy F hT hK hP hD hS rfl 2 1 rfl rfl 0 (atN sk rb) 128 rfl rfl rfl (by omega) (by unfold atN; omega) (by decide) (by decide) hl.1 (by decide) (by decide) zd_A5_rebuild_39 (fun H locs hP hD hS => ?_)
  have hP : va_P G.1 zcl ([(_, _), (_, _), (_, _)] ++ wr) H := hP
  have hD : va_D A ([(_, _), (_, _), (_, _)] ++ wr) := hD
  refine lv_aload_n hx hb zd_A5_rebuild_42 rfl (lv_at hl 0 rfl) ?_
  refine lv_dup hx hb zd_A5_rebuild_43 rfl ?_
  refine zg_A5 F hT hK hP 0 rfl 6 (by decide) zq_61 rfl zd_A5_rebuild_44 ?_
  refine lv_iconst (v := nI 1) hx hb zd_A5_rebuild_47 (by decide) ?_
  refine lv_iadd hx hb zd_A5_rebuild_48 ?_
  refine zw_ti (nI (rb + 1)) (nI_1 rb) ?_
  refine zp_A5 F hT hK hP hD hS 0 rfl 6 (by decide) zq_61 rfl rfl rfl (Nat.le_of_ble_eq_true rfl) zd_A5_rebuild_49 (fun H locs hP hD hS => ?_)
  have hP : va_P G.1 zcl ([(_, .inr (2, [_, _, _, _, _, _, _, _, _])), (_, _), (_, _)] ++ wr) H := hP
  have hD : va_D A ([(_, .inr (2, [_, _, _, _, _, _, _, _, _])), (_, _), (_, _)] ++ wr) := hD
  refine lv_aload_n hx hb zd_A5_rebuild_52 rfl (lv_at hl 0 rfl) ?_
  refine zg_A5 F hT hK hP 0 rfl 6 (by decide) zq_61 rfl zd_A5_rebuild_53 ?_
  refine lv_sipush (v := nI 150) hx hb zd_A5_rebuild_56 (by decide) ?_
  refine lv_icmp_ge (tgt := 71) hx hb zd_A5_rebuild_59 rfl (fun hc => ?_) (fun hc => ?_)
  · have hc : 150 ≤ rb + 1 := (nI_leI (by decide) (by omega)).mp hc
    refine lv_aload_n hx hb zd_A5_rebuild_71 rfl (lv_at hl 0 rfl) ?_
    refine lv_iconst (v := (-1)) hx hb zd_A5_rebuild_72 (by decide) ?_
    refine zp_A5 F hT hK hP hD hS 0 rfl 5 (by decide) zq_59 rfl rfl rfl (Nat.le_of_ble_eq_true rfl) zd_A5_rebuild_73 (fun H locs hP hD hS => ?_)
    have hP : va_P G.1 zcl ([(_, .inr (2, [_, _, _, _, _, _, _, _, _])), (_, _), (_, _)] ++ wr) H := hP
    have hD : va_D A ([(_, .inr (2, [_, _, _, _, _, _, _, _, _])), (_, _), (_, _)] ++ wr) := hD
    refine lv_aload_n hx hb zd_A5_rebuild_76 rfl (lv_at hl 0 rfl) ?_
    refine lv_iconst (v := 0) hx hb zd_A5_rebuild_77 (by decide) ?_
    refine zp_A5 F hT hK hP hD hS 0 rfl 7 (by decide) zq_63 rfl rfl rfl (Nat.le_of_ble_eq_true rfl) zd_A5_rebuild_78 (fun H locs hP hD hS => ?_)
    have hP : va_P G.1 zcl ([(_, .inr (2, [_, _, _, _, _, _, _, _, _])), (_, _), (_, _)] ++ wr) H := hP
    have hD : va_D A ([(_, .inr (2, [_, _, _, _, _, _, _, _, _])), (_, _), (_, _)] ++ wr) := hD
    refine lv_aload_n hx hb zd_A5_rebuild_81 rfl (lv_at hl 0 rfl) ?_
    refine lv_iconst (v := 0) hx hb zd_A5_rebuild_82 (by decide) ?_
    refine zp_A5 F hT hK hP hD hS 0 rfl 6 (by decide) zq_61 rfl rfl rfl (Nat.le_of_ble_eq_true rfl) zd_A5_rebuild_83 (fun H locs hP hD hS => ?_)
    have hP : va_P G.1 zcl ([(_, .inr (2, [_, _, _, _, _, _, _, _, _])), (_, _), (_, _)] ++ wr) H := hP
    have hD : va_D A ([(_, .inr (2, [_, _, _, _, _, _, _, _, _])), (_, _), (_, _)] ++ wr) := hD
    refine lv_iconst (v := 0) hx hb zd_A5_rebuild_86 (by decide) ?_
    exact zx_iret F rfl hS.2.2 zd_A5_rebuild_87 ⟨by rw [show 149 - rb = 0 by omega]; rfl, Y, hY, by rw [if_neg (by omega), if_neg (by omega), decide_eq_false (by omega)]; exact hP⟩
  · have hc : ¬ 150 ≤ rb + 1 := fun h => hc ((nI_leI (by decide) (by omega)).mpr h)
    refine lv_sipush (v := nI 150) hx hb zd_A5_rebuild_62 (by decide) ?_
    refine lv_aload_n hx hb zd_A5_rebuild_65 rfl (lv_at hl 0 rfl) ?_
    refine zg_A5 F hT hK hP 0 rfl 6 (by decide) zq_61 rfl zd_A5_rebuild_66 ?_
    refine lv_isub hx hb zd_A5_rebuild_69 ?_
    rw [pk_sub (by omega)]
    exact zx_iret F rfl hS.2.2 zd_A5_rebuild_70 ⟨by rw [show 150 - (rb + 1) = 149 - rb by omega], Y, hY, by rw [if_pos (by omega), if_pos (by omega), decide_eq_true (by omega)]; exact hP⟩
set_option maxHeartbeats 4000000 in
set_option maxRecDepth 20000 in
theorem zc_A5_wrong (l : Launch) (G : xG) {H0 : Heap} {A : Nat → Prop} (ar dk on pt rc pw sk rb : Nat) (nw la : Bool) (D : Nat → Int8) (wr : va_W) (hsk : sk ≤ 5) (hgood : sk = 5 → ∀ t, t < 150 → ∀ j, j < 128 → xacc D 5 t j 5 = 0) (hP : va_P G.1 zcl ([(ar, eA5 dk on pt rc pw (sI sk) (nI rb) nw la), (dk, eB G 96680 D)] ++ wr) H0) : XM l G (rmz 10 280 0 0) zy_A5_wrong zb_A5_wrong 7 (some FieldType.int) [] H0 A [.ref ar] 0 0 (fun v H => v = some (.int 0) ∧ H0 = H) (fun _ _ => False) := by
  intro p e s m below meth c F hT hK hH hZ
  subst hH
  have hx := F.1
  have hb := F.2.1
  have hS : va_S A s.heap s.heap [] := va_S.rf
  have hl := lv_entry ([.ref ar]) (n := 7) (Nat.le_of_ble_eq_true rfl)
  rw [lg_entry_eq]
  generalize (lg_sl ([.ref ar]) ++ List.replicate (7 - (lg_sl ([.ref ar])).length) Slot.unset).toArray = ls at hl ⊢
  have hl : lv_has ls 7 [(0, .ref ar)] := hl
  by_cases h5 : sk = 5
  · subst h5
    have hg := hgood rfl
    have in3 : ∀ (t j : Nat), t < 150 → j < 128 → (∀ (locs : List Loc) (ls : Array Slot), va_S A s.heap s.heap locs → lv_has ls 7 [(4, .int (nI j)), (3, .int 1), (2, .int (nI t)), (1, .int 0), (0, .ref ar)] → W p l e (rmz 10 280 0 0) s m ([.ref ar] : List Value).toArray below meth c s.heap locs 0 0 (xQ below s A 0 0 (fun v H => v = some (.int 0) ∧ s.heap = H) (fun _ _ => False)) (F0 m 82 ls [])) → ∀ (n d : Nat), n + d = 5 → ∀ (locs : List Loc) (ls : Array Slot), va_S A s.heap s.heap locs → lv_has ls 7 [(6, .int (nI d)), (5, .int (xacc D 5 t j d).toInt32), (4, .int (nI j)), (3, .int 1), (2, .int (nI t)), (1, .int 0), (0, .ref ar)] → W p l e (rmz 10 280 0 0) s m ([.ref ar] : List Value).toArray below meth c s.heap locs 0 0 (xQ below s A 0 0 (fun v H => v = some (.int 0) ∧ s.heap = H) (fun _ _ => False)) (F0 m 37 ls []) := by
      intro t j ht hj kk n
      induction n with
      | zero =>
        intro d hd locs ls hS hl
        obtain rfl : d = 5 := by omega
        rw [hg t ht j hj] at hl
        refine lv_iload hx hb zd_A5_wrong_37 (lv_at hl 0 rfl) ?_
        refine lv_iconst (v := nI 5) hx hb zd_A5_wrong_39 (by decide) ?_
        refine lv_icmp_ge (tgt := 68) hx hb zd_A5_wrong_40 rfl (fun _ => ?_) (fun hc9 => absurd hc9 (fun h => h (Int32.le_refl _)))
        refine lv_iload_n hx hb zd_A5_wrong_68 rfl (lv_at hl 3 rfl) ?_
        refine lv_iload hx hb zd_A5_wrong_69 (lv_at hl 1 rfl) ?_
        refine lv_i2b hx hb zd_A5_wrong_71 rfl ?_
        refine lv_if_ne (tgt := 79) hx hb zd_A5_wrong_72 rfl (fun hc9 => absurd hc9 (fun h => h (by decide))) (fun _ => ?_)
        refine lv_iconst (v := 1) hx hb zd_A5_wrong_75 (by decide) ?_
        refine lv_goto (tgt := 80) hx hb zd_A5_wrong_76 rfl ?_
        refine lv_iand hx hb zd_A5_wrong_80 ?_
        rw [show (1 : Int32) &&& 1 = 1 by decide]
        refine lv_istore_n hx hb zd_A5_wrong_81 rfl hl (by decide) rfl (fun ls hl => ?_)
        have hl : lv_has ls 7 [(3, _), (6, _), (5, _), (4, _), (2, _), (1, _), (0, _)] := hl
        exact kk locs ls hS (lv_sub hl [3, 0, 4, 5, 6] rfl)
      | succ n ih =>
        intro d hd locs ls hS hl
        refine lv_iload hx hb zd_A5_wrong_37 (lv_at hl 0 rfl) ?_
        refine lv_iconst (v := nI 5) hx hb zd_A5_wrong_39 (by decide) ?_
        refine lv_icmp_ge (tgt := 68) hx hb zd_A5_wrong_40 rfl (fun hc9 => absurd hc9 (nI_ge (by omega) (by decide))) (fun _ => ?_)
        refine lv_iload hx hb zd_A5_wrong_43 (lv_at hl 1 rfl) ?_
        refine lv_aload_n hx hb zd_A5_wrong_45 rfl (lv_at hl 6 rfl) ?_
        refine zg_A5 F hT hK hP 0 rfl 0 (by decide) zq_54 rfl zd_A5_wrong_46 ?_
        refine lv_iload hx hb zd_A5_wrong_49 (lv_at hl 0 rfl) ?_
        refine lv_iload_n hx hb zd_A5_wrong_51 rfl (lv_at hl 4 rfl) ?_
        refine zk_S F hT hK hZ hS hl.1 (zc_A5_at l G d t) zl_A5_at (zY_A5_at hT) zq_263 zq_264 zq_3 zd_A5_wrong_52 rfl ⟨rfl, rfl, Nat.le_of_ble_eq_true rfl, Nat.le_of_ble_eq_true rfl, Nat.le_of_ble_eq_true rfl, Nat.le_of_ble_eq_true rfl⟩ (fun v H locs hv hS => ?_) (fun x H locs hv hS => hv.elim)
        obtain ⟨rfl, rfl⟩ := hv
        refine zw_app ?_
        refine lv_iload hx hb zd_A5_wrong_55 (lv_at hl 2 rfl) ?_
        refine lv_iadd hx hb zd_A5_wrong_57 ?_
        refine zw_bald F hK hP 1 rfl (atN d t + j) (nI_add _ _) (by unfold atN; omega) (by decide) zd_A5_wrong_58 ?_
        refine lv_ixor hx hb zd_A5_wrong_59 ?_
        refine zw_ti ((xacc D 5 t j (d + 1)).toInt32) (by rw [xacc, if_neg (by omega), Int8.toInt32_xor]) ?_
        refine lv_istore hx hb zd_A5_wrong_60 hl (by decide) rfl (fun ls hl => ?_)
        have hl : lv_has ls 7 [(5, _), (6, _), (4, _), (3, _), (2, _), (1, _), (0, _)] := hl
        refine lv_iinc (k := 1) hx hb zd_A5_wrong_62 hl rfl (zl_inc d) (by decide) rfl (fun ls hl => ?_)
        have hl : lv_has ls 7 [(6, _), (5, _), (4, _), (3, _), (2, _), (1, _), (0, _)] := hl
        refine lv_goto (tgt := 37) hx hb zd_A5_wrong_65 rfl ?_
        exact ih (d + 1) (by omega) locs ls hS hl
    have in2 : ∀ (t : Nat), t < 150 → (∀ (locs : List Loc) (ls : Array Slot), va_S A s.heap s.heap locs → lv_has ls 7 [(2, .int (nI t)), (1, .int 0), (0, .ref ar)] → W p l e (rmz 10 280 0 0) s m ([.ref ar] : List Value).toArray below meth c s.heap locs 0 0 (xQ below s A 0 0 (fun v H => v = some (.int 0) ∧ s.heap = H) (fun _ _ => False)) (F0 m 95 ls [])) → ∀ (n j : Nat), n + j = 128 → ∀ (locs : List Loc) (ls : Array Slot), va_S A s.heap s.heap locs → lv_has ls 7 [(4, .int (nI j)), (3, .int 1), (2, .int (nI t)), (1, .int 0), (0, .ref ar)] → W p l e (rmz 10 280 0 0) s m ([.ref ar] : List Value).toArray below meth c s.heap locs 0 0 (xQ below s A 0 0 (fun v H => v = some (.int 0) ∧ s.heap = H) (fun _ _ => False)) (F0 m 23 ls []) := by
      intro t ht kk n
      induction n with
      | zero =>
        intro j hj locs ls hS hl
        obtain rfl : j = 128 := by omega
        refine lv_iload hx hb zd_A5_wrong_23 (lv_at hl 0 rfl) ?_
        refine lv_sipush (v := nI 128) hx hb zd_A5_wrong_25 (by decide) ?_
        refine lv_icmp_ge (tgt := 88) hx hb zd_A5_wrong_28 rfl (fun _ => ?_) (fun hc9 => absurd hc9 (fun h => h (Int32.le_refl _)))
        refine lv_iload_n hx hb zd_A5_wrong_88 rfl (lv_at hl 1 rfl) ?_
        refine lv_if_ne (tgt := 95) hx hb zd_A5_wrong_89 rfl (fun _ => ?_) (fun hc9 => absurd hc9 (by decide))
        exact kk locs ls hS (lv_sub hl [2, 3, 4] rfl)
      | succ n ih =>
        intro j hj locs ls hS hl
        refine lv_iload hx hb zd_A5_wrong_23 (lv_at hl 0 rfl) ?_
        refine lv_sipush (v := nI 128) hx hb zd_A5_wrong_25 (by decide) ?_
        refine lv_icmp_ge (tgt := 88) hx hb zd_A5_wrong_28 rfl (fun hc9 => absurd hc9 (nI_ge (by omega) (by decide))) (fun _ => ?_)
        refine lv_iconst (v := 0) hx hb zd_A5_wrong_31 (by decide) ?_
        refine lv_istore hx hb zd_A5_wrong_32 hl (by decide) rfl (fun ls hl => ?_)
        have hl : lv_has ls 7 [(5, _), (4, _), (3, _), (2, _), (1, _), (0, _)] := hl
        refine lv_iconst (v := 0) hx hb zd_A5_wrong_34 (by decide) ?_
        refine lv_istore hx hb zd_A5_wrong_35 hl (by decide) rfl (fun ls hl => ?_)
        have hl : lv_has ls 7 [(6, _), (5, _), (4, _), (3, _), (2, _), (1, _), (0, _)] := hl
        refine in3 t j ht (by omega) (fun locs ls hS hl => ?_) 5 0 rfl locs ls hS hl
        refine lv_iinc (k := 0) hx hb zd_A5_wrong_82 hl rfl (zl_inc j) (by decide) rfl (fun ls hl => ?_)
        have hl : lv_has ls 7 [(4, _), (3, _), (2, _), (1, _), (0, _)] := hl
        refine lv_goto (tgt := 23) hx hb zd_A5_wrong_85 rfl ?_
        exact ih (j + 1) (by omega) locs ls hS hl
    have in1 : ∀ (n t : Nat), n + t = 150 → ∀ (locs : List Loc) (ls : Array Slot), va_S A s.heap s.heap locs → lv_has ls 7 [(2, .int (nI t)), (1, .int 0), (0, .ref ar)] → W p l e (rmz 10 280 0 0) s m ([.ref ar] : List Value).toArray below meth c s.heap locs 0 0 (xQ below s A 0 0 (fun v H => v = some (.int 0) ∧ s.heap = H) (fun _ _ => False)) (F0 m 4 ls []) := by
      intro n
      induction n with
      | zero =>
        intro t ht locs ls hS hl
        obtain rfl : t = 150 := by omega
        refine lv_iload_n hx hb zd_A5_wrong_4 rfl (lv_at hl 0 rfl) ?_
        refine lv_sipush (v := nI 150) hx hb zd_A5_wrong_5 (by decide) ?_
        refine lv_icmp_ge (tgt := 101) hx hb zd_A5_wrong_8 rfl (fun _ => ?_) (fun hc9 => absurd hc9 (fun h => h (Int32.le_refl _)))
        refine lv_iload_n hx hb zd_A5_wrong_101 rfl (lv_at hl 1 rfl) ?_
        exact zx_iret F rfl hS.2.2 zd_A5_wrong_102 ⟨rfl, rfl⟩
      | succ n ih =>
        intro t ht locs ls hS hl
        refine lv_iload_n hx hb zd_A5_wrong_4 rfl (lv_at hl 0 rfl) ?_
        refine lv_sipush (v := nI 150) hx hb zd_A5_wrong_5 (by decide) ?_
        refine lv_icmp_ge (tgt := 101) hx hb zd_A5_wrong_8 rfl (fun hc9 => absurd hc9 (nI_ge (by omega) (by decide))) (fun _ => ?_)
        refine lv_aload_n hx hb zd_A5_wrong_11 rfl (lv_at hl 2 rfl) ?_
        refine zg_A5 F hT hK hP 0 rfl 5 (by decide) zq_59 rfl zd_A5_wrong_12 ?_
        refine lv_if_ge (tgt := 101) hx hb zd_A5_wrong_15 rfl (fun hc9 => absurd hc9 (by decide)) (fun _ => ?_)
        refine lv_iconst (v := 1) hx hb zd_A5_wrong_18 (by decide) ?_
        refine lv_istore_n hx hb zd_A5_wrong_19 rfl hl (by decide) rfl (fun ls hl => ?_)
        have hl : lv_has ls 7 [(3, _), (2, _), (1, _), (0, _)] := hl
        refine lv_iconst (v := 0) hx hb zd_A5_wrong_20 (by decide) ?_
        refine lv_istore hx hb zd_A5_wrong_21 hl (by decide) rfl (fun ls hl => ?_)
        have hl : lv_has ls 7 [(4, _), (3, _), (2, _), (1, _), (0, _)] := hl
        refine in2 t (by omega) (fun locs ls hS hl => ?_) 128 0 rfl locs ls hS hl
        refine lv_iinc (k := 0) hx hb zd_A5_wrong_95 hl rfl (zl_inc t) (by decide) rfl (fun ls hl => ?_)
        have hl : lv_has ls 7 [(2, _), (1, _), (0, _)] := hl
        refine lv_goto (tgt := 4) hx hb zd_A5_wrong_98 rfl ?_
        exact ih (t + 1) (by omega) locs ls hS hl
    refine lv_iconst (v := 0) hx hb zd_A5_wrong_0 (by decide) ?_
    refine lv_istore_n hx hb zd_A5_wrong_1 rfl hl (by decide) rfl (fun ls hl => ?_)
    have hl : lv_has ls 7 [(1, _), (0, _)] := hl
    refine lv_iconst (v := 0) hx hb zd_A5_wrong_2 (by decide) ?_
    refine lv_istore_n hx hb zd_A5_wrong_3 rfl hl (by decide) rfl (fun ls hl => ?_)
    have hl : lv_has ls 7 [(2, _), (1, _), (0, _)] := hl
    exact in1 150 0 rfl _ ls hS hl
  · have hsk : sk < 5 := by omega
    refine lv_iconst (v := 0) hx hb zd_A5_wrong_0 (by decide) ?_
    refine lv_istore_n hx hb zd_A5_wrong_1 rfl hl (by decide) rfl (fun ls hl => ?_)
    have hl : lv_has ls 7 [(1, _), (0, _)] := hl
    refine lv_iconst (v := 0) hx hb zd_A5_wrong_2 (by decide) ?_
    refine lv_istore_n hx hb zd_A5_wrong_3 rfl hl (by decide) rfl (fun ls hl => ?_)
    have hl : lv_has ls 7 [(2, _), (1, _), (0, _)] := hl
    refine lv_iload_n hx hb zd_A5_wrong_4 rfl (lv_at hl 0 rfl) ?_
    refine lv_sipush (v := nI 150) hx hb zd_A5_wrong_5 (by decide) ?_
    refine lv_icmp_ge (tgt := 101) hx hb zd_A5_wrong_8 rfl (fun hc9 => absurd hc9 (by decide)) (fun _ => ?_)
    refine lv_aload_n hx hb zd_A5_wrong_11 rfl (lv_at hl 2 rfl) ?_
    refine zg_A5 F hT hK hP 0 rfl 5 (by decide) zq_59 rfl zd_A5_wrong_12 ?_
    refine lv_if_ge (tgt := 101) hx hb zd_A5_wrong_15 rfl (fun _ => ?_) (fun hc9 => absurd hc9 (fun h => h (by rw [sI_lt hsk]; exact nI_pos' (by omega))))
    refine lv_iload_n hx hb zd_A5_wrong_101 rfl (lv_at hl 1 rfl) ?_
    exact zx_iret F rfl hS.2.2 zd_A5_wrong_102 ⟨rfl, rfl⟩
end
section
/-! the plain law: disks, stripes, records; no program in sight -/
theorem thr_t {sk : Nat} {nw : Bool} {rb d t : Nat} : thr sk nw rb d t = true ↔ (d ≠ sk ∨ (nw = true ∧ t < rb)) := by
  simp [thr]
/-- byte k of block i of stripe t -/
def mD (M : Nat → Int8) (t i k : Nat) : Int8 := M (128 * (4 * t + i) + k)
def par (M : Nat → Int8) (t k : Nat) : Int8 := mD M t 0 k ^^^ mD M t 1 k ^^^ mD M t 2 k ^^^ mD M t 3 k
/-- what disk d ought to hold in stripe t -/
def idl (M : Nat → Int8) (d t k : Nat) : Int8 := if d = t % 5 then par M t k else mD M t (if d < t % 5 then d else d - 1) k
/-- the XOR of the blocks below j but for block i -/
def oacc (M : Nat → Int8) (t i k : Nat) : Nat → Int8
  | 0 => 0
  | j + 1 => if j = i then oacc M t i k j else oacc M t i k j ^^^ mD M t j k
def OnI (D M : Nat → Int8) (sk : Nat) (nw : Bool) (rb : Nat) : Prop := ∀ d, d < 5 → ∀ t, t < 150 → thr sk nw rb d t = true → ∀ k, k < 128 → D (atN d t + k) = idl M d t k
def rvl (D : Nat → Int8) (q : Nat) : Prop := ¬ D (19336 * q) = 0 ∧ D (19336 * q) = D (19336 * q + 135)
def rst (D : Nat → Int8) (q : Nat) : Nat := ((D (19336 * q + 1)).toInt32 &&& 255).toNatClampNeg
def rsi (D : Nat → Int8) (q : Nat) : Nat := (D (19336 * q + 2)).toInt32.toNatClampNeg
/-- what the records say is so -/
def RecI (D M : Nat → Int8) (sk : Nat) (nw : Bool) (rb : Nat) : Prop := ∀ q, q < 5 → (rst D q < 150 ∧ rsi D q < 4 ∧ (D (19336 * q + 2)).toInt32 = nI (rsi D q)) ∧
  (rvl D q → (q = sk ∧ nw = false) ∨ (thr sk nw rb q (rst D q) = true ∧ rst D q % 5 = q ∧ ∀ k, k < 128 → D (19336 * q + 3 + k) = oacc M (rst D q) (rsi D q) k 4))
/-- the parity of (d, t) can be set right by disk d's record -/
def cov (D : Nat → Int8) (sk : Nat) (nw : Bool) (rb d t : Nat) : Prop := d = t % 5 ∧ rvl D d ∧ rst D d = t ∧ thr sk nw rb (dO t (rsi D d)) t = true
def OffI (D M : Nat → Int8) (sk : Nat) (nw : Bool) (rb : Nat) : Prop := ∀ d, d < 5 → ∀ t, t < 150 → thr sk nw rb d t = true → cov D sk nw rb d t ∨ ∀ k, k < 128 → D (atN d t + k) = idl M d t k
def CfgI (sk : Nat) (nw : Bool) (rb : Nat) : Prop := sk ≤ 5 ∧ rb < 150 ∧ (sk = 5 → nw = false) ∧ (nw = false → rb = 0)
theorem OnI.off {D M : Nat → Int8} {sk : Nat} {nw : Bool} {rb : Nat} (h : OnI D M sk nw rb) : OffI D M sk nw rb := fun d hd t ht hth => Or.inr (h d hd t ht hth)
theorem rst_eq (D : Nat → Int8) (q : Nat) : (D (19336 * q + 1)).toInt32 &&& nI 255 = nI (rst D q) := by
  have h1 : (nI 255 : Int32) = 255 := rfl
  have h2 := pk_and ((D (19336 * q + 1)).toInt32) (m := 255) 8 (by decide)
  unfold rst
  rw [h1, h2, nI_clamp (by omega)]
theorem dO_lt {t i : Nat} (h : i < 4) : dO t i < 5 := by unfold dO; split <;> omega
theorem dO_ne {t i : Nat} : ¬ dO t i = t % 5 := by unfold dO; split <;> omega
theorem dO_inj {t i j : Nat} (h : dO t i = dO t j) : i = j := by
  unfold dO at h
  split at h <;> split at h <;> omega
theorem idl_dO (M : Nat → Int8) (t i k : Nat) : idl M (dO t i) t k = mD M t i k := by
  unfold idl
  rw [if_neg dO_ne]
  congr 1
  unfold dO
  by_cases h : i < t % 5
  · rw [if_pos h, if_pos h]
  · rw [if_neg h, if_neg (by omega)]; omega
theorem dO_of {t d : Nat} (hd : d < 5) (h : ¬ d = t % 5) : ∃ i, i < 4 ∧ d = dO t i := by
  refine ⟨if d < t % 5 then d else d - 1, ?_, ?_⟩
  · split <;> omega
  · unfold dO
    by_cases h2 : d < t % 5
    · rw [if_pos h2, if_pos h2]
    · rw [if_neg h2, if_neg (by omega)]; omega
theorem idl_par (M : Nat → Int8) (t k : Nat) : idl M (t % 5) t k = par M t k := if_pos rfl
theorem zX_lc (a b c : Int8) : a ^^^ (b ^^^ c) = b ^^^ (a ^^^ c) := by rw [← Int8.xor_assoc, Int8.xor_comm a b, Int8.xor_assoc]
theorem zX_cc (a b : Int8) : a ^^^ (a ^^^ b) = b := by rw [← Int8.xor_assoc, Int8.xor_self, Int8.zero_xor]
/-- the five blocks of a stripe: each is the XOR of the others -/
theorem xacc_idl {D M : Nat → Int8} {d t k : Nat} (h : ∀ e, e < 5 → ¬ e = d → D (atN e t + k) = idl M e t k) : (d < 5 → xacc D d t k 5 = idl M d t k) ∧ (d = 5 → xacc D d t k 5 = 0) := by
  have hq : t % 5 = 0 ∨ t % 5 = 1 ∨ t % 5 = 2 ∨ t % 5 = 3 ∨ t % 5 = 4 := by omega
  constructor
  · intro hd
    have hd5 : d = 0 ∨ d = 1 ∨ d = 2 ∨ d = 3 ∨ d = 4 := by omega
    rcases hd5 with rfl | rfl | rfl | rfl | rfl
    · have g1 := h 1 (by decide) (by decide)
      have g2 := h 2 (by decide) (by decide)
      have g3 := h 3 (by decide) (by decide)
      have g4 := h 4 (by decide) (by decide)
      simp only [xacc, g1, g2, g3, g4]
      rcases hq with hq | hq | hq | hq | hq <;> simp [idl, hq, par, Int8.xor_assoc, Int8.xor_comm, zX_lc, zX_cc]
    · have g0 := h 0 (by decide) (by decide)
      have g2 := h 2 (by decide) (by decide)
      have g3 := h 3 (by decide) (by decide)
      have g4 := h 4 (by decide) (by decide)
      simp only [xacc, g0, g2, g3, g4]
      rcases hq with hq | hq | hq | hq | hq <;> simp [idl, hq, par, Int8.xor_assoc, Int8.xor_comm, zX_lc, zX_cc]
    · have g0 := h 0 (by decide) (by decide)
      have g1 := h 1 (by decide) (by decide)
      have g3 := h 3 (by decide) (by decide)
      have g4 := h 4 (by decide) (by decide)
      simp only [xacc, g0, g1, g3, g4]
      rcases hq with hq | hq | hq | hq | hq <;> simp [idl, hq, par, Int8.xor_assoc, Int8.xor_comm, zX_lc, zX_cc]
    · have g0 := h 0 (by decide) (by decide)
      have g1 := h 1 (by decide) (by decide)
      have g2 := h 2 (by decide) (by decide)
      have g4 := h 4 (by decide) (by decide)
      simp only [xacc, g0, g1, g2, g4]
      rcases hq with hq | hq | hq | hq | hq <;> simp [idl, hq, par, Int8.xor_assoc, Int8.xor_comm, zX_lc, zX_cc]
    · have g0 := h 0 (by decide) (by decide)
      have g1 := h 1 (by decide) (by decide)
      have g2 := h 2 (by decide) (by decide)
      have g3 := h 3 (by decide) (by decide)
      simp only [xacc, g0, g1, g2, g3]
      rcases hq with hq | hq | hq | hq | hq <;> simp [idl, hq, par, Int8.xor_assoc, Int8.xor_comm, zX_lc, zX_cc]
  · rintro rfl
    have g0 := h 0 (by decide) (by decide)
    have g1 := h 1 (by decide) (by decide)
    have g2 := h 2 (by decide) (by decide)
    have g3 := h 3 (by decide) (by decide)
    have g4 := h 4 (by decide) (by decide)
    simp only [xacc, g0, g1, g2, g3, g4]
    rcases hq with hq | hq | hq | hq | hq <;> simp [idl, hq, par, Int8.xor_assoc, Int8.xor_comm, zX_lc, zX_cc]
theorem oacc_par (M : Nat → Int8) (t i k : Nat) (hi : i < 4) : oacc M t i k 4 ^^^ mD M t i k = par M t k := by
  have h4 : i = 0 ∨ i = 1 ∨ i = 2 ∨ i = 3 := by omega
  rcases h4 with rfl | rfl | rfl | rfl <;> simp [oacc, par, Int8.xor_assoc, Int8.xor_comm, zX_lc, zX_cc]
theorem oacc_congr {M M' : Nat → Int8} {t i k : Nat} (h : ∀ j, j < 4 → ¬ j = i → mD M' t j k = mD M t j k) : oacc M' t i k 4 = oacc M t i k 4 := by
  have key : ∀ j, j ≤ 4 → oacc M' t i k j = oacc M t i k j := by
    intro j
    induction j with
    | zero => intro _; rfl
    | succ j ih =>
      intro hj
      rw [oacc, oacc, ih (by omega)]
      split
      · rfl
      · rw [h j (by omega) (by assumption)]
  exact key 4 (Nat.le_refl _)
theorem p_load {D M : Nat → Int8} {sk : Nat} {nw : Bool} {rb d t k : Nat} (hO : OnI D M sk nw rb) (hd : d < 5) (ht : t < 150) (hk : k < 128) : ldv sk nw rb D d t k = idl M d t k := by
  unfold ldv
  split
  · next h => exact hO d hd t ht h k hk
  · next h =>
    refine (xacc_idl (fun e he hne => ?_)).1 hd
    refine hO e he t ht (thr_t.mpr (Or.inl (fun h2 => h ?_))) k hk
    refine thr_t.mpr (Or.inl (fun h3 => hne (h2.trans h3.symm)))
end
section
/-! the plain law, its second part: what each write does to disks, records and the blocks they stand for -/
theorem cp_hit (X D : Nat → Int8) (n a k : Nat) : va_cpy X D 0 a n (a + k) = if k < n then X k else D (a + k) := by
  unfold va_cpy
  by_cases h : k < n
  · rw [if_pos ⟨by omega, by omega⟩, if_pos h]
    congr 1
    omega
  · rw [if_neg (by omega), if_neg h]
theorem cp_out {X D : Nat → Int8} {n a x : Nat} (h : x < a ∨ a + n ≤ x) : va_cpy X D 0 a n x = D x := if_neg (by omega)
theorem cp_at {X D : Nat → Int8} {n d t d' t' k : Nat} (hd : d < 5) (ht : t < 150) (hd' : d' < 5) (ht' : t' < 150) (hk : k < 128) (hn : n ≤ 128) (h : ¬ (d' = d ∧ t' = t)) : va_cpy X D 0 (atN d t) n (atN d' t' + k) = D (atN d' t' + k) := by
  refine cp_out ?_
  unfold atN
  rcases Nat.lt_trichotomy d' d with h1 | h1 | h1
  · left; omega
  · subst h1
    rcases Nat.lt_trichotomy t' t with h2 | h2 | h2
    · left; omega
    · exact absurd ⟨rfl, h2⟩ h
    · right; omega
  · right; omega
theorem cp_log {X D : Nat → Int8} {n d t q r : Nat} (hd : d < 5) (ht : t < 150) (hn : n ≤ 128) (hr : r < 136) : va_cpy X D 0 (atN d t) n (19336 * q + r) = D (19336 * q + r) := by
  refine cp_out ?_
  unfold atN
  by_cases h1 : q ≤ d
  · left; omega
  · right; omega
theorem cp_lat {X D : Nat → Int8} {n d t q k : Nat} (ht : t < 150) (hk : k < 128) (hn : n ≤ 136) : va_cpy X D 0 (19336 * q) n (atN d t + k) = D (atN d t + k) := by
  refine cp_out ?_
  unfold atN
  by_cases h1 : q ≤ d
  · right; omega
  · left; omega
theorem cp_ll {X D : Nat → Int8} {n q q' r : Nat} (hn : n ≤ 136) (hr : r < 136) (h : ¬ q' = q) : va_cpy X D 0 (19336 * q) n (19336 * q' + r) = D (19336 * q' + r) := by
  refine cp_out ?_
  omega
/-- a write into block i of stripe t -/
theorem mD_w {F M : Nat → Int8} {t i w t' i' k : Nat} (hi : i < 4) (hi' : i' < 4) (hk : k < 128) (hw : w ≤ 128) : mD (va_cpy F M 0 (128 * (4 * t + i)) w) t' i' k = if t' = t ∧ i' = i ∧ k < w then F k else mD M t' i' k := by
  unfold mD
  by_cases h : t' = t ∧ i' = i
  · obtain ⟨rfl, rfl⟩ := h
    rw [cp_hit]
    by_cases h2 : k < w
    · rw [if_pos h2, if_pos ⟨rfl, rfl, h2⟩]
    · rw [if_neg h2, if_neg (fun h => h2 h.2.2)]
  · rw [if_neg (fun g => h ⟨g.1, g.2.1⟩)]
    refine cp_out ?_
    omega
section PW
variable {D D' M M' : Nat → Int8} {sk : Nat} {nw : Bool} {rb : Nat}
theorem rec_same {q : Nat} (h : ∀ r, r < 136 → D' (19336 * q + r) = D (19336 * q + r)) : (rvl D' q ↔ rvl D q) ∧ rst D' q = rst D q ∧ rsi D' q = rsi D q := by
  have h0 := h 0 (by decide)
  rw [Nat.add_zero] at h0
  refine ⟨?_, ?_, ?_⟩
  · unfold rvl; rw [h0, h 135 (by decide)]
  · unfold rst; rw [h 1 (by decide)]
  · unfold rsi; rw [h 2 (by decide)]
theorem RecI.keep (hR : RecI D M sk nw rb) (hL : ∀ q, q < 5 → ∀ r, r < 136 → D' (19336 * q + r) = D (19336 * q + r)) (hM : ∀ q, q < 5 → thr sk nw rb q (rst D q) = true → rst D q % 5 = q → ∀ k, k < 128 → oacc M' (rst D q) (rsi D q) k 4 = oacc M (rst D q) (rsi D q) k 4) : RecI D' M' sk nw rb := by
  intro q hq
  obtain ⟨⟨b1, b2, b3⟩, h⟩ := hR q hq
  obtain ⟨e1, e2, e3⟩ := rec_same (hL q hq)
  rw [e2, e3, hL q hq 2 (by decide)]
  refine ⟨⟨b1, b2, b3⟩, fun hv => ?_⟩
  rcases h (e1.mp hv) with h | ⟨h1, h2, h3⟩
  · exact Or.inl h
  · refine Or.inr ⟨h1, h2, fun k hk => ?_⟩
    rw [show 19336 * q + 3 + k = 19336 * q + (3 + k) by omega, hL q hq (3 + k) (by omega), ← Nat.add_assoc, h3 k hk]
    exact (hM q hq h1 h2 k hk).symm
theorem oacc_w {F : Nat → Int8} {t i w t' i' k : Nat} (hi : i < 4) (hk : k < 128) (hw : w ≤ 128) (h : ¬ (t' = t ∧ ¬ i' = i)) : oacc (va_cpy F M 0 (128 * (4 * t + i)) w) t' i' k 4 = oacc M t' i' k 4 := by
  refine oacc_congr (fun j hj hne => ?_)
  rw [mD_w hi hj hk hw, if_neg]
  rintro ⟨h1, h2, -⟩
  exact h ⟨h1, fun h3 => hne (h2.trans h3.symm)⟩
theorem idl_w {F : Nat → Int8} {t i w d t' k : Nat} (hi : i < 4) (hd : d < 5) (hk : k < 128) (hw : w ≤ 128) (h1 : ¬ (d = dO t i ∧ t' = t)) (h2 : ¬ (d = t % 5 ∧ t' = t)) : idl (va_cpy F M 0 (128 * (4 * t + i)) w) d t' k = idl M d t' k := by
  by_cases hp : d = t' % 5
  · subst hp
    have hne : ¬ t' = t := fun h => h2 ⟨by rw [h], h⟩
    rw [idl_par, idl_par]
    unfold par
    rw [mD_w hi (by decide) hk hw, mD_w hi (by decide) hk hw, mD_w hi (by decide) hk hw, mD_w hi (by decide) hk hw, if_neg (fun g => hne g.1), if_neg (fun g => hne g.1), if_neg (fun g => hne g.1), if_neg (fun g => hne g.1)]
  · obtain ⟨j, hj, rfl⟩ := dO_of hd hp
    rw [idl_dO, idl_dO, mD_w hi hj hk hw, if_neg]
    rintro ⟨g1, g2, -⟩
    subst g1 g2
    exact h1 ⟨rfl, rfl⟩
/-- the block is written, its parity isn't there -/
theorem p_E1 {F : Nat → Int8} {t i w : Nat} (hR : RecI D M sk nw rb) (hO : OnI D M sk nw rb) (ht : t < 150) (hi : i < 4) (hw : w ≤ 128) (hq : thr sk nw rb (t % 5) t = false) :
    RecI (va_cpy F D 0 (atN (dO t i) t) w) (va_cpy F M 0 (128 * (4 * t + i)) w) sk nw rb ∧ OnI (va_cpy F D 0 (atN (dO t i) t) w) (va_cpy F M 0 (128 * (4 * t + i)) w) sk nw rb := by
  refine ⟨hR.keep (fun q _ r hr => cp_log (dO_lt hi) ht hw hr) (fun q _ h1 h2 k hk => oacc_w hi hk hw ?_), fun d hd t' ht' hth k hk => ?_⟩
  · rintro ⟨e1, -⟩
    rw [e1] at h1 h2
    rw [h2, h1] at hq
    cases hq
  · by_cases hh : d = dO t i ∧ t' = t
    · obtain ⟨rfl, rfl⟩ := hh
      rw [cp_hit, idl_dO, mD_w hi hi hk hw]
      by_cases h2 : k < w
      · rw [if_pos h2, if_pos ⟨rfl, rfl, h2⟩]
      · rw [if_neg h2, if_neg (fun h => h2 h.2.2), hO _ hd _ ht' hth k hk, idl_dO]
    · rw [cp_at (dO_lt hi) ht hd ht' hk hw hh, hO d hd t' ht' hth k hk, idl_w hi hd hk hw hh]
      rintro ⟨e1, e2⟩
      rw [e1, e2, hq] at hth
      cases hth
/-- a record of block i of stripe t, with the mark mk -/
def isRec (R M : Nat → Int8) (t i : Nat) (mk : Int8) : Prop := R 0 = mk ∧ R 135 = mk ∧ R 1 = (nI t).toInt8 ∧ R 2 = (nI i).toInt8 ∧ ∀ k, k < 128 → R (3 + k) = oacc M t i k 4
theorem by_t {t : Nat} (h : t < 150) : ((nI t).toInt8.toInt32 &&& 255).toNatClampNeg = t := by
  rw [sc_k8 t (by omega), nI_clamp (by omega)]
theorem by_i : ∀ i, i < 4 → (nI i).toInt8.toInt32 = nI i := by decide +kernel
theorem by_i2 {i : Nat} (h : i < 4) : ((nI i).toInt8.toInt32).toNatClampNeg = i := by rw [by_i i h, nI_clamp (by omega)]
/-- disk q holds a whole record of block i of stripe t -/
def RecF (D M : Nat → Int8) (t i : Nat) : Prop := rvl D (t % 5) ∧ rst D (t % 5) = t ∧ rsi D (t % 5) = i
/-- the record is written, wholly or not -/
theorem p_E2 {R : Nat → Int8} {t i w : Nat} {mk : Int8} (hR : RecI D M sk nw rb) (hO : OnI D M sk nw rb) (ht : t < 150) (hi : i < 4) (hw : w ≤ 136) (hq : thr sk nw rb (t % 5) t = true) (hr : isRec R M t i mk) (h0 : ¬ mk = 0) (hm : ¬ mk = D (19336 * (t % 5) + 135)) :
    RecI (va_cpy R D 0 (19336 * (t % 5)) w) M sk nw rb ∧ OnI (va_cpy R D 0 (19336 * (t % 5)) w) M sk nw rb ∧ (w = 136 → RecF (va_cpy R D 0 (19336 * (t % 5)) w) M t i) := by
  obtain ⟨r0, r135, r1, r2, r3⟩ := hr
  have hat : ∀ r, va_cpy R D 0 (19336 * (t % 5)) w (19336 * (t % 5) + r) = if r < w then R r else D (19336 * (t % 5) + r) := fun r => cp_hit R D w _ r
  have hat0 := hat 0
  rw [Nat.add_zero] at hat0
  have full : w = 136 → RecF (va_cpy R D 0 (19336 * (t % 5)) w) M t i := by
    intro hw6
    refine ⟨⟨?_, ?_⟩, ?_, ?_⟩
    · rw [hat0, if_pos (by omega), r0]; exact h0
    · rw [hat0, if_pos (by omega), hat 135, if_pos (by omega), r0, r135]
    · unfold rst; rw [hat 1, if_pos (by omega), r1]; exact by_t ht
    · unfold rsi; rw [hat 2, if_pos (by omega), r2]; exact by_i2 hi
  refine ⟨fun q hq5 => ?_, fun d hd t' ht' hth k hk => ?_, full⟩
  · by_cases hqq : q = t % 5
    · subst hqq
      obtain ⟨⟨b1, b2, b3⟩, h⟩ := hR (t % 5) hq5
      refine ⟨⟨?_, ?_, ?_⟩, ?_⟩
      · unfold rst
        rw [hat 1]
        split
        · rw [r1, by_t ht]; exact ht
        · exact b1
      · unfold rsi
        rw [hat 2]
        split
        · rw [r2, by_i2 hi]; exact hi
        · exact b2
      · unfold rsi
        rw [hat 2]
        split
        · rw [r2, by_i2 hi]; exact by_i i hi
        · exact b3
      · intro hv
        by_cases hw0 : w = 0
        · subst hw0
          have hs : ∀ r, r < 136 → va_cpy R D 0 (19336 * (t % 5)) 0 (19336 * (t % 5) + r) = D (19336 * (t % 5) + r) := fun r _ => by rw [hat r, if_neg (by omega)]
          obtain ⟨e1, e2, e3⟩ := rec_same hs
          rw [e2, e3]
          rcases h (e1.mp hv) with h | ⟨g1, g2, g3⟩
          · exact Or.inl h
          · refine Or.inr ⟨g1, g2, fun k hk => ?_⟩
            rw [show 19336 * (t % 5) + 3 + k = 19336 * (t % 5) + (3 + k) by omega, hs (3 + k) (by omega), ← Nat.add_assoc]
            exact g3 k hk
        · by_cases hw6 : w = 136
          · obtain ⟨-, f2, f3⟩ := full hw6
            rw [f2, f3]
            refine Or.inr ⟨hq, rfl, fun k hk => ?_⟩
            rw [show 19336 * (t % 5) + 3 + k = 19336 * (t % 5) + (3 + k) by omega, hat (3 + k), if_pos (by omega)]
            exact r3 k hk
          · exfalso
            have h1 := hv.2
            rw [hat0, if_pos (by omega), hat 135, if_neg (by omega), r0] at h1
            exact hm h1
    · have hs : ∀ r, r < 136 → va_cpy R D 0 (19336 * (t % 5)) w (19336 * q + r) = D (19336 * q + r) := fun r hr => cp_ll hw hr hqq
      obtain ⟨⟨b1, b2, b3⟩, h⟩ := hR q hq5
      obtain ⟨e1, e2, e3⟩ := rec_same hs
      rw [e2, e3, hs 2 (by decide)]
      refine ⟨⟨b1, b2, b3⟩, fun hv => ?_⟩
      rcases h (e1.mp hv) with h | ⟨g1, g2, g3⟩
      · exact Or.inl h
      · refine Or.inr ⟨g1, g2, fun k hk => ?_⟩
        rw [show 19336 * q + 3 + k = 19336 * q + (3 + k) by omega, hs (3 + k) (by omega), ← Nat.add_assoc]
        exact g3 k hk
  · rw [cp_lat ht' hk hw]
    exact hO d hd t' ht' hth k hk
/-- all is as it ought to be but perhaps the parity of stripe t -/
def Off1 (D M : Nat → Int8) (sk : Nat) (nw : Bool) (rb t : Nat) : Prop := ∀ d, d < 5 → ∀ t', t' < 150 → thr sk nw rb d t' = true → ¬ (d = t % 5 ∧ t' = t) → ∀ k, k < 128 → D (atN d t' + k) = idl M d t' k
theorem Off1.off {t i : Nat} (h : Off1 D M sk nw rb t) (hF : RecF D M t i) (hp : thr sk nw rb (dO t i) t = true) : OffI D M sk nw rb := by
  intro d hd t' ht' hth
  by_cases hh : d = t % 5 ∧ t' = t
  · obtain ⟨rfl, rfl⟩ := hh
    obtain ⟨f1, f2, f3⟩ := hF
    exact Or.inl ⟨rfl, f1, f2, by rw [f3]; exact hp⟩
  · exact Or.inr (h d hd t' ht' hth hh)
theorem RecF.keep {t i : Nat} (h : RecF D M t i) (hL : ∀ r, r < 136 → D' (19336 * (t % 5) + r) = D (19336 * (t % 5) + r)) : RecF D' M' t i := by
  obtain ⟨e1, e2, e3⟩ := rec_same hL
  obtain ⟨f1, f2, f3⟩ := h
  exact ⟨e1.mpr f1, by rw [e2]; exact f2, by rw [e3]; exact f3⟩
/-- the block is written behind its record -/
theorem p_E3 {F : Nat → Int8} {t i w : Nat} (hR : RecI D M sk nw rb) (hO : OnI D M sk nw rb) (hF : RecF D M t i) (ht : t < 150) (hi : i < 4) (hw : w ≤ 128) :
    RecI (va_cpy F D 0 (atN (dO t i) t) w) (va_cpy F M 0 (128 * (4 * t + i)) w) sk nw rb ∧ Off1 (va_cpy F D 0 (atN (dO t i) t) w) (va_cpy F M 0 (128 * (4 * t + i)) w) sk nw rb t ∧ RecF (va_cpy F D 0 (atN (dO t i) t) w) (va_cpy F M 0 (128 * (4 * t + i)) w) t i := by
  refine ⟨hR.keep (fun q _ r hr => cp_log (dO_lt hi) ht hw hr) (fun q _ h1 h2 k hk => oacc_w hi hk hw ?_), fun d hd t' ht' hth hne k hk => ?_, hF.keep (fun r hr => cp_log (dO_lt hi) ht hw hr)⟩
  · rintro ⟨e1, e2⟩
    obtain ⟨-, -, f3⟩ := hF
    rw [e1] at h2
    rw [h2] at f3
    exact e2 f3
  · by_cases hh : d = dO t i ∧ t' = t
    · obtain ⟨rfl, rfl⟩ := hh
      rw [cp_hit, idl_dO, mD_w hi hi hk hw]
      by_cases h2 : k < w
      · rw [if_pos h2, if_pos ⟨rfl, rfl, h2⟩]
      · rw [if_neg h2, if_neg (fun h => h2 h.2.2), hO _ hd _ ht' hth k hk, idl_dO]
    · rw [cp_at (dO_lt hi) ht hd ht' hk hw hh, hO d hd t' ht' hth k hk, idl_w hi hd hk hw hh hne]
/-- then the parity -/
theorem p_E4 {P : Nat → Int8} {t i w : Nat} (hR : RecI D M sk nw rb) (hO : Off1 D M sk nw rb t) (hF : RecF D M t i) (ht : t < 150) (hw : w ≤ 128) :
    RecI (va_cpy P D 0 (atN (t % 5) t) w) M sk nw rb ∧ Off1 (va_cpy P D 0 (atN (t % 5) t) w) M sk nw rb t ∧ RecF (va_cpy P D 0 (atN (t % 5) t) w) M t i ∧ (w = 128 → (∀ k, k < 128 → P k = par M t k) → OnI (va_cpy P D 0 (atN (t % 5) t) w) M sk nw rb) := by
  have h5 : t % 5 < 5 := by omega
  have hof : Off1 (va_cpy P D 0 (atN (t % 5) t) w) M sk nw rb t := fun d hd t' ht' hth hne k hk => by
    rw [cp_at h5 ht hd ht' hk hw hne]
    exact hO d hd t' ht' hth hne k hk
  refine ⟨hR.keep (fun q _ r hr => cp_log h5 ht hw hr) (fun _ _ _ _ _ _ => rfl), hof, hF.keep (fun r hr => cp_log h5 ht hw hr), fun hw2 hP d hd t' ht' hth k hk => ?_⟩
  by_cases hh : d = t % 5 ∧ t' = t
  · obtain ⟨rfl, rfl⟩ := hh
    rw [cp_hit, if_pos (by omega), hP k hk, idl_par]
  · exact hof d hd t' ht' hth hh k hk
theorem par_w {F : Nat → Int8} {t i k : Nat} {w : Nat} (hi : i < 4) (hk : k < 128) (hw : w ≤ 128) : par (va_cpy F M 0 (128 * (4 * t + i)) w) t k = if k < w then oacc M t i k 4 ^^^ F k else par M t k := by
  rw [← oacc_par _ t i k hi, oacc_w hi hk hw (fun h => h.2 rfl), mD_w hi hi hk hw]
  by_cases h : k < w
  · rw [if_pos h, if_pos ⟨rfl, rfl, h⟩]
  · rw [if_neg h, if_neg (fun g => h g.2.2), oacc_par _ t i k hi]
/-- the block isn't there: its parity alone is written, behind the record -/
theorem p_E5 {F P : Nat → Int8} {t i w : Nat} (hR : RecI D M sk nw rb) (hO : OnI D M sk nw rb) (hF : RecF D M t i) (ht : t < 150) (hi : i < 4) (hw : w ≤ 128) (hp : thr sk nw rb (dO t i) t = false) (hP : ∀ k, k < 128 → P k = oacc M t i k 4 ^^^ F k) (hq : thr sk nw rb (t % 5) t = true) :
    RecI (va_cpy P D 0 (atN (t % 5) t) w) (va_cpy F M 0 (128 * (4 * t + i)) w) sk nw rb ∧ OnI (va_cpy P D 0 (atN (t % 5) t) w) (va_cpy F M 0 (128 * (4 * t + i)) w) sk nw rb := by
  have h5 : t % 5 < 5 := by omega
  refine ⟨hR.keep (fun q _ r hr => cp_log h5 ht hw hr) (fun q _ h1 h2 k hk => oacc_w hi hk hw ?_), fun d hd t' ht' hth k hk => ?_⟩
  · rintro ⟨e1, e2⟩
    obtain ⟨-, -, f3⟩ := hF
    rw [e1] at h2
    rw [h2] at f3
    exact e2 f3
  · by_cases hh : d = t % 5 ∧ t' = t
    · obtain ⟨rfl, rfl⟩ := hh
      rw [cp_hit, idl_par, par_w hi hk hw]
      by_cases h2 : k < w
      · rw [if_pos h2, if_pos h2, hP k hk]
      · rw [if_neg h2, if_neg h2, hO _ hd _ ht' hth k hk, idl_par]
    · rw [cp_at h5 ht hd ht' hk hw hh, hO d hd t' ht' hth k hk, idl_w hi hd hk hw (fun g => ?_) hh]
      rw [g.1, g.2, hp] at hth
      cases hth
end PW
end
section
/-! the plain law, its third part: a disk dies, is replaced, rebuilt; recover; check; the start -/
section PX
variable {D D' M : Nat → Int8} {sk : Nat} {nw : Bool} {rb : Nat}
theorem p_die {d : Nat} (hd : d < 5) (hR : RecI D M 5 false 0) (hO : OnI D M 5 false 0) : RecI D M d false 0 ∧ OnI D M d false 0 ∧ CfgI d false 0 := by
  refine ⟨fun q hq => ?_, fun e he t ht _ k hk => ?_, by omega, by decide, fun _ => rfl, fun _ => rfl⟩
  · obtain ⟨b, h⟩ := hR q hq
    refine ⟨b, fun hv => ?_⟩
    by_cases hqd : q = d
    · exact Or.inl ⟨hqd, rfl⟩
    · rcases h hv with h | ⟨-, h2, h3⟩
      · omega
      · exact Or.inr ⟨thr_t.mpr (Or.inl hqd), h2, h3⟩
  · exact hO e he t ht (thr_t.mpr (Or.inl (by omega))) k hk
theorem p_rep_thr {d t : Nat} : thr sk true 0 d t = thr sk false 0 d t := by simp [thr]
theorem p_rep (hsk : sk < 5) (h1 : ∀ j, j < 19336 → D' (19336 * sk + j) = 0) (h2 : ∀ i, (i < 19336 * sk ∨ 19336 * sk + 19336 ≤ i) → D' i = D i) (hR : RecI D M sk false 0) :
    RecI D' M sk true 0 ∧ CfgI sk true 0 ∧ (OnI D M sk false 0 → OnI D' M sk true 0) ∧ (OffI D M sk false 0 → OffI D' M sk true 0) := by
  have hat : ∀ d t k, ¬ d = sk → t < 150 → k < 128 → D' (atN d t + k) = D (atN d t + k) := by
    intro d t k hd ht hk
    refine h2 _ ?_
    unfold atN
    rcases Nat.lt_or_gt_of_ne hd with h | h
    · left; omega
    · right; omega
  have hlg : ∀ q, ¬ q = sk → ∀ r, r < 136 → D' (19336 * q + r) = D (19336 * q + r) := by
    intro q hq r hr
    refine h2 _ ?_
    rcases Nat.lt_or_gt_of_ne hq with h | h
    · left; omega
    · right; omega
  have hth : ∀ d t, thr sk false 0 d t = true → ¬ d = sk := fun d t h => by
    rcases thr_t.mp h with h | ⟨h, -⟩
    · exact h
    · cases h
  refine ⟨fun q hq => ?_, ⟨by omega, by decide, fun h => by omega, fun _ => rfl⟩, fun hO d hd t ht h k hk => ?_, fun hO d hd t ht h => ?_⟩
  · by_cases hqs : q = sk
    · subst hqs
      have e0 : D' (19336 * q) = 0 := h1 0 (by decide)
      have e1 : D' (19336 * q + 1) = 0 := h1 1 (by decide)
      have e2 : D' (19336 * q + 2) = 0 := h1 2 (by decide)
      refine ⟨⟨?_, ?_, ?_⟩, fun hv => absurd e0 hv.1⟩
      · unfold rst; rw [e1]; decide
      · unfold rsi; rw [e2]; decide
      · unfold rsi; rw [e2]; decide
    · obtain ⟨⟨b1, b2, b3⟩, h⟩ := hR q hq
      obtain ⟨e1, e2, e3⟩ := rec_same (hlg q hqs)
      rw [e2, e3, hlg q hqs 2 (by decide)]
      refine ⟨⟨b1, b2, b3⟩, fun hv => ?_⟩
      rcases h (e1.mp hv) with h | ⟨g1, g2, g3⟩
      · exact absurd h.1 hqs
      · refine Or.inr ⟨thr_t.mpr (Or.inl hqs), g2, fun k hk => ?_⟩
        rw [show 19336 * q + 3 + k = 19336 * q + (3 + k) by omega, hlg q hqs (3 + k) (by omega), ← Nat.add_assoc]
        exact g3 k hk
  · rw [p_rep_thr] at h
    rw [hat d t k (hth d t h) ht hk]
    exact hO d hd t ht h k hk
  · rw [p_rep_thr] at h
    rcases hO d hd t ht h with ⟨c1, c2, c3, c4⟩ | g
    · obtain ⟨e1, e2, e3⟩ := rec_same (hlg d (hth d t h))
      exact Or.inl ⟨c1, e1.mpr c2, by rw [e2]; exact c3, by rw [e3, p_rep_thr]; exact c4⟩
    · refine Or.inr (fun k hk => ?_)
      rw [hat d t k (hth d t h) ht hk]
      exact g k hk
theorem p_reb {Y : Nat → Int8} (hsk : sk < 5) (hrb : rb < 150) (hY : ∀ j, j < 128 → Y j = xacc D sk rb j 5) (hR : RecI D M sk true rb) (hO : OnI D M sk true rb) :
    RecI (va_cpy Y D 0 (atN sk rb) 128) M (if rb + 1 < 150 then sk else 5) (decide (rb + 1 < 150)) (if rb + 1 < 150 then rb + 1 else 0) ∧ OnI (va_cpy Y D 0 (atN sk rb) 128) M (if rb + 1 < 150 then sk else 5) (decide (rb + 1 < 150)) (if rb + 1 < 150 then rb + 1 else 0) ∧ CfgI (if rb + 1 < 150 then sk else 5) (decide (rb + 1 < 150)) (if rb + 1 < 150 then rb + 1 else 0) := by
  have hYi : ∀ k, k < 128 → Y k = idl M sk rb k := fun k hk => by
    rw [hY k hk]
    exact (xacc_idl (fun e he hne => hO e he rb hrb (thr_t.mpr (Or.inl hne)) k hk)).1 hsk
  have hth : ∀ d t, d < 5 → t < 150 → thr (if rb + 1 < 150 then sk else 5) (decide (rb + 1 < 150)) (if rb + 1 < 150 then rb + 1 else 0) d t = true → ¬ (d = sk ∧ t = rb) → thr sk true rb d t = true := by
    intro d t hd ht h hne
    by_cases hd2 : d = sk
    · by_cases hc : rb + 1 < 150
      · rw [if_pos hc, if_pos hc, decide_eq_true hc] at h
        rcases thr_t.mp h with h | ⟨-, h⟩
        · exact absurd hd2 h
        · exact thr_t.mpr (Or.inr ⟨rfl, by omega⟩)
      · exact thr_t.mpr (Or.inr ⟨rfl, by omega⟩)
    · exact thr_t.mpr (Or.inl hd2)
  have hth2 : ∀ d t, t < 150 → thr sk true rb d t = true → d < 5 → thr (if rb + 1 < 150 then sk else 5) (decide (rb + 1 < 150)) (if rb + 1 < 150 then rb + 1 else 0) d t = true := by
    intro d t ht h hd
    by_cases hc : rb + 1 < 150
    · rw [if_pos hc, if_pos hc, decide_eq_true hc]
      rcases thr_t.mp h with h | ⟨-, h⟩
      · exact thr_t.mpr (Or.inl h)
      · exact thr_t.mpr (Or.inr ⟨rfl, by omega⟩)
    · rw [if_neg hc]
      exact thr_t.mpr (Or.inl (by omega))
  refine ⟨fun q hq => ?_, fun d hd t ht h k hk => ?_, ?_⟩
  · have hlg : ∀ r, r < 136 → va_cpy Y D 0 (atN sk rb) 128 (19336 * q + r) = D (19336 * q + r) := fun r hr => cp_log hsk hrb (by decide) hr
    obtain ⟨⟨b1, b2, b3⟩, h⟩ := hR q hq
    obtain ⟨e1, e2, e3⟩ := rec_same hlg
    rw [e2, e3, hlg 2 (by decide)]
    refine ⟨⟨b1, b2, b3⟩, fun hv => ?_⟩
    rcases h (e1.mp hv) with h | ⟨g1, g2, g3⟩
    · exact absurd h.2 (by decide)
    · refine Or.inr ⟨hth2 q _ b1 g1 hq, g2, fun k hk => ?_⟩
      rw [show 19336 * q + 3 + k = 19336 * q + (3 + k) by omega, hlg (3 + k) (by omega), ← Nat.add_assoc]
      exact g3 k hk
  · by_cases hh : d = sk ∧ t = rb
    · obtain ⟨rfl, rfl⟩ := hh
      rw [cp_hit, if_pos hk]
      exact hYi k hk
    · rw [cp_at hsk hrb hd ht hk (by decide) hh]
      exact hO d hd t ht (hth d t hd ht h hh) k hk
  · by_cases hc : rb + 1 < 150
    · rw [if_pos hc, if_pos hc, decide_eq_true hc]
      exact ⟨by omega, by omega, fun h => by omega, fun h => by cases h⟩
    · rw [if_neg hc, if_neg hc, decide_eq_false hc]
      exact ⟨by decide, by decide, fun _ => rfl, fun _ => rfl⟩
theorem p_chk (hO : OnI D M 5 false 0) : ∀ t, t < 150 → ∀ j, j < 128 → xacc D 5 t j 5 = 0 := fun t ht j hj =>
  (xacc_idl (fun e he _ => hO e he t ht (thr_t.mpr (Or.inl (by omega))) j hj)).2 rfl
/-- recover: the disks below q are as they ought to be -/
def OnU (D M : Nat → Int8) (sk : Nat) (nw : Bool) (rb q0 : Nat) : Prop := ∀ d, d < q0 → ∀ t, t < 150 → thr sk nw rb d t = true → ∀ k, k < 128 → D (atN d t + k) = idl M d t k
theorem OnU.up {q : Nat} (h : OnU D M sk nw rb q) (hq : ∀ t, t < 150 → thr sk nw rb q t = true → ∀ k, k < 128 → D (atN q t + k) = idl M q t k) : OnU D M sk nw rb (q + 1) := by
  intro d hd t ht hth k hk
  by_cases e : d = q
  · subst e; exact hq t ht hth k hk
  · exact h d (by omega) t ht hth k hk
theorem p_skip {q : Nat} (hq : q < 5) (hO : OffI D M sk nw rb) (hc : ¬ (rvl D q ∧ thr sk nw rb q (rst D q) = true ∧ thr sk nw rb (dO (rst D q) (rsi D q)) (rst D q) = true)) : ∀ t, t < 150 → thr sk nw rb q t = true → ∀ k, k < 128 → D (atN q t + k) = idl M q t k := by
  intro t ht hth
  rcases hO q hq t ht hth with ⟨c1, c2, c3, c4⟩ | h
  · subst c3
    exact absurd ⟨c2, hth, c4⟩ hc
  · exact h
theorem p_part {q : Nat} (hq : q < 5) (hR : RecI D M sk nw rb) (hO : OffI D M sk nw rb) (h1 : rvl D q) (h2 : thr sk nw rb q (rst D q) = true) (h3 : thr sk nw rb (dO (rst D q) (rsi D q)) (rst D q) = true) :
    rst D q % 5 = q ∧ ∀ k, k < 128 → D (19336 * q + 3 + k) ^^^ D (atN (dO (rst D q) (rsi D q)) (rst D q) + k) = par M (rst D q) k := by
  obtain ⟨⟨b1, b2, b3⟩, h⟩ := hR q hq
  rcases h h1 with ⟨e1, e2⟩ | ⟨-, g2, g3⟩
  · exfalso
    rcases thr_t.mp h2 with h | ⟨h, -⟩
    · exact h e1
    · rw [e2] at h; cases h
  · refine ⟨g2, fun k hk => ?_⟩
    rw [g3 k hk]
    rcases hO _ (dO_lt b2) _ b1 h3 with ⟨c1, -⟩ | h
    · exact absurd c1 dO_ne
    · rw [h k hk, idl_dO, oacc_par _ _ _ _ b2]
theorem p_same {q : Nat} (hq : q < 5) (hO : OffI D M sk nw rb) (hm : rst D q % 5 = q) (hs : ∀ k, k < 128 → D (atN q (rst D q) + k) = par M (rst D q) k) : ∀ t, t < 150 → thr sk nw rb q t = true → ∀ k, k < 128 → D (atN q t + k) = idl M q t k := by
  intro t ht hth k hk
  by_cases e : t = rst D q
  · subst e
    rw [hs k hk]
    unfold idl
    rw [if_pos hm.symm]
  · rcases hO q hq t ht hth with ⟨-, -, c3, -⟩ | h
    · exact absurd c3.symm e
    · exact h k hk
theorem p_wr {P : Nat → Int8} {q w : Nat} (hq : q < 5) (hR : RecI D M sk nw rb) (hO : OffI D M sk nw rb) (hU : OnU D M sk nw rb q) (hw : w ≤ 128) (h1 : rvl D q) (h3 : thr sk nw rb (dO (rst D q) (rsi D q)) (rst D q) = true) (hm : rst D q % 5 = q) (hP : ∀ k, k < 128 → P k = par M (rst D q) k) :
    RecI (va_cpy P D 0 (atN q (rst D q)) w) M sk nw rb ∧ OffI (va_cpy P D 0 (atN q (rst D q)) w) M sk nw rb ∧ (w = 128 → OnU (va_cpy P D 0 (atN q (rst D q)) w) M sk nw rb (q + 1)) := by
  have b1 := (hR q hq).1.1
  have hlg : ∀ q', ∀ r, r < 136 → va_cpy P D 0 (atN q (rst D q)) w (19336 * q' + r) = D (19336 * q' + r) := fun q' r hr => cp_log hq b1 hw hr
  have hof : OffI (va_cpy P D 0 (atN q (rst D q)) w) M sk nw rb := by
    intro d hd t ht hth
    obtain ⟨e1, e2, e3⟩ := rec_same (hlg d)
    by_cases hh : d = q ∧ t = rst D q
    · obtain ⟨rfl, rfl⟩ := hh
      exact Or.inl ⟨hm.symm, e1.mpr h1, e2, by rw [e3]; exact h3⟩
    · rcases hO d hd t ht hth with ⟨c1, c2, c3, c4⟩ | h
      · exact Or.inl ⟨c1, e1.mpr c2, by rw [e2]; exact c3, by rw [e3]; exact c4⟩
      · refine Or.inr (fun k hk => ?_)
        rw [cp_at hq b1 hd ht hk hw hh]
        exact h k hk
  refine ⟨hR.keep (fun q' _ r hr => hlg q' r hr) (fun _ _ _ _ _ _ => rfl), hof, fun hw2 => OnU.up (fun d hd t ht hth k hk => ?_) (fun t ht hth k hk => ?_)⟩
  · rw [cp_at hq b1 (by omega) ht hk hw (by omega)]
    exact hU d hd t ht hth k hk
  · by_cases e : t = rst D q
    · subst e
      rw [cp_hit, if_pos (by omega), hP k hk]
      unfold idl
      rw [if_pos hm.symm]
    · rw [cp_at hq b1 hq ht hk hw (by omega)]
      rcases hO q hq t ht hth with ⟨-, -, c3, -⟩ | h
      · exact absurd c3.symm e
      · exact h k hk
/-- the start: nothing but noughts -/
theorem p_start : RecI (fun _ => 0) (fun _ => 0) 5 false 0 ∧ OnI (fun _ => 0) (fun _ => 0) 5 false 0 ∧ CfgI 5 false 0 := by
  refine ⟨fun q hq => ⟨⟨?_, ?_, ?_⟩, fun hv => absurd rfl hv.1⟩, fun d hd t ht _ k hk => ?_, by decide, by decide, fun _ => rfl, fun _ => rfl⟩
  · show ((0 : Int8).toInt32 &&& 255).toNatClampNeg < 150; decide
  · show (0 : Int8).toInt32.toNatClampNeg < 4; decide
  · show (0 : Int8).toInt32 = nI (0 : Int8).toInt32.toNatClampNeg; decide
  · unfold idl par mD
    split
    · show (0 : Int8) = 0 ^^^ 0 ^^^ 0 ^^^ 0; decide
    · rfl
end PX
end
section
/-! Array5.write(n, from, lasting): a block is set, its parity with it, behind a record -/
section XT
variable {p : Program} {l : Launch} {e : Env} {R : Room} {s : State} {m : MethodId} {args : Array Value} {below : List Frame} {meth : Method} {c : Code} {H : Heap} {locs : List Loc} {cells slots : Nat} {Q : State → Prop}
theorem zx_TW {k n : Nat} {g : JFrame} {x : Addr} (h1 : cells ≤ k) (h2 : slots ≤ n) (kk : WT p l e R s m args below meth c H locs k n Q g x) : WT p l e R s m args below meth c H locs cells slots Q g x := fun T hT X => kk T hT (stand_widen X h1 h2)
end XT
/-- how many bytes of the block are new -/
def nowN (am : Bool) (L b : Nat) (wh : Bool) : Nat := if am = true then (if L < (if wh = true then 1 else 0) then 0 else if (if wh = true then 1 else 0) < L then 128 else min b 128) else 128
section NW
variable {am : Bool} {lf : Int32} {L b : Nat} (hlf : am = true → lf = nI L ∧ L < 2 ^ 30)
theorem nw_lf {am : Bool} {lf : Int32} {L : Nat} (hlf : am = true → lf = nI L ∧ L < 2 ^ 30) (ha : am = true) : lf = 0 ↔ L = 0 := by
  obtain ⟨rfl, h⟩ := hlf ha
  exact (nI_eq (b := 0) (by omega) (by decide))
theorem nw_lf1 {am : Bool} {lf : Int32} {L : Nat} (hlf : am = true → lf = nI L ∧ L < 2 ^ 30) (ha : am = true) (h0 : ¬ L = 0) : (if am = true then lf - 1 else lf) = nI (L - 1) := by
  obtain ⟨rfl, h⟩ := hlf ha
  rw [if_pos ha]
  obtain ⟨k, rfl⟩ : ∃ k, L = k + 1 := ⟨L - 1, by omega⟩
  rw [nI_pred]
  rfl
theorem nw_a {am : Bool} {lf : Int32} {L b : Nat} (hlf : am = true → lf = nI L ∧ L < 2 ^ 30) (h : ¬ (am = true ∧ lf = 0)) : nowN am L b false = 128 := by
  unfold nowN
  by_cases ha : am = true
  · have : ¬ L = 0 := fun hL9 => h ⟨ha, (nw_lf hlf ha).mpr hL9⟩
    rw [if_pos ha, if_neg (by simp), if_pos (by simp; omega)]
  · rw [if_neg ha]
theorem nw_b {am : Bool} {lf : Int32} {L b : Nat} (hlf : am = true → lf = nI L ∧ L < 2 ^ 30) (h : am = true ∧ lf = 0) : nowN am L b false = min b 128 ∧ nowN am L b true = 0 := by
  obtain ⟨ha, h0⟩ := h
  have hL := (nw_lf hlf ha).mp h0
  subst hL
  unfold nowN
  exact ⟨by rw [if_pos ha, if_neg (by simp), if_neg (by simp)], by rw [if_pos ha, if_pos (by simp)]⟩
theorem nw_c {am : Bool} {lf : Int32} {L b : Nat} (hlf : am = true → lf = nI L ∧ L < 2 ^ 30) (h : ¬ (am = true ∧ lf = 0)) (h2 : am = true ∧ (if am = true then lf - 1 else lf) = 0) : nowN am L b true = min b 128 := by
  obtain ⟨ha, h1⟩ := h2
  have h0 : ¬ L = 0 := fun hL9 => h ⟨ha, (nw_lf hlf ha).mpr hL9⟩
  have hb := (hlf ha).2
  rw [nw_lf1 hlf ha h0] at h1
  have h3 : L - 1 = 0 := (nI_eq (b := 0) (by omega) (by decide)).mp h1
  obtain rfl : L = 1 := by omega
  unfold nowN
  rw [if_pos ha, if_neg (by simp), if_neg (by simp)]
theorem nw_d {am : Bool} {lf : Int32} {L b : Nat} (hlf : am = true → lf = nI L ∧ L < 2 ^ 30) (h : ¬ (am = true ∧ lf = 0)) (h2 : ¬ (am = true ∧ (if am = true then lf - 1 else lf) = 0)) : nowN am L b true = 128 := by
  unfold nowN
  by_cases ha : am = true
  · have h0 : ¬ L = 0 := fun hL9 => h ⟨ha, (nw_lf hlf ha).mpr hL9⟩
    have hb := (hlf ha).2
    have h3 : ¬ L - 1 = 0 := fun h4 => h2 ⟨ha, by rw [nw_lf1 hlf ha h0, h4]; rfl⟩
    rw [if_pos ha, if_neg (by simp; omega), if_pos (by simp; omega)]
  · rw [if_neg ha]
end NW
theorem cp_0 (F M : Nat → Int8) (a : Nat) : va_cpy F M 0 a 0 = M := by
  funext x
  exact if_neg (by omega)
theorem zl_ox {Y O M : Nat → Int8} {t i j k : Nat} (hne : ¬ j = i) (hY : ∀ x, x < 128 → Y x = if x < k then oacc M t i x (j + 1) else oacc M t i x j) (hO : ∀ x, x < 128 → O x = mD M t j x) (hk : k < 128) : ∀ x, x < 128 → ub Y k ((((Y k).toInt32 ^^^ (O k).toInt32).toInt8.toInt32).toInt8) x = if x < k + 1 then oacc M t i x (j + 1) else oacc M t i x j := by
  intro x hx
  unfold ub
  by_cases h : x = k
  · subst h
    rw [if_pos rfl, zb_xor, if_pos (by omega), hY x hx, if_neg (by omega), hO x hx]
    simp [oacc, hne]
  · rw [if_neg h, hY x hx]
    by_cases h2 : x < k
    · rw [if_pos h2, if_pos (by omega)]
    · rw [if_neg h2, if_neg (by omega)]
theorem zl_px {P Y F : Nat → Int8} {k : Nat} (hP : ∀ x, x < 128 → P x = if x < k then Y x ^^^ F x else Y x) (hk : k < 128) : ∀ x, x < 128 → ub P k ((((P k).toInt32 ^^^ (F k).toInt32).toInt8.toInt32).toInt8) x = if x < k + 1 then Y x ^^^ F x else Y x := by
  intro x hx
  unfold ub
  by_cases h : x = k
  · subst h
    rw [if_pos rfl, zb_xor, if_pos (by omega), hP x hx, if_neg (by omega)]
  · rw [if_neg h, hP x hx]
    by_cases h2 : x < k
    · rw [if_pos h2, if_pos (by omega)]
    · rw [if_neg h2, if_neg (by omega)]
theorem zl_rec {X Y M : Nat → Int8} {t i : Nat} {mk : Int32} (hY : ∀ x, x < 128 → Y x = oacc M t i x 4) : isRec (ub (va_cpy Y (ub (ub (ub X 0 (mk.toInt8.toInt32).toInt8) 1 ((nI t).toInt8.toInt32).toInt8) 2 ((nI i).toInt8.toInt32).toInt8) 0 3 128) 135 (mk.toInt8.toInt32).toInt8) M t i mk.toInt8 := by
  simp only [Int8.toInt8_toInt32]
  refine ⟨?_, ?_, ?_, ?_, fun k hk => ?_⟩
  · simp [ub, va_cpy]
  · simp [ub]
  · simp [ub, va_cpy]
  · simp [ub, va_cpy]
  · unfold ub
    rw [if_neg (by omega), cp_hit, if_pos hk]
    exact hY k hk
set_option maxHeartbeats 4000000 in
set_option maxRecDepth 20000 in
theorem zc_A5_write3 (l : Launch) (G : xG) {H0 : Heap} {A : Nat → Prop} (ar dk on pt rc pw sk rb : Nat) (nw la : Bool) (fr t i b L : Nat) (wn lf : Int32) (am bh : Bool) (D X1 X2 X3 Fb M : Nat → Int8) (wr : va_W) (hfl : l.flags = flags0) (h1 : ¬ wn = 1) (h2 : ¬ wn = 2) (ht : t < 150) (hi : i < 4) (hb0 : b < 2 ^ 31) (hrb : rb < 150) (hR : RecI D M sk nw rb) (hO : OnI D M sk nw rb) (hlf : am = true → lf = nI L ∧ L < 2 ^ 30) (hP : va_P G.1 zcl ([(ar, eA5 dk on pt rc pw (sI sk) (nI rb) nw la), (pw, ePw wn lf (nI b) am bh), (dk, eB G 96680 D), (on, eB G 128 X1), (pt, eB G 128 X2), (rc, eB G 136 X3), (fr, eB G 128 Fb)] ++ wr) H0) (hD : va_D A ([(ar, eA5 dk on pt rc pw (sI sk) (nI rb) nw la), (pw, ePw wn lf (nI b) am bh), (dk, eB G 96680 D), (on, eB G 128 X1), (pt, eB G 128 X2), (rc, eB G 136 X3), (fr, eB G 128 Fb)] ++ wr)) : XM l G (rmz 10 280 3 18) zy_A5_write3 zb_A5_write3 11 none [] H0 A [.ref ar, .int (nI (4 * t + i)), .ref fr, .int 0] 3 18 (fun v H => v = none ∧ ∃ (D9 Y1 Y2 Y3 : Nat → Int8) (lf9 : Int32), RecI D9 (va_cpy Fb M 0 (128 * (4 * t + i)) (nowN am L b (thr sk nw rb (t % 5) t))) sk nw rb ∧ OffI D9 (va_cpy Fb M 0 (128 * (4 * t + i)) (nowN am L b (thr sk nw rb (t % 5) t))) sk nw rb ∧ (am = false → OnI D9 (va_cpy Fb M 0 (128 * (4 * t + i)) (nowN am L b (thr sk nw rb (t % 5) t))) sk nw rb) ∧ va_P G.1 zcl ([(ar, eA5 dk on pt rc pw (sI sk) (nI rb) nw la), (pw, ePw wn lf9 (nI b) am bh), (dk, eB G 96680 D9), (on, eB G 128 Y1), (pt, eB G 128 Y2), (rc, eB G 136 Y3), (fr, eB G 128 Fb)] ++ wr) H) (fun x H => am = true ∧ xE (gAr G) x H ∧ ∃ (D9 Y1 Y2 Y3 : Nat → Int8) (lf9 : Int32), RecI D9 (va_cpy Fb M 0 (128 * (4 * t + i)) (nowN am L b (thr sk nw rb (t % 5) t))) sk nw rb ∧ OffI D9 (va_cpy Fb M 0 (128 * (4 * t + i)) (nowN am L b (thr sk nw rb (t % 5) t))) sk nw rb ∧ (am = false → OnI D9 (va_cpy Fb M 0 (128 * (4 * t + i)) (nowN am L b (thr sk nw rb (t % 5) t))) sk nw rb) ∧ va_P G.1 zcl ([(ar, eA5 dk on pt rc pw (sI sk) (nI rb) nw la), (pw, ePw wn lf9 (nI b) am bh), (dk, eB G 96680 D9), (on, eB G 128 Y1), (pt, eB G 128 Y2), (rc, eB G 136 Y3), (fr, eB G 128 Fb)] ++ wr) H) := by
  intro p e s m below meth c F hT hK hH hZ
  subst hH
  have hx := F.1
  have hb := F.2.1
  have hS : va_S A s.heap s.heap [] := va_S.rf
  have hl := lv_entry ([.ref ar, .int (nI (4 * t + i)), .ref fr, .int 0]) (n := 11) (Nat.le_of_ble_eq_true rfl)
  rw [lg_entry_eq]
  generalize (lg_sl ([.ref ar, .int (nI (4 * t + i)), .ref fr, .int 0]) ++ List.replicate (11 - (lg_sl ([.ref ar, .int (nI (4 * t + i)), .ref fr, .int 0])).length) Slot.unset).toArray = ls at hl ⊢
  have hl : lv_has ls 11 [(0, .ref ar), (1, .int (nI (4 * t + i))), (2, .ref fr), (3, .int 0)] := hl
  have h5 : t % 5 < 5 := by omega
  refine lv_iload_n hx hb zd_A5_write3_0 rfl (lv_at hl 1 rfl) ?_
  refine lv_iconst (v := nI 4) hx hb zd_A5_write3_1 (by decide) ?_
  refine lv_idiv hx hb zd_A5_write3_2 (by decide) ?_
  refine zw_ti (nI t) (by rw [pk_div (by omega) (by decide) (by decide)]; congr 1; omega) ?_
  refine lv_istore hx hb zd_A5_write3_3 hl (by decide) rfl (fun ls hl => ?_)
  have hl : lv_has ls 11 [(4, _), (0, _), (1, _), (2, _), (3, _)] := hl
  refine lv_iload_n hx hb zd_A5_write3_5 rfl (lv_at hl 2 rfl) ?_
  refine lv_iconst (v := nI 3) hx hb zd_A5_write3_6 (by decide) ?_
  refine lv_iand hx hb zd_A5_write3_7 ?_
  refine zw_ti (nI i) (by rw [pk_andN (by omega) 2 (by decide)]; congr 1; omega) ?_
  refine lv_istore hx hb zd_A5_write3_8 hl (by decide) rfl (fun ls hl => ?_)
  have hl : lv_has ls 11 [(5, _), (4, _), (0, _), (1, _), (2, _), (3, _)] := hl
  refine lv_iload hx hb zd_A5_write3_10 (lv_at hl 1 rfl) ?_
  refine lv_iload hx hb zd_A5_write3_12 (lv_at hl 0 rfl) ?_
  refine zk_S F hT hK hZ hS hl.1 (zc_A5_diskOf l G t i (by omega) (by omega)) zl_A5_diskOf (zY_A5_diskOf hT) zq_249 zq_250 zq_3 zd_A5_write3_14 rfl ⟨rfl, rfl, Nat.le_of_ble_eq_true rfl, Nat.le_of_ble_eq_true rfl, Nat.le_of_ble_eq_true rfl, Nat.le_of_ble_eq_true rfl⟩ (fun v H locs hv hS => ?_) (fun x H locs hv hS => hv.elim)
  obtain ⟨rfl, rfl⟩ := hv
  refine zw_app ?_
  refine lv_istore hx hb zd_A5_write3_17 hl (by decide) rfl (fun ls hl => ?_)
  have hl : lv_has ls 11 [(6, _), (5, _), (4, _), (0, _), (1, _), (2, _), (3, _)] := hl
  refine lv_iload hx hb zd_A5_write3_19 (lv_at hl 2 rfl) ?_
  refine zk_S F hT hK hZ hS hl.1 (zc_A5_parityOf l G t (by omega)) zl_A5_parityOf (zY_A5_parityOf hT) zq_252 zq_253 zq_3 zd_A5_write3_21 rfl ⟨rfl, rfl, Nat.le_of_ble_eq_true rfl, Nat.le_of_ble_eq_true rfl, Nat.le_of_ble_eq_true rfl, Nat.le_of_ble_eq_true rfl⟩ (fun v H locs hv hS => ?_) (fun x H locs hv hS => hv.elim)
  obtain ⟨rfl, rfl⟩ := hv
  refine zw_app ?_
  refine lv_istore hx hb zd_A5_write3_24 hl (by decide) rfl (fun ls hl => ?_)
  have hl : lv_has ls 11 [(7, _), (6, _), (5, _), (4, _), (0, _), (1, _), (2, _), (3, _)] := hl
  refine lv_aload_n hx hb zd_A5_write3_26 rfl (lv_at hl 4 rfl) ?_
  refine lv_iload hx hb zd_A5_write3_27 (lv_at hl 0 rfl) ?_
  refine lv_iload hx hb zd_A5_write3_29 (lv_at hl 3 rfl) ?_
  refine zk_V F hT hK hZ hS hl.1 hP 0 rfl rfl rfl (zc_A5_isThere l G ar dk on pt rc pw sk rb (t % 5) t nw la _ h5 (by omega) (by omega) hP) zl_A5_isThere (zY_A5_isThere hT) zq_259 zq_261 zs_2 zd_A5_write3_31 rfl ⟨rfl, rfl, Nat.le_of_ble_eq_true rfl, Nat.le_of_ble_eq_true rfl, Nat.le_of_ble_eq_true rfl, Nat.le_of_ble_eq_true rfl⟩ (fun v H locs hv hS => ?_) (fun x H locs hv hS => hv.elim)
  obtain ⟨rfl, rfl⟩ := hv
  refine zw_app ?_
  refine lv_if_ne (tgt := 54) hx hb zd_A5_write3_34 rfl (fun hq => ?_) (fun hq => ?_)
  · have hq : thr sk nw rb (t % 5) t = true := by cases h : thr sk nw rb (t % 5) t with | true => rfl | false => rw [h] at hq; exact absurd rfl hq
    have hn0 := (nw_b (b := b) (lf := lf) hlf)
    have after : ∀ (R Y : Nat → Int8), RecI (va_cpy R D 0 (19336 * (t % 5)) 136) M sk nw rb → OnI (va_cpy R D 0 (19336 * (t % 5)) 136) M sk nw rb → RecF (va_cpy R D 0 (19336 * (t % 5)) 136) M t i → (∀ x, x < 128 → Y x = oacc M t i x 4) → ¬ (am = true ∧ lf = 0) → ∀ (O : Nat → Int8) (H : Heap) (locs : List Loc) (ls : Array Slot), va_P G.1 zcl ([(ar, eA5 dk on pt rc pw (sI sk) (nI rb) nw la), (pw, ePw wn (if am = true then lf - 1 else lf) (nI b) am bh), (dk, eB G 96680 (va_cpy R D 0 (19336 * (t % 5)) 136)), (on, eB G 128 O), (pt, eB G 128 Y), (rc, eB G 136 R), (fr, eB G 128 Fb)] ++ wr) H → va_S A s.heap H locs → lv_has ls 11 [(7, .int (nI (t % 5))), (6, .int (nI (dO t i))), (5, .int (nI i)), (4, .int (nI t)), (0, .ref ar), (1, .int (nI (4 * t + i))), (2, .ref fr), (3, .int 0)] → W p l e (rmz 10 280 3 18) s m ([.ref ar, .int (nI (4 * t + i)), .ref fr, .int 0] : List Value).toArray below meth c H locs 1 6 (xQ below s A 3 18 (fun v H => v = none ∧ ∃ (D9 Y1 Y2 Y3 : Nat → Int8) (lf9 : Int32), RecI D9 (va_cpy Fb M 0 (128 * (4 * t + i)) (nowN am L b (thr sk nw rb (t % 5) t))) sk nw rb ∧ OffI D9 (va_cpy Fb M 0 (128 * (4 * t + i)) (nowN am L b (thr sk nw rb (t % 5) t))) sk nw rb ∧ (am = false → OnI D9 (va_cpy Fb M 0 (128 * (4 * t + i)) (nowN am L b (thr sk nw rb (t % 5) t))) sk nw rb) ∧ va_P G.1 zcl ([(ar, eA5 dk on pt rc pw (sI sk) (nI rb) nw la), (pw, ePw wn lf9 (nI b) am bh), (dk, eB G 96680 D9), (on, eB G 128 Y1), (pt, eB G 128 Y2), (rc, eB G 136 Y3), (fr, eB G 128 Fb)] ++ wr) H) (fun x H => am = true ∧ xE (gAr G) x H ∧ ∃ (D9 Y1 Y2 Y3 : Nat → Int8) (lf9 : Int32), RecI D9 (va_cpy Fb M 0 (128 * (4 * t + i)) (nowN am L b (thr sk nw rb (t % 5) t))) sk nw rb ∧ OffI D9 (va_cpy Fb M 0 (128 * (4 * t + i)) (nowN am L b (thr sk nw rb (t % 5) t))) sk nw rb ∧ (am = false → OnI D9 (va_cpy Fb M 0 (128 * (4 * t + i)) (nowN am L b (thr sk nw rb (t % 5) t))) sk nw rb) ∧ va_P G.1 zcl ([(ar, eA5 dk on pt rc pw (sI sk) (nI rb) nw la), (pw, ePw wn lf9 (nI b) am bh), (dk, eB G 96680 D9), (on, eB G 128 Y1), (pt, eB G 128 Y2), (rc, eB G 136 Y3), (fr, eB G 128 Fb)] ++ wr) H)) (F0 m 260 ls []) := by
      intro R Y gR gO gF hY hncut0 O H locs ls hP hS hl
      have hD := zw_DP hD hP (by simp only [List.map_append, List.map_cons, List.map_nil])
      have nc := nw_c (b := b) hlf hncut0
      have nd := nw_d (b := b) hlf hncut0
      have tl : ∀ (P : Nat → Int8), (∀ x, x < 128 → P x = oacc M t i x 4 ^^^ Fb x) → ∀ (H : Heap) (locs : List Loc) (ls : Array Slot), va_P G.1 zcl ([(ar, eA5 dk on pt rc pw (sI sk) (nI rb) nw la), (pw, ePw wn (if am = true then lf - 1 else lf) (nI b) am bh), (dk, eB G 96680 (va_cpy R D 0 (19336 * (t % 5)) 136)), (on, eB G 128 O), (pt, eB G 128 P), (rc, eB G 136 R), (fr, eB G 128 Fb)] ++ wr) H → va_S A s.heap H locs → lv_has ls 11 [(7, .int (nI (t % 5))), (6, .int (nI (dO t i))), (5, .int (nI i)), (4, .int (nI t)), (0, .ref ar), (1, .int (nI (4 * t + i))), (2, .ref fr), (3, .int 0)] → W p l e (rmz 10 280 3 18) s m ([.ref ar, .int (nI (4 * t + i)), .ref fr, .int 0] : List Value).toArray below meth c H locs 1 6 (xQ below s A 3 18 (fun v H => v = none ∧ ∃ (D9 Y1 Y2 Y3 : Nat → Int8) (lf9 : Int32), RecI D9 (va_cpy Fb M 0 (128 * (4 * t + i)) (nowN am L b (thr sk nw rb (t % 5) t))) sk nw rb ∧ OffI D9 (va_cpy Fb M 0 (128 * (4 * t + i)) (nowN am L b (thr sk nw rb (t % 5) t))) sk nw rb ∧ (am = false → OnI D9 (va_cpy Fb M 0 (128 * (4 * t + i)) (nowN am L b (thr sk nw rb (t % 5) t))) sk nw rb) ∧ va_P G.1 zcl ([(ar, eA5 dk on pt rc pw (sI sk) (nI rb) nw la), (pw, ePw wn lf9 (nI b) am bh), (dk, eB G 96680 D9), (on, eB G 128 Y1), (pt, eB G 128 Y2), (rc, eB G 136 Y3), (fr, eB G 128 Fb)] ++ wr) H) (fun x H => am = true ∧ xE (gAr G) x H ∧ ∃ (D9 Y1 Y2 Y3 : Nat → Int8) (lf9 : Int32), RecI D9 (va_cpy Fb M 0 (128 * (4 * t + i)) (nowN am L b (thr sk nw rb (t % 5) t))) sk nw rb ∧ OffI D9 (va_cpy Fb M 0 (128 * (4 * t + i)) (nowN am L b (thr sk nw rb (t % 5) t))) sk nw rb ∧ (am = false → OnI D9 (va_cpy Fb M 0 (128 * (4 * t + i)) (nowN am L b (thr sk nw rb (t % 5) t))) sk nw rb) ∧ va_P G.1 zcl ([(ar, eA5 dk on pt rc pw (sI sk) (nI rb) nw la), (pw, ePw wn lf9 (nI b) am bh), (dk, eB G 96680 D9), (on, eB G 128 Y1), (pt, eB G 128 Y2), (rc, eB G 136 Y3), (fr, eB G 128 Fb)] ++ wr) H)) (F0 m 292 ls []) := by
        intro P hPx H locs ls hP hS hl
        have hD := zw_DP hD hP (by simp only [List.map_append, List.map_cons, List.map_nil])
        refine lv_aload_n hx hb zd_A5_write3_292 rfl (lv_at hl 4 rfl) ?_
        refine lv_iload hx hb zd_A5_write3_293 (lv_at hl 1 rfl) ?_
        refine lv_iload hx hb zd_A5_write3_295 (lv_at hl 3 rfl) ?_
        refine zk_V F hT hK hZ hS hl.1 hP 0 rfl rfl rfl (zc_A5_isThere l G ar dk on pt rc pw sk rb (dO t i) t nw la _ (dO_lt hi) (by omega) (by omega) hP) zl_A5_isThere (zY_A5_isThere hT) zq_259 zq_261 zs_2 zd_A5_write3_297 rfl ⟨rfl, rfl, Nat.le_of_ble_eq_true rfl, Nat.le_of_ble_eq_true rfl, Nat.le_of_ble_eq_true rfl, Nat.le_of_ble_eq_true rfl⟩ (fun v H locs hv hS => ?_) (fun x H locs hv hS => hv.elim)
        obtain ⟨rfl, rfl⟩ := hv
        refine zw_app ?_
        refine lv_istore hx hb zd_A5_write3_300 hl (by decide) rfl (fun ls hl => ?_)
        have hl : lv_has ls 11 [(10, _), (7, _), (6, _), (5, _), (4, _), (0, _), (1, _), (2, _), (3, _)] := hl
        refine lv_iload hx hb zd_A5_write3_302 (lv_at hl 0 rfl) ?_
        refine lv_if_eq (tgt := 323) hx hb zd_A5_write3_304 rfl (fun hp => ?_) (fun hp => ?_)
        · have hp : thr sk nw rb (dO t i) t = false := bI_0.mp hp
          refine lv_aload_n hx hb zd_A5_write3_323 rfl (lv_at hl 5 rfl) ?_
          refine lv_iload hx hb zd_A5_write3_324 (lv_at hl 1 rfl) ?_
          refine lv_iload hx hb zd_A5_write3_326 (lv_at hl 4 rfl) ?_
          refine zk_S F hT hK hZ hS hl.1 (zc_A5_at l G (t % 5) t) zl_A5_at (zY_A5_at hT) zq_263 zq_264 zq_3 zd_A5_write3_328 rfl ⟨rfl, rfl, Nat.le_of_ble_eq_true rfl, Nat.le_of_ble_eq_true rfl, Nat.le_of_ble_eq_true rfl, Nat.le_of_ble_eq_true rfl⟩ (fun v H locs hv hS => ?_) (fun x H locs hv hS => hv.elim)
          obtain ⟨rfl, rfl⟩ := hv
          refine zw_app ?_
          refine lv_aload_n hx hb zd_A5_write3_331 rfl (lv_at hl 5 rfl) ?_
          refine zg_A5 F hT hK hP 0 rfl 2 (by decide) zq_56 rfl zd_A5_write3_332 ?_
          refine lv_sipush (v := nI 128) hx hb zd_A5_write3_335 (by decide) ?_
          refine lv_iload_n hx hb zd_A5_write3_338 rfl (lv_at hl 8 rfl) ?_
          refine lv_if_eq (tgt := 351) hx hb zd_A5_write3_339 rfl (fun _ => ?_) (fun hc9 => absurd hc9 (by decide))
          refine lv_iconst (v := 0) hx hb zd_A5_write3_351 (by decide) ?_
          have hP9 := zw_perm hP [0, 1, 2, 4, 3, 5, 6] rfl
          have hP9 : va_P G.1 zcl ([(_, _), (_, _), (_, _), (_, _), (_, _), (_, _), (_, _)] ++ wr) H := hP9
          have hD := zw_permD hD hP9 [0, 1, 2, 4, 3, 5, 6] (by decide) rfl
          have hP := hP9
          refine zk_V F hT hK hZ hS hl.1 hP 0 rfl rfl rfl (zc_A5_write4 l G ar dk on pt rc pw sk rb nw la pt 128 (atN (t % 5) t) 128 b wn (if am = true then lf - 1 else lf) am bh (va_cpy R D 0 (19336 * (t % 5)) 136) P _ hfl h1 h2 (by unfold atN; omega) (by decide) (by decide) hb0 hP hD) zl_A5_write4 (zY_A5_write4 hT) zq_277 zq_279 zs_3 zd_A5_write3_352 rfl ⟨rfl, rfl, Nat.le_of_ble_eq_true rfl, Nat.le_of_ble_eq_true rfl, Nat.le_of_ble_eq_true rfl, Nat.le_of_ble_eq_true rfl⟩ (fun v H locs hv hS => ?_) (fun x H locs hv hS => ?_)
          · obtain ⟨rfl, hncut1, hP⟩ := hv
            refine zw_app0 ?_
            have hP : va_P G.1 zcl ([(_, _), (_, _), (_, _), (_, _), (_, _), (_, _), (_, _)] ++ wr) H := hP
            have hD := zw_DP hD hP (by simp only [List.map_append, List.map_cons, List.map_nil])
            have hP9 := zw_perm hP [0, 1, 2, 4, 3, 5, 6] rfl
            have hP9 : va_P G.1 zcl ([(_, _), (_, _), (_, _), (_, _), (_, _), (_, _), (_, _)] ++ wr) H := hP9
            have hD := zw_permD hD hP9 [0, 1, 2, 4, 3, 5, 6] (by decide) rfl
            have hP := hP9
            refine W.widen (k := 3) (n := 18) (by decide) (by decide) ?_
            obtain ⟨g1, g2⟩ := p_E5 (F := Fb) (w := 128) gR gO gF ht hi (by decide) hp hPx hq
            exact zx_vret F hS.2.2 zd_A5_write3_355 ⟨rfl, _, _, _, _, _, by rw [hq, nd hncut1]; exact g1, by rw [hq, nd hncut1]; exact g2.off, fun _ => by rw [hq, nd hncut1]; exact g2, hP⟩
          · obtain ⟨hcut, hxe, hP⟩ := hv
            have hP : va_P G.1 zcl ([(_, _), (_, _), (_, _), (_, _), (_, _), (_, _), (_, _)] ++ wr) H := hP
            have hD := zw_DP hD hP (by simp only [List.map_append, List.map_cons, List.map_nil])
            have hP9 := zw_perm hP [0, 1, 2, 4, 3, 5, 6] rfl
            have hP9 : va_P G.1 zcl ([(_, _), (_, _), (_, _), (_, _), (_, _), (_, _), (_, _)] ++ wr) H := hP9
            have hD := zw_permD hD hP9 [0, 1, 2, 4, 3, 5, 6] (by decide) rfl
            have hP := hP9
            refine zx_TW (k := 3) (n := 18) (by decide) (by decide) ?_
            obtain ⟨g1, g2⟩ := p_E5 (F := Fb) (w := min b 128) gR gO gF ht hi (by omega) hp hPx hq
            exact zx_out F hS.2.2 rfl ⟨hcut.1, hxe, _, _, _, _, _, by rw [hq, nc hcut]; exact g1, by rw [hq, nc hcut]; exact g2.off, fun _ => by rw [hq, nc hcut]; exact g2, hP⟩
        · have hp : thr sk nw rb (dO t i) t = true := by cases h : thr sk nw rb (dO t i) t with | true => rfl | false => rw [h] at hp; exact absurd rfl hp
          refine lv_aload_n hx hb zd_A5_write3_307 rfl (lv_at hl 5 rfl) ?_
          refine lv_iload hx hb zd_A5_write3_308 (lv_at hl 2 rfl) ?_
          refine lv_iload hx hb zd_A5_write3_310 (lv_at hl 4 rfl) ?_
          refine zk_S F hT hK hZ hS hl.1 (zc_A5_at l G (dO t i) t) zl_A5_at (zY_A5_at hT) zq_263 zq_264 zq_3 zd_A5_write3_312 rfl ⟨rfl, rfl, Nat.le_of_ble_eq_true rfl, Nat.le_of_ble_eq_true rfl, Nat.le_of_ble_eq_true rfl, Nat.le_of_ble_eq_true rfl⟩ (fun v H locs hv hS => ?_) (fun x H locs hv hS => hv.elim)
          obtain ⟨rfl, rfl⟩ := hv
          refine zw_app ?_
          refine lv_aload_n hx hb zd_A5_write3_315 rfl (lv_at hl 7 rfl) ?_
          refine lv_sipush (v := nI 128) hx hb zd_A5_write3_316 (by decide) ?_
          refine lv_iload_n hx hb zd_A5_write3_319 rfl (lv_at hl 8 rfl) ?_
          have hP9 := zw_perm hP [0, 1, 2, 6, 3, 4, 5] rfl
          have hP9 : va_P G.1 zcl ([(_, _), (_, _), (_, _), (_, _), (_, _), (_, _), (_, _)] ++ wr) H := hP9
          have hD := zw_permD hD hP9 [0, 1, 2, 6, 3, 4, 5] (by decide) rfl
          have hP := hP9
          refine zk_V F hT hK hZ hS hl.1 hP 0 rfl rfl rfl (zc_A5_write4 l G ar dk on pt rc pw sk rb nw la fr 128 (atN (dO t i) t) 128 b wn (if am = true then lf - 1 else lf) am bh (va_cpy R D 0 (19336 * (t % 5)) 136) Fb _ hfl h1 h2 (by have := dO_lt (t := t) hi; unfold atN; omega) (by decide) (by decide) hb0 hP hD) zl_A5_write4 (zY_A5_write4 hT) zq_277 zq_279 zs_3 zd_A5_write3_320 rfl ⟨rfl, rfl, Nat.le_of_ble_eq_true rfl, Nat.le_of_ble_eq_true rfl, Nat.le_of_ble_eq_true rfl, Nat.le_of_ble_eq_true rfl⟩ (fun v H locs hv hS => ?_) (fun x H locs hv hS => ?_)
          · obtain ⟨rfl, hncut1, hP⟩ := hv
            refine zw_app0 ?_
            have hP : va_P G.1 zcl ([(_, _), (_, _), (_, _), (_, _), (_, _), (_, _), (_, _)] ++ wr) H := hP
            have hD := zw_DP hD hP (by simp only [List.map_append, List.map_cons, List.map_nil])
            have hP9 := zw_perm hP [0, 1, 2, 4, 5, 6, 3] rfl
            have hP9 : va_P G.1 zcl ([(_, _), (_, _), (_, _), (_, _), (_, _), (_, _), (_, _)] ++ wr) H := hP9
            have hD := zw_permD hD hP9 [0, 1, 2, 4, 5, 6, 3] (by decide) rfl
            have hP := hP9
            obtain ⟨k1, k2, k3⟩ := p_E3 (F := Fb) (w := 128) gR gO gF ht hi (by decide)
            refine lv_aload_n hx hb zd_A5_write3_323 rfl (lv_at hl 5 rfl) ?_
            refine lv_iload hx hb zd_A5_write3_324 (lv_at hl 1 rfl) ?_
            refine lv_iload hx hb zd_A5_write3_326 (lv_at hl 4 rfl) ?_
            refine zk_S F hT hK hZ hS hl.1 (zc_A5_at l G (t % 5) t) zl_A5_at (zY_A5_at hT) zq_263 zq_264 zq_3 zd_A5_write3_328 rfl ⟨rfl, rfl, Nat.le_of_ble_eq_true rfl, Nat.le_of_ble_eq_true rfl, Nat.le_of_ble_eq_true rfl, Nat.le_of_ble_eq_true rfl⟩ (fun v H locs hv hS => ?_) (fun x H locs hv hS => hv.elim)
            obtain ⟨rfl, rfl⟩ := hv
            refine zw_app ?_
            refine lv_aload_n hx hb zd_A5_write3_331 rfl (lv_at hl 5 rfl) ?_
            refine zg_A5 F hT hK hP 0 rfl 2 (by decide) zq_56 rfl zd_A5_write3_332 ?_
            refine lv_sipush (v := nI 128) hx hb zd_A5_write3_335 (by decide) ?_
            refine lv_iload_n hx hb zd_A5_write3_338 rfl (lv_at hl 8 rfl) ?_
            refine lv_if_eq (tgt := 351) hx hb zd_A5_write3_339 rfl (fun _ => ?_) (fun hc9 => absurd hc9 (by decide))
            refine lv_iconst (v := 0) hx hb zd_A5_write3_351 (by decide) ?_
            have hP9 := zw_perm hP [0, 1, 2, 4, 3, 5, 6] rfl
            have hP9 : va_P G.1 zcl ([(_, _), (_, _), (_, _), (_, _), (_, _), (_, _), (_, _)] ++ wr) H := hP9
            have hD := zw_permD hD hP9 [0, 1, 2, 4, 3, 5, 6] (by decide) rfl
            have hP := hP9
            refine zk_V F hT hK hZ hS hl.1 hP 0 rfl rfl rfl (zc_A5_write4 l G ar dk on pt rc pw sk rb nw la pt 128 (atN (t % 5) t) 128 b wn (if am = true then (if am = true then lf - 1 else lf) - 1 else (if am = true then lf - 1 else lf)) am bh (va_cpy Fb (va_cpy R D 0 (19336 * (t % 5)) 136) 0 (atN (dO t i) t) 128) P _ hfl h1 h2 (by unfold atN; omega) (by decide) (by decide) hb0 hP hD) zl_A5_write4 (zY_A5_write4 hT) zq_277 zq_279 zs_3 zd_A5_write3_352 rfl ⟨rfl, rfl, Nat.le_of_ble_eq_true rfl, Nat.le_of_ble_eq_true rfl, Nat.le_of_ble_eq_true rfl, Nat.le_of_ble_eq_true rfl⟩ (fun v H locs hv hS => ?_) (fun x H locs hv hS => ?_)
            · obtain ⟨rfl, hncut2, hP⟩ := hv
              refine zw_app0 ?_
              have hP : va_P G.1 zcl ([(_, _), (_, _), (_, _), (_, _), (_, _), (_, _), (_, _)] ++ wr) H := hP
              have hD := zw_DP hD hP (by simp only [List.map_append, List.map_cons, List.map_nil])
              have hP9 := zw_perm hP [0, 1, 2, 4, 3, 5, 6] rfl
              have hP9 : va_P G.1 zcl ([(_, _), (_, _), (_, _), (_, _), (_, _), (_, _), (_, _)] ++ wr) H := hP9
              have hD := zw_permD hD hP9 [0, 1, 2, 4, 3, 5, 6] (by decide) rfl
              have hP := hP9
              refine W.widen (k := 3) (n := 18) (by decide) (by decide) ?_
              obtain ⟨g1, g2, g3, g4⟩ := p_E4 (P := P) (w := 128) k1 k2 k3 ht (by decide)
              have g5 := g4 rfl (fun k hk => by rw [hPx k hk, par_w hi hk (by decide), if_pos hk])
              exact zx_vret F hS.2.2 zd_A5_write3_355 ⟨rfl, _, _, _, _, _, by rw [hq, nd hncut1]; exact g1, by rw [hq, nd hncut1]; exact g5.off, fun _ => by rw [hq, nd hncut1]; exact g5, hP⟩
            · obtain ⟨hcut, hxe, hP⟩ := hv
              have hP : va_P G.1 zcl ([(_, _), (_, _), (_, _), (_, _), (_, _), (_, _), (_, _)] ++ wr) H := hP
              have hD := zw_DP hD hP (by simp only [List.map_append, List.map_cons, List.map_nil])
              have hP9 := zw_perm hP [0, 1, 2, 4, 3, 5, 6] rfl
              have hP9 : va_P G.1 zcl ([(_, _), (_, _), (_, _), (_, _), (_, _), (_, _), (_, _)] ++ wr) H := hP9
              have hD := zw_permD hD hP9 [0, 1, 2, 4, 3, 5, 6] (by decide) rfl
              have hP := hP9
              refine zx_TW (k := 3) (n := 18) (by decide) (by decide) ?_
              obtain ⟨g1, g2, g3, g4⟩ := p_E4 (P := P) (w := min b 128) k1 k2 k3 ht (by omega)
              exact zx_out F hS.2.2 rfl ⟨hcut.1, hxe, _, _, _, _, _, by rw [hq, nd hncut1]; exact g1, by rw [hq, nd hncut1]; exact g2.off g3 hp, fun h => absurd (hcut.1.symm.trans h) (by decide), hP⟩
          · obtain ⟨hcut, hxe, hP⟩ := hv
            have hP : va_P G.1 zcl ([(_, _), (_, _), (_, _), (_, _), (_, _), (_, _), (_, _)] ++ wr) H := hP
            have hD := zw_DP hD hP (by simp only [List.map_append, List.map_cons, List.map_nil])
            have hP9 := zw_perm hP [0, 1, 2, 4, 5, 6, 3] rfl
            have hP9 : va_P G.1 zcl ([(_, _), (_, _), (_, _), (_, _), (_, _), (_, _), (_, _)] ++ wr) H := hP9
            have hD := zw_permD hD hP9 [0, 1, 2, 4, 5, 6, 3] (by decide) rfl
            have hP := hP9
            refine zx_TW (k := 3) (n := 18) (by decide) (by decide) ?_
            obtain ⟨g1, g2, g3⟩ := p_E3 (F := Fb) (w := min b 128) gR gO gF ht hi (by omega)
            exact zx_out F hS.2.2 rfl ⟨hcut.1, hxe, _, _, _, _, _, by rw [hq, nc hcut]; exact g1, by rw [hq, nc hcut]; exact g2.off g3 hp, fun h => absurd (hcut.1.symm.trans h) (by decide), hP⟩
      have l3 : ∀ (n k : Nat), n + k = 128 → ∀ (P : Nat → Int8) (H : Heap) (locs : List Loc) (ls : Array Slot), (∀ x, x < 128 → P x = if x < k then Y x ^^^ Fb x else Y x) → va_P G.1 zcl ([(ar, eA5 dk on pt rc pw (sI sk) (nI rb) nw la), (pw, ePw wn (if am = true then lf - 1 else lf) (nI b) am bh), (dk, eB G 96680 (va_cpy R D 0 (19336 * (t % 5)) 136)), (on, eB G 128 O), (pt, eB G 128 P), (rc, eB G 136 R), (fr, eB G 128 Fb)] ++ wr) H → va_S A s.heap H locs → lv_has ls 11 [(10, .int (nI k)), (7, .int (nI (t % 5))), (6, .int (nI (dO t i))), (5, .int (nI i)), (4, .int (nI t)), (0, .ref ar), (1, .int (nI (4 * t + i))), (2, .ref fr), (3, .int 0)] → W p l e (rmz 10 280 3 18) s m ([.ref ar, .int (nI (4 * t + i)), .ref fr, .int 0] : List Value).toArray below meth c H locs 1 6 (xQ below s A 3 18 (fun v H => v = none ∧ ∃ (D9 Y1 Y2 Y3 : Nat → Int8) (lf9 : Int32), RecI D9 (va_cpy Fb M 0 (128 * (4 * t + i)) (nowN am L b (thr sk nw rb (t % 5) t))) sk nw rb ∧ OffI D9 (va_cpy Fb M 0 (128 * (4 * t + i)) (nowN am L b (thr sk nw rb (t % 5) t))) sk nw rb ∧ (am = false → OnI D9 (va_cpy Fb M 0 (128 * (4 * t + i)) (nowN am L b (thr sk nw rb (t % 5) t))) sk nw rb) ∧ va_P G.1 zcl ([(ar, eA5 dk on pt rc pw (sI sk) (nI rb) nw la), (pw, ePw wn lf9 (nI b) am bh), (dk, eB G 96680 D9), (on, eB G 128 Y1), (pt, eB G 128 Y2), (rc, eB G 136 Y3), (fr, eB G 128 Fb)] ++ wr) H) (fun x H => am = true ∧ xE (gAr G) x H ∧ ∃ (D9 Y1 Y2 Y3 : Nat → Int8) (lf9 : Int32), RecI D9 (va_cpy Fb M 0 (128 * (4 * t + i)) (nowN am L b (thr sk nw rb (t % 5) t))) sk nw rb ∧ OffI D9 (va_cpy Fb M 0 (128 * (4 * t + i)) (nowN am L b (thr sk nw rb (t % 5) t))) sk nw rb ∧ (am = false → OnI D9 (va_cpy Fb M 0 (128 * (4 * t + i)) (nowN am L b (thr sk nw rb (t % 5) t))) sk nw rb) ∧ va_P G.1 zcl ([(ar, eA5 dk on pt rc pw (sI sk) (nI rb) nw la), (pw, ePw wn lf9 (nI b) am bh), (dk, eB G 96680 D9), (on, eB G 128 Y1), (pt, eB G 128 Y2), (rc, eB G 136 Y3), (fr, eB G 128 Fb)] ++ wr) H)) (F0 m 263 ls []) := by
        intro n
        induction n with
        | zero =>
          intro k hk P H locs ls hPx hP hS hl
          obtain rfl : k = 128 := by omega
          refine lv_iload hx hb zd_A5_write3_263 (lv_at hl 0 rfl) ?_
          refine lv_sipush (v := nI 128) hx hb zd_A5_write3_265 (by decide) ?_
          refine lv_icmp_ge (tgt := 292) hx hb zd_A5_write3_268 rfl (fun _ => ?_) (fun hc9 => absurd hc9 (fun h => h (Int32.le_refl _)))
          exact tl P (fun x hx => by rw [hPx x hx, if_pos hx, hY x hx]) H locs ls hP hS (lv_sub hl [1, 2, 3, 4, 5, 6, 7, 8] rfl)
        | succ n ih =>
          intro k hk P H locs ls hPx hP hS hl
          have hD := zw_DP hD hP (by simp only [List.map_append, List.map_cons, List.map_nil])
          refine lv_iload hx hb zd_A5_write3_263 (lv_at hl 0 rfl) ?_
          refine lv_sipush (v := nI 128) hx hb zd_A5_write3_265 (by decide) ?_
          refine lv_icmp_ge (tgt := 292) hx hb zd_A5_write3_268 rfl (fun hc9 => absurd hc9 (nI_ge (by omega) (by decide))) (fun _ => ?_)
          refine lv_aload_n hx hb zd_A5_write3_271 rfl (lv_at hl 5 rfl) ?_
          refine zg_A5 F hT hK hP 0 rfl 2 (by decide) zq_56 rfl zd_A5_write3_272 ?_
          refine lv_iload hx hb zd_A5_write3_275 (lv_at hl 0 rfl) ?_
          refine lv_dup2_11 hx hb zd_A5_write3_277 rfl rfl ?_
          refine zw_bald F hK hP 4 rfl k rfl (by omega) (by decide) zd_A5_write3_278 ?_
          refine lv_aload_n hx hb zd_A5_write3_279 rfl (lv_at hl 7 rfl) ?_
          refine lv_iload hx hb zd_A5_write3_280 (lv_at hl 0 rfl) ?_
          refine zw_bald F hK hP 6 rfl k rfl (by omega) (by decide) zd_A5_write3_282 ?_
          refine lv_ixor hx hb zd_A5_write3_283 ?_
          refine lv_i2b hx hb zd_A5_write3_284 rfl ?_
          refine zw_bast F hK hP hD hS 4 rfl k rfl (by omega) (by decide) zd_A5_write3_285 (fun H locs hP hD hS => ?_)
          have hP : va_P G.1 zcl ([(_, _), (_, _), (_, _), (_, _), (_, _), (_, _), (_, _)] ++ wr) H := hP
          have hD : va_D A ([(_, _), (_, _), (_, _), (_, _), (_, _), (_, _), (_, _)] ++ wr) := hD
          refine lv_iinc (k := 0) hx hb zd_A5_write3_286 hl rfl (zl_inc k) (by decide) rfl (fun ls hl => ?_)
          have hl : lv_has ls 11 [(10, _), (7, _), (6, _), (5, _), (4, _), (0, _), (1, _), (2, _), (3, _)] := hl
          refine lv_goto (tgt := 263) hx hb zd_A5_write3_289 rfl ?_
          exact ih (k + 1) (by omega) _ H locs ls (zl_px hPx (by omega)) hP hS hl
      refine lv_iconst (v := nI 0) hx hb zd_A5_write3_260 (by decide) ?_
      refine lv_istore hx hb zd_A5_write3_261 hl (by decide) rfl (fun ls hl => ?_)
      have hl : lv_has ls 11 [(10, _), (7, _), (6, _), (5, _), (4, _), (0, _), (1, _), (2, _), (3, _)] := hl
      exact l3 128 0 rfl Y H locs ls (fun x hx => by rw [if_neg (by omega)]) hP hS hl
    have record : ∀ (mk : Int32), ¬ mk.toInt8 = 0 → ¬ mk.toInt8 = D (19336 * (t % 5) + 135) → ∀ (O Y : Nat → Int8) (H : Heap) (locs : List Loc) (ls : Array Slot), (∀ x, x < 128 → Y x = oacc M t i x 4) → va_P G.1 zcl ([(ar, eA5 dk on pt rc pw (sI sk) (nI rb) nw la), (pw, ePw wn lf (nI b) am bh), (dk, eB G 96680 D), (on, eB G 128 O), (pt, eB G 128 Y), (rc, eB G 136 X3), (fr, eB G 128 Fb)] ++ wr) H → va_S A s.heap H locs → lv_has ls 11 [(9, .int mk), (8, .int (nI (19336 * (t % 5)))), (7, .int (nI (t % 5))), (6, .int (nI (dO t i))), (5, .int (nI i)), (4, .int (nI t)), (0, .ref ar), (1, .int (nI (4 * t + i))), (2, .ref fr), (3, .int 0)] → W p l e (rmz 10 280 3 18) s m ([.ref ar, .int (nI (4 * t + i)), .ref fr, .int 0] : List Value).toArray below meth c H locs 0 0 (xQ below s A 3 18 (fun v H => v = none ∧ ∃ (D9 Y1 Y2 Y3 : Nat → Int8) (lf9 : Int32), RecI D9 (va_cpy Fb M 0 (128 * (4 * t + i)) (nowN am L b (thr sk nw rb (t % 5) t))) sk nw rb ∧ OffI D9 (va_cpy Fb M 0 (128 * (4 * t + i)) (nowN am L b (thr sk nw rb (t % 5) t))) sk nw rb ∧ (am = false → OnI D9 (va_cpy Fb M 0 (128 * (4 * t + i)) (nowN am L b (thr sk nw rb (t % 5) t))) sk nw rb) ∧ va_P G.1 zcl ([(ar, eA5 dk on pt rc pw (sI sk) (nI rb) nw la), (pw, ePw wn lf9 (nI b) am bh), (dk, eB G 96680 D9), (on, eB G 128 Y1), (pt, eB G 128 Y2), (rc, eB G 136 Y3), (fr, eB G 128 Fb)] ++ wr) H) (fun x H => am = true ∧ xE (gAr G) x H ∧ ∃ (D9 Y1 Y2 Y3 : Nat → Int8) (lf9 : Int32), RecI D9 (va_cpy Fb M 0 (128 * (4 * t + i)) (nowN am L b (thr sk nw rb (t % 5) t))) sk nw rb ∧ OffI D9 (va_cpy Fb M 0 (128 * (4 * t + i)) (nowN am L b (thr sk nw rb (t % 5) t))) sk nw rb ∧ (am = false → OnI D9 (va_cpy Fb M 0 (128 * (4 * t + i)) (nowN am L b (thr sk nw rb (t % 5) t))) sk nw rb) ∧ va_P G.1 zcl ([(ar, eA5 dk on pt rc pw (sI sk) (nI rb) nw la), (pw, ePw wn lf9 (nI b) am bh), (dk, eB G 96680 D9), (on, eB G 128 Y1), (pt, eB G 128 Y2), (rc, eB G 136 Y3), (fr, eB G 128 Fb)] ++ wr) H)) (F0 m 192 ls []) := by
      intro mk hm0 hm1 O Y H locs ls hY hP hS hl
      have hD := zw_DP hD hP (by simp only [List.map_append, List.map_cons, List.map_nil])
      refine lv_aload_n hx hb zd_A5_write3_192 rfl (lv_at hl 6 rfl) ?_
      refine zg_A5 F hT hK hP 0 rfl 3 (by decide) zq_57 rfl zd_A5_write3_193 ?_
      refine lv_iconst (v := nI 0) hx hb zd_A5_write3_196 (by decide) ?_
      refine lv_iload hx hb zd_A5_write3_197 (lv_at hl 0 rfl) ?_
      refine lv_i2b hx hb zd_A5_write3_199 rfl ?_
      refine zw_bast F hK hP hD hS 5 rfl 0 rfl (by decide) (by decide) zd_A5_write3_200 (fun H locs hP hD hS => ?_)
      have hP : va_P G.1 zcl ([(_, _), (_, _), (_, _), (_, _), (_, _), (_, _), (_, _)] ++ wr) H := hP
      have hD : va_D A ([(_, _), (_, _), (_, _), (_, _), (_, _), (_, _), (_, _)] ++ wr) := hD
      refine lv_aload_n hx hb zd_A5_write3_201 rfl (lv_at hl 6 rfl) ?_
      refine zg_A5 F hT hK hP 0 rfl 3 (by decide) zq_57 rfl zd_A5_write3_202 ?_
      refine lv_iconst (v := nI 1) hx hb zd_A5_write3_205 (by decide) ?_
      refine lv_iload hx hb zd_A5_write3_206 (lv_at hl 5 rfl) ?_
      refine lv_i2b hx hb zd_A5_write3_208 rfl ?_
      refine zw_bast F hK hP hD hS 5 rfl 1 rfl (by decide) (by decide) zd_A5_write3_209 (fun H locs hP hD hS => ?_)
      have hP : va_P G.1 zcl ([(_, _), (_, _), (_, _), (_, _), (_, _), (_, _), (_, _)] ++ wr) H := hP
      have hD : va_D A ([(_, _), (_, _), (_, _), (_, _), (_, _), (_, _), (_, _)] ++ wr) := hD
      refine lv_aload_n hx hb zd_A5_write3_210 rfl (lv_at hl 6 rfl) ?_
      refine zg_A5 F hT hK hP 0 rfl 3 (by decide) zq_57 rfl zd_A5_write3_211 ?_
      refine lv_iconst (v := nI 2) hx hb zd_A5_write3_214 (by decide) ?_
      refine lv_iload hx hb zd_A5_write3_215 (lv_at hl 4 rfl) ?_
      refine lv_i2b hx hb zd_A5_write3_217 rfl ?_
      refine zw_bast F hK hP hD hS 5 rfl 2 rfl (by decide) (by decide) zd_A5_write3_218 (fun H locs hP hD hS => ?_)
      have hP : va_P G.1 zcl ([(_, _), (_, _), (_, _), (_, _), (_, _), (_, _), (_, _)] ++ wr) H := hP
      have hD : va_D A ([(_, _), (_, _), (_, _), (_, _), (_, _), (_, _), (_, _)] ++ wr) := hD
      refine lv_aload_n hx hb zd_A5_write3_219 rfl (lv_at hl 6 rfl) ?_
      refine zg_A5 F hT hK hP 0 rfl 2 (by decide) zq_56 rfl zd_A5_write3_220 ?_
      refine lv_iconst (v := nI 0) hx hb zd_A5_write3_223 (by decide) ?_
      refine lv_aload_n hx hb zd_A5_write3_224 rfl (lv_at hl 6 rfl) ?_
      refine zg_A5 F hT hK hP 0 rfl 3 (by decide) zq_57 rfl zd_A5_write3_225 ?_
      refine lv_iconst (v := nI 3) hx hb zd_A5_write3_228 (by decide) ?_
      refine lv_sipush (v := nI 128) hx hb zd_A5_write3_229 (by decide) ?_
      refine zw_copy F hT hK hP hD hS rfl 4 5 rfl rfl 0 3 128 rfl rfl rfl (by decide) (by decide) (by decide) (by decide) hl.1 (by decide) (by decide) zd_A5_write3_232 (fun H locs hP hD hS => ?_)
      have hP : va_P G.1 zcl ([(_, _), (_, _), (_, _), (_, _), (_, _), (_, _), (_, _)] ++ wr) H := hP
      have hD : va_D A ([(_, _), (_, _), (_, _), (_, _), (_, _), (_, _), (_, _)] ++ wr) := hD
      refine lv_aload_n hx hb zd_A5_write3_235 rfl (lv_at hl 6 rfl) ?_
      refine zg_A5 F hT hK hP 0 rfl 3 (by decide) zq_57 rfl zd_A5_write3_236 ?_
      refine lv_sipush (v := nI 135) hx hb zd_A5_write3_239 (by decide) ?_
      refine lv_iload hx hb zd_A5_write3_242 (lv_at hl 0 rfl) ?_
      refine lv_i2b hx hb zd_A5_write3_244 rfl ?_
      refine zw_bast F hK hP hD hS 5 rfl 135 rfl (by decide) (by decide) zd_A5_write3_245 (fun H locs hP hD hS => ?_)
      have hP : va_P G.1 zcl ([(_, _), (_, _), (_, _), (_, _), (_, _), (_, _), (_, _)] ++ wr) H := hP
      have hD : va_D A ([(_, _), (_, _), (_, _), (_, _), (_, _), (_, _), (_, _)] ++ wr) := hD
      refine lv_aload_n hx hb zd_A5_write3_246 rfl (lv_at hl 6 rfl) ?_
      refine lv_iload hx hb zd_A5_write3_247 (lv_at hl 1 rfl) ?_
      refine lv_aload_n hx hb zd_A5_write3_249 rfl (lv_at hl 6 rfl) ?_
      refine zg_A5 F hT hK hP 0 rfl 3 (by decide) zq_57 rfl zd_A5_write3_250 ?_
      refine lv_sipush (v := nI 136) hx hb zd_A5_write3_253 (by decide) ?_
      refine lv_iconst (v := 0) hx hb zd_A5_write3_256 (by decide) ?_
      have hrec := zl_rec (X := X3) (mk := mk) hY
      generalize hRe : (ub (va_cpy Y (ub (ub (ub X3 0 (mk.toInt8.toInt32).toInt8) 1 ((nI t).toInt8.toInt32).toInt8) 2 ((nI i).toInt8.toInt32).toInt8) 0 3 128) 135 (mk.toInt8.toInt32).toInt8) = R at hrec hP hD
      have hP9 := zw_perm hP [0, 1, 2, 5, 3, 4, 6] rfl
      have hP9 : va_P G.1 zcl ([(_, _), (_, _), (_, _), (_, _), (_, _), (_, _), (_, _)] ++ wr) H := hP9
      have hD := zw_permD hD hP9 [0, 1, 2, 5, 3, 4, 6] (by decide) rfl
      have hP := hP9
      refine zk_V F hT hK hZ hS hl.1 hP 0 rfl rfl rfl (zc_A5_write4 l G ar dk on pt rc pw sk rb nw la rc 136 (19336 * (t % 5)) 136 b wn lf am bh D R _ hfl h1 h2 (by omega) (by decide) (by decide) hb0 hP hD) zl_A5_write4 (zY_A5_write4 hT) zq_277 zq_279 zs_3 zd_A5_write3_257 rfl ⟨rfl, rfl, Nat.le_of_ble_eq_true rfl, Nat.le_of_ble_eq_true rfl, Nat.le_of_ble_eq_true rfl, Nat.le_of_ble_eq_true rfl⟩ (fun v H locs hv hS => ?_) (fun x H locs hv hS => ?_)
      · obtain ⟨rfl, hncut0, hP⟩ := hv
        refine zw_app0 ?_
        have hP : va_P G.1 zcl ([(_, _), (_, _), (_, _), (_, _), (_, _), (_, _), (_, _)] ++ wr) H := hP
        have hD := zw_DP hD hP (by simp only [List.map_append, List.map_cons, List.map_nil])
        have hP9 := zw_perm hP [0, 1, 2, 4, 5, 3, 6] rfl
        have hP9 : va_P G.1 zcl ([(_, _), (_, _), (_, _), (_, _), (_, _), (_, _), (_, _)] ++ wr) H := hP9
        have hD := zw_permD hD hP9 [0, 1, 2, 4, 5, 3, 6] (by decide) rfl
        have hP := hP9
        obtain ⟨g1, g2, g3⟩ := p_E2 (w := 136) hR hO ht hi (by decide) hq hrec hm0 hm1
        exact after R Y g1 g2 (g3 rfl) hY hncut0 O H locs ls hP hS (lv_sub hl [2, 3, 4, 5, 6, 7, 8, 9] rfl)
      · obtain ⟨hcut, hxe, hP⟩ := hv
        have hP : va_P G.1 zcl ([(_, _), (_, _), (_, _), (_, _), (_, _), (_, _), (_, _)] ++ wr) H := hP
        have hD := zw_DP hD hP (by simp only [List.map_append, List.map_cons, List.map_nil])
        have hP9 := zw_perm hP [0, 1, 2, 4, 5, 3, 6] rfl
        have hP9 : va_P G.1 zcl ([(_, _), (_, _), (_, _), (_, _), (_, _), (_, _), (_, _)] ++ wr) H := hP9
        have hD := zw_permD hD hP9 [0, 1, 2, 4, 5, 3, 6] (by decide) rfl
        have hP := hP9
        refine zx_TW (k := 3) (n := 18) (by decide) (by decide) ?_
        obtain ⟨g1, g2, -⟩ := p_E2 (w := min b 136) hR hO ht hi (by omega) hq hrec hm0 hm1
        exact zx_out F hS.2.2 rfl ⟨hcut.1, hxe, _, _, _, _, _, by rw [hq, (hn0 hcut).2, cp_0]; exact g1, by rw [hq, (hn0 hcut).2, cp_0]; exact g2.off, fun h => absurd (hcut.1.symm.trans h) (by decide), hP⟩
    have mark : ∀ (O Y : Nat → Int8) (H : Heap) (locs : List Loc) (ls : Array Slot), (∀ x, x < 128 → Y x = oacc M t i x 4) → va_P G.1 zcl ([(ar, eA5 dk on pt rc pw (sI sk) (nI rb) nw la), (pw, ePw wn lf (nI b) am bh), (dk, eB G 96680 D), (on, eB G 128 O), (pt, eB G 128 Y), (rc, eB G 136 X3), (fr, eB G 128 Fb)] ++ wr) H → va_S A s.heap H locs → lv_has ls 11 [(7, .int (nI (t % 5))), (6, .int (nI (dO t i))), (5, .int (nI i)), (4, .int (nI t)), (0, .ref ar), (1, .int (nI (4 * t + i))), (2, .ref fr), (3, .int 0)] → W p l e (rmz 10 280 3 18) s m ([.ref ar, .int (nI (4 * t + i)), .ref fr, .int 0] : List Value).toArray below meth c H locs 0 0 (xQ below s A 3 18 (fun v H => v = none ∧ ∃ (D9 Y1 Y2 Y3 : Nat → Int8) (lf9 : Int32), RecI D9 (va_cpy Fb M 0 (128 * (4 * t + i)) (nowN am L b (thr sk nw rb (t % 5) t))) sk nw rb ∧ OffI D9 (va_cpy Fb M 0 (128 * (4 * t + i)) (nowN am L b (thr sk nw rb (t % 5) t))) sk nw rb ∧ (am = false → OnI D9 (va_cpy Fb M 0 (128 * (4 * t + i)) (nowN am L b (thr sk nw rb (t % 5) t))) sk nw rb) ∧ va_P G.1 zcl ([(ar, eA5 dk on pt rc pw (sI sk) (nI rb) nw la), (pw, ePw wn lf9 (nI b) am bh), (dk, eB G 96680 D9), (on, eB G 128 Y1), (pt, eB G 128 Y2), (rc, eB G 136 Y3), (fr, eB G 128 Fb)] ++ wr) H) (fun x H => am = true ∧ xE (gAr G) x H ∧ ∃ (D9 Y1 Y2 Y3 : Nat → Int8) (lf9 : Int32), RecI D9 (va_cpy Fb M 0 (128 * (4 * t + i)) (nowN am L b (thr sk nw rb (t % 5) t))) sk nw rb ∧ OffI D9 (va_cpy Fb M 0 (128 * (4 * t + i)) (nowN am L b (thr sk nw rb (t % 5) t))) sk nw rb ∧ (am = false → OnI D9 (va_cpy Fb M 0 (128 * (4 * t + i)) (nowN am L b (thr sk nw rb (t % 5) t))) sk nw rb) ∧ va_P G.1 zcl ([(ar, eA5 dk on pt rc pw (sI sk) (nI rb) nw la), (pw, ePw wn lf9 (nI b) am bh), (dk, eB G 96680 D9), (on, eB G 128 Y1), (pt, eB G 128 Y2), (rc, eB G 136 Y3), (fr, eB G 128 Fb)] ++ wr) H)) (F0 m 156 ls []) := by
      intro O Y H locs ls hY hP hS hl
      refine lv_iload hx hb zd_A5_write3_156 (lv_at hl 0 rfl) ?_
      refine lv_iconst (v := nI 0) hx hb zd_A5_write3_158 (by decide) ?_
      refine zk_S F hT hK hZ hS hl.1 (zc_A5_at l G (t % 5) 0) zl_A5_at (zY_A5_at hT) zq_263 zq_264 zq_3 zd_A5_write3_159 rfl ⟨rfl, rfl, Nat.le_of_ble_eq_true rfl, Nat.le_of_ble_eq_true rfl, Nat.le_of_ble_eq_true rfl, Nat.le_of_ble_eq_true rfl⟩ (fun v H locs hv hS => ?_) (fun x H locs hv hS => hv.elim)
      obtain ⟨rfl, rfl⟩ := hv
      refine zw_app ?_
      refine lv_sipush (v := nI 136) hx hb zd_A5_write3_162 (by decide) ?_
      refine lv_isub hx hb zd_A5_write3_165 ?_
      refine zw_ti (nI (19336 * (t % 5))) (by rw [pk_sub (by unfold atN; omega)]; congr 1; unfold atN; omega) ?_
      refine lv_istore hx hb zd_A5_write3_166 hl (by decide) rfl (fun ls hl => ?_)
      have hl : lv_has ls 11 [(8, _), (7, _), (6, _), (5, _), (4, _), (0, _), (1, _), (2, _), (3, _)] := hl
      refine lv_aload_n hx hb zd_A5_write3_168 rfl (lv_at hl 5 rfl) ?_
      refine zg_A5 F hT hK hP 0 rfl 0 (by decide) zq_54 rfl zd_A5_write3_169 ?_
      refine lv_iload hx hb zd_A5_write3_172 (lv_at hl 0 rfl) ?_
      refine lv_sipush (v := nI 136) hx hb zd_A5_write3_174 (by decide) ?_
      refine lv_iadd hx hb zd_A5_write3_177 ?_
      refine lv_iconst (v := nI 1) hx hb zd_A5_write3_178 (by decide) ?_
      refine lv_isub hx hb zd_A5_write3_179 ?_
      refine zw_ti (nI (19336 * (t % 5) + 135)) (by rw [nI_add, pk_sub (by omega)]; congr 1) ?_
      refine zw_bald F hK hP 2 rfl (19336 * (t % 5) + 135) rfl (by omega) (by decide) zd_A5_write3_180 ?_
      refine lv_iconst (v := 1) hx hb zd_A5_write3_181 (by decide) ?_
      refine lv_icmp_ne (tgt := 189) hx hb zd_A5_write3_182 rfl (fun h1m => ?_) (fun h1m => ?_)
      · refine lv_iconst (v := 1) hx hb zd_A5_write3_189 (by decide) ?_
        refine lv_istore hx hb zd_A5_write3_190 hl (by decide) rfl (fun ls hl => ?_)
        have hl : lv_has ls 11 [(9, _), (8, _), (7, _), (6, _), (5, _), (4, _), (0, _), (1, _), (2, _), (3, _)] := hl
        exact record 1 (by decide) (fun h => h1m (by rw [← h]; decide)) O Y H locs ls hY hP hS hl
      · refine lv_iconst (v := 2) hx hb zd_A5_write3_185 (by decide) ?_
        refine lv_goto (tgt := 190) hx hb zd_A5_write3_186 rfl ?_
        refine lv_istore hx hb zd_A5_write3_190 hl (by decide) rfl (fun ls hl => ?_)
        have hl : lv_has ls 11 [(9, _), (8, _), (7, _), (6, _), (5, _), (4, _), (0, _), (1, _), (2, _), (3, _)] := hl
        exact record 2 (by decide) (fun h => by rw [← h] at h1m; exact absurd h1m (by decide)) O Y H locs ls hY hP hS hl
    have l2 : ∀ (j : Nat), j < 4 → ¬ j = i → (∀ (O Y : Nat → Int8) (H : Heap) (locs : List Loc) (ls : Array Slot), (∀ x, x < 128 → Y x = oacc M t i x (j + 1)) → va_P G.1 zcl ([(ar, eA5 dk on pt rc pw (sI sk) (nI rb) nw la), (pw, ePw wn lf (nI b) am bh), (dk, eB G 96680 D), (on, eB G 128 O), (pt, eB G 128 Y), (rc, eB G 136 X3), (fr, eB G 128 Fb)] ++ wr) H → va_S A s.heap H locs → lv_has ls 11 [(8, .int (nI j)), (7, .int (nI (t % 5))), (6, .int (nI (dO t i))), (5, .int (nI i)), (4, .int (nI t)), (0, .ref ar), (1, .int (nI (4 * t + i))), (2, .ref fr), (3, .int 0)] → W p l e (rmz 10 280 3 18) s m ([.ref ar, .int (nI (4 * t + i)), .ref fr, .int 0] : List Value).toArray below meth c H locs 0 0 (xQ below s A 3 18 (fun v H => v = none ∧ ∃ (D9 Y1 Y2 Y3 : Nat → Int8) (lf9 : Int32), RecI D9 (va_cpy Fb M 0 (128 * (4 * t + i)) (nowN am L b (thr sk nw rb (t % 5) t))) sk nw rb ∧ OffI D9 (va_cpy Fb M 0 (128 * (4 * t + i)) (nowN am L b (thr sk nw rb (t % 5) t))) sk nw rb ∧ (am = false → OnI D9 (va_cpy Fb M 0 (128 * (4 * t + i)) (nowN am L b (thr sk nw rb (t % 5) t))) sk nw rb) ∧ va_P G.1 zcl ([(ar, eA5 dk on pt rc pw (sI sk) (nI rb) nw la), (pw, ePw wn lf9 (nI b) am bh), (dk, eB G 96680 D9), (on, eB G 128 Y1), (pt, eB G 128 Y2), (rc, eB G 136 Y3), (fr, eB G 128 Fb)] ++ wr) H) (fun x H => am = true ∧ xE (gAr G) x H ∧ ∃ (D9 Y1 Y2 Y3 : Nat → Int8) (lf9 : Int32), RecI D9 (va_cpy Fb M 0 (128 * (4 * t + i)) (nowN am L b (thr sk nw rb (t % 5) t))) sk nw rb ∧ OffI D9 (va_cpy Fb M 0 (128 * (4 * t + i)) (nowN am L b (thr sk nw rb (t % 5) t))) sk nw rb ∧ (am = false → OnI D9 (va_cpy Fb M 0 (128 * (4 * t + i)) (nowN am L b (thr sk nw rb (t % 5) t))) sk nw rb) ∧ va_P G.1 zcl ([(ar, eA5 dk on pt rc pw (sI sk) (nI rb) nw la), (pw, ePw wn lf9 (nI b) am bh), (dk, eB G 96680 D9), (on, eB G 128 Y1), (pt, eB G 128 Y2), (rc, eB G 136 Y3), (fr, eB G 128 Fb)] ++ wr) H)) (F0 m 150 ls [])) → ∀ (n k : Nat), n + k = 128 → ∀ (O Y : Nat → Int8) (H : Heap) (locs : List Loc) (ls : Array Slot), (∀ x, x < 128 → O x = mD M t j x) → (∀ x, x < 128 → Y x = if x < k then oacc M t i x (j + 1) else oacc M t i x j) → va_P G.1 zcl ([(ar, eA5 dk on pt rc pw (sI sk) (nI rb) nw la), (pw, ePw wn lf (nI b) am bh), (dk, eB G 96680 D), (on, eB G 128 O), (pt, eB G 128 Y), (rc, eB G 136 X3), (fr, eB G 128 Fb)] ++ wr) H → va_S A s.heap H locs → lv_has ls 11 [(9, .int (nI k)), (8, .int (nI j)), (7, .int (nI (t % 5))), (6, .int (nI (dO t i))), (5, .int (nI i)), (4, .int (nI t)), (0, .ref ar), (1, .int (nI (4 * t + i))), (2, .ref fr), (3, .int 0)] → W p l e (rmz 10 280 3 18) s m ([.ref ar, .int (nI (4 * t + i)), .ref fr, .int 0] : List Value).toArray below meth c H locs 0 0 (xQ below s A 3 18 (fun v H => v = none ∧ ∃ (D9 Y1 Y2 Y3 : Nat → Int8) (lf9 : Int32), RecI D9 (va_cpy Fb M 0 (128 * (4 * t + i)) (nowN am L b (thr sk nw rb (t % 5) t))) sk nw rb ∧ OffI D9 (va_cpy Fb M 0 (128 * (4 * t + i)) (nowN am L b (thr sk nw rb (t % 5) t))) sk nw rb ∧ (am = false → OnI D9 (va_cpy Fb M 0 (128 * (4 * t + i)) (nowN am L b (thr sk nw rb (t % 5) t))) sk nw rb) ∧ va_P G.1 zcl ([(ar, eA5 dk on pt rc pw (sI sk) (nI rb) nw la), (pw, ePw wn lf9 (nI b) am bh), (dk, eB G 96680 D9), (on, eB G 128 Y1), (pt, eB G 128 Y2), (rc, eB G 136 Y3), (fr, eB G 128 Fb)] ++ wr) H) (fun x H => am = true ∧ xE (gAr G) x H ∧ ∃ (D9 Y1 Y2 Y3 : Nat → Int8) (lf9 : Int32), RecI D9 (va_cpy Fb M 0 (128 * (4 * t + i)) (nowN am L b (thr sk nw rb (t % 5) t))) sk nw rb ∧ OffI D9 (va_cpy Fb M 0 (128 * (4 * t + i)) (nowN am L b (thr sk nw rb (t % 5) t))) sk nw rb ∧ (am = false → OnI D9 (va_cpy Fb M 0 (128 * (4 * t + i)) (nowN am L b (thr sk nw rb (t % 5) t))) sk nw rb) ∧ va_P G.1 zcl ([(ar, eA5 dk on pt rc pw (sI sk) (nI rb) nw la), (pw, ePw wn lf9 (nI b) am bh), (dk, eB G 96680 D9), (on, eB G 128 Y1), (pt, eB G 128 Y2), (rc, eB G 136 Y3), (fr, eB G 128 Fb)] ++ wr) H)) (F0 m 118 ls []) := by
      intro j hj hji kk n
      induction n with
      | zero =>
        intro k hk O Y H locs ls hOx hY hP hS hl
        obtain rfl : k = 128 := by omega
        refine lv_iload hx hb zd_A5_write3_118 (lv_at hl 0 rfl) ?_
        refine lv_sipush (v := nI 128) hx hb zd_A5_write3_120 (by decide) ?_
        refine lv_icmp_ge (tgt := 150) hx hb zd_A5_write3_123 rfl (fun _ => ?_) (fun hc9 => absurd hc9 (fun h => h (Int32.le_refl _)))
        exact kk O Y H locs ls (fun x hx => by rw [hY x hx, if_pos hx]) hP hS (lv_sub hl [1, 2, 3, 4, 5, 6, 7, 8, 9] rfl)
      | succ n ih =>
        intro k hk O Y H locs ls hOx hY hP hS hl
        have hD := zw_DP hD hP (by simp only [List.map_append, List.map_cons, List.map_nil])
        refine lv_iload hx hb zd_A5_write3_118 (lv_at hl 0 rfl) ?_
        refine lv_sipush (v := nI 128) hx hb zd_A5_write3_120 (by decide) ?_
        refine lv_icmp_ge (tgt := 150) hx hb zd_A5_write3_123 rfl (fun hc9 => absurd hc9 (nI_ge (by omega) (by decide))) (fun _ => ?_)
        refine lv_aload_n hx hb zd_A5_write3_126 rfl (lv_at hl 6 rfl) ?_
        refine zg_A5 F hT hK hP 0 rfl 2 (by decide) zq_56 rfl zd_A5_write3_127 ?_
        refine lv_iload hx hb zd_A5_write3_130 (lv_at hl 0 rfl) ?_
        refine lv_dup2_11 hx hb zd_A5_write3_132 rfl rfl ?_
        refine zw_bald F hK hP 4 rfl k rfl (by omega) (by decide) zd_A5_write3_133 ?_
        refine lv_aload_n hx hb zd_A5_write3_134 rfl (lv_at hl 6 rfl) ?_
        refine zg_A5 F hT hK hP 0 rfl 1 (by decide) zq_55 rfl zd_A5_write3_135 ?_
        refine lv_iload hx hb zd_A5_write3_138 (lv_at hl 0 rfl) ?_
        refine zw_bald F hK hP 3 rfl k rfl (by omega) (by decide) zd_A5_write3_140 ?_
        refine lv_ixor hx hb zd_A5_write3_141 ?_
        refine lv_i2b hx hb zd_A5_write3_142 rfl ?_
        refine zw_bast F hK hP hD hS 4 rfl k rfl (by omega) (by decide) zd_A5_write3_143 (fun H locs hP hD hS => ?_)
        have hP : va_P G.1 zcl ([(_, _), (_, _), (_, _), (_, _), (_, _), (_, _), (_, _)] ++ wr) H := hP
        have hD : va_D A ([(_, _), (_, _), (_, _), (_, _), (_, _), (_, _), (_, _)] ++ wr) := hD
        refine lv_iinc (k := 0) hx hb zd_A5_write3_144 hl rfl (zl_inc k) (by decide) rfl (fun ls hl => ?_)
        have hl : lv_has ls 11 [(9, _), (8, _), (7, _), (6, _), (5, _), (4, _), (0, _), (1, _), (2, _), (3, _)] := hl
        refine lv_goto (tgt := 118) hx hb zd_A5_write3_147 rfl ?_
        exact ih (k + 1) (by omega) O _ H locs ls hOx (zl_ox hji hY hOx (by omega)) hP hS hl
    have l1 : ∀ (n j : Nat), n + j = 4 → ∀ (O Y : Nat → Int8) (H : Heap) (locs : List Loc) (ls : Array Slot), (∀ x, x < 128 → Y x = oacc M t i x j) → va_P G.1 zcl ([(ar, eA5 dk on pt rc pw (sI sk) (nI rb) nw la), (pw, ePw wn lf (nI b) am bh), (dk, eB G 96680 D), (on, eB G 128 O), (pt, eB G 128 Y), (rc, eB G 136 X3), (fr, eB G 128 Fb)] ++ wr) H → va_S A s.heap H locs → lv_has ls 11 [(8, .int (nI j)), (7, .int (nI (t % 5))), (6, .int (nI (dO t i))), (5, .int (nI i)), (4, .int (nI t)), (0, .ref ar), (1, .int (nI (4 * t + i))), (2, .ref fr), (3, .int 0)] → W p l e (rmz 10 280 3 18) s m ([.ref ar, .int (nI (4 * t + i)), .ref fr, .int 0] : List Value).toArray below meth c H locs 0 0 (xQ below s A 3 18 (fun v H => v = none ∧ ∃ (D9 Y1 Y2 Y3 : Nat → Int8) (lf9 : Int32), RecI D9 (va_cpy Fb M 0 (128 * (4 * t + i)) (nowN am L b (thr sk nw rb (t % 5) t))) sk nw rb ∧ OffI D9 (va_cpy Fb M 0 (128 * (4 * t + i)) (nowN am L b (thr sk nw rb (t % 5) t))) sk nw rb ∧ (am = false → OnI D9 (va_cpy Fb M 0 (128 * (4 * t + i)) (nowN am L b (thr sk nw rb (t % 5) t))) sk nw rb) ∧ va_P G.1 zcl ([(ar, eA5 dk on pt rc pw (sI sk) (nI rb) nw la), (pw, ePw wn lf9 (nI b) am bh), (dk, eB G 96680 D9), (on, eB G 128 Y1), (pt, eB G 128 Y2), (rc, eB G 136 Y3), (fr, eB G 128 Fb)] ++ wr) H) (fun x H => am = true ∧ xE (gAr G) x H ∧ ∃ (D9 Y1 Y2 Y3 : Nat → Int8) (lf9 : Int32), RecI D9 (va_cpy Fb M 0 (128 * (4 * t + i)) (nowN am L b (thr sk nw rb (t % 5) t))) sk nw rb ∧ OffI D9 (va_cpy Fb M 0 (128 * (4 * t + i)) (nowN am L b (thr sk nw rb (t % 5) t))) sk nw rb ∧ (am = false → OnI D9 (va_cpy Fb M 0 (128 * (4 * t + i)) (nowN am L b (thr sk nw rb (t % 5) t))) sk nw rb) ∧ va_P G.1 zcl ([(ar, eA5 dk on pt rc pw (sI sk) (nI rb) nw la), (pw, ePw wn lf9 (nI b) am bh), (dk, eB G 96680 D9), (on, eB G 128 Y1), (pt, eB G 128 Y2), (rc, eB G 136 Y3), (fr, eB G 128 Fb)] ++ wr) H)) (F0 m 82 ls []) := by
      intro n
      induction n with
      | zero =>
        intro j hj O Y H locs ls hY hP hS hl
        obtain rfl : j = 4 := by omega
        refine lv_iload hx hb zd_A5_write3_82 (lv_at hl 0 rfl) ?_
        refine lv_iconst (v := nI 4) hx hb zd_A5_write3_84 (by decide) ?_
        refine lv_icmp_ge (tgt := 156) hx hb zd_A5_write3_85 rfl (fun _ => ?_) (fun hc9 => absurd hc9 (fun h => h (Int32.le_refl _)))
        exact mark O Y H locs ls hY hP hS (lv_sub hl [1, 2, 3, 4, 5, 6, 7, 8] rfl)
      | succ n ih =>
        intro j hj O Y H locs ls hY hP hS hl
        have hD := zw_DP hD hP (by simp only [List.map_append, List.map_cons, List.map_nil])
        have nxt : ∀ (O Y : Nat → Int8) (H : Heap) (locs : List Loc) (ls : Array Slot), (∀ x, x < 128 → Y x = oacc M t i x (j + 1)) → va_P G.1 zcl ([(ar, eA5 dk on pt rc pw (sI sk) (nI rb) nw la), (pw, ePw wn lf (nI b) am bh), (dk, eB G 96680 D), (on, eB G 128 O), (pt, eB G 128 Y), (rc, eB G 136 X3), (fr, eB G 128 Fb)] ++ wr) H → va_S A s.heap H locs → lv_has ls 11 [(8, .int (nI j)), (7, .int (nI (t % 5))), (6, .int (nI (dO t i))), (5, .int (nI i)), (4, .int (nI t)), (0, .ref ar), (1, .int (nI (4 * t + i))), (2, .ref fr), (3, .int 0)] → W p l e (rmz 10 280 3 18) s m ([.ref ar, .int (nI (4 * t + i)), .ref fr, .int 0] : List Value).toArray below meth c H locs 0 0 (xQ below s A 3 18 (fun v H => v = none ∧ ∃ (D9 Y1 Y2 Y3 : Nat → Int8) (lf9 : Int32), RecI D9 (va_cpy Fb M 0 (128 * (4 * t + i)) (nowN am L b (thr sk nw rb (t % 5) t))) sk nw rb ∧ OffI D9 (va_cpy Fb M 0 (128 * (4 * t + i)) (nowN am L b (thr sk nw rb (t % 5) t))) sk nw rb ∧ (am = false → OnI D9 (va_cpy Fb M 0 (128 * (4 * t + i)) (nowN am L b (thr sk nw rb (t % 5) t))) sk nw rb) ∧ va_P G.1 zcl ([(ar, eA5 dk on pt rc pw (sI sk) (nI rb) nw la), (pw, ePw wn lf9 (nI b) am bh), (dk, eB G 96680 D9), (on, eB G 128 Y1), (pt, eB G 128 Y2), (rc, eB G 136 Y3), (fr, eB G 128 Fb)] ++ wr) H) (fun x H => am = true ∧ xE (gAr G) x H ∧ ∃ (D9 Y1 Y2 Y3 : Nat → Int8) (lf9 : Int32), RecI D9 (va_cpy Fb M 0 (128 * (4 * t + i)) (nowN am L b (thr sk nw rb (t % 5) t))) sk nw rb ∧ OffI D9 (va_cpy Fb M 0 (128 * (4 * t + i)) (nowN am L b (thr sk nw rb (t % 5) t))) sk nw rb ∧ (am = false → OnI D9 (va_cpy Fb M 0 (128 * (4 * t + i)) (nowN am L b (thr sk nw rb (t % 5) t))) sk nw rb) ∧ va_P G.1 zcl ([(ar, eA5 dk on pt rc pw (sI sk) (nI rb) nw la), (pw, ePw wn lf9 (nI b) am bh), (dk, eB G 96680 D9), (on, eB G 128 Y1), (pt, eB G 128 Y2), (rc, eB G 136 Y3), (fr, eB G 128 Fb)] ++ wr) H)) (F0 m 150 ls []) := by
          intro O Y H locs ls hY hP hS hl
          refine lv_iinc (k := 0) hx hb zd_A5_write3_150 hl rfl (zl_inc j) (by decide) rfl (fun ls hl => ?_)
          have hl : lv_has ls 11 [(8, _), (7, _), (6, _), (5, _), (4, _), (0, _), (1, _), (2, _), (3, _)] := hl
          refine lv_goto (tgt := 82) hx hb zd_A5_write3_153 rfl ?_
          exact ih (j + 1) (by omega) O Y H locs ls hY hP hS hl
        refine lv_iload hx hb zd_A5_write3_82 (lv_at hl 0 rfl) ?_
        refine lv_iconst (v := nI 4) hx hb zd_A5_write3_84 (by decide) ?_
        refine lv_icmp_ge (tgt := 156) hx hb zd_A5_write3_85 rfl (fun hc9 => absurd hc9 (nI_ge (by omega) (by decide))) (fun _ => ?_)
        refine lv_iload hx hb zd_A5_write3_88 (lv_at hl 0 rfl) ?_
        refine lv_iload hx hb zd_A5_write3_90 (lv_at hl 3 rfl) ?_
        refine lv_icmp_ne (tgt := 98) hx hb zd_A5_write3_92 rfl (fun hji => ?_) (fun hji => ?_)
        · have hji : ¬ j = i := fun h => hji ((nI_eq (by omega) (by omega)).mpr h)
          refine lv_aload_n hx hb zd_A5_write3_98 rfl (lv_at hl 5 rfl) ?_
          refine lv_iload hx hb zd_A5_write3_99 (lv_at hl 4 rfl) ?_
          refine lv_iload hx hb zd_A5_write3_101 (lv_at hl 0 rfl) ?_
          refine zk_S F hT hK hZ hS hl.1 (zc_A5_diskOf l G t j (by omega) (by omega)) zl_A5_diskOf (zY_A5_diskOf hT) zq_249 zq_250 zq_3 zd_A5_write3_103 rfl ⟨rfl, rfl, Nat.le_of_ble_eq_true rfl, Nat.le_of_ble_eq_true rfl, Nat.le_of_ble_eq_true rfl, Nat.le_of_ble_eq_true rfl⟩ (fun v H locs hv hS => ?_) (fun x H locs hv hS => hv.elim)
          obtain ⟨rfl, rfl⟩ := hv
          refine zw_app ?_
          refine lv_iload hx hb zd_A5_write3_106 (lv_at hl 4 rfl) ?_
          refine lv_aload_n hx hb zd_A5_write3_108 rfl (lv_at hl 5 rfl) ?_
          refine zg_A5 F hT hK hP 0 rfl 1 (by decide) zq_55 rfl zd_A5_write3_109 ?_
          have hP9 := zw_perm hP [0, 2, 3, 1, 4, 5, 6] rfl
          have hP9 : va_P G.1 zcl ([(_, _), (_, _), (_, _), (_, _), (_, _), (_, _), (_, _)] ++ wr) H := hP9
          have hD := zw_permD hD hP9 [0, 2, 3, 1, 4, 5, 6] (by decide) rfl
          have hP := hP9
          refine zk_V F hT hK hZ hS hl.1 hP 0 rfl rfl rfl (zc_A5_load l G ar dk on pt rc pw sk rb nw la on (dO t j) t D O _ (dO_lt (by omega)) ht (by omega) hP hD) zl_A5_load (zY_A5_load hT) zq_255 zq_257 zs_1 zd_A5_write3_112 rfl ⟨rfl, rfl, Nat.le_of_ble_eq_true rfl, Nat.le_of_ble_eq_true rfl, Nat.le_of_ble_eq_true rfl, Nat.le_of_ble_eq_true rfl⟩ (fun v H locs hv hS => ?_) (fun x H locs hv hS => hv.elim)
          obtain ⟨rfl, O2, hO2, hP⟩ := hv
          refine zw_app0 ?_
          have hP : va_P G.1 zcl ([(_, _), (_, _), (_, _), (_, _), (_, _), (_, _), (_, _)] ++ wr) H := hP
          have hD := zw_DP hD hP (by simp only [List.map_append, List.map_cons, List.map_nil])
          have hP9 := zw_perm hP [0, 3, 1, 2, 4, 5, 6] rfl
          have hP9 : va_P G.1 zcl ([(_, _), (_, _), (_, _), (_, _), (_, _), (_, _), (_, _)] ++ wr) H := hP9
          have hD := zw_permD hD hP9 [0, 3, 1, 2, 4, 5, 6] (by decide) rfl
          have hP := hP9
          refine lv_iconst (v := 0) hx hb zd_A5_write3_115 (by decide) ?_
          refine lv_istore hx hb zd_A5_write3_116 hl (by decide) rfl (fun ls hl => ?_)
          have hl : lv_has ls 11 [(9, _), (8, _), (7, _), (6, _), (5, _), (4, _), (0, _), (1, _), (2, _), (3, _)] := hl
          exact l2 j (by omega) hji nxt 128 0 rfl O2 Y H locs ls (fun x hx => by rw [hO2 x hx, p_load hO (dO_lt (by omega)) ht hx, idl_dO]) (fun x hx => by rw [hY x hx, if_neg (by omega)]) hP hS hl
        · have hji : j = i := (nI_eq (by omega) (by omega)).mp hji
          refine lv_goto (tgt := 150) hx hb zd_A5_write3_95 rfl ?_
          exact nxt O Y H locs ls (fun x hx => by rw [hY x hx]; simp [oacc, hji]) hP hS hl
    have l0 : ∀ (n k : Nat), n + k = 128 → ∀ (Y : Nat → Int8) (H : Heap) (locs : List Loc) (ls : Array Slot), (∀ x, x < k → Y x = 0) → va_P G.1 zcl ([(ar, eA5 dk on pt rc pw (sI sk) (nI rb) nw la), (pw, ePw wn lf (nI b) am bh), (dk, eB G 96680 D), (on, eB G 128 X1), (pt, eB G 128 Y), (rc, eB G 136 X3), (fr, eB G 128 Fb)] ++ wr) H → va_S A s.heap H locs → lv_has ls 11 [(8, .int (nI k)), (7, .int (nI (t % 5))), (6, .int (nI (dO t i))), (5, .int (nI i)), (4, .int (nI t)), (0, .ref ar), (1, .int (nI (4 * t + i))), (2, .ref fr), (3, .int 0)] → W p l e (rmz 10 280 3 18) s m ([.ref ar, .int (nI (4 * t + i)), .ref fr, .int 0] : List Value).toArray below meth c H locs 0 0 (xQ below s A 3 18 (fun v H => v = none ∧ ∃ (D9 Y1 Y2 Y3 : Nat → Int8) (lf9 : Int32), RecI D9 (va_cpy Fb M 0 (128 * (4 * t + i)) (nowN am L b (thr sk nw rb (t % 5) t))) sk nw rb ∧ OffI D9 (va_cpy Fb M 0 (128 * (4 * t + i)) (nowN am L b (thr sk nw rb (t % 5) t))) sk nw rb ∧ (am = false → OnI D9 (va_cpy Fb M 0 (128 * (4 * t + i)) (nowN am L b (thr sk nw rb (t % 5) t))) sk nw rb) ∧ va_P G.1 zcl ([(ar, eA5 dk on pt rc pw (sI sk) (nI rb) nw la), (pw, ePw wn lf9 (nI b) am bh), (dk, eB G 96680 D9), (on, eB G 128 Y1), (pt, eB G 128 Y2), (rc, eB G 136 Y3), (fr, eB G 128 Fb)] ++ wr) H) (fun x H => am = true ∧ xE (gAr G) x H ∧ ∃ (D9 Y1 Y2 Y3 : Nat → Int8) (lf9 : Int32), RecI D9 (va_cpy Fb M 0 (128 * (4 * t + i)) (nowN am L b (thr sk nw rb (t % 5) t))) sk nw rb ∧ OffI D9 (va_cpy Fb M 0 (128 * (4 * t + i)) (nowN am L b (thr sk nw rb (t % 5) t))) sk nw rb ∧ (am = false → OnI D9 (va_cpy Fb M 0 (128 * (4 * t + i)) (nowN am L b (thr sk nw rb (t % 5) t))) sk nw rb) ∧ va_P G.1 zcl ([(ar, eA5 dk on pt rc pw (sI sk) (nI rb) nw la), (pw, ePw wn lf9 (nI b) am bh), (dk, eB G 96680 D9), (on, eB G 128 Y1), (pt, eB G 128 Y2), (rc, eB G 136 Y3), (fr, eB G 128 Fb)] ++ wr) H)) (F0 m 57 ls []) := by
      intro n
      induction n with
      | zero =>
        intro k hk Y H locs ls hY hP hS hl
        obtain rfl : k = 128 := by omega
        refine lv_iload hx hb zd_A5_write3_57 (lv_at hl 0 rfl) ?_
        refine lv_sipush (v := nI 128) hx hb zd_A5_write3_59 (by decide) ?_
        refine lv_icmp_ge (tgt := 79) hx hb zd_A5_write3_62 rfl (fun _ => ?_) (fun hc9 => absurd hc9 (fun h => h (Int32.le_refl _)))
        refine lv_iconst (v := nI 0) hx hb zd_A5_write3_79 (by decide) ?_
        refine lv_istore hx hb zd_A5_write3_80 hl (by decide) rfl (fun ls hl => ?_)
        have hl : lv_has ls 11 [(8, _), (7, _), (6, _), (5, _), (4, _), (0, _), (1, _), (2, _), (3, _)] := hl
        exact l1 4 0 rfl X1 Y H locs ls (fun x hx => by rw [hY x hx]; rfl) hP hS hl
      | succ n ih =>
        intro k hk Y H locs ls hY hP hS hl
        have hD := zw_DP hD hP (by simp only [List.map_append, List.map_cons, List.map_nil])
        refine lv_iload hx hb zd_A5_write3_57 (lv_at hl 0 rfl) ?_
        refine lv_sipush (v := nI 128) hx hb zd_A5_write3_59 (by decide) ?_
        refine lv_icmp_ge (tgt := 79) hx hb zd_A5_write3_62 rfl (fun hc9 => absurd hc9 (nI_ge (by omega) (by decide))) (fun _ => ?_)
        refine lv_aload_n hx hb zd_A5_write3_65 rfl (lv_at hl 5 rfl) ?_
        refine zg_A5 F hT hK hP 0 rfl 2 (by decide) zq_56 rfl zd_A5_write3_66 ?_
        refine lv_iload hx hb zd_A5_write3_69 (lv_at hl 0 rfl) ?_
        refine lv_iconst (v := 0) hx hb zd_A5_write3_71 (by decide) ?_
        refine zw_bast F hK hP hD hS 4 rfl k rfl (by omega) (by decide) zd_A5_write3_72 (fun H locs hP hD hS => ?_)
        have hP : va_P G.1 zcl ([(_, _), (_, _), (_, _), (_, _), (_, _), (_, _), (_, _)] ++ wr) H := hP
        have hD : va_D A ([(_, _), (_, _), (_, _), (_, _), (_, _), (_, _), (_, _)] ++ wr) := hD
        refine lv_iinc (k := 0) hx hb zd_A5_write3_73 hl rfl (zl_inc k) (by decide) rfl (fun ls hl => ?_)
        have hl : lv_has ls 11 [(8, _), (7, _), (6, _), (5, _), (4, _), (0, _), (1, _), (2, _), (3, _)] := hl
        refine lv_goto (tgt := 57) hx hb zd_A5_write3_76 rfl ?_
        exact ih (k + 1) (by omega) _ H locs ls (fun x hx => by
          unfold ub
          by_cases h : x = k
          · rw [if_pos h]; rfl
          · rw [if_neg h]; exact hY x (by omega)) hP hS hl
    refine lv_iconst (v := nI 0) hx hb zd_A5_write3_54 (by decide) ?_
    refine lv_istore hx hb zd_A5_write3_55 hl (by decide) rfl (fun ls hl => ?_)
    have hl : lv_has ls 11 [(8, _), (7, _), (6, _), (5, _), (4, _), (0, _), (1, _), (2, _), (3, _)] := hl
    exact l0 128 0 rfl X2 _ _ ls (fun x hx => absurd hx (by omega)) hP hS hl
  · have hq : thr sk nw rb (t % 5) t = false := bI_0.mp hq
    refine lv_aload_n hx hb zd_A5_write3_37 rfl (lv_at hl 4 rfl) ?_
    refine lv_iload hx hb zd_A5_write3_38 (lv_at hl 1 rfl) ?_
    refine lv_iload hx hb zd_A5_write3_40 (lv_at hl 3 rfl) ?_
    refine zk_S F hT hK hZ hS hl.1 (zc_A5_at l G (dO t i) t) zl_A5_at (zY_A5_at hT) zq_263 zq_264 zq_3 zd_A5_write3_42 rfl ⟨rfl, rfl, Nat.le_of_ble_eq_true rfl, Nat.le_of_ble_eq_true rfl, Nat.le_of_ble_eq_true rfl, Nat.le_of_ble_eq_true rfl⟩ (fun v H locs hv hS => ?_) (fun x H locs hv hS => hv.elim)
    obtain ⟨rfl, rfl⟩ := hv
    refine zw_app ?_
    refine lv_aload_n hx hb zd_A5_write3_45 rfl (lv_at hl 6 rfl) ?_
    refine lv_sipush (v := nI 128) hx hb zd_A5_write3_46 (by decide) ?_
    refine lv_iload_n hx hb zd_A5_write3_49 rfl (lv_at hl 7 rfl) ?_
    have hP9 := zw_perm hP [0, 1, 2, 6, 3, 4, 5] rfl
    have hP9 : va_P G.1 zcl ([(_, _), (_, _), (_, _), (_, _), (_, _), (_, _), (_, _)] ++ wr) s.heap := hP9
    have hD := zw_permD hD hP9 [0, 1, 2, 6, 3, 4, 5] (by decide) rfl
    have hP := hP9
    refine zk_V F hT hK hZ hS hl.1 hP 0 rfl rfl rfl (zc_A5_write4 l G ar dk on pt rc pw sk rb nw la fr 128 (atN (dO t i) t) 128 b wn lf am bh D Fb _ hfl h1 h2 (by have := dO_lt (t := t) hi; unfold atN; omega) (by decide) (by decide) hb0 hP hD) zl_A5_write4 (zY_A5_write4 hT) zq_277 zq_279 zs_3 zd_A5_write3_50 rfl ⟨rfl, rfl, Nat.le_of_ble_eq_true rfl, Nat.le_of_ble_eq_true rfl, Nat.le_of_ble_eq_true rfl, Nat.le_of_ble_eq_true rfl⟩ (fun v H locs hv hS => ?_) (fun x H locs hv hS => ?_)
    · obtain ⟨rfl, hncut0, hP⟩ := hv
      refine zw_app0 ?_
      have hP : va_P G.1 zcl ([(_, _), (_, _), (_, _), (_, _), (_, _), (_, _), (_, _)] ++ wr) H := hP
      have hD := zw_DP hD hP (by simp only [List.map_append, List.map_cons, List.map_nil])
      have hP9 := zw_perm hP [0, 1, 2, 4, 5, 6, 3] rfl
      have hP9 : va_P G.1 zcl ([(_, _), (_, _), (_, _), (_, _), (_, _), (_, _), (_, _)] ++ wr) H := hP9
      have hD := zw_permD hD hP9 [0, 1, 2, 4, 5, 6, 3] (by decide) rfl
      have hP := hP9
      obtain ⟨g1, g2⟩ := p_E1 (F := Fb) (w := 128) hR hO ht hi (by decide) hq
      refine W.widen (k := 3) (n := 18) (by decide) (by decide) ?_
      exact zx_vret F hS.2.2 zd_A5_write3_53 ⟨rfl, _, _, _, _, _, by rw [hq, nw_a hlf hncut0]; exact g1, by rw [hq, nw_a hlf hncut0]; exact g2.off, fun _ => by rw [hq, nw_a hlf hncut0]; exact g2, hP⟩
    · obtain ⟨hcut, hxe, hP⟩ := hv
      have hP : va_P G.1 zcl ([(_, _), (_, _), (_, _), (_, _), (_, _), (_, _), (_, _)] ++ wr) H := hP
      have hD := zw_DP hD hP (by simp only [List.map_append, List.map_cons, List.map_nil])
      have hP9 := zw_perm hP [0, 1, 2, 4, 5, 6, 3] rfl
      have hP9 : va_P G.1 zcl ([(_, _), (_, _), (_, _), (_, _), (_, _), (_, _), (_, _)] ++ wr) H := hP9
      have hD := zw_permD hD hP9 [0, 1, 2, 4, 5, 6, 3] (by decide) rfl
      have hP := hP9
      refine zx_TW (k := 3) (n := 18) (by decide) (by decide) ?_
      obtain ⟨g1, g2⟩ := p_E1 (F := Fb) (w := min b 128) hR hO ht hi (by omega) hq
      exact zx_out F hS.2.2 rfl ⟨hcut.1, hxe, _, _, _, _, _, by rw [hq, (nw_b hlf hcut).1]; exact g1, by rw [hq, (nw_b hlf hcut).1]; exact g2.off, fun _ => by rw [hq, (nw_b hlf hcut).1]; exact g2, hP⟩
end
section
/-! Array5.recover -/
theorem i8_e {a b : Int8} : a.toInt32 = b.toInt32 ↔ a = b := ⟨fun h => by rw [← Int8.toInt8_toInt32 a, h, Int8.toInt8_toInt32], fun h => by rw [h]⟩
theorem i8_0 {a : Int8} : a.toInt32 = 0 ↔ a = 0 := i8_e (b := 0)
theorem bI_and (a b : Bool) : bI a &&& bI b = bI (a && b) := by cases a <;> cases b <;> decide
set_option maxHeartbeats 4000000 in
set_option maxRecDepth 20000 in
theorem zc_A5_recover (l : Launch) (G : xG) {H0 : Heap} {A : Nat → Prop} (ar dk on pt rc pw sk rb : Nat) (nw la : Bool) (b : Nat) (wn lf : Int32) (am bh : Bool) (D X M : Nat → Int8) (wr : va_W) (hfl : l.flags = flags0) (h1 : ¬ wn = 1) (h2 : ¬ wn = 2) (hb0 : b < 2 ^ 31) (hrb : rb < 150) (hR : RecI D M sk nw rb) (hO : OffI D M sk nw rb) (hP : va_P G.1 zcl ([(ar, eA5 dk on pt rc pw (sI sk) (nI rb) nw la), (pw, ePw wn lf (nI b) am bh), (dk, eB G 96680 D), (pt, eB G 128 X)] ++ wr) H0) (hD : va_D A ([(ar, eA5 dk on pt rc pw (sI sk) (nI rb) nw la), (pw, ePw wn lf (nI b) am bh), (dk, eB G 96680 D), (pt, eB G 128 X)] ++ wr)) : XM l G (rmz 10 280 5 30) zy_A5_recover zb_A5_recover 7 none [] H0 A [.ref ar] 5 30 (fun v H => v = none ∧ ∃ (D9 Y9 : Nat → Int8) (lf9 : Int32), RecI D9 M sk nw rb ∧ OnI D9 M sk nw rb ∧ va_P G.1 zcl ([(ar, eA5 dk on pt rc pw (sI sk) (nI rb) nw la), (pw, ePw wn lf9 (nI b) am bh), (dk, eB G 96680 D9), (pt, eB G 128 Y9)] ++ wr) H) (fun x H => am = true ∧ xE (gAr G) x H ∧ ∃ (D9 Y9 : Nat → Int8) (lf9 : Int32), RecI D9 M sk nw rb ∧ OffI D9 M sk nw rb ∧ va_P G.1 zcl ([(ar, eA5 dk on pt rc pw (sI sk) (nI rb) nw la), (pw, ePw wn lf9 (nI b) am bh), (dk, eB G 96680 D9), (pt, eB G 128 Y9)] ++ wr) H) := by
  intro p e s m below meth c F hT hK hH hZ
  subst hH
  have hx := F.1
  have hb := F.2.1
  have hS : va_S A s.heap s.heap [] := va_S.rf
  have hl := lv_entry ([.ref ar]) (n := 7) (Nat.le_of_ble_eq_true rfl)
  rw [lg_entry_eq]
  generalize (lg_sl ([.ref ar]) ++ List.replicate (7 - (lg_sl ([.ref ar])).length) Slot.unset).toArray = ls at hl ⊢
  have hl : lv_has ls 7 [(0, .ref ar)] := hl
  have loop : ∀ (n q : Nat), n + q = 5 → ∀ (D X : Nat → Int8) (lf : Int32) (H : Heap) (locs : List Loc) (ls : Array Slot), RecI D M sk nw rb → OffI D M sk nw rb → OnU D M sk nw rb q → va_P G.1 zcl ([(ar, eA5 dk on pt rc pw (sI sk) (nI rb) nw la), (pw, ePw wn lf (nI b) am bh), (dk, eB G 96680 D), (pt, eB G 128 X)] ++ wr) H → va_S A s.heap H locs → lv_has ls 7 [(1, .int (nI q)), (0, .ref ar)] → W p l e (rmz 10 280 5 30) s m ([.ref ar] : List Value).toArray below meth c H locs q (6 * q) (xQ below s A 5 30 (fun v H => v = none ∧ ∃ (D9 Y9 : Nat → Int8) (lf9 : Int32), RecI D9 M sk nw rb ∧ OnI D9 M sk nw rb ∧ va_P G.1 zcl ([(ar, eA5 dk on pt rc pw (sI sk) (nI rb) nw la), (pw, ePw wn lf9 (nI b) am bh), (dk, eB G 96680 D9), (pt, eB G 128 Y9)] ++ wr) H) (fun x H => am = true ∧ xE (gAr G) x H ∧ ∃ (D9 Y9 : Nat → Int8) (lf9 : Int32), RecI D9 M sk nw rb ∧ OffI D9 M sk nw rb ∧ va_P G.1 zcl ([(ar, eA5 dk on pt rc pw (sI sk) (nI rb) nw la), (pw, ePw wn lf9 (nI b) am bh), (dk, eB G 96680 D9), (pt, eB G 128 Y9)] ++ wr) H)) (F0 m 2 ls []) := by
    intro n
    induction n with
    | zero =>
      intro q hq5 D X lf H locs ls hR hO hU hP hS hl
      obtain rfl : q = 5 := by omega
      refine lv_iload_n hx hb zd_A5_recover_2 rfl (lv_at hl 0 rfl) ?_
      refine lv_iconst (v := nI 5) hx hb zd_A5_recover_3 (by decide) ?_
      refine lv_icmp_ge (tgt := 211) hx hb zd_A5_recover_4 rfl (fun _ => ?_) (fun hc9 => absurd hc9 (fun h => h (Int32.le_refl _)))
      exact zx_vret F hS.2.2 zd_A5_recover_211 ⟨rfl, D, X, lf, hR, fun d hd t ht hth k hk => hU d hd t ht hth k hk, hP⟩
    | succ n ih =>
      intro q hq5 D X lf H locs ls hR hO hU hP hS hl
      have hD := zw_DP hD hP (by simp only [List.map_append, List.map_cons, List.map_nil])
      have hq : q < 5 := by omega
      obtain ⟨⟨b1, b2, b3⟩, -⟩ := hR q hq
      have nxt : ∀ (D X : Nat → Int8) (lf : Int32) (H : Heap) (locs : List Loc) (ls : Array Slot), RecI D M sk nw rb → OffI D M sk nw rb → OnU D M sk nw rb (q + 1) → va_P G.1 zcl ([(ar, eA5 dk on pt rc pw (sI sk) (nI rb) nw la), (pw, ePw wn lf (nI b) am bh), (dk, eB G 96680 D), (pt, eB G 128 X)] ++ wr) H → va_S A s.heap H locs → lv_has ls 7 [(1, .int (nI q)), (0, .ref ar)] → W p l e (rmz 10 280 5 30) s m ([.ref ar] : List Value).toArray below meth c H locs (q + 1) (6 * (q + 1)) (xQ below s A 5 30 (fun v H => v = none ∧ ∃ (D9 Y9 : Nat → Int8) (lf9 : Int32), RecI D9 M sk nw rb ∧ OnI D9 M sk nw rb ∧ va_P G.1 zcl ([(ar, eA5 dk on pt rc pw (sI sk) (nI rb) nw la), (pw, ePw wn lf9 (nI b) am bh), (dk, eB G 96680 D9), (pt, eB G 128 Y9)] ++ wr) H) (fun x H => am = true ∧ xE (gAr G) x H ∧ ∃ (D9 Y9 : Nat → Int8) (lf9 : Int32), RecI D9 M sk nw rb ∧ OffI D9 M sk nw rb ∧ va_P G.1 zcl ([(ar, eA5 dk on pt rc pw (sI sk) (nI rb) nw la), (pw, ePw wn lf9 (nI b) am bh), (dk, eB G 96680 D9), (pt, eB G 128 Y9)] ++ wr) H)) (F0 m 205 ls []) := by
        intro D X lf H locs ls hR hO hU hP hS hl
        refine lv_iinc (k := 0) hx hb zd_A5_recover_205 hl rfl (zl_inc q) (by decide) rfl (fun ls hl => ?_)
        have hl : lv_has ls 7 [(1, _), (0, _)] := hl
        refine lv_goto (tgt := 2) hx hb zd_A5_recover_208 rfl ?_
        exact ih (q + 1) (by omega) D X lf H locs ls hR hO hU hP hS hl
      refine lv_iload_n hx hb zd_A5_recover_2 rfl (lv_at hl 0 rfl) ?_
      refine lv_iconst (v := nI 5) hx hb zd_A5_recover_3 (by decide) ?_
      refine lv_icmp_ge (tgt := 211) hx hb zd_A5_recover_4 rfl (fun hc9 => absurd hc9 (nI_ge (by omega) (by decide))) (fun _ => ?_)
      refine lv_iload_n hx hb zd_A5_recover_7 rfl (lv_at hl 0 rfl) ?_
      refine lv_iconst (v := nI 0) hx hb zd_A5_recover_8 (by decide) ?_
      refine zk_S F hT hK hZ hS hl.1 (zc_A5_at l G q 0) zl_A5_at (zY_A5_at hT) zq_263 zq_264 zq_3 zd_A5_recover_9 rfl ⟨rfl, rfl, Nat.le_of_ble_eq_true rfl, Nat.le_of_ble_eq_true rfl, (by show _ ≤ 5; omega), (by show _ ≤ 30; omega)⟩ (fun v H locs hv hS => ?_) (fun x H locs hv hS => hv.elim)
      obtain ⟨rfl, rfl⟩ := hv
      refine zw_app ?_
      refine lv_sipush (v := nI 136) hx hb zd_A5_recover_12 (by decide) ?_
      refine lv_isub hx hb zd_A5_recover_15 ?_
      refine zw_ti (nI (19336 * q)) (by rw [pk_sub (by unfold atN; omega)]; congr 1; unfold atN; omega) ?_
      refine lv_istore_n hx hb zd_A5_recover_16 rfl hl (by decide) rfl (fun ls hl => ?_)
      have hl : lv_has ls 7 [(2, _), (1, _), (0, _)] := hl
      refine lv_aload_n hx hb zd_A5_recover_17 rfl (lv_at hl 2 rfl) ?_
      refine zg_A5 F hT hK hP 0 rfl 0 (by decide) zq_54 rfl zd_A5_recover_18 ?_
      refine lv_iload_n hx hb zd_A5_recover_21 rfl (lv_at hl 0 rfl) ?_
      refine lv_iconst (v := nI 1) hx hb zd_A5_recover_22 (by decide) ?_
      refine lv_iadd hx hb zd_A5_recover_23 ?_
      refine zw_bald F hK hP 2 rfl (19336 * q + 1) (nI_add _ _) (by omega) (by decide) zd_A5_recover_24 ?_
      refine lv_sipush (v := nI 255) hx hb zd_A5_recover_25 (by decide) ?_
      refine lv_iand hx hb zd_A5_recover_28 ?_
      refine zw_ti (nI (rst D q)) (rst_eq D q) ?_
      refine lv_istore_n hx hb zd_A5_recover_29 rfl hl (by decide) rfl (fun ls hl => ?_)
      have hl : lv_has ls 7 [(3, _), (2, _), (1, _), (0, _)] := hl
      refine lv_iload_n hx hb zd_A5_recover_30 rfl (lv_at hl 0 rfl) ?_
      refine lv_aload_n hx hb zd_A5_recover_31 rfl (lv_at hl 3 rfl) ?_
      refine zg_A5 F hT hK hP 0 rfl 0 (by decide) zq_54 rfl zd_A5_recover_32 ?_
      refine lv_iload_n hx hb zd_A5_recover_35 rfl (lv_at hl 1 rfl) ?_
      refine lv_iconst (v := nI 2) hx hb zd_A5_recover_36 (by decide) ?_
      refine lv_iadd hx hb zd_A5_recover_37 ?_
      refine zw_bald F hK hP 2 rfl (19336 * q + 2) (nI_add _ _) (by omega) (by decide) zd_A5_recover_38 ?_
      refine zw_ti (nI (rsi D q)) (b3) ?_
      refine zk_S F hT hK hZ hS hl.1 (zc_A5_diskOf l G (rst D q) (rsi D q) (by omega) (by omega)) zl_A5_diskOf (zY_A5_diskOf hT) zq_249 zq_250 zq_3 zd_A5_recover_39 rfl ⟨rfl, rfl, Nat.le_of_ble_eq_true rfl, Nat.le_of_ble_eq_true rfl, (by show _ ≤ 5; omega), (by show _ ≤ 30; omega)⟩ (fun v H locs hv hS => ?_) (fun x H locs hv hS => hv.elim)
      obtain ⟨rfl, rfl⟩ := hv
      refine zw_app ?_
      refine lv_istore hx hb zd_A5_recover_42 hl (by decide) rfl (fun ls hl => ?_)
      have hl : lv_has ls 7 [(4, _), (3, _), (2, _), (1, _), (0, _)] := hl
      refine lv_aload_n hx hb zd_A5_recover_44 rfl (lv_at hl 4 rfl) ?_
      refine zg_A5 F hT hK hP 0 rfl 0 (by decide) zq_54 rfl zd_A5_recover_45 ?_
      refine lv_iload_n hx hb zd_A5_recover_48 rfl (lv_at hl 2 rfl) ?_
      refine zw_bald F hK hP 2 rfl (19336 * q) rfl (by omega) (by decide) zd_A5_recover_49 ?_
      refine lv_if_eq (tgt := 205) hx hb zd_A5_recover_50 rfl (fun e0 => ?_) (fun e0 => ?_)
      · refine W.widen (k := q + 1) (n := 6 * (q + 1)) (by omega) (by omega) ?_
        exact nxt D X lf H locs ls hR hO (hU.up (p_skip hq hO (fun h => h.1.1 (i8_0.mp e0)))) hP hS (lv_sub hl [3, 4] rfl)
      · refine lv_aload_n hx hb zd_A5_recover_53 rfl (lv_at hl 4 rfl) ?_
        refine zg_A5 F hT hK hP 0 rfl 0 (by decide) zq_54 rfl zd_A5_recover_54 ?_
        refine lv_iload_n hx hb zd_A5_recover_57 rfl (lv_at hl 2 rfl) ?_
        refine zw_bald F hK hP 2 rfl (19336 * q) rfl (by omega) (by decide) zd_A5_recover_58 ?_
        refine lv_aload_n hx hb zd_A5_recover_59 rfl (lv_at hl 4 rfl) ?_
        refine zg_A5 F hT hK hP 0 rfl 0 (by decide) zq_54 rfl zd_A5_recover_60 ?_
        refine lv_iload_n hx hb zd_A5_recover_63 rfl (lv_at hl 2 rfl) ?_
        refine lv_sipush (v := nI 136) hx hb zd_A5_recover_64 (by decide) ?_
        refine lv_iadd hx hb zd_A5_recover_67 ?_
        refine lv_iconst (v := nI 1) hx hb zd_A5_recover_68 (by decide) ?_
        refine lv_isub hx hb zd_A5_recover_69 ?_
        refine zw_ti (nI (19336 * q + 135)) (by rw [nI_add, pk_sub (by omega)]; congr 1) ?_
        refine zw_bald F hK hP 2 rfl (19336 * q + 135) rfl (by omega) (by decide) zd_A5_recover_70 ?_
        refine lv_icmp_ne (tgt := 205) hx hb zd_A5_recover_71 rfl (fun e1 => ?_) (fun e1 => ?_)
        · refine W.widen (k := q + 1) (n := 6 * (q + 1)) (by omega) (by omega) ?_
          exact nxt D X lf H locs ls hR hO (hU.up (p_skip hq hO (fun h => e1 (i8_e.mpr h.1.2)))) hP hS (lv_sub hl [3, 4] rfl)
        · have hv : rvl D q := ⟨fun h => e0 (i8_0.mpr h), i8_e.mp e1⟩
          refine lv_aload_n hx hb zd_A5_recover_74 rfl (lv_at hl 4 rfl) ?_
          refine lv_iload_n hx hb zd_A5_recover_75 rfl (lv_at hl 3 rfl) ?_
          refine lv_iload_n hx hb zd_A5_recover_76 rfl (lv_at hl 1 rfl) ?_
          refine zk_V F hT hK hZ hS hl.1 hP 0 rfl rfl rfl (zc_A5_isThere l G ar dk on pt rc pw sk rb q (rst D q) nw la _ hq (by omega) (by omega) hP) zl_A5_isThere (zY_A5_isThere hT) zq_259 zq_261 zs_2 zd_A5_recover_77 rfl ⟨rfl, rfl, Nat.le_of_ble_eq_true rfl, Nat.le_of_ble_eq_true rfl, (by show _ ≤ 5; omega), (by show _ ≤ 30; omega)⟩ (fun v2 H locs hv2 hS => ?_) (fun x H locs hv2 hS => hv2.elim)
          obtain ⟨rfl, rfl⟩ := hv2
          refine zw_app ?_
          refine lv_if_eq (tgt := 205) hx hb zd_A5_recover_80 rfl (fun e2 => ?_) (fun e2 => ?_)
          · have e2 := bI_0.mp e2
            refine W.widen (k := q + 1) (n := 6 * (q + 1)) (by omega) (by omega) ?_
            exact nxt D X lf H locs ls hR hO (hU.up (p_skip hq hO (fun h => by rw [e2] at h; exact absurd h.2.1 (by decide)))) hP hS (lv_sub hl [3, 4] rfl)
          · have e2 : thr sk nw rb q (rst D q) = true := by cases h : thr sk nw rb q (rst D q) with | true => rfl | false => rw [h] at e2; exact absurd rfl e2
            refine lv_aload_n hx hb zd_A5_recover_83 rfl (lv_at hl 4 rfl) ?_
            refine lv_iload hx hb zd_A5_recover_84 (lv_at hl 0 rfl) ?_
            refine lv_iload_n hx hb zd_A5_recover_86 rfl (lv_at hl 1 rfl) ?_
            refine zk_V F hT hK hZ hS hl.1 hP 0 rfl rfl rfl (zc_A5_isThere l G ar dk on pt rc pw sk rb (dO (rst D q) (rsi D q)) (rst D q) nw la _ (dO_lt b2) (by omega) (by omega) hP) zl_A5_isThere (zY_A5_isThere hT) zq_259 zq_261 zs_2 zd_A5_recover_87 rfl ⟨rfl, rfl, Nat.le_of_ble_eq_true rfl, Nat.le_of_ble_eq_true rfl, (by show _ ≤ 5; omega), (by show _ ≤ 30; omega)⟩ (fun v2 H locs hv2 hS => ?_) (fun x H locs hv2 hS => hv2.elim)
            obtain ⟨rfl, rfl⟩ := hv2
            refine zw_app ?_
            refine lv_if_ne (tgt := 96) hx hb zd_A5_recover_90 rfl (fun e3 => ?_) (fun e3 => ?_)
            · have e3 : thr sk nw rb (dO (rst D q) (rsi D q)) (rst D q) = true := by cases h : thr sk nw rb (dO (rst D q) (rsi D q)) (rst D q) with | true => rfl | false => rw [h] at e3; exact absurd rfl e3
              obtain ⟨hm, hpx⟩ := p_part hq hR hO hv e2 e3
              have inner : ∀ (n k : Nat), n + k = 128 → ∀ (sm : Bool) (P : Nat → Int8) (H : Heap) (locs : List Loc) (ls : Array Slot), (∀ x, x < k → P x = par M (rst D q) x) → (sm = true → ∀ x, x < k → D (atN q (rst D q) + x) = par M (rst D q) x) → va_P G.1 zcl ([(ar, eA5 dk on pt rc pw (sI sk) (nI rb) nw la), (pw, ePw wn lf (nI b) am bh), (dk, eB G 96680 D), (pt, eB G 128 P)] ++ wr) H → va_S A s.heap H locs → lv_has ls 7 [(6, .int (nI k)), (5, .int (bI sm)), (4, .int (nI (dO (rst D q) (rsi D q)))), (3, .int (nI (rst D q))), (2, .int (nI (19336 * q))), (1, .int (nI q)), (0, .ref ar)] → W p l e (rmz 10 280 5 30) s m ([.ref ar] : List Value).toArray below meth c H locs q (6 * q) (xQ below s A 5 30 (fun v H => v = none ∧ ∃ (D9 Y9 : Nat → Int8) (lf9 : Int32), RecI D9 M sk nw rb ∧ OnI D9 M sk nw rb ∧ va_P G.1 zcl ([(ar, eA5 dk on pt rc pw (sI sk) (nI rb) nw la), (pw, ePw wn lf9 (nI b) am bh), (dk, eB G 96680 D9), (pt, eB G 128 Y9)] ++ wr) H) (fun x H => am = true ∧ xE (gAr G) x H ∧ ∃ (D9 Y9 : Nat → Int8) (lf9 : Int32), RecI D9 M sk nw rb ∧ OffI D9 M sk nw rb ∧ va_P G.1 zcl ([(ar, eA5 dk on pt rc pw (sI sk) (nI rb) nw la), (pw, ePw wn lf9 (nI b) am bh), (dk, eB G 96680 D9), (pt, eB G 128 Y9)] ++ wr) H)) (F0 m 102 ls []) := by
                intro n
                induction n with
                | zero =>
                  intro k hk sm P H locs ls hPx hsm hP hS hl
                  obtain rfl : k = 128 := by omega
                  have hD := zw_DP hD hP (by simp only [List.map_append, List.map_cons, List.map_nil])
                  refine lv_iload hx hb zd_A5_recover_102 (lv_at hl 0 rfl) ?_
                  refine lv_sipush (v := nI 128) hx hb zd_A5_recover_104 (by decide) ?_
                  refine lv_icmp_ge (tgt := 183) hx hb zd_A5_recover_107 rfl (fun _ => ?_) (fun hc9 => absurd hc9 (fun h => h (Int32.le_refl _)))
                  refine lv_iload hx hb zd_A5_recover_183 (lv_at hl 1 rfl) ?_
                  refine lv_if_ne (tgt := 205) hx hb zd_A5_recover_185 rfl (fun es => ?_) (fun es => ?_)
                  · have es : sm = true := by cases sm with | true => rfl | false => exact absurd rfl es
                    refine W.widen (k := q + 1) (n := 6 * (q + 1)) (by omega) (by omega) ?_
                    exact nxt D P lf H locs ls hR hO (hU.up (p_same hq hO hm (hsm es))) hP hS (lv_sub hl [5, 6] rfl)
                  · refine lv_aload_n hx hb zd_A5_recover_188 rfl (lv_at hl 6 rfl) ?_
                    refine lv_iload_n hx hb zd_A5_recover_189 rfl (lv_at hl 5 rfl) ?_
                    refine lv_iload_n hx hb zd_A5_recover_190 rfl (lv_at hl 3 rfl) ?_
                    refine zk_S F hT hK hZ hS hl.1 (zc_A5_at l G q (rst D q)) zl_A5_at (zY_A5_at hT) zq_263 zq_264 zq_3 zd_A5_recover_191 rfl ⟨rfl, rfl, Nat.le_of_ble_eq_true rfl, Nat.le_of_ble_eq_true rfl, (by show _ ≤ 5; omega), (by show _ ≤ 30; omega)⟩ (fun v H locs hv hS => ?_) (fun x H locs hv hS => hv.elim)
                    obtain ⟨rfl, rfl⟩ := hv
                    refine zw_app ?_
                    refine lv_aload_n hx hb zd_A5_recover_194 rfl (lv_at hl 6 rfl) ?_
                    refine zg_A5 F hT hK hP 0 rfl 2 (by decide) zq_56 rfl zd_A5_recover_195 ?_
                    refine lv_sipush (v := nI 128) hx hb zd_A5_recover_198 (by decide) ?_
                    refine lv_iconst (v := 0) hx hb zd_A5_recover_201 (by decide) ?_
                    refine zk_V F hT hK hZ hS hl.1 hP 0 rfl rfl rfl (zc_A5_write4 l G ar dk on pt rc pw sk rb nw la pt 128 (atN q (rst D q)) 128 b wn lf am bh D P _ hfl h1 h2 (by unfold atN; omega) (by decide) (by decide) hb0 hP hD) zl_A5_write4 (zY_A5_write4 hT) zq_277 zq_279 zs_3 zd_A5_recover_202 rfl ⟨rfl, rfl, Nat.le_of_ble_eq_true rfl, Nat.le_of_ble_eq_true rfl, (by show _ ≤ 5; omega), (by show _ ≤ 30; omega)⟩ (fun v H locs hv2 hS => ?_) (fun x H locs hv2 hS => ?_)
                    · obtain ⟨rfl, hnc, hP⟩ := hv2
                      refine zw_app0 ?_
                      obtain ⟨g1, g2, g3⟩ := p_wr (w := 128) hq hR hO hU (by decide) hv e3 hm hPx
                      refine W.widen (k := q + 1) (n := 6 * (q + 1)) (by omega) (by omega) ?_
                      exact nxt _ P _ H locs ls g1 g2 (g3 rfl) hP hS (lv_sub hl [5, 6] rfl)
                    · obtain ⟨hcut, hxe, hP⟩ := hv2
                      obtain ⟨g1, g2, -⟩ := p_wr (w := min b 128) hq hR hO hU (by omega) hv e3 hm hPx
                      refine zx_TW (k := 5) (n := 30) (by omega) (by omega) ?_
                      exact zx_out F hS.2.2 rfl ⟨hcut.1, hxe, _, _, _, g1, g2, hP⟩
                | succ n ih2 =>
                  intro k hk sm P H locs ls hPx hsm hP hS hl
                  have hD := zw_DP hD hP (by simp only [List.map_append, List.map_cons, List.map_nil])
                  refine lv_iload hx hb zd_A5_recover_102 (lv_at hl 0 rfl) ?_
                  refine lv_sipush (v := nI 128) hx hb zd_A5_recover_104 (by decide) ?_
                  refine lv_icmp_ge (tgt := 183) hx hb zd_A5_recover_107 rfl (fun hc9 => absurd hc9 (nI_ge (by omega) (by decide))) (fun _ => ?_)
                  refine lv_aload_n hx hb zd_A5_recover_110 rfl (lv_at hl 6 rfl) ?_
                  refine zg_A5 F hT hK hP 0 rfl 2 (by decide) zq_56 rfl zd_A5_recover_111 ?_
                  refine lv_iload hx hb zd_A5_recover_114 (lv_at hl 0 rfl) ?_
                  refine lv_aload_n hx hb zd_A5_recover_116 rfl (lv_at hl 6 rfl) ?_
                  refine zg_A5 F hT hK hP 0 rfl 0 (by decide) zq_54 rfl zd_A5_recover_117 ?_
                  refine lv_iload_n hx hb zd_A5_recover_120 rfl (lv_at hl 4 rfl) ?_
                  refine lv_iconst (v := nI 3) hx hb zd_A5_recover_121 (by decide) ?_
                  refine lv_iadd hx hb zd_A5_recover_122 ?_
                  refine lv_iload hx hb zd_A5_recover_123 (lv_at hl 0 rfl) ?_
                  refine lv_iadd hx hb zd_A5_recover_125 ?_
                  refine zw_bald F hK hP 2 rfl (19336 * q + 3 + k) (by rw [nI_add, nI_add]) (by omega) (by decide) zd_A5_recover_126 ?_
                  refine lv_aload_n hx hb zd_A5_recover_127 rfl (lv_at hl 6 rfl) ?_
                  refine zg_A5 F hT hK hP 0 rfl 0 (by decide) zq_54 rfl zd_A5_recover_128 ?_
                  refine lv_iload hx hb zd_A5_recover_131 (lv_at hl 2 rfl) ?_
                  refine lv_iload_n hx hb zd_A5_recover_133 rfl (lv_at hl 3 rfl) ?_
                  refine zk_S F hT hK hZ hS hl.1 (zc_A5_at l G (dO (rst D q) (rsi D q)) (rst D q)) zl_A5_at (zY_A5_at hT) zq_263 zq_264 zq_3 zd_A5_recover_134 rfl ⟨rfl, rfl, Nat.le_of_ble_eq_true rfl, Nat.le_of_ble_eq_true rfl, (by show _ ≤ 5; omega), (by show _ ≤ 30; omega)⟩ (fun v2 H locs hv2 hS => ?_) (fun x H locs hv2 hS => hv2.elim)
                  obtain ⟨rfl, rfl⟩ := hv2
                  refine zw_app ?_
                  have hdl := dO_lt (t := rst D q) b2
                  refine lv_iload hx hb zd_A5_recover_137 (lv_at hl 0 rfl) ?_
                  refine lv_iadd hx hb zd_A5_recover_139 ?_
                  refine zw_bald F hK hP 2 rfl (atN (dO (rst D q) (rsi D q)) (rst D q) + k) (nI_add _ _) (by unfold atN; omega) (by decide) zd_A5_recover_140 ?_
                  refine lv_ixor hx hb zd_A5_recover_141 ?_
                  refine lv_i2b hx hb zd_A5_recover_142 rfl ?_
                  refine zw_bast F hK hP hD hS 3 rfl k rfl (by omega) (by decide) zd_A5_recover_143 (fun H locs hP hD hS => ?_)
                  have hP : va_P G.1 zcl ([(_, _), (_, _), (_, _), (_, _)] ++ wr) H := hP
                  have hD : va_D A ([(_, _), (_, _), (_, _), (_, _)] ++ wr) := hD
                  refine lv_iload hx hb zd_A5_recover_144 (lv_at hl 1 rfl) ?_
                  refine lv_aload_n hx hb zd_A5_recover_146 rfl (lv_at hl 6 rfl) ?_
                  refine zg_A5 F hT hK hP 0 rfl 2 (by decide) zq_56 rfl zd_A5_recover_147 ?_
                  refine lv_iload hx hb zd_A5_recover_150 (lv_at hl 0 rfl) ?_
                  refine zw_bald F hK hP 3 rfl k rfl (by omega) (by decide) zd_A5_recover_152 ?_
                  refine lv_aload_n hx hb zd_A5_recover_153 rfl (lv_at hl 6 rfl) ?_
                  refine zg_A5 F hT hK hP 0 rfl 0 (by decide) zq_54 rfl zd_A5_recover_154 ?_
                  refine lv_iload_n hx hb zd_A5_recover_157 rfl (lv_at hl 5 rfl) ?_
                  refine lv_iload_n hx hb zd_A5_recover_158 rfl (lv_at hl 3 rfl) ?_
                  refine zk_S F hT hK hZ hS hl.1 (zc_A5_at l G q (rst D q)) zl_A5_at (zY_A5_at hT) zq_263 zq_264 zq_3 zd_A5_recover_159 rfl ⟨rfl, rfl, Nat.le_of_ble_eq_true rfl, Nat.le_of_ble_eq_true rfl, (by show _ ≤ 5; omega), (by show _ ≤ 30; omega)⟩ (fun v2 H locs hv2 hS => ?_) (fun x H locs hv2 hS => hv2.elim)
                  obtain ⟨rfl, rfl⟩ := hv2
                  refine zw_app ?_
                  refine lv_iload hx hb zd_A5_recover_162 (lv_at hl 0 rfl) ?_
                  refine lv_iadd hx hb zd_A5_recover_164 ?_
                  refine zw_bald F hK hP 2 rfl (atN q (rst D q) + k) (nI_add _ _) (by unfold atN; omega) (by decide) zd_A5_recover_165 ?_
                  have hvk : ub P k ((((D (19336 * q + 3 + k)).toInt32 ^^^ (D (atN (dO (rst D q) (rsi D q)) (rst D q) + k)).toInt32).toInt8.toInt32).toInt8) k = par M (rst D q) k := by unfold ub; rw [if_pos rfl, zb_xor]; exact hpx k (by omega)
                  have hPx2 : ∀ x, x < k + 1 → ub P k ((((D (19336 * q + 3 + k)).toInt32 ^^^ (D (atN (dO (rst D q) (rsi D q)) (rst D q) + k)).toInt32).toInt8.toInt32).toInt8) x = par M (rst D q) x := fun x hx => by
                    by_cases h : x = k
                    · subst h; exact hvk
                    · unfold ub; rw [if_neg h]; exact hPx x (by omega)
                  refine lv_icmp_ne (tgt := 173) hx hb zd_A5_recover_166 rfl (fun ec => ?_) (fun ec => ?_)
                  · refine lv_iconst (v := 0) hx hb zd_A5_recover_173 (by decide) ?_
                    refine lv_iand hx hb zd_A5_recover_174 ?_
                    refine zw_ti (bI (sm && false)) (bI_and sm false) ?_
                    refine lv_istore hx hb zd_A5_recover_175 hl (by decide) rfl (fun ls hl => ?_)
                    have hl : lv_has ls 7 [(5, _), (6, _), (4, _), (3, _), (2, _), (1, _), (0, _)] := hl
                    refine lv_iinc (k := 1) hx hb zd_A5_recover_177 hl rfl (zl_inc k) (by decide) rfl (fun ls hl => ?_)
                    have hl : lv_has ls 7 [(6, _), (5, _), (4, _), (3, _), (2, _), (1, _), (0, _)] := hl
                    refine lv_goto (tgt := 102) hx hb zd_A5_recover_180 rfl ?_
                    exact ih2 (k + 1) (by omega) (sm && false) _ H locs ls hPx2 (fun h => by simp at h) hP hS hl
                  · rw [hvk] at ec
                    refine lv_iconst (v := 1) hx hb zd_A5_recover_169 (by decide) ?_
                    refine lv_goto (tgt := 174) hx hb zd_A5_recover_170 rfl ?_
                    refine lv_iand hx hb zd_A5_recover_174 ?_
                    refine zw_ti (bI (sm && true)) (bI_and sm true) ?_
                    refine lv_istore hx hb zd_A5_recover_175 hl (by decide) rfl (fun ls hl => ?_)
                    have hl : lv_has ls 7 [(5, _), (6, _), (4, _), (3, _), (2, _), (1, _), (0, _)] := hl
                    refine lv_iinc (k := 1) hx hb zd_A5_recover_177 hl rfl (zl_inc k) (by decide) rfl (fun ls hl => ?_)
                    have hl : lv_has ls 7 [(6, _), (5, _), (4, _), (3, _), (2, _), (1, _), (0, _)] := hl
                    refine lv_goto (tgt := 102) hx hb zd_A5_recover_180 rfl ?_
                    exact ih2 (k + 1) (by omega) (sm && true) _ H locs ls hPx2 (fun h x hx => by
                      by_cases h2 : x = k
                      · subst h2; exact (i8_e.mp ec).symm
                      · exact hsm (by simpa using h) x (by omega)) hP hS hl
              refine lv_iconst (v := 1) hx hb zd_A5_recover_96 (by decide) ?_
              refine lv_istore hx hb zd_A5_recover_97 hl (by decide) rfl (fun ls hl => ?_)
              have hl : lv_has ls 7 [(5, _), (4, _), (3, _), (2, _), (1, _), (0, _)] := hl
              refine lv_iconst (v := nI 0) hx hb zd_A5_recover_99 (by decide) ?_
              refine lv_istore hx hb zd_A5_recover_100 hl (by decide) rfl (fun ls hl => ?_)
              have hl : lv_has ls 7 [(6, _), (5, _), (4, _), (3, _), (2, _), (1, _), (0, _)] := hl
              exact inner 128 0 rfl true X H locs ls (fun x hx => absurd hx (by omega)) (fun _ x hx => absurd hx (by omega)) hP hS hl
            · have e3 := bI_0.mp e3
              refine lv_goto (tgt := 205) hx hb zd_A5_recover_93 rfl ?_
              refine W.widen (k := q + 1) (n := 6 * (q + 1)) (by omega) (by omega) ?_
              exact nxt D X lf H locs ls hR hO (hU.up (p_skip hq hO (fun h => by rw [e3] at h; exact absurd h.2.2 (by decide)))) hP hS (lv_sub hl [3, 4] rfl)
  refine lv_iconst (v := nI 0) hx hb zd_A5_recover_0 (by decide) ?_
  refine lv_istore_n hx hb zd_A5_recover_1 rfl hl (by decide) rfl (fun ls hl => ?_)
  have hl : lv_has ls 7 [(1, _), (0, _)] := hl
  exact loop 5 0 rfl D X lf _ _ ls hR hO (fun d hd => absurd hd (by omega)) hP hS hl
end
section
/-! ParityArray: the whole system's world and what is so of it between two calls -/
abbrev zS8 (G : xG) (pa pw ar dk on pt rc rw : Nat) (off : Bool) (wn lf : Int32) (b : Nat) (am bh : Bool) (sk rb : Nat) (nw : Bool) (D X1 X2 X3 X4 : Nat → Int8) : va_W :=
  [(pa, ePA pw ar rw off), (pw, ePw wn lf (nI b) am bh), (ar, eA5 dk on pt rc pw (sI sk) (nI rb) nw false), (dk, eB G 96680 D), (on, eB G 128 X1), (pt, eB G 128 X2), (rc, eB G 136 X3), (rw, eB G 128 X4)]
abbrev zD (a : Nat) : Nat × va_E := (a, .inr (0, []))
abbrev zA8 (pa pw ar dk on pt rc rw : Nat) : va_W := [zD pa, zD pw, zD ar, zD dk, zD on, zD pt, zD rc, zD rw]
def SysI (G : xG) (pa pw ar dk on pt rc rw : Nat) (wr : va_W) (M : Nat → Int8) (off : Bool) (wn : Int32) (L b sk rb : Nat) (nw : Bool) (Rw : (Nat → Int8) → Prop) (H : Heap) : Prop :=
  ∃ (lf : Int32) (am bh : Bool) (D X1 X2 X3 X4 : Nat → Int8), va_P G.1 zcl (zS8 G pa pw ar dk on pt rc rw off wn lf b am bh sk rb nw D X1 X2 X3 X4 ++ wr) H ∧ RecI D M sk nw rb ∧ CfgI sk nw rb ∧ (off = false → OnI D M sk nw rb) ∧ OffI D M sk nw rb ∧ (wn = 0 ∨ wn = 3 ∨ wn = 4) ∧ b ≤ 200 ∧ (wn = 0 → lf = nI L ∧ L ≤ 10) ∧ Rw X4
abbrev anyRow : (Nat → Int8) → Prop := fun _ => True
theorem SysI.kept {G : xG} {pa pw ar dk on pt rc rw : Nat} {wr : va_W} {M : Nat → Int8} {off : Bool} {wn : Int32} {L b sk rb : Nat} {nw : Bool} {Rw : (Nat → Int8) → Prop} {H H1 : Heap} (h : SysI G pa pw ar dk on pt rc rw wr M off wn L b sk rb nw Rw H) (hk : ∀ q : Nat, q < H.size → H1[q]? = H[q]?) : SysI G pa pw ar dk on pt rc rw wr M off wn L b sk rb nw Rw H1 := by
  obtain ⟨lf, am, bh, D, X1, X2, X3, X4, hP, h⟩ := h
  exact ⟨lf, am, bh, D, X1, X2, X3, X4, zw_kept hP hk, h⟩
theorem SysI.any {G : xG} {pa pw ar dk on pt rc rw : Nat} {wr : va_W} {M : Nat → Int8} {off : Bool} {wn : Int32} {L b sk rb : Nat} {nw : Bool} {Rw : (Nat → Int8) → Prop} {H : Heap} (h : SysI G pa pw ar dk on pt rc rw wr M off wn L b sk rb nw Rw H) : SysI G pa pw ar dk on pt rc rw wr M off wn L b sk rb nw anyRow H := by
  obtain ⟨lf, am, bh, D, X1, X2, X3, X4, hP, h1, h2, h3, h4, h5, h6, h7, -⟩ := h
  exact ⟨lf, am, bh, D, X1, X2, X3, X4, hP, h1, h2, h3, h4, h5, h6, h7, trivial⟩
/-- block and place are in range -/
def okP (n i : Int32) : Prop := ¬ n < 0 ∧ ¬ nI 600 ≤ n ∧ ¬ i < 0 ∧ ¬ nI 16 ≤ i
theorem okP.of {n i : Int32} (h : okP n i) : ∃ n' i' : Nat, n' < 600 ∧ i' < 16 ∧ n = nI n' ∧ i = nI i' := by
  obtain ⟨h1, h2, h3, h4⟩ := h
  obtain ⟨a, ha, rfl⟩ := nI_of h1
  obtain ⟨b, hb, rfl⟩ := nI_of h3
  refine ⟨a, b, ?_, ?_, rfl, rfl⟩
  · exact Nat.not_le.mp (fun h => h2 ((nI_leI (by decide) (by omega)).mpr h))
  · exact Nat.not_le.mp (fun h => h4 ((nI_leI (by decide) (by omega)).mpr h))
theorem okP_nI {n i : Nat} (hn : n < 600) (hi : i < 16) : okP (nI n) (nI i) := ⟨nI_pos (by omega), nI_ge hn (by decide), nI_pos (by omega), nI_ge hi (by decide)⟩
theorem p_row {D M : Nat → Int8} {sk : Nat} {nw : Bool} {rb n j : Nat} (hO : OnI D M sk nw rb) (hn : n < 600) (hj : j < 128) : ldv sk nw rb D (dO (n / 4) (n % 4)) (n / 4) j = M (128 * n + j) := by
  rw [p_load hO (dO_lt (by omega)) (by omega) hj, idl_dO]
  unfold mD
  rw [show 4 * (n / 4) + n % 4 = n by omega]
theorem wd8_congr {f g : Nat → Int8} : ∀ n, (∀ k, k < n → f k = g k) → wd8 f n = wd8 g n := by
  intro n
  induction n with
  | zero => intro _; rfl
  | succ n ih => intro h; rw [wd8, wd8, ih (fun k hk => h k (by omega)), h n (by omega)]
set_option maxHeartbeats 4000000 in
set_option maxRecDepth 20000 in
theorem zc_PA_get (l : Launch) (G : xG) {H0 : Heap} {A : Nat → Prop} (pa pw ar dk on pt rc rw : Nat) (wr : va_W) (M : Nat → Int8) (off : Bool) (wn : Int32) (L b sk rb : Nat) (nw : Bool) (n i : Int32) (hfl : l.flags = flags0) (hI : SysI G pa pw ar dk on pt rc rw wr M off wn L b sk rb nw anyRow H0) (hD0 : va_D A (zA8 pa pw ar dk on pt rc rw ++ wr)) : XM l G (rmz 11 360 2 12) zy_PA_get zb_PA_get 6 (some FieldType.long) [] H0 A [.ref pa, .int n, .int i] 2 12 (fun v H => off = false ∧ ∃ n8 i8 : Nat, n8 < 600 ∧ i8 < 16 ∧ n = nI n8 ∧ i = nI i8 ∧ v = some (.long (wd8 (fun k => M (128 * n8 + 8 * i8 + k)) 8)) ∧ SysI G pa pw ar dk on pt rc rw wr M off wn L b sk rb nw (fun X => ∀ j, j < 128 → X j = M (128 * n8 + j)) H) (fun x H => ((off = true ∧ xE (gIS G) x H) ∨ (off = false ∧ ¬ okP n i ∧ xE (gIO G) x H)) ∧ SysI G pa pw ar dk on pt rc rw wr M off wn L b sk rb nw anyRow H) := by
  intro p e s m below meth c F hT hK hH hZ
  subst hH
  have hx := F.1
  have hb := F.2.1
  have hS : va_S A s.heap s.heap [] := va_S.rf
  have hl := lv_entry ([.ref pa, .int n, .int i]) (n := 6) (Nat.le_of_ble_eq_true rfl)
  rw [lg_entry_eq]
  generalize (lg_sl ([.ref pa, .int n, .int i]) ++ List.replicate (6 - (lg_sl ([.ref pa, .int n, .int i])).length) Slot.unset).toArray = ls at hl ⊢
  have hl : lv_has ls 6 [(0, .ref pa), (1, .int n), (2, .int i)] := hl
  obtain ⟨lf, am, bh, D, X1, X2, X3, X4, hP, hR, hC, hOn, hOff, hwn, hb2, hL, -⟩ := id hI
  have hD := zw_DP hD0 hP (by simp only [List.map_append, List.map_cons, List.map_nil])
  cases off with
  | true =>
    refine lv_aload_n hx hb zd_PA_get_0 rfl (lv_at hl 0 rfl) ?_
    refine zg_PA F hT hK hP 0 rfl 3 (by decide) zq_89 rfl zd_PA_get_1 ?_
    refine lv_if_ne (tgt := 11) hx hb zd_PA_get_4 rfl (fun _ => ?_) (fun hc9 => absurd hc9 (by decide))
    refine lv_iconst (v := 0) hx hb zd_PA_get_11 (by decide) ?_
    refine zk_S F hT hK hZ hS hl.1 (zc_PA_state l G false hfl) zl_PA_state (zY_PA_state hT) zq_203 zq_204 zq_1 zd_PA_get_12 rfl ⟨rfl, rfl, Nat.le_of_ble_eq_true rfl, Nat.le_of_ble_eq_true rfl, Nat.le_of_ble_eq_true rfl, Nat.le_of_ble_eq_true rfl⟩ (fun v H locs hv hS => ?_) (fun x H locs hv hS => ?_)
    · exact absurd hv.2.1 (by decide)
    · obtain ⟨-, hxe, hkp, -⟩ := hv
      refine zx_TW (k := 2) (n := 12) (by decide) (by decide) ?_
      exact zx_out F hS.2.2 rfl (⟨Or.inl ⟨rfl, hxe⟩, hI.kept hkp⟩)
  | false =>
    refine lv_aload_n hx hb zd_PA_get_0 rfl (lv_at hl 0 rfl) ?_
    refine zg_PA F hT hK hP 0 rfl 3 (by decide) zq_89 rfl zd_PA_get_1 ?_
    refine lv_if_ne (tgt := 11) hx hb zd_PA_get_4 rfl (fun hc9 => absurd hc9 (by decide)) (fun _ => ?_)
    refine lv_iconst (v := 1) hx hb zd_PA_get_7 (by decide) ?_
    refine lv_goto (tgt := 12) hx hb zd_PA_get_8 rfl ?_
    refine zk_S F hT hK hZ hS hl.1 (zc_PA_state l G true hfl) zl_PA_state (zY_PA_state hT) zq_203 zq_204 zq_1 zd_PA_get_12 rfl ⟨rfl, rfl, Nat.le_of_ble_eq_true rfl, Nat.le_of_ble_eq_true rfl, Nat.le_of_ble_eq_true rfl, Nat.le_of_ble_eq_true rfl⟩ (fun v H locs hv hS => ?_) (fun x H locs hv hS => absurd hv.1 (by decide))
    obtain ⟨rfl, -, rfl⟩ := hv
    refine zw_app0 ?_
    have hO := hOn rfl
    have bad : ¬ okP n i → W p l e (rmz 11 360 2 12) s m ([.ref pa, .int n, .int i] : List Value).toArray below meth c s.heap locs (0 + 1) (0 + 6) (xQ below s A 2 12 (fun v H => false = false ∧ ∃ n8 i8 : Nat, n8 < 600 ∧ i8 < 16 ∧ n = nI n8 ∧ i = nI i8 ∧ v = some (.long (wd8 (fun k => M (128 * n8 + 8 * i8 + k)) 8)) ∧ SysI G pa pw ar dk on pt rc rw wr M false wn L b sk rb nw (fun X => ∀ j, j < 128 → X j = M (128 * n8 + j)) H) (fun x H => ((false = true ∧ xE (gIS G) x H) ∨ (false = false ∧ ¬ okP n i ∧ xE (gIO G) x H)) ∧ SysI G pa pw ar dk on pt rc rw wr M false wn L b sk rb nw anyRow H)) (F0 m 40 ls []) := by
      intro hbad
      refine lv_iconst (v := 0) hx hb zd_PA_get_40 (by decide) ?_
      refine zk_S F hT hK hZ hS hl.1 (zc_PA_at l G false hfl) zl_PA_at (zY_PA_at hT) zq_227 zq_228 zq_1 zd_PA_get_41 rfl ⟨rfl, rfl, Nat.le_of_ble_eq_true rfl, Nat.le_of_ble_eq_true rfl, Nat.le_of_ble_eq_true rfl, Nat.le_of_ble_eq_true rfl⟩ (fun v H locs hv hS => ?_) (fun x H locs hv hS => ?_)
      · exact absurd hv.2.1 (by decide)
      · obtain ⟨-, hxe, hkp, -⟩ := hv
        refine zx_TW (k := 2) (n := 12) (by decide) (by decide) ?_
        exact zx_out F hS.2.2 rfl (⟨Or.inr ⟨rfl, hbad, hxe⟩, hI.kept hkp⟩)
    refine lv_iload_n hx hb zd_PA_get_15 rfl (lv_at hl 1 rfl) ?_
    refine lv_if_lt (tgt := 40) hx hb zd_PA_get_16 rfl (fun g1 => ?_) (fun g1 => ?_)
    · exact bad (fun h => h.1 g1)
    · refine lv_iload_n hx hb zd_PA_get_19 rfl (lv_at hl 1 rfl) ?_
      refine lv_sipush (v := nI 600) hx hb zd_PA_get_20 (by decide) ?_
      refine lv_icmp_ge (tgt := 40) hx hb zd_PA_get_23 rfl (fun g2 => ?_) (fun g2 => ?_)
      · exact bad (fun h => h.2.1 g2)
      · refine lv_iload_n hx hb zd_PA_get_26 rfl (lv_at hl 2 rfl) ?_
        refine lv_if_lt (tgt := 40) hx hb zd_PA_get_27 rfl (fun g3 => ?_) (fun g3 => ?_)
        · exact bad (fun h => h.2.2.1 g3)
        · refine lv_iload_n hx hb zd_PA_get_30 rfl (lv_at hl 2 rfl) ?_
          refine lv_bipush (v := nI 16) hx hb zd_PA_get_31 (by decide) ?_
          refine lv_icmp_ge (tgt := 40) hx hb zd_PA_get_33 rfl (fun g4 => ?_) (fun g4 => ?_)
          · exact bad (fun h => h.2.2.2 g4)
          · obtain ⟨n9, i9, hn9, hi9, rfl, rfl⟩ := okP.of ⟨g1, g2, g3, g4⟩
            refine lv_iconst (v := 1) hx hb zd_PA_get_36 (by decide) ?_
            refine lv_goto (tgt := 41) hx hb zd_PA_get_37 rfl ?_
            refine zk_S F hT hK hZ hS hl.1 (zc_PA_at l G true hfl) zl_PA_at (zY_PA_at hT) zq_227 zq_228 zq_1 zd_PA_get_41 rfl ⟨rfl, rfl, Nat.le_of_ble_eq_true rfl, Nat.le_of_ble_eq_true rfl, Nat.le_of_ble_eq_true rfl, Nat.le_of_ble_eq_true rfl⟩ (fun v H locs hv hS => ?_) (fun x H locs hv hS => absurd hv.1 (by decide))
            obtain ⟨rfl, -, rfl⟩ := hv
            refine zw_app0 ?_
            refine lv_aload_n hx hb zd_PA_get_44 rfl (lv_at hl 0 rfl) ?_
            refine zg_PA F hT hK hP 0 rfl 1 (by decide) zq_87 rfl zd_PA_get_45 ?_
            refine lv_iload_n hx hb zd_PA_get_48 rfl (lv_at hl 1 rfl) ?_
            refine lv_aload_n hx hb zd_PA_get_49 rfl (lv_at hl 0 rfl) ?_
            refine zg_PA F hT hK hP 0 rfl 2 (by decide) zq_88 rfl zd_PA_get_50 ?_
            have hP9 := zw_perm hP [2, 3, 7, 0, 1, 4, 5, 6] rfl
            have hP9 : va_P G.1 zcl ([(_, _), (_, _), (_, _), (_, _), (_, _), (_, _), (_, _), (_, _)] ++ wr) s.heap := hP9
            have hD := zw_permD hD hP9 [2, 3, 7, 0, 1, 4, 5, 6] (by decide) rfl
            have hP := hP9
            refine zk_V F hT hK hZ hS hl.1 hP 0 rfl rfl rfl (zc_A5_read l G ar dk on pt rc pw sk rb nw false rw n9 D X4 _ hn9 (by have := hC.2.1; omega) hP hD) zl_A5_read (zY_A5_read hT) zq_245 zq_246 zq_247 zd_PA_get_53 rfl ⟨rfl, rfl, Nat.le_of_ble_eq_true rfl, Nat.le_of_ble_eq_true rfl, Nat.le_of_ble_eq_true rfl, Nat.le_of_ble_eq_true rfl⟩ (fun v H locs hv hS => ?_) (fun x H locs hv hS => hv.elim)
            obtain ⟨rfl, Y, hY, hP⟩ := hv
            refine zw_app0 ?_
            have hP : va_P G.1 zcl ([(_, _), (_, _), (_, _), (_, _), (_, _), (_, _), (_, _), (_, _)] ++ wr) H := hP
            have hD := zw_DP hD hP (by simp only [List.map_append, List.map_cons, List.map_nil])
            have hP9 := zw_perm hP [3, 4, 0, 1, 5, 6, 7, 2] rfl
            have hP9 : va_P G.1 zcl ([(_, _), (_, _), (_, _), (_, _), (_, _), (_, _), (_, _), (_, _)] ++ wr) H := hP9
            have hD := zw_permD hD hP9 [3, 4, 0, 1, 5, 6, 7, 2] (by decide) rfl
            have hP := hP9
            have hY : ∀ j, j < 128 → Y j = M (128 * n9 + j) := fun j hj => by rw [hY j hj]; exact p_row hO hn9 hj
            have loop : ∀ (q k : Nat), q + k = 8 → ∀ (ls : Array Slot), lv_has ls 6 [(5, .int (nI k)), (3, .long (wd8 (fun k => M (128 * n9 + 8 * i9 + k)) k)), (0, .ref pa), (1, .int (nI n9)), (2, .int (nI i9))] → W p l e (rmz 11 360 2 12) s m ([.ref pa, .int (nI n9), .int (nI i9)] : List Value).toArray below meth c H locs 2 12 (xQ below s A 2 12 (fun v H => false = false ∧ ∃ n8 i8 : Nat, n8 < 600 ∧ i8 < 16 ∧ (nI n9) = nI n8 ∧ (nI i9) = nI i8 ∧ v = some (.long (wd8 (fun k => M (128 * n8 + 8 * i8 + k)) 8)) ∧ SysI G pa pw ar dk on pt rc rw wr M false wn L b sk rb nw (fun X => ∀ j, j < 128 → X j = M (128 * n8 + j)) H) (fun x H => ((false = true ∧ xE (gIS G) x H) ∨ (false = false ∧ ¬ okP (nI n9) (nI i9) ∧ xE (gIO G) x H)) ∧ SysI G pa pw ar dk on pt rc rw wr M false wn L b sk rb nw anyRow H)) (F0 m 61 ls []) := by
              intro q
              induction q with
              | zero =>
                intro k hk ls hl
                obtain rfl : k = 8 := by omega
                refine lv_iload hx hb zd_PA_get_61 (lv_at hl 0 rfl) ?_
                refine lv_bipush (v := nI 8) hx hb zd_PA_get_63 (by decide) ?_
                refine lv_icmp_ge (tgt := 97) hx hb zd_PA_get_65 rfl (fun _ => ?_) (fun hc9 => absurd hc9 (fun h => h (Int32.le_refl _)))
                refine lv_lload_n hx hb zd_PA_get_97 rfl (lv_at hl 1 rfl) ?_
                exact zx_lret F hS.2.2 zd_PA_get_98 ⟨rfl, n9, i9, hn9, hi9, rfl, rfl, rfl, lf, am, bh, D, X1, X2, X3, Y, hP, hR, hC, hOn, hOff, hwn, hb2, hL, hY⟩
              | succ q ih =>
                intro k hk ls hl
                refine lv_iload hx hb zd_PA_get_61 (lv_at hl 0 rfl) ?_
                refine lv_bipush (v := nI 8) hx hb zd_PA_get_63 (by decide) ?_
                refine lv_icmp_ge (tgt := 97) hx hb zd_PA_get_65 rfl (fun hc9 => absurd hc9 (nI_ge (by omega) (by decide))) (fun _ => ?_)
                refine lv_lload_n hx hb zd_PA_get_68 rfl (lv_at hl 1 rfl) ?_
                refine lv_bipush (v := nI 8) hx hb zd_PA_get_69 (by decide) ?_
                refine lv_lshl hx hb zd_PA_get_71 rfl ?_
                refine lv_aload_n hx hb zd_PA_get_72 rfl (lv_at hl 2 rfl) ?_
                refine zg_PA F hT hK hP 0 rfl 2 (by decide) zq_88 rfl zd_PA_get_73 ?_
                refine lv_bipush (v := nI 8) hx hb zd_PA_get_76 (by decide) ?_
                refine lv_iload_n hx hb zd_PA_get_78 rfl (lv_at hl 4 rfl) ?_
                refine lv_imul hx hb zd_PA_get_79 ?_
                refine lv_iload hx hb zd_PA_get_80 (lv_at hl 0 rfl) ?_
                refine lv_iadd hx hb zd_PA_get_82 ?_
                refine zw_bald F hK hP 7 rfl (8 * i9 + k) (by rw [pk_mul, nI_add]) (by omega) (by decide) zd_PA_get_83 ?_
                refine lv_sipush (v := nI 255) hx hb zd_PA_get_84 (by decide) ?_
                refine lv_iand hx hb zd_PA_get_87 ?_
                refine lv_i2l hx hb zd_PA_get_88 rfl ?_
                refine lv_lor hx hb zd_PA_get_89 ?_
                refine lv_lstore_n hx hb zd_PA_get_90 rfl hl (by decide) rfl (fun ls hl => ?_)
                have hl : lv_has ls 6 [(3, _), (5, _), (0, _), (1, _), (2, _)] := hl
                refine lv_iinc (k := 1) hx hb zd_PA_get_91 hl rfl (zl_inc k) (by decide) rfl (fun ls hl => ?_)
                have hl : lv_has ls 6 [(5, _), (3, _), (0, _), (1, _), (2, _)] := hl
                refine lv_goto (tgt := 61) hx hb zd_PA_get_94 rfl ?_
                rw [hY (8 * i9 + k) (by omega), ← Nat.add_assoc] at hl
                exact ih (k + 1) (by omega) ls hl
            refine lv_lconst (v := 0) hx hb zd_PA_get_56 (by decide) ?_
            refine lv_lstore_n hx hb zd_PA_get_57 rfl hl (by decide) rfl (fun ls hl => ?_)
            have hl : lv_has ls 6 [(3, _), (0, _), (1, _), (2, _)] := hl
            refine lv_iconst (v := nI 0) hx hb zd_PA_get_58 (by decide) ?_
            refine lv_istore hx hb zd_PA_get_59 hl (by decide) rfl (fun ls hl => ?_)
            have hl : lv_has ls 6 [(5, _), (3, _), (0, _), (1, _), (2, _)] := hl
            exact loop 8 0 rfl ls hl
def d5 (d : Int32) : Prop := ¬ d < 0 ∧ ¬ 5 ≤ d
theorem d5.of {d : Int32} (h : d5 d) : ∃ k : Nat, k < 5 ∧ d = nI k := by
  obtain ⟨a, ha, rfl⟩ := nI_of h.1
  exact ⟨a, Nat.not_le.mp (fun g => h.2 ((nI_leI (a := 5) (by decide) (by omega)).mpr g)), rfl⟩
theorem sI_neg {sk : Nat} (h : sk ≤ 5) : 0 ≤ sI sk ↔ sk < 5 := by
  unfold sI
  split
  · next h2 => exact ⟨fun _ => h2, fun _ => nI_pos' (by omega)⟩
  · next h2 => exact ⟨fun h3 => absurd h3 (by decide), fun h3 => absurd h3 h2⟩
set_option maxHeartbeats 4000000 in
set_option maxRecDepth 20000 in
theorem zc_PA_die (l : Launch) (G : xG) {H0 : Heap} {A : Nat → Prop} (pa pw ar dk on pt rc rw : Nat) (wr : va_W) (M : Nat → Int8) (off : Bool) (wn : Int32) (L b sk rb : Nat) (nw : Bool) (d : Int32) (hfl : l.flags = flags0) (hI : SysI G pa pw ar dk on pt rc rw wr M off wn L b sk rb nw anyRow H0) (hD0 : va_D A (zA8 pa pw ar dk on pt rc rw ++ wr)) : XM l G (rmz 11 360 2 12) zy_PA_die zb_PA_die 2 none [] H0 A [.ref pa, .int d] 2 12 (fun v H => v = none ∧ off = false ∧ sk = 5 ∧ ∃ d8 : Nat, d8 < 5 ∧ d = nI d8 ∧ SysI G pa pw ar dk on pt rc rw wr M off wn L b d8 0 false anyRow H) (fun x H => ((¬ d5 d ∧ xE (gIO G) x H) ∨ (d5 d ∧ ¬ (off = false ∧ sk = 5) ∧ xE (gIS G) x H)) ∧ SysI G pa pw ar dk on pt rc rw wr M off wn L b sk rb nw anyRow H) := by
  intro p e s m below meth c F hT hK hH hZ
  subst hH
  have hx := F.1
  have hb := F.2.1
  have hS : va_S A s.heap s.heap [] := va_S.rf
  have hl := lv_entry ([.ref pa, .int d]) (n := 2) (Nat.le_of_ble_eq_true rfl)
  rw [lg_entry_eq]
  generalize (lg_sl ([.ref pa, .int d]) ++ List.replicate (2 - (lg_sl ([.ref pa, .int d])).length) Slot.unset).toArray = ls at hl ⊢
  have hl : lv_has ls 2 [(0, .ref pa), (1, .int d)] := hl
  obtain ⟨lf, am, bh, D, X1, X2, X3, X4, hP, hR, hC, hOn, hOff, hwn, hb2, hL, -⟩ := id hI
  have hD := zw_DP hD0 hP (by simp only [List.map_append, List.map_cons, List.map_nil])
  have bad : ¬ d5 d → W p l e (rmz 11 360 2 12) s m ([.ref pa, .int d] : List Value).toArray below meth c s.heap [] 0 0 (xQ below s A 2 12 (fun v H => v = none ∧ off = false ∧ sk = 5 ∧ ∃ d8 : Nat, d8 < 5 ∧ d = nI d8 ∧ SysI G pa pw ar dk on pt rc rw wr M off wn L b d8 0 false anyRow H) (fun x H => ((¬ d5 d ∧ xE (gIO G) x H) ∨ (d5 d ∧ ¬ (off = false ∧ sk = 5) ∧ xE (gIS G) x H)) ∧ SysI G pa pw ar dk on pt rc rw wr M off wn L b sk rb nw anyRow H)) (F0 m 13 ls []) := by
    intro hbad
    refine lv_iconst (v := 0) hx hb zd_PA_die_13 (by decide) ?_
    refine zk_S F hT hK hZ hS hl.1 (zc_PA_at l G false hfl) zl_PA_at (zY_PA_at hT) zq_227 zq_228 zq_1 zd_PA_die_14 rfl ⟨rfl, rfl, Nat.le_of_ble_eq_true rfl, Nat.le_of_ble_eq_true rfl, Nat.le_of_ble_eq_true rfl, Nat.le_of_ble_eq_true rfl⟩ (fun v H locs hv hS => ?_) (fun x H locs hv hS => ?_)
    · exact absurd hv.2.1 (by decide)
    · obtain ⟨-, hxe, hkp, -⟩ := hv
      refine zx_TW (k := 2) (n := 12) (by decide) (by decide) ?_
      exact zx_out F hS.2.2 rfl (⟨Or.inl ⟨hbad, hxe⟩, hI.kept hkp⟩)
  refine lv_iload_n hx hb zd_PA_die_0 rfl (lv_at hl 1 rfl) ?_
  refine lv_if_lt (tgt := 13) hx hb zd_PA_die_1 rfl (fun g1 => ?_) (fun g1 => ?_)
  · exact bad (fun h => h.1 g1)
  · refine lv_iload_n hx hb zd_PA_die_4 rfl (lv_at hl 1 rfl) ?_
    refine lv_iconst (v := 5) hx hb zd_PA_die_5 (by decide) ?_
    refine lv_icmp_ge (tgt := 13) hx hb zd_PA_die_6 rfl (fun g2 => ?_) (fun g2 => ?_)
    · exact bad (fun h => h.2 g2)
    · have hd5 : d5 d := ⟨g1, g2⟩
      obtain ⟨d9, hd9, rfl⟩ := hd5.of
      refine lv_iconst (v := 1) hx hb zd_PA_die_9 (by decide) ?_
      refine lv_goto (tgt := 14) hx hb zd_PA_die_10 rfl ?_
      refine zk_S F hT hK hZ hS hl.1 (zc_PA_at l G true hfl) zl_PA_at (zY_PA_at hT) zq_227 zq_228 zq_1 zd_PA_die_14 rfl ⟨rfl, rfl, Nat.le_of_ble_eq_true rfl, Nat.le_of_ble_eq_true rfl, Nat.le_of_ble_eq_true rfl, Nat.le_of_ble_eq_true rfl⟩ (fun v H locs hv hS => ?_) (fun x H locs hv hS => absurd hv.1 (by decide))
      obtain ⟨rfl, -, rfl⟩ := hv
      refine zw_app0 ?_
      have bad2 : ¬ (off = false ∧ sk = 5) → W p l e (rmz 11 360 2 12) s m ([.ref pa, .int (nI d9)] : List Value).toArray below meth c s.heap locs (0 + 1) (0 + 6) (xQ below s A 2 12 (fun v H => v = none ∧ off = false ∧ sk = 5 ∧ ∃ d8 : Nat, d8 < 5 ∧ (nI d9) = nI d8 ∧ SysI G pa pw ar dk on pt rc rw wr M off wn L b d8 0 false anyRow H) (fun x H => ((¬ d5 (nI d9) ∧ xE (gIO G) x H) ∨ (d5 (nI d9) ∧ ¬ (off = false ∧ sk = 5) ∧ xE (gIS G) x H)) ∧ SysI G pa pw ar dk on pt rc rw wr M off wn L b sk rb nw anyRow H)) (F0 m 38 ls []) := by
        intro hbad
        refine lv_iconst (v := 0) hx hb zd_PA_die_38 (by decide) ?_
        refine zk_S F hT hK hZ hS hl.1 (zc_PA_state l G false hfl) zl_PA_state (zY_PA_state hT) zq_203 zq_204 zq_1 zd_PA_die_39 rfl ⟨rfl, rfl, Nat.le_of_ble_eq_true rfl, Nat.le_of_ble_eq_true rfl, Nat.le_of_ble_eq_true rfl, Nat.le_of_ble_eq_true rfl⟩ (fun v H locs hv hS => ?_) (fun x H locs hv hS => ?_)
        · exact absurd hv.2.1 (by decide)
        · obtain ⟨-, hxe, hkp, -⟩ := hv
          refine zx_TW (k := 2) (n := 12) (by decide) (by decide) ?_
          exact zx_out F hS.2.2 rfl (⟨Or.inr ⟨hd5, hbad, hxe⟩, hI.kept hkp⟩)
      refine lv_aload_n hx hb zd_PA_die_17 rfl (lv_at hl 0 rfl) ?_
      refine zg_PA F hT hK hP 0 rfl 3 (by decide) zq_89 rfl zd_PA_die_18 ?_
      refine lv_if_ne (tgt := 38) hx hb zd_PA_die_21 rfl (fun g3 => ?_) (fun g3 => ?_)
      · exact bad2 (fun h => g3 (by rw [h.1]; rfl))
      · have g3 := bI_0.mp g3
        subst g3
        refine lv_aload_n hx hb zd_PA_die_24 rfl (lv_at hl 0 rfl) ?_
        refine zg_PA F hT hK hP 0 rfl 1 (by decide) zq_87 rfl zd_PA_die_25 ?_
        refine zg_A5 F hT hK hP 2 rfl 5 (by decide) zq_60 rfl zd_PA_die_28 ?_
        refine lv_if_ge (tgt := 38) hx hb zd_PA_die_31 rfl (fun g4 => ?_) (fun g4 => ?_)
        · exact bad2 (fun h => by rw [h.2] at g4; exact absurd g4 (by decide))
        · have hsk : sk = 5 := by have := hC.1; have h9 : ¬ sk < 5 := fun h => g4 ((sI_neg hC.1).mpr h); omega
          subst hsk
          obtain rfl := hC.2.2.1 rfl
          obtain rfl := hC.2.2.2 rfl
          refine lv_iconst (v := 1) hx hb zd_PA_die_34 (by decide) ?_
          refine lv_goto (tgt := 39) hx hb zd_PA_die_35 rfl ?_
          refine zk_S F hT hK hZ hS hl.1 (zc_PA_state l G true hfl) zl_PA_state (zY_PA_state hT) zq_203 zq_204 zq_1 zd_PA_die_39 rfl ⟨rfl, rfl, Nat.le_of_ble_eq_true rfl, Nat.le_of_ble_eq_true rfl, Nat.le_of_ble_eq_true rfl, Nat.le_of_ble_eq_true rfl⟩ (fun v H locs hv hS => ?_) (fun x H locs hv hS => absurd hv.1 (by decide))
          obtain ⟨rfl, -, rfl⟩ := hv
          refine zw_app0 ?_
          refine lv_aload_n hx hb zd_PA_die_42 rfl (lv_at hl 0 rfl) ?_
          refine zg_PA F hT hK hP 0 rfl 1 (by decide) zq_87 rfl zd_PA_die_43 ?_
          refine lv_iload_n hx hb zd_PA_die_46 rfl (lv_at hl 1 rfl) ?_
          refine zp_A5 F hT hK hP hD hS 2 rfl 5 (by decide) zq_60 rfl rfl rfl (Nat.le_of_ble_eq_true rfl) zd_PA_die_47 (fun H locs hP hD hS => ?_)
          have hP : va_P G.1 zcl ([(_, _), (_, _), (_, .inr (2, [_, _, _, _, _, _, _, _, _])), (_, _), (_, _), (_, _), (_, _), (_, _)] ++ wr) H := hP
          have hD : va_D A ([(_, _), (_, _), (_, .inr (2, [_, _, _, _, _, _, _, _, _])), (_, _), (_, _), (_, _), (_, _), (_, _)] ++ wr) := hD
          obtain ⟨k1, k2, k3⟩ := p_die hd9 hR (hOn rfl)
          exact zx_vret F hS.2.2 zd_PA_die_50 ⟨rfl, rfl, rfl, d9, hd9, rfl, lf, am, bh, D, X1, X2, X3, X4, by rw [← sI_lt hd9] at hP; exact hP, k1, k3, fun _ => k2, k2.off, hwn, hb2, hL, trivial⟩
set_option maxHeartbeats 4000000 in
set_option maxRecDepth 20000 in
theorem zc_PA_replace (l : Launch) (G : xG) {H0 : Heap} {A : Nat → Prop} (pa pw ar dk on pt rc rw : Nat) (wr : va_W) (M : Nat → Int8) (off : Bool) (wn : Int32) (L b sk rb : Nat) (nw : Bool) (hfl : l.flags = flags0) (hI : SysI G pa pw ar dk on pt rc rw wr M off wn L b sk rb nw anyRow H0) (hD0 : va_D A (zA8 pa pw ar dk on pt rc rw ++ wr)) : XM l G (rmz 11 360 1 6) zy_PA_replace zb_PA_replace 1 (some FieldType.int) [] H0 A [.ref pa] 1 6 (fun v H => v = some (.int (sI sk)) ∧ sk < 5 ∧ nw = false ∧ SysI G pa pw ar dk on pt rc rw wr M off wn L b sk 0 true anyRow H) (fun x H => ¬ (sk < 5 ∧ nw = false) ∧ xE (gIS G) x H ∧ SysI G pa pw ar dk on pt rc rw wr M off wn L b sk rb nw anyRow H) := by
  intro p e s m below meth c F hT hK hH hZ
  subst hH
  have hx := F.1
  have hb := F.2.1
  have hS : va_S A s.heap s.heap [] := va_S.rf
  have hl := lv_entry ([.ref pa]) (n := 1) (Nat.le_of_ble_eq_true rfl)
  rw [lg_entry_eq]
  generalize (lg_sl ([.ref pa]) ++ List.replicate (1 - (lg_sl ([.ref pa])).length) Slot.unset).toArray = ls at hl ⊢
  have hl : lv_has ls 1 [(0, .ref pa)] := hl
  obtain ⟨lf, am, bh, D, X1, X2, X3, X4, hP, hR, hC, hOn, hOff, hwn, hb2, hL, -⟩ := id hI
  have hD := zw_DP hD0 hP (by simp only [List.map_append, List.map_cons, List.map_nil])
  have bad : ¬ (sk < 5 ∧ nw = false) → W p l e (rmz 11 360 1 6) s m ([.ref pa] : List Value).toArray below meth c s.heap [] 0 0 (xQ below s A 1 6 (fun v H => v = some (.int (sI sk)) ∧ sk < 5 ∧ nw = false ∧ SysI G pa pw ar dk on pt rc rw wr M off wn L b sk 0 true anyRow H) (fun x H => ¬ (sk < 5 ∧ nw = false) ∧ xE (gIS G) x H ∧ SysI G pa pw ar dk on pt rc rw wr M off wn L b sk rb nw anyRow H)) (F0 m 24 ls []) := by
    intro hbad
    refine lv_iconst (v := 0) hx hb zd_PA_replace_24 (by decide) ?_
    refine zk_S F hT hK hZ hS hl.1 (zc_PA_state l G false hfl) zl_PA_state (zY_PA_state hT) zq_203 zq_204 zq_1 zd_PA_replace_25 rfl ⟨rfl, rfl, Nat.le_of_ble_eq_true rfl, Nat.le_of_ble_eq_true rfl, Nat.le_of_ble_eq_true rfl, Nat.le_of_ble_eq_true rfl⟩ (fun v H locs hv hS => ?_) (fun x H locs hv hS => ?_)
    · exact absurd hv.2.1 (by decide)
    · obtain ⟨-, hxe, hkp, -⟩ := hv
      refine zx_TW (k := 1) (n := 6) (by decide) (by decide) ?_
      exact zx_out F hS.2.2 rfl (⟨hbad, hxe, hI.kept hkp⟩)
  refine lv_aload_n hx hb zd_PA_replace_0 rfl (lv_at hl 0 rfl) ?_
  refine zg_PA F hT hK hP 0 rfl 1 (by decide) zq_87 rfl zd_PA_replace_1 ?_
  refine zg_A5 F hT hK hP 2 rfl 5 (by decide) zq_60 rfl zd_PA_replace_4 ?_
  refine lv_if_lt (tgt := 24) hx hb zd_PA_replace_7 rfl (fun g1 => ?_) (fun g1 => ?_)
  · exact bad (fun h => absurd g1 (Int32.not_lt.mpr ((sI_neg hC.1).mpr h.1)))
  · have hsk : sk < 5 := (sI_neg hC.1).mp (Int32.not_lt.mp g1)
    refine lv_aload_n hx hb zd_PA_replace_10 rfl (lv_at hl 0 rfl) ?_
    refine zg_PA F hT hK hP 0 rfl 1 (by decide) zq_87 rfl zd_PA_replace_11 ?_
    refine zg_A5 F hT hK hP 2 rfl 7 (by decide) zq_64 rfl zd_PA_replace_14 ?_
    refine lv_if_ne (tgt := 24) hx hb zd_PA_replace_17 rfl (fun g2 => ?_) (fun g2 => ?_)
    · exact bad (fun h => g2 (by rw [h.2]; rfl))
    · have g2 := bI_0.mp g2
      subst g2
      obtain rfl := hC.2.2.2 rfl
      refine lv_iconst (v := 1) hx hb zd_PA_replace_20 (by decide) ?_
      refine lv_goto (tgt := 25) hx hb zd_PA_replace_21 rfl ?_
      refine zk_S F hT hK hZ hS hl.1 (zc_PA_state l G true hfl) zl_PA_state (zY_PA_state hT) zq_203 zq_204 zq_1 zd_PA_replace_25 rfl ⟨rfl, rfl, Nat.le_of_ble_eq_true rfl, Nat.le_of_ble_eq_true rfl, Nat.le_of_ble_eq_true rfl, Nat.le_of_ble_eq_true rfl⟩ (fun v H locs hv hS => ?_) (fun x H locs hv hS => absurd hv.1 (by decide))
      obtain ⟨rfl, -, rfl⟩ := hv
      refine zw_app0 ?_
      refine lv_aload_n hx hb zd_PA_replace_28 rfl (lv_at hl 0 rfl) ?_
      refine zg_PA F hT hK hP 0 rfl 1 (by decide) zq_87 rfl zd_PA_replace_29 ?_
      have hP9 := zw_perm hP [2, 3, 0, 1, 4, 5, 6, 7] rfl
      have hP9 : va_P G.1 zcl ([(_, _), (_, _), (_, _), (_, _), (_, _), (_, _), (_, _), (_, _)] ++ wr) s.heap := hP9
      have hD := zw_permD hD hP9 [2, 3, 0, 1, 4, 5, 6, 7] (by decide) rfl
      have hP := hP9
      refine zk_V F hT hK hZ hS hl.1 hP 0 rfl rfl rfl (zc_A5_replace l G ar dk on pt rc pw sk 0 false false D _ hsk hP hD) zl_A5_replace (zY_A5_replace hT) zq_309 zq_310 zq_311 zd_PA_replace_32 rfl ⟨rfl, rfl, Nat.le_of_ble_eq_true rfl, Nat.le_of_ble_eq_true rfl, Nat.le_of_ble_eq_true rfl, Nat.le_of_ble_eq_true rfl⟩ (fun v H locs hv hS => ?_) (fun x H locs hv hS => hv.elim)
      obtain ⟨rfl, Y, k1, k2, hP⟩ := hv
      refine zw_app0 ?_
      have hP : va_P G.1 zcl ([(_, _), (_, _), (_, _), (_, _), (_, _), (_, _), (_, _), (_, _)] ++ wr) H := hP
      have hD := zw_DP hD hP (by simp only [List.map_append, List.map_cons, List.map_nil])
      have hP9 := zw_perm hP [2, 3, 0, 1, 4, 5, 6, 7] rfl
      have hP9 : va_P G.1 zcl ([(_, _), (_, _), (_, _), (_, _), (_, _), (_, _), (_, _), (_, _)] ++ wr) H := hP9
      have hD := zw_permD hD hP9 [2, 3, 0, 1, 4, 5, 6, 7] (by decide) rfl
      have hP := hP9
      obtain ⟨j1, j2, j3, j4⟩ := p_rep hsk k1 k2 hR
      refine lv_aload_n hx hb zd_PA_replace_35 rfl (lv_at hl 0 rfl) ?_
      refine zg_PA F hT hK hP 0 rfl 1 (by decide) zq_87 rfl zd_PA_replace_36 ?_
      refine zg_A5 F hT hK hP 2 rfl 5 (by decide) zq_60 rfl zd_PA_replace_39 ?_
      exact zx_iret F rfl hS.2.2 zd_PA_replace_42 ⟨rfl, hsk, rfl, lf, am, bh, Y, X1, X2, X3, X4, hP, j1, j2, fun h => j3 (hOn h), j4 hOff, hwn, hb2, hL, trivial⟩
set_option maxHeartbeats 4000000 in
set_option maxRecDepth 20000 in
theorem zc_PA_rebuild (l : Launch) (G : xG) {H0 : Heap} {A : Nat → Prop} (pa pw ar dk on pt rc rw : Nat) (wr : va_W) (M : Nat → Int8) (off : Bool) (wn : Int32) (L b sk rb : Nat) (nw : Bool) (hfl : l.flags = flags0) (hI : SysI G pa pw ar dk on pt rc rw wr M off wn L b sk rb nw anyRow H0) (hD0 : va_D A (zA8 pa pw ar dk on pt rc rw ++ wr)) : XM l G (rmz 11 360 1 6) zy_PA_rebuild zb_PA_rebuild 1 (some FieldType.int) [] H0 A [.ref pa] 1 6 (fun v H => v = some (.int (nI (149 - rb))) ∧ off = false ∧ nw = true ∧ SysI G pa pw ar dk on pt rc rw wr M off wn L b (if rb + 1 < 150 then sk else 5) (if rb + 1 < 150 then rb + 1 else 0) (decide (rb + 1 < 150)) anyRow H) (fun x H => ¬ (off = false ∧ nw = true) ∧ xE (gIS G) x H ∧ SysI G pa pw ar dk on pt rc rw wr M off wn L b sk rb nw anyRow H) := by
  intro p e s m below meth c F hT hK hH hZ
  subst hH
  have hx := F.1
  have hb := F.2.1
  have hS : va_S A s.heap s.heap [] := va_S.rf
  have hl := lv_entry ([.ref pa]) (n := 1) (Nat.le_of_ble_eq_true rfl)
  rw [lg_entry_eq]
  generalize (lg_sl ([.ref pa]) ++ List.replicate (1 - (lg_sl ([.ref pa])).length) Slot.unset).toArray = ls at hl ⊢
  have hl : lv_has ls 1 [(0, .ref pa)] := hl
  obtain ⟨lf, am, bh, D, X1, X2, X3, X4, hP, hR, hC, hOn, hOff, hwn, hb2, hL, -⟩ := id hI
  have hD := zw_DP hD0 hP (by simp only [List.map_append, List.map_cons, List.map_nil])
  have bad : ¬ (off = false ∧ nw = true) → W p l e (rmz 11 360 1 6) s m ([.ref pa] : List Value).toArray below meth c s.heap [] 0 0 (xQ below s A 1 6 (fun v H => v = some (.int (nI (149 - rb))) ∧ off = false ∧ nw = true ∧ SysI G pa pw ar dk on pt rc rw wr M off wn L b (if rb + 1 < 150 then sk else 5) (if rb + 1 < 150 then rb + 1 else 0) (decide (rb + 1 < 150)) anyRow H) (fun x H => ¬ (off = false ∧ nw = true) ∧ xE (gIS G) x H ∧ SysI G pa pw ar dk on pt rc rw wr M off wn L b sk rb nw anyRow H)) (F0 m 21 ls []) := by
    intro hbad
    refine lv_iconst (v := 0) hx hb zd_PA_rebuild_21 (by decide) ?_
    refine zk_S F hT hK hZ hS hl.1 (zc_PA_state l G false hfl) zl_PA_state (zY_PA_state hT) zq_203 zq_204 zq_1 zd_PA_rebuild_22 rfl ⟨rfl, rfl, Nat.le_of_ble_eq_true rfl, Nat.le_of_ble_eq_true rfl, Nat.le_of_ble_eq_true rfl, Nat.le_of_ble_eq_true rfl⟩ (fun v H locs hv hS => ?_) (fun x H locs hv hS => ?_)
    · exact absurd hv.2.1 (by decide)
    · obtain ⟨-, hxe, hkp, -⟩ := hv
      refine zx_TW (k := 1) (n := 6) (by decide) (by decide) ?_
      exact zx_out F hS.2.2 rfl (⟨hbad, hxe, hI.kept hkp⟩)
  refine lv_aload_n hx hb zd_PA_rebuild_0 rfl (lv_at hl 0 rfl) ?_
  refine zg_PA F hT hK hP 0 rfl 3 (by decide) zq_89 rfl zd_PA_rebuild_1 ?_
  refine lv_if_ne (tgt := 21) hx hb zd_PA_rebuild_4 rfl (fun g1 => ?_) (fun g1 => ?_)
  · exact bad (fun h => g1 (by rw [h.1]; rfl))
  · have g1 := bI_0.mp g1
    subst g1
    refine lv_aload_n hx hb zd_PA_rebuild_7 rfl (lv_at hl 0 rfl) ?_
    refine zg_PA F hT hK hP 0 rfl 1 (by decide) zq_87 rfl zd_PA_rebuild_8 ?_
    refine zg_A5 F hT hK hP 2 rfl 7 (by decide) zq_64 rfl zd_PA_rebuild_11 ?_
    refine lv_if_eq (tgt := 21) hx hb zd_PA_rebuild_14 rfl (fun g2 => ?_) (fun g2 => ?_)
    · exact bad (fun h => by rw [h.2] at g2; exact absurd g2 (by decide))
    · have g2 : nw = true := by cases nw with | true => rfl | false => exact absurd rfl g2
      subst g2
      have hsk : sk < 5 := by have h1 := hC.1; have h2 : ¬ sk = 5 := fun h => absurd (hC.2.2.1 h) (by decide); omega
      refine lv_iconst (v := 1) hx hb zd_PA_rebuild_17 (by decide) ?_
      refine lv_goto (tgt := 22) hx hb zd_PA_rebuild_18 rfl ?_
      refine zk_S F hT hK hZ hS hl.1 (zc_PA_state l G true hfl) zl_PA_state (zY_PA_state hT) zq_203 zq_204 zq_1 zd_PA_rebuild_22 rfl ⟨rfl, rfl, Nat.le_of_ble_eq_true rfl, Nat.le_of_ble_eq_true rfl, Nat.le_of_ble_eq_true rfl, Nat.le_of_ble_eq_true rfl⟩ (fun v H locs hv hS => ?_) (fun x H locs hv hS => absurd hv.1 (by decide))
      obtain ⟨rfl, -, rfl⟩ := hv
      refine zw_app0 ?_
      refine lv_aload_n hx hb zd_PA_rebuild_25 rfl (lv_at hl 0 rfl) ?_
      refine zg_PA F hT hK hP 0 rfl 1 (by decide) zq_87 rfl zd_PA_rebuild_26 ?_
      have hP9 := zw_perm hP [2, 3, 4, 0, 1, 5, 6, 7] rfl
      have hP9 : va_P G.1 zcl ([(_, _), (_, _), (_, _), (_, _), (_, _), (_, _), (_, _), (_, _)] ++ wr) s.heap := hP9
      have hD := zw_permD hD hP9 [2, 3, 4, 0, 1, 5, 6, 7] (by decide) rfl
      have hP := hP9
      refine zk_V F hT hK hZ hS hl.1 hP 0 rfl rfl rfl (zc_A5_rebuild l G ar dk on pt rc pw sk rb false D X1 _ hsk hC.2.1 hP hD) zl_A5_rebuild (zY_A5_rebuild hT) zq_320 zq_321 zq_322 zd_PA_rebuild_29 rfl ⟨rfl, rfl, Nat.le_of_ble_eq_true rfl, Nat.le_of_ble_eq_true rfl, Nat.le_of_ble_eq_true rfl, Nat.le_of_ble_eq_true rfl⟩ (fun v H locs hv hS => ?_) (fun x H locs hv hS => hv.elim)
      obtain ⟨rfl, Y, k1, hP⟩ := hv
      refine zw_app ?_
      have hP : va_P G.1 zcl ([(_, _), (_, _), (_, _), (_, _), (_, _), (_, _), (_, _), (_, _)] ++ wr) H := hP
      have hD := zw_DP hD hP (by simp only [List.map_append, List.map_cons, List.map_nil])
      have hP9 := zw_perm hP [3, 4, 0, 1, 2, 5, 6, 7] rfl
      have hP9 : va_P G.1 zcl ([(_, _), (_, _), (_, _), (_, _), (_, _), (_, _), (_, _), (_, _)] ++ wr) H := hP9
      have hD := zw_permD hD hP9 [3, 4, 0, 1, 2, 5, 6, 7] (by decide) rfl
      have hP := hP9
      obtain ⟨j1, j2, j3⟩ := p_reb hsk hC.2.1 k1 hR (hOn rfl)
      exact zx_iret F rfl hS.2.2 zd_PA_rebuild_32 ⟨rfl, rfl, rfl, lf, am, bh, _, Y, X2, X3, X4, hP, j1, j3, fun _ => j2, j2.off, hwn, hb2, hL, trivial⟩
def okW (k b : Int32) : Prop := ¬ k < 0 ∧ ¬ nI 10 < k ∧ ¬ b < 0 ∧ b ≤ nI 200
theorem okW.of {k b : Int32} (h : okW k b) : ∃ k' b' : Nat, k' ≤ 10 ∧ b' ≤ 200 ∧ k = nI k' ∧ b = nI b' := by
  obtain ⟨h1, h2, h3, h4⟩ := h
  obtain ⟨a, ha, rfl⟩ := nI_of h1
  obtain ⟨c, hc, rfl⟩ := nI_of h3
  refine ⟨a, c, ?_, ?_, rfl, rfl⟩
  · exact Nat.not_lt.mp (fun h => h2 ((nI_ltI (by decide) (by omega)).mpr h))
  · exact (nI_leI (by omega) (by decide)).mp h4
set_option maxHeartbeats 4000000 in
set_option maxRecDepth 20000 in
theorem zc_PA_power (l : Launch) (G : xG) {H0 : Heap} {A : Nat → Prop} (pa pw ar dk on pt rc rw : Nat) (wr : va_W) (M : Nat → Int8) (off : Bool) (wn : Int32) (L b sk rb : Nat) (nw : Bool) (k0 b0 : Int32) (re : Bool) (hfl : l.flags = flags0) (hI : SysI G pa pw ar dk on pt rc rw wr M off wn L b sk rb nw anyRow H0) (hD0 : va_D A (zA8 pa pw ar dk on pt rc rw ++ wr)) : XM l G (rmz 11 360 1 6) zy_PA_power zb_PA_power 4 none [] H0 A [.ref pa, .int k0, .int b0, .int (bI re)] 1 6 (fun v H => v = none ∧ ∃ k8 b8 : Nat, k8 ≤ 10 ∧ b8 ≤ 200 ∧ k0 = nI k8 ∧ b0 = nI b8 ∧ SysI G pa pw ar dk on pt rc rw wr M off (if re = true then 3 else 0) k8 b8 sk rb nw anyRow H) (fun x H => ¬ okW k0 b0 ∧ xE (gIA G) x H ∧ SysI G pa pw ar dk on pt rc rw wr M off wn L b sk rb nw anyRow H) := by
  intro p e s m below meth c F hT hK hH hZ
  subst hH
  have hx := F.1
  have hb := F.2.1
  have hS : va_S A s.heap s.heap [] := va_S.rf
  have hl := lv_entry ([.ref pa, .int k0, .int b0, .int (bI re)]) (n := 4) (Nat.le_of_ble_eq_true rfl)
  rw [lg_entry_eq]
  generalize (lg_sl ([.ref pa, .int k0, .int b0, .int (bI re)]) ++ List.replicate (4 - (lg_sl ([.ref pa, .int k0, .int b0, .int (bI re)])).length) Slot.unset).toArray = ls at hl ⊢
  have hl : lv_has ls 4 [(0, .ref pa), (1, .int k0), (2, .int b0), (3, .int (bI re))] := hl
  obtain ⟨lf, am, bh, D, X1, X2, X3, X4, hP, hR, hC, hOn, hOff, hwn, hb2, hL, -⟩ := id hI
  have hD := zw_DP hD0 hP (by simp only [List.map_append, List.map_cons, List.map_nil])
  have bad : ¬ okW k0 b0 → W p l e (rmz 11 360 1 6) s m ([.ref pa, .int k0, .int b0, .int (bI re)] : List Value).toArray below meth c s.heap [] 0 0 (xQ below s A 1 6 (fun v H => v = none ∧ ∃ k8 b8 : Nat, k8 ≤ 10 ∧ b8 ≤ 200 ∧ k0 = nI k8 ∧ b0 = nI b8 ∧ SysI G pa pw ar dk on pt rc rw wr M off (if re = true then 3 else 0) k8 b8 sk rb nw anyRow H) (fun x H => ¬ okW k0 b0 ∧ xE (gIA G) x H ∧ SysI G pa pw ar dk on pt rc rw wr M off wn L b sk rb nw anyRow H)) (F0 m 21 ls []) := by
    intro hbad
    exact zx_throw (cls := "java/lang/IllegalArgumentException") (names := ["java/lang/RuntimeException", "java/lang/Exception"]) F hfl hT hZ hS (by decide +kernel) zx_names zx_in_4 zq_332 zq_14 zq_333 hK.2.2.2.2.1 hl.1 zd_PA_power_21 zd_PA_power_24 zd_PA_power_25 zd_PA_power_28 rfl ⟨by decide, by decide, by decide, by decide⟩ (fun H1 _ hk he => ⟨hbad, he, hI.kept hk⟩)
  refine lv_iload_n hx hb zd_PA_power_0 rfl (lv_at hl 1 rfl) ?_
  refine lv_if_lt (tgt := 21) hx hb zd_PA_power_1 rfl (fun g1 => ?_) (fun g1 => ?_)
  · exact bad (fun h => h.1 g1)
  · refine lv_iload_n hx hb zd_PA_power_4 rfl (lv_at hl 1 rfl) ?_
    refine lv_bipush (v := nI 10) hx hb zd_PA_power_5 (by decide) ?_
    refine lv_icmp_gt (tgt := 21) hx hb zd_PA_power_7 rfl (fun g2 => ?_) (fun g2 => ?_)
    · exact bad (fun h => h.2.1 g2)
    · refine lv_iload_n hx hb zd_PA_power_10 rfl (lv_at hl 2 rfl) ?_
      refine lv_if_lt (tgt := 21) hx hb zd_PA_power_11 rfl (fun g3 => ?_) (fun g3 => ?_)
      · exact bad (fun h => h.2.2.1 g3)
      · refine lv_iload_n hx hb zd_PA_power_14 rfl (lv_at hl 2 rfl) ?_
        refine lv_sipush (v := nI 200) hx hb zd_PA_power_15 (by decide) ?_
        refine lv_icmp_le (tgt := 29) hx hb zd_PA_power_18 rfl (fun g4 => ?_) (fun g4 => ?_)
        · obtain ⟨k9, b9, hk9, hb9, rfl, rfl⟩ := okW.of ⟨g1, g2, g3, g4⟩
          refine lv_aload_n hx hb zd_PA_power_29 rfl (lv_at hl 0 rfl) ?_
          refine zg_PA F hT hK hP 0 rfl 0 (by decide) zq_86 rfl zd_PA_power_30 ?_
          refine lv_iload_n hx hb zd_PA_power_33 rfl (lv_at hl 3 rfl) ?_
          refine lv_if_eq (tgt := 41) hx hb zd_PA_power_34 rfl (fun g5 => ?_) (fun g5 => ?_)
          · have g5 := bI_0.mp g5
            refine lv_iconst (v := 0) hx hb zd_PA_power_41 (by decide) ?_
            refine lv_iload_n hx hb zd_PA_power_42 rfl (lv_at hl 1 rfl) ?_
            refine lv_iload_n hx hb zd_PA_power_43 rfl (lv_at hl 2 rfl) ?_
            have hP9 := zw_perm hP [1, 0, 2, 3, 4, 5, 6, 7] rfl
            have hP9 : va_P G.1 zcl ([(_, _), (_, _), (_, _), (_, _), (_, _), (_, _), (_, _), (_, _)] ++ wr) s.heap := hP9
            have hD := zw_permD hD hP9 [1, 0, 2, 3, 4, 5, 6, 7] (by decide) rfl
            have hP := hP9
            refine zk_V F hT hK hZ hS hl.1 hP 0 rfl rfl rfl (zc_Pw_say l G pw wn lf (nI b) 0 (nI k9) (nI b9) am bh _ hP hD) zl_Pw_say (zY_Pw_say hT) zq_347 zq_348 zq_349 zd_PA_power_44 rfl ⟨rfl, rfl, Nat.le_of_ble_eq_true rfl, Nat.le_of_ble_eq_true rfl, Nat.le_of_ble_eq_true rfl, Nat.le_of_ble_eq_true rfl⟩ (fun v H locs hv hS => ?_) (fun x H locs hv hS => hv.elim)
            obtain ⟨rfl, hP⟩ := hv
            refine zw_app0 ?_
            have hP : va_P G.1 zcl ([(_, _), (_, _), (_, _), (_, _), (_, _), (_, _), (_, _), (_, _)] ++ wr) H := hP
            have hD := zw_DP hD hP (by simp only [List.map_append, List.map_cons, List.map_nil])
            have hP9 := zw_perm hP [1, 0, 2, 3, 4, 5, 6, 7] rfl
            have hP9 : va_P G.1 zcl ([(_, _), (_, _), (_, _), (_, _), (_, _), (_, _), (_, _), (_, _)] ++ wr) H := hP9
            have hD := zw_permD hD hP9 [1, 0, 2, 3, 4, 5, 6, 7] (by decide) rfl
            have hP := hP9
            refine W.widen (k := 1) (n := 6) (by decide) (by decide) ?_
            exact zx_vret F hS.2.2 zd_PA_power_47 ⟨rfl, k9, b9, hk9, hb9, rfl, rfl, nI k9, am, bh, D, X1, X2, X3, X4, by rw [if_neg (by rw [g5]; decide)]; exact hP, hR, hC, hOn, hOff, by rw [if_neg (by rw [g5]; decide)]; decide, hb9, fun _ => ⟨rfl, hk9⟩, trivial⟩
          · have g5 : re = true := by cases re with | true => rfl | false => exact absurd rfl g5
            refine lv_iconst (v := 3) hx hb zd_PA_power_37 (by decide) ?_
            refine lv_goto (tgt := 42) hx hb zd_PA_power_38 rfl ?_
            refine lv_iload_n hx hb zd_PA_power_42 rfl (lv_at hl 1 rfl) ?_
            refine lv_iload_n hx hb zd_PA_power_43 rfl (lv_at hl 2 rfl) ?_
            have hP9 := zw_perm hP [1, 0, 2, 3, 4, 5, 6, 7] rfl
            have hP9 : va_P G.1 zcl ([(_, _), (_, _), (_, _), (_, _), (_, _), (_, _), (_, _), (_, _)] ++ wr) s.heap := hP9
            have hD := zw_permD hD hP9 [1, 0, 2, 3, 4, 5, 6, 7] (by decide) rfl
            have hP := hP9
            refine zk_V F hT hK hZ hS hl.1 hP 0 rfl rfl rfl (zc_Pw_say l G pw wn lf (nI b) 3 (nI k9) (nI b9) am bh _ hP hD) zl_Pw_say (zY_Pw_say hT) zq_347 zq_348 zq_349 zd_PA_power_44 rfl ⟨rfl, rfl, Nat.le_of_ble_eq_true rfl, Nat.le_of_ble_eq_true rfl, Nat.le_of_ble_eq_true rfl, Nat.le_of_ble_eq_true rfl⟩ (fun v H locs hv hS => ?_) (fun x H locs hv hS => hv.elim)
            obtain ⟨rfl, hP⟩ := hv
            refine zw_app0 ?_
            have hP : va_P G.1 zcl ([(_, _), (_, _), (_, _), (_, _), (_, _), (_, _), (_, _), (_, _)] ++ wr) H := hP
            have hD := zw_DP hD hP (by simp only [List.map_append, List.map_cons, List.map_nil])
            have hP9 := zw_perm hP [1, 0, 2, 3, 4, 5, 6, 7] rfl
            have hP9 : va_P G.1 zcl ([(_, _), (_, _), (_, _), (_, _), (_, _), (_, _), (_, _), (_, _)] ++ wr) H := hP9
            have hD := zw_permD hD hP9 [1, 0, 2, 3, 4, 5, 6, 7] (by decide) rfl
            have hP := hP9
            refine W.widen (k := 1) (n := 6) (by decide) (by decide) ?_
            exact zx_vret F hS.2.2 zd_PA_power_47 ⟨rfl, k9, b9, hk9, hb9, rfl, rfl, nI k9, am, bh, D, X1, X2, X3, X4, by rw [if_pos g5]; exact hP, hR, hC, hOn, hOff, by rw [if_pos g5]; decide, hb9, fun _ => ⟨rfl, hk9⟩, trivial⟩
        · exact bad (fun h => g4 h.2.2.2)
/-- what 'told' tells -/
def tellV (on : Bool) (sk : Nat) (nw : Bool) (rb : Nat) (what : Int32) : Int32 := if what = 0 then bI on else if what = 1 then sI sk else if what = 2 then bI nw else nI rb
set_option maxHeartbeats 4000000 in
set_option maxRecDepth 20000 in
theorem zc_PA_told (l : Launch) (G : xG) {H0 : Heap} {A : Nat → Prop} (pa pw ar dk on pt rc rw : Nat) (wr : va_W) (M : Nat → Int8) (off : Bool) (wn : Int32) (L b sk rb : Nat) (nw : Bool) (what : Int32) (hfl : l.flags = flags0) (hI : SysI G pa pw ar dk on pt rc rw wr M off wn L b sk rb nw anyRow H0) (hD0 : va_D A (zA8 pa pw ar dk on pt rc rw ++ wr)) : XM l G (rmz 11 360 1 6) zy_PA_told zb_PA_told 2 (some FieldType.int) [] H0 A [.ref pa, .int what] 1 6 (fun v H => (¬ what < 0 ∧ what ≤ 3) ∧ v = some (.int (tellV (!off) sk nw rb what)) ∧ SysI G pa pw ar dk on pt rc rw wr M off wn L b sk rb nw anyRow H) (fun x H => ¬ (¬ what < 0 ∧ what ≤ 3) ∧ xE (gIA G) x H ∧ SysI G pa pw ar dk on pt rc rw wr M off wn L b sk rb nw anyRow H) := by
  intro p e s m below meth c F hT hK hH hZ
  subst hH
  have hx := F.1
  have hb := F.2.1
  have hS : va_S A s.heap s.heap [] := va_S.rf
  have hl := lv_entry ([.ref pa, .int what]) (n := 2) (Nat.le_of_ble_eq_true rfl)
  rw [lg_entry_eq]
  generalize (lg_sl ([.ref pa, .int what]) ++ List.replicate (2 - (lg_sl ([.ref pa, .int what])).length) Slot.unset).toArray = ls at hl ⊢
  have hl : lv_has ls 2 [(0, .ref pa), (1, .int what)] := hl
  obtain ⟨lf, am, bh, D, X1, X2, X3, X4, hP, hR, hC, hOn, hOff, hwn, hb2, hL, -⟩ := id hI
  have hD := zw_DP hD0 hP (by simp only [List.map_append, List.map_cons, List.map_nil])
  refine lv_iload_n hx hb zd_PA_told_0 rfl (lv_at hl 1 rfl) ?_
  by_cases hw : ¬ what < 0 ∧ what ≤ 3
  · obtain ⟨k, hk, rfl⟩ := nI_of hw.1
    have hk3 : k ≤ 3 := (nI_leI (b := 3) (by omega) (by decide)).mp hw.2
    have h4 : k = 0 ∨ k = 1 ∨ k = 2 ∨ k = 3 := by omega
    refine W.widen (k := 1) (n := 6) (by decide) (by decide) ?_
    rcases h4 with rfl | rfl | rfl | rfl
    · refine lv_tableIn (off := 31) (tgt := 32) hx hb zd_PA_told_1 (by decide) (by decide) (by decide) rfl ?_
      refine lv_aload_n hx hb zd_PA_told_32 rfl (lv_at hl 0 rfl) ?_
      refine zg_PA F hT hK hP 0 rfl 3 (by decide) zq_89 rfl zd_PA_told_33 ?_
      refine lv_if_eq (tgt := 43) hx hb zd_PA_told_36 rfl (fun g => ?_) (fun g => ?_)
      · have g := bI_0.mp g
        subst g
        refine lv_iconst (v := 1) hx hb zd_PA_told_43 (by decide) ?_
        exact zx_iret F rfl hS.2.2 zd_PA_told_44 ⟨hw, rfl, hI⟩
      · have g : off = true := by cases off with | true => rfl | false => exact absurd rfl g
        subst g
        refine lv_iconst (v := 0) hx hb zd_PA_told_39 (by decide) ?_
        refine lv_goto (tgt := 44) hx hb zd_PA_told_40 rfl ?_
        exact zx_iret F rfl hS.2.2 zd_PA_told_44 ⟨hw, rfl, hI⟩
    · refine lv_tableIn (off := 44) (tgt := 45) hx hb zd_PA_told_1 (by decide) (by decide) (by decide) rfl ?_
      refine lv_aload_n hx hb zd_PA_told_45 rfl (lv_at hl 0 rfl) ?_
      refine zg_PA F hT hK hP 0 rfl 1 (by decide) zq_87 rfl zd_PA_told_46 ?_
      refine zg_A5 F hT hK hP 2 rfl 5 (by decide) zq_60 rfl zd_PA_told_49 ?_
      exact zx_iret F rfl hS.2.2 zd_PA_told_52 ⟨hw, rfl, hI⟩
    · refine lv_tableIn (off := 52) (tgt := 53) hx hb zd_PA_told_1 (by decide) (by decide) (by decide) rfl ?_
      refine lv_aload_n hx hb zd_PA_told_53 rfl (lv_at hl 0 rfl) ?_
      refine zg_PA F hT hK hP 0 rfl 1 (by decide) zq_87 rfl zd_PA_told_54 ?_
      refine zg_A5 F hT hK hP 2 rfl 7 (by decide) zq_64 rfl zd_PA_told_57 ?_
      refine lv_if_eq (tgt := 67) hx hb zd_PA_told_60 rfl (fun g => ?_) (fun g => ?_)
      · have g := bI_0.mp g
        subst g
        refine lv_iconst (v := 0) hx hb zd_PA_told_67 (by decide) ?_
        exact zx_iret F rfl hS.2.2 zd_PA_told_68 ⟨hw, rfl, hI⟩
      · have g : nw = true := by cases nw with | true => rfl | false => exact absurd rfl g
        subst g
        refine lv_iconst (v := 1) hx hb zd_PA_told_63 (by decide) ?_
        refine lv_goto (tgt := 68) hx hb zd_PA_told_64 rfl ?_
        exact zx_iret F rfl hS.2.2 zd_PA_told_68 ⟨hw, rfl, hI⟩
    · refine lv_tableIn (off := 68) (tgt := 69) hx hb zd_PA_told_1 (by decide) (by decide) (by decide) rfl ?_
      refine lv_aload_n hx hb zd_PA_told_69 rfl (lv_at hl 0 rfl) ?_
      refine zg_PA F hT hK hP 0 rfl 1 (by decide) zq_87 rfl zd_PA_told_70 ?_
      refine zg_A5 F hT hK hP 2 rfl 6 (by decide) zq_62 rfl zd_PA_told_73 ?_
      exact zx_iret F rfl hS.2.2 zd_PA_told_76 ⟨hw, rfl, hI⟩
  · have hw2 : what.toInt < 0 ∨ 3 < what.toInt := by
      by_cases h : what < 0
      · left; simpa using Int32.lt_iff_toInt_lt.mp h
      · right
        have h2 : ¬ what ≤ 3 := fun g => hw ⟨h, g⟩
        rw [Int32.le_iff_toInt_le] at h2
        have e3 : (3 : Int32).toInt = 3 := by decide
        omega
    refine lv_tableOut (tgt := 77) hx hb zd_PA_told_1 hw2 rfl ?_
    exact zx_throw (cls := "java/lang/IllegalArgumentException") (names := ["java/lang/RuntimeException", "java/lang/Exception"]) F hfl hT hZ hS (by decide +kernel) zx_names zx_in_4 zq_332 zq_14 zq_333 hK.2.2.2.2.1 hl.1 zd_PA_told_77 zd_PA_told_80 zd_PA_told_81 zd_PA_told_84 rfl ⟨by decide, by decide, by decide, by decide⟩ (fun H1 _ hk he => ⟨hw, he, hI.kept hk⟩)
set_option maxHeartbeats 4000000 in
set_option maxRecDepth 20000 in
theorem zc_PA_check (l : Launch) (G : xG) {H0 : Heap} {A : Nat → Prop} (pa pw ar dk on pt rc rw : Nat) (wr : va_W) (M : Nat → Int8) (off : Bool) (wn : Int32) (L b sk rb : Nat) (nw : Bool) (hfl : l.flags = flags0) (hI : SysI G pa pw ar dk on pt rc rw wr M off wn L b sk rb nw anyRow H0) (hD0 : va_D A (zA8 pa pw ar dk on pt rc rw ++ wr)) : XM l G (rmz 11 360 1 6) zy_PA_check zb_PA_check 1 (some FieldType.int) [] H0 A [.ref pa] 1 6 (fun v H => v = some (.int 0) ∧ off = false ∧ SysI G pa pw ar dk on pt rc rw wr M off wn L b sk rb nw anyRow H) (fun x H => off = true ∧ xE (gIS G) x H ∧ SysI G pa pw ar dk on pt rc rw wr M off wn L b sk rb nw anyRow H) := by
  intro p e s m below meth c F hT hK hH hZ
  subst hH
  have hx := F.1
  have hb := F.2.1
  have hS : va_S A s.heap s.heap [] := va_S.rf
  have hl := lv_entry ([.ref pa]) (n := 1) (Nat.le_of_ble_eq_true rfl)
  rw [lg_entry_eq]
  generalize (lg_sl ([.ref pa]) ++ List.replicate (1 - (lg_sl ([.ref pa])).length) Slot.unset).toArray = ls at hl ⊢
  have hl : lv_has ls 1 [(0, .ref pa)] := hl
  obtain ⟨lf, am, bh, D, X1, X2, X3, X4, hP, hR, hC, hOn, hOff, hwn, hb2, hL, -⟩ := id hI
  have hD := zw_DP hD0 hP (by simp only [List.map_append, List.map_cons, List.map_nil])
  cases off with
  | true =>
    refine lv_aload_n hx hb zd_PA_check_0 rfl (lv_at hl 0 rfl) ?_
    refine zg_PA F hT hK hP 0 rfl 3 (by decide) zq_89 rfl zd_PA_check_1 ?_
    refine lv_if_ne (tgt := 11) hx hb zd_PA_check_4 rfl (fun _ => ?_) (fun hc9 => absurd hc9 (by decide))
    refine lv_iconst (v := 0) hx hb zd_PA_check_11 (by decide) ?_
    refine zk_S F hT hK hZ hS hl.1 (zc_PA_state l G false hfl) zl_PA_state (zY_PA_state hT) zq_203 zq_204 zq_1 zd_PA_check_12 rfl ⟨rfl, rfl, Nat.le_of_ble_eq_true rfl, Nat.le_of_ble_eq_true rfl, Nat.le_of_ble_eq_true rfl, Nat.le_of_ble_eq_true rfl⟩ (fun v H locs hv hS => ?_) (fun x H locs hv hS => ?_)
    · exact absurd hv.2.1 (by decide)
    · obtain ⟨-, hxe, hkp, -⟩ := hv
      refine zx_TW (k := 1) (n := 6) (by decide) (by decide) ?_
      exact zx_out F hS.2.2 rfl (⟨rfl, hxe, hI.kept hkp⟩)
  | false =>
    refine lv_aload_n hx hb zd_PA_check_0 rfl (lv_at hl 0 rfl) ?_
    refine zg_PA F hT hK hP 0 rfl 3 (by decide) zq_89 rfl zd_PA_check_1 ?_
    refine lv_if_ne (tgt := 11) hx hb zd_PA_check_4 rfl (fun hc9 => absurd hc9 (by decide)) (fun _ => ?_)
    refine lv_iconst (v := 1) hx hb zd_PA_check_7 (by decide) ?_
    refine lv_goto (tgt := 12) hx hb zd_PA_check_8 rfl ?_
    refine zk_S F hT hK hZ hS hl.1 (zc_PA_state l G true hfl) zl_PA_state (zY_PA_state hT) zq_203 zq_204 zq_1 zd_PA_check_12 rfl ⟨rfl, rfl, Nat.le_of_ble_eq_true rfl, Nat.le_of_ble_eq_true rfl, Nat.le_of_ble_eq_true rfl, Nat.le_of_ble_eq_true rfl⟩ (fun v H locs hv hS => ?_) (fun x H locs hv hS => absurd hv.1 (by decide))
    obtain ⟨rfl, -, rfl⟩ := hv
    refine zw_app0 ?_
    have hgd : sk = 5 → ∀ t, t < 150 → ∀ j, j < 128 → xacc D 5 t j 5 = 0 := fun h => by
      subst h
      obtain rfl := hC.2.2.1 rfl
      obtain rfl := hC.2.2.2 rfl
      exact p_chk (hOn rfl)
    refine lv_aload_n hx hb zd_PA_check_15 rfl (lv_at hl 0 rfl) ?_
    refine zg_PA F hT hK hP 0 rfl 1 (by decide) zq_87 rfl zd_PA_check_16 ?_
    have hP9 := zw_perm hP [2, 3, 0, 1, 4, 5, 6, 7] rfl
    have hP9 : va_P G.1 zcl ([(_, _), (_, _), (_, _), (_, _), (_, _), (_, _), (_, _), (_, _)] ++ wr) s.heap := hP9
    have hD := zw_permD hD hP9 [2, 3, 0, 1, 4, 5, 6, 7] (by decide) rfl
    have hP := hP9
    refine zk_V F hT hK hZ hS hl.1 hP 0 rfl rfl rfl (zc_A5_wrong l G ar dk on pt rc pw sk rb nw false D _ hC.1 hgd hP) zl_A5_wrong (zY_A5_wrong hT) zq_376 zq_377 zq_378 zd_PA_check_19 rfl ⟨rfl, rfl, Nat.le_of_ble_eq_true rfl, Nat.le_of_ble_eq_true rfl, Nat.le_of_ble_eq_true rfl, Nat.le_of_ble_eq_true rfl⟩ (fun v H locs hv hS => ?_) (fun x H locs hv hS => hv.elim)
    obtain ⟨rfl, rfl⟩ := hv
    refine zw_app ?_
    exact zx_iret F rfl hS.2.2 zd_PA_check_22 ⟨rfl, rfl, hI⟩
end
section
/-! handlers by their number; ParityArray.set and recover -/
theorem zx_asg {args : Array Value} {s : State} {C : String} {cX : ClassId} (h : (Cond.castable C C).before args s = true) (hc : s.vm.findClass C = some cX) : s.vm.assignable cX cX = true := by
  obtain ⟨c3, c4, h3, h4, h5⟩ := Cond.castable_spec h
  cases hc.symm.trans h3
  cases hc.symm.trans h4
  exact h5
section XH
variable {p : Program} {l : Launch} {e : Env} {R : Room} {s : State} {m : MethodId} {args : Array Value} {below : List Frame} {meth : Method} {c : Code} {H : Heap} {locs : List Loc} {cells slots : Nat} {Q : State → Prop} {G : xG}
variable {own nm : String} {cc : ByteArray} {nL : Nat} {ret : Option FieldType} {hs : List (Nat × Nat × Nat × Nat)} {rest : List Value} {pc : Nat} {ls : Array Slot} {x : Addr}
variable {cX c1 c2 c3 : ClassId} {C1 C2 C3 : String} {s1 e1 h1 t1 s2 e2 h2 t2 s3 e3 h3 t3 : Nat}
theorem zx_tab {α β : Type} {f : α → β} {l : List α} {q : β} {r : List β} (h : l.map f = q :: r) : ∃ z l', l = z :: l' ∧ f z = q ∧ l'.map f = r := by
  cases l with
  | nil => cases h
  | cons z l' => exact ⟨z, l', rfl, (List.cons.inj h).1, (List.cons.inj h).2⟩
theorem zx_c1 (F : xFix p s m meth c cc nL own nm ret ((s1, e1, h1, t1) :: hs)) (hT : xT s) (hcov : (decide (s1 ≤ pc) && decide (pc < e1)) = true) (h0 : t1 ≠ 0) (hl1 : Cond.classLink own t1 C1 ∈ lw_tbl) (hC1 : s.vm.findClass C1 = some c1) (hxe : xE c1 x H) (hcast : Cond.castable C1 C1 ∈ lw_tbl)
    (k : W p l e R s m args below meth c H locs cells slots Q (F0 m h1 ls [.ref x])) : WT p l e R s m args below meth c H locs cells slots Q (F0 m pc ls rest) x := by
  refine zx_catch (pcH := h1) (fun T hTH X => ?_) k
  obtain ⟨hx, hb, hr, hml, hown, hlk, hnm, htab⟩ := F
  obtain ⟨z, l', hz, hf, -⟩ := zx_tab htab
  obtain ⟨rfl, rfl, rfl, rfl⟩ : z.startPc = s1 ∧ z.endPc = e1 ∧ z.handlerPc = h1 ∧ z.catchType = t1 := by simpa using hf
  rw [hz]
  obtain ⟨ce, g1, g2, g3⟩ := hxe
  exact zx_hit X rfl hown hcov h0 (hT.u hl1) hC1 ⟨ce, by rw [hTH]; exact g1, g2, g3⟩ (Vm.classAt_of_findClass hC1) (zx_asg (args := args) (hT.u hcast) hC1)
theorem zx_c2 (F : xFix p s m meth c cc nL own nm ret ((s1, e1, h1, t1) :: (s2, e2, h2, t2) :: hs)) (hT : xT s) (hcov1 : (decide (s1 ≤ pc) && decide (pc < e1)) = true) (h01 : t1 ≠ 0) (hl1 : Cond.classLink own t1 C1 ∈ lw_tbl) (hC1 : s.vm.findClass C1 = some c1) (hn1 : s.vm.assignable c2 c1 = false)
    (hcov : (decide (s2 ≤ pc) && decide (pc < e2)) = true) (h0 : t2 ≠ 0) (hl2 : Cond.classLink own t2 C2 ∈ lw_tbl) (hC2 : s.vm.findClass C2 = some c2) (hxe : xE c2 x H) (hcast : Cond.castable C2 C2 ∈ lw_tbl)
    (k : W p l e R s m args below meth c H locs cells slots Q (F0 m h2 ls [.ref x])) : WT p l e R s m args below meth c H locs cells slots Q (F0 m pc ls rest) x := by
  refine zx_catch (pcH := h2) (fun T hTH X => ?_) k
  obtain ⟨hx, hb, hr, hml, hown, hlk, hnm, htab⟩ := F
  obtain ⟨z, l', hz, hf, htab⟩ := zx_tab htab
  obtain ⟨z2, l2, hz2, hf2, -⟩ := zx_tab htab
  obtain ⟨rfl, rfl, rfl, rfl⟩ : z.startPc = s1 ∧ z.endPc = e1 ∧ z.handlerPc = h1 ∧ z.catchType = t1 := by simpa using hf
  obtain ⟨rfl, rfl, rfl, rfl⟩ : z2.startPc = s2 ∧ z2.endPc = e2 ∧ z2.handlerPc = h2 ∧ z2.catchType = t2 := by simpa using hf2
  rw [hz, hz2]
  obtain ⟨ce, g1, g2, g3⟩ := hxe
  refine zx_pass X rfl hown hcov1 h01 (hT.u hl1) hC1 ⟨ce, by rw [hTH]; exact g1, g2, g3⟩ (Vm.classAt_of_findClass hC2) hn1 (fun T' hT' X' => ?_)
  exact zx_hit X' rfl hown hcov h0 (hT.u hl2) hC2 ⟨ce, by rw [hT', hTH]; exact g1, g2, g3⟩ (Vm.classAt_of_findClass hC2) (zx_asg (args := args) (hT.u hcast) hC2)
theorem zx_c3 (F : xFix p s m meth c cc nL own nm ret ((s1, e1, h1, t1) :: (s2, e2, h2, t2) :: (s3, e3, h3, t3) :: hs)) (hT : xT s) (hcov1 : (decide (s1 ≤ pc) && decide (pc < e1)) = true) (h01 : t1 ≠ 0) (hl1 : Cond.classLink own t1 C1 ∈ lw_tbl) (hC1 : s.vm.findClass C1 = some c1) (hn1 : s.vm.assignable c3 c1 = false)
    (hcov2 : (decide (s2 ≤ pc) && decide (pc < e2)) = true) (h02 : t2 ≠ 0) (hl2 : Cond.classLink own t2 C2 ∈ lw_tbl) (hC2 : s.vm.findClass C2 = some c2) (hn2 : s.vm.assignable c3 c2 = false)
    (hcov : (decide (s3 ≤ pc) && decide (pc < e3)) = true) (h0 : t3 ≠ 0) (hl3 : Cond.classLink own t3 C3 ∈ lw_tbl) (hC3 : s.vm.findClass C3 = some c3) (hxe : xE c3 x H) (hcast : Cond.castable C3 C3 ∈ lw_tbl)
    (k : W p l e R s m args below meth c H locs cells slots Q (F0 m h3 ls [.ref x])) : WT p l e R s m args below meth c H locs cells slots Q (F0 m pc ls rest) x := by
  refine zx_catch (pcH := h3) (fun T hTH X => ?_) k
  obtain ⟨hx, hb, hr, hml, hown, hlk, hnm, htab⟩ := F
  obtain ⟨z, l', hz, hf, htab⟩ := zx_tab htab
  obtain ⟨z2, l2, hz2, hf2, htab⟩ := zx_tab htab
  obtain ⟨z3, l3, hz3, hf3, -⟩ := zx_tab htab
  obtain ⟨rfl, rfl, rfl, rfl⟩ : z.startPc = s1 ∧ z.endPc = e1 ∧ z.handlerPc = h1 ∧ z.catchType = t1 := by simpa using hf
  obtain ⟨rfl, rfl, rfl, rfl⟩ : z2.startPc = s2 ∧ z2.endPc = e2 ∧ z2.handlerPc = h2 ∧ z2.catchType = t2 := by simpa using hf2
  obtain ⟨rfl, rfl, rfl, rfl⟩ : z3.startPc = s3 ∧ z3.endPc = e3 ∧ z3.handlerPc = h3 ∧ z3.catchType = t3 := by simpa using hf3
  rw [hz, hz2, hz3]
  obtain ⟨ce, g1, g2, g3⟩ := hxe
  refine zx_pass X rfl hown hcov1 h01 (hT.u hl1) hC1 ⟨ce, by rw [hTH]; exact g1, g2, g3⟩ (Vm.classAt_of_findClass hC3) hn1 (fun T' hT' X' => ?_)
  refine zx_pass X' rfl hown hcov2 h02 (hT.u hl2) hC2 ⟨ce, by rw [hT', hTH]; exact g1, g2, g3⟩ (Vm.classAt_of_findClass hC3) hn2 (fun T2 hT2 X2 => ?_)
  exact zx_hit X2 rfl hown hcov h0 (hT.u hl3) hC3 ⟨ce, by rw [hT2, hT', hTH]; exact g1, g2, g3⟩ (Vm.classAt_of_findClass hC3) (zx_asg (args := args) (hT.u hcast) hC3)
end XH
/-- byte k of the word w -/
def wb (w : Int64) (k : Nat) : Int8 := (w >>> ((nI 56 - nI 8 * nI k).toInt64 &&& 63)).toInt32.toInt8
/-- the blocks when bytes below 'now' of the word's place are new -/
def mset (M : Nat → Int8) (n i : Nat) (w : Int64) (now : Nat) : Nat → Int8 := fun x => if (128 * n + 8 * i ≤ x ∧ x < 128 * n + 8 * i + 8) ∧ x < 128 * n + now then wb w (x - (128 * n + 8 * i)) else M x
theorem nowN_le (am : Bool) (L b : Nat) (wh : Bool) : nowN am L b wh ≤ 128 := by
  unfold nowN
  repeat' split
  all_goals omega
theorem mset_eq {Fr M : Nat → Int8} {n i now : Nat} {w : Int64} (hi : i < 16) (hn : now ≤ 128) (h : ∀ j, j < 128 → Fr j = if 8 * i ≤ j ∧ j < 8 * i + 8 then wb w (j - 8 * i) else M (128 * n + j)) : va_cpy Fr M 0 (128 * (4 * (n / 4) + n % 4)) now = mset M n i w now := by
  rw [show 4 * (n / 4) + n % 4 = n by omega]
  funext x
  unfold va_cpy mset
  by_cases h1 : 128 * n ≤ x ∧ x < 128 * n + now
  · rw [if_pos h1, Nat.zero_add, h _ (by omega)]
    by_cases h2 : 8 * i ≤ x - 128 * n ∧ x - 128 * n < 8 * i + 8
    · rw [if_pos h2, if_pos (by omega)]
      congr 1
      omega
    · rw [if_neg h2, if_neg (by omega)]
      congr 1
      omega
  · rw [if_neg h1, if_neg (by omega)]
theorem zl_row {X M : Nat → Int8} {n i k : Nat} {w : Int64} (hX : ∀ j, j < 128 → X j = if 8 * i ≤ j ∧ j < 8 * i + k then wb w (j - 8 * i) else M (128 * n + j)) : ∀ j, j < 128 → ub X (8 * i + k) (((w >>> ((nI 56 - nI 8 * nI k).toInt64 &&& 63)).toInt32.toInt8.toInt32).toInt8) j = if 8 * i ≤ j ∧ j < 8 * i + (k + 1) then wb w (j - 8 * i) else M (128 * n + j) := by
  intro j hj
  unfold ub
  rw [Int8.toInt8_toInt32]
  by_cases h : j = 8 * i + k
  · subst h
    rw [if_pos rfl, if_pos (by omega), show 8 * i + k - 8 * i = k by omega]
    rfl
  · rw [if_neg h, hX j hj]
    by_cases h2 : 8 * i ≤ j ∧ j < 8 * i + k
    · rw [if_pos h2, if_pos (by omega)]
    · rw [if_neg h2, if_neg (by omega)]
theorem zarm_f {wn : Int32} (h : wn = 0 ∨ wn = 3 ∨ wn = 4) : zarm false wn = true ↔ wn = 0 := by
  rcases h with rfl | rfl | rfl <;> decide
theorem zarm_t {wn : Int32} (h : wn = 0 ∨ wn = 3 ∨ wn = 4) : zarm true wn = true ↔ wn = 3 := by
  rcases h with rfl | rfl | rfl <;> decide
theorem wn_12 {wn : Int32} (h : wn = 0 ∨ wn = 3 ∨ wn = 4) : (¬ wn = 1) ∧ (¬ wn = 2) := by
  rcases h with rfl | rfl | rfl <;> decide
set_option maxHeartbeats 4000000 in
set_option maxRecDepth 20000 in
theorem zc_PA_set (l : Launch) (G : xG) {H0 : Heap} {A : Nat → Prop} (pa pw ar dk on pt rc rw : Nat) (wr : va_W) (M : Nat → Int8) (off : Bool) (wn : Int32) (L b sk rb : Nat) (nw : Bool) (n i : Int32) (w : Int64) (hfl : l.flags = flags0) (hI : SysI G pa pw ar dk on pt rc rw wr M off wn L b sk rb nw anyRow H0) (hD0 : va_D A (zA8 pa pw ar dk on pt rc rw ++ wr)) : XM l G (rmz 12 440 6 36) zy_PA_set zb_PA_set 9 (some FieldType.long) [(65, 78, 81, 64)] H0 A [.ref pa, .int n, .int i, .long w] 6 36 (fun v H => off = false ∧ ¬ wn = 0 ∧ ∃ n8 i8 : Nat, n8 < 600 ∧ i8 < 16 ∧ n = nI n8 ∧ i = nI i8 ∧ v = some (.long (wd8 (fun k => M (128 * n8 + 8 * i8 + k)) 8)) ∧ SysI G pa pw ar dk on pt rc rw wr (mset M n8 i8 w 128) off wn L b sk rb nw anyRow H) (fun x H => ((off = true ∧ xE (gIS G) x H) ∨ (off = false ∧ ¬ okP n i ∧ xE (gIO G) x H)) ∧ SysI G pa pw ar dk on pt rc rw wr M off wn L b sk rb nw anyRow H ∨ (off = false ∧ wn = 0 ∧ xE (gAr G) x H ∧ ∃ n8 i8 : Nat, n8 < 600 ∧ i8 < 16 ∧ n = nI n8 ∧ i = nI i8 ∧ SysI G pa pw ar dk on pt rc rw wr (mset M n8 i8 w (nowN true L b (thr sk nw rb (n8 / 4 % 5) (n8 / 4)))) true 4 L b sk rb nw anyRow H)) := by
  intro p e s m below meth c F hT hK hH hZ
  subst hH
  have hx := F.1
  have hb := F.2.1
  have hS : va_S A s.heap s.heap [] := va_S.rf
  have hl := lv_entry ([.ref pa, .int n, .int i, .long w]) (n := 9) (Nat.le_of_ble_eq_true rfl)
  rw [lg_entry_eq]
  generalize (lg_sl ([.ref pa, .int n, .int i, .long w]) ++ List.replicate (9 - (lg_sl ([.ref pa, .int n, .int i, .long w])).length) Slot.unset).toArray = ls at hl ⊢
  have hl : lv_has ls 9 [(0, .ref pa), (1, .int n), (2, .int i), (3, .long w)] := hl
  obtain ⟨lf0, am0, bh0, D0, Z1, Z2, Z3, Z4, hP, -⟩ := id hI
  refine lv_aload_n hx hb zd_PA_set_0 rfl (lv_at hl 0 rfl) ?_
  refine lv_iload_n hx hb zd_PA_set_1 rfl (lv_at hl 1 rfl) ?_
  refine lv_iload_n hx hb zd_PA_set_2 rfl (lv_at hl 2 rfl) ?_
  refine zk_V F hT hK hZ hS hl.1 hP 0 rfl rfl rfl (zc_PA_get l G pa pw ar dk on pt rc rw wr M off wn L b sk rb nw n i hfl hI hD0) zl_PA_get (zY_PA_get hT) zq_199 zq_200 zq_201 zd_PA_set_3 rfl ⟨rfl, rfl, Nat.le_of_ble_eq_true rfl, Nat.le_of_ble_eq_true rfl, Nat.le_of_ble_eq_true rfl, Nat.le_of_ble_eq_true rfl⟩ (fun v H locs hv hS => ?_) (fun x H locs hv hS => ?_)
  · obtain ⟨rfl, n9, i9, hn9, hi9, rfl, rfl, rfl, hI⟩ := hv
    refine zw_app ?_
    obtain ⟨lf, am, bh, D, X1, X2, X3, X4, hP, hR, hC, hOn, hOff, hwn, hb2, hL, hrow⟩ := hI
    have hD := zw_DP hD0 hP (by simp only [List.map_append, List.map_cons, List.map_nil])
    have hO := hOn rfl
    have hz := zarm_f hwn
    obtain ⟨hw1, hw2⟩ := wn_12 hwn
    have after : ∀ (Y : Nat → Int8) (H : Heap) (locs : List Loc) (ls : Array Slot), (∀ j, j < 128 → Y j = if 8 * i9 ≤ j ∧ j < 8 * i9 + 8 then wb w (j - 8 * i9) else M (128 * n9 + j)) → va_P G.1 zcl (zS8 G pa pw ar dk on pt rc rw false wn lf b am bh sk rb nw D X1 X2 X3 Y ++ wr) H → va_S A s.heap H locs → lv_has ls 9 [(5, .long (wd8 (fun k => M (128 * n9 + 8 * i9 + k)) 8)), (0, .ref pa), (1, .int (nI n9)), (2, .int (nI i9)), (3, .long w)] → W p l e (rmz 12 440 6 36) s m ([.ref pa, .int (nI n9), .int (nI i9), .long w] : List Value).toArray below meth c H locs 2 12 (xQ below s A 6 36 (fun v H => false = false ∧ ¬ wn = 0 ∧ ∃ n8 i8 : Nat, n8 < 600 ∧ i8 < 16 ∧ (nI n9) = nI n8 ∧ (nI i9) = nI i8 ∧ v = some (.long (wd8 (fun k => M (128 * n8 + 8 * i8 + k)) 8)) ∧ SysI G pa pw ar dk on pt rc rw wr (mset M n8 i8 w 128) false wn L b sk rb nw anyRow H) (fun x H => ((false = true ∧ xE (gIS G) x H) ∨ (false = false ∧ ¬ okP (nI n9) (nI i9) ∧ xE (gIO G) x H)) ∧ SysI G pa pw ar dk on pt rc rw wr M false wn L b sk rb nw anyRow H ∨ (false = false ∧ wn = 0 ∧ xE (gAr G) x H ∧ ∃ n8 i8 : Nat, n8 < 600 ∧ i8 < 16 ∧ (nI n9) = nI n8 ∧ (nI i9) = nI i8 ∧ SysI G pa pw ar dk on pt rc rw wr (mset M n8 i8 w (nowN true L b (thr sk nw rb (n8 / 4 % 5) (n8 / 4)))) true 4 L b sk rb nw anyRow H))) (F0 m 48 ls []) := by
      intro Y H locs ls hY hP hS hl
      have hD := zw_DP hD hP (by simp only [List.map_append, List.map_cons, List.map_nil])
      have hP9 := zw_perm hP [1, 0, 2, 3, 4, 5, 6, 7] rfl
      have hP9 : va_P G.1 zcl ([(_, _), (_, _), (_, _), (_, _), (_, _), (_, _), (_, _), (_, _)] ++ wr) H := hP9
      have hD := zw_permD hD hP9 [1, 0, 2, 3, 4, 5, 6, 7] (by decide) rfl
      have hP := hP9
      refine lv_aload_n hx hb zd_PA_set_48 rfl (lv_at hl 1 rfl) ?_
      refine zg_PA F hT hK hP 1 rfl 0 (by decide) zq_86 rfl zd_PA_set_49 ?_
      refine lv_iconst (v := bI false) hx hb zd_PA_set_52 (by decide) ?_
      refine zk_V F hT hK hZ hS hl.1 hP 0 rfl rfl rfl (zc_Pw_begin l G pw wn lf (nI b) am bh false _ hP hD) zl_Pw_begin (zY_Pw_begin hT) zq_269 zq_270 zq_271 zd_PA_set_53 rfl ⟨rfl, rfl, Nat.le_of_ble_eq_true rfl, Nat.le_of_ble_eq_true rfl, Nat.le_of_ble_eq_true rfl, Nat.le_of_ble_eq_true rfl⟩ (fun v H locs hv hS => ?_) (fun x H locs hv hS => hv.elim)
      obtain ⟨rfl, hP⟩ := hv
      refine zw_app0 ?_
      have hP : va_P G.1 zcl ([(_, _), (_, _), (_, _), (_, _), (_, _), (_, _), (_, _), (_, _)] ++ wr) H := hP
      have hD := zw_DP hD hP (by simp only [List.map_append, List.map_cons, List.map_nil])
      have hP9 := zw_perm hP [1, 0, 2, 3, 4, 5, 6, 7] rfl
      have hP9 : va_P G.1 zcl ([(_, _), (_, _), (_, _), (_, _), (_, _), (_, _), (_, _), (_, _)] ++ wr) H := hP9
      have hD := zw_permD hD hP9 [1, 0, 2, 3, 4, 5, 6, 7] (by decide) rfl
      have hP := hP9
      refine lv_aload_n hx hb zd_PA_set_56 rfl (lv_at hl 1 rfl) ?_
      refine zg_PA F hT hK hP 0 rfl 0 (by decide) zq_86 rfl zd_PA_set_57 ?_
      refine zg_Pw F hT hK hP 1 rfl 3 (by decide) zq_34 rfl zd_PA_set_60 ?_
      refine lv_istore hx hb zd_PA_set_63 hl (by decide) rfl (fun ls hl => ?_)
      have hl : lv_has ls 9 [(7, _), (5, _), (0, _), (1, _), (2, _), (3, _)] := hl
      refine lv_aload_n hx hb zd_PA_set_65 rfl (lv_at hl 2 rfl) ?_
      refine zg_PA F hT hK hP 0 rfl 1 (by decide) zq_87 rfl zd_PA_set_66 ?_
      refine lv_iload_n hx hb zd_PA_set_69 rfl (lv_at hl 3 rfl) ?_
      refine zw_ti (nI (4 * (n9 / 4) + n9 % 4)) (by rw [show 4 * (n9 / 4) + n9 % 4 = n9 by omega]) ?_
      refine lv_aload_n hx hb zd_PA_set_70 rfl (lv_at hl 2 rfl) ?_
      refine zg_PA F hT hK hP 0 rfl 2 (by decide) zq_88 rfl zd_PA_set_71 ?_
      refine lv_iconst (v := 0) hx hb zd_PA_set_74 (by decide) ?_
      have hP9 := zw_perm hP [2, 1, 3, 4, 5, 6, 7, 0] rfl
      have hP9 : va_P G.1 zcl ([(_, _), (_, _), (_, _), (_, _), (_, _), (_, _), (_, _), (_, _)] ++ wr) H := hP9
      have hD := zw_permD hD hP9 [2, 1, 3, 4, 5, 6, 7, 0] (by decide) rfl
      have hP := hP9
      refine zk_V F hT hK hZ hS hl.1 hP 0 rfl rfl rfl (zc_A5_write3 l G ar dk on pt rc pw sk rb nw false rw (n9 / 4) (n9 % 4) b L wn lf (zarm false wn) false D X1 X2 X3 Y M _ hfl hw1 hw2 (by omega) (by omega) (by omega) hC.2.1 hR hO (fun h => by obtain ⟨e1, e2⟩ := hL (hz.mp h); exact ⟨e1, by omega⟩) hP hD) zl_A5_write3 (zY_A5_write3 hT) zq_273 zq_274 zq_275 zd_PA_set_75 rfl ⟨rfl, rfl, Nat.le_of_ble_eq_true rfl, Nat.le_of_ble_eq_true rfl, Nat.le_of_ble_eq_true rfl, Nat.le_of_ble_eq_true rfl⟩ (fun v H locs hv hS => ?_) (fun x H locs hv hS => ?_)
      · obtain ⟨rfl, D9, Y1, Y2, Y3, lf9, g1, g2, g3, hP⟩ := hv
        refine zw_app0 ?_
        have hP : va_P G.1 zcl ([(_, _), (_, _), (_, _), (_, _), (_, _), (_, _), (_, _), (_, _)] ++ wr) H := hP
        have hD := zw_DP hD hP (by simp only [List.map_append, List.map_cons, List.map_nil])
        have hP9 := zw_perm hP [7, 1, 0, 2, 3, 4, 5, 6] rfl
        have hP9 : va_P G.1 zcl ([(_, _), (_, _), (_, _), (_, _), (_, _), (_, _), (_, _), (_, _)] ++ wr) H := hP9
        have hD := zw_permD hD hP9 [7, 1, 0, 2, 3, 4, 5, 6] (by decide) rfl
        have hP := hP9
        refine lv_goto (tgt := 104) hx hb zd_PA_set_78 rfl ?_
        refine lv_iload hx hb zd_PA_set_104 (lv_at hl 0 rfl) ?_
        refine lv_if_ne (tgt := 112) hx hb zd_PA_set_106 rfl (fun ga => ?_) (fun ga => ?_)
        · have ga : zarm false wn = true := by cases h : zarm false wn with | true => rfl | false => rw [h] at ga; exact absurd rfl ga
          have hw0 := hz.mp ga
          rw [ga, mset_eq hi9 (nowN_le _ _ _ _) hY] at g1 g2
          refine lv_aload_n hx hb zd_PA_set_112 rfl (lv_at hl 2 rfl) ?_
          refine zg_PA F hT hK hP 0 rfl 0 (by decide) zq_86 rfl zd_PA_set_113 ?_
          refine lv_iconst (v := 4) hx hb zd_PA_set_116 (by decide) ?_
          refine zp_Pw F hT hK hP hD hS 1 rfl 0 (by decide) zq_30 rfl rfl rfl (Nat.le_of_ble_eq_true rfl) zd_PA_set_117 (fun H locs hP hD hS => ?_)
          have hP : va_P G.1 zcl ([(_, _), (_, .inr (1, [_, _, _, _, _])), (_, _), (_, _), (_, _), (_, _), (_, _), (_, _)] ++ wr) H := hP
          have hD : va_D A ([(_, _), (_, .inr (1, [_, _, _, _, _])), (_, _), (_, _), (_, _), (_, _), (_, _), (_, _)] ++ wr) := hD
          refine lv_aload_n hx hb zd_PA_set_120 rfl (lv_at hl 2 rfl) ?_
          refine lv_iconst (v := 1) hx hb zd_PA_set_121 (by decide) ?_
          refine zp_PA F hT hK hP hD hS 0 rfl 3 (by decide) zq_89 rfl rfl rfl (Nat.le_of_ble_eq_true rfl) zd_PA_set_122 (fun H locs hP hD hS => ?_)
          have hP : va_P G.1 zcl ([(_, .inr (0, [_, _, _, _])), (_, _), (_, _), (_, _), (_, _), (_, _), (_, _), (_, _)] ++ wr) H := hP
          have hD : va_D A ([(_, .inr (0, [_, _, _, _])), (_, _), (_, _), (_, _), (_, _), (_, _), (_, _), (_, _)] ++ wr) := hD
          exact zx_throw (cls := "java/lang/ArithmeticException") (names := ["java/lang/RuntimeException", "java/lang/Exception"]) F hfl hT hZ hS (by decide +kernel) zx_names zx_in_3 zq_198 zq_11 zq_181 hK.2.2.2.1 hl.1 zd_PA_set_125 zd_PA_set_128 zd_PA_set_129 zd_PA_set_132 rfl ⟨by decide, by decide, by decide, by decide⟩ (fun H1 _ hk he => Or.inr ⟨rfl, hw0, he, n9, i9, hn9, hi9, rfl, rfl, lf9, _, _, D9, Y1, Y2, Y3, Y, zw_kept hP hk, g1, hC, fun h => absurd h (by decide), g2, by decide, hb2, fun h => absurd h (by decide), trivial⟩)
        · have ga := bI_0.mp ga
          have hw0 : ¬ wn = 0 := fun h => by rw [hz.mpr h] at ga; cases ga
          have g3 := g3 ga
          rw [mset_eq hi9 (nowN_le _ _ _ _) hY, ga] at g1 g2 g3
          refine lv_lload hx hb zd_PA_set_109 (lv_at hl 1 rfl) ?_
          refine W.widen (k := 6) (n := 36) (by decide) (by decide) ?_
          exact zx_lret F hS.2.2 zd_PA_set_111 ⟨rfl, hw0, n9, i9, hn9, hi9, rfl, rfl, rfl, lf9, _, _, D9, Y1, Y2, Y3, Y, hP, g1, hC, fun _ => g3, g2, hwn, hb2, fun h => absurd h hw0, trivial⟩
      · obtain ⟨ga, hxe, D9, Y1, Y2, Y3, lf9, g1, g2, -, hP⟩ := hv
        have hP : va_P G.1 zcl ([(_, _), (_, _), (_, _), (_, _), (_, _), (_, _), (_, _), (_, _)] ++ wr) H := hP
        have hD := zw_DP hD hP (by simp only [List.map_append, List.map_cons, List.map_nil])
        have hP9 := zw_perm hP [7, 1, 0, 2, 3, 4, 5, 6] rfl
        have hP9 : va_P G.1 zcl ([(_, _), (_, _), (_, _), (_, _), (_, _), (_, _), (_, _), (_, _)] ++ wr) H := hP9
        have hD := zw_permD hD hP9 [7, 1, 0, 2, 3, 4, 5, 6] (by decide) rfl
        have hP := hP9
        have hw0 := hz.mp ga
        rw [ga, mset_eq hi9 (nowN_le _ _ _ _) hY] at g1 g2
        refine zx_c1 F hT (by decide) (by decide) zq_198 hK.2.2.2.1 hxe zq_192 ?_
        refine lv_astore hx hb zd_PA_set_81 hl (by decide) rfl (fun ls hl => ?_)
        have hl : lv_has ls 9 [(8, _), (7, _), (5, _), (0, _), (1, _), (2, _), (3, _)] := hl
        refine lv_aload_n hx hb zd_PA_set_83 rfl (lv_at hl 3 rfl) ?_
        refine zg_PA F hT hK hP 0 rfl 0 (by decide) zq_86 rfl zd_PA_set_84 ?_
        refine lv_iconst (v := 4) hx hb zd_PA_set_87 (by decide) ?_
        refine zp_Pw F hT hK hP hD hS 1 rfl 0 (by decide) zq_30 rfl rfl rfl (Nat.le_of_ble_eq_true rfl) zd_PA_set_88 (fun H locs hP hD hS => ?_)
        have hP : va_P G.1 zcl ([(_, _), (_, .inr (1, [_, _, _, _, _])), (_, _), (_, _), (_, _), (_, _), (_, _), (_, _)] ++ wr) H := hP
        have hD : va_D A ([(_, _), (_, .inr (1, [_, _, _, _, _])), (_, _), (_, _), (_, _), (_, _), (_, _), (_, _)] ++ wr) := hD
        refine lv_aload_n hx hb zd_PA_set_91 rfl (lv_at hl 3 rfl) ?_
        refine lv_iconst (v := 1) hx hb zd_PA_set_92 (by decide) ?_
        refine zp_PA F hT hK hP hD hS 0 rfl 3 (by decide) zq_89 rfl rfl rfl (Nat.le_of_ble_eq_true rfl) zd_PA_set_93 (fun H locs hP hD hS => ?_)
        have hP : va_P G.1 zcl ([(_, .inr (0, [_, _, _, _])), (_, _), (_, _), (_, _), (_, _), (_, _), (_, _), (_, _)] ++ wr) H := hP
        have hD : va_D A ([(_, .inr (0, [_, _, _, _])), (_, _), (_, _), (_, _), (_, _), (_, _), (_, _), (_, _)] ++ wr) := hD
        exact zx_throw (cls := "java/lang/ArithmeticException") (names := ["java/lang/RuntimeException", "java/lang/Exception"]) F hfl hT hZ hS (by decide +kernel) zx_names zx_in_3 zq_198 zq_11 zq_181 hK.2.2.2.1 hl.1 zd_PA_set_96 zd_PA_set_99 zd_PA_set_100 zd_PA_set_103 rfl ⟨by decide, by decide, by decide, by decide⟩ (fun H1 _ hk he => Or.inr ⟨rfl, hw0, he, n9, i9, hn9, hi9, rfl, rfl, lf9, _, _, D9, Y1, Y2, Y3, Y, zw_kept hP hk, g1, hC, fun h => absurd h (by decide), g2, by decide, hb2, fun h => absurd h (by decide), trivial⟩)
    have loop : ∀ (q k : Nat), q + k = 8 → ∀ (Y : Nat → Int8) (H : Heap) (locs : List Loc) (ls : Array Slot), (∀ j, j < 128 → Y j = if 8 * i9 ≤ j ∧ j < 8 * i9 + k then wb w (j - 8 * i9) else M (128 * n9 + j)) → va_P G.1 zcl (zS8 G pa pw ar dk on pt rc rw false wn lf b am bh sk rb nw D X1 X2 X3 Y ++ wr) H → va_S A s.heap H locs → lv_has ls 9 [(7, .int (nI k)), (5, .long (wd8 (fun k => M (128 * n9 + 8 * i9 + k)) 8)), (0, .ref pa), (1, .int (nI n9)), (2, .int (nI i9)), (3, .long w)] → W p l e (rmz 12 440 6 36) s m ([.ref pa, .int (nI n9), .int (nI i9), .long w] : List Value).toArray below meth c H locs 2 12 (xQ below s A 6 36 (fun v H => false = false ∧ ¬ wn = 0 ∧ ∃ n8 i8 : Nat, n8 < 600 ∧ i8 < 16 ∧ (nI n9) = nI n8 ∧ (nI i9) = nI i8 ∧ v = some (.long (wd8 (fun k => M (128 * n8 + 8 * i8 + k)) 8)) ∧ SysI G pa pw ar dk on pt rc rw wr (mset M n8 i8 w 128) false wn L b sk rb nw anyRow H) (fun x H => ((false = true ∧ xE (gIS G) x H) ∨ (false = false ∧ ¬ okP (nI n9) (nI i9) ∧ xE (gIO G) x H)) ∧ SysI G pa pw ar dk on pt rc rw wr M false wn L b sk rb nw anyRow H ∨ (false = false ∧ wn = 0 ∧ xE (gAr G) x H ∧ ∃ n8 i8 : Nat, n8 < 600 ∧ i8 < 16 ∧ (nI n9) = nI n8 ∧ (nI i9) = nI i8 ∧ SysI G pa pw ar dk on pt rc rw wr (mset M n8 i8 w (nowN true L b (thr sk nw rb (n8 / 4 % 5) (n8 / 4)))) true 4 L b sk rb nw anyRow H))) (F0 m 11 ls []) := by
      intro q
      induction q with
      | zero =>
        intro k hk Y H locs ls hY hP hS hl
        obtain rfl : k = 8 := by omega
        refine lv_iload hx hb zd_PA_set_11 (lv_at hl 0 rfl) ?_
        refine lv_bipush (v := nI 8) hx hb zd_PA_set_13 (by decide) ?_
        refine lv_icmp_ge (tgt := 48) hx hb zd_PA_set_15 rfl (fun _ => ?_) (fun hc9 => absurd hc9 (fun h => h (Int32.le_refl _)))
        exact after Y H locs ls hY hP hS (lv_sub hl [1, 2, 3, 4, 5] rfl)
      | succ q ih =>
        intro k hk Y H locs ls hY hP hS hl
        have hD := zw_DP hD hP (by simp only [List.map_append, List.map_cons, List.map_nil])
        refine lv_iload hx hb zd_PA_set_11 (lv_at hl 0 rfl) ?_
        refine lv_bipush (v := nI 8) hx hb zd_PA_set_13 (by decide) ?_
        refine lv_icmp_ge (tgt := 48) hx hb zd_PA_set_15 rfl (fun hc9 => absurd hc9 (nI_ge (by omega) (by decide))) (fun _ => ?_)
        refine lv_aload_n hx hb zd_PA_set_18 rfl (lv_at hl 2 rfl) ?_
        refine zg_PA F hT hK hP 0 rfl 2 (by decide) zq_88 rfl zd_PA_set_19 ?_
        refine lv_bipush (v := nI 8) hx hb zd_PA_set_22 (by decide) ?_
        refine lv_iload_n hx hb zd_PA_set_24 rfl (lv_at hl 4 rfl) ?_
        refine lv_imul hx hb zd_PA_set_25 ?_
        refine lv_iload hx hb zd_PA_set_26 (lv_at hl 0 rfl) ?_
        refine lv_iadd hx hb zd_PA_set_28 ?_
        refine lv_lload_n hx hb zd_PA_set_29 rfl (lv_at hl 5 rfl) ?_
        refine lv_bipush (v := nI 56) hx hb zd_PA_set_30 (by decide) ?_
        refine lv_bipush (v := nI 8) hx hb zd_PA_set_32 (by decide) ?_
        refine lv_iload hx hb zd_PA_set_34 (lv_at hl 0 rfl) ?_
        refine lv_imul hx hb zd_PA_set_36 ?_
        refine lv_isub hx hb zd_PA_set_37 ?_
        refine lv_lshr hx hb zd_PA_set_38 rfl ?_
        refine lv_l2i hx hb zd_PA_set_39 rfl ?_
        refine lv_i2b hx hb zd_PA_set_40 rfl ?_
        refine zw_bast F hK hP hD hS 7 rfl (8 * i9 + k) (by rw [pk_mul, nI_add]) (by omega) (by decide) zd_PA_set_41 (fun H locs hP hD hS => ?_)
        have hP : va_P G.1 zcl ([(_, _), (_, _), (_, _), (_, _), (_, _), (_, _), (_, _), (_, _)] ++ wr) H := hP
        have hD : va_D A ([(_, _), (_, _), (_, _), (_, _), (_, _), (_, _), (_, _), (_, _)] ++ wr) := hD
        refine lv_iinc (k := 0) hx hb zd_PA_set_42 hl rfl (zl_inc k) (by decide) rfl (fun ls hl => ?_)
        have hl : lv_has ls 9 [(7, _), (5, _), (0, _), (1, _), (2, _), (3, _)] := hl
        refine lv_goto (tgt := 11) hx hb zd_PA_set_45 rfl ?_
        exact ih (k + 1) (by omega) _ H locs ls (zl_row hY) hP hS hl
    refine lv_lstore hx hb zd_PA_set_6 hl (by decide) rfl (fun ls hl => ?_)
    have hl : lv_has ls 9 [(5, _), (0, _), (1, _), (2, _), (3, _)] := hl
    refine lv_iconst (v := nI 0) hx hb zd_PA_set_8 (by decide) ?_
    refine lv_istore hx hb zd_PA_set_9 hl (by decide) rfl (fun ls hl => ?_)
    have hl : lv_has ls 9 [(7, _), (5, _), (0, _), (1, _), (2, _), (3, _)] := hl
    exact loop 8 0 rfl X4 H locs ls (fun j hj => by rw [if_neg (by omega)]; exact hrow j hj) hP hS hl
  · refine zx_TW (k := 6) (n := 36) (by decide) (by decide) ?_
    exact zx_out F hS.2.2 rfl (Or.inl hv)
set_option maxHeartbeats 4000000 in
set_option maxRecDepth 20000 in
theorem zc_PA_recover (l : Launch) (G : xG) {H0 : Heap} {A : Nat → Prop} (pa pw ar dk on pt rc rw : Nat) (wr : va_W) (M : Nat → Int8) (off : Bool) (wn : Int32) (L b sk rb : Nat) (nw : Bool) (hfl : l.flags = flags0) (hI : SysI G pa pw ar dk on pt rc rw wr M off wn L b sk rb nw anyRow H0) (hD0 : va_D A (zA8 pa pw ar dk on pt rc rw ++ wr)) : XM l G (rmz 12 440 6 36) zy_PA_recover zb_PA_recover 3 none [(21, 28, 31, 64)] H0 A [.ref pa] 6 36 (fun v H => v = none ∧ ¬ wn = 3 ∧ SysI G pa pw ar dk on pt rc rw wr M false 4 L b sk rb nw anyRow H) (fun x H => wn = 3 ∧ xE (gAr G) x H ∧ SysI G pa pw ar dk on pt rc rw wr M true 4 L b sk rb nw anyRow H) := by
  intro p e s m below meth c F hT hK hH hZ
  subst hH
  have hx := F.1
  have hb := F.2.1
  have hS : va_S A s.heap s.heap [] := va_S.rf
  have hl := lv_entry ([.ref pa]) (n := 3) (Nat.le_of_ble_eq_true rfl)
  rw [lg_entry_eq]
  generalize (lg_sl ([.ref pa]) ++ List.replicate (3 - (lg_sl ([.ref pa])).length) Slot.unset).toArray = ls at hl ⊢
  have hl : lv_has ls 3 [(0, .ref pa)] := hl
  obtain ⟨lf, am, bh, D, X1, X2, X3, X4, hP, hR, hC, hOn, hOff, hwn, hb2, hL, -⟩ := id hI
  have hD := zw_DP hD0 hP (by simp only [List.map_append, List.map_cons, List.map_nil])
  have hz := zarm_t hwn
  obtain ⟨hw1, hw2⟩ := wn_12 hwn
  have hP9 := zw_perm hP [1, 0, 2, 3, 4, 5, 6, 7] rfl
  have hP9 : va_P G.1 zcl ([(_, _), (_, _), (_, _), (_, _), (_, _), (_, _), (_, _), (_, _)] ++ wr) s.heap := hP9
  have hD := zw_permD hD hP9 [1, 0, 2, 3, 4, 5, 6, 7] (by decide) rfl
  have hP := hP9
  refine lv_aload_n hx hb zd_PA_recover_0 rfl (lv_at hl 0 rfl) ?_
  refine zg_PA F hT hK hP 1 rfl 0 (by decide) zq_86 rfl zd_PA_recover_1 ?_
  refine lv_iconst (v := bI true) hx hb zd_PA_recover_4 (by decide) ?_
  refine zk_V F hT hK hZ hS hl.1 hP 0 rfl rfl rfl (zc_Pw_begin l G pw wn lf (nI b) am bh true _ hP hD) zl_Pw_begin (zY_Pw_begin hT) zq_269 zq_270 zq_271 zd_PA_recover_5 rfl ⟨rfl, rfl, Nat.le_of_ble_eq_true rfl, Nat.le_of_ble_eq_true rfl, Nat.le_of_ble_eq_true rfl, Nat.le_of_ble_eq_true rfl⟩ (fun v H locs hv hS => ?_) (fun x H locs hv hS => hv.elim)
  obtain ⟨rfl, hP⟩ := hv
  refine zw_app0 ?_
  have hP : va_P G.1 zcl ([(_, _), (_, _), (_, _), (_, _), (_, _), (_, _), (_, _), (_, _)] ++ wr) H := hP
  have hD := zw_DP hD hP (by simp only [List.map_append, List.map_cons, List.map_nil])
  have hP9 := zw_perm hP [1, 0, 2, 3, 4, 5, 6, 7] rfl
  have hP9 : va_P G.1 zcl ([(_, _), (_, _), (_, _), (_, _), (_, _), (_, _), (_, _), (_, _)] ++ wr) H := hP9
  have hD := zw_permD hD hP9 [1, 0, 2, 3, 4, 5, 6, 7] (by decide) rfl
  have hP := hP9
  refine lv_aload_n hx hb zd_PA_recover_8 rfl (lv_at hl 0 rfl) ?_
  refine zg_PA F hT hK hP 0 rfl 0 (by decide) zq_86 rfl zd_PA_recover_9 ?_
  refine zg_Pw F hT hK hP 1 rfl 3 (by decide) zq_34 rfl zd_PA_recover_12 ?_
  refine lv_istore_n hx hb zd_PA_recover_15 rfl hl (by decide) rfl (fun ls hl => ?_)
  have hl : lv_has ls 3 [(1, _), (0, _)] := hl
  refine lv_aload_n hx hb zd_PA_recover_16 rfl (lv_at hl 1 rfl) ?_
  refine lv_iconst (v := 1) hx hb zd_PA_recover_17 (by decide) ?_
  refine zp_PA F hT hK hP hD hS 0 rfl 3 (by decide) zq_89 rfl rfl rfl (Nat.le_of_ble_eq_true rfl) zd_PA_recover_18 (fun H locs hP hD hS => ?_)
  have hP : va_P G.1 zcl ([(_, .inr (0, [_, _, _, _])), (_, _), (_, _), (_, _), (_, _), (_, _), (_, _), (_, _)] ++ wr) H := hP
  have hD : va_D A ([(_, .inr (0, [_, _, _, _])), (_, _), (_, _), (_, _), (_, _), (_, _), (_, _), (_, _)] ++ wr) := hD
  refine lv_aload_n hx hb zd_PA_recover_21 rfl (lv_at hl 1 rfl) ?_
  refine zg_PA F hT hK hP 0 rfl 1 (by decide) zq_87 rfl zd_PA_recover_22 ?_
  have hP9 := zw_perm hP [2, 1, 3, 5, 0, 4, 6, 7] rfl
  have hP9 : va_P G.1 zcl ([(_, _), (_, _), (_, _), (_, _), (_, _), (_, _), (_, _), (_, _)] ++ wr) H := hP9
  have hD := zw_permD hD hP9 [2, 1, 3, 5, 0, 4, 6, 7] (by decide) rfl
  have hP := hP9
  refine zk_V F hT hK hZ hS hl.1 hP 0 rfl rfl rfl (zc_A5_recover l G ar dk on pt rc pw sk rb nw false b wn lf (zarm true wn) false D X2 M _ hfl hw1 hw2 (by omega) hC.2.1 hR hOff hP hD) zl_A5_recover (zY_A5_recover hT) zq_358 zq_359 zq_360 zd_PA_recover_25 rfl ⟨rfl, rfl, Nat.le_of_ble_eq_true rfl, Nat.le_of_ble_eq_true rfl, Nat.le_of_ble_eq_true rfl, Nat.le_of_ble_eq_true rfl⟩ (fun v H locs hv hS => ?_) (fun x H locs hv hS => ?_)
  · obtain ⟨rfl, D9, Y2, lf9, g1, g2, hP⟩ := hv
    refine zw_app0 ?_
    have hP : va_P G.1 zcl ([(_, _), (_, _), (_, _), (_, _), (_, _), (_, _), (_, _), (_, _)] ++ wr) H := hP
    have hD := zw_DP hD hP (by simp only [List.map_append, List.map_cons, List.map_nil])
    have hP9 := zw_perm hP [4, 1, 0, 2, 5, 3, 6, 7] rfl
    have hP9 : va_P G.1 zcl ([(_, _), (_, _), (_, _), (_, _), (_, _), (_, _), (_, _), (_, _)] ++ wr) H := hP9
    have hD := zw_permD hD hP9 [4, 1, 0, 2, 5, 3, 6, 7] (by decide) rfl
    have hP := hP9
    refine lv_goto (tgt := 48) hx hb zd_PA_recover_28 rfl ?_
    refine lv_aload_n hx hb zd_PA_recover_48 rfl (lv_at hl 1 rfl) ?_
    refine zg_PA F hT hK hP 0 rfl 0 (by decide) zq_86 rfl zd_PA_recover_49 ?_
    refine lv_iconst (v := 4) hx hb zd_PA_recover_52 (by decide) ?_
    refine zp_Pw F hT hK hP hD hS 1 rfl 0 (by decide) zq_30 rfl rfl rfl (Nat.le_of_ble_eq_true rfl) zd_PA_recover_53 (fun H locs hP hD hS => ?_)
    have hP : va_P G.1 zcl ([(_, _), (_, .inr (1, [_, _, _, _, _])), (_, _), (_, _), (_, _), (_, _), (_, _), (_, _)] ++ wr) H := hP
    have hD : va_D A ([(_, _), (_, .inr (1, [_, _, _, _, _])), (_, _), (_, _), (_, _), (_, _), (_, _), (_, _)] ++ wr) := hD
    refine lv_iload_n hx hb zd_PA_recover_56 rfl (lv_at hl 0 rfl) ?_
    refine lv_if_eq (tgt := 68) hx hb zd_PA_recover_57 rfl (fun ga => ?_) (fun ga => ?_)
    · have ga := bI_0.mp ga
      have hw0 : ¬ wn = 3 := fun h => by rw [hz.mpr h] at ga; cases ga
      refine lv_aload_n hx hb zd_PA_recover_68 rfl (lv_at hl 1 rfl) ?_
      refine zg_PA F hT hK hP 0 rfl 0 (by decide) zq_86 rfl zd_PA_recover_69 ?_
      refine lv_iconst (v := 0) hx hb zd_PA_recover_72 (by decide) ?_
      refine zp_Pw F hT hK hP hD hS 1 rfl 3 (by decide) zq_34 rfl rfl rfl (Nat.le_of_ble_eq_true rfl) zd_PA_recover_73 (fun H locs hP hD hS => ?_)
      have hP : va_P G.1 zcl ([(_, _), (_, .inr (1, [_, _, _, _, _])), (_, _), (_, _), (_, _), (_, _), (_, _), (_, _)] ++ wr) H := hP
      have hD : va_D A ([(_, _), (_, .inr (1, [_, _, _, _, _])), (_, _), (_, _), (_, _), (_, _), (_, _), (_, _)] ++ wr) := hD
      refine lv_aload_n hx hb zd_PA_recover_76 rfl (lv_at hl 1 rfl) ?_
      refine lv_iconst (v := 0) hx hb zd_PA_recover_77 (by decide) ?_
      refine zp_PA F hT hK hP hD hS 0 rfl 3 (by decide) zq_89 rfl rfl rfl (Nat.le_of_ble_eq_true rfl) zd_PA_recover_78 (fun H locs hP hD hS => ?_)
      have hP : va_P G.1 zcl ([(_, .inr (0, [_, _, _, _])), (_, _), (_, _), (_, _), (_, _), (_, _), (_, _), (_, _)] ++ wr) H := hP
      have hD : va_D A ([(_, .inr (0, [_, _, _, _])), (_, _), (_, _), (_, _), (_, _), (_, _), (_, _), (_, _)] ++ wr) := hD
      refine W.widen (k := 6) (n := 36) (by decide) (by decide) ?_
      exact zx_vret F hS.2.2 zd_PA_recover_81 ⟨rfl, hw0, lf9, false, _, D9, X1, Y2, X3, X4, hP, g1, hC, fun _ => g2, g2.off, by decide, hb2, fun h => absurd h (by decide), trivial⟩
    · have ga : zarm true wn = true := by cases h : zarm true wn with | true => rfl | false => rw [h] at ga; exact absurd rfl ga
      have hw0 := hz.mp ga
      exact zx_throw (cls := "java/lang/ArithmeticException") (names := ["java/lang/RuntimeException", "java/lang/Exception"]) F hfl hT hZ hS (by decide +kernel) zx_names zx_in_3 zq_198 zq_11 zq_181 hK.2.2.2.1 hl.1 zd_PA_recover_60 zd_PA_recover_63 zd_PA_recover_64 zd_PA_recover_67 rfl ⟨by decide, by decide, by decide, by decide⟩ (fun H1 _ hk he => ⟨hw0, he, lf9, _, _, D9, X1, Y2, X3, X4, zw_kept hP hk, g1, hC, fun h => absurd h (by decide), g2.off, by decide, hb2, fun h => absurd h (by decide), trivial⟩)
  · obtain ⟨ga, hxe, D9, Y2, lf9, g1, g2, hP⟩ := hv
    have hP : va_P G.1 zcl ([(_, _), (_, _), (_, _), (_, _), (_, _), (_, _), (_, _), (_, _)] ++ wr) H := hP
    have hD := zw_DP hD hP (by simp only [List.map_append, List.map_cons, List.map_nil])
    have hP9 := zw_perm hP [4, 1, 0, 2, 5, 3, 6, 7] rfl
    have hP9 : va_P G.1 zcl ([(_, _), (_, _), (_, _), (_, _), (_, _), (_, _), (_, _), (_, _)] ++ wr) H := hP9
    have hD := zw_permD hD hP9 [4, 1, 0, 2, 5, 3, 6, 7] (by decide) rfl
    have hP := hP9
    have hw0 := hz.mp ga
    refine zx_c1 F hT (by decide) (by decide) zq_198 hK.2.2.2.1 hxe zq_192 ?_
    refine lv_astore_n hx hb zd_PA_recover_31 rfl hl (by decide) rfl (fun ls hl => ?_)
    have hl : lv_has ls 3 [(2, _), (1, _), (0, _)] := hl
    refine lv_aload_n hx hb zd_PA_recover_32 rfl (lv_at hl 2 rfl) ?_
    refine zg_PA F hT hK hP 0 rfl 0 (by decide) zq_86 rfl zd_PA_recover_33 ?_
    refine lv_iconst (v := 4) hx hb zd_PA_recover_36 (by decide) ?_
    refine zp_Pw F hT hK hP hD hS 1 rfl 0 (by decide) zq_30 rfl rfl rfl (Nat.le_of_ble_eq_true rfl) zd_PA_recover_37 (fun H locs hP hD hS => ?_)
    have hP : va_P G.1 zcl ([(_, _), (_, .inr (1, [_, _, _, _, _])), (_, _), (_, _), (_, _), (_, _), (_, _), (_, _)] ++ wr) H := hP
    have hD : va_D A ([(_, _), (_, .inr (1, [_, _, _, _, _])), (_, _), (_, _), (_, _), (_, _), (_, _), (_, _)] ++ wr) := hD
    exact zx_throw (cls := "java/lang/ArithmeticException") (names := ["java/lang/RuntimeException", "java/lang/Exception"]) F hfl hT hZ hS (by decide +kernel) zx_names zx_in_3 zq_198 zq_11 zq_181 hK.2.2.2.1 hl.1 zd_PA_recover_40 zd_PA_recover_43 zd_PA_recover_44 zd_PA_recover_47 rfl ⟨by decide, by decide, by decide, by decide⟩ (fun H1 _ hk he => ⟨hw0, he, lf9, _, _, D9, X1, Y2, X3, X4, zw_kept hP hk, g1, hC, fun h => absurd h (by decide), g2, by decide, hb2, fun h => absurd h (by decide), trivial⟩)
end
section
/-! the reference: ParityArrayModel -/
theorem sI_m1 {sk : Nat} (h : sk ≤ 5) : sI sk = -1 ↔ sk = 5 := by
  unfold sI
  split
  · next h2 =>
    constructor
    · intro h3
      have h4 := congrArg Int32.toInt h3
      rw [nI_toInt (by omega)] at h4
      have h5 : (-1 : Int32).toInt = -1 := by decide
      omega
    · intro h3
      omega
  · next h2 => exact ⟨fun _ => by omega, fun _ => rfl⟩
theorem d5_4 {d : Int32} : d ≤ 4 ↔ ¬ 5 ≤ d := by
  rw [Int32.le_iff_toInt_le, Int32.le_iff_toInt_le]
  have h4 : (4 : Int32).toInt = 4 := by decide
  have h5 : (5 : Int32).toInt = 5 := by decide
  omega
theorem okP_lt {i : Int32} : i < nI 16 ↔ ¬ nI 16 ≤ i := Int32.not_le.symm
set_option maxHeartbeats 4000000 in
set_option maxRecDepth 20000 in
theorem zc_Mo_fresh (l : Launch) (G : xG) {H0 : Heap} {A : Nat → Prop} (mo by_ n L b : Nat) (wr : va_W) (on_ nw : Bool) (sk rb : Nat) (fl th : Int32) (M : Nat → Int8) (hn : n < 600) (hrb : rb < 150) (hL : L ≤ 10) (hb : b ≤ 200) (hP : va_P G.1 zcl ([(mo, eMo by_ on_ (sI sk) nw (nI rb) fl (nI L) (nI b) th), (by_, eB G 76800 M)] ++ wr) H0) : XM l G (rmz 9 200 0 0) zy_Mo_fresh zb_Mo_fresh 4 (some FieldType.int) [] H0 A [.ref mo, .int (nI n)] 0 0 (fun v H => v = some (.int (nI (nowN true L b (thr sk nw rb (n / 4 % 5) (n / 4))))) ∧ H0 = H) (fun _ _ => False) := by
  intro p e s m below meth c F hT hK hH hZ
  subst hH
  have hx := F.1
  have hbb := hb
  have hb := F.2.1
  have hS : va_S A s.heap s.heap [] := va_S.rf
  have hl := lv_entry ([.ref mo, .int (nI n)]) (n := 4) (Nat.le_of_ble_eq_true rfl)
  rw [lg_entry_eq]
  generalize (lg_sl ([.ref mo, .int (nI n)]) ++ List.replicate (4 - (lg_sl ([.ref mo, .int (nI n)])).length) Slot.unset).toArray = ls at hl ⊢
  have hl : lv_has ls 4 [(0, .ref mo), (1, .int (nI n))] := hl
  refine lv_iload_n hx hb zd_Mo_fresh_0 rfl (lv_at hl 1 rfl) ?_
  refine lv_iconst (v := nI 4) hx hb zd_Mo_fresh_1 (by decide) ?_
  refine lv_idiv hx hb zd_Mo_fresh_2 (by decide) ?_
  rw [pk_div (by omega) (by decide) (by decide)]
  refine lv_istore_n hx hb zd_Mo_fresh_3 rfl hl (by decide) rfl (fun ls hl => ?_)
  have hl : lv_has ls 4 [(2, _), (0, _), (1, _)] := hl
  refine lv_aload_n hx hb zd_Mo_fresh_4 rfl (lv_at hl 1 rfl) ?_
  refine lv_iload_n hx hb zd_Mo_fresh_5 rfl (lv_at hl 0 rfl) ?_
  refine lv_iconst (v := nI 5) hx hb zd_Mo_fresh_6 (by decide) ?_
  refine lv_irem hx hb zd_Mo_fresh_7 (by decide) ?_
  rw [pk_rem (by omega) (by decide) (by decide)]
  refine lv_iload_n hx hb zd_Mo_fresh_8 rfl (lv_at hl 0 rfl) ?_
  refine zk_V F hT hK hZ hS hl.1 hP 0 rfl rfl rfl (zc_Mo_isThere l G mo by_ sk rb (n / 4 % 5) (n / 4) on_ nw fl (nI L) (nI b) th _ (by omega) (by omega) (by omega) hP) zl_Mo_isThere (zY_Mo_isThere hT) zq_435 zq_437 zs_7 zd_Mo_fresh_9 rfl ⟨rfl, rfl, Nat.le_of_ble_eq_true rfl, Nat.le_of_ble_eq_true rfl, Nat.le_of_ble_eq_true rfl, Nat.le_of_ble_eq_true rfl⟩ (fun v H locs hv hS => ?_) (fun x H locs hv hS => hv.elim)
  obtain ⟨rfl, rfl⟩ := hv
  refine zw_app ?_
  generalize thr sk nw rb (n / 4 % 5) (n / 4) = wh
  have tail : ∀ (ls : Array Slot), lv_has ls 4 [(3, .int (nI (if wh = true then 1 else 0))), (2, .int (nI (n / 4))), (0, .ref mo), (1, .int (nI n))] → W p l e (rmz 9 200 0 0) s m ([.ref mo, .int (nI n)] : List Value).toArray below meth c s.heap locs 0 0 (xQ below s A 0 0 (fun v H => v = some (.int (nI (nowN true L b wh))) ∧ s.heap = H) (fun _ _ => False)) (F0 m 21 ls []) := by
    intro ls hl
    have hw1 : (if wh = true then 1 else 0 : Nat) ≤ 1 := by split <;> omega
    generalize hwe : (if wh = true then 1 else 0 : Nat) = q at hl hw1
    refine lv_aload_n hx hb zd_Mo_fresh_21 rfl (lv_at hl 2 rfl) ?_
    refine zg_Mo F hT hK hP 0 rfl 6 (by decide) zq_393 rfl zd_Mo_fresh_22 ?_
    refine lv_iload_n hx hb zd_Mo_fresh_25 rfl (lv_at hl 0 rfl) ?_
    refine lv_icmp_ge (tgt := 31) hx hb zd_Mo_fresh_26 rfl (fun g1 => ?_) (fun g1 => ?_)
    · have g1 : q ≤ L := (nI_leI (by omega) (by omega)).mp g1
      refine lv_aload_n hx hb zd_Mo_fresh_31 rfl (lv_at hl 2 rfl) ?_
      refine zg_Mo F hT hK hP 0 rfl 6 (by decide) zq_393 rfl zd_Mo_fresh_32 ?_
      refine lv_iload_n hx hb zd_Mo_fresh_35 rfl (lv_at hl 0 rfl) ?_
      refine lv_icmp_le (tgt := 43) hx hb zd_Mo_fresh_36 rfl (fun g2 => ?_) (fun g2 => ?_)
      · have g2 : L ≤ q := (nI_leI (by omega) (by omega)).mp g2
        refine lv_aload_n hx hb zd_Mo_fresh_43 rfl (lv_at hl 2 rfl) ?_
        refine zg_Mo F hT hK hP 0 rfl 7 (by decide) zq_394 rfl zd_Mo_fresh_44 ?_
        refine lv_sipush (v := nI 128) hx hb zd_Mo_fresh_47 (by decide) ?_
        refine lv_icmp_ge (tgt := 60) hx hb zd_Mo_fresh_50 rfl (fun g3 => ?_) (fun g3 => ?_)
        · have g3 : 128 ≤ b := (nI_leI (by decide) (by omega)).mp g3
          refine lv_sipush (v := nI 128) hx hb zd_Mo_fresh_60 (by decide) ?_
          exact zx_iret F rfl hS.2.2 zd_Mo_fresh_63 ⟨by unfold nowN; rw [if_pos rfl, hwe, if_neg (by omega), if_neg (by omega), show min b 128 = 128 by omega], rfl⟩
        · have g3 : ¬ 128 ≤ b := fun h => g3 ((nI_leI (by decide) (by omega)).mpr h)
          refine lv_aload_n hx hb zd_Mo_fresh_53 rfl (lv_at hl 2 rfl) ?_
          refine zg_Mo F hT hK hP 0 rfl 7 (by decide) zq_394 rfl zd_Mo_fresh_54 ?_
          refine lv_goto (tgt := 63) hx hb zd_Mo_fresh_57 rfl ?_
          exact zx_iret F rfl hS.2.2 zd_Mo_fresh_63 ⟨by unfold nowN; rw [if_pos rfl, hwe, if_neg (by omega), if_neg (by omega), show min b 128 = b by omega], rfl⟩
      · have g2 : ¬ L ≤ q := fun h => g2 ((nI_leI (by omega) (by omega)).mpr h)
        refine lv_sipush (v := nI 128) hx hb zd_Mo_fresh_39 (by decide) ?_
        exact zx_iret F rfl hS.2.2 zd_Mo_fresh_42 ⟨by unfold nowN; rw [if_pos rfl, hwe, if_neg (by omega), if_pos (by omega)], rfl⟩
    · have g1 : ¬ q ≤ L := fun h => g1 ((nI_leI (by omega) (by omega)).mpr h)
      refine lv_iconst (v := 0) hx hb zd_Mo_fresh_29 (by decide) ?_
      exact zx_iret F rfl hS.2.2 zd_Mo_fresh_30 ⟨by unfold nowN; rw [if_pos rfl, hwe, if_pos (by omega)]; rfl, rfl⟩
  refine lv_if_eq (tgt := 19) hx hb zd_Mo_fresh_12 rfl (fun gw => ?_) (fun gw => ?_)
  · obtain rfl := bI_0.mp gw
    refine lv_iconst (v := nI 0) hx hb zd_Mo_fresh_19 (by decide) ?_
    refine lv_istore_n hx hb zd_Mo_fresh_20 rfl hl (by decide) rfl (fun ls hl => ?_)
    have hl : lv_has ls 4 [(3, _), (2, _), (0, _), (1, _)] := hl
    exact tail ls hl
  · obtain rfl : wh = true := by cases wh with | true => rfl | false => exact absurd rfl gw
    refine lv_iconst (v := nI 1) hx hb zd_Mo_fresh_15 (by decide) ?_
    refine lv_goto (tgt := 20) hx hb zd_Mo_fresh_16 rfl ?_
    refine lv_istore_n hx hb zd_Mo_fresh_20 rfl hl (by decide) rfl (fun ls hl => ?_)
    have hl : lv_has ls 4 [(3, _), (2, _), (0, _), (1, _)] := hl
    exact tail ls hl
set_option maxHeartbeats 4000000 in
set_option maxRecDepth 20000 in
theorem zc_Mo_get (l : Launch) (G : xG) {H0 : Heap} {A : Nat → Prop} (mo by_ : Nat) (wr : va_W) (on_ nw : Bool) (sk rb : Nat) (fl wt ct th : Int32) (M : Nat → Int8) (n i : Int32) (hsk : sk ≤ 5) (hrb : rb < 150) (hP : va_P G.1 zcl ([(mo, eMo by_ on_ (sI sk) nw (nI rb) fl wt ct th), (by_, eB G 76800 M)] ++ wr) H0) (hD : va_D A ([(mo, eMo by_ on_ (sI sk) nw (nI rb) fl wt ct th), (by_, eB G 76800 M)] ++ wr)) : XM l G (rmz 9 200 0 0) zy_Mo_get zb_Mo_get 3 (some FieldType.long) [] H0 A [.ref mo, .int n, .int i] 0 0 (fun v H => ∃ (r : Int64) (t8 : Int32), v = some (.long r) ∧ va_P G.1 zcl ([(mo, eMo by_ on_ (sI sk) nw (nI rb) fl wt ct t8), (by_, eB G 76800 M)] ++ wr) H ∧ ((on_ = false ∧ t8 = 1) ∨ (on_ = true ∧ ¬ okP n i ∧ t8 = 2) ∨ (on_ = true ∧ t8 = 0 ∧ ∃ n8 i8 : Nat, n8 < 600 ∧ i8 < 16 ∧ n = nI n8 ∧ i = nI i8 ∧ r = (wd8 (fun k => M (128 * n8 + 8 * i8 + k)) 8)))) (fun _ _ => False) := by
  intro p e s m below meth c F hT hK hH hZ
  subst hH
  have hx := F.1
  have hb := F.2.1
  have hS : va_S A s.heap s.heap [] := va_S.rf
  have hl := lv_entry ([.ref mo, .int n, .int i]) (n := 3) (Nat.le_of_ble_eq_true rfl)
  rw [lg_entry_eq]
  generalize (lg_sl ([.ref mo, .int n, .int i]) ++ List.replicate (3 - (lg_sl ([.ref mo, .int n, .int i])).length) Slot.unset).toArray = ls at hl ⊢
  have hl : lv_has ls 3 [(0, .ref mo), (1, .int n), (2, .int i)] := hl
  cases on_ with
  | false =>
    refine lv_aload_n hx hb zd_Mo_get_0 rfl (lv_at hl 0 rfl) ?_
    refine zg_Mo F hT hK hP 0 rfl 1 (by decide) zq_388 rfl zd_Mo_get_1 ?_
    refine lv_if_ne (tgt := 14) hx hb zd_Mo_get_4 rfl (fun hc9 => absurd hc9 (by decide)) (fun _ => ?_)
    refine lv_aload_n hx hb zd_Mo_get_7 rfl (lv_at hl 0 rfl) ?_
    refine lv_iconst (v := 1) hx hb zd_Mo_get_8 (by decide) ?_
    refine zk_V F hT hK hZ hS hl.1 hP 0 rfl rfl rfl (zc_Mo_fails l G mo by_ false nw (sI sk) (nI rb) fl wt ct th 1 _ hP hD) zl_Mo_fails (zY_Mo_fails hT) zq_423 zq_425 zs_4 zd_Mo_get_9 rfl ⟨rfl, rfl, Nat.le_of_ble_eq_true rfl, Nat.le_of_ble_eq_true rfl, Nat.le_of_ble_eq_true rfl, Nat.le_of_ble_eq_true rfl⟩ (fun v H locs hv hS => ?_) (fun x H locs hv hS => hv.elim)
    obtain ⟨rfl, hP⟩ := hv
    refine zw_app ?_
    have hP : va_P G.1 zcl ([(_, .inr (3, [_, _, _, _, _, _, _, _, _])), (_, _)] ++ wr) H := hP
    have hD := zw_DP hD hP (by simp only [List.map_append, List.map_cons, List.map_nil])
    refine lv_i2l hx hb zd_Mo_get_12 rfl ?_
    exact zx_lret F hS.2.2 zd_Mo_get_13 ⟨_, 1, rfl, hP, Or.inl ⟨rfl, rfl⟩⟩
  | true =>
    refine lv_aload_n hx hb zd_Mo_get_0 rfl (lv_at hl 0 rfl) ?_
    refine zg_Mo F hT hK hP 0 rfl 1 (by decide) zq_388 rfl zd_Mo_get_1 ?_
    refine lv_if_ne (tgt := 14) hx hb zd_Mo_get_4 rfl (fun _ => ?_) (fun hc9 => absurd hc9 (by decide))
    have bad : ¬ okP n i → W p l e (rmz 9 200 0 0) s m ([.ref mo, .int n, .int i] : List Value).toArray below meth c s.heap [] 0 0 (xQ below s A 0 0 (fun v H => ∃ (r : Int64) (t8 : Int32), v = some (.long r) ∧ va_P G.1 zcl ([(mo, eMo by_ true (sI sk) nw (nI rb) fl wt ct t8), (by_, eB G 76800 M)] ++ wr) H ∧ ((true = false ∧ t8 = 1) ∨ (true = true ∧ ¬ okP n i ∧ t8 = 2) ∨ (true = true ∧ t8 = 0 ∧ ∃ n8 i8 : Nat, n8 < 600 ∧ i8 < 16 ∧ n = nI n8 ∧ i = nI i8 ∧ r = (wd8 (fun k => M (128 * n8 + 8 * i8 + k)) 8)))) (fun _ _ => False)) (F0 m 35 ls []) := by
      intro hbad
      refine lv_aload_n hx hb zd_Mo_get_35 rfl (lv_at hl 0 rfl) ?_
      refine lv_iconst (v := 2) hx hb zd_Mo_get_36 (by decide) ?_
      refine zk_V F hT hK hZ hS hl.1 hP 0 rfl rfl rfl (zc_Mo_fails l G mo by_ true nw (sI sk) (nI rb) fl wt ct th 2 _ hP hD) zl_Mo_fails (zY_Mo_fails hT) zq_423 zq_425 zs_4 zd_Mo_get_37 rfl ⟨rfl, rfl, Nat.le_of_ble_eq_true rfl, Nat.le_of_ble_eq_true rfl, Nat.le_of_ble_eq_true rfl, Nat.le_of_ble_eq_true rfl⟩ (fun v H locs hv hS => ?_) (fun x H locs hv hS => hv.elim)
      obtain ⟨rfl, hP⟩ := hv
      refine zw_app ?_
      have hP : va_P G.1 zcl ([(_, .inr (3, [_, _, _, _, _, _, _, _, _])), (_, _)] ++ wr) H := hP
      have hD := zw_DP hD hP (by simp only [List.map_append, List.map_cons, List.map_nil])
      refine lv_i2l hx hb zd_Mo_get_40 rfl ?_
      exact zx_lret F hS.2.2 zd_Mo_get_41 ⟨_, 2, rfl, hP, Or.inr (Or.inl ⟨rfl, hbad, rfl⟩)⟩
    refine lv_iload_n hx hb zd_Mo_get_14 rfl (lv_at hl 1 rfl) ?_
    refine lv_if_lt (tgt := 35) hx hb zd_Mo_get_15 rfl (fun g1 => ?_) (fun g1 => ?_)
    · exact bad (fun h => h.1 g1)
    · refine lv_iload_n hx hb zd_Mo_get_18 rfl (lv_at hl 1 rfl) ?_
      refine lv_sipush (v := nI 600) hx hb zd_Mo_get_19 (by decide) ?_
      refine lv_icmp_ge (tgt := 35) hx hb zd_Mo_get_22 rfl (fun g2 => ?_) (fun g2 => ?_)
      · exact bad (fun h => h.2.1 g2)
      · refine lv_iload_n hx hb zd_Mo_get_25 rfl (lv_at hl 2 rfl) ?_
        refine lv_if_lt (tgt := 35) hx hb zd_Mo_get_26 rfl (fun g3 => ?_) (fun g3 => ?_)
        · exact bad (fun h => h.2.2.1 g3)
        · refine lv_iload_n hx hb zd_Mo_get_29 rfl (lv_at hl 2 rfl) ?_
          refine lv_bipush (v := nI 16) hx hb zd_Mo_get_30 (by decide) ?_
          refine lv_icmp_lt (tgt := 42) hx hb zd_Mo_get_32 rfl (fun g4 => ?_) (fun g4 => ?_)
          · obtain ⟨n9, i9, hn9, hi9, rfl, rfl⟩ := okP.of ⟨g1, g2, g3, okP_lt.mp g4⟩
            refine lv_aload_n hx hb zd_Mo_get_42 rfl (lv_at hl 0 rfl) ?_
            refine lv_iconst (v := 0) hx hb zd_Mo_get_43 (by decide) ?_
            refine zp_Mo F hT hK hP hD hS 0 rfl 8 (by decide) zq_395 rfl rfl rfl (Nat.le_of_ble_eq_true rfl) zd_Mo_get_44 (fun H locs hP hD hS => ?_)
            have hP : va_P G.1 zcl ([(_, .inr (3, [_, _, _, _, _, _, _, _, _])), (_, _)] ++ wr) H := hP
            have hD : va_D A ([(_, .inr (3, [_, _, _, _, _, _, _, _, _])), (_, _)] ++ wr) := hD
            refine lv_aload_n hx hb zd_Mo_get_47 rfl (lv_at hl 0 rfl) ?_
            refine lv_iload_n hx hb zd_Mo_get_48 rfl (lv_at hl 1 rfl) ?_
            refine lv_sipush (v := nI 128) hx hb zd_Mo_get_49 (by decide) ?_
            refine lv_imul hx hb zd_Mo_get_52 ?_
            refine lv_bipush (v := nI 8) hx hb zd_Mo_get_53 (by decide) ?_
            refine lv_iload_n hx hb zd_Mo_get_55 rfl (lv_at hl 2 rfl) ?_
            refine lv_imul hx hb zd_Mo_get_56 ?_
            refine lv_iadd hx hb zd_Mo_get_57 ?_
            refine zw_ti (nI (128 * n9 + 8 * i9)) (by rw [pk_mul, pk_mul, nI_add]; congr 1; omega) ?_
            refine zk_V F hT hK hZ hS hl.1 hP 0 rfl rfl rfl (zc_Mo_read l G mo by_ true nw (sI sk) (nI rb) fl wt ct 0 (128 * n9 + 8 * i9) M _ (by omega) hP) zl_Mo_read (zY_Mo_read hT) zq_427 zq_429 zs_5 zd_Mo_get_58 rfl ⟨rfl, rfl, Nat.le_of_ble_eq_true rfl, Nat.le_of_ble_eq_true rfl, Nat.le_of_ble_eq_true rfl, Nat.le_of_ble_eq_true rfl⟩ (fun v H locs hv hS => ?_) (fun x H locs hv hS => hv.elim)
            obtain ⟨rfl, rfl⟩ := hv
            refine zw_app ?_
            exact zx_lret F hS.2.2 zd_Mo_get_61 ⟨_, 0, rfl, hP, Or.inr (Or.inr ⟨rfl, rfl, n9, i9, hn9, hi9, rfl, rfl, rfl⟩)⟩
          · exact bad (fun h => g4 (okP_lt.mpr h.2.2.2))
set_option maxHeartbeats 4000000 in
set_option maxRecDepth 20000 in
theorem zc_Mo_set (l : Launch) (G : xG) {H0 : Heap} {A : Nat → Prop} (mo by_ : Nat) (wr : va_W) (on_ nw : Bool) (sk rb : Nat) (fl wt ct th : Int32) (M : Nat → Int8) (n i : Int32) (w : Int64) (L b : Nat) (hsk : sk ≤ 5) (hrb : rb < 150) (hP : va_P G.1 zcl ([(mo, eMo by_ on_ (sI sk) nw (nI rb) fl wt ct th), (by_, eB G 76800 M)] ++ wr) H0) (hD : va_D A ([(mo, eMo by_ on_ (sI sk) nw (nI rb) fl wt ct th), (by_, eB G 76800 M)] ++ wr)) (hfl1 : fl = 1 → wt = nI L ∧ ct = nI b ∧ L ≤ 10 ∧ b ≤ 200) : XM l G (rmz 10 280 0 0) zy_Mo_set zb_Mo_set 11 (some FieldType.long) [] H0 A [.ref mo, .int n, .int i, .long w] 0 0 (fun v H => ∃ (r : Int64), v = some (.long r) ∧ ((on_ = false ∧ va_P G.1 zcl ([(mo, eMo by_ on_ (sI sk) nw (nI rb) fl wt ct 1), (by_, eB G 76800 M)] ++ wr) H) ∨ (on_ = true ∧ ¬ okP n i ∧ va_P G.1 zcl ([(mo, eMo by_ on_ (sI sk) nw (nI rb) fl wt ct 2), (by_, eB G 76800 M)] ++ wr) H) ∨ (on_ = true ∧ ¬ fl = 1 ∧ ∃ n8 i8 : Nat, n8 < 600 ∧ i8 < 16 ∧ n = nI n8 ∧ i = nI i8 ∧ r = (wd8 (fun k => M (128 * n8 + 8 * i8 + k)) 8) ∧ va_P G.1 zcl ([(mo, eMo by_ on_ (sI sk) nw (nI rb) fl wt ct 0), (by_, eB G 76800 (mset M n8 i8 w 128))] ++ wr) H) ∨ (on_ = true ∧ fl = 1 ∧ ∃ n8 i8 : Nat, n8 < 600 ∧ i8 < 16 ∧ n = nI n8 ∧ i = nI i8 ∧ va_P G.1 zcl ([(mo, eMo by_ false (sI sk) nw (nI rb) 0 wt ct 3), (by_, eB G 76800 (mset M n8 i8 w (nowN true L b (thr sk nw rb (n8 / 4 % 5) (n8 / 4)))))] ++ wr) H))) (fun _ _ => False) := by
  intro p e s m below meth c F hT hK hH hZ
  subst hH
  have hx := F.1
  have hb := F.2.1
  have hS : va_S A s.heap s.heap [] := va_S.rf
  have hl := lv_entry ([.ref mo, .int n, .int i, .long w]) (n := 11) (Nat.le_of_ble_eq_true rfl)
  rw [lg_entry_eq]
  generalize (lg_sl ([.ref mo, .int n, .int i, .long w]) ++ List.replicate (11 - (lg_sl ([.ref mo, .int n, .int i, .long w])).length) Slot.unset).toArray = ls at hl ⊢
  have hl : lv_has ls 11 [(0, .ref mo), (1, .int n), (2, .int i), (3, .long w)] := hl
  cases on_ with
  | false =>
    refine lv_aload_n hx hb zd_Mo_set_0 rfl (lv_at hl 0 rfl) ?_
    refine zg_Mo F hT hK hP 0 rfl 1 (by decide) zq_388 rfl zd_Mo_set_1 ?_
    refine lv_if_ne (tgt := 14) hx hb zd_Mo_set_4 rfl (fun hc9 => absurd hc9 (by decide)) (fun _ => ?_)
    refine lv_aload_n hx hb zd_Mo_set_7 rfl (lv_at hl 0 rfl) ?_
    refine lv_iconst (v := 1) hx hb zd_Mo_set_8 (by decide) ?_
    refine zk_V F hT hK hZ hS hl.1 hP 0 rfl rfl rfl (zc_Mo_fails l G mo by_ false nw (sI sk) (nI rb) fl wt ct th 1 _ hP hD) zl_Mo_fails (zY_Mo_fails hT) zq_423 zq_425 zs_4 zd_Mo_set_9 rfl ⟨rfl, rfl, Nat.le_of_ble_eq_true rfl, Nat.le_of_ble_eq_true rfl, Nat.le_of_ble_eq_true rfl, Nat.le_of_ble_eq_true rfl⟩ (fun v H locs hv hS => ?_) (fun x H locs hv hS => hv.elim)
    obtain ⟨rfl, hP⟩ := hv
    refine zw_app ?_
    have hP : va_P G.1 zcl ([(_, .inr (3, [_, _, _, _, _, _, _, _, _])), (_, _)] ++ wr) H := hP
    have hD := zw_DP hD hP (by simp only [List.map_append, List.map_cons, List.map_nil])
    refine lv_i2l hx hb zd_Mo_set_12 rfl ?_
    exact zx_lret F hS.2.2 zd_Mo_set_13 ⟨_, rfl, Or.inl ⟨rfl, hP⟩⟩
  | true =>
    refine lv_aload_n hx hb zd_Mo_set_0 rfl (lv_at hl 0 rfl) ?_
    refine zg_Mo F hT hK hP 0 rfl 1 (by decide) zq_388 rfl zd_Mo_set_1 ?_
    refine lv_if_ne (tgt := 14) hx hb zd_Mo_set_4 rfl (fun _ => ?_) (fun hc9 => absurd hc9 (by decide))
    have bad : ¬ okP n i → W p l e (rmz 10 280 0 0) s m ([.ref mo, .int n, .int i, .long w] : List Value).toArray below meth c s.heap [] 0 0 (xQ below s A 0 0 (fun v H => ∃ (r : Int64), v = some (.long r) ∧ ((true = false ∧ va_P G.1 zcl ([(mo, eMo by_ true (sI sk) nw (nI rb) fl wt ct 1), (by_, eB G 76800 M)] ++ wr) H) ∨ (true = true ∧ ¬ okP n i ∧ va_P G.1 zcl ([(mo, eMo by_ true (sI sk) nw (nI rb) fl wt ct 2), (by_, eB G 76800 M)] ++ wr) H) ∨ (true = true ∧ ¬ fl = 1 ∧ ∃ n8 i8 : Nat, n8 < 600 ∧ i8 < 16 ∧ n = nI n8 ∧ i = nI i8 ∧ r = (wd8 (fun k => M (128 * n8 + 8 * i8 + k)) 8) ∧ va_P G.1 zcl ([(mo, eMo by_ true (sI sk) nw (nI rb) fl wt ct 0), (by_, eB G 76800 (mset M n8 i8 w 128))] ++ wr) H) ∨ (true = true ∧ fl = 1 ∧ ∃ n8 i8 : Nat, n8 < 600 ∧ i8 < 16 ∧ n = nI n8 ∧ i = nI i8 ∧ va_P G.1 zcl ([(mo, eMo by_ false (sI sk) nw (nI rb) 0 wt ct 3), (by_, eB G 76800 (mset M n8 i8 w (nowN true L b (thr sk nw rb (n8 / 4 % 5) (n8 / 4)))))] ++ wr) H))) (fun _ _ => False)) (F0 m 35 ls []) := by
      intro hbad
      refine lv_aload_n hx hb zd_Mo_set_35 rfl (lv_at hl 0 rfl) ?_
      refine lv_iconst (v := 2) hx hb zd_Mo_set_36 (by decide) ?_
      refine zk_V F hT hK hZ hS hl.1 hP 0 rfl rfl rfl (zc_Mo_fails l G mo by_ true nw (sI sk) (nI rb) fl wt ct th 2 _ hP hD) zl_Mo_fails (zY_Mo_fails hT) zq_423 zq_425 zs_4 zd_Mo_set_37 rfl ⟨rfl, rfl, Nat.le_of_ble_eq_true rfl, Nat.le_of_ble_eq_true rfl, Nat.le_of_ble_eq_true rfl, Nat.le_of_ble_eq_true rfl⟩ (fun v H locs hv hS => ?_) (fun x H locs hv hS => hv.elim)
      obtain ⟨rfl, hP⟩ := hv
      refine zw_app ?_
      have hP : va_P G.1 zcl ([(_, .inr (3, [_, _, _, _, _, _, _, _, _])), (_, _)] ++ wr) H := hP
      have hD := zw_DP hD hP (by simp only [List.map_append, List.map_cons, List.map_nil])
      refine lv_i2l hx hb zd_Mo_set_40 rfl ?_
      exact zx_lret F hS.2.2 zd_Mo_set_41 ⟨_, rfl, Or.inr (Or.inl ⟨rfl, hbad, hP⟩)⟩
    refine lv_iload_n hx hb zd_Mo_set_14 rfl (lv_at hl 1 rfl) ?_
    refine lv_if_lt (tgt := 35) hx hb zd_Mo_set_15 rfl (fun g1 => ?_) (fun g1 => ?_)
    · exact bad (fun h => h.1 g1)
    · refine lv_iload_n hx hb zd_Mo_set_18 rfl (lv_at hl 1 rfl) ?_
      refine lv_sipush (v := nI 600) hx hb zd_Mo_set_19 (by decide) ?_
      refine lv_icmp_ge (tgt := 35) hx hb zd_Mo_set_22 rfl (fun g2 => ?_) (fun g2 => ?_)
      · exact bad (fun h => h.2.1 g2)
      · refine lv_iload_n hx hb zd_Mo_set_25 rfl (lv_at hl 2 rfl) ?_
        refine lv_if_lt (tgt := 35) hx hb zd_Mo_set_26 rfl (fun g3 => ?_) (fun g3 => ?_)
        · exact bad (fun h => h.2.2.1 g3)
        · refine lv_iload_n hx hb zd_Mo_set_29 rfl (lv_at hl 2 rfl) ?_
          refine lv_bipush (v := nI 16) hx hb zd_Mo_set_30 (by decide) ?_
          refine lv_icmp_lt (tgt := 42) hx hb zd_Mo_set_32 rfl (fun g4 => ?_) (fun g4 => ?_)
          · obtain ⟨n9, i9, hn9, hi9, rfl, rfl⟩ := okP.of ⟨g1, g2, g3, okP_lt.mp g4⟩
            refine lv_iload_n hx hb zd_Mo_set_42 rfl (lv_at hl 1 rfl) ?_
            refine lv_sipush (v := nI 128) hx hb zd_Mo_set_43 (by decide) ?_
            refine lv_imul hx hb zd_Mo_set_46 ?_
            refine lv_bipush (v := nI 8) hx hb zd_Mo_set_47 (by decide) ?_
            refine lv_iload_n hx hb zd_Mo_set_49 rfl (lv_at hl 2 rfl) ?_
            refine lv_imul hx hb zd_Mo_set_50 ?_
            refine lv_iadd hx hb zd_Mo_set_51 ?_
            refine zw_ti (nI (128 * n9 + 8 * i9)) (by rw [pk_mul, pk_mul, nI_add]; congr 1; omega) ?_
            refine lv_istore hx hb zd_Mo_set_52 hl (by decide) rfl (fun ls hl => ?_)
            have hl : lv_has ls 11 [(5, _), (0, _), (1, _), (2, _), (3, _)] := hl
            refine lv_aload_n hx hb zd_Mo_set_54 rfl (lv_at hl 1 rfl) ?_
            refine lv_iload hx hb zd_Mo_set_55 (lv_at hl 0 rfl) ?_
            refine zk_V F hT hK hZ hS hl.1 hP 0 rfl rfl rfl (zc_Mo_read l G mo by_ true nw (sI sk) (nI rb) fl wt ct th (128 * n9 + 8 * i9) M _ (by omega) hP) zl_Mo_read (zY_Mo_read hT) zq_427 zq_429 zs_5 zd_Mo_set_57 rfl ⟨rfl, rfl, Nat.le_of_ble_eq_true rfl, Nat.le_of_ble_eq_true rfl, Nat.le_of_ble_eq_true rfl, Nat.le_of_ble_eq_true rfl⟩ (fun v H locs hv hS => ?_) (fun x H locs hv hS => hv.elim)
            obtain ⟨rfl, rfl⟩ := hv
            refine zw_app ?_
            refine lv_lstore hx hb zd_Mo_set_60 hl (by decide) rfl (fun ls hl => ?_)
            have hl : lv_has ls 11 [(6, _), (5, _), (0, _), (1, _), (2, _), (3, _)] := hl
            refine lv_aload_n hx hb zd_Mo_set_62 rfl (lv_at hl 2 rfl) ?_
            refine zg_Mo F hT hK hP 0 rfl 5 (by decide) zq_392 rfl zd_Mo_set_63 ?_
            refine lv_iconst (v := 1) hx hb zd_Mo_set_66 (by decide) ?_
            have loop : ∀ (fa : Bool) (now : Nat), now ≤ 128 → (∀ (M9 : Nat → Int8) (H : Heap) (locs : List Loc) (ls : Array Slot), M9 = mset M n9 i9 w now → va_P G.1 zcl ([(mo, eMo by_ true (sI sk) nw (nI rb) fl wt ct th), (by_, eB G 76800 M9)] ++ wr) H → va_S A s.heap H locs → lv_has ls 11 [(8, .int (bI fa)), (6, .long (wd8 (fun k => M (128 * n9 + 8 * i9 + k)) 8)), (5, .int (nI (128 * n9 + 8 * i9))), (0, .ref mo), (1, .int (nI n9)), (2, .int (nI i9)), (3, .long w)] → W p l e (rmz 10 280 0 0) s m ([.ref mo, .int (nI n9), .int (nI i9), .long w] : List Value).toArray below meth c H locs 0 0 (xQ below s A 0 0 (fun v H => ∃ (r : Int64), v = some (.long r) ∧ ((true = false ∧ va_P G.1 zcl ([(mo, eMo by_ true (sI sk) nw (nI rb) fl wt ct 1), (by_, eB G 76800 M)] ++ wr) H) ∨ (true = true ∧ ¬ okP (nI n9) (nI i9) ∧ va_P G.1 zcl ([(mo, eMo by_ true (sI sk) nw (nI rb) fl wt ct 2), (by_, eB G 76800 M)] ++ wr) H) ∨ (true = true ∧ ¬ fl = 1 ∧ ∃ n8 i8 : Nat, n8 < 600 ∧ i8 < 16 ∧ (nI n9) = nI n8 ∧ (nI i9) = nI i8 ∧ r = (wd8 (fun k => M (128 * n8 + 8 * i8 + k)) 8) ∧ va_P G.1 zcl ([(mo, eMo by_ true (sI sk) nw (nI rb) fl wt ct 0), (by_, eB G 76800 (mset M n8 i8 w 128))] ++ wr) H) ∨ (true = true ∧ fl = 1 ∧ ∃ n8 i8 : Nat, n8 < 600 ∧ i8 < 16 ∧ (nI n9) = nI n8 ∧ (nI i9) = nI i8 ∧ va_P G.1 zcl ([(mo, eMo by_ false (sI sk) nw (nI rb) 0 wt ct 3), (by_, eB G 76800 (mset M n8 i8 w (nowN true L b (thr sk nw rb (n8 / 4 % 5) (n8 / 4)))))] ++ wr) H))) (fun _ _ => False)) (F0 m 145 ls [])) → ∀ (q k : Nat), q + k = 8 → ∀ (M9 : Nat → Int8) (H : Heap) (locs : List Loc) (ls : Array Slot), (∀ x, M9 x = if (128 * n9 + 8 * i9 ≤ x ∧ x < 128 * n9 + 8 * i9 + k) ∧ x < 128 * n9 + now then wb w (x - (128 * n9 + 8 * i9)) else M x) → va_P G.1 zcl ([(mo, eMo by_ true (sI sk) nw (nI rb) fl wt ct th), (by_, eB G 76800 M9)] ++ wr) H → va_S A s.heap H locs → lv_has ls 11 [(10, .int (nI k)), (9, .int (nI now)), (8, .int (bI fa)), (6, .long (wd8 (fun k => M (128 * n9 + 8 * i9 + k)) 8)), (5, .int (nI (128 * n9 + 8 * i9))), (0, .ref mo), (1, .int (nI n9)), (2, .int (nI i9)), (3, .long w)] → W p l e (rmz 10 280 0 0) s m ([.ref mo, .int (nI n9), .int (nI i9), .long w] : List Value).toArray below meth c H locs 0 0 (xQ below s A 0 0 (fun v H => ∃ (r : Int64), v = some (.long r) ∧ ((true = false ∧ va_P G.1 zcl ([(mo, eMo by_ true (sI sk) nw (nI rb) fl wt ct 1), (by_, eB G 76800 M)] ++ wr) H) ∨ (true = true ∧ ¬ okP (nI n9) (nI i9) ∧ va_P G.1 zcl ([(mo, eMo by_ true (sI sk) nw (nI rb) fl wt ct 2), (by_, eB G 76800 M)] ++ wr) H) ∨ (true = true ∧ ¬ fl = 1 ∧ ∃ n8 i8 : Nat, n8 < 600 ∧ i8 < 16 ∧ (nI n9) = nI n8 ∧ (nI i9) = nI i8 ∧ r = (wd8 (fun k => M (128 * n8 + 8 * i8 + k)) 8) ∧ va_P G.1 zcl ([(mo, eMo by_ true (sI sk) nw (nI rb) fl wt ct 0), (by_, eB G 76800 (mset M n8 i8 w 128))] ++ wr) H) ∨ (true = true ∧ fl = 1 ∧ ∃ n8 i8 : Nat, n8 < 600 ∧ i8 < 16 ∧ (nI n9) = nI n8 ∧ (nI i9) = nI i8 ∧ va_P G.1 zcl ([(mo, eMo by_ false (sI sk) nw (nI rb) 0 wt ct 3), (by_, eB G 76800 (mset M n8 i8 w (nowN true L b (thr sk nw rb (n8 / 4 % 5) (n8 / 4)))))] ++ wr) H))) (fun _ _ => False)) (F0 m 98 ls []) := by
              intro fa now hnow kk q
              induction q with
              | zero =>
                intro k hk M9 H locs ls hM hP hS hl
                obtain rfl : k = 8 := by omega
                refine lv_iload hx hb zd_Mo_set_98 (lv_at hl 0 rfl) ?_
                refine lv_bipush (v := nI 8) hx hb zd_Mo_set_100 (by decide) ?_
                refine lv_icmp_ge (tgt := 145) hx hb zd_Mo_set_102 rfl (fun _ => ?_) (fun hc9 => absurd hc9 (fun h => h (Int32.le_refl _)))
                exact kk M9 H locs ls (funext hM) hP hS (lv_sub hl [2, 3, 4, 5, 6, 7, 8] rfl)
              | succ q ih =>
                intro k hk M9 H locs ls hM hP hS hl
                have hD := zw_DP hD hP (by simp only [List.map_append, List.map_cons, List.map_nil])
                refine lv_iload hx hb zd_Mo_set_98 (lv_at hl 0 rfl) ?_
                refine lv_bipush (v := nI 8) hx hb zd_Mo_set_100 (by decide) ?_
                refine lv_icmp_ge (tgt := 145) hx hb zd_Mo_set_102 rfl (fun hc9 => absurd hc9 (nI_ge (by omega) (by decide))) (fun _ => ?_)
                refine lv_bipush (v := nI 8) hx hb zd_Mo_set_105 (by decide) ?_
                refine lv_iload_n hx hb zd_Mo_set_107 rfl (lv_at hl 7 rfl) ?_
                refine lv_imul hx hb zd_Mo_set_108 ?_
                refine lv_iload hx hb zd_Mo_set_109 (lv_at hl 0 rfl) ?_
                refine lv_iadd hx hb zd_Mo_set_111 ?_
                rw [pk_mul, nI_add]
                refine lv_iload hx hb zd_Mo_set_112 (lv_at hl 1 rfl) ?_
                refine lv_icmp_ge (tgt := 139) hx hb zd_Mo_set_114 rfl (fun gn => ?_) (fun gn => ?_)
                · have gn : now ≤ 8 * i9 + k := (nI_leI (by omega) (by omega)).mp gn
                  refine lv_iinc (k := 0) hx hb zd_Mo_set_139 hl rfl (zl_inc k) (by decide) rfl (fun ls hl => ?_)
                  have hl : lv_has ls 11 [(10, _), (9, _), (8, _), (6, _), (5, _), (0, _), (1, _), (2, _), (3, _)] := hl
                  refine lv_goto (tgt := 98) hx hb zd_Mo_set_142 rfl ?_
                  exact ih (k + 1) (by omega) M9 H locs ls (fun x => by
                    rw [hM x]
                    by_cases h : (128 * n9 + 8 * i9 ≤ x ∧ x < 128 * n9 + 8 * i9 + k) ∧ x < 128 * n9 + now
                    · rw [if_pos h, if_pos (by omega)]
                    · rw [if_neg h, if_neg (by omega)]) hP hS hl
                · have gn : ¬ now ≤ 8 * i9 + k := fun h => gn ((nI_leI (by omega) (by omega)).mpr h)
                  refine lv_aload_n hx hb zd_Mo_set_117 rfl (lv_at hl 5 rfl) ?_
                  refine zg_Mo F hT hK hP 0 rfl 0 (by decide) zq_387 rfl zd_Mo_set_118 ?_
                  refine lv_iload hx hb zd_Mo_set_121 (lv_at hl 4 rfl) ?_
                  refine lv_iload hx hb zd_Mo_set_123 (lv_at hl 0 rfl) ?_
                  refine lv_iadd hx hb zd_Mo_set_125 ?_
                  refine lv_lload_n hx hb zd_Mo_set_126 rfl (lv_at hl 8 rfl) ?_
                  refine lv_bipush (v := nI 56) hx hb zd_Mo_set_127 (by decide) ?_
                  refine lv_bipush (v := nI 8) hx hb zd_Mo_set_129 (by decide) ?_
                  refine lv_iload hx hb zd_Mo_set_131 (lv_at hl 0 rfl) ?_
                  refine lv_imul hx hb zd_Mo_set_133 ?_
                  refine lv_isub hx hb zd_Mo_set_134 ?_
                  refine lv_lshr hx hb zd_Mo_set_135 rfl ?_
                  refine lv_l2i hx hb zd_Mo_set_136 rfl ?_
                  refine lv_i2b hx hb zd_Mo_set_137 rfl ?_
                  refine zw_bast F hK hP hD hS 1 rfl (128 * n9 + 8 * i9 + k) (nI_add _ _) (by omega) (by decide) zd_Mo_set_138 (fun H locs hP hD hS => ?_)
                  have hP : va_P G.1 zcl ([(_, _), (_, _)] ++ wr) H := hP
                  have hD : va_D A ([(_, _), (_, _)] ++ wr) := hD
                  refine lv_iinc (k := 0) hx hb zd_Mo_set_139 hl rfl (zl_inc k) (by decide) rfl (fun ls hl => ?_)
                  have hl : lv_has ls 11 [(10, _), (9, _), (8, _), (6, _), (5, _), (0, _), (1, _), (2, _), (3, _)] := hl
                  refine lv_goto (tgt := 98) hx hb zd_Mo_set_142 rfl ?_
                  exact ih (k + 1) (by omega) _ H locs ls (fun x => by
                    unfold ub
                    rw [Int8.toInt8_toInt32]
                    by_cases h : x = 128 * n9 + 8 * i9 + k
                    · subst h
                      rw [if_pos rfl, if_pos (by omega), show 128 * n9 + 8 * i9 + k - (128 * n9 + 8 * i9) = k by omega]
                      rfl
                    · rw [if_neg h, hM x]
                      by_cases h2 : (128 * n9 + 8 * i9 ≤ x ∧ x < 128 * n9 + 8 * i9 + k) ∧ x < 128 * n9 + now
                      · rw [if_pos h2, if_pos (by omega)]
                      · rw [if_neg h2, if_neg (by omega)]) hP hS hl
            have hM0 : ∀ now x, M x = if (128 * n9 + 8 * i9 ≤ x ∧ x < 128 * n9 + 8 * i9 + 0) ∧ x < 128 * n9 + now then wb w (x - (128 * n9 + 8 * i9)) else M x := fun now x => by rw [if_neg (by omega)]
            refine lv_icmp_ne (tgt := 74) hx hb zd_Mo_set_67 rfl (fun gf => ?_) (fun gf => ?_)
            · refine lv_iconst (v := bI false) hx hb zd_Mo_set_74 (by decide) ?_
              refine lv_istore hx hb zd_Mo_set_75 hl (by decide) rfl (fun ls hl => ?_)
              have hl : lv_has ls 11 [(8, _), (6, _), (5, _), (0, _), (1, _), (2, _), (3, _)] := hl
              refine lv_iload hx hb zd_Mo_set_77 (lv_at hl 0 rfl) ?_
              refine lv_if_eq (tgt := 90) hx hb zd_Mo_set_79 rfl (fun _ => ?_) (fun hc9 => absurd hc9 (fun h => h (by decide)))
              refine lv_sipush (v := nI 128) hx hb zd_Mo_set_90 (by decide) ?_
              refine lv_istore hx hb zd_Mo_set_93 hl (by decide) rfl (fun ls hl => ?_)
              have hl : lv_has ls 11 [(9, _), (8, _), (6, _), (5, _), (0, _), (1, _), (2, _), (3, _)] := hl
              refine lv_iconst (v := nI 0) hx hb zd_Mo_set_95 (by decide) ?_
              refine lv_istore hx hb zd_Mo_set_96 hl (by decide) rfl (fun ls hl => ?_)
              have hl : lv_has ls 11 [(10, _), (9, _), (8, _), (6, _), (5, _), (0, _), (1, _), (2, _), (3, _)] := hl
              refine loop false 128 (by decide) (fun M9 H locs ls hM hP hS hl => ?_) 8 0 rfl M _ _ ls (hM0 128) hP hS hl
              subst hM
              have hD := zw_DP hD hP (by simp only [List.map_append, List.map_cons, List.map_nil])
              refine lv_aload_n hx hb zd_Mo_set_145 rfl (lv_at hl 3 rfl) ?_
              refine lv_iload hx hb zd_Mo_set_146 (lv_at hl 0 rfl) ?_
              refine lv_if_eq (tgt := 155) hx hb zd_Mo_set_148 rfl (fun _ => ?_) (fun hc9 => absurd hc9 (fun h => h (by decide)))
              refine lv_iconst (v := 0) hx hb zd_Mo_set_155 (by decide) ?_
              refine zp_Mo F hT hK hP hD hS 0 rfl 8 (by decide) zq_395 rfl rfl rfl (Nat.le_of_ble_eq_true rfl) zd_Mo_set_156 (fun H locs hP hD hS => ?_)
              have hP : va_P G.1 zcl ([(_, .inr (3, [_, _, _, _, _, _, _, _, _])), (_, _)] ++ wr) H := hP
              have hD : va_D A ([(_, .inr (3, [_, _, _, _, _, _, _, _, _])), (_, _)] ++ wr) := hD
              refine lv_iload hx hb zd_Mo_set_159 (lv_at hl 0 rfl) ?_
              refine lv_if_ne (tgt := 167) hx hb zd_Mo_set_161 rfl (fun hc9 => absurd hc9 (fun h => h (by decide))) (fun _ => ?_)
              refine lv_lload hx hb zd_Mo_set_164 (lv_at hl 1 rfl) ?_
              exact zx_lret F hS.2.2 zd_Mo_set_166 ⟨_, rfl, Or.inr (Or.inr (Or.inl ⟨rfl, gf, n9, i9, hn9, hi9, rfl, rfl, rfl, hP⟩))⟩
            · subst gf
              obtain ⟨rfl, rfl, hL, hb9⟩ := hfl1 rfl
              refine lv_iconst (v := bI true) hx hb zd_Mo_set_70 (by decide) ?_
              refine lv_goto (tgt := 75) hx hb zd_Mo_set_71 rfl ?_
              refine lv_istore hx hb zd_Mo_set_75 hl (by decide) rfl (fun ls hl => ?_)
              have hl : lv_has ls 11 [(8, _), (6, _), (5, _), (0, _), (1, _), (2, _), (3, _)] := hl
              refine lv_iload hx hb zd_Mo_set_77 (lv_at hl 0 rfl) ?_
              refine lv_if_eq (tgt := 90) hx hb zd_Mo_set_79 rfl (fun hc9 => absurd hc9 (by decide)) (fun _ => ?_)
              refine lv_aload_n hx hb zd_Mo_set_82 rfl (lv_at hl 3 rfl) ?_
              refine lv_iload_n hx hb zd_Mo_set_83 rfl (lv_at hl 4 rfl) ?_
              refine zk_V F hT hK hZ hS hl.1 hP 0 rfl rfl rfl (zc_Mo_fresh l G mo by_ n9 L b wr true nw sk rb 1 th M hn9 hrb hL hb9 hP) zl_Mo_fresh (zY_Mo_fresh hT) zq_431 zq_433 zs_6 zd_Mo_set_84 rfl ⟨rfl, rfl, Nat.le_of_ble_eq_true rfl, Nat.le_of_ble_eq_true rfl, Nat.le_of_ble_eq_true rfl, Nat.le_of_ble_eq_true rfl⟩ (fun v H locs hv hS => ?_) (fun x H locs hv hS => hv.elim)
              obtain ⟨rfl, rfl⟩ := hv
              refine zw_app ?_
              refine lv_goto (tgt := 93) hx hb zd_Mo_set_87 rfl ?_
              refine lv_istore hx hb zd_Mo_set_93 hl (by decide) rfl (fun ls hl => ?_)
              have hl : lv_has ls 11 [(9, _), (8, _), (6, _), (5, _), (0, _), (1, _), (2, _), (3, _)] := hl
              refine lv_iconst (v := nI 0) hx hb zd_Mo_set_95 (by decide) ?_
              refine lv_istore hx hb zd_Mo_set_96 hl (by decide) rfl (fun ls hl => ?_)
              have hl : lv_has ls 11 [(10, _), (9, _), (8, _), (6, _), (5, _), (0, _), (1, _), (2, _), (3, _)] := hl
              refine loop true _ (nowN_le _ _ _ _) (fun M9 H locs ls hM hP hS hl => ?_) 8 0 rfl M _ _ ls (hM0 _) hP hS hl
              subst hM
              have hD := zw_DP hD hP (by simp only [List.map_append, List.map_cons, List.map_nil])
              refine lv_aload_n hx hb zd_Mo_set_145 rfl (lv_at hl 3 rfl) ?_
              refine lv_iload hx hb zd_Mo_set_146 (lv_at hl 0 rfl) ?_
              refine lv_if_eq (tgt := 155) hx hb zd_Mo_set_148 rfl (fun hc9 => absurd hc9 (by decide)) (fun _ => ?_)
              refine lv_iconst (v := 3) hx hb zd_Mo_set_151 (by decide) ?_
              refine lv_goto (tgt := 156) hx hb zd_Mo_set_152 rfl ?_
              refine zp_Mo F hT hK hP hD hS 0 rfl 8 (by decide) zq_395 rfl rfl rfl (Nat.le_of_ble_eq_true rfl) zd_Mo_set_156 (fun H locs hP hD hS => ?_)
              have hP : va_P G.1 zcl ([(_, .inr (3, [_, _, _, _, _, _, _, _, _])), (_, _)] ++ wr) H := hP
              have hD : va_D A ([(_, .inr (3, [_, _, _, _, _, _, _, _, _])), (_, _)] ++ wr) := hD
              refine lv_iload hx hb zd_Mo_set_159 (lv_at hl 0 rfl) ?_
              refine lv_if_ne (tgt := 167) hx hb zd_Mo_set_161 rfl (fun _ => ?_) (fun hc9 => absurd hc9 (by decide))
              refine lv_aload_n hx hb zd_Mo_set_167 rfl (lv_at hl 3 rfl) ?_
              refine lv_iconst (v := 0) hx hb zd_Mo_set_168 (by decide) ?_
              refine zp_Mo F hT hK hP hD hS 0 rfl 5 (by decide) zq_392 rfl rfl rfl (Nat.le_of_ble_eq_true rfl) zd_Mo_set_169 (fun H locs hP hD hS => ?_)
              have hP : va_P G.1 zcl ([(_, .inr (3, [_, _, _, _, _, _, _, _, _])), (_, _)] ++ wr) H := hP
              have hD : va_D A ([(_, .inr (3, [_, _, _, _, _, _, _, _, _])), (_, _)] ++ wr) := hD
              refine lv_aload_n hx hb zd_Mo_set_172 rfl (lv_at hl 3 rfl) ?_
              refine lv_iconst (v := 0) hx hb zd_Mo_set_173 (by decide) ?_
              refine zp_Mo F hT hK hP hD hS 0 rfl 1 (by decide) zq_388 rfl rfl rfl (Nat.le_of_ble_eq_true rfl) zd_Mo_set_174 (fun H locs hP hD hS => ?_)
              have hP : va_P G.1 zcl ([(_, .inr (3, [_, _, _, _, _, _, _, _, _])), (_, _)] ++ wr) H := hP
              have hD : va_D A ([(_, .inr (3, [_, _, _, _, _, _, _, _, _])), (_, _)] ++ wr) := hD
              refine lv_lconst (v := 0) hx hb zd_Mo_set_177 (by decide) ?_
              exact zx_lret F hS.2.2 zd_Mo_set_178 ⟨_, rfl, Or.inr (Or.inr (Or.inr ⟨rfl, rfl, n9, i9, hn9, hi9, rfl, rfl, hP⟩))⟩
          · exact bad (fun h => g4 (okP_lt.mpr h.2.2.2))
end
section
/-! the reference's other methods -/
set_option maxHeartbeats 4000000 in
set_option maxRecDepth 20000 in
theorem zc_Mo_die (l : Launch) (G : xG) {H0 : Heap} {A : Nat → Prop} (mo by_ : Nat) (wr : va_W) (on_ nw : Bool) (sk rb : Nat) (fl wt ct th : Int32) (M : Nat → Int8) (d : Int32) (hsk : sk ≤ 5) (hrb : rb < 150) (hP : va_P G.1 zcl ([(mo, eMo by_ on_ (sI sk) nw (nI rb) fl wt ct th), (by_, eB G 76800 M)] ++ wr) H0) (hD : va_D A ([(mo, eMo by_ on_ (sI sk) nw (nI rb) fl wt ct th), (by_, eB G 76800 M)] ++ wr)) : XM l G (rmz 9 200 0 0) zy_Mo_die zb_Mo_die 2 none [] H0 A [.ref mo, .int d] 0 0 (fun v H => v = none ∧ ((¬ d5 d ∧ va_P G.1 zcl ([(mo, eMo by_ on_ (sI sk) nw (nI rb) fl wt ct 1), (by_, eB G 76800 M)] ++ wr) H) ∨ (d5 d ∧ ¬ (on_ = true ∧ sk = 5) ∧ va_P G.1 zcl ([(mo, eMo by_ on_ (sI sk) nw (nI rb) fl wt ct 2), (by_, eB G 76800 M)] ++ wr) H) ∨ (on_ = true ∧ sk = 5 ∧ ∃ d8 : Nat, d8 < 5 ∧ d = nI d8 ∧ va_P G.1 zcl ([(mo, eMo by_ on_ (sI d8) false (nI 0) fl wt ct 0), (by_, eB G 76800 M)] ++ wr) H))) (fun _ _ => False) := by
  intro p e s m below meth c F hT hK hH hZ
  subst hH
  have hx := F.1
  have hb := F.2.1
  have hS : va_S A s.heap s.heap [] := va_S.rf
  have hl := lv_entry ([.ref mo, .int d]) (n := 2) (Nat.le_of_ble_eq_true rfl)
  rw [lg_entry_eq]
  generalize (lg_sl ([.ref mo, .int d]) ++ List.replicate (2 - (lg_sl ([.ref mo, .int d])).length) Slot.unset).toArray = ls at hl ⊢
  have hl : lv_has ls 2 [(0, .ref mo), (1, .int d)] := hl
  have bad1 : ¬ d5 d → W p l e (rmz 9 200 0 0) s m ([.ref mo, .int d] : List Value).toArray below meth c s.heap [] 0 0 (xQ below s A 0 0 (fun v H => v = none ∧ ((¬ d5 d ∧ va_P G.1 zcl ([(mo, eMo by_ on_ (sI sk) nw (nI rb) fl wt ct 1), (by_, eB G 76800 M)] ++ wr) H) ∨ (d5 d ∧ ¬ (on_ = true ∧ sk = 5) ∧ va_P G.1 zcl ([(mo, eMo by_ on_ (sI sk) nw (nI rb) fl wt ct 2), (by_, eB G 76800 M)] ++ wr) H) ∨ (on_ = true ∧ sk = 5 ∧ ∃ d8 : Nat, d8 < 5 ∧ d = nI d8 ∧ va_P G.1 zcl ([(mo, eMo by_ on_ (sI d8) false (nI 0) fl wt ct 0), (by_, eB G 76800 M)] ++ wr) H))) (fun _ _ => False)) (F0 m 10 ls [.ref mo]) := by
    intro hbad
    refine lv_iconst (v := 1) hx hb zd_Mo_die_10 (by decide) ?_
    refine lv_goto (tgt := 34) hx hb zd_Mo_die_11 rfl ?_
    refine zp_Mo F hT hK hP hD hS 0 rfl 8 (by decide) zq_395 rfl rfl rfl (Nat.le_of_ble_eq_true rfl) zd_Mo_die_34 (fun H locs hP hD hS => ?_)
    have hP : va_P G.1 zcl ([(_, .inr (3, [_, _, _, _, _, _, _, _, _])), (_, _)] ++ wr) H := hP
    have hD : va_D A ([(_, .inr (3, [_, _, _, _, _, _, _, _, _])), (_, _)] ++ wr) := hD
    refine lv_aload_n hx hb zd_Mo_die_37 rfl (lv_at hl 0 rfl) ?_
    refine zg_Mo F hT hK hP 0 rfl 8 (by decide) zq_395 rfl zd_Mo_die_38 ?_
    refine lv_if_eq (tgt := 45) hx hb zd_Mo_die_41 rfl (fun hc9 => absurd hc9 (by decide)) (fun _ => ?_)
    exact zx_vret F hS.2.2 zd_Mo_die_44 ⟨rfl, Or.inl ⟨hbad, hP⟩⟩
  have bad2 : d5 d → ¬ (on_ = true ∧ sk = 5) → W p l e (rmz 9 200 0 0) s m ([.ref mo, .int d] : List Value).toArray below meth c s.heap [] 0 0 (xQ below s A 0 0 (fun v H => v = none ∧ ((¬ d5 d ∧ va_P G.1 zcl ([(mo, eMo by_ on_ (sI sk) nw (nI rb) fl wt ct 1), (by_, eB G 76800 M)] ++ wr) H) ∨ (d5 d ∧ ¬ (on_ = true ∧ sk = 5) ∧ va_P G.1 zcl ([(mo, eMo by_ on_ (sI sk) nw (nI rb) fl wt ct 2), (by_, eB G 76800 M)] ++ wr) H) ∨ (on_ = true ∧ sk = 5 ∧ ∃ d8 : Nat, d8 < 5 ∧ d = nI d8 ∧ va_P G.1 zcl ([(mo, eMo by_ on_ (sI d8) false (nI 0) fl wt ct 0), (by_, eB G 76800 M)] ++ wr) H))) (fun _ _ => False)) (F0 m 29 ls [.ref mo]) := by
    intro hd5 hbad
    refine lv_iconst (v := 2) hx hb zd_Mo_die_29 (by decide) ?_
    refine lv_goto (tgt := 34) hx hb zd_Mo_die_30 rfl ?_
    refine zp_Mo F hT hK hP hD hS 0 rfl 8 (by decide) zq_395 rfl rfl rfl (Nat.le_of_ble_eq_true rfl) zd_Mo_die_34 (fun H locs hP hD hS => ?_)
    have hP : va_P G.1 zcl ([(_, .inr (3, [_, _, _, _, _, _, _, _, _])), (_, _)] ++ wr) H := hP
    have hD : va_D A ([(_, .inr (3, [_, _, _, _, _, _, _, _, _])), (_, _)] ++ wr) := hD
    refine lv_aload_n hx hb zd_Mo_die_37 rfl (lv_at hl 0 rfl) ?_
    refine zg_Mo F hT hK hP 0 rfl 8 (by decide) zq_395 rfl zd_Mo_die_38 ?_
    refine lv_if_eq (tgt := 45) hx hb zd_Mo_die_41 rfl (fun hc9 => absurd hc9 (by decide)) (fun _ => ?_)
    exact zx_vret F hS.2.2 zd_Mo_die_44 ⟨rfl, Or.inr (Or.inl ⟨hd5, hbad, hP⟩)⟩
  refine lv_aload_n hx hb zd_Mo_die_0 rfl (lv_at hl 0 rfl) ?_
  refine lv_iload_n hx hb zd_Mo_die_1 rfl (lv_at hl 1 rfl) ?_
  refine lv_if_lt (tgt := 10) hx hb zd_Mo_die_2 rfl (fun g1 => ?_) (fun g1 => ?_)
  · exact bad1 (fun h => h.1 g1)
  · refine lv_iload_n hx hb zd_Mo_die_5 rfl (lv_at hl 1 rfl) ?_
    refine lv_iconst (v := 4) hx hb zd_Mo_die_6 (by decide) ?_
    refine lv_icmp_le (tgt := 14) hx hb zd_Mo_die_7 rfl (fun g2 => ?_) (fun g2 => ?_)
    · have hd5 : d5 d := ⟨g1, d5_4.mp g2⟩
      obtain ⟨d9, hd9, rfl⟩ := hd5.of
      refine lv_aload_n hx hb zd_Mo_die_14 rfl (lv_at hl 0 rfl) ?_
      refine zg_Mo F hT hK hP 0 rfl 1 (by decide) zq_388 rfl zd_Mo_die_15 ?_
      refine lv_if_eq (tgt := 29) hx hb zd_Mo_die_18 rfl (fun g3 => ?_) (fun g3 => ?_)
      · have g3 := bI_0.mp g3
        exact bad2 hd5 (fun h => by rw [g3] at h; exact absurd h.1 (by decide))
      · obtain rfl : on_ = true := by cases on_ with | true => rfl | false => exact absurd rfl g3
        refine lv_aload_n hx hb zd_Mo_die_21 rfl (lv_at hl 0 rfl) ?_
        refine zg_Mo F hT hK hP 0 rfl 2 (by decide) zq_389 rfl zd_Mo_die_22 ?_
        refine lv_iconst (v := (-1)) hx hb zd_Mo_die_25 (by decide) ?_
        refine lv_icmp_eq (tgt := 33) hx hb zd_Mo_die_26 rfl (fun g4 => ?_) (fun g4 => ?_)
        · have hs5 := (sI_m1 hsk).mp g4
          refine lv_iconst (v := 0) hx hb zd_Mo_die_33 (by decide) ?_
          refine zp_Mo F hT hK hP hD hS 0 rfl 8 (by decide) zq_395 rfl rfl rfl (Nat.le_of_ble_eq_true rfl) zd_Mo_die_34 (fun H locs hP hD hS => ?_)
          have hP : va_P G.1 zcl ([(_, .inr (3, [_, _, _, _, _, _, _, _, _])), (_, _)] ++ wr) H := hP
          have hD : va_D A ([(_, .inr (3, [_, _, _, _, _, _, _, _, _])), (_, _)] ++ wr) := hD
          refine lv_aload_n hx hb zd_Mo_die_37 rfl (lv_at hl 0 rfl) ?_
          refine zg_Mo F hT hK hP 0 rfl 8 (by decide) zq_395 rfl zd_Mo_die_38 ?_
          refine lv_if_eq (tgt := 45) hx hb zd_Mo_die_41 rfl (fun _ => ?_) (fun hc9 => absurd hc9 (fun h => h (by decide)))
          refine lv_aload_n hx hb zd_Mo_die_45 rfl (lv_at hl 0 rfl) ?_
          refine lv_iload_n hx hb zd_Mo_die_46 rfl (lv_at hl 1 rfl) ?_
          refine zp_Mo F hT hK hP hD hS 0 rfl 2 (by decide) zq_389 rfl rfl rfl (Nat.le_of_ble_eq_true rfl) zd_Mo_die_47 (fun H locs hP hD hS => ?_)
          have hP : va_P G.1 zcl ([(_, .inr (3, [_, _, _, _, _, _, _, _, _])), (_, _)] ++ wr) H := hP
          have hD : va_D A ([(_, .inr (3, [_, _, _, _, _, _, _, _, _])), (_, _)] ++ wr) := hD
          refine lv_aload_n hx hb zd_Mo_die_50 rfl (lv_at hl 0 rfl) ?_
          refine lv_iconst (v := 0) hx hb zd_Mo_die_51 (by decide) ?_
          refine zp_Mo F hT hK hP hD hS 0 rfl 3 (by decide) zq_390 rfl rfl rfl (Nat.le_of_ble_eq_true rfl) zd_Mo_die_52 (fun H locs hP hD hS => ?_)
          have hP : va_P G.1 zcl ([(_, .inr (3, [_, _, _, _, _, _, _, _, _])), (_, _)] ++ wr) H := hP
          have hD : va_D A ([(_, .inr (3, [_, _, _, _, _, _, _, _, _])), (_, _)] ++ wr) := hD
          refine lv_aload_n hx hb zd_Mo_die_55 rfl (lv_at hl 0 rfl) ?_
          refine lv_iconst (v := 0) hx hb zd_Mo_die_56 (by decide) ?_
          refine zp_Mo F hT hK hP hD hS 0 rfl 4 (by decide) zq_391 rfl rfl rfl (Nat.le_of_ble_eq_true rfl) zd_Mo_die_57 (fun H locs hP hD hS => ?_)
          have hP : va_P G.1 zcl ([(_, .inr (3, [_, _, _, _, _, _, _, _, _])), (_, _)] ++ wr) H := hP
          have hD : va_D A ([(_, .inr (3, [_, _, _, _, _, _, _, _, _])), (_, _)] ++ wr) := hD
          exact zx_vret F hS.2.2 zd_Mo_die_60 ⟨rfl, Or.inr (Or.inr ⟨rfl, hs5, d9, hd9, rfl, by rw [← sI_lt hd9] at hP; exact hP⟩)⟩
        · exact bad2 hd5 (fun h => g4 ((sI_m1 hsk).mpr h.2))
    · exact bad1 (fun h => g2 (d5_4.mpr h.2))
set_option maxHeartbeats 4000000 in
set_option maxRecDepth 20000 in
theorem zc_Mo_replace (l : Launch) (G : xG) {H0 : Heap} {A : Nat → Prop} (mo by_ : Nat) (wr : va_W) (on_ nw : Bool) (sk rb : Nat) (fl wt ct th : Int32) (M : Nat → Int8) (hsk : sk ≤ 5) (hrb : rb < 150) (hP : va_P G.1 zcl ([(mo, eMo by_ on_ (sI sk) nw (nI rb) fl wt ct th), (by_, eB G 76800 M)] ++ wr) H0) (hD : va_D A ([(mo, eMo by_ on_ (sI sk) nw (nI rb) fl wt ct th), (by_, eB G 76800 M)] ++ wr)) : XM l G (rmz 9 200 0 0) zy_Mo_replace zb_Mo_replace 1 (some FieldType.int) [] H0 A [.ref mo] 0 0 (fun v H => ∃ r : Int32, v = some (.int r) ∧ ((¬ (sk < 5 ∧ nw = false) ∧ va_P G.1 zcl ([(mo, eMo by_ on_ (sI sk) nw (nI rb) fl wt ct 1), (by_, eB G 76800 M)] ++ wr) H) ∨ (sk < 5 ∧ nw = false ∧ r = sI sk ∧ va_P G.1 zcl ([(mo, eMo by_ on_ (sI sk) true (nI rb) fl wt ct 0), (by_, eB G 76800 M)] ++ wr) H))) (fun _ _ => False) := by
  intro p e s m below meth c F hT hK hH hZ
  subst hH
  have hx := F.1
  have hb := F.2.1
  have hS : va_S A s.heap s.heap [] := va_S.rf
  have hl := lv_entry ([.ref mo]) (n := 1) (Nat.le_of_ble_eq_true rfl)
  rw [lg_entry_eq]
  generalize (lg_sl ([.ref mo]) ++ List.replicate (1 - (lg_sl ([.ref mo])).length) Slot.unset).toArray = ls at hl ⊢
  have hl : lv_has ls 1 [(0, .ref mo)] := hl
  have bad : ¬ (sk < 5 ∧ nw = false) → W p l e (rmz 9 200 0 0) s m ([.ref mo] : List Value).toArray below meth c s.heap [] 0 0 (xQ below s A 0 0 (fun v H => ∃ r : Int32, v = some (.int r) ∧ ((¬ (sk < 5 ∧ nw = false) ∧ va_P G.1 zcl ([(mo, eMo by_ on_ (sI sk) nw (nI rb) fl wt ct 1), (by_, eB G 76800 M)] ++ wr) H) ∨ (sk < 5 ∧ nw = false ∧ r = sI sk ∧ va_P G.1 zcl ([(mo, eMo by_ on_ (sI sk) true (nI rb) fl wt ct 0), (by_, eB G 76800 M)] ++ wr) H))) (fun _ _ => False)) (F0 m 15 ls []) := by
    intro hbad
    refine lv_aload_n hx hb zd_Mo_replace_15 rfl (lv_at hl 0 rfl) ?_
    refine lv_iconst (v := 1) hx hb zd_Mo_replace_16 (by decide) ?_
    refine zk_V F hT hK hZ hS hl.1 hP 0 rfl rfl rfl (zc_Mo_fails l G mo by_ on_ nw (sI sk) (nI rb) fl wt ct th 1 _ hP hD) zl_Mo_fails (zY_Mo_fails hT) zq_423 zq_425 zs_4 zd_Mo_replace_17 rfl ⟨rfl, rfl, Nat.le_of_ble_eq_true rfl, Nat.le_of_ble_eq_true rfl, Nat.le_of_ble_eq_true rfl, Nat.le_of_ble_eq_true rfl⟩ (fun v H locs hv hS => ?_) (fun x H locs hv hS => hv.elim)
    obtain ⟨rfl, hP⟩ := hv
    refine zw_app ?_
    have hP : va_P G.1 zcl ([(_, .inr (3, [_, _, _, _, _, _, _, _, _])), (_, _)] ++ wr) H := hP
    have hD := zw_DP hD hP (by simp only [List.map_append, List.map_cons, List.map_nil])
    exact zx_iret F rfl hS.2.2 zd_Mo_replace_20 ⟨_, rfl, Or.inl ⟨hbad, hP⟩⟩
  refine lv_aload_n hx hb zd_Mo_replace_0 rfl (lv_at hl 0 rfl) ?_
  refine zg_Mo F hT hK hP 0 rfl 2 (by decide) zq_389 rfl zd_Mo_replace_1 ?_
  refine lv_iconst (v := (-1)) hx hb zd_Mo_replace_4 (by decide) ?_
  refine lv_icmp_eq (tgt := 15) hx hb zd_Mo_replace_5 rfl (fun g1 => ?_) (fun g1 => ?_)
  · exact bad (fun h => by have := (sI_m1 hsk).mp g1; omega)
  · have hs : sk < 5 := by have : ¬ sk = 5 := fun h => g1 ((sI_m1 hsk).mpr h); omega
    refine lv_aload_n hx hb zd_Mo_replace_8 rfl (lv_at hl 0 rfl) ?_
    refine zg_Mo F hT hK hP 0 rfl 3 (by decide) zq_390 rfl zd_Mo_replace_9 ?_
    refine lv_if_eq (tgt := 21) hx hb zd_Mo_replace_12 rfl (fun g2 => ?_) (fun g2 => ?_)
    · obtain rfl := bI_0.mp g2
      refine lv_aload_n hx hb zd_Mo_replace_21 rfl (lv_at hl 0 rfl) ?_
      refine lv_iconst (v := 0) hx hb zd_Mo_replace_22 (by decide) ?_
      refine zp_Mo F hT hK hP hD hS 0 rfl 8 (by decide) zq_395 rfl rfl rfl (Nat.le_of_ble_eq_true rfl) zd_Mo_replace_23 (fun H locs hP hD hS => ?_)
      have hP : va_P G.1 zcl ([(_, .inr (3, [_, _, _, _, _, _, _, _, _])), (_, _)] ++ wr) H := hP
      have hD : va_D A ([(_, .inr (3, [_, _, _, _, _, _, _, _, _])), (_, _)] ++ wr) := hD
      refine lv_aload_n hx hb zd_Mo_replace_26 rfl (lv_at hl 0 rfl) ?_
      refine lv_iconst (v := 1) hx hb zd_Mo_replace_27 (by decide) ?_
      refine zp_Mo F hT hK hP hD hS 0 rfl 3 (by decide) zq_390 rfl rfl rfl (Nat.le_of_ble_eq_true rfl) zd_Mo_replace_28 (fun H locs hP hD hS => ?_)
      have hP : va_P G.1 zcl ([(_, .inr (3, [_, _, _, _, _, _, _, _, _])), (_, _)] ++ wr) H := hP
      have hD : va_D A ([(_, .inr (3, [_, _, _, _, _, _, _, _, _])), (_, _)] ++ wr) := hD
      refine lv_aload_n hx hb zd_Mo_replace_31 rfl (lv_at hl 0 rfl) ?_
      refine zg_Mo F hT hK hP 0 rfl 2 (by decide) zq_389 rfl zd_Mo_replace_32 ?_
      exact zx_iret F rfl hS.2.2 zd_Mo_replace_35 ⟨_, rfl, Or.inr ⟨hs, rfl, rfl, hP⟩⟩
    · exact bad (fun h => g2 (by rw [h.2]; rfl))
set_option maxHeartbeats 4000000 in
set_option maxRecDepth 20000 in
theorem zc_Mo_rebuild (l : Launch) (G : xG) {H0 : Heap} {A : Nat → Prop} (mo by_ : Nat) (wr : va_W) (on_ nw : Bool) (sk rb : Nat) (fl wt ct th : Int32) (M : Nat → Int8) (hsk : sk ≤ 5) (hrb : rb < 150) (hP : va_P G.1 zcl ([(mo, eMo by_ on_ (sI sk) nw (nI rb) fl wt ct th), (by_, eB G 76800 M)] ++ wr) H0) (hD : va_D A ([(mo, eMo by_ on_ (sI sk) nw (nI rb) fl wt ct th), (by_, eB G 76800 M)] ++ wr)) (hc5 : sk = 5 → nw = false) : XM l G (rmz 9 200 0 0) zy_Mo_rebuild zb_Mo_rebuild 2 (some FieldType.int) [] H0 A [.ref mo] 0 0 (fun v H => ∃ r : Int32, v = some (.int r) ∧ ((¬ (on_ = true ∧ nw = true) ∧ va_P G.1 zcl ([(mo, eMo by_ on_ (sI sk) nw (nI rb) fl wt ct 1), (by_, eB G 76800 M)] ++ wr) H) ∨ (on_ = true ∧ nw = true ∧ r = nI (149 - rb) ∧ va_P G.1 zcl ([(mo, eMo by_ on_ (sI (if rb + 1 < 150 then sk else 5)) (decide (rb + 1 < 150)) (nI (if rb + 1 < 150 then rb + 1 else 0)) fl wt ct 0), (by_, eB G 76800 M)] ++ wr) H))) (fun _ _ => False) := by
  intro p e s m below meth c F hT hK hH hZ
  subst hH
  have hx := F.1
  have hb := F.2.1
  have hS : va_S A s.heap s.heap [] := va_S.rf
  have hl := lv_entry ([.ref mo]) (n := 2) (Nat.le_of_ble_eq_true rfl)
  rw [lg_entry_eq]
  generalize (lg_sl ([.ref mo]) ++ List.replicate (2 - (lg_sl ([.ref mo])).length) Slot.unset).toArray = ls at hl ⊢
  have hl : lv_has ls 2 [(0, .ref mo)] := hl
  have bad : ¬ (on_ = true ∧ nw = true) → W p l e (rmz 9 200 0 0) s m ([.ref mo] : List Value).toArray below meth c s.heap [] 0 0 (xQ below s A 0 0 (fun v H => ∃ r : Int32, v = some (.int r) ∧ ((¬ (on_ = true ∧ nw = true) ∧ va_P G.1 zcl ([(mo, eMo by_ on_ (sI sk) nw (nI rb) fl wt ct 1), (by_, eB G 76800 M)] ++ wr) H) ∨ (on_ = true ∧ nw = true ∧ r = nI (149 - rb) ∧ va_P G.1 zcl ([(mo, eMo by_ on_ (sI (if rb + 1 < 150 then sk else 5)) (decide (rb + 1 < 150)) (nI (if rb + 1 < 150 then rb + 1 else 0)) fl wt ct 0), (by_, eB G 76800 M)] ++ wr) H))) (fun _ _ => False)) (F0 m 22 ls []) := by
    intro hbad
    refine lv_aload_n hx hb zd_Mo_rebuild_22 rfl (lv_at hl 0 rfl) ?_
    refine lv_iconst (v := 1) hx hb zd_Mo_rebuild_23 (by decide) ?_
    refine zk_V F hT hK hZ hS hl.1 hP 0 rfl rfl rfl (zc_Mo_fails l G mo by_ on_ nw (sI sk) (nI rb) fl wt ct th 1 _ hP hD) zl_Mo_fails (zY_Mo_fails hT) zq_423 zq_425 zs_4 zd_Mo_rebuild_24 rfl ⟨rfl, rfl, Nat.le_of_ble_eq_true rfl, Nat.le_of_ble_eq_true rfl, Nat.le_of_ble_eq_true rfl, Nat.le_of_ble_eq_true rfl⟩ (fun v H locs hv hS => ?_) (fun x H locs hv hS => hv.elim)
    obtain ⟨rfl, hP⟩ := hv
    refine zw_app ?_
    have hP : va_P G.1 zcl ([(_, .inr (3, [_, _, _, _, _, _, _, _, _])), (_, _)] ++ wr) H := hP
    have hD := zw_DP hD hP (by simp only [List.map_append, List.map_cons, List.map_nil])
    exact zx_iret F rfl hS.2.2 zd_Mo_rebuild_27 ⟨_, rfl, Or.inl ⟨hbad, hP⟩⟩
  refine lv_aload_n hx hb zd_Mo_rebuild_0 rfl (lv_at hl 0 rfl) ?_
  refine zg_Mo F hT hK hP 0 rfl 1 (by decide) zq_388 rfl zd_Mo_rebuild_1 ?_
  refine lv_if_eq (tgt := 22) hx hb zd_Mo_rebuild_4 rfl (fun g1 => ?_) (fun g1 => ?_)
  · have g1 := bI_0.mp g1
    exact bad (fun h => by rw [g1] at h; exact absurd h.1 (by decide))
  · obtain rfl : on_ = true := by cases on_ with | true => rfl | false => exact absurd rfl g1
    refine lv_aload_n hx hb zd_Mo_rebuild_7 rfl (lv_at hl 0 rfl) ?_
    refine zg_Mo F hT hK hP 0 rfl 2 (by decide) zq_389 rfl zd_Mo_rebuild_8 ?_
    refine lv_iconst (v := (-1)) hx hb zd_Mo_rebuild_11 (by decide) ?_
    refine lv_icmp_eq (tgt := 22) hx hb zd_Mo_rebuild_12 rfl (fun g2 => ?_) (fun g2 => ?_)
    · exact bad (fun h => by rw [hc5 ((sI_m1 hsk).mp g2)] at h; exact absurd h.2 (by decide))
    · refine lv_aload_n hx hb zd_Mo_rebuild_15 rfl (lv_at hl 0 rfl) ?_
      refine zg_Mo F hT hK hP 0 rfl 3 (by decide) zq_390 rfl zd_Mo_rebuild_16 ?_
      refine lv_if_ne (tgt := 28) hx hb zd_Mo_rebuild_19 rfl (fun g3 => ?_) (fun g3 => ?_)
      · obtain rfl : nw = true := by cases nw with | true => rfl | false => exact absurd rfl g3
        refine lv_aload_n hx hb zd_Mo_rebuild_28 rfl (lv_at hl 0 rfl) ?_
        refine lv_iconst (v := 0) hx hb zd_Mo_rebuild_29 (by decide) ?_
        refine zp_Mo F hT hK hP hD hS 0 rfl 8 (by decide) zq_395 rfl rfl rfl (Nat.le_of_ble_eq_true rfl) zd_Mo_rebuild_30 (fun H locs hP hD hS => ?_)
        have hP : va_P G.1 zcl ([(_, .inr (3, [_, _, _, _, _, _, _, _, _])), (_, _)] ++ wr) H := hP
        have hD : va_D A ([(_, .inr (3, [_, _, _, _, _, _, _, _, _])), (_, _)] ++ wr) := hD
        refine lv_aload_n hx hb zd_Mo_rebuild_33 rfl (lv_at hl 0 rfl) ?_
        refine lv_dup hx hb zd_Mo_rebuild_34 rfl ?_
        refine zg_Mo F hT hK hP 0 rfl 4 (by decide) zq_391 rfl zd_Mo_rebuild_35 ?_
        refine lv_iconst (v := nI 1) hx hb zd_Mo_rebuild_38 (by decide) ?_
        refine lv_iadd hx hb zd_Mo_rebuild_39 ?_
        refine zw_ti (nI (rb + 1)) (nI_1 rb) ?_
        refine zp_Mo F hT hK hP hD hS 0 rfl 4 (by decide) zq_391 rfl rfl rfl (Nat.le_of_ble_eq_true rfl) zd_Mo_rebuild_40 (fun H locs hP hD hS => ?_)
        have hP : va_P G.1 zcl ([(_, .inr (3, [_, _, _, _, _, _, _, _, _])), (_, _)] ++ wr) H := hP
        have hD : va_D A ([(_, .inr (3, [_, _, _, _, _, _, _, _, _])), (_, _)] ++ wr) := hD
        refine lv_sipush (v := nI 150) hx hb zd_Mo_rebuild_43 (by decide) ?_
        refine lv_aload_n hx hb zd_Mo_rebuild_46 rfl (lv_at hl 0 rfl) ?_
        refine zg_Mo F hT hK hP 0 rfl 4 (by decide) zq_391 rfl zd_Mo_rebuild_47 ?_
        refine lv_isub hx hb zd_Mo_rebuild_50 ?_
        refine zw_ti (nI (149 - rb)) (by rw [pk_sub (by omega)]; congr 1; omega) ?_
        refine lv_istore_n hx hb zd_Mo_rebuild_51 rfl hl (by decide) rfl (fun ls hl => ?_)
        have hl : lv_has ls 2 [(1, _), (0, _)] := hl
        refine lv_iload_n hx hb zd_Mo_rebuild_52 rfl (lv_at hl 0 rfl) ?_
        refine lv_if_le (tgt := 58) hx hb zd_Mo_rebuild_53 rfl (fun g4 => ?_) (fun g4 => ?_)
        · have g4 : ¬ rb + 1 < 150 := fun h => absurd g4 (nI_nle (by omega) (by omega))
          refine lv_aload_n hx hb zd_Mo_rebuild_58 rfl (lv_at hl 1 rfl) ?_
          refine lv_iconst (v := (-1)) hx hb zd_Mo_rebuild_59 (by decide) ?_
          refine zp_Mo F hT hK hP hD hS 0 rfl 2 (by decide) zq_389 rfl rfl rfl (Nat.le_of_ble_eq_true rfl) zd_Mo_rebuild_60 (fun H locs hP hD hS => ?_)
          have hP : va_P G.1 zcl ([(_, .inr (3, [_, _, _, _, _, _, _, _, _])), (_, _)] ++ wr) H := hP
          have hD : va_D A ([(_, .inr (3, [_, _, _, _, _, _, _, _, _])), (_, _)] ++ wr) := hD
          refine lv_aload_n hx hb zd_Mo_rebuild_63 rfl (lv_at hl 1 rfl) ?_
          refine lv_iconst (v := 0) hx hb zd_Mo_rebuild_64 (by decide) ?_
          refine zp_Mo F hT hK hP hD hS 0 rfl 3 (by decide) zq_390 rfl rfl rfl (Nat.le_of_ble_eq_true rfl) zd_Mo_rebuild_65 (fun H locs hP hD hS => ?_)
          have hP : va_P G.1 zcl ([(_, .inr (3, [_, _, _, _, _, _, _, _, _])), (_, _)] ++ wr) H := hP
          have hD : va_D A ([(_, .inr (3, [_, _, _, _, _, _, _, _, _])), (_, _)] ++ wr) := hD
          refine lv_aload_n hx hb zd_Mo_rebuild_68 rfl (lv_at hl 1 rfl) ?_
          refine lv_iconst (v := 0) hx hb zd_Mo_rebuild_69 (by decide) ?_
          refine zp_Mo F hT hK hP hD hS 0 rfl 4 (by decide) zq_391 rfl rfl rfl (Nat.le_of_ble_eq_true rfl) zd_Mo_rebuild_70 (fun H locs hP hD hS => ?_)
          have hP : va_P G.1 zcl ([(_, .inr (3, [_, _, _, _, _, _, _, _, _])), (_, _)] ++ wr) H := hP
          have hD : va_D A ([(_, .inr (3, [_, _, _, _, _, _, _, _, _])), (_, _)] ++ wr) := hD
          refine lv_iconst (v := 0) hx hb zd_Mo_rebuild_73 (by decide) ?_
          exact zx_iret F rfl hS.2.2 zd_Mo_rebuild_74 ⟨_, rfl, Or.inr ⟨rfl, rfl, by rw [show 149 - rb = 0 by omega]; rfl, by rw [if_neg g4, if_neg g4, decide_eq_false g4]; exact hP⟩⟩
        · have g4 : rb + 1 < 150 := by
            by_cases h : rb = 149
            · subst h; exact absurd (by decide) g4
            · omega
          refine lv_iload_n hx hb zd_Mo_rebuild_56 rfl (lv_at hl 0 rfl) ?_
          exact zx_iret F rfl hS.2.2 zd_Mo_rebuild_57 ⟨_, rfl, Or.inr ⟨rfl, rfl, rfl, by rw [if_pos g4, if_pos g4, decide_eq_true g4]; exact hP⟩⟩
      · have g3 := bI_0.mp g3
        exact bad (fun h => by rw [g3] at h; exact absurd h.2 (by decide))
set_option maxHeartbeats 4000000 in
set_option maxRecDepth 20000 in
theorem zc_Mo_power (l : Launch) (G : xG) {H0 : Heap} {A : Nat → Prop} (mo by_ : Nat) (wr : va_W) (on_ nw : Bool) (sk rb : Nat) (fl wt ct th : Int32) (M : Nat → Int8) (k0 b0 : Int32) (re : Bool) (hsk : sk ≤ 5) (hrb : rb < 150) (hP : va_P G.1 zcl ([(mo, eMo by_ on_ (sI sk) nw (nI rb) fl wt ct th), (by_, eB G 76800 M)] ++ wr) H0) (hD : va_D A ([(mo, eMo by_ on_ (sI sk) nw (nI rb) fl wt ct th), (by_, eB G 76800 M)] ++ wr)) : XM l G (rmz 9 200 0 0) zy_Mo_power zb_Mo_power 4 none [] H0 A [.ref mo, .int k0, .int b0, .int (bI re)] 0 0 (fun v H => v = none ∧ ((¬ okW k0 b0 ∧ va_P G.1 zcl ([(mo, eMo by_ on_ (sI sk) nw (nI rb) fl wt ct 1), (by_, eB G 76800 M)] ++ wr) H) ∨ (okW k0 b0 ∧ va_P G.1 zcl ([(mo, eMo by_ on_ (sI sk) nw (nI rb) (if re = true then 2 else 1) k0 b0 0), (by_, eB G 76800 M)] ++ wr) H))) (fun _ _ => False) := by
  intro p e s m below meth c F hT hK hH hZ
  subst hH
  have hx := F.1
  have hb := F.2.1
  have hS : va_S A s.heap s.heap [] := va_S.rf
  have hl := lv_entry ([.ref mo, .int k0, .int b0, .int (bI re)]) (n := 4) (Nat.le_of_ble_eq_true rfl)
  rw [lg_entry_eq]
  generalize (lg_sl ([.ref mo, .int k0, .int b0, .int (bI re)]) ++ List.replicate (4 - (lg_sl ([.ref mo, .int k0, .int b0, .int (bI re)])).length) Slot.unset).toArray = ls at hl ⊢
  have hl : lv_has ls 4 [(0, .ref mo), (1, .int k0), (2, .int b0), (3, .int (bI re))] := hl
  have bad : ¬ okW k0 b0 → W p l e (rmz 9 200 0 0) s m ([.ref mo, .int k0, .int b0, .int (bI re)] : List Value).toArray below meth c s.heap [] 0 0 (xQ below s A 0 0 (fun v H => v = none ∧ ((¬ okW k0 b0 ∧ va_P G.1 zcl ([(mo, eMo by_ on_ (sI sk) nw (nI rb) fl wt ct 1), (by_, eB G 76800 M)] ++ wr) H) ∨ (okW k0 b0 ∧ va_P G.1 zcl ([(mo, eMo by_ on_ (sI sk) nw (nI rb) (if re = true then 2 else 1) k0 b0 0), (by_, eB G 76800 M)] ++ wr) H))) (fun _ _ => False)) (F0 m 22 ls [.ref mo]) := by
    intro hbad
    refine lv_iconst (v := 1) hx hb zd_Mo_power_22 (by decide) ?_
    refine lv_goto (tgt := 27) hx hb zd_Mo_power_23 rfl ?_
    refine zp_Mo F hT hK hP hD hS 0 rfl 8 (by decide) zq_395 rfl rfl rfl (Nat.le_of_ble_eq_true rfl) zd_Mo_power_27 (fun H locs hP hD hS => ?_)
    have hP : va_P G.1 zcl ([(_, .inr (3, [_, _, _, _, _, _, _, _, _])), (_, _)] ++ wr) H := hP
    have hD : va_D A ([(_, .inr (3, [_, _, _, _, _, _, _, _, _])), (_, _)] ++ wr) := hD
    refine lv_aload_n hx hb zd_Mo_power_30 rfl (lv_at hl 0 rfl) ?_
    refine zg_Mo F hT hK hP 0 rfl 8 (by decide) zq_395 rfl zd_Mo_power_31 ?_
    refine lv_if_eq (tgt := 38) hx hb zd_Mo_power_34 rfl (fun hc9 => absurd hc9 (by decide)) (fun _ => ?_)
    exact zx_vret F hS.2.2 zd_Mo_power_37 ⟨rfl, Or.inl ⟨hbad, hP⟩⟩
  refine lv_aload_n hx hb zd_Mo_power_0 rfl (lv_at hl 0 rfl) ?_
  refine lv_iload_n hx hb zd_Mo_power_1 rfl (lv_at hl 1 rfl) ?_
  refine lv_if_lt (tgt := 22) hx hb zd_Mo_power_2 rfl (fun g1 => ?_) (fun g1 => ?_)
  · exact bad (fun h => h.1 g1)
  · refine lv_iload_n hx hb zd_Mo_power_5 rfl (lv_at hl 1 rfl) ?_
    refine lv_bipush (v := nI 10) hx hb zd_Mo_power_6 (by decide) ?_
    refine lv_icmp_gt (tgt := 22) hx hb zd_Mo_power_8 rfl (fun g2 => ?_) (fun g2 => ?_)
    · exact bad (fun h => h.2.1 g2)
    · refine lv_iload_n hx hb zd_Mo_power_11 rfl (lv_at hl 2 rfl) ?_
      refine lv_if_lt (tgt := 22) hx hb zd_Mo_power_12 rfl (fun g3 => ?_) (fun g3 => ?_)
      · exact bad (fun h => h.2.2.1 g3)
      · refine lv_iload_n hx hb zd_Mo_power_15 rfl (lv_at hl 2 rfl) ?_
        refine lv_sipush (v := nI 200) hx hb zd_Mo_power_16 (by decide) ?_
        refine lv_icmp_le (tgt := 26) hx hb zd_Mo_power_19 rfl (fun g4 => ?_) (fun g4 => ?_)
        · refine lv_iconst (v := 0) hx hb zd_Mo_power_26 (by decide) ?_
          refine zp_Mo F hT hK hP hD hS 0 rfl 8 (by decide) zq_395 rfl rfl rfl (Nat.le_of_ble_eq_true rfl) zd_Mo_power_27 (fun H locs hP hD hS => ?_)
          have hP : va_P G.1 zcl ([(_, .inr (3, [_, _, _, _, _, _, _, _, _])), (_, _)] ++ wr) H := hP
          have hD : va_D A ([(_, .inr (3, [_, _, _, _, _, _, _, _, _])), (_, _)] ++ wr) := hD
          refine lv_aload_n hx hb zd_Mo_power_30 rfl (lv_at hl 0 rfl) ?_
          refine zg_Mo F hT hK hP 0 rfl 8 (by decide) zq_395 rfl zd_Mo_power_31 ?_
          refine lv_if_eq (tgt := 38) hx hb zd_Mo_power_34 rfl (fun _ => ?_) (fun hc9 => absurd hc9 (fun h => h (by decide)))
          refine lv_aload_n hx hb zd_Mo_power_38 rfl (lv_at hl 0 rfl) ?_
          refine lv_iload_n hx hb zd_Mo_power_39 rfl (lv_at hl 3 rfl) ?_
          refine lv_if_eq (tgt := 47) hx hb zd_Mo_power_40 rfl (fun g5 => ?_) (fun g5 => ?_)
          · obtain rfl := bI_0.mp g5
            refine lv_iconst (v := 1) hx hb zd_Mo_power_47 (by decide) ?_
            refine zp_Mo F hT hK hP hD hS 0 rfl 5 (by decide) zq_392 rfl rfl rfl (Nat.le_of_ble_eq_true rfl) zd_Mo_power_48 (fun H locs hP hD hS => ?_)
            have hP : va_P G.1 zcl ([(_, .inr (3, [_, _, _, _, _, _, _, _, _])), (_, _)] ++ wr) H := hP
            have hD : va_D A ([(_, .inr (3, [_, _, _, _, _, _, _, _, _])), (_, _)] ++ wr) := hD
            refine lv_aload_n hx hb zd_Mo_power_51 rfl (lv_at hl 0 rfl) ?_
            refine lv_iload_n hx hb zd_Mo_power_52 rfl (lv_at hl 1 rfl) ?_
            refine zp_Mo F hT hK hP hD hS 0 rfl 6 (by decide) zq_393 rfl rfl rfl (Nat.le_of_ble_eq_true rfl) zd_Mo_power_53 (fun H locs hP hD hS => ?_)
            have hP : va_P G.1 zcl ([(_, .inr (3, [_, _, _, _, _, _, _, _, _])), (_, _)] ++ wr) H := hP
            have hD : va_D A ([(_, .inr (3, [_, _, _, _, _, _, _, _, _])), (_, _)] ++ wr) := hD
            refine lv_aload_n hx hb zd_Mo_power_56 rfl (lv_at hl 0 rfl) ?_
            refine lv_iload_n hx hb zd_Mo_power_57 rfl (lv_at hl 2 rfl) ?_
            refine zp_Mo F hT hK hP hD hS 0 rfl 7 (by decide) zq_394 rfl rfl rfl (Nat.le_of_ble_eq_true rfl) zd_Mo_power_58 (fun H locs hP hD hS => ?_)
            have hP : va_P G.1 zcl ([(_, .inr (3, [_, _, _, _, _, _, _, _, _])), (_, _)] ++ wr) H := hP
            have hD : va_D A ([(_, .inr (3, [_, _, _, _, _, _, _, _, _])), (_, _)] ++ wr) := hD
            exact zx_vret F hS.2.2 zd_Mo_power_61 ⟨rfl, Or.inr ⟨⟨g1, g2, g3, g4⟩, hP⟩⟩
          · obtain rfl : re = true := by cases re with | true => rfl | false => exact absurd rfl g5
            refine lv_iconst (v := 2) hx hb zd_Mo_power_43 (by decide) ?_
            refine lv_goto (tgt := 48) hx hb zd_Mo_power_44 rfl ?_
            refine zp_Mo F hT hK hP hD hS 0 rfl 5 (by decide) zq_392 rfl rfl rfl (Nat.le_of_ble_eq_true rfl) zd_Mo_power_48 (fun H locs hP hD hS => ?_)
            have hP : va_P G.1 zcl ([(_, .inr (3, [_, _, _, _, _, _, _, _, _])), (_, _)] ++ wr) H := hP
            have hD : va_D A ([(_, .inr (3, [_, _, _, _, _, _, _, _, _])), (_, _)] ++ wr) := hD
            refine lv_aload_n hx hb zd_Mo_power_51 rfl (lv_at hl 0 rfl) ?_
            refine lv_iload_n hx hb zd_Mo_power_52 rfl (lv_at hl 1 rfl) ?_
            refine zp_Mo F hT hK hP hD hS 0 rfl 6 (by decide) zq_393 rfl rfl rfl (Nat.le_of_ble_eq_true rfl) zd_Mo_power_53 (fun H locs hP hD hS => ?_)
            have hP : va_P G.1 zcl ([(_, .inr (3, [_, _, _, _, _, _, _, _, _])), (_, _)] ++ wr) H := hP
            have hD : va_D A ([(_, .inr (3, [_, _, _, _, _, _, _, _, _])), (_, _)] ++ wr) := hD
            refine lv_aload_n hx hb zd_Mo_power_56 rfl (lv_at hl 0 rfl) ?_
            refine lv_iload_n hx hb zd_Mo_power_57 rfl (lv_at hl 2 rfl) ?_
            refine zp_Mo F hT hK hP hD hS 0 rfl 7 (by decide) zq_394 rfl rfl rfl (Nat.le_of_ble_eq_true rfl) zd_Mo_power_58 (fun H locs hP hD hS => ?_)
            have hP : va_P G.1 zcl ([(_, .inr (3, [_, _, _, _, _, _, _, _, _])), (_, _)] ++ wr) H := hP
            have hD : va_D A ([(_, .inr (3, [_, _, _, _, _, _, _, _, _])), (_, _)] ++ wr) := hD
            exact zx_vret F hS.2.2 zd_Mo_power_61 ⟨rfl, Or.inr ⟨⟨g1, g2, g3, g4⟩, hP⟩⟩
        · exact bad (fun h => g4 h.2.2.2)
set_option maxHeartbeats 4000000 in
set_option maxRecDepth 20000 in
theorem zc_Mo_recover (l : Launch) (G : xG) {H0 : Heap} {A : Nat → Prop} (mo by_ : Nat) (wr : va_W) (on_ nw : Bool) (sk rb : Nat) (fl wt ct th : Int32) (M : Nat → Int8) (hsk : sk ≤ 5) (hrb : rb < 150) (hP : va_P G.1 zcl ([(mo, eMo by_ on_ (sI sk) nw (nI rb) fl wt ct th), (by_, eB G 76800 M)] ++ wr) H0) (hD : va_D A ([(mo, eMo by_ on_ (sI sk) nw (nI rb) fl wt ct th), (by_, eB G 76800 M)] ++ wr)) : XM l G (rmz 9 200 0 0) zy_Mo_recover zb_Mo_recover 1 none [] H0 A [.ref mo] 0 0 (fun v H => v = none ∧ ((fl = 2 ∧ va_P G.1 zcl ([(mo, eMo by_ false (sI sk) nw (nI rb) 0 wt ct 1), (by_, eB G 76800 M)] ++ wr) H) ∨ (¬ fl = 2 ∧ va_P G.1 zcl ([(mo, eMo by_ true (sI sk) nw (nI rb) 0 wt ct 0), (by_, eB G 76800 M)] ++ wr) H))) (fun _ _ => False) := by
  intro p e s m below meth c F hT hK hH hZ
  subst hH
  have hx := F.1
  have hb := F.2.1
  have hS : va_S A s.heap s.heap [] := va_S.rf
  have hl := lv_entry ([.ref mo]) (n := 1) (Nat.le_of_ble_eq_true rfl)
  rw [lg_entry_eq]
  generalize (lg_sl ([.ref mo]) ++ List.replicate (1 - (lg_sl ([.ref mo])).length) Slot.unset).toArray = ls at hl ⊢
  have hl : lv_has ls 1 [(0, .ref mo)] := hl
  refine lv_aload_n hx hb zd_Mo_recover_0 rfl (lv_at hl 0 rfl) ?_
  refine lv_aload_n hx hb zd_Mo_recover_1 rfl (lv_at hl 0 rfl) ?_
  refine zg_Mo F hT hK hP 0 rfl 5 (by decide) zq_392 rfl zd_Mo_recover_2 ?_
  refine lv_iconst (v := 2) hx hb zd_Mo_recover_5 (by decide) ?_
  refine lv_icmp_eq (tgt := 13) hx hb zd_Mo_recover_6 rfl (fun g1 => ?_) (fun g1 => ?_)
  · refine lv_iconst (v := 0) hx hb zd_Mo_recover_13 (by decide) ?_
    refine zp_Mo F hT hK hP hD hS 0 rfl 1 (by decide) zq_388 rfl rfl rfl (Nat.le_of_ble_eq_true rfl) zd_Mo_recover_14 (fun H locs hP hD hS => ?_)
    have hP : va_P G.1 zcl ([(_, .inr (3, [_, _, _, _, _, _, _, _, _])), (_, _)] ++ wr) H := hP
    have hD : va_D A ([(_, .inr (3, [_, _, _, _, _, _, _, _, _])), (_, _)] ++ wr) := hD
    refine lv_aload_n hx hb zd_Mo_recover_17 rfl (lv_at hl 0 rfl) ?_
    refine lv_aload_n hx hb zd_Mo_recover_18 rfl (lv_at hl 0 rfl) ?_
    refine zg_Mo F hT hK hP 0 rfl 1 (by decide) zq_388 rfl zd_Mo_recover_19 ?_
    refine lv_if_eq (tgt := 29) hx hb zd_Mo_recover_22 rfl (fun _ => ?_) (fun hc9 => absurd hc9 (fun h => h (by decide)))
    refine lv_iconst (v := 1) hx hb zd_Mo_recover_29 (by decide) ?_
    refine zp_Mo F hT hK hP hD hS 0 rfl 8 (by decide) zq_395 rfl rfl rfl (Nat.le_of_ble_eq_true rfl) zd_Mo_recover_30 (fun H locs hP hD hS => ?_)
    have hP : va_P G.1 zcl ([(_, .inr (3, [_, _, _, _, _, _, _, _, _])), (_, _)] ++ wr) H := hP
    have hD : va_D A ([(_, .inr (3, [_, _, _, _, _, _, _, _, _])), (_, _)] ++ wr) := hD
    refine lv_aload_n hx hb zd_Mo_recover_33 rfl (lv_at hl 0 rfl) ?_
    refine lv_iconst (v := 0) hx hb zd_Mo_recover_34 (by decide) ?_
    refine zp_Mo F hT hK hP hD hS 0 rfl 5 (by decide) zq_392 rfl rfl rfl (Nat.le_of_ble_eq_true rfl) zd_Mo_recover_35 (fun H locs hP hD hS => ?_)
    have hP : va_P G.1 zcl ([(_, .inr (3, [_, _, _, _, _, _, _, _, _])), (_, _)] ++ wr) H := hP
    have hD : va_D A ([(_, .inr (3, [_, _, _, _, _, _, _, _, _])), (_, _)] ++ wr) := hD
    exact zx_vret F hS.2.2 zd_Mo_recover_38 ⟨rfl, Or.inl ⟨g1, hP⟩⟩
  · refine lv_iconst (v := 1) hx hb zd_Mo_recover_9 (by decide) ?_
    refine lv_goto (tgt := 14) hx hb zd_Mo_recover_10 rfl ?_
    refine zp_Mo F hT hK hP hD hS 0 rfl 1 (by decide) zq_388 rfl rfl rfl (Nat.le_of_ble_eq_true rfl) zd_Mo_recover_14 (fun H locs hP hD hS => ?_)
    have hP : va_P G.1 zcl ([(_, .inr (3, [_, _, _, _, _, _, _, _, _])), (_, _)] ++ wr) H := hP
    have hD : va_D A ([(_, .inr (3, [_, _, _, _, _, _, _, _, _])), (_, _)] ++ wr) := hD
    refine lv_aload_n hx hb zd_Mo_recover_17 rfl (lv_at hl 0 rfl) ?_
    refine lv_aload_n hx hb zd_Mo_recover_18 rfl (lv_at hl 0 rfl) ?_
    refine zg_Mo F hT hK hP 0 rfl 1 (by decide) zq_388 rfl zd_Mo_recover_19 ?_
    refine lv_if_eq (tgt := 29) hx hb zd_Mo_recover_22 rfl (fun hc9 => absurd hc9 (by decide)) (fun _ => ?_)
    refine lv_iconst (v := 0) hx hb zd_Mo_recover_25 (by decide) ?_
    refine lv_goto (tgt := 30) hx hb zd_Mo_recover_26 rfl ?_
    refine zp_Mo F hT hK hP hD hS 0 rfl 8 (by decide) zq_395 rfl rfl rfl (Nat.le_of_ble_eq_true rfl) zd_Mo_recover_30 (fun H locs hP hD hS => ?_)
    have hP : va_P G.1 zcl ([(_, .inr (3, [_, _, _, _, _, _, _, _, _])), (_, _)] ++ wr) H := hP
    have hD : va_D A ([(_, .inr (3, [_, _, _, _, _, _, _, _, _])), (_, _)] ++ wr) := hD
    refine lv_aload_n hx hb zd_Mo_recover_33 rfl (lv_at hl 0 rfl) ?_
    refine lv_iconst (v := 0) hx hb zd_Mo_recover_34 (by decide) ?_
    refine zp_Mo F hT hK hP hD hS 0 rfl 5 (by decide) zq_392 rfl rfl rfl (Nat.le_of_ble_eq_true rfl) zd_Mo_recover_35 (fun H locs hP hD hS => ?_)
    have hP : va_P G.1 zcl ([(_, .inr (3, [_, _, _, _, _, _, _, _, _])), (_, _)] ++ wr) H := hP
    have hD : va_D A ([(_, .inr (3, [_, _, _, _, _, _, _, _, _])), (_, _)] ++ wr) := hD
    exact zx_vret F hS.2.2 zd_Mo_recover_38 ⟨rfl, Or.inr ⟨g1, hP⟩⟩
set_option maxHeartbeats 4000000 in
set_option maxRecDepth 20000 in
theorem zc_Mo_told (l : Launch) (G : xG) {H0 : Heap} {A : Nat → Prop} (mo by_ : Nat) (wr : va_W) (on_ nw : Bool) (sk rb : Nat) (fl wt ct th : Int32) (M : Nat → Int8) (what : Int32) (hsk : sk ≤ 5) (hrb : rb < 150) (hP : va_P G.1 zcl ([(mo, eMo by_ on_ (sI sk) nw (nI rb) fl wt ct th), (by_, eB G 76800 M)] ++ wr) H0) (hD : va_D A ([(mo, eMo by_ on_ (sI sk) nw (nI rb) fl wt ct th), (by_, eB G 76800 M)] ++ wr)) : XM l G (rmz 9 200 0 0) zy_Mo_told zb_Mo_told 2 (some FieldType.int) [] H0 A [.ref mo, .int what] 0 0 (fun v H => ∃ r : Int32, v = some (.int r) ∧ ((¬ (¬ what < 0 ∧ what ≤ 3) ∧ va_P G.1 zcl ([(mo, eMo by_ on_ (sI sk) nw (nI rb) fl wt ct 1), (by_, eB G 76800 M)] ++ wr) H) ∨ ((¬ what < 0 ∧ what ≤ 3) ∧ r = tellV on_ sk nw rb what ∧ va_P G.1 zcl ([(mo, eMo by_ on_ (sI sk) nw (nI rb) fl wt ct 0), (by_, eB G 76800 M)] ++ wr) H))) (fun _ _ => False) := by
  intro p e s m below meth c F hT hK hH hZ
  subst hH
  have hx := F.1
  have hb := F.2.1
  have hS : va_S A s.heap s.heap [] := va_S.rf
  have hl := lv_entry ([.ref mo, .int what]) (n := 2) (Nat.le_of_ble_eq_true rfl)
  rw [lg_entry_eq]
  generalize (lg_sl ([.ref mo, .int what]) ++ List.replicate (2 - (lg_sl ([.ref mo, .int what])).length) Slot.unset).toArray = ls at hl ⊢
  have hl : lv_has ls 2 [(0, .ref mo), (1, .int what)] := hl
  have bad : ¬ (¬ what < 0 ∧ what ≤ 3) → W p l e (rmz 9 200 0 0) s m ([.ref mo, .int what] : List Value).toArray below meth c s.heap [] 0 0 (xQ below s A 0 0 (fun v H => ∃ r : Int32, v = some (.int r) ∧ ((¬ (¬ what < 0 ∧ what ≤ 3) ∧ va_P G.1 zcl ([(mo, eMo by_ on_ (sI sk) nw (nI rb) fl wt ct 1), (by_, eB G 76800 M)] ++ wr) H) ∨ ((¬ what < 0 ∧ what ≤ 3) ∧ r = tellV on_ sk nw rb what ∧ va_P G.1 zcl ([(mo, eMo by_ on_ (sI sk) nw (nI rb) fl wt ct 0), (by_, eB G 76800 M)] ++ wr) H))) (fun _ _ => False)) (F0 m 9 ls []) := by
    intro hbad
    refine lv_aload_n hx hb zd_Mo_told_9 rfl (lv_at hl 0 rfl) ?_
    refine lv_iconst (v := 1) hx hb zd_Mo_told_10 (by decide) ?_
    refine zk_V F hT hK hZ hS hl.1 hP 0 rfl rfl rfl (zc_Mo_fails l G mo by_ on_ nw (sI sk) (nI rb) fl wt ct th 1 _ hP hD) zl_Mo_fails (zY_Mo_fails hT) zq_423 zq_425 zs_4 zd_Mo_told_11 rfl ⟨rfl, rfl, Nat.le_of_ble_eq_true rfl, Nat.le_of_ble_eq_true rfl, Nat.le_of_ble_eq_true rfl, Nat.le_of_ble_eq_true rfl⟩ (fun v H locs hv hS => ?_) (fun x H locs hv hS => hv.elim)
    obtain ⟨rfl, hP⟩ := hv
    refine zw_app ?_
    have hP : va_P G.1 zcl ([(_, .inr (3, [_, _, _, _, _, _, _, _, _])), (_, _)] ++ wr) H := hP
    have hD := zw_DP hD hP (by simp only [List.map_append, List.map_cons, List.map_nil])
    exact zx_iret F rfl hS.2.2 zd_Mo_told_14 ⟨_, rfl, Or.inl ⟨hbad, hP⟩⟩
  refine lv_iload_n hx hb zd_Mo_told_0 rfl (lv_at hl 1 rfl) ?_
  refine lv_if_lt (tgt := 9) hx hb zd_Mo_told_1 rfl (fun g1 => ?_) (fun g1 => ?_)
  · exact bad (fun h => h.1 g1)
  · refine lv_iload_n hx hb zd_Mo_told_4 rfl (lv_at hl 1 rfl) ?_
    refine lv_iconst (v := 3) hx hb zd_Mo_told_5 (by decide) ?_
    refine lv_icmp_le (tgt := 15) hx hb zd_Mo_told_6 rfl (fun g2 => ?_) (fun g2 => ?_)
    · have hw : ¬ what < 0 ∧ what ≤ 3 := ⟨g1, g2⟩
      refine lv_aload_n hx hb zd_Mo_told_15 rfl (lv_at hl 0 rfl) ?_
      refine lv_iconst (v := 0) hx hb zd_Mo_told_16 (by decide) ?_
      refine zp_Mo F hT hK hP hD hS 0 rfl 8 (by decide) zq_395 rfl rfl rfl (Nat.le_of_ble_eq_true rfl) zd_Mo_told_17 (fun H locs hP hD hS => ?_)
      have hP : va_P G.1 zcl ([(_, .inr (3, [_, _, _, _, _, _, _, _, _])), (_, _)] ++ wr) H := hP
      have hD : va_D A ([(_, .inr (3, [_, _, _, _, _, _, _, _, _])), (_, _)] ++ wr) := hD
      refine lv_iload_n hx hb zd_Mo_told_20 rfl (lv_at hl 1 rfl) ?_
      refine lv_if_ne (tgt := 39) hx hb zd_Mo_told_21 rfl (fun e0 => ?_) (fun e0 => ?_)
      · refine lv_iload_n hx hb zd_Mo_told_39 rfl (lv_at hl 1 rfl) ?_
        refine lv_iconst (v := 1) hx hb zd_Mo_told_40 (by decide) ?_
        refine lv_icmp_ne (tgt := 51) hx hb zd_Mo_told_41 rfl (fun e1 => ?_) (fun e1 => ?_)
        · refine lv_iload_n hx hb zd_Mo_told_51 rfl (lv_at hl 1 rfl) ?_
          refine lv_iconst (v := 2) hx hb zd_Mo_told_52 (by decide) ?_
          refine lv_icmp_ne (tgt := 71) hx hb zd_Mo_told_53 rfl (fun e2 => ?_) (fun e2 => ?_)
          · refine lv_aload_n hx hb zd_Mo_told_71 rfl (lv_at hl 0 rfl) ?_
            refine zg_Mo F hT hK hP 0 rfl 4 (by decide) zq_391 rfl zd_Mo_told_72 ?_
            exact zx_iret F rfl hS.2.2 zd_Mo_told_75 ⟨_, rfl, Or.inr ⟨hw, by unfold tellV; rw [if_neg e0, if_neg e1, if_neg e2], hP⟩⟩
          · subst e2
            refine lv_aload_n hx hb zd_Mo_told_56 rfl (lv_at hl 0 rfl) ?_
            refine zg_Mo F hT hK hP 0 rfl 3 (by decide) zq_390 rfl zd_Mo_told_57 ?_
            refine lv_if_eq (tgt := 67) hx hb zd_Mo_told_60 rfl (fun g3 => ?_) (fun g3 => ?_)
            · obtain rfl := bI_0.mp g3
              refine lv_iconst (v := 0) hx hb zd_Mo_told_67 (by decide) ?_
              refine lv_goto (tgt := 75) hx hb zd_Mo_told_68 rfl ?_
              exact zx_iret F rfl hS.2.2 zd_Mo_told_75 ⟨_, rfl, Or.inr ⟨hw, by unfold tellV; rfl, hP⟩⟩
            · obtain rfl : nw = true := by cases nw with | true => rfl | false => exact absurd rfl g3
              refine lv_iconst (v := 1) hx hb zd_Mo_told_63 (by decide) ?_
              refine lv_goto (tgt := 75) hx hb zd_Mo_told_64 rfl ?_
              exact zx_iret F rfl hS.2.2 zd_Mo_told_75 ⟨_, rfl, Or.inr ⟨hw, by unfold tellV; rfl, hP⟩⟩
        · subst e1
          refine lv_aload_n hx hb zd_Mo_told_44 rfl (lv_at hl 0 rfl) ?_
          refine zg_Mo F hT hK hP 0 rfl 2 (by decide) zq_389 rfl zd_Mo_told_45 ?_
          refine lv_goto (tgt := 75) hx hb zd_Mo_told_48 rfl ?_
          exact zx_iret F rfl hS.2.2 zd_Mo_told_75 ⟨_, rfl, Or.inr ⟨hw, by unfold tellV; rfl, hP⟩⟩
      · subst e0
        refine lv_aload_n hx hb zd_Mo_told_24 rfl (lv_at hl 0 rfl) ?_
        refine zg_Mo F hT hK hP 0 rfl 1 (by decide) zq_388 rfl zd_Mo_told_25 ?_
        refine lv_if_eq (tgt := 35) hx hb zd_Mo_told_28 rfl (fun g3 => ?_) (fun g3 => ?_)
        · obtain rfl := bI_0.mp g3
          refine lv_iconst (v := 0) hx hb zd_Mo_told_35 (by decide) ?_
          refine lv_goto (tgt := 75) hx hb zd_Mo_told_36 rfl ?_
          exact zx_iret F rfl hS.2.2 zd_Mo_told_75 ⟨_, rfl, Or.inr ⟨hw, by unfold tellV; rfl, hP⟩⟩
        · obtain rfl : on_ = true := by cases on_ with | true => rfl | false => exact absurd rfl g3
          refine lv_iconst (v := 1) hx hb zd_Mo_told_31 (by decide) ?_
          refine lv_goto (tgt := 75) hx hb zd_Mo_told_32 rfl ?_
          exact zx_iret F rfl hS.2.2 zd_Mo_told_75 ⟨_, rfl, Or.inr ⟨hw, by unfold tellV; rfl, hP⟩⟩
    · exact bad (fun h => g2 h.2)
set_option maxHeartbeats 4000000 in
set_option maxRecDepth 20000 in
theorem zc_Mo_check (l : Launch) (G : xG) {H0 : Heap} {A : Nat → Prop} (mo by_ : Nat) (wr : va_W) (on_ nw : Bool) (sk rb : Nat) (fl wt ct th : Int32) (M : Nat → Int8) (hsk : sk ≤ 5) (hrb : rb < 150) (hP : va_P G.1 zcl ([(mo, eMo by_ on_ (sI sk) nw (nI rb) fl wt ct th), (by_, eB G 76800 M)] ++ wr) H0) (hD : va_D A ([(mo, eMo by_ on_ (sI sk) nw (nI rb) fl wt ct th), (by_, eB G 76800 M)] ++ wr)) : XM l G (rmz 9 200 0 0) zy_Mo_check zb_Mo_check 1 (some FieldType.int) [] H0 A [.ref mo] 0 0 (fun v H => v = some (.int 0) ∧ va_P G.1 zcl ([(mo, eMo by_ on_ (sI sk) nw (nI rb) fl wt ct (if on_ = true then 0 else 1)), (by_, eB G 76800 M)] ++ wr) H) (fun _ _ => False) := by
  intro p e s m below meth c F hT hK hH hZ
  subst hH
  have hx := F.1
  have hb := F.2.1
  have hS : va_S A s.heap s.heap [] := va_S.rf
  have hl := lv_entry ([.ref mo]) (n := 1) (Nat.le_of_ble_eq_true rfl)
  rw [lg_entry_eq]
  generalize (lg_sl ([.ref mo]) ++ List.replicate (1 - (lg_sl ([.ref mo])).length) Slot.unset).toArray = ls at hl ⊢
  have hl : lv_has ls 1 [(0, .ref mo)] := hl
  refine lv_aload_n hx hb zd_Mo_check_0 rfl (lv_at hl 0 rfl) ?_
  refine lv_aload_n hx hb zd_Mo_check_1 rfl (lv_at hl 0 rfl) ?_
  refine zg_Mo F hT hK hP 0 rfl 1 (by decide) zq_388 rfl zd_Mo_check_2 ?_
  refine lv_if_eq (tgt := 12) hx hb zd_Mo_check_5 rfl (fun g1 => ?_) (fun g1 => ?_)
  · obtain rfl := bI_0.mp g1
    refine lv_iconst (v := 1) hx hb zd_Mo_check_12 (by decide) ?_
    refine zp_Mo F hT hK hP hD hS 0 rfl 8 (by decide) zq_395 rfl rfl rfl (Nat.le_of_ble_eq_true rfl) zd_Mo_check_13 (fun H locs hP hD hS => ?_)
    have hP : va_P G.1 zcl ([(_, .inr (3, [_, _, _, _, _, _, _, _, _])), (_, _)] ++ wr) H := hP
    have hD : va_D A ([(_, .inr (3, [_, _, _, _, _, _, _, _, _])), (_, _)] ++ wr) := hD
    refine lv_iconst (v := 0) hx hb zd_Mo_check_16 (by decide) ?_
    exact zx_iret F rfl hS.2.2 zd_Mo_check_17 ⟨rfl, hP⟩
  · obtain rfl : on_ = true := by cases on_ with | true => rfl | false => exact absurd rfl g1
    refine lv_iconst (v := 0) hx hb zd_Mo_check_8 (by decide) ?_
    refine lv_goto (tgt := 13) hx hb zd_Mo_check_9 rfl ?_
    refine zp_Mo F hT hK hP hD hS 0 rfl 8 (by decide) zq_395 rfl rfl rfl (Nat.le_of_ble_eq_true rfl) zd_Mo_check_13 (fun H locs hP hD hS => ?_)
    have hP : va_P G.1 zcl ([(_, .inr (3, [_, _, _, _, _, _, _, _, _])), (_, _)] ++ wr) H := hP
    have hD : va_D A ([(_, .inr (3, [_, _, _, _, _, _, _, _, _])), (_, _)] ++ wr) := hD
    refine lv_iconst (v := 0) hx hb zd_Mo_check_16 (by decide) ?_
    exact zx_iret F rfl hS.2.2 zd_Mo_check_17 ⟨rfl, hP⟩
end
section
/-! the law's helpers: what is thrown is caught, and told by a number -/
theorem SysI.mk {G : xG} {pa pw ar dk on pt rc rw ou : Nat} {wr : va_W} {M : Nat → Int8} {off : Bool} {wn : Int32} {L b sk rb : Nat} {nw : Bool} {H : Heap} {lf : Int32} {am bh : Bool} {D X1 X2 X3 X4 : Nat → Int8} {f : Nat → Int64} (hP : va_P G.1 zcl ((zS8 G pa pw ar dk on pt rc rw off wn lf b am bh sk rb nw D X1 X2 X3 X4 ++ ((ou, eJ G f) :: wr))) H) (h : RecI D M sk nw rb ∧ CfgI sk nw rb ∧ (off = false → OnI D M sk nw rb) ∧ OffI D M sk nw rb ∧ (wn = 0 ∨ wn = 3 ∨ wn = 4) ∧ b ≤ 200 ∧ (wn = 0 → lf = nI L ∧ L ≤ 10) ∧ anyRow X4) : SysI G pa pw ar dk on pt rc rw ((ou, eJ G f) :: wr) M off wn L b sk rb nw anyRow H := ⟨lf, am, bh, D, X1, X2, X3, X4, hP, h⟩
set_option maxHeartbeats 4000000 in
set_option maxRecDepth 20000 in
theorem zc_La_set (l : Launch) (G : xG) {H0 : Heap} {A : Nat → Prop} (pa pw ar dk on pt rc rw : Nat) (wr : va_W) (M : Nat → Int8) (off : Bool) (wn : Int32) (L b sk rb : Nat) (nw : Bool) (ou : Nat) (f : Nat → Int64) (n i : Int32) (w : Int64) (hfl : l.flags = flags0) (hI : SysI G pa pw ar dk on pt rc rw ((ou, eJ G f) :: wr) M off wn L b sk rb nw anyRow H0) (hD0 : va_D A (zA8 pa pw ar dk on pt rc rw ++ (zD ou :: wr))) : XM l G (rmz 13 520 6 36) zy_La_set zb_La_set 7 (some FieldType.int) [(0, 11, 14, 13), (0, 11, 18, 15), (0, 11, 22, 17)] H0 A [.ref pa, .int n, .int i, .long w, .ref ou] 6 36 (fun v H => ∃ (k8 : Int32) (f8 : Nat → Int64), v = some (.int k8) ∧ ((off = true ∧ k8 = 1 ∧ SysI G pa pw ar dk on pt rc rw ((ou, eJ G f8) :: wr) M off wn L b sk rb nw anyRow H) ∨ (off = false ∧ ¬ okP n i ∧ k8 = 2 ∧ SysI G pa pw ar dk on pt rc rw ((ou, eJ G f8) :: wr) M off wn L b sk rb nw anyRow H) ∨ (off = false ∧ ¬ wn = 0 ∧ k8 = 0 ∧ ∃ n8 i8 : Nat, n8 < 600 ∧ i8 < 16 ∧ n = nI n8 ∧ i = nI i8 ∧ f8 0 = (wd8 (fun k => M (128 * n8 + 8 * i8 + k)) 8) ∧ SysI G pa pw ar dk on pt rc rw ((ou, eJ G f8) :: wr) (mset M n8 i8 w 128) off wn L b sk rb nw anyRow H) ∨ (off = false ∧ wn = 0 ∧ k8 = 3 ∧ ∃ n8 i8 : Nat, n8 < 600 ∧ i8 < 16 ∧ n = nI n8 ∧ i = nI i8 ∧ SysI G pa pw ar dk on pt rc rw ((ou, eJ G f8) :: wr) (mset M n8 i8 w (nowN true L b (thr sk nw rb (n8 / 4 % 5) (n8 / 4)))) true 4 L b sk rb nw anyRow H))) (fun _ _ => False) := by
  intro p e s m below meth c F hT hK hH hZ
  subst hH
  have hx := F.1
  have hb := F.2.1
  have hS : va_S A s.heap s.heap [] := va_S.rf
  have hl := lv_entry ([.ref pa, .int n, .int i, .long w, .ref ou]) (n := 7) (Nat.le_of_ble_eq_true rfl)
  rw [lg_entry_eq]
  generalize (lg_sl ([.ref pa, .int n, .int i, .long w, .ref ou]) ++ List.replicate (7 - (lg_sl ([.ref pa, .int n, .int i, .long w, .ref ou])).length) Slot.unset).toArray = ls at hl ⊢
  have hl : lv_has ls 7 [(0, .ref pa), (1, .int n), (2, .int i), (3, .long w), (5, .ref ou)] := hl
  have hD1 : va_D A (zA8 pa pw ar dk on pt rc rw ++ ((ou, eJ G f) :: wr)) := zw_D hD0 (by simp only [List.map_append, List.map_cons, List.map_nil])
  obtain ⟨lf0, am0, bh0, D0, Z1, Z2, Z3, Z4, hP, -⟩ := id hI
  refine lv_aload hx hb zd_La_set_0 (lv_at hl 4 rfl) ?_
  refine lv_iconst (v := 0) hx hb zd_La_set_2 (by decide) ?_
  refine lv_aload_n hx hb zd_La_set_3 rfl (lv_at hl 0 rfl) ?_
  refine lv_iload_n hx hb zd_La_set_4 rfl (lv_at hl 1 rfl) ?_
  refine lv_iload_n hx hb zd_La_set_5 rfl (lv_at hl 2 rfl) ?_
  refine lv_lload_n hx hb zd_La_set_6 rfl (lv_at hl 3 rfl) ?_
  refine zk_V F hT hK hZ hS hl.1 hP 0 rfl rfl rfl (zc_PA_set l G pa pw ar dk on pt rc rw ((ou, eJ G f) :: wr) M off wn L b sk rb nw n i w hfl hI hD1) zl_PA_set (zY_PA_set hT) zq_194 zq_195 zq_196 zd_La_set_7 rfl ⟨rfl, rfl, Nat.le_of_ble_eq_true rfl, Nat.le_of_ble_eq_true rfl, Nat.le_of_ble_eq_true rfl, Nat.le_of_ble_eq_true rfl⟩ (fun v H locs hv hS => ?_) (fun x H locs hv hS => ?_)
  · obtain ⟨hof, hw0, n9, i9, q1, q2, q3, q4, rfl, hI⟩ := hv
    refine zw_app ?_
    obtain ⟨lf9, am9, bh9, D9, Y1, Y2, Y3, Y4, hP, hI9⟩ := hI
    have hD := zw_DP hD1 hP (by simp only [List.map_append, List.map_cons, List.map_nil])
    refine zw_last F hK hP hD hS 8 rfl zd_La_set_10 (fun H locs hP hD hS => ?_)
    have hI := SysI.mk hP hI9
    refine lv_goto (tgt := 26) hx hb zd_La_set_11 rfl ?_
    refine lv_iconst (v := 0) hx hb zd_La_set_26 (by decide) ?_
    exact zx_iret F rfl hS.2.2 zd_La_set_27 (⟨0, _, rfl, Or.inr (Or.inr (Or.inl ⟨hof, hw0, rfl, n9, i9, q1, q2, q3, q4, rfl, hI⟩))⟩)
  · rcases hv with ⟨⟨hof, hxe⟩ | ⟨hof, hok, hxe⟩, hI⟩ | ⟨hof, hw0, hxe, n9, i9, q1, q2, q3, q4, hI⟩
    · refine zx_c1 F hT (by decide) (by decide) zq_102 hK.2.1 hxe zq_208 ?_
      refine lv_astore hx hb zd_La_set_14 hl (by decide) rfl (fun ls hl => ?_)
      have hl : lv_has ls 7 [(6, _), (0, _), (1, _), (2, _), (3, _), (5, _)] := hl
      refine lv_iconst (v := 1) hx hb zd_La_set_16 (by decide) ?_
      exact zx_iret F rfl hS.2.2 zd_La_set_17 (⟨1, f, rfl, Or.inl ⟨hof, rfl, hI⟩⟩)
    · refine zx_c2 F hT (by decide) (by decide) zq_102 hK.2.1 hK.2.2.2.2.2.1 (by decide) (by decide) zq_103 hK.2.2.1 hxe zq_232 ?_
      refine lv_astore hx hb zd_La_set_18 hl (by decide) rfl (fun ls hl => ?_)
      have hl : lv_has ls 7 [(6, _), (0, _), (1, _), (2, _), (3, _), (5, _)] := hl
      refine lv_iconst (v := 2) hx hb zd_La_set_20 (by decide) ?_
      exact zx_iret F rfl hS.2.2 zd_La_set_21 (⟨2, f, rfl, Or.inr (Or.inl ⟨hof, hok, rfl, hI⟩)⟩)
    · refine zx_c3 F hT (by decide) (by decide) zq_102 hK.2.1 hK.2.2.2.2.2.2.1 (by decide) (by decide) zq_103 hK.2.2.1 hK.2.2.2.2.2.2.2.1 (by decide) (by decide) zq_180 hK.2.2.2.1 hxe zq_192 ?_
      refine lv_astore hx hb zd_La_set_22 hl (by decide) rfl (fun ls hl => ?_)
      have hl : lv_has ls 7 [(6, _), (0, _), (1, _), (2, _), (3, _), (5, _)] := hl
      refine lv_iconst (v := 3) hx hb zd_La_set_24 (by decide) ?_
      exact zx_iret F rfl hS.2.2 zd_La_set_25 (⟨3, f, rfl, Or.inr (Or.inr (Or.inr ⟨hof, hw0, rfl, n9, i9, q1, q2, q3, q4, hI⟩))⟩)
set_option maxHeartbeats 4000000 in
set_option maxRecDepth 20000 in
theorem zc_La_get (l : Launch) (G : xG) {H0 : Heap} {A : Nat → Prop} (pa pw ar dk on pt rc rw : Nat) (wr : va_W) (M : Nat → Int8) (off : Bool) (wn : Int32) (L b sk rb : Nat) (nw : Bool) (ou : Nat) (f : Nat → Int64) (n i : Int32) (hfl : l.flags = flags0) (hI : SysI G pa pw ar dk on pt rc rw ((ou, eJ G f) :: wr) M off wn L b sk rb nw anyRow H0) (hD0 : va_D A (zA8 pa pw ar dk on pt rc rw ++ (zD ou :: wr))) : XM l G (rmz 13 520 2 12) zy_La_get zb_La_get 5 (some FieldType.int) [(0, 9, 12, 13), (0, 9, 16, 15)] H0 A [.ref pa, .int n, .int i, .ref ou] 2 12 (fun v H => ∃ (k8 : Int32) (f8 : Nat → Int64), v = some (.int k8) ∧ SysI G pa pw ar dk on pt rc rw ((ou, eJ G f8) :: wr) M off wn L b sk rb nw anyRow H ∧ ((off = true ∧ k8 = 1) ∨ (off = false ∧ ¬ okP n i ∧ k8 = 2) ∨ (off = false ∧ k8 = 0 ∧ ∃ n8 i8 : Nat, n8 < 600 ∧ i8 < 16 ∧ n = nI n8 ∧ i = nI i8 ∧ f8 0 = (wd8 (fun k => M (128 * n8 + 8 * i8 + k)) 8)))) (fun _ _ => False) := by
  intro p e s m below meth c F hT hK hH hZ
  subst hH
  have hx := F.1
  have hb := F.2.1
  have hS : va_S A s.heap s.heap [] := va_S.rf
  have hl := lv_entry ([.ref pa, .int n, .int i, .ref ou]) (n := 5) (Nat.le_of_ble_eq_true rfl)
  rw [lg_entry_eq]
  generalize (lg_sl ([.ref pa, .int n, .int i, .ref ou]) ++ List.replicate (5 - (lg_sl ([.ref pa, .int n, .int i, .ref ou])).length) Slot.unset).toArray = ls at hl ⊢
  have hl : lv_has ls 5 [(0, .ref pa), (1, .int n), (2, .int i), (3, .ref ou)] := hl
  have hD1 : va_D A (zA8 pa pw ar dk on pt rc rw ++ ((ou, eJ G f) :: wr)) := zw_D hD0 (by simp only [List.map_append, List.map_cons, List.map_nil])
  obtain ⟨lf0, am0, bh0, D0, Z1, Z2, Z3, Z4, hP, -⟩ := id hI
  refine lv_aload_n hx hb zd_La_get_0 rfl (lv_at hl 3 rfl) ?_
  refine lv_iconst (v := 0) hx hb zd_La_get_1 (by decide) ?_
  refine lv_aload_n hx hb zd_La_get_2 rfl (lv_at hl 0 rfl) ?_
  refine lv_iload_n hx hb zd_La_get_3 rfl (lv_at hl 1 rfl) ?_
  refine lv_iload_n hx hb zd_La_get_4 rfl (lv_at hl 2 rfl) ?_
  refine zk_V F hT hK hZ hS hl.1 hP 0 rfl rfl rfl (zc_PA_get l G pa pw ar dk on pt rc rw ((ou, eJ G f) :: wr) M off wn L b sk rb nw n i hfl hI hD1) zl_PA_get (zY_PA_get hT) zq_294 zq_200 zq_201 zd_La_get_5 rfl ⟨rfl, rfl, Nat.le_of_ble_eq_true rfl, Nat.le_of_ble_eq_true rfl, Nat.le_of_ble_eq_true rfl, Nat.le_of_ble_eq_true rfl⟩ (fun v H locs hv hS => ?_) (fun x H locs hv hS => ?_)
  · obtain ⟨hof, n9, i9, q1, q2, q3, q4, rfl, hI⟩ := hv
    have hI := hI.any
    refine zw_app ?_
    obtain ⟨lf9, am9, bh9, D9, Y1, Y2, Y3, Y4, hP, hI9⟩ := hI
    have hD := zw_DP hD1 hP (by simp only [List.map_append, List.map_cons, List.map_nil])
    refine zw_last F hK hP hD hS 8 rfl zd_La_get_8 (fun H locs hP hD hS => ?_)
    have hI := SysI.mk hP hI9
    refine lv_goto (tgt := 20) hx hb zd_La_get_9 rfl ?_
    refine lv_iconst (v := 0) hx hb zd_La_get_20 (by decide) ?_
    exact zx_iret F rfl hS.2.2 zd_La_get_21 (⟨0, _, rfl, hI, Or.inr (Or.inr ⟨hof, rfl, n9, i9, q1, q2, q3, q4, rfl⟩)⟩)
  · rcases hv with ⟨⟨hof, hxe⟩ | ⟨hof, hok, hxe⟩, hI⟩
    · refine zx_c1 F hT (by decide) (by decide) zq_102 hK.2.1 hxe zq_208 ?_
      refine lv_astore hx hb zd_La_get_12 hl (by decide) rfl (fun ls hl => ?_)
      have hl : lv_has ls 5 [(4, _), (0, _), (1, _), (2, _), (3, _)] := hl
      refine lv_iconst (v := 1) hx hb zd_La_get_14 (by decide) ?_
      exact zx_iret F rfl hS.2.2 zd_La_get_15 (⟨1, f, rfl, hI, Or.inl ⟨hof, rfl⟩⟩)
    · refine zx_c2 F hT (by decide) (by decide) zq_102 hK.2.1 hK.2.2.2.2.2.1 (by decide) (by decide) zq_103 hK.2.2.1 hxe zq_232 ?_
      refine lv_astore hx hb zd_La_get_16 hl (by decide) rfl (fun ls hl => ?_)
      have hl : lv_has ls 5 [(4, _), (0, _), (1, _), (2, _), (3, _)] := hl
      refine lv_iconst (v := 2) hx hb zd_La_get_18 (by decide) ?_
      exact zx_iret F rfl hS.2.2 zd_La_get_19 (⟨2, f, rfl, hI, Or.inr (Or.inl ⟨hof, hok, rfl⟩)⟩)
set_option maxHeartbeats 4000000 in
set_option maxRecDepth 20000 in
theorem zc_La_die (l : Launch) (G : xG) {H0 : Heap} {A : Nat → Prop} (pa pw ar dk on pt rc rw : Nat) (wr : va_W) (M : Nat → Int8) (off : Bool) (wn : Int32) (L b sk rb : Nat) (nw : Bool) (d : Int32) (hfl : l.flags = flags0) (hI : SysI G pa pw ar dk on pt rc rw wr M off wn L b sk rb nw anyRow H0) (hD0 : va_D A (zA8 pa pw ar dk on pt rc rw ++ wr)) : XM l G (rmz 13 520 2 12) zy_La_die zb_La_die 3 (some FieldType.int) [(0, 5, 8, 15), (0, 5, 11, 13)] H0 A [.ref pa, .int d] 2 12 (fun v H => ∃ (k8 : Int32), v = some (.int k8) ∧ ((¬ d5 d ∧ k8 = 1 ∧ SysI G pa pw ar dk on pt rc rw wr M off wn L b sk rb nw anyRow H) ∨ (d5 d ∧ ¬ (off = false ∧ sk = 5) ∧ k8 = 2 ∧ SysI G pa pw ar dk on pt rc rw wr M off wn L b sk rb nw anyRow H) ∨ (off = false ∧ sk = 5 ∧ k8 = 0 ∧ ∃ d8 : Nat, d8 < 5 ∧ d = nI d8 ∧ SysI G pa pw ar dk on pt rc rw wr M off wn L b d8 0 false anyRow H))) (fun _ _ => False) := by
  intro p e s m below meth c F hT hK hH hZ
  subst hH
  have hx := F.1
  have hb := F.2.1
  have hS : va_S A s.heap s.heap [] := va_S.rf
  have hl := lv_entry ([.ref pa, .int d]) (n := 3) (Nat.le_of_ble_eq_true rfl)
  rw [lg_entry_eq]
  generalize (lg_sl ([.ref pa, .int d]) ++ List.replicate (3 - (lg_sl ([.ref pa, .int d])).length) Slot.unset).toArray = ls at hl ⊢
  have hl : lv_has ls 3 [(0, .ref pa), (1, .int d)] := hl
  have hD1 := hD0
  obtain ⟨lf0, am0, bh0, D0, Z1, Z2, Z3, Z4, hP, -⟩ := id hI
  refine lv_aload_n hx hb zd_La_die_0 rfl (lv_at hl 0 rfl) ?_
  refine lv_iload_n hx hb zd_La_die_1 rfl (lv_at hl 1 rfl) ?_
  refine zk_V F hT hK hZ hS hl.1 hP 0 rfl rfl rfl (zc_PA_die l G pa pw ar dk on pt rc rw wr M off wn L b sk rb nw d hfl hI hD1) zl_PA_die (zY_PA_die hT) zq_298 zq_299 zq_300 zd_La_die_2 rfl ⟨rfl, rfl, Nat.le_of_ble_eq_true rfl, Nat.le_of_ble_eq_true rfl, Nat.le_of_ble_eq_true rfl, Nat.le_of_ble_eq_true rfl⟩ (fun v H locs hv hS => ?_) (fun x H locs hv hS => ?_)
  · obtain ⟨rfl, hof, hs5, d9, q1, q2, hI⟩ := hv
    refine zw_app0 ?_
    refine lv_goto (tgt := 14) hx hb zd_La_die_5 rfl ?_
    refine lv_iconst (v := 0) hx hb zd_La_die_14 (by decide) ?_
    exact zx_iret F rfl hS.2.2 zd_La_die_15 (⟨0, rfl, Or.inr (Or.inr ⟨hof, hs5, rfl, d9, q1, q2, hI⟩)⟩)
  · rcases hv with ⟨⟨hbad, hxe⟩ | ⟨hd5, hbad, hxe⟩, hI⟩
    · refine zx_c1 F hT (by decide) (by decide) zq_103 hK.2.2.1 hxe zq_232 ?_
      refine lv_astore_n hx hb zd_La_die_8 rfl hl (by decide) rfl (fun ls hl => ?_)
      have hl : lv_has ls 3 [(2, _), (0, _), (1, _)] := hl
      refine lv_iconst (v := 1) hx hb zd_La_die_9 (by decide) ?_
      exact zx_iret F rfl hS.2.2 zd_La_die_10 (⟨1, rfl, Or.inl ⟨hbad, rfl, hI⟩⟩)
    · refine zx_c2 F hT (by decide) (by decide) zq_103 hK.2.2.1 hK.2.2.2.2.2.2.2.2 (by decide) (by decide) zq_102 hK.2.1 hxe zq_208 ?_
      refine lv_astore_n hx hb zd_La_die_11 rfl hl (by decide) rfl (fun ls hl => ?_)
      have hl : lv_has ls 3 [(2, _), (0, _), (1, _)] := hl
      refine lv_iconst (v := 2) hx hb zd_La_die_12 (by decide) ?_
      exact zx_iret F rfl hS.2.2 zd_La_die_13 (⟨2, rfl, Or.inr (Or.inl ⟨hd5, hbad, rfl, hI⟩)⟩)
set_option maxHeartbeats 4000000 in
set_option maxRecDepth 20000 in
theorem zc_La_replace (l : Launch) (G : xG) {H0 : Heap} {A : Nat → Prop} (pa pw ar dk on pt rc rw : Nat) (wr : va_W) (M : Nat → Int8) (off : Bool) (wn : Int32) (L b sk rb : Nat) (nw : Bool) (ou : Nat) (f : Nat → Int64) (hfl : l.flags = flags0) (hI : SysI G pa pw ar dk on pt rc rw ((ou, eJ G f) :: wr) M off wn L b sk rb nw anyRow H0) (hD0 : va_D A (zA8 pa pw ar dk on pt rc rw ++ (zD ou :: wr))) : XM l G (rmz 13 520 1 6) zy_La_replace zb_La_replace 3 (some FieldType.int) [(0, 8, 11, 13)] H0 A [.ref pa, .ref ou] 1 6 (fun v H => ∃ (k8 : Int32) (f8 : Nat → Int64), v = some (.int k8) ∧ ((¬ (sk < 5 ∧ nw = false) ∧ k8 = 1 ∧ SysI G pa pw ar dk on pt rc rw ((ou, eJ G f8) :: wr) M off wn L b sk rb nw anyRow H) ∨ (sk < 5 ∧ nw = false ∧ k8 = 0 ∧ f8 0 = (sI sk).toInt64 ∧ SysI G pa pw ar dk on pt rc rw ((ou, eJ G f8) :: wr) M off wn L b sk 0 true anyRow H))) (fun _ _ => False) := by
  intro p e s m below meth c F hT hK hH hZ
  subst hH
  have hx := F.1
  have hb := F.2.1
  have hS : va_S A s.heap s.heap [] := va_S.rf
  have hl := lv_entry ([.ref pa, .ref ou]) (n := 3) (Nat.le_of_ble_eq_true rfl)
  rw [lg_entry_eq]
  generalize (lg_sl ([.ref pa, .ref ou]) ++ List.replicate (3 - (lg_sl ([.ref pa, .ref ou])).length) Slot.unset).toArray = ls at hl ⊢
  have hl : lv_has ls 3 [(0, .ref pa), (1, .ref ou)] := hl
  have hD1 : va_D A (zA8 pa pw ar dk on pt rc rw ++ ((ou, eJ G f) :: wr)) := zw_D hD0 (by simp only [List.map_append, List.map_cons, List.map_nil])
  obtain ⟨lf0, am0, bh0, D0, Z1, Z2, Z3, Z4, hP, -⟩ := id hI
  refine lv_aload_n hx hb zd_La_replace_0 rfl (lv_at hl 1 rfl) ?_
  refine lv_iconst (v := 0) hx hb zd_La_replace_1 (by decide) ?_
  refine lv_aload_n hx hb zd_La_replace_2 rfl (lv_at hl 0 rfl) ?_
  refine zk_V F hT hK hZ hS hl.1 hP 0 rfl rfl rfl (zc_PA_replace l G pa pw ar dk on pt rc rw ((ou, eJ G f) :: wr) M off wn L b sk rb nw hfl hI hD1) zl_PA_replace (zY_PA_replace hT) zq_305 zq_306 zq_307 zd_La_replace_3 rfl ⟨rfl, rfl, Nat.le_of_ble_eq_true rfl, Nat.le_of_ble_eq_true rfl, Nat.le_of_ble_eq_true rfl, Nat.le_of_ble_eq_true rfl⟩ (fun v H locs hv hS => ?_) (fun x H locs hv hS => ?_)
  · obtain ⟨rfl, q1, q2, hI⟩ := hv
    refine zw_app ?_
    refine lv_i2l hx hb zd_La_replace_6 rfl ?_
    obtain ⟨lf9, am9, bh9, D9, Y1, Y2, Y3, Y4, hP, hI9⟩ := hI
    have hD := zw_DP hD1 hP (by simp only [List.map_append, List.map_cons, List.map_nil])
    refine zw_last F hK hP hD hS 8 rfl zd_La_replace_7 (fun H locs hP hD hS => ?_)
    have hI := SysI.mk hP hI9
    refine lv_goto (tgt := 14) hx hb zd_La_replace_8 rfl ?_
    refine lv_iconst (v := 0) hx hb zd_La_replace_14 (by decide) ?_
    exact zx_iret F rfl hS.2.2 zd_La_replace_15 (⟨0, _, rfl, Or.inr ⟨q1, q2, rfl, rfl, hI⟩⟩)
  · obtain ⟨hbad, hxe, hI⟩ := hv
    refine zx_c1 F hT (by decide) (by decide) zq_102 hK.2.1 hxe zq_208 ?_
    refine lv_astore_n hx hb zd_La_replace_11 rfl hl (by decide) rfl (fun ls hl => ?_)
    have hl : lv_has ls 3 [(2, _), (0, _), (1, _)] := hl
    refine lv_iconst (v := 1) hx hb zd_La_replace_12 (by decide) ?_
    exact zx_iret F rfl hS.2.2 zd_La_replace_13 (⟨1, f, rfl, Or.inl ⟨hbad, rfl, hI⟩⟩)
set_option maxHeartbeats 4000000 in
set_option maxRecDepth 20000 in
theorem zc_La_rebuild (l : Launch) (G : xG) {H0 : Heap} {A : Nat → Prop} (pa pw ar dk on pt rc rw : Nat) (wr : va_W) (M : Nat → Int8) (off : Bool) (wn : Int32) (L b sk rb : Nat) (nw : Bool) (ou : Nat) (f : Nat → Int64) (hfl : l.flags = flags0) (hI : SysI G pa pw ar dk on pt rc rw ((ou, eJ G f) :: wr) M off wn L b sk rb nw anyRow H0) (hD0 : va_D A (zA8 pa pw ar dk on pt rc rw ++ (zD ou :: wr))) : XM l G (rmz 13 520 1 6) zy_La_rebuild zb_La_rebuild 3 (some FieldType.int) [(0, 8, 11, 13)] H0 A [.ref pa, .ref ou] 1 6 (fun v H => ∃ (k8 : Int32) (f8 : Nat → Int64), v = some (.int k8) ∧ ((¬ (off = false ∧ nw = true) ∧ k8 = 1 ∧ SysI G pa pw ar dk on pt rc rw ((ou, eJ G f8) :: wr) M off wn L b sk rb nw anyRow H) ∨ (off = false ∧ nw = true ∧ k8 = 0 ∧ f8 0 = (nI (149 - rb)).toInt64 ∧ SysI G pa pw ar dk on pt rc rw ((ou, eJ G f8) :: wr) M off wn L b (if rb + 1 < 150 then sk else 5) (if rb + 1 < 150 then rb + 1 else 0) (decide (rb + 1 < 150)) anyRow H))) (fun _ _ => False) := by
  intro p e s m below meth c F hT hK hH hZ
  subst hH
  have hx := F.1
  have hb := F.2.1
  have hS : va_S A s.heap s.heap [] := va_S.rf
  have hl := lv_entry ([.ref pa, .ref ou]) (n := 3) (Nat.le_of_ble_eq_true rfl)
  rw [lg_entry_eq]
  generalize (lg_sl ([.ref pa, .ref ou]) ++ List.replicate (3 - (lg_sl ([.ref pa, .ref ou])).length) Slot.unset).toArray = ls at hl ⊢
  have hl : lv_has ls 3 [(0, .ref pa), (1, .ref ou)] := hl
  have hD1 : va_D A (zA8 pa pw ar dk on pt rc rw ++ ((ou, eJ G f) :: wr)) := zw_D hD0 (by simp only [List.map_append, List.map_cons, List.map_nil])
  obtain ⟨lf0, am0, bh0, D0, Z1, Z2, Z3, Z4, hP, -⟩ := id hI
  refine lv_aload_n hx hb zd_La_rebuild_0 rfl (lv_at hl 1 rfl) ?_
  refine lv_iconst (v := 0) hx hb zd_La_rebuild_1 (by decide) ?_
  refine lv_aload_n hx hb zd_La_rebuild_2 rfl (lv_at hl 0 rfl) ?_
  refine zk_V F hT hK hZ hS hl.1 hP 0 rfl rfl rfl (zc_PA_rebuild l G pa pw ar dk on pt rc rw ((ou, eJ G f) :: wr) M off wn L b sk rb nw hfl hI hD1) zl_PA_rebuild (zY_PA_rebuild hT) zq_316 zq_317 zq_318 zd_La_rebuild_3 rfl ⟨rfl, rfl, Nat.le_of_ble_eq_true rfl, Nat.le_of_ble_eq_true rfl, Nat.le_of_ble_eq_true rfl, Nat.le_of_ble_eq_true rfl⟩ (fun v H locs hv hS => ?_) (fun x H locs hv hS => ?_)
  · obtain ⟨rfl, q1, q2, hI⟩ := hv
    refine zw_app ?_
    refine lv_i2l hx hb zd_La_rebuild_6 rfl ?_
    obtain ⟨lf9, am9, bh9, D9, Y1, Y2, Y3, Y4, hP, hI9⟩ := hI
    have hD := zw_DP hD1 hP (by simp only [List.map_append, List.map_cons, List.map_nil])
    refine zw_last F hK hP hD hS 8 rfl zd_La_rebuild_7 (fun H locs hP hD hS => ?_)
    have hI := SysI.mk hP hI9
    refine lv_goto (tgt := 14) hx hb zd_La_rebuild_8 rfl ?_
    refine lv_iconst (v := 0) hx hb zd_La_rebuild_14 (by decide) ?_
    exact zx_iret F rfl hS.2.2 zd_La_rebuild_15 (⟨0, _, rfl, Or.inr ⟨q1, q2, rfl, rfl, hI⟩⟩)
  · obtain ⟨hbad, hxe, hI⟩ := hv
    refine zx_c1 F hT (by decide) (by decide) zq_102 hK.2.1 hxe zq_208 ?_
    refine lv_astore_n hx hb zd_La_rebuild_11 rfl hl (by decide) rfl (fun ls hl => ?_)
    have hl : lv_has ls 3 [(2, _), (0, _), (1, _)] := hl
    refine lv_iconst (v := 1) hx hb zd_La_rebuild_12 (by decide) ?_
    exact zx_iret F rfl hS.2.2 zd_La_rebuild_13 (⟨1, f, rfl, Or.inl ⟨hbad, rfl, hI⟩⟩)
set_option maxHeartbeats 4000000 in
set_option maxRecDepth 20000 in
theorem zc_La_check (l : Launch) (G : xG) {H0 : Heap} {A : Nat → Prop} (pa pw ar dk on pt rc rw : Nat) (wr : va_W) (M : Nat → Int8) (off : Bool) (wn : Int32) (L b sk rb : Nat) (nw : Bool) (ou : Nat) (f : Nat → Int64) (hfl : l.flags = flags0) (hI : SysI G pa pw ar dk on pt rc rw ((ou, eJ G f) :: wr) M off wn L b sk rb nw anyRow H0) (hD0 : va_D A (zA8 pa pw ar dk on pt rc rw ++ (zD ou :: wr))) : XM l G (rmz 13 520 1 6) zy_La_check zb_La_check 3 (some FieldType.int) [(0, 8, 11, 13)] H0 A [.ref pa, .ref ou] 1 6 (fun v H => ∃ (k8 : Int32) (f8 : Nat → Int64), v = some (.int k8) ∧ SysI G pa pw ar dk on pt rc rw ((ou, eJ G f8) :: wr) M off wn L b sk rb nw anyRow H ∧ ((off = true ∧ k8 = 1) ∨ (off = false ∧ k8 = 0 ∧ f8 0 = (0 : Int32).toInt64))) (fun _ _ => False) := by
  intro p e s m below meth c F hT hK hH hZ
  subst hH
  have hx := F.1
  have hb := F.2.1
  have hS : va_S A s.heap s.heap [] := va_S.rf
  have hl := lv_entry ([.ref pa, .ref ou]) (n := 3) (Nat.le_of_ble_eq_true rfl)
  rw [lg_entry_eq]
  generalize (lg_sl ([.ref pa, .ref ou]) ++ List.replicate (3 - (lg_sl ([.ref pa, .ref ou])).length) Slot.unset).toArray = ls at hl ⊢
  have hl : lv_has ls 3 [(0, .ref pa), (1, .ref ou)] := hl
  have hD1 : va_D A (zA8 pa pw ar dk on pt rc rw ++ ((ou, eJ G f) :: wr)) := zw_D hD0 (by simp only [List.map_append, List.map_cons, List.map_nil])
  obtain ⟨lf0, am0, bh0, D0, Z1, Z2, Z3, Z4, hP, -⟩ := id hI
  refine lv_aload_n hx hb zd_La_check_0 rfl (lv_at hl 1 rfl) ?_
  refine lv_iconst (v := 0) hx hb zd_La_check_1 (by decide) ?_
  refine lv_aload_n hx hb zd_La_check_2 rfl (lv_at hl 0 rfl) ?_
  refine zk_V F hT hK hZ hS hl.1 hP 0 rfl rfl rfl (zc_PA_check l G pa pw ar dk on pt rc rw ((ou, eJ G f) :: wr) M off wn L b sk rb nw hfl hI hD1) zl_PA_check (zY_PA_check hT) zq_372 zq_373 zq_374 zd_La_check_3 rfl ⟨rfl, rfl, Nat.le_of_ble_eq_true rfl, Nat.le_of_ble_eq_true rfl, Nat.le_of_ble_eq_true rfl, Nat.le_of_ble_eq_true rfl⟩ (fun v H locs hv hS => ?_) (fun x H locs hv hS => ?_)
  · obtain ⟨rfl, q1, hI⟩ := hv
    refine zw_app ?_
    refine lv_i2l hx hb zd_La_check_6 rfl ?_
    obtain ⟨lf9, am9, bh9, D9, Y1, Y2, Y3, Y4, hP, hI9⟩ := hI
    have hD := zw_DP hD1 hP (by simp only [List.map_append, List.map_cons, List.map_nil])
    refine zw_last F hK hP hD hS 8 rfl zd_La_check_7 (fun H locs hP hD hS => ?_)
    have hI := SysI.mk hP hI9
    refine lv_goto (tgt := 14) hx hb zd_La_check_8 rfl ?_
    refine lv_iconst (v := 0) hx hb zd_La_check_14 (by decide) ?_
    exact zx_iret F rfl hS.2.2 zd_La_check_15 (⟨0, _, rfl, hI, Or.inr ⟨q1, rfl, rfl⟩⟩)
  · obtain ⟨hbad, hxe, hI⟩ := hv
    refine zx_c1 F hT (by decide) (by decide) zq_102 hK.2.1 hxe zq_208 ?_
    refine lv_astore_n hx hb zd_La_check_11 rfl hl (by decide) rfl (fun ls hl => ?_)
    have hl : lv_has ls 3 [(2, _), (0, _), (1, _)] := hl
    refine lv_iconst (v := 1) hx hb zd_La_check_12 (by decide) ?_
    exact zx_iret F rfl hS.2.2 zd_La_check_13 (⟨1, f, rfl, hI, Or.inl ⟨hbad, rfl⟩⟩)
set_option maxHeartbeats 4000000 in
set_option maxRecDepth 20000 in
theorem zc_La_told (l : Launch) (G : xG) {H0 : Heap} {A : Nat → Prop} (pa pw ar dk on pt rc rw : Nat) (wr : va_W) (M : Nat → Int8) (off : Bool) (wn : Int32) (L b sk rb : Nat) (nw : Bool) (ou : Nat) (f : Nat → Int64) (what : Int32) (hfl : l.flags = flags0) (hI : SysI G pa pw ar dk on pt rc rw ((ou, eJ G f) :: wr) M off wn L b sk rb nw anyRow H0) (hD0 : va_D A (zA8 pa pw ar dk on pt rc rw ++ (zD ou :: wr))) : XM l G (rmz 13 520 1 6) zy_La_told zb_La_told 4 (some FieldType.int) [(0, 9, 12, 38)] H0 A [.ref pa, .int what, .ref ou] 1 6 (fun v H => ∃ (k8 : Int32) (f8 : Nat → Int64), v = some (.int k8) ∧ SysI G pa pw ar dk on pt rc rw ((ou, eJ G f8) :: wr) M off wn L b sk rb nw anyRow H ∧ ((¬ (¬ what < 0 ∧ what ≤ 3) ∧ k8 = 1) ∨ ((¬ what < 0 ∧ what ≤ 3) ∧ k8 = 0 ∧ f8 0 = (tellV (!off) sk nw rb what).toInt64))) (fun _ _ => False) := by
  intro p e s m below meth c F hT hK hH hZ
  subst hH
  have hx := F.1
  have hb := F.2.1
  have hS : va_S A s.heap s.heap [] := va_S.rf
  have hl := lv_entry ([.ref pa, .int what, .ref ou]) (n := 4) (Nat.le_of_ble_eq_true rfl)
  rw [lg_entry_eq]
  generalize (lg_sl ([.ref pa, .int what, .ref ou]) ++ List.replicate (4 - (lg_sl ([.ref pa, .int what, .ref ou])).length) Slot.unset).toArray = ls at hl ⊢
  have hl : lv_has ls 4 [(0, .ref pa), (1, .int what), (2, .ref ou)] := hl
  have hD1 : va_D A (zA8 pa pw ar dk on pt rc rw ++ ((ou, eJ G f) :: wr)) := zw_D hD0 (by simp only [List.map_append, List.map_cons, List.map_nil])
  obtain ⟨lf0, am0, bh0, D0, Z1, Z2, Z3, Z4, hP, -⟩ := id hI
  refine lv_aload_n hx hb zd_La_told_0 rfl (lv_at hl 2 rfl) ?_
  refine lv_iconst (v := 0) hx hb zd_La_told_1 (by decide) ?_
  refine lv_aload_n hx hb zd_La_told_2 rfl (lv_at hl 0 rfl) ?_
  refine lv_iload_n hx hb zd_La_told_3 rfl (lv_at hl 1 rfl) ?_
  refine zk_V F hT hK hZ hS hl.1 hP 0 rfl rfl rfl (zc_PA_told l G pa pw ar dk on pt rc rw ((ou, eJ G f) :: wr) M off wn L b sk rb nw what hfl hI hD1) zl_PA_told (zY_PA_told hT) zq_365 zq_366 zq_367 zd_La_told_4 rfl ⟨rfl, rfl, Nat.le_of_ble_eq_true rfl, Nat.le_of_ble_eq_true rfl, Nat.le_of_ble_eq_true rfl, Nat.le_of_ble_eq_true rfl⟩ (fun v H locs hv hS => ?_) (fun x H locs hv hS => ?_)
  · obtain ⟨q1, rfl, hI⟩ := hv
    refine zw_app ?_
    refine lv_i2l hx hb zd_La_told_7 rfl ?_
    obtain ⟨lf9, am9, bh9, D9, Y1, Y2, Y3, Y4, hP, hI9⟩ := hI
    have hD := zw_DP hD1 hP (by simp only [List.map_append, List.map_cons, List.map_nil])
    refine zw_last F hK hP hD hS 8 rfl zd_La_told_8 (fun H locs hP hD hS => ?_)
    have hI := SysI.mk hP hI9
    refine lv_goto (tgt := 15) hx hb zd_La_told_9 rfl ?_
    refine lv_iconst (v := 0) hx hb zd_La_told_15 (by decide) ?_
    exact zx_iret F rfl hS.2.2 zd_La_told_16 (⟨0, _, rfl, hI, Or.inr ⟨q1, rfl, rfl⟩⟩)
  · obtain ⟨hbad, hxe, hI⟩ := hv
    refine zx_c1 F hT (by decide) (by decide) zq_327 hK.2.2.2.2.1 hxe zq_334 ?_
    refine lv_astore_n hx hb zd_La_told_12 rfl hl (by decide) rfl (fun ls hl => ?_)
    have hl : lv_has ls 4 [(3, _), (0, _), (1, _), (2, _)] := hl
    refine lv_iconst (v := 1) hx hb zd_La_told_13 (by decide) ?_
    exact zx_iret F rfl hS.2.2 zd_La_told_14 (⟨1, f, rfl, hI, Or.inl ⟨hbad, rfl⟩⟩)
set_option maxHeartbeats 4000000 in
set_option maxRecDepth 20000 in
theorem zc_La_power (l : Launch) (G : xG) {H0 : Heap} {A : Nat → Prop} (pa pw ar dk on pt rc rw : Nat) (wr : va_W) (M : Nat → Int8) (off : Bool) (wn : Int32) (L b sk rb : Nat) (nw : Bool) (k0 b0 : Int32) (re : Bool) (hfl : l.flags = flags0) (hI : SysI G pa pw ar dk on pt rc rw wr M off wn L b sk rb nw anyRow H0) (hD0 : va_D A (zA8 pa pw ar dk on pt rc rw ++ wr)) : XM l G (rmz 13 520 1 6) zy_La_power zb_La_power 5 (some FieldType.int) [(0, 7, 10, 38)] H0 A [.ref pa, .int k0, .int b0, .int (bI re)] 1 6 (fun v H => ∃ (k8 : Int32), v = some (.int k8) ∧ ((¬ okW k0 b0 ∧ k8 = 1 ∧ SysI G pa pw ar dk on pt rc rw wr M off wn L b sk rb nw anyRow H) ∨ (k8 = 0 ∧ ∃ L8 b8 : Nat, L8 ≤ 10 ∧ b8 ≤ 200 ∧ k0 = nI L8 ∧ b0 = nI b8 ∧ SysI G pa pw ar dk on pt rc rw wr M off (if re = true then 3 else 0) L8 b8 sk rb nw anyRow H))) (fun _ _ => False) := by
  intro p e s m below meth c F hT hK hH hZ
  subst hH
  have hx := F.1
  have hb := F.2.1
  have hS : va_S A s.heap s.heap [] := va_S.rf
  have hl := lv_entry ([.ref pa, .int k0, .int b0, .int (bI re)]) (n := 5) (Nat.le_of_ble_eq_true rfl)
  rw [lg_entry_eq]
  generalize (lg_sl ([.ref pa, .int k0, .int b0, .int (bI re)]) ++ List.replicate (5 - (lg_sl ([.ref pa, .int k0, .int b0, .int (bI re)])).length) Slot.unset).toArray = ls at hl ⊢
  have hl : lv_has ls 5 [(0, .ref pa), (1, .int k0), (2, .int b0), (3, .int (bI re))] := hl
  have hD1 := hD0
  obtain ⟨lf0, am0, bh0, D0, Z1, Z2, Z3, Z4, hP, -⟩ := id hI
  refine lv_aload_n hx hb zd_La_power_0 rfl (lv_at hl 0 rfl) ?_
  refine lv_iload_n hx hb zd_La_power_1 rfl (lv_at hl 1 rfl) ?_
  refine lv_iload_n hx hb zd_La_power_2 rfl (lv_at hl 2 rfl) ?_
  refine lv_iload_n hx hb zd_La_power_3 rfl (lv_at hl 3 rfl) ?_
  refine zk_V F hT hK hZ hS hl.1 hP 0 rfl rfl rfl (zc_PA_power l G pa pw ar dk on pt rc rw wr M off wn L b sk rb nw k0 b0 re hfl hI hD1) zl_PA_power (zY_PA_power hT) zq_328 zq_329 zq_330 zd_La_power_4 rfl ⟨rfl, rfl, Nat.le_of_ble_eq_true rfl, Nat.le_of_ble_eq_true rfl, Nat.le_of_ble_eq_true rfl, Nat.le_of_ble_eq_true rfl⟩ (fun v H locs hv hS => ?_) (fun x H locs hv hS => ?_)
  · obtain ⟨rfl, k9, b9, q1, q2, q3, q4, hI⟩ := hv
    refine zw_app0 ?_
    refine lv_goto (tgt := 14) hx hb zd_La_power_7 rfl ?_
    refine lv_iconst (v := 0) hx hb zd_La_power_14 (by decide) ?_
    exact zx_iret F rfl hS.2.2 zd_La_power_15 (⟨0, rfl, Or.inr ⟨rfl, k9, b9, q1, q2, q3, q4, hI⟩⟩)
  · obtain ⟨hbad, hxe, hI⟩ := hv
    refine zx_c1 F hT (by decide) (by decide) zq_327 hK.2.2.2.2.1 hxe zq_334 ?_
    refine lv_astore hx hb zd_La_power_10 hl (by decide) rfl (fun ls hl => ?_)
    have hl : lv_has ls 5 [(4, _), (0, _), (1, _), (2, _), (3, _)] := hl
    refine lv_iconst (v := 1) hx hb zd_La_power_12 (by decide) ?_
    exact zx_iret F rfl hS.2.2 zd_La_power_13 (⟨1, rfl, Or.inl ⟨hbad, rfl, hI⟩⟩)
set_option maxHeartbeats 4000000 in
set_option maxRecDepth 20000 in
theorem zc_La_recover (l : Launch) (G : xG) {H0 : Heap} {A : Nat → Prop} (pa pw ar dk on pt rc rw : Nat) (wr : va_W) (M : Nat → Int8) (off : Bool) (wn : Int32) (L b sk rb : Nat) (nw : Bool) (hfl : l.flags = flags0) (hI : SysI G pa pw ar dk on pt rc rw wr M off wn L b sk rb nw anyRow H0) (hD0 : va_D A (zA8 pa pw ar dk on pt rc rw ++ wr)) : XM l G (rmz 13 520 6 36) zy_La_recover zb_La_recover 2 (some FieldType.int) [(0, 4, 7, 17)] H0 A [.ref pa] 6 36 (fun v H => ∃ (k8 : Int32), v = some (.int k8) ∧ ((wn = 3 ∧ k8 = 1 ∧ SysI G pa pw ar dk on pt rc rw wr M true 4 L b sk rb nw anyRow H) ∨ (¬ wn = 3 ∧ k8 = 0 ∧ SysI G pa pw ar dk on pt rc rw wr M false 4 L b sk rb nw anyRow H))) (fun _ _ => False) := by
  intro p e s m below meth c F hT hK hH hZ
  subst hH
  have hx := F.1
  have hb := F.2.1
  have hS : va_S A s.heap s.heap [] := va_S.rf
  have hl := lv_entry ([.ref pa]) (n := 2) (Nat.le_of_ble_eq_true rfl)
  rw [lg_entry_eq]
  generalize (lg_sl ([.ref pa]) ++ List.replicate (2 - (lg_sl ([.ref pa])).length) Slot.unset).toArray = ls at hl ⊢
  have hl : lv_has ls 2 [(0, .ref pa)] := hl
  have hD1 := hD0
  obtain ⟨lf0, am0, bh0, D0, Z1, Z2, Z3, Z4, hP, -⟩ := id hI
  refine lv_aload_n hx hb zd_La_recover_0 rfl (lv_at hl 0 rfl) ?_
  refine zk_V F hT hK hZ hS hl.1 hP 0 rfl rfl rfl (zc_PA_recover l G pa pw ar dk on pt rc rw wr M off wn L b sk rb nw hfl hI hD1) zl_PA_recover (zY_PA_recover hT) zq_354 zq_355 zq_356 zd_La_recover_1 rfl ⟨rfl, rfl, Nat.le_of_ble_eq_true rfl, Nat.le_of_ble_eq_true rfl, Nat.le_of_ble_eq_true rfl, Nat.le_of_ble_eq_true rfl⟩ (fun v H locs hv hS => ?_) (fun x H locs hv hS => ?_)
  · obtain ⟨rfl, q1, hI⟩ := hv
    refine zw_app0 ?_
    refine lv_goto (tgt := 10) hx hb zd_La_recover_4 rfl ?_
    refine lv_iconst (v := 0) hx hb zd_La_recover_10 (by decide) ?_
    exact zx_iret F rfl hS.2.2 zd_La_recover_11 (⟨0, rfl, Or.inr ⟨q1, rfl, hI⟩⟩)
  · obtain ⟨q1, hxe, hI⟩ := hv
    refine zx_c1 F hT (by decide) (by decide) zq_180 hK.2.2.2.1 hxe zq_192 ?_
    refine lv_astore_n hx hb zd_La_recover_7 rfl hl (by decide) rfl (fun ls hl => ?_)
    have hl : lv_has ls 2 [(1, _), (0, _)] := hl
    refine lv_iconst (v := 1) hx hb zd_La_recover_8 (by decide) ?_
    exact zx_iret F rfl hS.2.2 zd_La_recover_9 (⟨1, rfl, Or.inl ⟨q1, rfl, hI⟩⟩)
end
section
/-! the constructors -/
theorem zq_22o {s : State} {a : Array Value} (hT : xT s) : (Cond.code Lib.objectInit ⟨#[0xb1]⟩ 1 none).before a s = true := hT.u (w := Cond.code Lib.objectInit ⟨#[0xb1]⟩ 1 none) zq_22
set_option maxHeartbeats 4000000 in
set_option maxRecDepth 20000 in
theorem zc_Pw_init (l : Launch) (G : xG) {H0 : Heap} {A : Nat → Prop} (x1 : Nat × va_E) (pw : Nat) (hP : va_P G.1 zcl [x1, (pw, .inr (1, [.int 0, .int 0, .int 0, .int 0, .int 0]))] H0) (hD : va_D A [x1, (pw, .inr (1, [.int 0, .int 0, .int 0, .int 0, .int 0]))]) : XM l G (rmz 3 60 0 0) zy_Pw_init zb_Pw_init 1 none [] H0 A [.ref pw] 0 0 (fun v H => v = none ∧ va_P G.1 zcl [x1, (pw, ePw 4 0 (nI 0) false false)] H ∧ va_D A [x1, (pw, ePw 4 0 (nI 0) false false)]) (fun _ _ => False) := by
  intro p e s m below meth c F hT hK hH hZ
  subst hH
  have hx := F.1
  have hb := F.2.1
  have hS : va_S A s.heap s.heap [] := va_S.rf
  have hl := lv_entry ([.ref pw]) (n := 1) (Nat.le_of_ble_eq_true rfl)
  rw [lg_entry_eq]
  generalize (lg_sl ([.ref pw]) ++ List.replicate (1 - (lg_sl ([.ref pw])).length) Slot.unset).toArray = ls at hl ⊢
  have hl : lv_has ls 1 [(0, .ref pw)] := hl
  refine lv_aload_n hx hb zd_Pw_init_0 rfl (lv_at hl 0 rfl) ?_
  refine W.objInit hx hb F.2.2.2.2.1 (hT.u zq_28) (hT.u zq_21) (zq_22o hT) rfl (by rw [F.2.2.2.1]; exact hl.1) rfl zd_Pw_init_1 (Nat.le_of_ble_eq_true rfl) (Nat.le_of_ble_eq_true rfl) ?_
  show W _ _ _ _ _ _ _ _ _ _ _ _ _ _ _ (F0 m 4 ls [])
  refine lv_aload_n hx hb zd_Pw_init_4 rfl (lv_at hl 0 rfl) ?_
  refine lv_iconst (v := 4) hx hb zd_Pw_init_5 (by decide) ?_
  refine zp_Pw F hT hK hP hD hS 1 rfl 0 (by decide) zq_29 rfl rfl rfl (Nat.le_of_ble_eq_true rfl) zd_Pw_init_6 (fun H locs hP hD hS => ?_)
  have hP : va_P G.1 zcl [x1, (_, .inr (1, [_, _, _, _, _]))] H := hP
  have hD : va_D A [x1, (_, .inr (1, [_, _, _, _, _]))] := hD
  exact zx_vret F hS.2.2 zd_Pw_init_9 ⟨rfl, hP, hD⟩
set_option maxHeartbeats 4000000 in
set_option maxRecDepth 20000 in
theorem zc_A5_init (l : Launch) (G : xG) {H0 : Heap} {A : Nat → Prop} (x1 x2 : Nat × va_E) (ar pw : Nat) (hA : ∀ q, H0.size ≤ q → A q) (hP : va_P G.1 zcl [x1, x2, (ar, .inr (2, [.null, .null, .null, .null, .null, .int 0, .int 0, .int 0, .int 0]))] H0) (hD : va_D A [x1, x2, (ar, .inr (2, [.null, .null, .null, .null, .null, .int 0, .int 0, .int 0, .int 0]))]) : XM l G (rmz 3 60 4 97072) zy_A5_init zb_A5_init 2 none [] H0 A [.ref ar, .ref pw] 4 97072 (fun v H => v = none ∧ ∃ dk on pt rc : Nat, va_P G.1 zcl [x1, x2, (ar, eA5 dk on pt rc pw (sI 5) (nI 0) false false), (dk, eB G 96680 (fun _ => 0)), (on, eB G 128 (fun _ => 0)), (pt, eB G 128 (fun _ => 0)), (rc, eB G 136 (fun _ => 0))] H ∧ va_D A [x1, x2, (ar, eA5 dk on pt rc pw (sI 5) (nI 0) false false), (dk, eB G 96680 (fun _ => 0)), (on, eB G 128 (fun _ => 0)), (pt, eB G 128 (fun _ => 0)), (rc, eB G 136 (fun _ => 0))]) (fun _ _ => False) := by
  intro p e s m below meth c F hT hK hH hZ
  subst hH
  have hx := F.1
  have hb := F.2.1
  have hS : va_S A s.heap s.heap [] := va_S.rf
  have hl := lv_entry ([.ref ar, .ref pw]) (n := 2) (Nat.le_of_ble_eq_true rfl)
  rw [lg_entry_eq]
  generalize (lg_sl ([.ref ar, .ref pw]) ++ List.replicate (2 - (lg_sl ([.ref ar, .ref pw])).length) Slot.unset).toArray = ls at hl ⊢
  have hl : lv_has ls 2 [(0, .ref ar), (1, .ref pw)] := hl
  refine lv_aload_n hx hb zd_A5_init_0 rfl (lv_at hl 0 rfl) ?_
  refine W.objInit hx hb F.2.2.2.2.1 (hT.u zq_52) (hT.u zq_21) (zq_22o hT) rfl (by rw [F.2.2.2.1]; exact hl.1) rfl zd_A5_init_1 (Nat.le_of_ble_eq_true rfl) (Nat.le_of_ble_eq_true rfl) ?_
  show W _ _ _ _ _ _ _ _ _ _ _ _ _ _ _ (F0 m 4 ls [])
  refine lv_aload_n hx hb zd_A5_init_4 rfl (lv_at hl 0 rfl) ?_
  refine lv_ldc hx hb F.2.2.2.2.1 (hT.u zq_53) zd_A5_init_5 ?_
  refine zN_B F hT hK hP hD hS hA 96680 rfl (by decide) (Nat.le_of_ble_eq_true rfl) (Nat.le_of_ble_eq_true rfl) zd_A5_init_7 (fun dk H hP hD hS => ?_)
  have hP : va_P G.1 zcl [x1, x2, (_, .inr (2, [_, _, _, _, _, _, _, _, _])), (_, _)] H := hP
  have hD : va_D A [x1, x2, (_, .inr (2, [_, _, _, _, _, _, _, _, _])), (_, _)] := hD
  refine zf_A5 F hT hK hP hD hS 2 rfl 0 (by decide) zq_54 rfl rfl rfl rfl rfl (Nat.le_of_ble_eq_true rfl) zd_A5_init_9 (fun H locs hP hD hS => ?_)
  have hP : va_P G.1 zcl [x1, x2, (_, .inr (2, [_, _, _, _, _, _, _, _, _])), (_, _)] H := hP
  have hD : va_D A [x1, x2, (_, .inr (2, [_, _, _, _, _, _, _, _, _])), (_, _)] := hD
  refine lv_aload_n hx hb zd_A5_init_12 rfl (lv_at hl 0 rfl) ?_
  refine lv_sipush (v := nI 128) hx hb zd_A5_init_13 (by decide) ?_
  refine zN_B F hT hK hP hD hS hA 128 rfl (by decide) (Nat.le_of_ble_eq_true rfl) (Nat.le_of_ble_eq_true rfl) zd_A5_init_16 (fun on H hP hD hS => ?_)
  have hP : va_P G.1 zcl [x1, x2, (_, .inr (2, [_, _, _, _, _, _, _, _, _])), (_, _), (_, _)] H := hP
  have hD : va_D A [x1, x2, (_, .inr (2, [_, _, _, _, _, _, _, _, _])), (_, _), (_, _)] := hD
  refine zf_A5 F hT hK hP hD hS 2 rfl 1 (by decide) zq_55 rfl rfl rfl rfl rfl (Nat.le_of_ble_eq_true rfl) zd_A5_init_18 (fun H locs hP hD hS => ?_)
  have hP : va_P G.1 zcl [x1, x2, (_, .inr (2, [_, _, _, _, _, _, _, _, _])), (_, _), (_, _)] H := hP
  have hD : va_D A [x1, x2, (_, .inr (2, [_, _, _, _, _, _, _, _, _])), (_, _), (_, _)] := hD
  refine lv_aload_n hx hb zd_A5_init_21 rfl (lv_at hl 0 rfl) ?_
  refine lv_sipush (v := nI 128) hx hb zd_A5_init_22 (by decide) ?_
  refine zN_B F hT hK hP hD hS hA 128 rfl (by decide) (Nat.le_of_ble_eq_true rfl) (Nat.le_of_ble_eq_true rfl) zd_A5_init_25 (fun pt H hP hD hS => ?_)
  have hP : va_P G.1 zcl [x1, x2, (_, .inr (2, [_, _, _, _, _, _, _, _, _])), (_, _), (_, _), (_, _)] H := hP
  have hD : va_D A [x1, x2, (_, .inr (2, [_, _, _, _, _, _, _, _, _])), (_, _), (_, _), (_, _)] := hD
  refine zf_A5 F hT hK hP hD hS 2 rfl 2 (by decide) zq_56 rfl rfl rfl rfl rfl (Nat.le_of_ble_eq_true rfl) zd_A5_init_27 (fun H locs hP hD hS => ?_)
  have hP : va_P G.1 zcl [x1, x2, (_, .inr (2, [_, _, _, _, _, _, _, _, _])), (_, _), (_, _), (_, _)] H := hP
  have hD : va_D A [x1, x2, (_, .inr (2, [_, _, _, _, _, _, _, _, _])), (_, _), (_, _), (_, _)] := hD
  refine lv_aload_n hx hb zd_A5_init_30 rfl (lv_at hl 0 rfl) ?_
  refine lv_sipush (v := nI 136) hx hb zd_A5_init_31 (by decide) ?_
  refine zN_B F hT hK hP hD hS hA 136 rfl (by decide) (Nat.le_of_ble_eq_true rfl) (Nat.le_of_ble_eq_true rfl) zd_A5_init_34 (fun rc H hP hD hS => ?_)
  have hP : va_P G.1 zcl [x1, x2, (_, .inr (2, [_, _, _, _, _, _, _, _, _])), (_, _), (_, _), (_, _), (_, _)] H := hP
  have hD : va_D A [x1, x2, (_, .inr (2, [_, _, _, _, _, _, _, _, _])), (_, _), (_, _), (_, _), (_, _)] := hD
  refine zf_A5 F hT hK hP hD hS 2 rfl 3 (by decide) zq_57 rfl rfl rfl rfl rfl (Nat.le_of_ble_eq_true rfl) zd_A5_init_36 (fun H locs hP hD hS => ?_)
  have hP : va_P G.1 zcl [x1, x2, (_, .inr (2, [_, _, _, _, _, _, _, _, _])), (_, _), (_, _), (_, _), (_, _)] H := hP
  have hD : va_D A [x1, x2, (_, .inr (2, [_, _, _, _, _, _, _, _, _])), (_, _), (_, _), (_, _), (_, _)] := hD
  refine lv_aload_n hx hb zd_A5_init_39 rfl (lv_at hl 0 rfl) ?_
  refine lv_iconst (v := (-1)) hx hb zd_A5_init_40 (by decide) ?_
  refine zp_A5 F hT hK hP hD hS 2 rfl 5 (by decide) zq_59 rfl rfl rfl (Nat.le_of_ble_eq_true rfl) zd_A5_init_41 (fun H locs hP hD hS => ?_)
  have hP : va_P G.1 zcl [x1, x2, (_, .inr (2, [_, _, _, _, _, _, _, _, _])), (_, _), (_, _), (_, _), (_, _)] H := hP
  have hD : va_D A [x1, x2, (_, .inr (2, [_, _, _, _, _, _, _, _, _])), (_, _), (_, _), (_, _), (_, _)] := hD
  refine lv_aload_n hx hb zd_A5_init_44 rfl (lv_at hl 0 rfl) ?_
  refine lv_aload_n hx hb zd_A5_init_45 rfl (lv_at hl 1 rfl) ?_
  refine zf_A5 F hT hK hP hD hS 2 rfl 4 (by decide) zq_58 rfl rfl rfl rfl rfl (Nat.le_of_ble_eq_true rfl) zd_A5_init_46 (fun H locs hP hD hS => ?_)
  have hP : va_P G.1 zcl [x1, x2, (_, .inr (2, [_, _, _, _, _, _, _, _, _])), (_, _), (_, _), (_, _), (_, _)] H := hP
  have hD : va_D A [x1, x2, (_, .inr (2, [_, _, _, _, _, _, _, _, _])), (_, _), (_, _), (_, _), (_, _)] := hD
  exact zx_vret F hS.2.2 zd_A5_init_49 ⟨rfl, dk, on, pt, rc, hP, hD⟩
set_option maxHeartbeats 4000000 in
set_option maxRecDepth 20000 in
theorem zc_PA_init (l : Launch) (G : xG) {H0 : Heap} {A : Nat → Prop} (pa : Nat) (hA : ∀ q, H0.size ≤ q → A q) (hP : va_P G.1 zcl [(pa, .inr (0, [.null, .null, .null, .int 0]))] H0) (hD : va_D A [(pa, .inr (0, [.null, .null, .null, .int 0]))]) : XM l G (rmz 5 160 7 97214) zy_PA_init zb_PA_init 1 none [] H0 A [.ref pa] 7 97214 (fun v H => v = none ∧ ∃ pw ar dk on pt rc rw : Nat, va_P G.1 zcl (zS8 G pa pw ar dk on pt rc rw false 4 0 0 false false 5 0 false (fun _ => 0) (fun _ => 0) (fun _ => 0) (fun _ => 0) (fun _ => 0)) H ∧ va_D A (zS8 G pa pw ar dk on pt rc rw false 4 0 0 false false 5 0 false (fun _ => 0) (fun _ => 0) (fun _ => 0) (fun _ => 0) (fun _ => 0))) (fun _ _ => False) := by
  intro p e s m below meth c F hT hK hH hZ
  subst hH
  have hx := F.1
  have hb := F.2.1
  have hS : va_S A s.heap s.heap [] := va_S.rf
  have hl := lv_entry ([.ref pa]) (n := 1) (Nat.le_of_ble_eq_true rfl)
  rw [lg_entry_eq]
  generalize (lg_sl ([.ref pa]) ++ List.replicate (1 - (lg_sl ([.ref pa])).length) Slot.unset).toArray = ls at hl ⊢
  have hl : lv_has ls 1 [(0, .ref pa)] := hl
  refine lv_aload_n hx hb zd_PA_init_0 rfl (lv_at hl 0 rfl) ?_
  refine W.objInit hx hb F.2.2.2.2.1 (hT.u zq_20) (hT.u zq_21) (zq_22o hT) rfl (by rw [F.2.2.2.1]; exact hl.1) rfl zd_PA_init_1 (Nat.le_of_ble_eq_true rfl) (Nat.le_of_ble_eq_true rfl) ?_
  show W _ _ _ _ _ _ _ _ _ _ _ _ _ _ _ (F0 m 4 ls [])
  refine lv_aload_n hx hb zd_PA_init_4 rfl (lv_at hl 0 rfl) ?_
  refine zN_Pw F hT hK hP hD hS hA zq_23 zq_24 zq_2 (fs := [.int 0, .int 0, .int 0, .int 0, .int 0]) (fun j hj => by match j, hj with | 0, _ => rfl | 1, _ => rfl | 2, _ => rfl | 3, _ => rfl | 4, _ => rfl) (Nat.le_of_ble_eq_true rfl) (Nat.le_of_ble_eq_true rfl) zd_PA_init_5 (fun pw H hP hD hS => ?_)
  have hP : va_P G.1 zcl [(_, .inr (0, [_, _, _, _])), (_, .inr (1, [_, _, _, _, _]))] H := hP
  have hD : va_D A [(_, .inr (0, [_, _, _, _])), (_, .inr (1, [_, _, _, _, _]))] := hD
  refine lv_dup hx hb zd_PA_init_8 rfl ?_
  refine zk_IN F hT hK hZ hS hl.1 (zc_Pw_init l G _ pw hP hD) zl_Pw_init rfl zq_27 zq_25 zq_26 zd_PA_init_9 rfl ⟨rfl, rfl, Nat.le_of_ble_eq_true rfl, Nat.le_of_ble_eq_true rfl, Nat.le_of_ble_eq_true rfl, Nat.le_of_ble_eq_true rfl⟩ (fun v H locs hv hS => ?_) (fun x H locs hv hS => hv.elim)
  obtain ⟨rfl, hP, hD⟩ := hv
  refine zw_app0 ?_
  have hP : va_P G.1 zcl [(_, .inr (0, [_, _, _, _])), (_, .inr (1, [_, _, _, _, _]))] H := hP
  have hD : va_D A [(_, .inr (0, [_, _, _, _])), (_, .inr (1, [_, _, _, _, _]))] := hD
  refine zf_PA F hT hK hP hD hS 0 rfl 0 (by decide) zq_86 rfl rfl rfl rfl rfl (Nat.le_of_ble_eq_true rfl) zd_PA_init_12 (fun H locs hP hD hS => ?_)
  have hP : va_P G.1 zcl [(_, .inr (0, [_, _, _, _])), (_, .inr (1, [_, _, _, _, _]))] H := hP
  have hD : va_D A [(_, .inr (0, [_, _, _, _])), (_, .inr (1, [_, _, _, _, _]))] := hD
  refine lv_aload_n hx hb zd_PA_init_15 rfl (lv_at hl 0 rfl) ?_
  refine zN_A5 F hT hK hP hD hS hA zq_47 zq_48 zq_3 (fs := [.null, .null, .null, .null, .null, .int 0, .int 0, .int 0, .int 0]) (fun j hj => by match j, hj with | 0, _ => rfl | 1, _ => rfl | 2, _ => rfl | 3, _ => rfl | 4, _ => rfl | 5, _ => rfl | 6, _ => rfl | 7, _ => rfl | 8, _ => rfl) (Nat.le_of_ble_eq_true rfl) (Nat.le_of_ble_eq_true rfl) zd_PA_init_16 (fun ar H hP hD hS => ?_)
  have hP : va_P G.1 zcl [(_, .inr (0, [_, _, _, _])), (_, .inr (1, [_, _, _, _, _])), (_, .inr (2, [_, _, _, _, _, _, _, _, _]))] H := hP
  have hD : va_D A [(_, .inr (0, [_, _, _, _])), (_, .inr (1, [_, _, _, _, _])), (_, .inr (2, [_, _, _, _, _, _, _, _, _]))] := hD
  refine lv_dup hx hb zd_PA_init_19 rfl ?_
  refine lv_aload_n hx hb zd_PA_init_20 rfl (lv_at hl 0 rfl) ?_
  refine zg_PA F hT hK hP 0 rfl 0 (by decide) zq_86 rfl zd_PA_init_21 ?_
  refine zk_I F hT hK hZ hS hl.1 (zc_A5_init l G _ _ ar pw (fun q hq => hA q (Nat.le_trans hS.1 hq)) hP hD) zl_A5_init rfl zq_51 zq_49 zq_50 zd_PA_init_24 rfl ⟨rfl, rfl, Nat.le_of_ble_eq_true rfl, Nat.le_of_ble_eq_true rfl, Nat.le_of_ble_eq_true rfl, Nat.le_of_ble_eq_true rfl⟩ (fun v H locs hv hS => ?_) (fun x H locs hv hS => hv.elim)
  obtain ⟨rfl, dk, on, pt, rc, hP, hD⟩ := hv
  refine zw_app0 ?_
  have hP : va_P G.1 zcl [(_, .inr (0, [_, _, _, _])), (_, .inr (1, [_, _, _, _, _])), (_, .inr (2, [_, _, _, _, _, _, _, _, _])), (_, _), (_, _), (_, _), (_, _)] H := hP
  have hD : va_D A [(_, .inr (0, [_, _, _, _])), (_, .inr (1, [_, _, _, _, _])), (_, .inr (2, [_, _, _, _, _, _, _, _, _])), (_, _), (_, _), (_, _), (_, _)] := hD
  refine zf_PA F hT hK hP hD hS 0 rfl 1 (by decide) zq_87 rfl rfl rfl rfl rfl (Nat.le_of_ble_eq_true rfl) zd_PA_init_27 (fun H locs hP hD hS => ?_)
  have hP : va_P G.1 zcl [(_, .inr (0, [_, _, _, _])), (_, .inr (1, [_, _, _, _, _])), (_, .inr (2, [_, _, _, _, _, _, _, _, _])), (_, _), (_, _), (_, _), (_, _)] H := hP
  have hD : va_D A [(_, .inr (0, [_, _, _, _])), (_, .inr (1, [_, _, _, _, _])), (_, .inr (2, [_, _, _, _, _, _, _, _, _])), (_, _), (_, _), (_, _), (_, _)] := hD
  refine lv_aload_n hx hb zd_PA_init_30 rfl (lv_at hl 0 rfl) ?_
  refine lv_sipush (v := nI 128) hx hb zd_PA_init_31 (by decide) ?_
  refine zN_B F hT hK hP hD hS hA 128 rfl (by decide) (Nat.le_of_ble_eq_true rfl) (Nat.le_of_ble_eq_true rfl) zd_PA_init_34 (fun rw H hP hD hS => ?_)
  have hP : va_P G.1 zcl [(_, .inr (0, [_, _, _, _])), (_, .inr (1, [_, _, _, _, _])), (_, .inr (2, [_, _, _, _, _, _, _, _, _])), (_, _), (_, _), (_, _), (_, _), (_, _)] H := hP
  have hD : va_D A [(_, .inr (0, [_, _, _, _])), (_, .inr (1, [_, _, _, _, _])), (_, .inr (2, [_, _, _, _, _, _, _, _, _])), (_, _), (_, _), (_, _), (_, _), (_, _)] := hD
  refine zf_PA F hT hK hP hD hS 0 rfl 2 (by decide) zq_88 rfl rfl rfl rfl rfl (Nat.le_of_ble_eq_true rfl) zd_PA_init_36 (fun H locs hP hD hS => ?_)
  have hP : va_P G.1 zcl [(_, .inr (0, [_, _, _, _])), (_, .inr (1, [_, _, _, _, _])), (_, .inr (2, [_, _, _, _, _, _, _, _, _])), (_, _), (_, _), (_, _), (_, _), (_, _)] H := hP
  have hD : va_D A [(_, .inr (0, [_, _, _, _])), (_, .inr (1, [_, _, _, _, _])), (_, .inr (2, [_, _, _, _, _, _, _, _, _])), (_, _), (_, _), (_, _), (_, _), (_, _)] := hD
  exact zx_vret F hS.2.2 zd_PA_init_39 ⟨rfl, pw, ar, dk, on, pt, rc, rw, hP, hD⟩
set_option maxHeartbeats 4000000 in
set_option maxRecDepth 20000 in
theorem zc_Mo_init (l : Launch) (G : xG) {H0 : Heap} {A : Nat → Prop} (x1 x2 x3 x4 x5 x6 x7 x8 : Nat × va_E) (mo : Nat) (hA : ∀ q, H0.size ≤ q → A q) (hP : va_P G.1 zcl [x1, x2, x3, x4, x5, x6, x7, x8, (mo, .inr (3, [.null, .int 0, .int 0, .int 0, .int 0, .int 0, .int 0, .int 0, .int 0]))] H0) (hD : va_D A [x1, x2, x3, x4, x5, x6, x7, x8, (mo, .inr (3, [.null, .int 0, .int 0, .int 0, .int 0, .int 0, .int 0, .int 0, .int 0]))]) : XM l G (rmz 3 60 1 76800) zy_Mo_init zb_Mo_init 1 none [] H0 A [.ref mo] 1 76800 (fun v H => v = none ∧ ∃ by_ : Nat, va_P G.1 zcl [x1, x2, x3, x4, x5, x6, x7, x8, (mo, eMo by_ true (sI 5) false (nI 0) 0 0 0 0), (by_, eB G 76800 (fun _ => 0))] H ∧ va_D A [x1, x2, x3, x4, x5, x6, x7, x8, (mo, eMo by_ true (sI 5) false (nI 0) 0 0 0 0), (by_, eB G 76800 (fun _ => 0))]) (fun _ _ => False) := by
  intro p e s m below meth c F hT hK hH hZ
  subst hH
  have hx := F.1
  have hb := F.2.1
  have hS : va_S A s.heap s.heap [] := va_S.rf
  have hl := lv_entry ([.ref mo]) (n := 1) (Nat.le_of_ble_eq_true rfl)
  rw [lg_entry_eq]
  generalize (lg_sl ([.ref mo]) ++ List.replicate (1 - (lg_sl ([.ref mo])).length) Slot.unset).toArray = ls at hl ⊢
  have hl : lv_has ls 1 [(0, .ref mo)] := hl
  refine lv_aload_n hx hb zd_Mo_init_0 rfl (lv_at hl 0 rfl) ?_
  refine W.objInit hx hb F.2.2.2.2.1 (hT.u zq_385) (hT.u zq_21) (zq_22o hT) rfl (by rw [F.2.2.2.1]; exact hl.1) rfl zd_Mo_init_1 (Nat.le_of_ble_eq_true rfl) (Nat.le_of_ble_eq_true rfl) ?_
  show W _ _ _ _ _ _ _ _ _ _ _ _ _ _ _ (F0 m 4 ls [])
  refine lv_aload_n hx hb zd_Mo_init_4 rfl (lv_at hl 0 rfl) ?_
  refine lv_ldc hx hb F.2.2.2.2.1 (hT.u zq_386) zd_Mo_init_5 ?_
  refine zN_B F hT hK hP hD hS hA 76800 rfl (by decide) (Nat.le_of_ble_eq_true rfl) (Nat.le_of_ble_eq_true rfl) zd_Mo_init_7 (fun by_ H hP hD hS => ?_)
  have hP : va_P G.1 zcl [x1, x2, x3, x4, x5, x6, x7, x8, (_, .inr (3, [_, _, _, _, _, _, _, _, _])), (_, _)] H := hP
  have hD : va_D A [x1, x2, x3, x4, x5, x6, x7, x8, (_, .inr (3, [_, _, _, _, _, _, _, _, _])), (_, _)] := hD
  refine zf_Mo F hT hK hP hD hS 8 rfl 0 (by decide) zq_387 rfl rfl rfl rfl rfl (Nat.le_of_ble_eq_true rfl) zd_Mo_init_9 (fun H locs hP hD hS => ?_)
  have hP : va_P G.1 zcl [x1, x2, x3, x4, x5, x6, x7, x8, (_, .inr (3, [_, _, _, _, _, _, _, _, _])), (_, _)] H := hP
  have hD : va_D A [x1, x2, x3, x4, x5, x6, x7, x8, (_, .inr (3, [_, _, _, _, _, _, _, _, _])), (_, _)] := hD
  refine lv_aload_n hx hb zd_Mo_init_12 rfl (lv_at hl 0 rfl) ?_
  refine lv_iconst (v := 1) hx hb zd_Mo_init_13 (by decide) ?_
  refine zp_Mo F hT hK hP hD hS 8 rfl 1 (by decide) zq_388 rfl rfl rfl (Nat.le_of_ble_eq_true rfl) zd_Mo_init_14 (fun H locs hP hD hS => ?_)
  have hP : va_P G.1 zcl [x1, x2, x3, x4, x5, x6, x7, x8, (_, .inr (3, [_, _, _, _, _, _, _, _, _])), (_, _)] H := hP
  have hD : va_D A [x1, x2, x3, x4, x5, x6, x7, x8, (_, .inr (3, [_, _, _, _, _, _, _, _, _])), (_, _)] := hD
  refine lv_aload_n hx hb zd_Mo_init_17 rfl (lv_at hl 0 rfl) ?_
  refine lv_iconst (v := (-1)) hx hb zd_Mo_init_18 (by decide) ?_
  refine zp_Mo F hT hK hP hD hS 8 rfl 2 (by decide) zq_389 rfl rfl rfl (Nat.le_of_ble_eq_true rfl) zd_Mo_init_19 (fun H locs hP hD hS => ?_)
  have hP : va_P G.1 zcl [x1, x2, x3, x4, x5, x6, x7, x8, (_, .inr (3, [_, _, _, _, _, _, _, _, _])), (_, _)] H := hP
  have hD : va_D A [x1, x2, x3, x4, x5, x6, x7, x8, (_, .inr (3, [_, _, _, _, _, _, _, _, _])), (_, _)] := hD
  exact zx_vret F hS.2.2 zd_Mo_init_22 ⟨rfl, by_, hP, hD⟩
end
section
/-! THE CLAIM OUT OF ONE WALK OF THE LAW'S BODY. Your part is whole_start (and what it stands on); all else here is the same for every law, but numbers. -/
def R_law : String := "ParityArrayLaw"
def lw_P (b : Addr) (xs : List Int32) (args : Array Value) (s : State) : Prop := args = #[.ref b] ∧ s.IntsAt b xs ∧ xs.length ≤ 2560 ∧ (Jvm.Cond.and given_1 narrow_1).before args s = true
def lw_Q (_ : Array Value) (s : State) (o : Outcome) (t : State) : Prop := o = .returned (some (.int 1)) ∧ Framed s o t [] 603072 7215210
def lw_Z (below : List Frame) (a : Array Value) (s : State) : State → Prop := fun t => ∃ o, t.status = .running ∧ Ended t below o ∧ lw_Q a s o t
/-- the law's own end, with 1 on the stack, nothing written that was there before, its room as the claim has it -/
theorem lw_ret {p : Program} {l : Launch} {e : Env} {s : State} {m : MethodId} {below : List Frame} {meth : Method} {c : Code} {b : Nat} (hx : p.tables.exec = Jvm.exec) (hb : c.code = code) (hr : meth.sig.returnType = ret) (hlocks : meth.locks = false) {pc : Nat} {H : Heap} {ls : Array Slot} (hdg : decode code pc = .ok (.ireturn, 1)) : W p l e room_1 s m #[Value.ref b] below meth c H [] 603072 7215210 (lw_Z below #[Value.ref b] s) (F0 m pc ls [.int 1]) := by
  intro T hT X
  obtain ⟨fs, hret, hrun, hended, hW, hframe⟩ := X.leave (v := some (.int 1)) (hlocks := hlocks) (fun h => by rw [hr] at h; cases h)
  have hmeth' : T.vm.method? m = some meth := X.method'
  refine ⟨T.setFrames fs, ?_, .returned (some (.int 1)), hrun, hended, rfl, ⟨_, rfl⟩, hW, hframe⟩
  jvm_step X.here [X.here.top, hx, hb, hdg, hmeth', hr, ret, narrow_b1]
  (try refine ⟨rfl, ?_⟩); (try refine ⟨rfl, ?_⟩)
  first | (intro acts; rw [hret _ acts rfl rfl rfl]) | rw [hret _ _ rfl rfl rfl]
  exact Steps.refl _
/-- what holds at the law's entry: the machine, the code, the tables' words (any of lw_tbl by 'hts w (by decide +kernel)'), the script of L ints xs at the cell b, what the Statement gives of the start (any of its parts by flat_of_before) -/
def lw_At (p : Program) (s : State) (m : MethodId) (meth : Method) (c : Code) (b L : Nat) (xs : Nat → Int32) : Prop :=
  p.tables.exec = Jvm.exec ∧ c.code = code ∧ meth.sig.returnType = ret ∧ c.maxLocals = 8 ∧ s.vm.findClass R_law = some m.cls ∧ (∀ w ∈ lw_tbl, w.before #[Value.ref b] s = true) ∧ va_X b L xs s s.heap ∧ b < s.heap.size ∧ meth.locks = false ∧ (Jvm.Cond.and given_1 narrow_1).before #[Value.ref b] s = true
/-- the start: what every walk needs, out of the given words -/
theorem lw_xT {s : State} {b : Addr} (h : ∀ w ∈ lw_tbl, w.before #[Value.ref b] s = true) : xT s := by
  intro w hw hn a
  have hW : s.WarmedH s.vm := State.WarmedH.refl s
  by_cases hg : goodWord w = true
  · exact word_at hW (good_of_word hg) (h w hw)
  · cases w with
    | methodLinkNest x i y z => exact va_tabs rfl rfl (h _ hw)
    | castable x y => exact va_tabs rfl rfl (h _ hw)
    | declares x => exact va_tabs rfl rfl (h _ hw)
    | _ => simp [zx_ok, hg] at hn
theorem lw_arr {s : State} {ty : FieldType} {a : Array Value} (h : (Cond.arrayClass ty).before a s = true) (hp : ∀ C, ty ≠ .object C) : ∃ cA : ClassId, ArrOfT s cA ty ∧ va_RA s cA ty := by
  obtain ⟨cA, kA, comp, h1, h2, h3⟩ := Cond.arrayClass_spec h
  refine ⟨cA, fun n z => ⟨fun k h => (by cases h), kA, h2, comp, h3⟩, ?_⟩
  cases ty with
  | object C => exact absurd rfl (hp C)
  | _ => exact h1
theorem lw_na {s : State} {a : Array Value} {C T : String} {c t : ClassId} (h : (Cond.not (.castable C T)).before a s = true) (h1 : s.vm.findClass C = some c) (h2 : s.vm.findClass T = some t) : s.vm.assignable c t = false := by
  obtain ⟨c', t', e1, e2, e3⟩ := va_Nc.of h
  cases h1.symm.trans e1
  cases h2.symm.trans e2
  exact e3
theorem lw_xK {s : State} {b : Addr} (hT : xT s) (hg : (Jvm.Cond.and given_1 narrow_1).before #[Value.ref b] s = true) : ∃ G : xG, xK G s := by
  have hf := flat_of_before _ hg
  obtain ⟨c0, i0, k0⟩ := u_known (args := #[]) (zx_Ts hT) (fun w hw => List.mem_filter.mpr ⟨zi_PA w hw, zj_PA w hw⟩) (hT.u zq_16)
  obtain ⟨c1, i1, k1⟩ := u_known (args := #[]) (zx_Ts hT) (fun w hw => List.mem_filter.mpr ⟨zi_Pw w hw, zj_Pw w hw⟩) (hT.u zq_24)
  obtain ⟨c2, i2, k2⟩ := u_known (args := #[]) (zx_Ts hT) (fun w hw => List.mem_filter.mpr ⟨zi_A5 w hw, zj_A5 w hw⟩) (hT.u zq_48)
  obtain ⟨c3, i3, k3⟩ := u_known (args := #[]) (zx_Ts hT) (fun w hw => List.mem_filter.mpr ⟨zi_Mo w hw, zj_Mo w hw⟩) (hT.u zq_381)
  obtain ⟨cB, b1, b2⟩ := lw_arr (hT.u (a := #[]) zq_85) (fun _ h => by cases h)
  obtain ⟨cJ, j1, j2⟩ := lw_arr (hT.u (a := #[]) zq_472) (fun _ h => by cases h)
  obtain ⟨e1, -, f1, -⟩ := Cond.instantiable_spec (hT.u (a := #[]) zq_207)
  obtain ⟨e2, -, f2, -⟩ := Cond.instantiable_spec (hT.u (a := #[]) zq_231)
  obtain ⟨e3, -, f3, -⟩ := Cond.instantiable_spec (hT.u (a := #[]) zq_181)
  obtain ⟨e4, -, f4, -⟩ := Cond.instantiable_spec (hT.u (a := #[]) zq_333)
  refine ⟨((fun k => match k with | 0 => c0 | 1 => c1 | 2 => c2 | _ => c3, fun k => match k with | 0 => i0 | 1 => i1 | 2 => i2 | _ => i3), cB, cJ, e1, e2, e3, e4), ⟨fun k q hq => ?_, fun k q hq => ?_⟩, f1, f2, f3, f4, ?_, ?_, ?_, ?_⟩
  · match k, hq with
    | 0, hq => cases hq; exact k0
    | 1, hq => cases hq; exact k1
    | 2, hq => cases hq; exact k2
    | 3, hq => cases hq; exact k3
  · match k, hq with
    | 0, hq => cases hq; exact ⟨b1, b2⟩
    | 1, hq => cases hq; exact ⟨j1, j2⟩
  · exact lw_na (hf (Cond.not (.castable "java/lang/IndexOutOfBoundsException" "java/lang/IllegalStateException")) (by decide +kernel)) f2 f1
  · exact lw_na (hf (Cond.not (.castable "java/lang/ArithmeticException" "java/lang/IllegalStateException")) (by decide +kernel)) f3 f1
  · exact lw_na (hf (Cond.not (.castable "java/lang/ArithmeticException" "java/lang/IndexOutOfBoundsException")) (by decide +kernel)) f3 f2
  · exact lw_na (hf (Cond.not (.castable "java/lang/IllegalStateException" "java/lang/IndexOutOfBoundsException")) (by decide +kernel)) f1 f2
theorem lw_xZ {s : State} {b : Addr} (h : ∀ w ∈ lw_tbl, w.before #[Value.ref b] s = true) (hg : (Jvm.Cond.and given_1 narrow_1).before #[Value.ref b] s = true) : xZ (fun q => s.heap.size ≤ q) s s.heap := by
  have hf := flat_of_before _ hg
  refine zx_Zof (args := #[Value.ref b]) (fun w hw => ?_) (fun a ha hq => absurd hq (Nat.not_le.mpr ha))
  simp only [zx_S4, List.mem_cons, List.not_mem_nil, or_false] at hw
  rcases hw with rfl | rfl | rfl | rfl
  · exact h _ zq_121
  · exact h _ zq_123
  · exact hf _ (by decide +kernel)
  · exact hf _ (by decide +kernel)
end
section
/-! one round of the law: the same call on both sides, and what is compared -/
def lRel (wn fl wt ct : Int32) (L b : Nat) : Prop := (wn = 4 ∧ fl = 0) ∨ (wn = 0 ∧ fl = 1 ∧ wt = nI L ∧ ct = nI b) ∨ (wn = 3 ∧ fl = 2)
theorem lRel.w0 {wn fl wt ct : Int32} {L b : Nat} (h : lRel wn fl wt ct L b) : wn = 0 ↔ fl = 1 := by
  rcases h with ⟨rfl, rfl⟩ | ⟨rfl, rfl, -⟩ | ⟨rfl, rfl⟩ <;> decide
theorem lRel.w3 {wn fl wt ct : Int32} {L b : Nat} (h : lRel wn fl wt ct L b) : wn = 3 ↔ fl = 2 := by
  rcases h with ⟨rfl, rfl⟩ | ⟨rfl, rfl, -⟩ | ⟨rfl, rfl⟩ <;> decide
theorem lRel.one {wn fl wt ct : Int32} {L b : Nat} (h : lRel wn fl wt ct L b) (hL : wn = 0 → L ≤ 10) (hb : b ≤ 200) (h1 : fl = 1) : wt = nI L ∧ ct = nI b ∧ L ≤ 10 ∧ b ≤ 200 := by
  rcases h with ⟨rfl, rfl⟩ | ⟨rfl, rfl, h3, h4⟩ | ⟨rfl, rfl⟩
  · exact absurd h1 (by decide)
  · exact ⟨h3, h4, hL rfl, hb⟩
  · exact absurd h1 (by decide)
theorem SysI.facts {G : xG} {pa pw ar dk on pt rc rw : Nat} {wr : va_W} {M : Nat → Int8} {off : Bool} {wn : Int32} {L b sk rb : Nat} {nw : Bool} {H : Heap} (h : SysI G pa pw ar dk on pt rc rw wr M off wn L b sk rb nw anyRow H) : sk ≤ 5 ∧ rb < 150 ∧ (sk = 5 → nw = false) ∧ (nw = false → rb = 0) ∧ b ≤ 200 ∧ (wn = 0 → L ≤ 10) := by
  obtain ⟨lf, am, bh, D, X1, X2, X3, X4, hP, h1, h2, h3, h4, h5, h6, h7, -⟩ := h
  exact ⟨h2.1, h2.2.1, h2.2.2.1, h2.2.2.2, h6, fun z => (h7 z).2⟩
/-- the whole world between two rounds -/
def LawI (G : xG) (pa pw ar dk on pt rc rw mo by_ ou : Nat) (H : Heap) : Prop := ∃ (M : Nat → Int8) (off : Bool) (wn : Int32) (L8 b8 sk rb : Nat) (nw : Bool) (fl wt ct th : Int32) (f : Nat → Int64), SysI G pa pw ar dk on pt rc rw ((ou, eJ G f) :: [(mo, eMo by_ (!off) (sI sk) nw (nI rb) fl wt ct th), (by_, eB G 76800 M)]) M off wn L8 b8 sk rb nw anyRow H ∧ lRel wn fl wt ct L8 b8
/-- the model's cells first, and back -/
theorem zl_mo {G : xG} {pa pw ar dk on pt rc rw mo by_ ou : Nat} {M : Nat → Int8} {off : Bool} {wn : Int32} {L b sk rb : Nat} {nw : Bool} {H : Heap} {f : Nat → Int64} {e1 e2 : va_E} (h : SysI G pa pw ar dk on pt rc rw ((ou, eJ G f) :: [(mo, e1), (by_, e2)]) M off wn L b sk rb nw anyRow H) : ∃ wr9 : va_W, va_P G.1 zcl ([(mo, e1), (by_, e2)] ++ wr9) H ∧ (∀ A : Nat → Prop, va_D A (zA8 pa pw ar dk on pt rc rw ++ [zD ou, zD mo, zD by_]) → ∀ g1 g2 : va_E, va_D A ([(mo, g1), (by_, g2)] ++ wr9)) ∧ ∀ (g1 g2 : va_E) (H' : Heap), va_P G.1 zcl ([(mo, g1), (by_, g2)] ++ wr9) H' → SysI G pa pw ar dk on pt rc rw ((ou, eJ G f) :: [(mo, g1), (by_, g2)]) M off wn L b sk rb nw anyRow H' := by
  obtain ⟨lf, am, bh, D, X1, X2, X3, X4, hP, h⟩ := h
  refine ⟨[(pa, ePA pw ar rw off), (pw, ePw wn lf (nI b) am bh), (ar, eA5 dk on pt rc pw (sI sk) (nI rb) nw false), (dk, eB G 96680 D), (on, eB G 128 X1), (pt, eB G 128 X2), (rc, eB G 136 X3), (rw, eB G 128 X4), (ou, eJ G f)], hP.sub [9, 10, 0, 1, 2, 3, 4, 5, 6, 7, 8] rfl, fun A hD g1 g2 => ?_, fun g1 g2 H' hP' => ⟨lf, am, bh, D, X1, X2, X3, X4, hP'.sub [2, 3, 4, 5, 6, 7, 8, 9, 10, 0, 1] rfl, h⟩⟩
  have h9 : va_D A [zD mo, zD by_, zD pa, zD pw, zD ar, zD dk, zD on, zD pt, zD rc, zD rw, zD ou] := hD.sub [9, 10, 0, 1, 2, 3, 4, 5, 6, 7, 8] (by decide) rfl
  exact zw_D h9 (by simp only [List.map_append, List.map_cons, List.map_nil, List.cons_append, List.nil_append])
theorem d5_nI {d : Nat} (h : d < 5) : d5 (nI d) := ⟨nI_pos (by omega), nI_ge (b := 5) h (by decide)⟩
theorem okW_nI {k b : Nat} (hk : k ≤ 10) (hb : b ≤ 200) : okW (nI k) (nI b) := ⟨nI_pos (by omega), nI_nlt hk (by decide), nI_pos (by omega), nI_le hb (by decide)⟩
set_option maxHeartbeats 4000000 in
set_option maxRecDepth 20000 in
theorem lc_0 {p : Program} {l : Launch} {e : Env} {s : State} {m : MethodId} {below : List Frame} {meth : Method} {c : Code} {H : Heap} {locs : List Loc} {cells slots : Nat} {Q : State → Prop} {G : xG} {nm : String} {hs : List (Nat × Nat × Nat × Nat)} {ls : Array Slot} {bs Ls j : Nat} {xs : Nat → Int32} {pa pw ar dk on pt rc rw mo by_ ou : Nat} {A : Nat → Prop}
    (F : xFix p s m meth c code 8 "ParityArrayLaw" nm ret hs) (hfl : l.flags = flags0) (hT : xT s) (hK : xK G s) (hZ : xZ A s s.heap) (hX : va_X bs Ls xs s s.heap) (hbl : bs < s.heap.size) (hbA : ¬ A bs) (hS : va_S A s.heap H locs) (hDD : va_D A (zA8 pa pw ar dk on pt rc rw ++ [zD ou, zD mo, zD by_])) (hj : 5 * j + 5 ≤ Ls) (hL : Ls ≤ 2560) (hl : lv_has ls 8 [(4, .int (nI (5 * j))), (3, .ref ou), (2, .ref mo), (1, .ref pa), (0, .ref bs)]) (hI : LawI G pa pw ar dk on pt rc rw mo by_ ou H) (hc1 : cells + 6 ≤ 603072) (hc2 : slots + 36 ≤ 7215210)
    (kk : ∀ (ls : Array Slot) (H : Heap) (locs : List Loc), lv_has ls 8 [(4, .int (nI (5 * j))), (3, .ref ou), (2, .ref mo), (1, .ref pa), (0, .ref bs)] → LawI G pa pw ar dk on pt rc rw mo by_ ou H → va_S A s.heap H locs → W p l e room_1 s m #[Value.ref bs] below meth c H locs (cells + 6) (slots + 36) Q (F0 m 590 ls [])) : W p l e room_1 s m #[Value.ref bs] below meth c H locs cells slots Q (F0 m 88 ls []) := by
  have hx := F.1
  have hb := F.2.1
  obtain ⟨M, off, wn, L8, b8, sk, rb, nw, fl, wt, ct, th, f, hI, hR⟩ := hI
  obtain ⟨hsk, hrb, hc5, hn0, hb8, hL8⟩ := hI.facts
  refine lv_aload_n hx hb zd_La_law_88 rfl (lv_at hl 3 rfl) ?_
  refine lv_aload_n hx hb zd_La_law_89 rfl (lv_at hl 4 rfl) ?_
  refine lv_iload hx hb zd_La_law_90 (lv_at hl 0 rfl) ?_
  refine lv_iconst (v := nI 1) hx hb zd_La_law_92 (by decide) ?_
  refine lv_iadd hx hb zd_La_law_93 ?_
  refine zw_ti (nI (5 * j + 1)) (nI_add _ _) ?_
  refine va_sld hx hb hX hbl hbA hS (vp_in_nI (n := 5 * j + 1) (by omega) (by omega)) zd_La_law_94 ?_
  refine zw_ti (xs (5 * j + 1)) (by rw [nI_clamp (by omega)]) ?_
  refine lv_aload_n hx hb zd_La_law_95 rfl (lv_at hl 4 rfl) ?_
  refine lv_iload hx hb zd_La_law_96 (lv_at hl 0 rfl) ?_
  refine lv_iconst (v := nI 2) hx hb zd_La_law_98 (by decide) ?_
  refine lv_iadd hx hb zd_La_law_99 ?_
  refine zw_ti (nI (5 * j + 2)) (nI_add _ _) ?_
  refine va_sld hx hb hX hbl hbA hS (vp_in_nI (n := 5 * j + 2) (by omega) (by omega)) zd_La_law_100 ?_
  refine zw_ti (xs (5 * j + 2)) (by rw [nI_clamp (by omega)]) ?_
  refine lv_aload_n hx hb zd_La_law_101 rfl (lv_at hl 4 rfl) ?_
  refine lv_iload hx hb zd_La_law_102 (lv_at hl 0 rfl) ?_
  refine lv_iconst (v := nI 3) hx hb zd_La_law_104 (by decide) ?_
  refine lv_iadd hx hb zd_La_law_105 ?_
  refine zw_ti (nI (5 * j + 3)) (nI_add _ _) ?_
  refine va_sld hx hb hX hbl hbA hS (vp_in_nI (n := 5 * j + 3) (by omega) (by omega)) zd_La_law_106 ?_
  refine zw_ti (xs (5 * j + 3)) (by rw [nI_clamp (by omega)]) ?_
  refine lv_i2l hx hb zd_La_law_107 rfl ?_
  refine lv_bipush (v := nI 32) hx hb zd_La_law_108 (by decide) ?_
  refine lv_lshl hx hb zd_La_law_110 rfl ?_
  refine lv_aload_n hx hb zd_La_law_111 rfl (lv_at hl 4 rfl) ?_
  refine lv_iload hx hb zd_La_law_112 (lv_at hl 0 rfl) ?_
  refine lv_iconst (v := nI 4) hx hb zd_La_law_114 (by decide) ?_
  refine lv_iadd hx hb zd_La_law_115 ?_
  refine zw_ti (nI (5 * j + 4)) (nI_add _ _) ?_
  refine va_sld hx hb hX hbl hbA hS (vp_in_nI (n := 5 * j + 4) (by omega) (by omega)) zd_La_law_116 ?_
  refine zw_ti (xs (5 * j + 4)) (by rw [nI_clamp (by omega)]) ?_
  refine lv_i2l hx hb zd_La_law_117 rfl ?_
  refine lv_ldc2 hx hb F.2.2.2.2.1 (hT.u zq_471) zd_La_law_118 ?_
  refine lv_land hx hb zd_La_law_121 ?_
  refine lv_lor hx hb zd_La_law_122 ?_
  refine lv_aload_n hx hb zd_La_law_123 rfl (lv_at hl 1 rfl) ?_
  refine zk_S F hT hK hZ hS hl.1 (zc_La_set l G pa pw ar dk on pt rc rw _ M off wn L8 b8 sk rb nw ou f _ _ _ hfl hI (zw_D hDD (by simp only [List.map_append, List.map_cons, List.map_nil]))) zl_La_set (zY_La_set hT) zq_99 zq_100 zq_0 zd_La_law_124 rfl ⟨rfl, rfl, Nat.le_of_ble_eq_true rfl, Nat.le_of_ble_eq_true rfl, (by show _ ≤ 603072; omega), (by show _ ≤ 7215210; omega)⟩ (fun v H locs hv hS => ?_) (fun x H locs hv hS => hv.elim)
  obtain ⟨k8, f8, rfl, hv⟩ := hv
  refine zw_app ?_
  refine lv_istore hx hb zd_La_law_127 hl (by decide) rfl (fun ls hl => ?_)
  have hl : lv_has ls 8 [(5, _), (4, _), (3, _), (2, _), (1, _), (0, _)] := hl
  refine lv_aload_n hx hb zd_La_law_129 rfl (lv_at hl 3 rfl) ?_
  refine lv_aload_n hx hb zd_La_law_130 rfl (lv_at hl 5 rfl) ?_
  refine lv_iload hx hb zd_La_law_131 (lv_at hl 1 rfl) ?_
  refine lv_iconst (v := nI 1) hx hb zd_La_law_133 (by decide) ?_
  refine lv_iadd hx hb zd_La_law_134 ?_
  refine zw_ti (nI (5 * j + 1)) (nI_add _ _) ?_
  refine va_sld hx hb hX hbl hbA hS (vp_in_nI (n := 5 * j + 1) (by omega) (by omega)) zd_La_law_135 ?_
  refine zw_ti (xs (5 * j + 1)) (by rw [nI_clamp (by omega)]) ?_
  refine lv_aload_n hx hb zd_La_law_136 rfl (lv_at hl 5 rfl) ?_
  refine lv_iload hx hb zd_La_law_137 (lv_at hl 1 rfl) ?_
  refine lv_iconst (v := nI 2) hx hb zd_La_law_139 (by decide) ?_
  refine lv_iadd hx hb zd_La_law_140 ?_
  refine zw_ti (nI (5 * j + 2)) (nI_add _ _) ?_
  refine va_sld hx hb hX hbl hbA hS (vp_in_nI (n := 5 * j + 2) (by omega) (by omega)) zd_La_law_141 ?_
  refine zw_ti (xs (5 * j + 2)) (by rw [nI_clamp (by omega)]) ?_
  refine lv_aload_n hx hb zd_La_law_142 rfl (lv_at hl 5 rfl) ?_
  refine lv_iload hx hb zd_La_law_143 (lv_at hl 1 rfl) ?_
  refine lv_iconst (v := nI 3) hx hb zd_La_law_145 (by decide) ?_
  refine lv_iadd hx hb zd_La_law_146 ?_
  refine zw_ti (nI (5 * j + 3)) (nI_add _ _) ?_
  refine va_sld hx hb hX hbl hbA hS (vp_in_nI (n := 5 * j + 3) (by omega) (by omega)) zd_La_law_147 ?_
  refine zw_ti (xs (5 * j + 3)) (by rw [nI_clamp (by omega)]) ?_
  refine lv_i2l hx hb zd_La_law_148 rfl ?_
  refine lv_bipush (v := nI 32) hx hb zd_La_law_149 (by decide) ?_
  refine lv_lshl hx hb zd_La_law_151 rfl ?_
  refine lv_aload_n hx hb zd_La_law_152 rfl (lv_at hl 5 rfl) ?_
  refine lv_iload hx hb zd_La_law_153 (lv_at hl 1 rfl) ?_
  refine lv_iconst (v := nI 4) hx hb zd_La_law_155 (by decide) ?_
  refine lv_iadd hx hb zd_La_law_156 ?_
  refine zw_ti (nI (5 * j + 4)) (nI_add _ _) ?_
  refine va_sld hx hb hX hbl hbA hS (vp_in_nI (n := 5 * j + 4) (by omega) (by omega)) zd_La_law_157 ?_
  refine zw_ti (xs (5 * j + 4)) (by rw [nI_clamp (by omega)]) ?_
  refine lv_i2l hx hb zd_La_law_158 rfl ?_
  refine lv_ldc2 hx hb F.2.2.2.2.1 (hT.u zq_471) zd_La_law_159 ?_
  refine lv_land hx hb zd_La_law_162 ?_
  refine lv_lor hx hb zd_La_law_163 ?_
  rcases hv with ⟨rfl, rfl, hI⟩ | ⟨rfl, hok, rfl, hI⟩ | ⟨rfl, hw0, rfl, n9, i9, q1, q2, q3, q4, q5, hI⟩ | ⟨rfl, hw0, rfl, n9, i9, q1, q2, q3, q4, hI⟩
  · obtain ⟨wr9, hP, hDf, hB⟩ := zl_mo hI
    have hD := hDf A hDD
    refine zk_V F hT hK hZ hS hl.1 hP 0 rfl rfl rfl (zc_Mo_set l G mo by_ wr9 (!true) nw sk rb fl wt ct th M _ _ _ L8 b8 hsk hrb hP (hD _ _) (hR.one hL8 hb8)) zl_Mo_set (zY_Mo_set hT) zq_419 zq_420 zq_421 zd_La_law_164 rfl ⟨rfl, rfl, Nat.le_of_ble_eq_true rfl, Nat.le_of_ble_eq_true rfl, (by show _ ≤ 603072; omega), (by show _ ≤ 7215210; omega)⟩ (fun v H locs hv hS => ?_) (fun x H locs hv hS => hv.elim)
    obtain ⟨r9, rfl, hv⟩ := hv
    rcases hv with ⟨g1, hP⟩ | ⟨g1, g2, hP⟩ | ⟨g1, g2, n7, i7, t1, t2, t3, t4, t5, hP⟩ | ⟨g1, g2, n7, i7, t1, t2, t3, t4, hP⟩
    · refine zw_app ?_
      refine lv_lstore hx hb zd_La_law_167 hl (by decide) rfl (fun ls hl => ?_)
      have hl : lv_has ls 8 [(6, _), (5, _), (4, _), (3, _), (2, _), (1, _), (0, _)] := hl
      refine lv_aload_n hx hb zd_La_law_169 rfl (lv_at hl 4 rfl) ?_
      refine zk_V F hT hK hZ hS hl.1 hP 0 rfl rfl rfl (zc_Mo_thrown l G mo by_ _ _ _ _ _ _ _ _ (_ :: wr9) hP) zl_Mo_thrown (zY_Mo_thrown hT) zq_415 zq_416 zq_417 zd_La_law_170 rfl ⟨rfl, rfl, Nat.le_of_ble_eq_true rfl, Nat.le_of_ble_eq_true rfl, (by show _ ≤ 603072; omega), (by show _ ≤ 7215210; omega)⟩ (fun v H locs hv hS => ?_) (fun x H locs hv hS => hv.elim)
      obtain ⟨rfl, rfl⟩ := hv
      refine zw_app ?_
      refine lv_iload hx hb zd_La_law_173 (lv_at hl 1 rfl) ?_
      refine lv_icmp_eq (tgt := 180) hx hb zd_La_law_175 rfl (fun _ => ?_) (fun hc9 => absurd hc9 (fun h => h rfl))
      have hI := hB _ _ _ hP
      refine lv_iload hx hb zd_La_law_180 (lv_at hl 1 rfl) ?_
      refine lv_if_ne (tgt := 196) hx hb zd_La_law_182 rfl (fun _ => ?_) (fun hc9 => absurd hc9 (by decide))
      refine lv_goto (tgt := 590) hx hb zd_La_law_196 rfl ?_
      refine W.widen (k := cells + 6) (n := slots + 36) (by omega) (by omega) ?_
      exact kk _ _ _ (lv_sub hl [2, 3, 4, 5, 6] rfl) ⟨M, true, wn, L8, b8, sk, rb, nw, fl, wt, ct, _, f8, hI, hR⟩ hS
    · exact absurd g1 (by decide)
    · exact absurd g1 (by decide)
    · exact absurd g1 (by decide)
  · obtain ⟨wr9, hP, hDf, hB⟩ := zl_mo hI
    have hD := hDf A hDD
    refine zk_V F hT hK hZ hS hl.1 hP 0 rfl rfl rfl (zc_Mo_set l G mo by_ wr9 (!false) nw sk rb fl wt ct th M _ _ _ L8 b8 hsk hrb hP (hD _ _) (hR.one hL8 hb8)) zl_Mo_set (zY_Mo_set hT) zq_419 zq_420 zq_421 zd_La_law_164 rfl ⟨rfl, rfl, Nat.le_of_ble_eq_true rfl, Nat.le_of_ble_eq_true rfl, (by show _ ≤ 603072; omega), (by show _ ≤ 7215210; omega)⟩ (fun v H locs hv hS => ?_) (fun x H locs hv hS => hv.elim)
    obtain ⟨r9, rfl, hv⟩ := hv
    rcases hv with ⟨g1, hP⟩ | ⟨g1, g2, hP⟩ | ⟨g1, g2, n7, i7, t1, t2, t3, t4, t5, hP⟩ | ⟨g1, g2, n7, i7, t1, t2, t3, t4, hP⟩
    · exact absurd g1 (by decide)
    · refine zw_app ?_
      refine lv_lstore hx hb zd_La_law_167 hl (by decide) rfl (fun ls hl => ?_)
      have hl : lv_has ls 8 [(6, _), (5, _), (4, _), (3, _), (2, _), (1, _), (0, _)] := hl
      refine lv_aload_n hx hb zd_La_law_169 rfl (lv_at hl 4 rfl) ?_
      refine zk_V F hT hK hZ hS hl.1 hP 0 rfl rfl rfl (zc_Mo_thrown l G mo by_ _ _ _ _ _ _ _ _ (_ :: wr9) hP) zl_Mo_thrown (zY_Mo_thrown hT) zq_415 zq_416 zq_417 zd_La_law_170 rfl ⟨rfl, rfl, Nat.le_of_ble_eq_true rfl, Nat.le_of_ble_eq_true rfl, (by show _ ≤ 603072; omega), (by show _ ≤ 7215210; omega)⟩ (fun v H locs hv hS => ?_) (fun x H locs hv hS => hv.elim)
      obtain ⟨rfl, rfl⟩ := hv
      refine zw_app ?_
      refine lv_iload hx hb zd_La_law_173 (lv_at hl 1 rfl) ?_
      refine lv_icmp_eq (tgt := 180) hx hb zd_La_law_175 rfl (fun _ => ?_) (fun hc9 => absurd hc9 (fun h => h rfl))
      have hI := hB _ _ _ hP
      refine lv_iload hx hb zd_La_law_180 (lv_at hl 1 rfl) ?_
      refine lv_if_ne (tgt := 196) hx hb zd_La_law_182 rfl (fun _ => ?_) (fun hc9 => absurd hc9 (by decide))
      refine lv_goto (tgt := 590) hx hb zd_La_law_196 rfl ?_
      refine W.widen (k := cells + 6) (n := slots + 36) (by omega) (by omega) ?_
      exact kk _ _ _ (lv_sub hl [2, 3, 4, 5, 6] rfl) ⟨M, false, wn, L8, b8, sk, rb, nw, fl, wt, ct, _, f8, hI, hR⟩ hS
    · exact absurd (by rw [t3, t4]; exact okP_nI t1 t2) hok
    · exact absurd (by rw [t3, t4]; exact okP_nI t1 t2) hok
  · obtain ⟨wr9, hP, hDf, hB⟩ := zl_mo hI
    have hD := hDf A hDD
    refine zk_V F hT hK hZ hS hl.1 hP 0 rfl rfl rfl (zc_Mo_set l G mo by_ wr9 (!false) nw sk rb fl wt ct th M _ _ _ L8 b8 hsk hrb hP (hD _ _) (hR.one hL8 hb8)) zl_Mo_set (zY_Mo_set hT) zq_419 zq_420 zq_421 zd_La_law_164 rfl ⟨rfl, rfl, Nat.le_of_ble_eq_true rfl, Nat.le_of_ble_eq_true rfl, (by show _ ≤ 603072; omega), (by show _ ≤ 7215210; omega)⟩ (fun v H locs hv hS => ?_) (fun x H locs hv hS => hv.elim)
    obtain ⟨r9, rfl, hv⟩ := hv
    rcases hv with ⟨g1, hP⟩ | ⟨g1, g2, hP⟩ | ⟨g1, g2, n7, i7, t1, t2, t3, t4, t5, hP⟩ | ⟨g1, g2, n7, i7, t1, t2, t3, t4, hP⟩
    · exact absurd g1 (by decide)
    · exact absurd (by rw [q3, q4]; exact okP_nI q1 q2) g2
    · have e1 : n7 = n9 := (nI_eq (by omega) (by omega)).mp (t3.symm.trans q3)
      have e2 : i7 = i9 := (nI_eq (by omega) (by omega)).mp (t4.symm.trans q4)
      subst e1
      subst e2
      refine zw_app ?_
      refine lv_lstore hx hb zd_La_law_167 hl (by decide) rfl (fun ls hl => ?_)
      have hl : lv_has ls 8 [(6, _), (5, _), (4, _), (3, _), (2, _), (1, _), (0, _)] := hl
      refine lv_aload_n hx hb zd_La_law_169 rfl (lv_at hl 4 rfl) ?_
      refine zk_V F hT hK hZ hS hl.1 hP 0 rfl rfl rfl (zc_Mo_thrown l G mo by_ _ _ _ _ _ _ _ _ (_ :: wr9) hP) zl_Mo_thrown (zY_Mo_thrown hT) zq_415 zq_416 zq_417 zd_La_law_170 rfl ⟨rfl, rfl, Nat.le_of_ble_eq_true rfl, Nat.le_of_ble_eq_true rfl, (by show _ ≤ 603072; omega), (by show _ ≤ 7215210; omega)⟩ (fun v H locs hv hS => ?_) (fun x H locs hv hS => hv.elim)
      obtain ⟨rfl, rfl⟩ := hv
      refine zw_app ?_
      refine lv_iload hx hb zd_La_law_173 (lv_at hl 1 rfl) ?_
      refine lv_icmp_eq (tgt := 180) hx hb zd_La_law_175 rfl (fun _ => ?_) (fun hc9 => absurd hc9 (fun h => h rfl))
      have hI := hB _ _ _ hP
      refine lv_iload hx hb zd_La_law_180 (lv_at hl 1 rfl) ?_
      refine lv_if_ne (tgt := 196) hx hb zd_La_law_182 rfl (fun hc9 => absurd hc9 (by decide)) (fun _ => ?_)
      obtain ⟨lf9, am9, bh9, D9, Y1, Y2, Y3, Y4, hP9, -⟩ := id hI
      refine lv_aload_n hx hb zd_La_law_185 rfl (lv_at hl 3 rfl) ?_
      refine lv_iconst (v := 0) hx hb zd_La_law_186 (by decide) ?_
      refine zw_lald F hK hP9 8 rfl zd_La_law_187 ?_
      refine lv_lload hx hb zd_La_law_188 (lv_at hl 0 rfl) ?_
      refine W.lcmp hx hb zd_La_law_190 ?_
      refine lv_if_eq (tgt := 196) hx hb zd_La_law_191 rfl (fun _ => ?_) (fun hc9 => absurd hc9 (fun h => h ((lg_cmp_eq _ _).mpr (q5.trans t5.symm))))
      refine lv_goto (tgt := 590) hx hb zd_La_law_196 rfl ?_
      refine W.widen (k := cells + 6) (n := slots + 36) (by omega) (by omega) ?_
      exact kk _ _ _ (lv_sub hl [2, 3, 4, 5, 6] rfl) ⟨_, false, wn, L8, b8, sk, rb, nw, fl, wt, ct, _, f8, hI, hR⟩ hS
    · exact absurd (hR.w0.mpr g2) hw0
  · obtain ⟨wr9, hP, hDf, hB⟩ := zl_mo hI
    have hD := hDf A hDD
    refine zk_V F hT hK hZ hS hl.1 hP 0 rfl rfl rfl (zc_Mo_set l G mo by_ wr9 (!false) nw sk rb fl wt ct th M _ _ _ L8 b8 hsk hrb hP (hD _ _) (hR.one hL8 hb8)) zl_Mo_set (zY_Mo_set hT) zq_419 zq_420 zq_421 zd_La_law_164 rfl ⟨rfl, rfl, Nat.le_of_ble_eq_true rfl, Nat.le_of_ble_eq_true rfl, (by show _ ≤ 603072; omega), (by show _ ≤ 7215210; omega)⟩ (fun v H locs hv hS => ?_) (fun x H locs hv hS => hv.elim)
    obtain ⟨r9, rfl, hv⟩ := hv
    rcases hv with ⟨g1, hP⟩ | ⟨g1, g2, hP⟩ | ⟨g1, g2, n7, i7, t1, t2, t3, t4, t5, hP⟩ | ⟨g1, g2, n7, i7, t1, t2, t3, t4, hP⟩
    · exact absurd g1 (by decide)
    · exact absurd (by rw [q3, q4]; exact okP_nI q1 q2) g2
    · exact absurd (hR.w0.mp hw0) g2
    · have e1 : n7 = n9 := (nI_eq (by omega) (by omega)).mp (t3.symm.trans q3)
      have e2 : i7 = i9 := (nI_eq (by omega) (by omega)).mp (t4.symm.trans q4)
      subst e1
      subst e2
      refine zw_app ?_
      refine lv_lstore hx hb zd_La_law_167 hl (by decide) rfl (fun ls hl => ?_)
      have hl : lv_has ls 8 [(6, _), (5, _), (4, _), (3, _), (2, _), (1, _), (0, _)] := hl
      refine lv_aload_n hx hb zd_La_law_169 rfl (lv_at hl 4 rfl) ?_
      refine zk_V F hT hK hZ hS hl.1 hP 0 rfl rfl rfl (zc_Mo_thrown l G mo by_ _ _ _ _ _ _ _ _ (_ :: wr9) hP) zl_Mo_thrown (zY_Mo_thrown hT) zq_415 zq_416 zq_417 zd_La_law_170 rfl ⟨rfl, rfl, Nat.le_of_ble_eq_true rfl, Nat.le_of_ble_eq_true rfl, (by show _ ≤ 603072; omega), (by show _ ≤ 7215210; omega)⟩ (fun v H locs hv hS => ?_) (fun x H locs hv hS => hv.elim)
      obtain ⟨rfl, rfl⟩ := hv
      refine zw_app ?_
      refine lv_iload hx hb zd_La_law_173 (lv_at hl 1 rfl) ?_
      refine lv_icmp_eq (tgt := 180) hx hb zd_La_law_175 rfl (fun _ => ?_) (fun hc9 => absurd hc9 (fun h => h rfl))
      have hI := hB _ _ _ hP
      refine lv_iload hx hb zd_La_law_180 (lv_at hl 1 rfl) ?_
      refine lv_if_ne (tgt := 196) hx hb zd_La_law_182 rfl (fun _ => ?_) (fun hc9 => absurd hc9 (by decide))
      refine lv_goto (tgt := 590) hx hb zd_La_law_196 rfl ?_
      refine W.widen (k := cells + 6) (n := slots + 36) (by omega) (by omega) ?_
      exact kk _ _ _ (lv_sub hl [2, 3, 4, 5, 6] rfl) ⟨_, true, 4, L8, b8, sk, rb, nw, 0, wt, ct, _, f8, hI, Or.inl ⟨rfl, rfl⟩⟩ hS
set_option maxHeartbeats 4000000 in
set_option maxRecDepth 20000 in
theorem lc_1 {p : Program} {l : Launch} {e : Env} {s : State} {m : MethodId} {below : List Frame} {meth : Method} {c : Code} {H : Heap} {locs : List Loc} {cells slots : Nat} {Q : State → Prop} {G : xG} {nm : String} {hs : List (Nat × Nat × Nat × Nat)} {ls : Array Slot} {bs Ls j : Nat} {xs : Nat → Int32} {pa pw ar dk on pt rc rw mo by_ ou : Nat} {A : Nat → Prop}
    (F : xFix p s m meth c code 8 "ParityArrayLaw" nm ret hs) (hfl : l.flags = flags0) (hT : xT s) (hK : xK G s) (hZ : xZ A s s.heap) (hX : va_X bs Ls xs s s.heap) (hbl : bs < s.heap.size) (hbA : ¬ A bs) (hS : va_S A s.heap H locs) (hDD : va_D A (zA8 pa pw ar dk on pt rc rw ++ [zD ou, zD mo, zD by_])) (hj : 5 * j + 5 ≤ Ls) (hL : Ls ≤ 2560) (hl : lv_has ls 8 [(4, .int (nI (5 * j))), (3, .ref ou), (2, .ref mo), (1, .ref pa), (0, .ref bs)]) (hI : LawI G pa pw ar dk on pt rc rw mo by_ ou H) (hc1 : cells + 6 ≤ 603072) (hc2 : slots + 36 ≤ 7215210)
    (kk : ∀ (ls : Array Slot) (H : Heap) (locs : List Loc), lv_has ls 8 [(4, .int (nI (5 * j))), (3, .ref ou), (2, .ref mo), (1, .ref pa), (0, .ref bs)] → LawI G pa pw ar dk on pt rc rw mo by_ ou H → va_S A s.heap H locs → W p l e room_1 s m #[Value.ref bs] below meth c H locs (cells + 6) (slots + 36) Q (F0 m 590 ls [])) : W p l e room_1 s m #[Value.ref bs] below meth c H locs cells slots Q (F0 m 199 ls []) := by
  have hx := F.1
  have hb := F.2.1
  obtain ⟨M, off, wn, L8, b8, sk, rb, nw, fl, wt, ct, th, f, hI, hR⟩ := hI
  obtain ⟨hsk, hrb, hc5, hn0, hb8, hL8⟩ := hI.facts
  refine lv_aload_n hx hb zd_La_law_199 rfl (lv_at hl 3 rfl) ?_
  refine lv_aload_n hx hb zd_La_law_200 rfl (lv_at hl 4 rfl) ?_
  refine lv_iload hx hb zd_La_law_201 (lv_at hl 0 rfl) ?_
  refine lv_iconst (v := nI 1) hx hb zd_La_law_203 (by decide) ?_
  refine lv_iadd hx hb zd_La_law_204 ?_
  refine zw_ti (nI (5 * j + 1)) (nI_add _ _) ?_
  refine va_sld hx hb hX hbl hbA hS (vp_in_nI (n := 5 * j + 1) (by omega) (by omega)) zd_La_law_205 ?_
  refine zw_ti (xs (5 * j + 1)) (by rw [nI_clamp (by omega)]) ?_
  refine lv_aload_n hx hb zd_La_law_206 rfl (lv_at hl 4 rfl) ?_
  refine lv_iload hx hb zd_La_law_207 (lv_at hl 0 rfl) ?_
  refine lv_iconst (v := nI 2) hx hb zd_La_law_209 (by decide) ?_
  refine lv_iadd hx hb zd_La_law_210 ?_
  refine zw_ti (nI (5 * j + 2)) (nI_add _ _) ?_
  refine va_sld hx hb hX hbl hbA hS (vp_in_nI (n := 5 * j + 2) (by omega) (by omega)) zd_La_law_211 ?_
  refine zw_ti (xs (5 * j + 2)) (by rw [nI_clamp (by omega)]) ?_
  refine lv_aload_n hx hb zd_La_law_212 rfl (lv_at hl 1 rfl) ?_
  refine zk_S F hT hK hZ hS hl.1 (zc_La_get l G pa pw ar dk on pt rc rw _ M off wn L8 b8 sk rb nw ou f _ _ hfl hI (zw_D hDD (by simp only [List.map_append, List.map_cons, List.map_nil]))) zl_La_get (zY_La_get hT) zq_291 zq_292 zq_0 zd_La_law_213 rfl ⟨rfl, rfl, Nat.le_of_ble_eq_true rfl, Nat.le_of_ble_eq_true rfl, (by show _ ≤ 603072; omega), (by show _ ≤ 7215210; omega)⟩ (fun v H locs hv hS => ?_) (fun x H locs hv hS => hv.elim)
  obtain ⟨k8, f8, rfl, hv⟩ := hv
  refine zw_app ?_
  refine lv_istore hx hb zd_La_law_216 hl (by decide) rfl (fun ls hl => ?_)
  have hl : lv_has ls 8 [(5, _), (4, _), (3, _), (2, _), (1, _), (0, _)] := hl
  refine lv_aload_n hx hb zd_La_law_218 rfl (lv_at hl 3 rfl) ?_
  refine lv_aload_n hx hb zd_La_law_219 rfl (lv_at hl 5 rfl) ?_
  refine lv_iload hx hb zd_La_law_220 (lv_at hl 1 rfl) ?_
  refine lv_iconst (v := nI 1) hx hb zd_La_law_222 (by decide) ?_
  refine lv_iadd hx hb zd_La_law_223 ?_
  refine zw_ti (nI (5 * j + 1)) (nI_add _ _) ?_
  refine va_sld hx hb hX hbl hbA hS (vp_in_nI (n := 5 * j + 1) (by omega) (by omega)) zd_La_law_224 ?_
  refine zw_ti (xs (5 * j + 1)) (by rw [nI_clamp (by omega)]) ?_
  refine lv_aload_n hx hb zd_La_law_225 rfl (lv_at hl 5 rfl) ?_
  refine lv_iload hx hb zd_La_law_226 (lv_at hl 1 rfl) ?_
  refine lv_iconst (v := nI 2) hx hb zd_La_law_228 (by decide) ?_
  refine lv_iadd hx hb zd_La_law_229 ?_
  refine zw_ti (nI (5 * j + 2)) (nI_add _ _) ?_
  refine va_sld hx hb hX hbl hbA hS (vp_in_nI (n := 5 * j + 2) (by omega) (by omega)) zd_La_law_230 ?_
  refine zw_ti (xs (5 * j + 2)) (by rw [nI_clamp (by omega)]) ?_
  obtain ⟨hI, hv⟩ := hv
  rcases hv with ⟨rfl, rfl⟩ | ⟨rfl, hok, rfl⟩ | ⟨rfl, rfl, n9, i9, q1, q2, q3, q4, q5⟩
  · obtain ⟨wr9, hP, hDf, hB⟩ := zl_mo hI
    have hD := hDf A hDD
    refine zk_V F hT hK hZ hS hl.1 hP 0 rfl rfl rfl (zc_Mo_get l G mo by_ wr9 (!true) nw sk rb fl wt ct th M _ _ hsk hrb hP (hD _ _)) zl_Mo_get (zY_Mo_get hT) zq_439 zq_440 zq_441 zd_La_law_231 rfl ⟨rfl, rfl, Nat.le_of_ble_eq_true rfl, Nat.le_of_ble_eq_true rfl, (by show _ ≤ 603072; omega), (by show _ ≤ 7215210; omega)⟩ (fun v H locs hv hS => ?_) (fun x H locs hv hS => hv.elim)
    obtain ⟨r9, t8, rfl, hP, hv⟩ := hv
    rcases hv with ⟨g1, rfl⟩ | ⟨g1, g2, rfl⟩ | ⟨g1, rfl, n7, i7, t1, t2, t3, t4, t5⟩
    · refine zw_app ?_
      refine lv_lstore hx hb zd_La_law_234 hl (by decide) rfl (fun ls hl => ?_)
      have hl : lv_has ls 8 [(6, _), (5, _), (4, _), (3, _), (2, _), (1, _), (0, _)] := hl
      refine lv_aload_n hx hb zd_La_law_236 rfl (lv_at hl 4 rfl) ?_
      refine zk_V F hT hK hZ hS hl.1 hP 0 rfl rfl rfl (zc_Mo_thrown l G mo by_ _ _ _ _ _ _ _ _ (_ :: wr9) hP) zl_Mo_thrown (zY_Mo_thrown hT) zq_415 zq_416 zq_417 zd_La_law_237 rfl ⟨rfl, rfl, Nat.le_of_ble_eq_true rfl, Nat.le_of_ble_eq_true rfl, (by show _ ≤ 603072; omega), (by show _ ≤ 7215210; omega)⟩ (fun v H locs hv hS => ?_) (fun x H locs hv hS => hv.elim)
      obtain ⟨rfl, rfl⟩ := hv
      refine zw_app ?_
      refine lv_iload hx hb zd_La_law_240 (lv_at hl 1 rfl) ?_
      refine lv_icmp_eq (tgt := 247) hx hb zd_La_law_242 rfl (fun _ => ?_) (fun hc9 => absurd hc9 (fun h => h rfl))
      have hI := hB _ _ _ hP
      refine lv_iload hx hb zd_La_law_247 (lv_at hl 1 rfl) ?_
      refine lv_if_ne (tgt := 263) hx hb zd_La_law_249 rfl (fun _ => ?_) (fun hc9 => absurd hc9 (by decide))
      refine lv_goto (tgt := 590) hx hb zd_La_law_263 rfl ?_
      refine W.widen (k := cells + 6) (n := slots + 36) (by omega) (by omega) ?_
      exact kk _ _ _ (lv_sub hl [2, 3, 4, 5, 6] rfl) ⟨M, true, wn, L8, b8, sk, rb, nw, fl, wt, ct, _, f8, hI, hR⟩ hS
    · exact absurd g1 (by decide)
    · exact absurd g1 (by decide)
  · obtain ⟨wr9, hP, hDf, hB⟩ := zl_mo hI
    have hD := hDf A hDD
    refine zk_V F hT hK hZ hS hl.1 hP 0 rfl rfl rfl (zc_Mo_get l G mo by_ wr9 (!false) nw sk rb fl wt ct th M _ _ hsk hrb hP (hD _ _)) zl_Mo_get (zY_Mo_get hT) zq_439 zq_440 zq_441 zd_La_law_231 rfl ⟨rfl, rfl, Nat.le_of_ble_eq_true rfl, Nat.le_of_ble_eq_true rfl, (by show _ ≤ 603072; omega), (by show _ ≤ 7215210; omega)⟩ (fun v H locs hv hS => ?_) (fun x H locs hv hS => hv.elim)
    obtain ⟨r9, t8, rfl, hP, hv⟩ := hv
    rcases hv with ⟨g1, rfl⟩ | ⟨g1, g2, rfl⟩ | ⟨g1, rfl, n7, i7, t1, t2, t3, t4, t5⟩
    · exact absurd g1 (by decide)
    · refine zw_app ?_
      refine lv_lstore hx hb zd_La_law_234 hl (by decide) rfl (fun ls hl => ?_)
      have hl : lv_has ls 8 [(6, _), (5, _), (4, _), (3, _), (2, _), (1, _), (0, _)] := hl
      refine lv_aload_n hx hb zd_La_law_236 rfl (lv_at hl 4 rfl) ?_
      refine zk_V F hT hK hZ hS hl.1 hP 0 rfl rfl rfl (zc_Mo_thrown l G mo by_ _ _ _ _ _ _ _ _ (_ :: wr9) hP) zl_Mo_thrown (zY_Mo_thrown hT) zq_415 zq_416 zq_417 zd_La_law_237 rfl ⟨rfl, rfl, Nat.le_of_ble_eq_true rfl, Nat.le_of_ble_eq_true rfl, (by show _ ≤ 603072; omega), (by show _ ≤ 7215210; omega)⟩ (fun v H locs hv hS => ?_) (fun x H locs hv hS => hv.elim)
      obtain ⟨rfl, rfl⟩ := hv
      refine zw_app ?_
      refine lv_iload hx hb zd_La_law_240 (lv_at hl 1 rfl) ?_
      refine lv_icmp_eq (tgt := 247) hx hb zd_La_law_242 rfl (fun _ => ?_) (fun hc9 => absurd hc9 (fun h => h rfl))
      have hI := hB _ _ _ hP
      refine lv_iload hx hb zd_La_law_247 (lv_at hl 1 rfl) ?_
      refine lv_if_ne (tgt := 263) hx hb zd_La_law_249 rfl (fun _ => ?_) (fun hc9 => absurd hc9 (by decide))
      refine lv_goto (tgt := 590) hx hb zd_La_law_263 rfl ?_
      refine W.widen (k := cells + 6) (n := slots + 36) (by omega) (by omega) ?_
      exact kk _ _ _ (lv_sub hl [2, 3, 4, 5, 6] rfl) ⟨M, false, wn, L8, b8, sk, rb, nw, fl, wt, ct, _, f8, hI, hR⟩ hS
    · exact absurd (by rw [t3, t4]; exact okP_nI t1 t2) hok
  · obtain ⟨wr9, hP, hDf, hB⟩ := zl_mo hI
    have hD := hDf A hDD
    refine zk_V F hT hK hZ hS hl.1 hP 0 rfl rfl rfl (zc_Mo_get l G mo by_ wr9 (!false) nw sk rb fl wt ct th M _ _ hsk hrb hP (hD _ _)) zl_Mo_get (zY_Mo_get hT) zq_439 zq_440 zq_441 zd_La_law_231 rfl ⟨rfl, rfl, Nat.le_of_ble_eq_true rfl, Nat.le_of_ble_eq_true rfl, (by show _ ≤ 603072; omega), (by show _ ≤ 7215210; omega)⟩ (fun v H locs hv hS => ?_) (fun x H locs hv hS => hv.elim)
    obtain ⟨r9, t8, rfl, hP, hv⟩ := hv
    rcases hv with ⟨g1, rfl⟩ | ⟨g1, g2, rfl⟩ | ⟨g1, rfl, n7, i7, t1, t2, t3, t4, t5⟩
    · exact absurd g1 (by decide)
    · exact absurd (by rw [q3, q4]; exact okP_nI q1 q2) g2
    · have e1 : n7 = n9 := (nI_eq (by omega) (by omega)).mp (t3.symm.trans q3)
      have e2 : i7 = i9 := (nI_eq (by omega) (by omega)).mp (t4.symm.trans q4)
      subst e1
      subst e2
      refine zw_app ?_
      refine lv_lstore hx hb zd_La_law_234 hl (by decide) rfl (fun ls hl => ?_)
      have hl : lv_has ls 8 [(6, _), (5, _), (4, _), (3, _), (2, _), (1, _), (0, _)] := hl
      refine lv_aload_n hx hb zd_La_law_236 rfl (lv_at hl 4 rfl) ?_
      refine zk_V F hT hK hZ hS hl.1 hP 0 rfl rfl rfl (zc_Mo_thrown l G mo by_ _ _ _ _ _ _ _ _ (_ :: wr9) hP) zl_Mo_thrown (zY_Mo_thrown hT) zq_415 zq_416 zq_417 zd_La_law_237 rfl ⟨rfl, rfl, Nat.le_of_ble_eq_true rfl, Nat.le_of_ble_eq_true rfl, (by show _ ≤ 603072; omega), (by show _ ≤ 7215210; omega)⟩ (fun v H locs hv hS => ?_) (fun x H locs hv hS => hv.elim)
      obtain ⟨rfl, rfl⟩ := hv
      refine zw_app ?_
      refine lv_iload hx hb zd_La_law_240 (lv_at hl 1 rfl) ?_
      refine lv_icmp_eq (tgt := 247) hx hb zd_La_law_242 rfl (fun _ => ?_) (fun hc9 => absurd hc9 (fun h => h rfl))
      have hI := hB _ _ _ hP
      refine lv_iload hx hb zd_La_law_247 (lv_at hl 1 rfl) ?_
      refine lv_if_ne (tgt := 263) hx hb zd_La_law_249 rfl (fun hc9 => absurd hc9 (by decide)) (fun _ => ?_)
      obtain ⟨lf9, am9, bh9, D9, Y1, Y2, Y3, Y4, hP9, -⟩ := id hI
      refine lv_aload_n hx hb zd_La_law_252 rfl (lv_at hl 3 rfl) ?_
      refine lv_iconst (v := 0) hx hb zd_La_law_253 (by decide) ?_
      refine zw_lald F hK hP9 8 rfl zd_La_law_254 ?_
      refine lv_lload hx hb zd_La_law_255 (lv_at hl 0 rfl) ?_
      refine W.lcmp hx hb zd_La_law_257 ?_
      refine lv_if_eq (tgt := 263) hx hb zd_La_law_258 rfl (fun _ => ?_) (fun hc9 => absurd hc9 (fun h => h ((lg_cmp_eq _ _).mpr (q5.trans t5.symm))))
      refine lv_goto (tgt := 590) hx hb zd_La_law_263 rfl ?_
      refine W.widen (k := cells + 6) (n := slots + 36) (by omega) (by omega) ?_
      exact kk _ _ _ (lv_sub hl [2, 3, 4, 5, 6] rfl) ⟨M, false, wn, L8, b8, sk, rb, nw, fl, wt, ct, _, f8, hI, hR⟩ hS
set_option maxHeartbeats 4000000 in
set_option maxRecDepth 20000 in
theorem lc_2 {p : Program} {l : Launch} {e : Env} {s : State} {m : MethodId} {below : List Frame} {meth : Method} {c : Code} {H : Heap} {locs : List Loc} {cells slots : Nat} {Q : State → Prop} {G : xG} {nm : String} {hs : List (Nat × Nat × Nat × Nat)} {ls : Array Slot} {bs Ls j : Nat} {xs : Nat → Int32} {pa pw ar dk on pt rc rw mo by_ ou : Nat} {A : Nat → Prop}
    (F : xFix p s m meth c code 8 "ParityArrayLaw" nm ret hs) (hfl : l.flags = flags0) (hT : xT s) (hK : xK G s) (hZ : xZ A s s.heap) (hX : va_X bs Ls xs s s.heap) (hbl : bs < s.heap.size) (hbA : ¬ A bs) (hS : va_S A s.heap H locs) (hDD : va_D A (zA8 pa pw ar dk on pt rc rw ++ [zD ou, zD mo, zD by_])) (hj : 5 * j + 5 ≤ Ls) (hL : Ls ≤ 2560) (hl : lv_has ls 8 [(4, .int (nI (5 * j))), (3, .ref ou), (2, .ref mo), (1, .ref pa), (0, .ref bs)]) (hI : LawI G pa pw ar dk on pt rc rw mo by_ ou H) (hc1 : cells + 6 ≤ 603072) (hc2 : slots + 36 ≤ 7215210)
    (kk : ∀ (ls : Array Slot) (H : Heap) (locs : List Loc), lv_has ls 8 [(4, .int (nI (5 * j))), (3, .ref ou), (2, .ref mo), (1, .ref pa), (0, .ref bs)] → LawI G pa pw ar dk on pt rc rw mo by_ ou H → va_S A s.heap H locs → W p l e room_1 s m #[Value.ref bs] below meth c H locs (cells + 6) (slots + 36) Q (F0 m 590 ls [])) : W p l e room_1 s m #[Value.ref bs] below meth c H locs cells slots Q (F0 m 266 ls []) := by
  have hx := F.1
  have hb := F.2.1
  obtain ⟨M, off, wn, L8, b8, sk, rb, nw, fl, wt, ct, th, f, hI, hR⟩ := hI
  obtain ⟨hsk, hrb, hc5, hn0, hb8, hL8⟩ := hI.facts
  refine lv_aload_n hx hb zd_La_law_266 rfl (lv_at hl 3 rfl) ?_
  refine lv_aload_n hx hb zd_La_law_267 rfl (lv_at hl 4 rfl) ?_
  refine lv_iload hx hb zd_La_law_268 (lv_at hl 0 rfl) ?_
  refine lv_iconst (v := nI 1) hx hb zd_La_law_270 (by decide) ?_
  refine lv_iadd hx hb zd_La_law_271 ?_
  refine zw_ti (nI (5 * j + 1)) (nI_add _ _) ?_
  refine va_sld hx hb hX hbl hbA hS (vp_in_nI (n := 5 * j + 1) (by omega) (by omega)) zd_La_law_272 ?_
  refine zw_ti (xs (5 * j + 1)) (by rw [nI_clamp (by omega)]) ?_
  refine zk_S F hT hK hZ hS hl.1 (zc_La_die l G pa pw ar dk on pt rc rw _ M off wn L8 b8 sk rb nw _ hfl hI (zw_D hDD (by simp only [List.map_append, List.map_cons, List.map_nil]))) zl_La_die (zY_La_die hT) zq_295 zq_296 zq_0 zd_La_law_273 rfl ⟨rfl, rfl, Nat.le_of_ble_eq_true rfl, Nat.le_of_ble_eq_true rfl, (by show _ ≤ 603072; omega), (by show _ ≤ 7215210; omega)⟩ (fun v H locs hv hS => ?_) (fun x H locs hv hS => hv.elim)
  obtain ⟨k8, rfl, hv⟩ := hv
  refine zw_app ?_
  refine lv_istore hx hb zd_La_law_276 hl (by decide) rfl (fun ls hl => ?_)
  have hl : lv_has ls 8 [(5, _), (4, _), (3, _), (2, _), (1, _), (0, _)] := hl
  refine lv_aload_n hx hb zd_La_law_278 rfl (lv_at hl 3 rfl) ?_
  refine lv_aload_n hx hb zd_La_law_279 rfl (lv_at hl 5 rfl) ?_
  refine lv_iload hx hb zd_La_law_280 (lv_at hl 1 rfl) ?_
  refine lv_iconst (v := nI 1) hx hb zd_La_law_282 (by decide) ?_
  refine lv_iadd hx hb zd_La_law_283 ?_
  refine zw_ti (nI (5 * j + 1)) (nI_add _ _) ?_
  refine va_sld hx hb hX hbl hbA hS (vp_in_nI (n := 5 * j + 1) (by omega) (by omega)) zd_La_law_284 ?_
  refine zw_ti (xs (5 * j + 1)) (by rw [nI_clamp (by omega)]) ?_
  rcases hv with ⟨hbad, rfl, hI⟩ | ⟨hd5, hbad, rfl, hI⟩ | ⟨rfl, rfl, rfl, d9, q1, q2, hI⟩
  · obtain ⟨wr9, hP, hDf, hB⟩ := zl_mo hI
    have hD := hDf A hDD
    refine zk_V F hT hK hZ hS hl.1 hP 0 rfl rfl rfl (zc_Mo_die l G mo by_ wr9 (!off) nw sk rb fl wt ct th M _ hsk hrb hP (hD _ _)) zl_Mo_die (zY_Mo_die hT) zq_443 zq_444 zq_445 zd_La_law_285 rfl ⟨rfl, rfl, Nat.le_of_ble_eq_true rfl, Nat.le_of_ble_eq_true rfl, (by show _ ≤ 603072; omega), (by show _ ≤ 7215210; omega)⟩ (fun v H locs hv hS => ?_) (fun x H locs hv hS => hv.elim)
    obtain ⟨rfl, hv⟩ := hv
    rcases hv with ⟨g1, hP⟩ | ⟨g1, g2, hP⟩ | ⟨g1, g2, d7, t1, t2, hP⟩
    · refine zw_app0 ?_
      refine lv_aload_n hx hb zd_La_law_288 rfl (lv_at hl 3 rfl) ?_
      refine zk_V F hT hK hZ hS hl.1 hP 0 rfl rfl rfl (zc_Mo_thrown l G mo by_ _ _ _ _ _ _ _ _ (_ :: wr9) hP) zl_Mo_thrown (zY_Mo_thrown hT) zq_415 zq_416 zq_417 zd_La_law_289 rfl ⟨rfl, rfl, Nat.le_of_ble_eq_true rfl, Nat.le_of_ble_eq_true rfl, (by show _ ≤ 603072; omega), (by show _ ≤ 7215210; omega)⟩ (fun v H locs hv hS => ?_) (fun x H locs hv hS => hv.elim)
      obtain ⟨rfl, rfl⟩ := hv
      refine zw_app ?_
      refine lv_iload hx hb zd_La_law_292 (lv_at hl 0 rfl) ?_
      refine lv_icmp_eq (tgt := 299) hx hb zd_La_law_294 rfl (fun _ => ?_) (fun hc9 => absurd hc9 (fun h => h rfl))
      have hI := hB _ _ _ hP
      refine lv_goto (tgt := 590) hx hb zd_La_law_299 rfl ?_
      refine W.widen (k := cells + 6) (n := slots + 36) (by omega) (by omega) ?_
      exact kk _ _ _ (lv_sub hl [1, 2, 3, 4, 5] rfl) ⟨M, off, wn, L8, b8, sk, rb, nw, fl, wt, ct, _, f, hI, hR⟩ hS
    · exact absurd g1 hbad
    · exact absurd (by rw [t2]; exact d5_nI t1) hbad
  · obtain ⟨wr9, hP, hDf, hB⟩ := zl_mo hI
    have hD := hDf A hDD
    refine zk_V F hT hK hZ hS hl.1 hP 0 rfl rfl rfl (zc_Mo_die l G mo by_ wr9 (!off) nw sk rb fl wt ct th M _ hsk hrb hP (hD _ _)) zl_Mo_die (zY_Mo_die hT) zq_443 zq_444 zq_445 zd_La_law_285 rfl ⟨rfl, rfl, Nat.le_of_ble_eq_true rfl, Nat.le_of_ble_eq_true rfl, (by show _ ≤ 603072; omega), (by show _ ≤ 7215210; omega)⟩ (fun v H locs hv hS => ?_) (fun x H locs hv hS => hv.elim)
    obtain ⟨rfl, hv⟩ := hv
    rcases hv with ⟨g1, hP⟩ | ⟨g1, g2, hP⟩ | ⟨g1, g2, d7, t1, t2, hP⟩
    · exact absurd hd5 g1
    · refine zw_app0 ?_
      refine lv_aload_n hx hb zd_La_law_288 rfl (lv_at hl 3 rfl) ?_
      refine zk_V F hT hK hZ hS hl.1 hP 0 rfl rfl rfl (zc_Mo_thrown l G mo by_ _ _ _ _ _ _ _ _ (_ :: wr9) hP) zl_Mo_thrown (zY_Mo_thrown hT) zq_415 zq_416 zq_417 zd_La_law_289 rfl ⟨rfl, rfl, Nat.le_of_ble_eq_true rfl, Nat.le_of_ble_eq_true rfl, (by show _ ≤ 603072; omega), (by show _ ≤ 7215210; omega)⟩ (fun v H locs hv hS => ?_) (fun x H locs hv hS => hv.elim)
      obtain ⟨rfl, rfl⟩ := hv
      refine zw_app ?_
      refine lv_iload hx hb zd_La_law_292 (lv_at hl 0 rfl) ?_
      refine lv_icmp_eq (tgt := 299) hx hb zd_La_law_294 rfl (fun _ => ?_) (fun hc9 => absurd hc9 (fun h => h rfl))
      have hI := hB _ _ _ hP
      refine lv_goto (tgt := 590) hx hb zd_La_law_299 rfl ?_
      refine W.widen (k := cells + 6) (n := slots + 36) (by omega) (by omega) ?_
      exact kk _ _ _ (lv_sub hl [1, 2, 3, 4, 5] rfl) ⟨M, off, wn, L8, b8, sk, rb, nw, fl, wt, ct, _, f, hI, hR⟩ hS
    · exact absurd ⟨by simpa using g1, g2⟩ hbad
  · obtain ⟨wr9, hP, hDf, hB⟩ := zl_mo hI
    have hD := hDf A hDD
    refine zk_V F hT hK hZ hS hl.1 hP 0 rfl rfl rfl (zc_Mo_die l G mo by_ wr9 (!false) nw 5 rb fl wt ct th M _ hsk hrb hP (hD _ _)) zl_Mo_die (zY_Mo_die hT) zq_443 zq_444 zq_445 zd_La_law_285 rfl ⟨rfl, rfl, Nat.le_of_ble_eq_true rfl, Nat.le_of_ble_eq_true rfl, (by show _ ≤ 603072; omega), (by show _ ≤ 7215210; omega)⟩ (fun v H locs hv hS => ?_) (fun x H locs hv hS => hv.elim)
    obtain ⟨rfl, hv⟩ := hv
    rcases hv with ⟨g1, hP⟩ | ⟨g1, g2, hP⟩ | ⟨g1, g2, d7, t1, t2, hP⟩
    · exact absurd (by rw [q2]; exact d5_nI q1) g1
    · exact absurd ⟨rfl, rfl⟩ g2
    · have e1 : d7 = d9 := (nI_eq (by omega) (by omega)).mp (t2.symm.trans q2)
      subst e1
      refine zw_app0 ?_
      refine lv_aload_n hx hb zd_La_law_288 rfl (lv_at hl 3 rfl) ?_
      refine zk_V F hT hK hZ hS hl.1 hP 0 rfl rfl rfl (zc_Mo_thrown l G mo by_ _ _ _ _ _ _ _ _ (_ :: wr9) hP) zl_Mo_thrown (zY_Mo_thrown hT) zq_415 zq_416 zq_417 zd_La_law_289 rfl ⟨rfl, rfl, Nat.le_of_ble_eq_true rfl, Nat.le_of_ble_eq_true rfl, (by show _ ≤ 603072; omega), (by show _ ≤ 7215210; omega)⟩ (fun v H locs hv hS => ?_) (fun x H locs hv hS => hv.elim)
      obtain ⟨rfl, rfl⟩ := hv
      refine zw_app ?_
      refine lv_iload hx hb zd_La_law_292 (lv_at hl 0 rfl) ?_
      refine lv_icmp_eq (tgt := 299) hx hb zd_La_law_294 rfl (fun _ => ?_) (fun hc9 => absurd hc9 (fun h => h rfl))
      have hI := hB _ _ _ hP
      refine lv_goto (tgt := 590) hx hb zd_La_law_299 rfl ?_
      refine W.widen (k := cells + 6) (n := slots + 36) (by omega) (by omega) ?_
      exact kk _ _ _ (lv_sub hl [1, 2, 3, 4, 5] rfl) ⟨M, false, wn, L8, b8, _, 0, false, fl, wt, ct, _, f, hI, hR⟩ hS
set_option maxHeartbeats 4000000 in
set_option maxRecDepth 20000 in
theorem lc_3 {p : Program} {l : Launch} {e : Env} {s : State} {m : MethodId} {below : List Frame} {meth : Method} {c : Code} {H : Heap} {locs : List Loc} {cells slots : Nat} {Q : State → Prop} {G : xG} {nm : String} {hs : List (Nat × Nat × Nat × Nat)} {ls : Array Slot} {bs Ls j : Nat} {xs : Nat → Int32} {pa pw ar dk on pt rc rw mo by_ ou : Nat} {A : Nat → Prop}
    (F : xFix p s m meth c code 8 "ParityArrayLaw" nm ret hs) (hfl : l.flags = flags0) (hT : xT s) (hK : xK G s) (hZ : xZ A s s.heap) (hX : va_X bs Ls xs s s.heap) (hbl : bs < s.heap.size) (hbA : ¬ A bs) (hS : va_S A s.heap H locs) (hDD : va_D A (zA8 pa pw ar dk on pt rc rw ++ [zD ou, zD mo, zD by_])) (hj : 5 * j + 5 ≤ Ls) (hL : Ls ≤ 2560) (hl : lv_has ls 8 [(4, .int (nI (5 * j))), (3, .ref ou), (2, .ref mo), (1, .ref pa), (0, .ref bs)]) (hI : LawI G pa pw ar dk on pt rc rw mo by_ ou H) (hc1 : cells + 6 ≤ 603072) (hc2 : slots + 36 ≤ 7215210)
    (kk : ∀ (ls : Array Slot) (H : Heap) (locs : List Loc), lv_has ls 8 [(4, .int (nI (5 * j))), (3, .ref ou), (2, .ref mo), (1, .ref pa), (0, .ref bs)] → LawI G pa pw ar dk on pt rc rw mo by_ ou H → va_S A s.heap H locs → W p l e room_1 s m #[Value.ref bs] below meth c H locs (cells + 6) (slots + 36) Q (F0 m 590 ls [])) : W p l e room_1 s m #[Value.ref bs] below meth c H locs cells slots Q (F0 m 302 ls []) := by
  have hx := F.1
  have hb := F.2.1
  obtain ⟨M, off, wn, L8, b8, sk, rb, nw, fl, wt, ct, th, f, hI, hR⟩ := hI
  obtain ⟨hsk, hrb, hc5, hn0, hb8, hL8⟩ := hI.facts
  refine lv_aload_n hx hb zd_La_law_302 rfl (lv_at hl 3 rfl) ?_
  refine lv_aload_n hx hb zd_La_law_303 rfl (lv_at hl 1 rfl) ?_
  refine zk_S F hT hK hZ hS hl.1 (zc_La_replace l G pa pw ar dk on pt rc rw _ M off wn L8 b8 sk rb nw ou f hfl hI (zw_D hDD (by simp only [List.map_append, List.map_cons, List.map_nil]))) zl_La_replace (zY_La_replace hT) zq_302 zq_303 zq_0 zd_La_law_304 rfl ⟨rfl, rfl, Nat.le_of_ble_eq_true rfl, Nat.le_of_ble_eq_true rfl, (by show _ ≤ 603072; omega), (by show _ ≤ 7215210; omega)⟩ (fun v H locs hv hS => ?_) (fun x H locs hv hS => hv.elim)
  obtain ⟨k8, f8, rfl, hv⟩ := hv
  refine zw_app ?_
  refine lv_istore hx hb zd_La_law_307 hl (by decide) rfl (fun ls hl => ?_)
  have hl : lv_has ls 8 [(5, _), (4, _), (3, _), (2, _), (1, _), (0, _)] := hl
  refine lv_aload_n hx hb zd_La_law_309 rfl (lv_at hl 3 rfl) ?_
  rcases hv with ⟨hbad, rfl, hI⟩ | ⟨u1, u2, rfl, u3, hI⟩
  · obtain ⟨wr9, hP, hDf, hB⟩ := zl_mo hI
    have hD := hDf A hDD
    refine zk_V F hT hK hZ hS hl.1 hP 0 rfl rfl rfl (zc_Mo_replace l G mo by_ wr9 (!off) nw sk rb fl wt ct th M hsk hrb hP (hD _ _)) zl_Mo_replace (zY_Mo_replace hT) zq_447 zq_448 zq_449 zd_La_law_310 rfl ⟨rfl, rfl, Nat.le_of_ble_eq_true rfl, Nat.le_of_ble_eq_true rfl, (by show _ ≤ 603072; omega), (by show _ ≤ 7215210; omega)⟩ (fun v H locs hv hS => ?_) (fun x H locs hv hS => hv.elim)
    obtain ⟨r9, rfl, hv⟩ := hv
    rcases hv with ⟨g1, hP⟩ | ⟨g1, g2, g3, hP⟩
    · refine zw_app ?_
      refine lv_istore hx hb zd_La_law_313 hl (by decide) rfl (fun ls hl => ?_)
      have hl : lv_has ls 8 [(6, _), (5, _), (4, _), (3, _), (2, _), (1, _), (0, _)] := hl
      refine lv_aload_n hx hb zd_La_law_315 rfl (lv_at hl 4 rfl) ?_
      refine zk_V F hT hK hZ hS hl.1 hP 0 rfl rfl rfl (zc_Mo_thrown l G mo by_ _ _ _ _ _ _ _ _ (_ :: wr9) hP) zl_Mo_thrown (zY_Mo_thrown hT) zq_415 zq_416 zq_417 zd_La_law_316 rfl ⟨rfl, rfl, Nat.le_of_ble_eq_true rfl, Nat.le_of_ble_eq_true rfl, (by show _ ≤ 603072; omega), (by show _ ≤ 7215210; omega)⟩ (fun v H locs hv hS => ?_) (fun x H locs hv hS => hv.elim)
      obtain ⟨rfl, rfl⟩ := hv
      refine zw_app ?_
      refine lv_iload hx hb zd_La_law_319 (lv_at hl 1 rfl) ?_
      refine lv_icmp_eq (tgt := 326) hx hb zd_La_law_321 rfl (fun _ => ?_) (fun hc9 => absurd hc9 (fun h => h rfl))
      have hI := hB _ _ _ hP
      refine lv_iload hx hb zd_La_law_326 (lv_at hl 1 rfl) ?_
      refine lv_if_ne (tgt := 343) hx hb zd_La_law_328 rfl (fun _ => ?_) (fun hc9 => absurd hc9 (by decide))
      refine lv_goto (tgt := 590) hx hb zd_La_law_343 rfl ?_
      refine W.widen (k := cells + 6) (n := slots + 36) (by omega) (by omega) ?_
      exact kk _ _ _ (lv_sub hl [2, 3, 4, 5, 6] rfl) ⟨M, off, wn, L8, b8, sk, rb, nw, fl, wt, ct, _, f8, hI, hR⟩ hS
    · exact absurd ⟨g1, g2⟩ hbad
  · obtain ⟨wr9, hP, hDf, hB⟩ := zl_mo hI
    have hD := hDf A hDD
    refine zk_V F hT hK hZ hS hl.1 hP 0 rfl rfl rfl (zc_Mo_replace l G mo by_ wr9 (!off) nw sk rb fl wt ct th M hsk hrb hP (hD _ _)) zl_Mo_replace (zY_Mo_replace hT) zq_447 zq_448 zq_449 zd_La_law_310 rfl ⟨rfl, rfl, Nat.le_of_ble_eq_true rfl, Nat.le_of_ble_eq_true rfl, (by show _ ≤ 603072; omega), (by show _ ≤ 7215210; omega)⟩ (fun v H locs hv hS => ?_) (fun x H locs hv hS => hv.elim)
    obtain ⟨r9, rfl, hv⟩ := hv
    rcases hv with ⟨g1, hP⟩ | ⟨g1, g2, g3, hP⟩
    · exact absurd ⟨u1, u2⟩ g1
    · obtain rfl := hn0 u2
      refine zw_app ?_
      refine lv_istore hx hb zd_La_law_313 hl (by decide) rfl (fun ls hl => ?_)
      have hl : lv_has ls 8 [(6, _), (5, _), (4, _), (3, _), (2, _), (1, _), (0, _)] := hl
      refine lv_aload_n hx hb zd_La_law_315 rfl (lv_at hl 4 rfl) ?_
      refine zk_V F hT hK hZ hS hl.1 hP 0 rfl rfl rfl (zc_Mo_thrown l G mo by_ _ _ _ _ _ _ _ _ (_ :: wr9) hP) zl_Mo_thrown (zY_Mo_thrown hT) zq_415 zq_416 zq_417 zd_La_law_316 rfl ⟨rfl, rfl, Nat.le_of_ble_eq_true rfl, Nat.le_of_ble_eq_true rfl, (by show _ ≤ 603072; omega), (by show _ ≤ 7215210; omega)⟩ (fun v H locs hv hS => ?_) (fun x H locs hv hS => hv.elim)
      obtain ⟨rfl, rfl⟩ := hv
      refine zw_app ?_
      refine lv_iload hx hb zd_La_law_319 (lv_at hl 1 rfl) ?_
      refine lv_icmp_eq (tgt := 326) hx hb zd_La_law_321 rfl (fun _ => ?_) (fun hc9 => absurd hc9 (fun h => h rfl))
      have hI := hB _ _ _ hP
      refine lv_iload hx hb zd_La_law_326 (lv_at hl 1 rfl) ?_
      refine lv_if_ne (tgt := 343) hx hb zd_La_law_328 rfl (fun hc9 => absurd hc9 (by decide)) (fun _ => ?_)
      obtain ⟨lf9, am9, bh9, D9, Y1, Y2, Y3, Y4, hP9, -⟩ := id hI
      refine lv_aload_n hx hb zd_La_law_331 rfl (lv_at hl 3 rfl) ?_
      refine lv_iconst (v := 0) hx hb zd_La_law_332 (by decide) ?_
      refine zw_lald F hK hP9 8 rfl zd_La_law_333 ?_
      refine lv_iload hx hb zd_La_law_334 (lv_at hl 0 rfl) ?_
      refine lv_i2l hx hb zd_La_law_336 rfl ?_
      refine W.lcmp hx hb zd_La_law_337 ?_
      refine lv_if_eq (tgt := 343) hx hb zd_La_law_338 rfl (fun _ => ?_) (fun hc9 => absurd hc9 (fun h => h ((lg_cmp_eq _ _).mpr (by rw [u3, g3]))))
      refine lv_goto (tgt := 590) hx hb zd_La_law_343 rfl ?_
      refine W.widen (k := cells + 6) (n := slots + 36) (by omega) (by omega) ?_
      exact kk _ _ _ (lv_sub hl [2, 3, 4, 5, 6] rfl) ⟨M, off, wn, L8, b8, sk, 0, true, fl, wt, ct, _, f8, hI, hR⟩ hS
set_option maxHeartbeats 4000000 in
set_option maxRecDepth 20000 in
theorem lc_4 {p : Program} {l : Launch} {e : Env} {s : State} {m : MethodId} {below : List Frame} {meth : Method} {c : Code} {H : Heap} {locs : List Loc} {cells slots : Nat} {Q : State → Prop} {G : xG} {nm : String} {hs : List (Nat × Nat × Nat × Nat)} {ls : Array Slot} {bs Ls j : Nat} {xs : Nat → Int32} {pa pw ar dk on pt rc rw mo by_ ou : Nat} {A : Nat → Prop}
    (F : xFix p s m meth c code 8 "ParityArrayLaw" nm ret hs) (hfl : l.flags = flags0) (hT : xT s) (hK : xK G s) (hZ : xZ A s s.heap) (hX : va_X bs Ls xs s s.heap) (hbl : bs < s.heap.size) (hbA : ¬ A bs) (hS : va_S A s.heap H locs) (hDD : va_D A (zA8 pa pw ar dk on pt rc rw ++ [zD ou, zD mo, zD by_])) (hj : 5 * j + 5 ≤ Ls) (hL : Ls ≤ 2560) (hl : lv_has ls 8 [(4, .int (nI (5 * j))), (3, .ref ou), (2, .ref mo), (1, .ref pa), (0, .ref bs)]) (hI : LawI G pa pw ar dk on pt rc rw mo by_ ou H) (hc1 : cells + 6 ≤ 603072) (hc2 : slots + 36 ≤ 7215210)
    (kk : ∀ (ls : Array Slot) (H : Heap) (locs : List Loc), lv_has ls 8 [(4, .int (nI (5 * j))), (3, .ref ou), (2, .ref mo), (1, .ref pa), (0, .ref bs)] → LawI G pa pw ar dk on pt rc rw mo by_ ou H → va_S A s.heap H locs → W p l e room_1 s m #[Value.ref bs] below meth c H locs (cells + 6) (slots + 36) Q (F0 m 590 ls [])) : W p l e room_1 s m #[Value.ref bs] below meth c H locs cells slots Q (F0 m 346 ls []) := by
  have hx := F.1
  have hb := F.2.1
  obtain ⟨M, off, wn, L8, b8, sk, rb, nw, fl, wt, ct, th, f, hI, hR⟩ := hI
  obtain ⟨hsk, hrb, hc5, hn0, hb8, hL8⟩ := hI.facts
  refine lv_aload_n hx hb zd_La_law_346 rfl (lv_at hl 3 rfl) ?_
  refine lv_aload_n hx hb zd_La_law_347 rfl (lv_at hl 1 rfl) ?_
  refine zk_S F hT hK hZ hS hl.1 (zc_La_rebuild l G pa pw ar dk on pt rc rw _ M off wn L8 b8 sk rb nw ou f hfl hI (zw_D hDD (by simp only [List.map_append, List.map_cons, List.map_nil]))) zl_La_rebuild (zY_La_rebuild hT) zq_313 zq_314 zq_0 zd_La_law_348 rfl ⟨rfl, rfl, Nat.le_of_ble_eq_true rfl, Nat.le_of_ble_eq_true rfl, (by show _ ≤ 603072; omega), (by show _ ≤ 7215210; omega)⟩ (fun v H locs hv hS => ?_) (fun x H locs hv hS => hv.elim)
  obtain ⟨k8, f8, rfl, hv⟩ := hv
  refine zw_app ?_
  refine lv_istore hx hb zd_La_law_351 hl (by decide) rfl (fun ls hl => ?_)
  have hl : lv_has ls 8 [(5, _), (4, _), (3, _), (2, _), (1, _), (0, _)] := hl
  refine lv_aload_n hx hb zd_La_law_353 rfl (lv_at hl 3 rfl) ?_
  rcases hv with ⟨hbad, rfl, hI⟩ | ⟨u1, u2, rfl, u3, hI⟩
  · obtain ⟨wr9, hP, hDf, hB⟩ := zl_mo hI
    have hD := hDf A hDD
    refine zk_V F hT hK hZ hS hl.1 hP 0 rfl rfl rfl (zc_Mo_rebuild l G mo by_ wr9 (!off) nw sk rb fl wt ct th M hsk hrb hP (hD _ _) hc5) zl_Mo_rebuild (zY_Mo_rebuild hT) zq_451 zq_452 zq_453 zd_La_law_354 rfl ⟨rfl, rfl, Nat.le_of_ble_eq_true rfl, Nat.le_of_ble_eq_true rfl, (by show _ ≤ 603072; omega), (by show _ ≤ 7215210; omega)⟩ (fun v H locs hv hS => ?_) (fun x H locs hv hS => hv.elim)
    obtain ⟨r9, rfl, hv⟩ := hv
    rcases hv with ⟨g1, hP⟩ | ⟨g1, g2, g3, hP⟩
    · refine zw_app ?_
      refine lv_istore hx hb zd_La_law_357 hl (by decide) rfl (fun ls hl => ?_)
      have hl : lv_has ls 8 [(6, _), (5, _), (4, _), (3, _), (2, _), (1, _), (0, _)] := hl
      refine lv_aload_n hx hb zd_La_law_359 rfl (lv_at hl 4 rfl) ?_
      refine zk_V F hT hK hZ hS hl.1 hP 0 rfl rfl rfl (zc_Mo_thrown l G mo by_ _ _ _ _ _ _ _ _ (_ :: wr9) hP) zl_Mo_thrown (zY_Mo_thrown hT) zq_415 zq_416 zq_417 zd_La_law_360 rfl ⟨rfl, rfl, Nat.le_of_ble_eq_true rfl, Nat.le_of_ble_eq_true rfl, (by show _ ≤ 603072; omega), (by show _ ≤ 7215210; omega)⟩ (fun v H locs hv hS => ?_) (fun x H locs hv hS => hv.elim)
      obtain ⟨rfl, rfl⟩ := hv
      refine zw_app ?_
      refine lv_iload hx hb zd_La_law_363 (lv_at hl 1 rfl) ?_
      refine lv_icmp_eq (tgt := 370) hx hb zd_La_law_365 rfl (fun _ => ?_) (fun hc9 => absurd hc9 (fun h => h rfl))
      have hI := hB _ _ _ hP
      refine lv_iload hx hb zd_La_law_370 (lv_at hl 1 rfl) ?_
      refine lv_if_ne (tgt := 387) hx hb zd_La_law_372 rfl (fun _ => ?_) (fun hc9 => absurd hc9 (by decide))
      refine lv_goto (tgt := 590) hx hb zd_La_law_387 rfl ?_
      refine W.widen (k := cells + 6) (n := slots + 36) (by omega) (by omega) ?_
      exact kk _ _ _ (lv_sub hl [2, 3, 4, 5, 6] rfl) ⟨M, off, wn, L8, b8, sk, rb, nw, fl, wt, ct, _, f8, hI, hR⟩ hS
    · exact absurd ⟨by simpa using g1, g2⟩ hbad
  · obtain ⟨wr9, hP, hDf, hB⟩ := zl_mo hI
    have hD := hDf A hDD
    refine zk_V F hT hK hZ hS hl.1 hP 0 rfl rfl rfl (zc_Mo_rebuild l G mo by_ wr9 (!off) nw sk rb fl wt ct th M hsk hrb hP (hD _ _) hc5) zl_Mo_rebuild (zY_Mo_rebuild hT) zq_451 zq_452 zq_453 zd_La_law_354 rfl ⟨rfl, rfl, Nat.le_of_ble_eq_true rfl, Nat.le_of_ble_eq_true rfl, (by show _ ≤ 603072; omega), (by show _ ≤ 7215210; omega)⟩ (fun v H locs hv hS => ?_) (fun x H locs hv hS => hv.elim)
    obtain ⟨r9, rfl, hv⟩ := hv
    rcases hv with ⟨g1, hP⟩ | ⟨g1, g2, g3, hP⟩
    · exact absurd ⟨by simpa using u1, u2⟩ g1
    · refine zw_app ?_
      refine lv_istore hx hb zd_La_law_357 hl (by decide) rfl (fun ls hl => ?_)
      have hl : lv_has ls 8 [(6, _), (5, _), (4, _), (3, _), (2, _), (1, _), (0, _)] := hl
      refine lv_aload_n hx hb zd_La_law_359 rfl (lv_at hl 4 rfl) ?_
      refine zk_V F hT hK hZ hS hl.1 hP 0 rfl rfl rfl (zc_Mo_thrown l G mo by_ _ _ _ _ _ _ _ _ (_ :: wr9) hP) zl_Mo_thrown (zY_Mo_thrown hT) zq_415 zq_416 zq_417 zd_La_law_360 rfl ⟨rfl, rfl, Nat.le_of_ble_eq_true rfl, Nat.le_of_ble_eq_true rfl, (by show _ ≤ 603072; omega), (by show _ ≤ 7215210; omega)⟩ (fun v H locs hv hS => ?_) (fun x H locs hv hS => hv.elim)
      obtain ⟨rfl, rfl⟩ := hv
      refine zw_app ?_
      refine lv_iload hx hb zd_La_law_363 (lv_at hl 1 rfl) ?_
      refine lv_icmp_eq (tgt := 370) hx hb zd_La_law_365 rfl (fun _ => ?_) (fun hc9 => absurd hc9 (fun h => h rfl))
      have hI := hB _ _ _ hP
      refine lv_iload hx hb zd_La_law_370 (lv_at hl 1 rfl) ?_
      refine lv_if_ne (tgt := 387) hx hb zd_La_law_372 rfl (fun hc9 => absurd hc9 (by decide)) (fun _ => ?_)
      obtain ⟨lf9, am9, bh9, D9, Y1, Y2, Y3, Y4, hP9, -⟩ := id hI
      refine lv_aload_n hx hb zd_La_law_375 rfl (lv_at hl 3 rfl) ?_
      refine lv_iconst (v := 0) hx hb zd_La_law_376 (by decide) ?_
      refine zw_lald F hK hP9 8 rfl zd_La_law_377 ?_
      refine lv_iload hx hb zd_La_law_378 (lv_at hl 0 rfl) ?_
      refine lv_i2l hx hb zd_La_law_380 rfl ?_
      refine W.lcmp hx hb zd_La_law_381 ?_
      refine lv_if_eq (tgt := 387) hx hb zd_La_law_382 rfl (fun _ => ?_) (fun hc9 => absurd hc9 (fun h => h ((lg_cmp_eq _ _).mpr (by rw [u3, g3]))))
      refine lv_goto (tgt := 590) hx hb zd_La_law_387 rfl ?_
      refine W.widen (k := cells + 6) (n := slots + 36) (by omega) (by omega) ?_
      exact kk _ _ _ (lv_sub hl [2, 3, 4, 5, 6] rfl) ⟨M, off, wn, L8, b8, _, _, _, fl, wt, ct, _, f8, hI, hR⟩ hS
set_option maxHeartbeats 4000000 in
set_option maxRecDepth 20000 in
theorem lc_5 {p : Program} {l : Launch} {e : Env} {s : State} {m : MethodId} {below : List Frame} {meth : Method} {c : Code} {H : Heap} {locs : List Loc} {cells slots : Nat} {Q : State → Prop} {G : xG} {nm : String} {hs : List (Nat × Nat × Nat × Nat)} {ls : Array Slot} {bs Ls j : Nat} {xs : Nat → Int32} {pa pw ar dk on pt rc rw mo by_ ou : Nat} {A : Nat → Prop}
    (F : xFix p s m meth c code 8 "ParityArrayLaw" nm ret hs) (hfl : l.flags = flags0) (hT : xT s) (hK : xK G s) (hZ : xZ A s s.heap) (hX : va_X bs Ls xs s s.heap) (hbl : bs < s.heap.size) (hbA : ¬ A bs) (hS : va_S A s.heap H locs) (hDD : va_D A (zA8 pa pw ar dk on pt rc rw ++ [zD ou, zD mo, zD by_])) (hj : 5 * j + 5 ≤ Ls) (hL : Ls ≤ 2560) (hl : lv_has ls 8 [(4, .int (nI (5 * j))), (3, .ref ou), (2, .ref mo), (1, .ref pa), (0, .ref bs)]) (hI : LawI G pa pw ar dk on pt rc rw mo by_ ou H) (hc1 : cells + 6 ≤ 603072) (hc2 : slots + 36 ≤ 7215210)
    (kk : ∀ (ls : Array Slot) (H : Heap) (locs : List Loc), lv_has ls 8 [(4, .int (nI (5 * j))), (3, .ref ou), (2, .ref mo), (1, .ref pa), (0, .ref bs)] → LawI G pa pw ar dk on pt rc rw mo by_ ou H → va_S A s.heap H locs → W p l e room_1 s m #[Value.ref bs] below meth c H locs (cells + 6) (slots + 36) Q (F0 m 590 ls [])) : W p l e room_1 s m #[Value.ref bs] below meth c H locs cells slots Q (F0 m 390 ls []) := by
  have hx := F.1
  have hb := F.2.1
  obtain ⟨M, off, wn, L8, b8, sk, rb, nw, fl, wt, ct, th, f, hI, hR⟩ := hI
  obtain ⟨hsk, hrb, hc5, hn0, hb8, hL8⟩ := hI.facts
  refine lv_aload_n hx hb zd_La_law_390 rfl (lv_at hl 3 rfl) ?_
  refine lv_aload_n hx hb zd_La_law_391 rfl (lv_at hl 4 rfl) ?_
  refine lv_iload hx hb zd_La_law_392 (lv_at hl 0 rfl) ?_
  refine lv_iconst (v := nI 1) hx hb zd_La_law_394 (by decide) ?_
  refine lv_iadd hx hb zd_La_law_395 ?_
  refine zw_ti (nI (5 * j + 1)) (nI_add _ _) ?_
  refine va_sld hx hb hX hbl hbA hS (vp_in_nI (n := 5 * j + 1) (by omega) (by omega)) zd_La_law_396 ?_
  refine zw_ti (xs (5 * j + 1)) (by rw [nI_clamp (by omega)]) ?_
  refine lv_aload_n hx hb zd_La_law_397 rfl (lv_at hl 4 rfl) ?_
  refine lv_iload hx hb zd_La_law_398 (lv_at hl 0 rfl) ?_
  refine lv_iconst (v := nI 2) hx hb zd_La_law_400 (by decide) ?_
  refine lv_iadd hx hb zd_La_law_401 ?_
  refine zw_ti (nI (5 * j + 2)) (nI_add _ _) ?_
  refine va_sld hx hb hX hbl hbA hS (vp_in_nI (n := 5 * j + 2) (by omega) (by omega)) zd_La_law_402 ?_
  refine zw_ti (xs (5 * j + 2)) (by rw [nI_clamp (by omega)]) ?_
  refine lv_aload_n hx hb zd_La_law_403 rfl (lv_at hl 4 rfl) ?_
  refine lv_iload hx hb zd_La_law_404 (lv_at hl 0 rfl) ?_
  refine lv_iconst (v := nI 3) hx hb zd_La_law_406 (by decide) ?_
  refine lv_iadd hx hb zd_La_law_407 ?_
  refine zw_ti (nI (5 * j + 3)) (nI_add _ _) ?_
  refine va_sld hx hb hX hbl hbA hS (vp_in_nI (n := 5 * j + 3) (by omega) (by omega)) zd_La_law_408 ?_
  refine zw_ti (xs (5 * j + 3)) (by rw [nI_clamp (by omega)]) ?_
  by_cases h3 : xs (5 * j + 3) = 0
  · refine lv_if_eq (tgt := 416) hx hb zd_La_law_409 rfl (fun _ => ?_) (fun hc9 => absurd hc9 (fun h => h h3))
    refine lv_iconst (v := bI false) hx hb zd_La_law_416 (by decide) ?_
    refine zk_S F hT hK hZ hS hl.1 (zc_La_power l G pa pw ar dk on pt rc rw _ M off wn L8 b8 sk rb nw _ _ false hfl hI (zw_D hDD (by simp only [List.map_append, List.map_cons, List.map_nil]))) zl_La_power (zY_La_power hT) zq_324 zq_325 zq_0 zd_La_law_417 rfl ⟨rfl, rfl, Nat.le_of_ble_eq_true rfl, Nat.le_of_ble_eq_true rfl, (by show _ ≤ 603072; omega), (by show _ ≤ 7215210; omega)⟩ (fun v H locs hv hS => ?_) (fun x H locs hv hS => hv.elim)
    obtain ⟨k8, rfl, hv⟩ := hv
    refine zw_app ?_
    refine lv_istore hx hb zd_La_law_420 hl (by decide) rfl (fun ls hl => ?_)
    have hl : lv_has ls 8 [(5, _), (4, _), (3, _), (2, _), (1, _), (0, _)] := hl
    refine lv_aload_n hx hb zd_La_law_422 rfl (lv_at hl 3 rfl) ?_
    refine lv_aload_n hx hb zd_La_law_423 rfl (lv_at hl 5 rfl) ?_
    refine lv_iload hx hb zd_La_law_424 (lv_at hl 1 rfl) ?_
    refine lv_iconst (v := nI 1) hx hb zd_La_law_426 (by decide) ?_
    refine lv_iadd hx hb zd_La_law_427 ?_
    refine zw_ti (nI (5 * j + 1)) (nI_add _ _) ?_
    refine va_sld hx hb hX hbl hbA hS (vp_in_nI (n := 5 * j + 1) (by omega) (by omega)) zd_La_law_428 ?_
    refine zw_ti (xs (5 * j + 1)) (by rw [nI_clamp (by omega)]) ?_
    refine lv_aload_n hx hb zd_La_law_429 rfl (lv_at hl 5 rfl) ?_
    refine lv_iload hx hb zd_La_law_430 (lv_at hl 1 rfl) ?_
    refine lv_iconst (v := nI 2) hx hb zd_La_law_432 (by decide) ?_
    refine lv_iadd hx hb zd_La_law_433 ?_
    refine zw_ti (nI (5 * j + 2)) (nI_add _ _) ?_
    refine va_sld hx hb hX hbl hbA hS (vp_in_nI (n := 5 * j + 2) (by omega) (by omega)) zd_La_law_434 ?_
    refine zw_ti (xs (5 * j + 2)) (by rw [nI_clamp (by omega)]) ?_
    refine lv_aload_n hx hb zd_La_law_435 rfl (lv_at hl 5 rfl) ?_
    refine lv_iload hx hb zd_La_law_436 (lv_at hl 1 rfl) ?_
    refine lv_iconst (v := nI 3) hx hb zd_La_law_438 (by decide) ?_
    refine lv_iadd hx hb zd_La_law_439 ?_
    refine zw_ti (nI (5 * j + 3)) (nI_add _ _) ?_
    refine va_sld hx hb hX hbl hbA hS (vp_in_nI (n := 5 * j + 3) (by omega) (by omega)) zd_La_law_440 ?_
    refine zw_ti (xs (5 * j + 3)) (by rw [nI_clamp (by omega)]) ?_
    refine lv_if_eq (tgt := 448) hx hb zd_La_law_441 rfl (fun _ => ?_) (fun hc9 => absurd hc9 (fun h => h h3))
    refine lv_iconst (v := bI false) hx hb zd_La_law_448 (by decide) ?_
    rcases hv with ⟨hbad, rfl, hI⟩ | ⟨rfl, L9, b9, q1, q2, q3, q4, hI⟩
    · obtain ⟨wr9, hP, hDf, hB⟩ := zl_mo hI
      have hD := hDf A hDD
      refine zk_V F hT hK hZ hS hl.1 hP 0 rfl rfl rfl (zc_Mo_power l G mo by_ wr9 (!off) nw sk rb fl wt ct th M _ _ false hsk hrb hP (hD _ _)) zl_Mo_power (zY_Mo_power hT) zq_455 zq_456 zq_457 zd_La_law_449 rfl ⟨rfl, rfl, Nat.le_of_ble_eq_true rfl, Nat.le_of_ble_eq_true rfl, (by show _ ≤ 603072; omega), (by show _ ≤ 7215210; omega)⟩ (fun v H locs hv hS => ?_) (fun x H locs hv hS => hv.elim)
      obtain ⟨rfl, hv⟩ := hv
      rcases hv with ⟨g1, hP⟩ | ⟨g1, hP⟩
      · refine zw_app0 ?_
        refine lv_aload_n hx hb zd_La_law_452 rfl (lv_at hl 3 rfl) ?_
        refine zk_V F hT hK hZ hS hl.1 hP 0 rfl rfl rfl (zc_Mo_thrown l G mo by_ _ _ _ _ _ _ _ _ (_ :: wr9) hP) zl_Mo_thrown (zY_Mo_thrown hT) zq_415 zq_416 zq_417 zd_La_law_453 rfl ⟨rfl, rfl, Nat.le_of_ble_eq_true rfl, Nat.le_of_ble_eq_true rfl, (by show _ ≤ 603072; omega), (by show _ ≤ 7215210; omega)⟩ (fun v H locs hv hS => ?_) (fun x H locs hv hS => hv.elim)
        obtain ⟨rfl, rfl⟩ := hv
        refine zw_app ?_
        refine lv_iload hx hb zd_La_law_456 (lv_at hl 0 rfl) ?_
        refine lv_icmp_eq (tgt := 463) hx hb zd_La_law_458 rfl (fun _ => ?_) (fun hc9 => absurd hc9 (fun h => h rfl))
        have hI := hB _ _ _ hP
        refine lv_goto (tgt := 590) hx hb zd_La_law_463 rfl ?_
        refine W.widen (k := cells + 6) (n := slots + 36) (by omega) (by omega) ?_
        exact kk _ _ _ (lv_sub hl [1, 2, 3, 4, 5] rfl) ⟨M, off, wn, L8, b8, sk, rb, nw, fl, wt, ct, _, f, hI, hR⟩ hS
      · exact absurd g1 hbad
    · obtain ⟨wr9, hP, hDf, hB⟩ := zl_mo hI
      have hD := hDf A hDD
      refine zk_V F hT hK hZ hS hl.1 hP 0 rfl rfl rfl (zc_Mo_power l G mo by_ wr9 (!off) nw sk rb fl wt ct th M _ _ false hsk hrb hP (hD _ _)) zl_Mo_power (zY_Mo_power hT) zq_455 zq_456 zq_457 zd_La_law_449 rfl ⟨rfl, rfl, Nat.le_of_ble_eq_true rfl, Nat.le_of_ble_eq_true rfl, (by show _ ≤ 603072; omega), (by show _ ≤ 7215210; omega)⟩ (fun v H locs hv hS => ?_) (fun x H locs hv hS => hv.elim)
      obtain ⟨rfl, hv⟩ := hv
      rcases hv with ⟨g1, hP⟩ | ⟨g1, hP⟩
      · exact absurd (by rw [q3, q4]; exact okW_nI q1 q2) g1
      · refine zw_app0 ?_
        refine lv_aload_n hx hb zd_La_law_452 rfl (lv_at hl 3 rfl) ?_
        refine zk_V F hT hK hZ hS hl.1 hP 0 rfl rfl rfl (zc_Mo_thrown l G mo by_ _ _ _ _ _ _ _ _ (_ :: wr9) hP) zl_Mo_thrown (zY_Mo_thrown hT) zq_415 zq_416 zq_417 zd_La_law_453 rfl ⟨rfl, rfl, Nat.le_of_ble_eq_true rfl, Nat.le_of_ble_eq_true rfl, (by show _ ≤ 603072; omega), (by show _ ≤ 7215210; omega)⟩ (fun v H locs hv hS => ?_) (fun x H locs hv hS => hv.elim)
        obtain ⟨rfl, rfl⟩ := hv
        refine zw_app ?_
        refine lv_iload hx hb zd_La_law_456 (lv_at hl 0 rfl) ?_
        refine lv_icmp_eq (tgt := 463) hx hb zd_La_law_458 rfl (fun _ => ?_) (fun hc9 => absurd hc9 (fun h => h rfl))
        have hI := hB _ _ _ hP
        refine lv_goto (tgt := 590) hx hb zd_La_law_463 rfl ?_
        refine W.widen (k := cells + 6) (n := slots + 36) (by omega) (by omega) ?_
        exact kk _ _ _ (lv_sub hl [1, 2, 3, 4, 5] rfl) ⟨M, off, _, L9, b9, sk, rb, nw, _, _, _, _, f, hI, Or.inr (Or.inl ⟨rfl, rfl, q3, q4⟩)⟩ hS
  · refine lv_if_eq (tgt := 416) hx hb zd_La_law_409 rfl (fun hc9 => absurd hc9 h3) (fun _ => ?_)
    refine lv_iconst (v := bI true) hx hb zd_La_law_412 (by decide) ?_
    refine lv_goto (tgt := 417) hx hb zd_La_law_413 rfl ?_
    refine zk_S F hT hK hZ hS hl.1 (zc_La_power l G pa pw ar dk on pt rc rw _ M off wn L8 b8 sk rb nw _ _ true hfl hI (zw_D hDD (by simp only [List.map_append, List.map_cons, List.map_nil]))) zl_La_power (zY_La_power hT) zq_324 zq_325 zq_0 zd_La_law_417 rfl ⟨rfl, rfl, Nat.le_of_ble_eq_true rfl, Nat.le_of_ble_eq_true rfl, (by show _ ≤ 603072; omega), (by show _ ≤ 7215210; omega)⟩ (fun v H locs hv hS => ?_) (fun x H locs hv hS => hv.elim)
    obtain ⟨k8, rfl, hv⟩ := hv
    refine zw_app ?_
    refine lv_istore hx hb zd_La_law_420 hl (by decide) rfl (fun ls hl => ?_)
    have hl : lv_has ls 8 [(5, _), (4, _), (3, _), (2, _), (1, _), (0, _)] := hl
    refine lv_aload_n hx hb zd_La_law_422 rfl (lv_at hl 3 rfl) ?_
    refine lv_aload_n hx hb zd_La_law_423 rfl (lv_at hl 5 rfl) ?_
    refine lv_iload hx hb zd_La_law_424 (lv_at hl 1 rfl) ?_
    refine lv_iconst (v := nI 1) hx hb zd_La_law_426 (by decide) ?_
    refine lv_iadd hx hb zd_La_law_427 ?_
    refine zw_ti (nI (5 * j + 1)) (nI_add _ _) ?_
    refine va_sld hx hb hX hbl hbA hS (vp_in_nI (n := 5 * j + 1) (by omega) (by omega)) zd_La_law_428 ?_
    refine zw_ti (xs (5 * j + 1)) (by rw [nI_clamp (by omega)]) ?_
    refine lv_aload_n hx hb zd_La_law_429 rfl (lv_at hl 5 rfl) ?_
    refine lv_iload hx hb zd_La_law_430 (lv_at hl 1 rfl) ?_
    refine lv_iconst (v := nI 2) hx hb zd_La_law_432 (by decide) ?_
    refine lv_iadd hx hb zd_La_law_433 ?_
    refine zw_ti (nI (5 * j + 2)) (nI_add _ _) ?_
    refine va_sld hx hb hX hbl hbA hS (vp_in_nI (n := 5 * j + 2) (by omega) (by omega)) zd_La_law_434 ?_
    refine zw_ti (xs (5 * j + 2)) (by rw [nI_clamp (by omega)]) ?_
    refine lv_aload_n hx hb zd_La_law_435 rfl (lv_at hl 5 rfl) ?_
    refine lv_iload hx hb zd_La_law_436 (lv_at hl 1 rfl) ?_
    refine lv_iconst (v := nI 3) hx hb zd_La_law_438 (by decide) ?_
    refine lv_iadd hx hb zd_La_law_439 ?_
    refine zw_ti (nI (5 * j + 3)) (nI_add _ _) ?_
    refine va_sld hx hb hX hbl hbA hS (vp_in_nI (n := 5 * j + 3) (by omega) (by omega)) zd_La_law_440 ?_
    refine zw_ti (xs (5 * j + 3)) (by rw [nI_clamp (by omega)]) ?_
    refine lv_if_eq (tgt := 448) hx hb zd_La_law_441 rfl (fun hc9 => absurd hc9 h3) (fun _ => ?_)
    refine lv_iconst (v := bI true) hx hb zd_La_law_444 (by decide) ?_
    refine lv_goto (tgt := 449) hx hb zd_La_law_445 rfl ?_
    rcases hv with ⟨hbad, rfl, hI⟩ | ⟨rfl, L9, b9, q1, q2, q3, q4, hI⟩
    · obtain ⟨wr9, hP, hDf, hB⟩ := zl_mo hI
      have hD := hDf A hDD
      refine zk_V F hT hK hZ hS hl.1 hP 0 rfl rfl rfl (zc_Mo_power l G mo by_ wr9 (!off) nw sk rb fl wt ct th M _ _ true hsk hrb hP (hD _ _)) zl_Mo_power (zY_Mo_power hT) zq_455 zq_456 zq_457 zd_La_law_449 rfl ⟨rfl, rfl, Nat.le_of_ble_eq_true rfl, Nat.le_of_ble_eq_true rfl, (by show _ ≤ 603072; omega), (by show _ ≤ 7215210; omega)⟩ (fun v H locs hv hS => ?_) (fun x H locs hv hS => hv.elim)
      obtain ⟨rfl, hv⟩ := hv
      rcases hv with ⟨g1, hP⟩ | ⟨g1, hP⟩
      · refine zw_app0 ?_
        refine lv_aload_n hx hb zd_La_law_452 rfl (lv_at hl 3 rfl) ?_
        refine zk_V F hT hK hZ hS hl.1 hP 0 rfl rfl rfl (zc_Mo_thrown l G mo by_ _ _ _ _ _ _ _ _ (_ :: wr9) hP) zl_Mo_thrown (zY_Mo_thrown hT) zq_415 zq_416 zq_417 zd_La_law_453 rfl ⟨rfl, rfl, Nat.le_of_ble_eq_true rfl, Nat.le_of_ble_eq_true rfl, (by show _ ≤ 603072; omega), (by show _ ≤ 7215210; omega)⟩ (fun v H locs hv hS => ?_) (fun x H locs hv hS => hv.elim)
        obtain ⟨rfl, rfl⟩ := hv
        refine zw_app ?_
        refine lv_iload hx hb zd_La_law_456 (lv_at hl 0 rfl) ?_
        refine lv_icmp_eq (tgt := 463) hx hb zd_La_law_458 rfl (fun _ => ?_) (fun hc9 => absurd hc9 (fun h => h rfl))
        have hI := hB _ _ _ hP
        refine lv_goto (tgt := 590) hx hb zd_La_law_463 rfl ?_
        refine W.widen (k := cells + 6) (n := slots + 36) (by omega) (by omega) ?_
        exact kk _ _ _ (lv_sub hl [1, 2, 3, 4, 5] rfl) ⟨M, off, wn, L8, b8, sk, rb, nw, fl, wt, ct, _, f, hI, hR⟩ hS
      · exact absurd g1 hbad
    · obtain ⟨wr9, hP, hDf, hB⟩ := zl_mo hI
      have hD := hDf A hDD
      refine zk_V F hT hK hZ hS hl.1 hP 0 rfl rfl rfl (zc_Mo_power l G mo by_ wr9 (!off) nw sk rb fl wt ct th M _ _ true hsk hrb hP (hD _ _)) zl_Mo_power (zY_Mo_power hT) zq_455 zq_456 zq_457 zd_La_law_449 rfl ⟨rfl, rfl, Nat.le_of_ble_eq_true rfl, Nat.le_of_ble_eq_true rfl, (by show _ ≤ 603072; omega), (by show _ ≤ 7215210; omega)⟩ (fun v H locs hv hS => ?_) (fun x H locs hv hS => hv.elim)
      obtain ⟨rfl, hv⟩ := hv
      rcases hv with ⟨g1, hP⟩ | ⟨g1, hP⟩
      · exact absurd (by rw [q3, q4]; exact okW_nI q1 q2) g1
      · refine zw_app0 ?_
        refine lv_aload_n hx hb zd_La_law_452 rfl (lv_at hl 3 rfl) ?_
        refine zk_V F hT hK hZ hS hl.1 hP 0 rfl rfl rfl (zc_Mo_thrown l G mo by_ _ _ _ _ _ _ _ _ (_ :: wr9) hP) zl_Mo_thrown (zY_Mo_thrown hT) zq_415 zq_416 zq_417 zd_La_law_453 rfl ⟨rfl, rfl, Nat.le_of_ble_eq_true rfl, Nat.le_of_ble_eq_true rfl, (by show _ ≤ 603072; omega), (by show _ ≤ 7215210; omega)⟩ (fun v H locs hv hS => ?_) (fun x H locs hv hS => hv.elim)
        obtain ⟨rfl, rfl⟩ := hv
        refine zw_app ?_
        refine lv_iload hx hb zd_La_law_456 (lv_at hl 0 rfl) ?_
        refine lv_icmp_eq (tgt := 463) hx hb zd_La_law_458 rfl (fun _ => ?_) (fun hc9 => absurd hc9 (fun h => h rfl))
        have hI := hB _ _ _ hP
        refine lv_goto (tgt := 590) hx hb zd_La_law_463 rfl ?_
        refine W.widen (k := cells + 6) (n := slots + 36) (by omega) (by omega) ?_
        exact kk _ _ _ (lv_sub hl [1, 2, 3, 4, 5] rfl) ⟨M, off, _, L9, b9, sk, rb, nw, _, _, _, _, f, hI, Or.inr (Or.inr ⟨rfl, rfl⟩)⟩ hS
set_option maxHeartbeats 4000000 in
set_option maxRecDepth 20000 in
theorem lc_6 {p : Program} {l : Launch} {e : Env} {s : State} {m : MethodId} {below : List Frame} {meth : Method} {c : Code} {H : Heap} {locs : List Loc} {cells slots : Nat} {Q : State → Prop} {G : xG} {nm : String} {hs : List (Nat × Nat × Nat × Nat)} {ls : Array Slot} {bs Ls j : Nat} {xs : Nat → Int32} {pa pw ar dk on pt rc rw mo by_ ou : Nat} {A : Nat → Prop}
    (F : xFix p s m meth c code 8 "ParityArrayLaw" nm ret hs) (hfl : l.flags = flags0) (hT : xT s) (hK : xK G s) (hZ : xZ A s s.heap) (hX : va_X bs Ls xs s s.heap) (hbl : bs < s.heap.size) (hbA : ¬ A bs) (hS : va_S A s.heap H locs) (hDD : va_D A (zA8 pa pw ar dk on pt rc rw ++ [zD ou, zD mo, zD by_])) (hj : 5 * j + 5 ≤ Ls) (hL : Ls ≤ 2560) (hl : lv_has ls 8 [(4, .int (nI (5 * j))), (3, .ref ou), (2, .ref mo), (1, .ref pa), (0, .ref bs)]) (hI : LawI G pa pw ar dk on pt rc rw mo by_ ou H) (hc1 : cells + 6 ≤ 603072) (hc2 : slots + 36 ≤ 7215210)
    (kk : ∀ (ls : Array Slot) (H : Heap) (locs : List Loc), lv_has ls 8 [(4, .int (nI (5 * j))), (3, .ref ou), (2, .ref mo), (1, .ref pa), (0, .ref bs)] → LawI G pa pw ar dk on pt rc rw mo by_ ou H → va_S A s.heap H locs → W p l e room_1 s m #[Value.ref bs] below meth c H locs (cells + 6) (slots + 36) Q (F0 m 590 ls [])) : W p l e room_1 s m #[Value.ref bs] below meth c H locs cells slots Q (F0 m 466 ls []) := by
  have hx := F.1
  have hb := F.2.1
  obtain ⟨M, off, wn, L8, b8, sk, rb, nw, fl, wt, ct, th, f, hI, hR⟩ := hI
  obtain ⟨hsk, hrb, hc5, hn0, hb8, hL8⟩ := hI.facts
  refine lv_aload_n hx hb zd_La_law_466 rfl (lv_at hl 3 rfl) ?_
  refine zk_S F hT hK hZ hS hl.1 (zc_La_recover l G pa pw ar dk on pt rc rw _ M off wn L8 b8 sk rb nw hfl hI (zw_D hDD (by simp only [List.map_append, List.map_cons, List.map_nil]))) zl_La_recover (zY_La_recover hT) zq_351 zq_352 zq_0 zd_La_law_467 rfl ⟨rfl, rfl, Nat.le_of_ble_eq_true rfl, Nat.le_of_ble_eq_true rfl, (by show _ ≤ 603072; omega), (by show _ ≤ 7215210; omega)⟩ (fun v H locs hv hS => ?_) (fun x H locs hv hS => hv.elim)
  obtain ⟨k8, rfl, hv⟩ := hv
  refine zw_app ?_
  refine lv_istore hx hb zd_La_law_470 hl (by decide) rfl (fun ls hl => ?_)
  have hl : lv_has ls 8 [(5, _), (4, _), (3, _), (2, _), (1, _), (0, _)] := hl
  refine lv_aload_n hx hb zd_La_law_472 rfl (lv_at hl 3 rfl) ?_
  rcases hv with ⟨h3, rfl, hI⟩ | ⟨h3, rfl, hI⟩
  · obtain ⟨wr9, hP, hDf, hB⟩ := zl_mo hI
    have hD := hDf A hDD
    refine zk_V F hT hK hZ hS hl.1 hP 0 rfl rfl rfl (zc_Mo_recover l G mo by_ wr9 (!off) nw sk rb fl wt ct th M hsk hrb hP (hD _ _)) zl_Mo_recover (zY_Mo_recover hT) zq_459 zq_460 zq_461 zd_La_law_473 rfl ⟨rfl, rfl, Nat.le_of_ble_eq_true rfl, Nat.le_of_ble_eq_true rfl, (by show _ ≤ 603072; omega), (by show _ ≤ 7215210; omega)⟩ (fun v H locs hv hS => ?_) (fun x H locs hv hS => hv.elim)
    obtain ⟨rfl, hv⟩ := hv
    rcases hv with ⟨g1, hP⟩ | ⟨g1, hP⟩
    · refine zw_app0 ?_
      refine lv_aload_n hx hb zd_La_law_476 rfl (lv_at hl 3 rfl) ?_
      refine zk_V F hT hK hZ hS hl.1 hP 0 rfl rfl rfl (zc_Mo_thrown l G mo by_ _ _ _ _ _ _ _ _ (_ :: wr9) hP) zl_Mo_thrown (zY_Mo_thrown hT) zq_415 zq_416 zq_417 zd_La_law_477 rfl ⟨rfl, rfl, Nat.le_of_ble_eq_true rfl, Nat.le_of_ble_eq_true rfl, (by show _ ≤ 603072; omega), (by show _ ≤ 7215210; omega)⟩ (fun v H locs hv hS => ?_) (fun x H locs hv hS => hv.elim)
      obtain ⟨rfl, rfl⟩ := hv
      refine zw_app ?_
      refine lv_iload hx hb zd_La_law_480 (lv_at hl 0 rfl) ?_
      refine lv_icmp_eq (tgt := 487) hx hb zd_La_law_482 rfl (fun _ => ?_) (fun hc9 => absurd hc9 (fun h => h rfl))
      have hI := hB _ _ _ hP
      refine lv_goto (tgt := 590) hx hb zd_La_law_487 rfl ?_
      refine W.widen (k := cells + 6) (n := slots + 36) (by omega) (by omega) ?_
      exact kk _ _ _ (lv_sub hl [1, 2, 3, 4, 5] rfl) ⟨M, true, 4, L8, b8, sk, rb, nw, 0, wt, ct, _, f, hI, Or.inl ⟨rfl, rfl⟩⟩ hS
    · exact absurd (hR.w3.mp h3) g1
  · obtain ⟨wr9, hP, hDf, hB⟩ := zl_mo hI
    have hD := hDf A hDD
    refine zk_V F hT hK hZ hS hl.1 hP 0 rfl rfl rfl (zc_Mo_recover l G mo by_ wr9 (!off) nw sk rb fl wt ct th M hsk hrb hP (hD _ _)) zl_Mo_recover (zY_Mo_recover hT) zq_459 zq_460 zq_461 zd_La_law_473 rfl ⟨rfl, rfl, Nat.le_of_ble_eq_true rfl, Nat.le_of_ble_eq_true rfl, (by show _ ≤ 603072; omega), (by show _ ≤ 7215210; omega)⟩ (fun v H locs hv hS => ?_) (fun x H locs hv hS => hv.elim)
    obtain ⟨rfl, hv⟩ := hv
    rcases hv with ⟨g1, hP⟩ | ⟨g1, hP⟩
    · exact absurd (hR.w3.mpr g1) h3
    · refine zw_app0 ?_
      refine lv_aload_n hx hb zd_La_law_476 rfl (lv_at hl 3 rfl) ?_
      refine zk_V F hT hK hZ hS hl.1 hP 0 rfl rfl rfl (zc_Mo_thrown l G mo by_ _ _ _ _ _ _ _ _ (_ :: wr9) hP) zl_Mo_thrown (zY_Mo_thrown hT) zq_415 zq_416 zq_417 zd_La_law_477 rfl ⟨rfl, rfl, Nat.le_of_ble_eq_true rfl, Nat.le_of_ble_eq_true rfl, (by show _ ≤ 603072; omega), (by show _ ≤ 7215210; omega)⟩ (fun v H locs hv hS => ?_) (fun x H locs hv hS => hv.elim)
      obtain ⟨rfl, rfl⟩ := hv
      refine zw_app ?_
      refine lv_iload hx hb zd_La_law_480 (lv_at hl 0 rfl) ?_
      refine lv_icmp_eq (tgt := 487) hx hb zd_La_law_482 rfl (fun _ => ?_) (fun hc9 => absurd hc9 (fun h => h rfl))
      have hI := hB _ _ _ hP
      refine lv_goto (tgt := 590) hx hb zd_La_law_487 rfl ?_
      refine W.widen (k := cells + 6) (n := slots + 36) (by omega) (by omega) ?_
      exact kk _ _ _ (lv_sub hl [1, 2, 3, 4, 5] rfl) ⟨M, false, 4, L8, b8, sk, rb, nw, 0, wt, ct, _, f, hI, Or.inl ⟨rfl, rfl⟩⟩ hS
set_option maxHeartbeats 4000000 in
set_option maxRecDepth 20000 in
theorem lc_7 {p : Program} {l : Launch} {e : Env} {s : State} {m : MethodId} {below : List Frame} {meth : Method} {c : Code} {H : Heap} {locs : List Loc} {cells slots : Nat} {Q : State → Prop} {G : xG} {nm : String} {hs : List (Nat × Nat × Nat × Nat)} {ls : Array Slot} {bs Ls j : Nat} {xs : Nat → Int32} {pa pw ar dk on pt rc rw mo by_ ou : Nat} {A : Nat → Prop}
    (F : xFix p s m meth c code 8 "ParityArrayLaw" nm ret hs) (hfl : l.flags = flags0) (hT : xT s) (hK : xK G s) (hZ : xZ A s s.heap) (hX : va_X bs Ls xs s s.heap) (hbl : bs < s.heap.size) (hbA : ¬ A bs) (hS : va_S A s.heap H locs) (hDD : va_D A (zA8 pa pw ar dk on pt rc rw ++ [zD ou, zD mo, zD by_])) (hj : 5 * j + 5 ≤ Ls) (hL : Ls ≤ 2560) (hl : lv_has ls 8 [(4, .int (nI (5 * j))), (3, .ref ou), (2, .ref mo), (1, .ref pa), (0, .ref bs)]) (hI : LawI G pa pw ar dk on pt rc rw mo by_ ou H) (hc1 : cells + 6 ≤ 603072) (hc2 : slots + 36 ≤ 7215210)
    (kk : ∀ (ls : Array Slot) (H : Heap) (locs : List Loc), lv_has ls 8 [(4, .int (nI (5 * j))), (3, .ref ou), (2, .ref mo), (1, .ref pa), (0, .ref bs)] → LawI G pa pw ar dk on pt rc rw mo by_ ou H → va_S A s.heap H locs → W p l e room_1 s m #[Value.ref bs] below meth c H locs (cells + 6) (slots + 36) Q (F0 m 590 ls [])) : W p l e room_1 s m #[Value.ref bs] below meth c H locs cells slots Q (F0 m 490 ls []) := by
  have hx := F.1
  have hb := F.2.1
  obtain ⟨M, off, wn, L8, b8, sk, rb, nw, fl, wt, ct, th, f, hI, hR⟩ := hI
  obtain ⟨hsk, hrb, hc5, hn0, hb8, hL8⟩ := hI.facts
  refine lv_aload_n hx hb zd_La_law_490 rfl (lv_at hl 3 rfl) ?_
  refine lv_aload_n hx hb zd_La_law_491 rfl (lv_at hl 4 rfl) ?_
  refine lv_iload hx hb zd_La_law_492 (lv_at hl 0 rfl) ?_
  refine lv_iconst (v := nI 1) hx hb zd_La_law_494 (by decide) ?_
  refine lv_iadd hx hb zd_La_law_495 ?_
  refine zw_ti (nI (5 * j + 1)) (nI_add _ _) ?_
  refine va_sld hx hb hX hbl hbA hS (vp_in_nI (n := 5 * j + 1) (by omega) (by omega)) zd_La_law_496 ?_
  refine zw_ti (xs (5 * j + 1)) (by rw [nI_clamp (by omega)]) ?_
  refine lv_aload_n hx hb zd_La_law_497 rfl (lv_at hl 1 rfl) ?_
  refine zk_S F hT hK hZ hS hl.1 (zc_La_told l G pa pw ar dk on pt rc rw _ M off wn L8 b8 sk rb nw ou f _ hfl hI (zw_D hDD (by simp only [List.map_append, List.map_cons, List.map_nil]))) zl_La_told (zY_La_told hT) zq_362 zq_363 zq_0 zd_La_law_498 rfl ⟨rfl, rfl, Nat.le_of_ble_eq_true rfl, Nat.le_of_ble_eq_true rfl, (by show _ ≤ 603072; omega), (by show _ ≤ 7215210; omega)⟩ (fun v H locs hv hS => ?_) (fun x H locs hv hS => hv.elim)
  obtain ⟨k8, f8, rfl, hv⟩ := hv
  refine zw_app ?_
  refine lv_istore hx hb zd_La_law_501 hl (by decide) rfl (fun ls hl => ?_)
  have hl : lv_has ls 8 [(5, _), (4, _), (3, _), (2, _), (1, _), (0, _)] := hl
  refine lv_aload_n hx hb zd_La_law_503 rfl (lv_at hl 3 rfl) ?_
  refine lv_aload_n hx hb zd_La_law_504 rfl (lv_at hl 5 rfl) ?_
  refine lv_iload hx hb zd_La_law_505 (lv_at hl 1 rfl) ?_
  refine lv_iconst (v := nI 1) hx hb zd_La_law_507 (by decide) ?_
  refine lv_iadd hx hb zd_La_law_508 ?_
  refine zw_ti (nI (5 * j + 1)) (nI_add _ _) ?_
  refine va_sld hx hb hX hbl hbA hS (vp_in_nI (n := 5 * j + 1) (by omega) (by omega)) zd_La_law_509 ?_
  refine zw_ti (xs (5 * j + 1)) (by rw [nI_clamp (by omega)]) ?_
  obtain ⟨hI, hv⟩ := hv
  rcases hv with ⟨hbad, rfl⟩ | ⟨u1, rfl, u3⟩
  · obtain ⟨wr9, hP, hDf, hB⟩ := zl_mo hI
    have hD := hDf A hDD
    refine zk_V F hT hK hZ hS hl.1 hP 0 rfl rfl rfl (zc_Mo_told l G mo by_ wr9 (!off) nw sk rb fl wt ct th M _ hsk hrb hP (hD _ _)) zl_Mo_told (zY_Mo_told hT) zq_463 zq_464 zq_465 zd_La_law_510 rfl ⟨rfl, rfl, Nat.le_of_ble_eq_true rfl, Nat.le_of_ble_eq_true rfl, (by show _ ≤ 603072; omega), (by show _ ≤ 7215210; omega)⟩ (fun v H locs hv hS => ?_) (fun x H locs hv hS => hv.elim)
    obtain ⟨r9, rfl, hv⟩ := hv
    rcases hv with ⟨g1, hP⟩ | ⟨g1, g3, hP⟩
    · refine zw_app ?_
      refine lv_istore hx hb zd_La_law_513 hl (by decide) rfl (fun ls hl => ?_)
      have hl : lv_has ls 8 [(6, _), (5, _), (4, _), (3, _), (2, _), (1, _), (0, _)] := hl
      refine lv_aload_n hx hb zd_La_law_515 rfl (lv_at hl 4 rfl) ?_
      refine zk_V F hT hK hZ hS hl.1 hP 0 rfl rfl rfl (zc_Mo_thrown l G mo by_ _ _ _ _ _ _ _ _ (_ :: wr9) hP) zl_Mo_thrown (zY_Mo_thrown hT) zq_415 zq_416 zq_417 zd_La_law_516 rfl ⟨rfl, rfl, Nat.le_of_ble_eq_true rfl, Nat.le_of_ble_eq_true rfl, (by show _ ≤ 603072; omega), (by show _ ≤ 7215210; omega)⟩ (fun v H locs hv hS => ?_) (fun x H locs hv hS => hv.elim)
      obtain ⟨rfl, rfl⟩ := hv
      refine zw_app ?_
      refine lv_iload hx hb zd_La_law_519 (lv_at hl 1 rfl) ?_
      refine lv_icmp_eq (tgt := 526) hx hb zd_La_law_521 rfl (fun _ => ?_) (fun hc9 => absurd hc9 (fun h => h rfl))
      have hI := hB _ _ _ hP
      refine lv_iload hx hb zd_La_law_526 (lv_at hl 1 rfl) ?_
      refine lv_if_ne (tgt := 543) hx hb zd_La_law_528 rfl (fun _ => ?_) (fun hc9 => absurd hc9 (by decide))
      refine lv_goto (tgt := 590) hx hb zd_La_law_543 rfl ?_
      refine W.widen (k := cells + 6) (n := slots + 36) (by omega) (by omega) ?_
      exact kk _ _ _ (lv_sub hl [2, 3, 4, 5, 6] rfl) ⟨M, off, wn, L8, b8, sk, rb, nw, fl, wt, ct, _, f8, hI, hR⟩ hS
    · exact absurd g1 hbad
  · obtain ⟨wr9, hP, hDf, hB⟩ := zl_mo hI
    have hD := hDf A hDD
    refine zk_V F hT hK hZ hS hl.1 hP 0 rfl rfl rfl (zc_Mo_told l G mo by_ wr9 (!off) nw sk rb fl wt ct th M _ hsk hrb hP (hD _ _)) zl_Mo_told (zY_Mo_told hT) zq_463 zq_464 zq_465 zd_La_law_510 rfl ⟨rfl, rfl, Nat.le_of_ble_eq_true rfl, Nat.le_of_ble_eq_true rfl, (by show _ ≤ 603072; omega), (by show _ ≤ 7215210; omega)⟩ (fun v H locs hv hS => ?_) (fun x H locs hv hS => hv.elim)
    obtain ⟨r9, rfl, hv⟩ := hv
    rcases hv with ⟨g1, hP⟩ | ⟨g1, g3, hP⟩
    · exact absurd u1 g1
    · refine zw_app ?_
      refine lv_istore hx hb zd_La_law_513 hl (by decide) rfl (fun ls hl => ?_)
      have hl : lv_has ls 8 [(6, _), (5, _), (4, _), (3, _), (2, _), (1, _), (0, _)] := hl
      refine lv_aload_n hx hb zd_La_law_515 rfl (lv_at hl 4 rfl) ?_
      refine zk_V F hT hK hZ hS hl.1 hP 0 rfl rfl rfl (zc_Mo_thrown l G mo by_ _ _ _ _ _ _ _ _ (_ :: wr9) hP) zl_Mo_thrown (zY_Mo_thrown hT) zq_415 zq_416 zq_417 zd_La_law_516 rfl ⟨rfl, rfl, Nat.le_of_ble_eq_true rfl, Nat.le_of_ble_eq_true rfl, (by show _ ≤ 603072; omega), (by show _ ≤ 7215210; omega)⟩ (fun v H locs hv hS => ?_) (fun x H locs hv hS => hv.elim)
      obtain ⟨rfl, rfl⟩ := hv
      refine zw_app ?_
      refine lv_iload hx hb zd_La_law_519 (lv_at hl 1 rfl) ?_
      refine lv_icmp_eq (tgt := 526) hx hb zd_La_law_521 rfl (fun _ => ?_) (fun hc9 => absurd hc9 (fun h => h rfl))
      have hI := hB _ _ _ hP
      refine lv_iload hx hb zd_La_law_526 (lv_at hl 1 rfl) ?_
      refine lv_if_ne (tgt := 543) hx hb zd_La_law_528 rfl (fun hc9 => absurd hc9 (by decide)) (fun _ => ?_)
      obtain ⟨lf9, am9, bh9, D9, Y1, Y2, Y3, Y4, hP9, -⟩ := id hI
      refine lv_aload_n hx hb zd_La_law_531 rfl (lv_at hl 3 rfl) ?_
      refine lv_iconst (v := 0) hx hb zd_La_law_532 (by decide) ?_
      refine zw_lald F hK hP9 8 rfl zd_La_law_533 ?_
      refine lv_iload hx hb zd_La_law_534 (lv_at hl 0 rfl) ?_
      refine lv_i2l hx hb zd_La_law_536 rfl ?_
      refine W.lcmp hx hb zd_La_law_537 ?_
      refine lv_if_eq (tgt := 543) hx hb zd_La_law_538 rfl (fun _ => ?_) (fun hc9 => absurd hc9 (fun h => h ((lg_cmp_eq _ _).mpr (by rw [u3, g3]))))
      refine lv_goto (tgt := 590) hx hb zd_La_law_543 rfl ?_
      refine W.widen (k := cells + 6) (n := slots + 36) (by omega) (by omega) ?_
      exact kk _ _ _ (lv_sub hl [2, 3, 4, 5, 6] rfl) ⟨M, off, wn, L8, b8, sk, rb, nw, fl, wt, ct, _, f8, hI, hR⟩ hS
set_option maxHeartbeats 4000000 in
set_option maxRecDepth 20000 in
theorem lc_8 {p : Program} {l : Launch} {e : Env} {s : State} {m : MethodId} {below : List Frame} {meth : Method} {c : Code} {H : Heap} {locs : List Loc} {cells slots : Nat} {Q : State → Prop} {G : xG} {nm : String} {hs : List (Nat × Nat × Nat × Nat)} {ls : Array Slot} {bs Ls j : Nat} {xs : Nat → Int32} {pa pw ar dk on pt rc rw mo by_ ou : Nat} {A : Nat → Prop}
    (F : xFix p s m meth c code 8 "ParityArrayLaw" nm ret hs) (hfl : l.flags = flags0) (hT : xT s) (hK : xK G s) (hZ : xZ A s s.heap) (hX : va_X bs Ls xs s s.heap) (hbl : bs < s.heap.size) (hbA : ¬ A bs) (hS : va_S A s.heap H locs) (hDD : va_D A (zA8 pa pw ar dk on pt rc rw ++ [zD ou, zD mo, zD by_])) (hj : 5 * j + 5 ≤ Ls) (hL : Ls ≤ 2560) (hl : lv_has ls 8 [(4, .int (nI (5 * j))), (3, .ref ou), (2, .ref mo), (1, .ref pa), (0, .ref bs)]) (hI : LawI G pa pw ar dk on pt rc rw mo by_ ou H) (hc1 : cells + 6 ≤ 603072) (hc2 : slots + 36 ≤ 7215210)
    (kk : ∀ (ls : Array Slot) (H : Heap) (locs : List Loc), lv_has ls 8 [(4, .int (nI (5 * j))), (3, .ref ou), (2, .ref mo), (1, .ref pa), (0, .ref bs)] → LawI G pa pw ar dk on pt rc rw mo by_ ou H → va_S A s.heap H locs → W p l e room_1 s m #[Value.ref bs] below meth c H locs (cells + 6) (slots + 36) Q (F0 m 590 ls [])) : W p l e room_1 s m #[Value.ref bs] below meth c H locs cells slots Q (F0 m 546 ls []) := by
  have hx := F.1
  have hb := F.2.1
  obtain ⟨M, off, wn, L8, b8, sk, rb, nw, fl, wt, ct, th, f, hI, hR⟩ := hI
  obtain ⟨hsk, hrb, hc5, hn0, hb8, hL8⟩ := hI.facts
  refine lv_aload_n hx hb zd_La_law_546 rfl (lv_at hl 3 rfl) ?_
  refine lv_aload_n hx hb zd_La_law_547 rfl (lv_at hl 1 rfl) ?_
  refine zk_S F hT hK hZ hS hl.1 (zc_La_check l G pa pw ar dk on pt rc rw _ M off wn L8 b8 sk rb nw ou f hfl hI (zw_D hDD (by simp only [List.map_append, List.map_cons, List.map_nil]))) zl_La_check (zY_La_check hT) zq_369 zq_370 zq_0 zd_La_law_548 rfl ⟨rfl, rfl, Nat.le_of_ble_eq_true rfl, Nat.le_of_ble_eq_true rfl, (by show _ ≤ 603072; omega), (by show _ ≤ 7215210; omega)⟩ (fun v H locs hv hS => ?_) (fun x H locs hv hS => hv.elim)
  obtain ⟨k8, f8, rfl, hv⟩ := hv
  refine zw_app ?_
  refine lv_istore hx hb zd_La_law_551 hl (by decide) rfl (fun ls hl => ?_)
  have hl : lv_has ls 8 [(5, _), (4, _), (3, _), (2, _), (1, _), (0, _)] := hl
  refine lv_aload_n hx hb zd_La_law_553 rfl (lv_at hl 3 rfl) ?_
  obtain ⟨hI, hv⟩ := hv
  rcases hv with ⟨rfl, rfl⟩ | ⟨rfl, rfl, u3⟩
  · obtain ⟨wr9, hP, hDf, hB⟩ := zl_mo hI
    have hD := hDf A hDD
    refine zk_V F hT hK hZ hS hl.1 hP 0 rfl rfl rfl (zc_Mo_check l G mo by_ wr9 (!true) nw sk rb fl wt ct th M hsk hrb hP (hD _ _)) zl_Mo_check (zY_Mo_check hT) zq_467 zq_468 zq_469 zd_La_law_554 rfl ⟨rfl, rfl, Nat.le_of_ble_eq_true rfl, Nat.le_of_ble_eq_true rfl, (by show _ ≤ 603072; omega), (by show _ ≤ 7215210; omega)⟩ (fun v H locs hv hS => ?_) (fun x H locs hv hS => hv.elim)
    obtain ⟨rfl, hP⟩ := hv
    refine zw_app ?_
    refine lv_istore hx hb zd_La_law_557 hl (by decide) rfl (fun ls hl => ?_)
    have hl : lv_has ls 8 [(6, _), (5, _), (4, _), (3, _), (2, _), (1, _), (0, _)] := hl
    refine lv_aload_n hx hb zd_La_law_559 rfl (lv_at hl 4 rfl) ?_
    refine zk_V F hT hK hZ hS hl.1 hP 0 rfl rfl rfl (zc_Mo_thrown l G mo by_ _ _ _ _ _ _ _ _ (_ :: wr9) hP) zl_Mo_thrown (zY_Mo_thrown hT) zq_415 zq_416 zq_417 zd_La_law_560 rfl ⟨rfl, rfl, Nat.le_of_ble_eq_true rfl, Nat.le_of_ble_eq_true rfl, (by show _ ≤ 603072; omega), (by show _ ≤ 7215210; omega)⟩ (fun v H locs hv hS => ?_) (fun x H locs hv hS => hv.elim)
    obtain ⟨rfl, rfl⟩ := hv
    refine zw_app ?_
    refine lv_iload hx hb zd_La_law_563 (lv_at hl 1 rfl) ?_
    refine lv_icmp_eq (tgt := 570) hx hb zd_La_law_565 rfl (fun _ => ?_) (fun hc9 => absurd hc9 (fun h => h rfl))
    have hI := hB _ _ _ hP
    refine lv_iload hx hb zd_La_law_570 (lv_at hl 1 rfl) ?_
    refine lv_if_ne (tgt := 587) hx hb zd_La_law_572 rfl (fun _ => ?_) (fun hc9 => absurd hc9 (by decide))
    refine lv_goto (tgt := 590) hx hb zd_La_law_587 rfl ?_
    refine W.widen (k := cells + 6) (n := slots + 36) (by omega) (by omega) ?_
    exact kk _ _ _ (lv_sub hl [2, 3, 4, 5, 6] rfl) ⟨M, true, wn, L8, b8, sk, rb, nw, fl, wt, ct, _, f8, hI, hR⟩ hS
  · obtain ⟨wr9, hP, hDf, hB⟩ := zl_mo hI
    have hD := hDf A hDD
    refine zk_V F hT hK hZ hS hl.1 hP 0 rfl rfl rfl (zc_Mo_check l G mo by_ wr9 (!false) nw sk rb fl wt ct th M hsk hrb hP (hD _ _)) zl_Mo_check (zY_Mo_check hT) zq_467 zq_468 zq_469 zd_La_law_554 rfl ⟨rfl, rfl, Nat.le_of_ble_eq_true rfl, Nat.le_of_ble_eq_true rfl, (by show _ ≤ 603072; omega), (by show _ ≤ 7215210; omega)⟩ (fun v H locs hv hS => ?_) (fun x H locs hv hS => hv.elim)
    obtain ⟨rfl, hP⟩ := hv
    refine zw_app ?_
    refine lv_istore hx hb zd_La_law_557 hl (by decide) rfl (fun ls hl => ?_)
    have hl : lv_has ls 8 [(6, _), (5, _), (4, _), (3, _), (2, _), (1, _), (0, _)] := hl
    refine lv_aload_n hx hb zd_La_law_559 rfl (lv_at hl 4 rfl) ?_
    refine zk_V F hT hK hZ hS hl.1 hP 0 rfl rfl rfl (zc_Mo_thrown l G mo by_ _ _ _ _ _ _ _ _ (_ :: wr9) hP) zl_Mo_thrown (zY_Mo_thrown hT) zq_415 zq_416 zq_417 zd_La_law_560 rfl ⟨rfl, rfl, Nat.le_of_ble_eq_true rfl, Nat.le_of_ble_eq_true rfl, (by show _ ≤ 603072; omega), (by show _ ≤ 7215210; omega)⟩ (fun v H locs hv hS => ?_) (fun x H locs hv hS => hv.elim)
    obtain ⟨rfl, rfl⟩ := hv
    refine zw_app ?_
    refine lv_iload hx hb zd_La_law_563 (lv_at hl 1 rfl) ?_
    refine lv_icmp_eq (tgt := 570) hx hb zd_La_law_565 rfl (fun _ => ?_) (fun hc9 => absurd hc9 (fun h => h rfl))
    have hI := hB _ _ _ hP
    refine lv_iload hx hb zd_La_law_570 (lv_at hl 1 rfl) ?_
    refine lv_if_ne (tgt := 587) hx hb zd_La_law_572 rfl (fun hc9 => absurd hc9 (by decide)) (fun _ => ?_)
    obtain ⟨lf9, am9, bh9, D9, Y1, Y2, Y3, Y4, hP9, -⟩ := id hI
    refine lv_aload_n hx hb zd_La_law_575 rfl (lv_at hl 3 rfl) ?_
    refine lv_iconst (v := 0) hx hb zd_La_law_576 (by decide) ?_
    refine zw_lald F hK hP9 8 rfl zd_La_law_577 ?_
    refine lv_iload hx hb zd_La_law_578 (lv_at hl 0 rfl) ?_
    refine lv_i2l hx hb zd_La_law_580 rfl ?_
    refine W.lcmp hx hb zd_La_law_581 ?_
    refine lv_if_eq (tgt := 587) hx hb zd_La_law_582 rfl (fun _ => ?_) (fun hc9 => absurd hc9 (fun h => h ((lg_cmp_eq _ _).mpr (u3))))
    refine lv_goto (tgt := 590) hx hb zd_La_law_587 rfl ?_
    refine W.widen (k := cells + 6) (n := slots + 36) (by omega) (by omega) ?_
    exact kk _ _ _ (lv_sub hl [2, 3, 4, 5, 6] rfl) ⟨M, false, wn, L8, b8, sk, rb, nw, fl, wt, ct, _, f8, hI, hR⟩ hS
end
section
/-! the law: the start, the loop, the end -/
theorem lw_sw (x : Int32) : x = 0 ∨ x = 1 ∨ x = 2 ∨ x = 3 ∨ x = 4 ∨ x = 5 ∨ x = 6 ∨ x = 7 ∨ x = 8 ∨ (x.toInt < 0 ∨ 8 < x.toInt) := by
  by_cases h : x.toInt < 0 ∨ 8 < x.toInt
  · simp [h]
  · have hx : x = Int32.ofInt x.toInt := (Int32.ofInt_toInt x).symm
    generalize x.toInt = z at h hx
    subst hx
    rcases (show z = 0 ∨ z = 1 ∨ z = 2 ∨ z = 3 ∨ z = 4 ∨ z = 5 ∨ z = 6 ∨ z = 7 ∨ z = 8 by omega) with rfl | rfl | rfl | rfl | rfl | rfl | rfl | rfl | rfl <;> decide
theorem lw_gt {L j : Nat} (hL : L ≤ 2560) (hj : 5 * j ≤ L) : nI L - nI 5 < nI (5 * j) ↔ L < 5 * j + 5 := by
  by_cases h5 : 5 ≤ L
  · rw [show nI L - nI 5 = nI (L - 5) from (Int32.ofNat_sub L 5 h5).symm, nI_ltI (by omega) (by omega)]
    omega
  · have hj0 : j = 0 := by omega
    subst hj0
    rcases (show L = 0 ∨ L = 1 ∨ L = 2 ∨ L = 3 ∨ L = 4 by omega) with rfl | rfl | rfl | rfl | rfl <;> decide
set_option maxHeartbeats 4000000 in
set_option maxRecDepth 20000 in
theorem lw_loop {p : Program} {l : Launch} {e : Env} {s : State} {m : MethodId} {below : List Frame} {meth : Method} {c : Code} {G : xG} {nm : String} {hs : List (Nat × Nat × Nat × Nat)} {bs Ls : Nat} {xs : Nat → Int32} {pa pw ar dk on pt rc rw mo by_ ou : Nat}
    (F : xFix p s m meth c code 8 "ParityArrayLaw" nm ret hs) (hfl : l.flags = flags0) (hT : xT s) (hK : xK G s) (hZ : xZ (fun q => s.heap.size ≤ q) s s.heap) (hX : va_X bs Ls xs s s.heap) (hbl : bs < s.heap.size) (hDD : va_D (fun q => s.heap.size ≤ q) (zA8 pa pw ar dk on pt rc rw ++ [zD ou, zD mo, zD by_])) (hL : Ls ≤ 2560) :
    ∀ (q j : Nat), q + j = Ls / 5 → ∀ (ls : Array Slot) (H : Heap) (locs : List Loc), lv_has ls 8 [(4, .int (nI (5 * j))), (3, .ref ou), (2, .ref mo), (1, .ref pa), (0, .ref bs)] → LawI G pa pw ar dk on pt rc rw mo by_ ou H → va_S (fun q => s.heap.size ≤ q) s.heap H locs → W p l e room_1 s m #[Value.ref bs] below meth c H locs (11 + 6 * j) (174028 + 36 * j) (lw_Z below #[Value.ref bs] s) (F0 m 23 ls []) := by
  have hx := F.1
  have hb := F.2.1
  have hbA : ¬ s.heap.size ≤ bs := by omega
  intro q
  induction q with
  | zero =>
    intro j hj ls H locs hl hI hS
    refine lv_iload hx hb zd_La_law_23 (lv_at hl 0 rfl) ?_
    refine lv_aload_n hx hb zd_La_law_25 rfl (lv_at hl 4 rfl) ?_
    refine va_slen hx hb hX hbl hbA hS zd_La_law_26 ?_
    refine lv_iconst (v := nI 5) hx hb zd_La_law_27 (by decide) ?_
    refine lv_isub hx hb zd_La_law_28 ?_
    refine lv_icmp_gt (tgt := 596) hx hb zd_La_law_29 rfl (fun _ => ?_) (fun hc9 => absurd hc9 (fun h => h ((lw_gt hL (by omega)).mpr (by omega))))
    refine lv_iconst (v := 1) hx hb zd_La_law_596 (by decide) ?_
    refine va_forget hS.2.2 ?_
    refine W.widen (k := 603072) (n := 7215210) (by omega) (by omega) ?_
    exact lw_ret hx hb F.2.2.1 F.2.2.2.2.2.1 zd_La_law_597
  | succ q ih =>
    intro j hj ls H locs hl hI hS
    have kk : ∀ (ls : Array Slot) (H : Heap) (locs : List Loc), lv_has ls 8 [(4, .int (nI (5 * j))), (3, .ref ou), (2, .ref mo), (1, .ref pa), (0, .ref bs)] → LawI G pa pw ar dk on pt rc rw mo by_ ou H → va_S (fun q => s.heap.size ≤ q) s.heap H locs → W p l e room_1 s m #[Value.ref bs] below meth c H locs (11 + 6 * j + 6) (174028 + 36 * j + 36) (lw_Z below #[Value.ref bs] s) (F0 m 590 ls []) := by
      intro ls H locs hl hI hS
      refine lv_iinc (k := 0) hx hb zd_La_law_590 hl rfl (show nI (5 * j) + Int32.ofInt 5 = nI (5 * (j + 1)) from nI_add (5 * j) 5) (by decide) rfl (fun ls hl => ?_)
      refine lv_goto (tgt := 23) hx hb zd_La_law_593 rfl ?_
      exact ih (j + 1) (by omega) ls H locs hl hI hS
    refine lv_iload hx hb zd_La_law_23 (lv_at hl 0 rfl) ?_
    refine lv_aload_n hx hb zd_La_law_25 rfl (lv_at hl 4 rfl) ?_
    refine va_slen hx hb hX hbl hbA hS zd_La_law_26 ?_
    refine lv_iconst (v := nI 5) hx hb zd_La_law_27 (by decide) ?_
    refine lv_isub hx hb zd_La_law_28 ?_
    refine lv_icmp_gt (tgt := 596) hx hb zd_La_law_29 rfl (fun hc9 => absurd hc9 (fun h => absurd ((lw_gt hL (by omega)).mp h) (by omega))) (fun _ => ?_)
    refine lv_aload_n hx hb zd_La_law_32 rfl (lv_at hl 4 rfl) ?_
    refine lv_iload hx hb zd_La_law_33 (lv_at hl 0 rfl) ?_
    refine va_sld hx hb hX hbl hbA hS (vp_in_nI (n := 5 * j) (by omega) (by omega)) zd_La_law_35 ?_
    refine lv_bipush (v := nI 15) hx hb zd_La_law_36 (by decide) ?_
    refine lv_iand hx hb zd_La_law_38 ?_
    generalize xs (nI (5 * j)).toNatClampNeg &&& nI 15 = x9
    rcases lw_sw x9 with rfl | rfl | rfl | rfl | rfl | rfl | rfl | rfl | rfl | h9
    · exact lv_tableIn (off := 49) (tgt := 88) hx hb zd_La_law_39 (by decide) (by decide) (by decide) rfl (lc_0 F hfl hT hK hZ hX hbl hbA hS hDD (by omega) hL hl hI (by omega) (by omega) kk)
    · exact lv_tableIn (off := 160) (tgt := 199) hx hb zd_La_law_39 (by decide) (by decide) (by decide) rfl (lc_1 F hfl hT hK hZ hX hbl hbA hS hDD (by omega) hL hl hI (by omega) (by omega) kk)
    · exact lv_tableIn (off := 227) (tgt := 266) hx hb zd_La_law_39 (by decide) (by decide) (by decide) rfl (lc_2 F hfl hT hK hZ hX hbl hbA hS hDD (by omega) hL hl hI (by omega) (by omega) kk)
    · exact lv_tableIn (off := 263) (tgt := 302) hx hb zd_La_law_39 (by decide) (by decide) (by decide) rfl (lc_3 F hfl hT hK hZ hX hbl hbA hS hDD (by omega) hL hl hI (by omega) (by omega) kk)
    · exact lv_tableIn (off := 307) (tgt := 346) hx hb zd_La_law_39 (by decide) (by decide) (by decide) rfl (lc_4 F hfl hT hK hZ hX hbl hbA hS hDD (by omega) hL hl hI (by omega) (by omega) kk)
    · exact lv_tableIn (off := 351) (tgt := 390) hx hb zd_La_law_39 (by decide) (by decide) (by decide) rfl (lc_5 F hfl hT hK hZ hX hbl hbA hS hDD (by omega) hL hl hI (by omega) (by omega) kk)
    · exact lv_tableIn (off := 427) (tgt := 466) hx hb zd_La_law_39 (by decide) (by decide) (by decide) rfl (lc_6 F hfl hT hK hZ hX hbl hbA hS hDD (by omega) hL hl hI (by omega) (by omega) kk)
    · exact lv_tableIn (off := 451) (tgt := 490) hx hb zd_La_law_39 (by decide) (by decide) (by decide) rfl (lc_7 F hfl hT hK hZ hX hbl hbA hS hDD (by omega) hL hl hI (by omega) (by omega) kk)
    · exact lv_tableIn (off := 507) (tgt := 546) hx hb zd_La_law_39 (by decide) (by decide) (by decide) rfl (lc_8 F hfl hT hK hZ hX hbl hbA hS hDD (by omega) hL hl hI (by omega) (by omega) kk)
    · exact lv_tableOut (tgt := 590) hx hb zd_La_law_39 h9 rfl (W.widen (by omega) (by omega) (kk ls H locs hl hI hS))
set_option maxHeartbeats 4000000 in
set_option maxRecDepth 20000 in
theorem whole_start {p : Program} {e : Env} {s : State} {m : MethodId} {below : List Frame} {meth : Method} {c : Code} (l : Launch) (hfl : l.flags = flags0) {b L : Nat} {xs : Nat → Int32} (hL : L ≤ 2560) (C0 : lw_At p s m meth c b L xs) : W p l e room_1 s m #[Value.ref b] below meth c s.heap [] 0 0 (lw_Z below #[Value.ref b] s) (entryFrame m ([Value.ref b] : List Value).toArray 8) := by
  obtain ⟨hx, hb, hr, hml, hown, hts, hX, hbl, hlk, hg⟩ := C0
  have hT : xT s := lw_xT hts
  obtain ⟨G, hK⟩ := lw_xK hT hg
  have hZ := lw_xZ hts hg
  have F : xFix p s m meth c code 8 "ParityArrayLaw" meth.name ret (c.exceptionTable.toList.map (fun h => (h.startPc, h.endPc, h.handlerPc, h.catchType))) := ⟨hx, hb, hr, hml, hown, hlk, rfl, rfl⟩
  have hS : va_S (fun q => s.heap.size ≤ q) s.heap s.heap [] := va_S.rf
  have hA : ∀ q, s.heap.size ≤ q → (fun q => s.heap.size ≤ q) q := fun q h => h
  have hP : va_P G.1 zcl [] s.heap := fun k q h => by cases h
  have hD : va_D (fun q => s.heap.size ≤ q) [] := ⟨fun i j p q h => (by cases h), fun k q h => (by cases h)⟩
  have hl := lv_entry ([.ref b]) (n := 8) (Nat.le_of_ble_eq_true rfl)
  rw [lg_entry_eq]
  generalize (lg_sl ([.ref b]) ++ List.replicate (8 - (lg_sl ([.ref b])).length) Slot.unset).toArray = ls at hl ⊢
  have hl : lv_has ls 8 [(0, .ref b)] := hl
  refine zN_PA F hT hK hP hD hS hA zq_15 zq_16 zq_1 (fs := [.null, .null, .null, .int 0]) (fun j hj => by match j, hj with | 0, _ => rfl | 1, _ => rfl | 2, _ => rfl | 3, _ => rfl) (Nat.le_of_ble_eq_true rfl) (Nat.le_of_ble_eq_true rfl) zd_La_law_0 (fun pa H hP hD hS => ?_)
  have hP : va_P G.1 zcl [(_, .inr (0, [_, _, _, _]))] H := hP
  have hD : va_D (fun q => s.heap.size ≤ q) [(_, .inr (0, [_, _, _, _]))] := hD
  refine lv_dup hx hb zd_La_law_3 rfl ?_
  refine zk_I F hT hK hZ hS hl.1 (zc_PA_init l G pa (fun q hq => Nat.le_trans hS.1 hq) hP hD) zl_PA_init rfl zq_19 zq_17 zq_18 zd_La_law_4 rfl ⟨rfl, rfl, Nat.le_of_ble_eq_true rfl, Nat.le_of_ble_eq_true rfl, Nat.le_of_ble_eq_true rfl, Nat.le_of_ble_eq_true rfl⟩ (fun v H locs hv hS => ?_) (fun x H locs hv hS => hv.elim)
  obtain ⟨rfl, pw, ar, dk, on, pt, rc, rw, hP, hD⟩ := hv
  refine zw_app0 ?_
  have hP : va_P G.1 zcl [(_, .inr (0, [_, _, _, _])), (_, .inr (1, [_, _, _, _, _])), (_, .inr (2, [_, _, _, _, _, _, _, _, _])), (_, _), (_, _), (_, _), (_, _), (_, _)] H := hP
  have hD : va_D (fun q => s.heap.size ≤ q) [(_, .inr (0, [_, _, _, _])), (_, .inr (1, [_, _, _, _, _])), (_, .inr (2, [_, _, _, _, _, _, _, _, _])), (_, _), (_, _), (_, _), (_, _), (_, _)] := hD
  refine lv_astore_n hx hb zd_La_law_7 rfl hl (by decide) rfl (fun ls hl => ?_)
  have hl : lv_has ls 8 [(1, _), (0, _)] := hl
  refine zN_Mo F hT hK hP hD hS hA zq_380 zq_381 zq_4 (fs := [.null, .int 0, .int 0, .int 0, .int 0, .int 0, .int 0, .int 0, .int 0]) (fun j hj => by match j, hj with | 0, _ => rfl | 1, _ => rfl | 2, _ => rfl | 3, _ => rfl | 4, _ => rfl | 5, _ => rfl | 6, _ => rfl | 7, _ => rfl | 8, _ => rfl) (Nat.le_of_ble_eq_true rfl) (Nat.le_of_ble_eq_true rfl) zd_La_law_8 (fun mo H hP hD hS => ?_)
  have hP : va_P G.1 zcl [(_, .inr (0, [_, _, _, _])), (_, .inr (1, [_, _, _, _, _])), (_, .inr (2, [_, _, _, _, _, _, _, _, _])), (_, _), (_, _), (_, _), (_, _), (_, _), (_, .inr (3, [_, _, _, _, _, _, _, _, _]))] H := hP
  have hD : va_D (fun q => s.heap.size ≤ q) [(_, .inr (0, [_, _, _, _])), (_, .inr (1, [_, _, _, _, _])), (_, .inr (2, [_, _, _, _, _, _, _, _, _])), (_, _), (_, _), (_, _), (_, _), (_, _), (_, .inr (3, [_, _, _, _, _, _, _, _, _]))] := hD
  refine lv_dup hx hb zd_La_law_11 rfl ?_
  refine zk_I F hT hK hZ hS hl.1 (zc_Mo_init l G _ _ _ _ _ _ _ _ mo (fun q hq => Nat.le_trans hS.1 hq) hP hD) zl_Mo_init rfl zq_384 zq_382 zq_383 zd_La_law_12 rfl ⟨rfl, rfl, Nat.le_of_ble_eq_true rfl, Nat.le_of_ble_eq_true rfl, Nat.le_of_ble_eq_true rfl, Nat.le_of_ble_eq_true rfl⟩ (fun v H locs hv hS => ?_) (fun x H locs hv hS => hv.elim)
  obtain ⟨rfl, by_, hP, hD⟩ := hv
  refine zw_app0 ?_
  have hP : va_P G.1 zcl [(_, .inr (0, [_, _, _, _])), (_, .inr (1, [_, _, _, _, _])), (_, .inr (2, [_, _, _, _, _, _, _, _, _])), (_, _), (_, _), (_, _), (_, _), (_, _), (_, .inr (3, [_, _, _, _, _, _, _, _, _])), (_, _)] H := hP
  have hD : va_D (fun q => s.heap.size ≤ q) [(_, .inr (0, [_, _, _, _])), (_, .inr (1, [_, _, _, _, _])), (_, .inr (2, [_, _, _, _, _, _, _, _, _])), (_, _), (_, _), (_, _), (_, _), (_, _), (_, .inr (3, [_, _, _, _, _, _, _, _, _])), (_, _)] := hD
  refine lv_astore_n hx hb zd_La_law_15 rfl hl (by decide) rfl (fun ls hl => ?_)
  have hl : lv_has ls 8 [(2, _), (1, _), (0, _)] := hl
  refine lv_iconst (v := 1) hx hb zd_La_law_16 (by decide) ?_
  refine zN_J F hT hK hP hD hS hA (Nat.le_of_ble_eq_true rfl) (Nat.le_of_ble_eq_true rfl) zd_La_law_17 (fun ou H hP hD hS => ?_)
  refine lv_astore_n hx hb zd_La_law_19 rfl hl (by decide) rfl (fun ls hl => ?_)
  have hl : lv_has ls 8 [(3, _), (2, _), (1, _), (0, _)] := hl
  refine lv_iconst (v := nI (5 * 0)) hx hb zd_La_law_20 (by decide) ?_
  refine lv_istore hx hb zd_La_law_21 hl (by decide) rfl (fun ls hl => ?_)
  have hl : lv_has ls 8 [(4, _), (3, _), (2, _), (1, _), (0, _)] := hl
  have hP : va_P G.1 zcl (zS8 G pa pw ar dk on pt rc rw false 4 0 0 false false 5 0 false (fun _ => 0) (fun _ => 0) (fun _ => 0) (fun _ => 0) (fun _ => 0) ++ [(ou, eJ G (fun _ => 0)), (mo, eMo by_ (!false) (sI 5) false (nI 0) 0 0 0 0), (by_, eB G 76800 (fun _ => 0))]) H := hP.sub [0, 1, 2, 3, 4, 5, 6, 7, 10, 8, 9] rfl
  have hD : va_D (fun q => s.heap.size ≤ q) (zS8 G pa pw ar dk on pt rc rw false 4 0 0 false false 5 0 false (fun _ => 0) (fun _ => 0) (fun _ => 0) (fun _ => 0) (fun _ => 0) ++ [(ou, eJ G (fun _ => 0)), (mo, eMo by_ (!false) (sI 5) false (nI 0) 0 0 0 0), (by_, eB G 76800 (fun _ => 0))]) := hD.sub [0, 1, 2, 3, 4, 5, 6, 7, 10, 8, 9] (by decide) rfl
  have hDD : va_D (fun q => s.heap.size ≤ q) (zA8 pa pw ar dk on pt rc rw ++ [zD ou, zD mo, zD by_]) := zw_D hD (by simp only [List.map_append, List.map_cons, List.map_nil])
  refine lw_loop F hfl hT hK hZ hX hbl hDD hL (L / 5) 0 (by omega) ls H _ (lv_sub hl [0, 1, 2, 3, 4] rfl) ⟨(fun _ => 0), false, 4, 0, 0, 5, 0, false, 0, 0, 0, 0, (fun _ => 0), ⟨0, false, false, (fun _ => 0), (fun _ => 0), (fun _ => 0), (fun _ => 0), (fun _ => 0), hP, p_start.1, p_start.2.2, fun _ => p_start.2.1, p_start.2.1.off, Or.inr (Or.inr rfl), by decide, fun h => absurd h (by decide), trivial⟩, Or.inl ⟨rfl, rfl⟩⟩ hS
end
section
/-! the claim out of the walk: the given skeleton, with the flags of the launch threaded through -/
set_option maxHeartbeats 4000000 in
theorem lw_walk (l : Launch) (hfl : l.flags = flags0) (b : Addr) (xs : List Int32) : MetFree l x (headSpec (Jvm.Cond.code x code maxLocals ret :: tables_1) room_1) (lw_P b xs) (fun _ _ _ _ _ => True) lw_Q := by
  refine MetFree.of_bodyS (code := code) (maxLocals := maxLocals) (ret := ret) (by decide) ?_ ?_
  · intro args s m h hn
    obtain ⟨meth, c, h1, h2, h3, h4, h5, h6, -, -⟩ := Cond.code_spec hn (atoms_spec (ws := Jvm.Cond.code x code maxLocals ret :: tables_1) h _ List.mem_cons_self)
    exact ⟨meth, c, h1, h2, h3, h4, h5, h6⟩
  · intro p e s m args below meth c s₁ B hml0 hP _
    obtain ⟨rfl, hx, hbd, hgv⟩ := hP
    obtain ⟨scr, harrAt, hlist, hof, hsmall⟩ := hx
    obtain ⟨hcb, hkn, -, -⟩ := State.arrayAt?_spec harrAt
    have hown : s.vm.findClass R_law = some m.cls := findClass_of_methodNamed B.named
    have hts0 : ∀ c ∈ (Jvm.Cond.code x code maxLocals ret :: tables_1), c.before #[Value.ref b] s = true := atoms_spec (ws := Jvm.Cond.code x code maxLocals ret :: tables_1) B.pre
    have hts : ∀ w ∈ lw_tbl, w.before #[Value.ref b] s = true := k2_hts_sels lw_privs (fun w hw => hts0 w (List.mem_cons_of_mem _ hw)) lw_privs_ok
    have hml : c.maxLocals = 8 := B.maxLocals_eq (hts0 _ List.mem_cons_self)
    have X₀ : Stand p l e room_1 s m #[Value.ref b] below meth c s₁ [] 0 0 := Stand.of_body B
    have hh0 : s₁.heap = s.heap := by rw [B.state]; rfl
    have hsz : scr.slots.size = xs.length := by rw [← Array.length_toList, hlist, List.length_map]
    have hval : ∀ j : Nat, j < xs.length → scr.slots[j]? = some (.int (xs.getD j 0)) := fun j hj => by
      rw [← Array.getElem?_toList, hlist]
      simp [hj]
    have hbl : b < s.heap.size := (Array.getElem?_eq_some_iff.mp hcb).1
    have hX : va_X b xs.length (fun j => xs.getD j 0) s s.heap := ⟨scr, hcb, hof, hkn, hsz, hval⟩
    have K : W p l e room_1 s m #[Value.ref b] below meth c s₁.heap [] 0 0 (lw_Z below #[Value.ref b] s) (entryFrame m ([Value.ref b] : List Value).toArray 8) := by
      rw [hh0]
      exact whole_start l hfl hbd ⟨B.exec, B.bytes, B.returns, hml, hown, hts, hX, hbl, B.notSynchronized, hgv⟩
    obtain ⟨t, a1, o, b1, b2, b3⟩ := K s₁ rfl X₀
    exact ⟨t, o, a1, b1, b2, b3⟩
theorem lw_pre_spec {args : Array Value} {s : State} (h : (Jvm.Cond.and given_1 narrow_1).before args s = true) (hr : rest_1_c.before args s = true) : ∃ (b : Addr) (xs : List Int32), lw_P b xs args s := by
  have hs := flat_of_before _ h
  have hq := flat_of_before _ hr
  have hc : (Cond.count 1).before args s = true := hs _ (by decide +kernel)
  have harr : (Cond.arrayOf (.arg 0) .int).before args s = true := hs _ (by decide +kernel)
  have hle : (Cond.le (.length (.arg 0)) (.int 2560)).before args s = true := hs _ (by decide +kernel)
  have hlen : (Cond.isInt (.length (.arg 0))).before args s = true := hq _ (by decide +kernel)
  have hall : (Cond.all (.arg 0) (.isInt (.elem (.arg 0) (.index 0)))).before args s = true := hq _ (by decide +kernel)
  obtain ⟨b, xs, hb, hx⟩ := State.ints_of_pre rfl harr hlen hall
  have hsm : xs.length < 2 ^ 31 := hx.choose_spec.2.2.2
  have hev : (Term.length (.arg 0)).eval args s none [] s = some (.int xs.length.toInt32) := hx.length_eval hb
  have hv := Cond.le_ints hev (show (Term.int 2560).eval args s none [] s = some (.int 2560) from rfl)
  have hd : xs.length.toInt32 ≤ 2560 := by
    simpa [Cond.before, Cond.holds, hv] using hle
  have hN : xs.length ≤ 2560 := (Int32.ofNat_le_ofNat hsm (by decide)).mp (show Int32.ofNat xs.length ≤ Int32.ofNat 2560 from hd)
  exact ⟨b, xs, Cond.one_arg hc (show args[0]? = some (.ref b) from hb), hx, hN, h⟩
theorem lw_comes (l : Launch) (hfl : l.flags = flags0) : Comes l x (Jvm.Cond.code x code maxLocals ret :: tables_1) room_1 (fun tb e args s => Calls_1 tb e args s ∧ rest_1 tb e args s ∧ Pre_1 tb e args s)
    (fun _ _ args s o t => lw_Q args s o t) := by
  intro p e ha hc hk s m args below hf hfit hheap happ hpre
  obtain ⟨b, xs, hP⟩ := lw_pre_spec hpre.2.2 hpre.2.1
  obtain ⟨k, o, h1, h2, h3, hQ⟩ := lw_walk l hfl b xs p e ha hc hk s m args below hf ((Spec.applies_iff_loose hf).mp happ).1 hP trivial
  exact ⟨k, o, h1, h2, h3, hQ⟩
theorem lw_frame {s t : State} {o : Outcome} {args : Array Value} (h : Framed s o t [] 603072 7215210) :
    Framed s o t (fieldLocs frame_1_writes args s ++ arrayLocs frame_1_arrays args s ++ staticLocs frame_1_statics s) 603072 7215210 := h
theorem lw_limb (L : Cond) (hL : ∀ (args : Array Value) (s t : State), L.after args s (.returned (some (.int 1))) t = true) :
    ArmFor flags0 classFile x code maxLocals ret World_1 tables_1 room_1 Calls_1 rest_1 Pre_1
      (fun tb e a s o t => postC L tb e a s o t ∧ Framed s o t (fieldLocs frame_1_writes a s ++ arrayLocs frame_1_arrays a s ++ staticLocs frame_1_statics s) 603072 7215210) := by
  intro l hfl _ _ p e ha hc hk s m args below hf hfit hheap happ hpre
  obtain ⟨k, o, h1, h2, h3, rfl, hF⟩ := lw_comes l hfl p e ha hc hk s m args below hf hfit hheap happ hpre
  exact ⟨k, _, h1, h2, h3, hL args s _, lw_frame hF⟩
theorem i_vc : Claimed_1_1 ∧ Claimed_1_2 := ⟨lw_limb limb_1_1 (fun args s t => by simp [limb_1_1, Cond.after, Cond.holds, Cond.value]), lw_limb limb_1_2 (fun args s t => Cond.after_iff.mpr (by
  first | (rw [show limb_1_2 = Cond.eq .result (.int 1) from rfl, Cond.eq_ints (x := 1) (y := 1) rfl rfl]; simp; done) | (simp [limb_1_2, Cond.value, Term.eval]; done)))⟩
end
