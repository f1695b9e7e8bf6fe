section
-- ===== PART A: goes FIRST, ahead of the names: the tables' words, and 'selects' of the private methods out of them =====
/-- a private method of a class that the tables say can be made, by its rows of tables_1 -/
def lw_okq (q : MethodName × Nat) : Prop := (q.1.cls ≠ "java/lang/invoke/MethodHandle" ∧ q.1.cls ≠ "java/lang/invoke/VarHandle") ∧ Cond.instantiable q.1.cls q.2 ∈ tables_1 ∧ Cond.privateMethod q.1 ∈ tables_1 ∧ Cond.instanceMethod q.1 ∈ tables_1
theorem lw_p0 : lw_okq (⟨"CheckedText", "add", "(I)V"⟩, 9) := ⟨⟨by decide +kernel, by decide +kernel⟩, List.mem_of_getElem? (i := 5) (by decide +kernel), List.mem_of_getElem? (i := 60) (by decide +kernel), List.mem_of_getElem? (i := 61) (by decide +kernel)⟩
theorem lw_p1 : lw_okq (⟨"CheckedText", "sum", "()I"⟩, 9) := ⟨⟨by decide +kernel, by decide +kernel⟩, List.mem_of_getElem? (i := 5) (by decide +kernel), List.mem_of_getElem? (i := 72) (by decide +kernel), List.mem_of_getElem? (i := 73) (by decide +kernel)⟩
theorem lw_p2 : lw_okq (⟨"CheckedText", "headed", "()I"⟩, 9) := ⟨⟨by decide +kernel, by decide +kernel⟩, List.mem_of_getElem? (i := 5) (by decide +kernel), List.mem_of_getElem? (i := 76) (by decide +kernel), List.mem_of_getElem? (i := 77) (by decide +kernel)⟩
theorem lw_p3 : lw_okq (⟨"CheckedText", "on", "(II)I"⟩, 9) := ⟨⟨by decide +kernel, by decide +kernel⟩, List.mem_of_getElem? (i := 5) (by decide +kernel), List.mem_of_getElem? (i := 80) (by decide +kernel), List.mem_of_getElem? (i := 81) (by decide +kernel)⟩
theorem lw_p4 : lw_okq (⟨"CheckedTextModel", "run", "(I)I"⟩, 6) := ⟨⟨by decide +kernel, by decide +kernel⟩, List.mem_of_getElem? (i := 121) (by decide +kernel), List.mem_of_getElem? (i := 163) (by decide +kernel), List.mem_of_getElem? (i := 164) (by decide +kernel)⟩
def lw_privs_1 : List (MethodName × Nat) := [(⟨"CheckedText", "add", "(I)V"⟩, 9), (⟨"CheckedText", "sum", "()I"⟩, 9), (⟨"CheckedText", "headed", "()I"⟩, 9), (⟨"CheckedText", "on", "(II)I"⟩, 9), (⟨"CheckedTextModel", "run", "(I)I"⟩, 6)]
theorem lw_r1 : ∀ q ∈ lw_privs_1, lw_okq q := List.forall_mem_cons.mpr ⟨lw_p0, List.forall_mem_cons.mpr ⟨lw_p1, List.forall_mem_cons.mpr ⟨lw_p2, List.forall_mem_cons.mpr ⟨lw_p3, List.forall_mem_cons.mpr ⟨lw_p4, fun _ h => absurd h List.not_mem_nil⟩⟩⟩⟩⟩
def lw_privs : List (MethodName × Nat) := lw_privs_1
def lw_tbl : List Cond := k2_sels lw_privs ++ tables_1
theorem lw_privs_ok : ∀ q ∈ lw_privs, lw_okq q := lw_r1
def R_law : String := "CheckedTextLaw"
def lw_P (b : Addr) (xs : List Int32) (args : Array Value) (s : State) : Prop := args = #[.ref b] ∧ s.IntsAt b xs ∧ xs.length ≤ 2560 ∧ (Jvm.Cond.and given_1 narrow_1).before args s = true
def lw_Q (_ : Array Value) (s : State) (o : Outcome) (t : State) : Prop := o = .returned (some (.int 1)) ∧ Framed s o t [] 10 336
def lw_Z (below : List Frame) (a : Array Value) (s : State) : State → Prop := fun t => ∃ o, t.status = .running ∧ Ended t below o ∧ lw_Q a s o t
/-- the law's own end, with 1 on the stack, nothing written that was there before, its room as the claim has it -/
theorem lw_ret {p : Program} {l : Launch} {e : Env} {s : State} {m : MethodId} {below : List Frame} {meth : Method} {c : Code} {b : Nat} (hx : p.tables.exec = Jvm.exec) (hb : c.code = code) (hr : meth.sig.returnType = ret) (hlocks : meth.locks = false) {pc : Nat} {H : Heap} {ls : Array Slot} (hdg : decode code pc = .ok (.ireturn, 1)) : W p l e room_1 s m #[Value.ref b] below meth c H [] 10 336 (lw_Z below #[Value.ref b] s) (F0 m pc ls [.int 1]) := by
  intro T hT X
  obtain ⟨fs, hret, hrun, hended, hW, hframe⟩ := X.leave (v := some (.int 1)) (hlocks := hlocks) (fun h => by rw [hr] at h; cases h)
  have hmeth' : T.vm.method? m = some meth := X.method'
  refine ⟨T.setFrames fs, ?_, .returned (some (.int 1)), hrun, hended, rfl, ⟨_, rfl⟩, hW, hframe⟩
  jvm_step X.here [X.here.top, hx, hb, hdg, hmeth', hr, ret, narrow_b1]
  (try refine ⟨rfl, ?_⟩); (try refine ⟨rfl, ?_⟩)
  first | (intro acts; rw [hret _ acts rfl rfl rfl]) | rw [hret _ _ rfl rfl rfl]
  exact Steps.refl _
/-- what holds at the law's entry: the machine, the code, the tables' words (any of lw_tbl by 'hts w (by decide +kernel)'), the script of L ints xs at the cell b, what the Statement gives of the start (any of its parts by flat_of_before) -/
def lw_At (p : Program) (s : State) (m : MethodId) (meth : Method) (c : Code) (b L : Nat) (xs : Nat → Int32) : Prop :=
  p.tables.exec = Jvm.exec ∧ c.code = code ∧ meth.sig.returnType = ret ∧ c.maxLocals = 4 ∧ s.vm.findClass R_law = some m.cls ∧ (∀ w ∈ lw_tbl, w.before #[Value.ref b] s = true) ∧ va_X b L xs s s.heap ∧ b < s.heap.size ∧ meth.locks = false ∧ (Jvm.Cond.and given_1 narrow_1).before #[Value.ref b] s = true
-- the words that a callee can be given
def ct_tb : List Cond := lw_tbl.filter (fun w => k2_isCode w || goodWord w)
-- names
def R_X : String := "CheckedText"
def R_M : String := "CheckedTextModel"
def fn_X : Nat → String := fun k => match k with
  | 0 => "table"
  | 1 => "head"
  | 2 => "data"
  | 3 => "bytes"
  | 4 => "signs"
  | 5 => "many"
  | 6 => "octets"
  | 7 => "sums"
  | _ => "known"
def fd_X : Nat → String := fun k => match k with
  | 0 => "[I"
  | 1 => "[B"
  | 2 => "[B"
  | 3 => "[B"
  | 4 => "I"
  | 5 => "I"
  | 6 => "I"
  | 7 => "[I"
  | _ => "I"
def ff_X : Nat → Bool := fun k => match k with
  | 0 => true
  | 1 => true
  | 2 => true
  | 3 => true
  | 4 => false
  | 5 => false
  | 6 => false
  | 7 => true
  | _ => false
def F_X : u_T := fun k => ("CheckedText", fn_X k, fd_X k, ff_X k)
def t_X : Nat → FieldType := fun k => match k with
  | 0 => .array .int
  | 1 => .array .byte
  | 2 => .array .byte
  | 3 => .array .byte
  | 4 => .int
  | 5 => .int
  | 6 => .int
  | 7 => .array .int
  | _ => .int
abbrev w_X : List Cond := u_ws R_X F_X 9
theorem n_X : ∀ a, a < 9 → ∀ b, b < 9 → a ≠ b → (F_X a).2.1 ≠ (F_X b).2.1 := by decide +kernel
theorem t_X_ok : ∀ k, k < 9 → parseFieldDescriptor (F_X k).2.2.1 = some (t_X k) := by decide +kernel
theorem i_X : ∀ w ∈ w_X, w ∈ ct_tb := by decide +kernel
def fn_M : Nat → String := fun k => match k with
  | 0 => "head"
  | 1 => "h"
  | 2 => "data"
  | 3 => "n"
  | 4 => "bytes"
  | _ => "b"
def fd_M : Nat → String := fun k => match k with
  | 0 => "[I"
  | 1 => "I"
  | 2 => "[I"
  | 3 => "I"
  | 4 => "[I"
  | _ => "I"
def ff_M : Nat → Bool := fun k => match k with
  | 0 => true
  | 1 => false
  | 2 => true
  | 3 => false
  | 4 => true
  | _ => false
def F_M : u_T := fun k => ("CheckedTextModel", fn_M k, fd_M k, ff_M k)
def t_M : Nat → FieldType := fun k => match k with
  | 0 => .array .int
  | 1 => .int
  | 2 => .array .int
  | 3 => .int
  | 4 => .array .int
  | _ => .int
abbrev w_M : List Cond := u_ws R_M F_M 6
theorem n_M : ∀ a, a < 6 → ∀ b, b < 6 → a ≠ b → (F_M a).2.1 ≠ (F_M b).2.1 := by decide +kernel
theorem t_M_ok : ∀ k, k < 6 → parseFieldDescriptor (F_M k).2.2.1 = some (t_M k) := by decide +kernel
theorem i_M : ∀ w ∈ w_M, w ∈ ct_tb := by decide +kernel
abbrev ct_cl : List vw_C := [(R_X, F_X, 9), (R_M, F_M, 6)]
-- methods
abbrev b_X_init : ByteArray := prog_1_method_1_code
def y_X_init : MethodName := ⟨"CheckedText", "<init>", "()V"⟩
abbrev b_X_on : ByteArray := prog_1_method_2_code
def y_X_on : MethodName := ⟨"CheckedText", "on", "(II)I"⟩
abbrev b_X_headed : ByteArray := prog_1_method_3_code
def y_X_headed : MethodName := ⟨"CheckedText", "headed", "()I"⟩
abbrev b_X_sum : ByteArray := prog_1_method_4_code
def y_X_sum : MethodName := ⟨"CheckedText", "sum", "()I"⟩
abbrev b_X_place : ByteArray := prog_1_method_5_code
def y_X_place : MethodName := ⟨"CheckedText", "place", "(II)I"⟩
abbrev b_X_head : ByteArray := prog_1_method_6_code
def y_X_head : MethodName := ⟨"CheckedText", "head", "(I)Z"⟩
abbrev b_X_add : ByteArray := prog_1_method_7_code
def y_X_add : MethodName := ⟨"CheckedText", "add", "(I)V"⟩
abbrev b_X_put : ByteArray := prog_1_method_8_code
def y_X_put : MethodName := ⟨"CheckedText", "put", "(IIII)Z"⟩
abbrev b_X_wipe : ByteArray := prog_1_method_9_code
def y_X_wipe : MethodName := ⟨"CheckedText", "wipe", "()V"⟩
abbrev b_X_seal : ByteArray := prog_1_method_10_code
def y_X_seal : MethodName := ⟨"CheckedText", "seal", "(I)Z"⟩
abbrev b_X_check : ByteArray := prog_1_method_11_code
def y_X_check : MethodName := ⟨"CheckedText", "check", "()I"⟩
abbrev b_X_spoil : ByteArray := prog_1_method_12_code
def y_X_spoil : MethodName := ⟨"CheckedText", "spoil", "(II)Z"⟩
abbrev b_X_at : ByteArray := prog_1_method_13_code
def y_X_at : MethodName := ⟨"CheckedText", "at", "(I)I"⟩
abbrev b_X_size : ByteArray := prog_1_method_14_code
def y_X_size : MethodName := ⟨"CheckedText", "size", "()I"⟩
abbrev b_X_octet : ByteArray := prog_1_method_15_code
def y_X_octet : MethodName := ⟨"CheckedText", "octet", "(I)Z"⟩
abbrev b_X_spread : ByteArray := prog_1_method_16_code
def y_X_spread : MethodName := ⟨"CheckedText", "spread", "()I"⟩
abbrev b_X_gather : ByteArray := prog_1_method_17_code
def y_X_gather : MethodName := ⟨"CheckedText", "gather", "()I"⟩
abbrev b_X_byteAt : ByteArray := prog_1_method_18_code
def y_X_byteAt : MethodName := ⟨"CheckedText", "byteAt", "(I)I"⟩
abbrev b_M_init : ByteArray := prog_3_method_1_code
def y_M_init : MethodName := ⟨"CheckedTextModel", "<init>", "()V"⟩
abbrev b_M_step : ByteArray := prog_3_method_2_code
def y_M_step : MethodName := ⟨"CheckedTextModel", "step", "(II)I"⟩
abbrev b_M_run : ByteArray := prog_3_method_3_code
def y_M_run : MethodName := ⟨"CheckedTextModel", "run", "(I)I"⟩
abbrev b_M_head : ByteArray := prog_3_method_4_code
def y_M_head : MethodName := ⟨"CheckedTextModel", "head", "(I)Z"⟩
abbrev b_M_put : ByteArray := prog_3_method_5_code
def y_M_put : MethodName := ⟨"CheckedTextModel", "put", "(IIII)Z"⟩
abbrev b_M_wipe : ByteArray := prog_3_method_6_code
def y_M_wipe : MethodName := ⟨"CheckedTextModel", "wipe", "()V"⟩
abbrev b_M_seal : ByteArray := prog_3_method_7_code
def y_M_seal : MethodName := ⟨"CheckedTextModel", "seal", "(I)Z"⟩
abbrev b_M_check : ByteArray := prog_3_method_8_code
def y_M_check : MethodName := ⟨"CheckedTextModel", "check", "()I"⟩
abbrev b_M_spoil : ByteArray := prog_3_method_9_code
def y_M_spoil : MethodName := ⟨"CheckedTextModel", "spoil", "(II)Z"⟩
abbrev b_M_at : ByteArray := prog_3_method_10_code
def y_M_at : MethodName := ⟨"CheckedTextModel", "at", "(I)I"⟩
abbrev b_M_size : ByteArray := prog_3_method_11_code
def y_M_size : MethodName := ⟨"CheckedTextModel", "size", "()I"⟩
abbrev b_M_octet : ByteArray := prog_3_method_12_code
def y_M_octet : MethodName := ⟨"CheckedTextModel", "octet", "(I)Z"⟩
abbrev b_M_spread : ByteArray := prog_3_method_13_code
def y_M_spread : MethodName := ⟨"CheckedTextModel", "spread", "()I"⟩
abbrev b_M_gather : ByteArray := prog_3_method_14_code
def y_M_gather : MethodName := ⟨"CheckedTextModel", "gather", "()I"⟩
abbrev b_M_byteAt : ByteArray := prog_3_method_15_code
def y_M_byteAt : MethodName := ⟨"CheckedTextModel", "byteAt", "(I)I"⟩
-- rows of the tables, by place
theorem tb_0 : (Cond.initialized "CheckedTextLaw") ∈ ct_tb := List.mem_filter.mpr ⟨List.mem_append_right _ (List.mem_of_getElem? (i := 0) rfl), rfl⟩
theorem tb_1 : (Cond.initialized "CheckedText") ∈ ct_tb := List.mem_filter.mpr ⟨List.mem_append_right _ (List.mem_of_getElem? (i := 1) rfl), rfl⟩
theorem tb_2 : (Cond.initialized "CheckedTextModel") ∈ ct_tb := List.mem_filter.mpr ⟨List.mem_append_right _ (List.mem_of_getElem? (i := 2) rfl), rfl⟩
theorem tb_3 : (Cond.initialized "java/lang/Math") ∈ ct_tb := List.mem_filter.mpr ⟨List.mem_append_right _ (List.mem_of_getElem? (i := 3) rfl), rfl⟩
theorem tb_4 : (Cond.classLink "CheckedTextLaw" 7 "CheckedText") ∈ ct_tb := List.mem_filter.mpr ⟨List.mem_append_right _ (List.mem_of_getElem? (i := 4) rfl), rfl⟩
theorem tb_5 : (Cond.instantiable "CheckedText" 9) ∈ ct_tb := List.mem_filter.mpr ⟨List.mem_append_right _ (List.mem_of_getElem? (i := 5) rfl), rfl⟩
theorem tb_6 : (Cond.methodLink "CheckedTextLaw" 9 (⟨"CheckedText", "<init>", "()V"⟩ : MethodName)) ∈ ct_tb := List.mem_filter.mpr ⟨List.mem_append_right _ (List.mem_of_getElem? (i := 6) rfl), rfl⟩
theorem tb_7 : (Cond.instanceMethod (⟨"CheckedText", "<init>", "()V"⟩ : MethodName)) ∈ ct_tb := List.mem_filter.mpr ⟨List.mem_append_right _ (List.mem_of_getElem? (i := 7) rfl), rfl⟩
theorem tb_8 : (Cond.code (⟨"CheckedText", "<init>", "()V"⟩ : MethodName) prog_1_method_1_code 3 (none)) ∈ ct_tb := List.mem_filter.mpr ⟨List.mem_append_right _ (List.mem_of_getElem? (i := 8) rfl), rfl⟩
theorem tb_9 : (Cond.methodLink "CheckedText" 1 (⟨"java/lang/Object", "<init>", "()V"⟩ : MethodName)) ∈ ct_tb := List.mem_filter.mpr ⟨List.mem_append_right _ (List.mem_of_getElem? (i := 9) rfl), rfl⟩
theorem tb_10 : (Cond.instanceMethod (⟨"java/lang/Object", "<init>", "()V"⟩ : MethodName)) ∈ ct_tb := List.mem_filter.mpr ⟨List.mem_append_right _ (List.mem_of_getElem? (i := 10) rfl), rfl⟩
theorem tb_11 : (Cond.code (⟨"java/lang/Object", "<init>", "()V"⟩ : MethodName) object_method_1_code 1 (none)) ∈ ct_tb := List.mem_filter.mpr ⟨List.mem_append_right _ (List.mem_of_getElem? (i := 11) rfl), rfl⟩
theorem tb_12 : (Cond.constant "CheckedText" 30 (996825010 : Int32)) ∈ ct_tb := List.mem_filter.mpr ⟨List.mem_append_right _ (List.mem_of_getElem? (i := 12) rfl), rfl⟩
theorem tb_13 : (Cond.constant "CheckedText" 31 (642813549 : Int32)) ∈ ct_tb := List.mem_filter.mpr ⟨List.mem_append_right _ (List.mem_of_getElem? (i := 13) rfl), rfl⟩
theorem tb_14 : (Cond.constant "CheckedText" 32 (513874426 : Int32)) ∈ ct_tb := List.mem_filter.mpr ⟨List.mem_append_right _ (List.mem_of_getElem? (i := 14) rfl), rfl⟩
theorem tb_15 : (Cond.constant "CheckedText" 33 (1027748829 : Int32)) ∈ ct_tb := List.mem_filter.mpr ⟨List.mem_append_right _ (List.mem_of_getElem? (i := 15) rfl), rfl⟩
theorem tb_16 : (Cond.constant "CheckedText" 34 (705979059 : Int32)) ∈ ct_tb := List.mem_filter.mpr ⟨List.mem_append_right _ (List.mem_of_getElem? (i := 16) rfl), rfl⟩
theorem tb_17 : (Cond.fieldLink "CheckedText" 7 "CheckedText" "table" "[I") ∈ ct_tb := List.mem_filter.mpr ⟨List.mem_append_right _ (List.mem_of_getElem? (i := 17) rfl), rfl⟩
theorem tb_18 : (Cond.fieldLink "CheckedText" 13 "CheckedText" "head" "[B") ∈ ct_tb := List.mem_filter.mpr ⟨List.mem_append_right _ (List.mem_of_getElem? (i := 18) rfl), rfl⟩
theorem tb_19 : (Cond.fieldLink "CheckedText" 17 "CheckedText" "data" "[B") ∈ ct_tb := List.mem_filter.mpr ⟨List.mem_append_right _ (List.mem_of_getElem? (i := 19) rfl), rfl⟩
theorem tb_20 : (Cond.fieldLink "CheckedText" 20 "CheckedText" "bytes" "[B") ∈ ct_tb := List.mem_filter.mpr ⟨List.mem_append_right _ (List.mem_of_getElem? (i := 20) rfl), rfl⟩
theorem tb_21 : (Cond.fieldLink "CheckedText" 36 "CheckedText" "signs" "I") ∈ ct_tb := List.mem_filter.mpr ⟨List.mem_append_right _ (List.mem_of_getElem? (i := 21) rfl), rfl⟩
theorem tb_22 : (Cond.fieldLink "CheckedText" 47 "CheckedText" "many" "I") ∈ ct_tb := List.mem_filter.mpr ⟨List.mem_append_right _ (List.mem_of_getElem? (i := 22) rfl), rfl⟩
theorem tb_23 : (Cond.fieldLink "CheckedText" 69 "CheckedText" "octets" "I") ∈ ct_tb := List.mem_filter.mpr ⟨List.mem_append_right _ (List.mem_of_getElem? (i := 23) rfl), rfl⟩
theorem tb_24 : (Cond.fieldLink "CheckedText" 23 "CheckedText" "sums" "[I") ∈ ct_tb := List.mem_filter.mpr ⟨List.mem_append_right _ (List.mem_of_getElem? (i := 24) rfl), rfl⟩
theorem tb_25 : (Cond.fieldLink "CheckedText" 26 "CheckedText" "known" "I") ∈ ct_tb := List.mem_filter.mpr ⟨List.mem_append_right _ (List.mem_of_getElem? (i := 25) rfl), rfl⟩
theorem tb_45 : (Cond.arrayClass FieldType.int) ∈ ct_tb := List.mem_filter.mpr ⟨List.mem_append_right _ (List.mem_of_getElem? (i := 45) rfl), rfl⟩
theorem tb_46 : (Cond.arrayClass FieldType.byte) ∈ ct_tb := List.mem_filter.mpr ⟨List.mem_append_right _ (List.mem_of_getElem? (i := 46) rfl), rfl⟩
theorem tb_47 : (Cond.methodLink "CheckedTextLaw" 13 (⟨"CheckedText", "head", "(I)Z"⟩ : MethodName)) ∈ ct_tb := List.mem_filter.mpr ⟨List.mem_append_right _ (List.mem_of_getElem? (i := 47) rfl), rfl⟩
theorem tb_48 : (Cond.instanceMethod (⟨"CheckedText", "head", "(I)Z"⟩ : MethodName)) ∈ ct_tb := List.mem_filter.mpr ⟨List.mem_append_right _ (List.mem_of_getElem? (i := 48) rfl), rfl⟩
theorem tb_49 : (Cond.selects "CheckedText" (⟨"CheckedText", "head", "(I)Z"⟩ : MethodName) (⟨"CheckedText", "head", "(I)Z"⟩ : MethodName)) ∈ ct_tb := List.mem_filter.mpr ⟨List.mem_append_right _ (List.mem_of_getElem? (i := 49) rfl), rfl⟩
theorem tb_50 : (Cond.code (⟨"CheckedText", "head", "(I)Z"⟩ : MethodName) prog_1_method_6_code 2 (some .boolean)) ∈ ct_tb := List.mem_filter.mpr ⟨List.mem_append_right _ (List.mem_of_getElem? (i := 50) rfl), rfl⟩
theorem tb_51 : (Cond.methodLink "CheckedText" 53 (⟨"CheckedText", "place", "(II)I"⟩ : MethodName)) ∈ ct_tb := List.mem_filter.mpr ⟨List.mem_append_right _ (List.mem_of_getElem? (i := 51) rfl), rfl⟩
theorem tb_52 : (Cond.static (⟨"CheckedText", "place", "(II)I"⟩ : MethodName)) ∈ ct_tb := List.mem_filter.mpr ⟨List.mem_append_right _ (List.mem_of_getElem? (i := 52) rfl), rfl⟩
theorem tb_53 : (Cond.code (⟨"CheckedText", "place", "(II)I"⟩ : MethodName) prog_1_method_5_code 2 (some .int)) ∈ ct_tb := List.mem_filter.mpr ⟨List.mem_append_right _ (List.mem_of_getElem? (i := 53) rfl), rfl⟩
theorem tb_54 : (Cond.constant "CheckedText" 52 (2147483647 : Int32)) ∈ ct_tb := List.mem_filter.mpr ⟨List.mem_append_right _ (List.mem_of_getElem? (i := 54) rfl), rfl⟩
theorem tb_55 : (Cond.methodLink "CheckedTextLaw" 18 (⟨"CheckedText", "put", "(IIII)Z"⟩ : MethodName)) ∈ ct_tb := List.mem_filter.mpr ⟨List.mem_append_right _ (List.mem_of_getElem? (i := 55) rfl), rfl⟩
theorem tb_56 : (Cond.instanceMethod (⟨"CheckedText", "put", "(IIII)Z"⟩ : MethodName)) ∈ ct_tb := List.mem_filter.mpr ⟨List.mem_append_right _ (List.mem_of_getElem? (i := 56) rfl), rfl⟩
theorem tb_57 : (Cond.selects "CheckedText" (⟨"CheckedText", "put", "(IIII)Z"⟩ : MethodName) (⟨"CheckedText", "put", "(IIII)Z"⟩ : MethodName)) ∈ ct_tb := List.mem_filter.mpr ⟨List.mem_append_right _ (List.mem_of_getElem? (i := 57) rfl), rfl⟩
theorem tb_58 : (Cond.code (⟨"CheckedText", "put", "(IIII)Z"⟩ : MethodName) prog_1_method_8_code 5 (some .boolean)) ∈ ct_tb := List.mem_filter.mpr ⟨List.mem_append_right _ (List.mem_of_getElem? (i := 58) rfl), rfl⟩
theorem tb_59 : (Cond.methodLink "CheckedText" 56 (⟨"CheckedText", "add", "(I)V"⟩ : MethodName)) ∈ ct_tb := List.mem_filter.mpr ⟨List.mem_append_right _ (List.mem_of_getElem? (i := 59) rfl), rfl⟩
theorem tb_61 : (Cond.instanceMethod (⟨"CheckedText", "add", "(I)V"⟩ : MethodName)) ∈ ct_tb := List.mem_filter.mpr ⟨List.mem_append_right _ (List.mem_of_getElem? (i := 61) rfl), rfl⟩
theorem tb_62 : (Cond.code (⟨"CheckedText", "add", "(I)V"⟩ : MethodName) prog_1_method_7_code 2 (none)) ∈ ct_tb := List.mem_filter.mpr ⟨List.mem_append_right _ (List.mem_of_getElem? (i := 62) rfl), rfl⟩
theorem tb_63 : (Cond.methodLink "CheckedTextLaw" 23 (⟨"CheckedText", "wipe", "()V"⟩ : MethodName)) ∈ ct_tb := List.mem_filter.mpr ⟨List.mem_append_right _ (List.mem_of_getElem? (i := 63) rfl), rfl⟩
theorem tb_64 : (Cond.instanceMethod (⟨"CheckedText", "wipe", "()V"⟩ : MethodName)) ∈ ct_tb := List.mem_filter.mpr ⟨List.mem_append_right _ (List.mem_of_getElem? (i := 64) rfl), rfl⟩
theorem tb_65 : (Cond.selects "CheckedText" (⟨"CheckedText", "wipe", "()V"⟩ : MethodName) (⟨"CheckedText", "wipe", "()V"⟩ : MethodName)) ∈ ct_tb := List.mem_filter.mpr ⟨List.mem_append_right _ (List.mem_of_getElem? (i := 65) rfl), rfl⟩
theorem tb_66 : (Cond.code (⟨"CheckedText", "wipe", "()V"⟩ : MethodName) prog_1_method_9_code 1 (none)) ∈ ct_tb := List.mem_filter.mpr ⟨List.mem_append_right _ (List.mem_of_getElem? (i := 66) rfl), rfl⟩
theorem tb_67 : (Cond.methodLink "CheckedTextLaw" 27 (⟨"CheckedText", "seal", "(I)Z"⟩ : MethodName)) ∈ ct_tb := List.mem_filter.mpr ⟨List.mem_append_right _ (List.mem_of_getElem? (i := 67) rfl), rfl⟩
theorem tb_68 : (Cond.instanceMethod (⟨"CheckedText", "seal", "(I)Z"⟩ : MethodName)) ∈ ct_tb := List.mem_filter.mpr ⟨List.mem_append_right _ (List.mem_of_getElem? (i := 68) rfl), rfl⟩
theorem tb_69 : (Cond.selects "CheckedText" (⟨"CheckedText", "seal", "(I)Z"⟩ : MethodName) (⟨"CheckedText", "seal", "(I)Z"⟩ : MethodName)) ∈ ct_tb := List.mem_filter.mpr ⟨List.mem_append_right _ (List.mem_of_getElem? (i := 69) rfl), rfl⟩
theorem tb_70 : (Cond.code (⟨"CheckedText", "seal", "(I)Z"⟩ : MethodName) prog_1_method_10_code 4 (some .boolean)) ∈ ct_tb := List.mem_filter.mpr ⟨List.mem_append_right _ (List.mem_of_getElem? (i := 70) rfl), rfl⟩
theorem tb_71 : (Cond.methodLink "CheckedText" 60 (⟨"CheckedText", "sum", "()I"⟩ : MethodName)) ∈ ct_tb := List.mem_filter.mpr ⟨List.mem_append_right _ (List.mem_of_getElem? (i := 71) rfl), rfl⟩
theorem tb_73 : (Cond.instanceMethod (⟨"CheckedText", "sum", "()I"⟩ : MethodName)) ∈ ct_tb := List.mem_filter.mpr ⟨List.mem_append_right _ (List.mem_of_getElem? (i := 73) rfl), rfl⟩
theorem tb_74 : (Cond.code (⟨"CheckedText", "sum", "()I"⟩ : MethodName) prog_1_method_4_code 1 (some .int)) ∈ ct_tb := List.mem_filter.mpr ⟨List.mem_append_right _ (List.mem_of_getElem? (i := 74) rfl), rfl⟩
theorem tb_75 : (Cond.methodLink "CheckedText" 43 (⟨"CheckedText", "headed", "()I"⟩ : MethodName)) ∈ ct_tb := List.mem_filter.mpr ⟨List.mem_append_right _ (List.mem_of_getElem? (i := 75) rfl), rfl⟩
theorem tb_77 : (Cond.instanceMethod (⟨"CheckedText", "headed", "()I"⟩ : MethodName)) ∈ ct_tb := List.mem_filter.mpr ⟨List.mem_append_right _ (List.mem_of_getElem? (i := 77) rfl), rfl⟩
theorem tb_78 : (Cond.code (⟨"CheckedText", "headed", "()I"⟩ : MethodName) prog_1_method_3_code 3 (some .int)) ∈ ct_tb := List.mem_filter.mpr ⟨List.mem_append_right _ (List.mem_of_getElem? (i := 78) rfl), rfl⟩
theorem tb_79 : (Cond.methodLink "CheckedText" 39 (⟨"CheckedText", "on", "(II)I"⟩ : MethodName)) ∈ ct_tb := List.mem_filter.mpr ⟨List.mem_append_right _ (List.mem_of_getElem? (i := 79) rfl), rfl⟩
theorem tb_81 : (Cond.instanceMethod (⟨"CheckedText", "on", "(II)I"⟩ : MethodName)) ∈ ct_tb := List.mem_filter.mpr ⟨List.mem_append_right _ (List.mem_of_getElem? (i := 81) rfl), rfl⟩
theorem tb_82 : (Cond.code (⟨"CheckedText", "on", "(II)I"⟩ : MethodName) prog_1_method_2_code 3 (some .int)) ∈ ct_tb := List.mem_filter.mpr ⟨List.mem_append_right _ (List.mem_of_getElem? (i := 82) rfl), rfl⟩
theorem tb_83 : (Cond.constant "CheckedText" 35 (33554431 : Int32)) ∈ ct_tb := List.mem_filter.mpr ⟨List.mem_append_right _ (List.mem_of_getElem? (i := 83) rfl), rfl⟩
theorem tb_84 : (Cond.constant "CheckedText" 63 (734539939 : Int32)) ∈ ct_tb := List.mem_filter.mpr ⟨List.mem_append_right _ (List.mem_of_getElem? (i := 84) rfl), rfl⟩
theorem tb_85 : (Cond.methodLink "CheckedTextLaw" 31 (⟨"CheckedText", "check", "()I"⟩ : MethodName)) ∈ ct_tb := List.mem_filter.mpr ⟨List.mem_append_right _ (List.mem_of_getElem? (i := 85) rfl), rfl⟩
theorem tb_86 : (Cond.instanceMethod (⟨"CheckedText", "check", "()I"⟩ : MethodName)) ∈ ct_tb := List.mem_filter.mpr ⟨List.mem_append_right _ (List.mem_of_getElem? (i := 86) rfl), rfl⟩
theorem tb_87 : (Cond.selects "CheckedText" (⟨"CheckedText", "check", "()I"⟩ : MethodName) (⟨"CheckedText", "check", "()I"⟩ : MethodName)) ∈ ct_tb := List.mem_filter.mpr ⟨List.mem_append_right _ (List.mem_of_getElem? (i := 87) rfl), rfl⟩
theorem tb_88 : (Cond.code (⟨"CheckedText", "check", "()I"⟩ : MethodName) prog_1_method_11_code 2 (some .int)) ∈ ct_tb := List.mem_filter.mpr ⟨List.mem_append_right _ (List.mem_of_getElem? (i := 88) rfl), rfl⟩
theorem tb_89 : (Cond.methodLink "CheckedTextLaw" 36 (⟨"CheckedText", "spoil", "(II)Z"⟩ : MethodName)) ∈ ct_tb := List.mem_filter.mpr ⟨List.mem_append_right _ (List.mem_of_getElem? (i := 89) rfl), rfl⟩
theorem tb_90 : (Cond.instanceMethod (⟨"CheckedText", "spoil", "(II)Z"⟩ : MethodName)) ∈ ct_tb := List.mem_filter.mpr ⟨List.mem_append_right _ (List.mem_of_getElem? (i := 90) rfl), rfl⟩
theorem tb_91 : (Cond.selects "CheckedText" (⟨"CheckedText", "spoil", "(II)Z"⟩ : MethodName) (⟨"CheckedText", "spoil", "(II)Z"⟩ : MethodName)) ∈ ct_tb := List.mem_filter.mpr ⟨List.mem_append_right _ (List.mem_of_getElem? (i := 91) rfl), rfl⟩
theorem tb_92 : (Cond.code (⟨"CheckedText", "spoil", "(II)Z"⟩ : MethodName) prog_1_method_12_code 4 (some .boolean)) ∈ ct_tb := List.mem_filter.mpr ⟨List.mem_append_right _ (List.mem_of_getElem? (i := 92) rfl), rfl⟩
theorem tb_93 : (Cond.methodLink "CheckedText" 64 (⟨"java/lang/Math", "min", "(II)I"⟩ : MethodName)) ∈ ct_tb := List.mem_filter.mpr ⟨List.mem_append_right _ (List.mem_of_getElem? (i := 93) rfl), rfl⟩
theorem tb_94 : (Cond.static (⟨"java/lang/Math", "min", "(II)I"⟩ : MethodName)) ∈ ct_tb := List.mem_filter.mpr ⟨List.mem_append_right _ (List.mem_of_getElem? (i := 94) rfl), rfl⟩
theorem tb_95 : (Cond.code (⟨"java/lang/Math", "min", "(II)I"⟩ : MethodName) prog_4_method_69_code 2 (some .int)) ∈ ct_tb := List.mem_filter.mpr ⟨List.mem_append_right _ (List.mem_of_getElem? (i := 95) rfl), rfl⟩
theorem tb_96 : (Cond.methodLink "CheckedTextLaw" 41 (⟨"CheckedText", "at", "(I)I"⟩ : MethodName)) ∈ ct_tb := List.mem_filter.mpr ⟨List.mem_append_right _ (List.mem_of_getElem? (i := 96) rfl), rfl⟩
theorem tb_97 : (Cond.instanceMethod (⟨"CheckedText", "at", "(I)I"⟩ : MethodName)) ∈ ct_tb := List.mem_filter.mpr ⟨List.mem_append_right _ (List.mem_of_getElem? (i := 97) rfl), rfl⟩
theorem tb_98 : (Cond.selects "CheckedText" (⟨"CheckedText", "at", "(I)I"⟩ : MethodName) (⟨"CheckedText", "at", "(I)I"⟩ : MethodName)) ∈ ct_tb := List.mem_filter.mpr ⟨List.mem_append_right _ (List.mem_of_getElem? (i := 98) rfl), rfl⟩
theorem tb_99 : (Cond.code (⟨"CheckedText", "at", "(I)I"⟩ : MethodName) prog_1_method_13_code 2 (some .int)) ∈ ct_tb := List.mem_filter.mpr ⟨List.mem_append_right _ (List.mem_of_getElem? (i := 99) rfl), rfl⟩
theorem tb_100 : (Cond.methodLink "CheckedTextLaw" 46 (⟨"CheckedText", "size", "()I"⟩ : MethodName)) ∈ ct_tb := List.mem_filter.mpr ⟨List.mem_append_right _ (List.mem_of_getElem? (i := 100) rfl), rfl⟩
theorem tb_101 : (Cond.instanceMethod (⟨"CheckedText", "size", "()I"⟩ : MethodName)) ∈ ct_tb := List.mem_filter.mpr ⟨List.mem_append_right _ (List.mem_of_getElem? (i := 101) rfl), rfl⟩
theorem tb_102 : (Cond.selects "CheckedText" (⟨"CheckedText", "size", "()I"⟩ : MethodName) (⟨"CheckedText", "size", "()I"⟩ : MethodName)) ∈ ct_tb := List.mem_filter.mpr ⟨List.mem_append_right _ (List.mem_of_getElem? (i := 102) rfl), rfl⟩
theorem tb_103 : (Cond.code (⟨"CheckedText", "size", "()I"⟩ : MethodName) prog_1_method_14_code 1 (some .int)) ∈ ct_tb := List.mem_filter.mpr ⟨List.mem_append_right _ (List.mem_of_getElem? (i := 103) rfl), rfl⟩
theorem tb_104 : (Cond.methodLink "CheckedTextLaw" 50 (⟨"CheckedText", "octet", "(I)Z"⟩ : MethodName)) ∈ ct_tb := List.mem_filter.mpr ⟨List.mem_append_right _ (List.mem_of_getElem? (i := 104) rfl), rfl⟩
theorem tb_105 : (Cond.instanceMethod (⟨"CheckedText", "octet", "(I)Z"⟩ : MethodName)) ∈ ct_tb := List.mem_filter.mpr ⟨List.mem_append_right _ (List.mem_of_getElem? (i := 105) rfl), rfl⟩
theorem tb_106 : (Cond.selects "CheckedText" (⟨"CheckedText", "octet", "(I)Z"⟩ : MethodName) (⟨"CheckedText", "octet", "(I)Z"⟩ : MethodName)) ∈ ct_tb := List.mem_filter.mpr ⟨List.mem_append_right _ (List.mem_of_getElem? (i := 106) rfl), rfl⟩
theorem tb_107 : (Cond.code (⟨"CheckedText", "octet", "(I)Z"⟩ : MethodName) prog_1_method_15_code 2 (some .boolean)) ∈ ct_tb := List.mem_filter.mpr ⟨List.mem_append_right _ (List.mem_of_getElem? (i := 107) rfl), rfl⟩
theorem tb_108 : (Cond.methodLink "CheckedTextLaw" 54 (⟨"CheckedText", "spread", "()I"⟩ : MethodName)) ∈ ct_tb := List.mem_filter.mpr ⟨List.mem_append_right _ (List.mem_of_getElem? (i := 108) rfl), rfl⟩
theorem tb_109 : (Cond.instanceMethod (⟨"CheckedText", "spread", "()I"⟩ : MethodName)) ∈ ct_tb := List.mem_filter.mpr ⟨List.mem_append_right _ (List.mem_of_getElem? (i := 109) rfl), rfl⟩
theorem tb_110 : (Cond.selects "CheckedText" (⟨"CheckedText", "spread", "()I"⟩ : MethodName) (⟨"CheckedText", "spread", "()I"⟩ : MethodName)) ∈ ct_tb := List.mem_filter.mpr ⟨List.mem_append_right _ (List.mem_of_getElem? (i := 110) rfl), rfl⟩
theorem tb_111 : (Cond.code (⟨"CheckedText", "spread", "()I"⟩ : MethodName) prog_1_method_16_code 5 (some .int)) ∈ ct_tb := List.mem_filter.mpr ⟨List.mem_append_right _ (List.mem_of_getElem? (i := 111) rfl), rfl⟩
theorem tb_112 : (Cond.methodLink "CheckedTextLaw" 58 (⟨"CheckedText", "gather", "()I"⟩ : MethodName)) ∈ ct_tb := List.mem_filter.mpr ⟨List.mem_append_right _ (List.mem_of_getElem? (i := 112) rfl), rfl⟩
theorem tb_113 : (Cond.instanceMethod (⟨"CheckedText", "gather", "()I"⟩ : MethodName)) ∈ ct_tb := List.mem_filter.mpr ⟨List.mem_append_right _ (List.mem_of_getElem? (i := 113) rfl), rfl⟩
theorem tb_114 : (Cond.selects "CheckedText" (⟨"CheckedText", "gather", "()I"⟩ : MethodName) (⟨"CheckedText", "gather", "()I"⟩ : MethodName)) ∈ ct_tb := List.mem_filter.mpr ⟨List.mem_append_right _ (List.mem_of_getElem? (i := 114) rfl), rfl⟩
theorem tb_115 : (Cond.code (⟨"CheckedText", "gather", "()I"⟩ : MethodName) prog_1_method_17_code 6 (some .int)) ∈ ct_tb := List.mem_filter.mpr ⟨List.mem_append_right _ (List.mem_of_getElem? (i := 115) rfl), rfl⟩
theorem tb_116 : (Cond.methodLink "CheckedTextLaw" 62 (⟨"CheckedText", "byteAt", "(I)I"⟩ : MethodName)) ∈ ct_tb := List.mem_filter.mpr ⟨List.mem_append_right _ (List.mem_of_getElem? (i := 116) rfl), rfl⟩
theorem tb_117 : (Cond.instanceMethod (⟨"CheckedText", "byteAt", "(I)I"⟩ : MethodName)) ∈ ct_tb := List.mem_filter.mpr ⟨List.mem_append_right _ (List.mem_of_getElem? (i := 117) rfl), rfl⟩
theorem tb_118 : (Cond.selects "CheckedText" (⟨"CheckedText", "byteAt", "(I)I"⟩ : MethodName) (⟨"CheckedText", "byteAt", "(I)I"⟩ : MethodName)) ∈ ct_tb := List.mem_filter.mpr ⟨List.mem_append_right _ (List.mem_of_getElem? (i := 118) rfl), rfl⟩
theorem tb_119 : (Cond.code (⟨"CheckedText", "byteAt", "(I)I"⟩ : MethodName) prog_1_method_18_code 2 (some .int)) ∈ ct_tb := List.mem_filter.mpr ⟨List.mem_append_right _ (List.mem_of_getElem? (i := 119) rfl), rfl⟩
theorem tb_120 : (Cond.classLink "CheckedTextLaw" 10 "CheckedTextModel") ∈ ct_tb := List.mem_filter.mpr ⟨List.mem_append_right _ (List.mem_of_getElem? (i := 120) rfl), rfl⟩
theorem tb_121 : (Cond.instantiable "CheckedTextModel" 6) ∈ ct_tb := List.mem_filter.mpr ⟨List.mem_append_right _ (List.mem_of_getElem? (i := 121) rfl), rfl⟩
theorem tb_122 : (Cond.methodLink "CheckedTextLaw" 12 (⟨"CheckedTextModel", "<init>", "()V"⟩ : MethodName)) ∈ ct_tb := List.mem_filter.mpr ⟨List.mem_append_right _ (List.mem_of_getElem? (i := 122) rfl), rfl⟩
theorem tb_123 : (Cond.instanceMethod (⟨"CheckedTextModel", "<init>", "()V"⟩ : MethodName)) ∈ ct_tb := List.mem_filter.mpr ⟨List.mem_append_right _ (List.mem_of_getElem? (i := 123) rfl), rfl⟩
theorem tb_124 : (Cond.code (⟨"CheckedTextModel", "<init>", "()V"⟩ : MethodName) prog_3_method_1_code 1 (none)) ∈ ct_tb := List.mem_filter.mpr ⟨List.mem_append_right _ (List.mem_of_getElem? (i := 124) rfl), rfl⟩
theorem tb_125 : (Cond.methodLink "CheckedTextModel" 1 (⟨"java/lang/Object", "<init>", "()V"⟩ : MethodName)) ∈ ct_tb := List.mem_filter.mpr ⟨List.mem_append_right _ (List.mem_of_getElem? (i := 125) rfl), rfl⟩
theorem tb_126 : (Cond.fieldLink "CheckedTextModel" 7 "CheckedTextModel" "head" "[I") ∈ ct_tb := List.mem_filter.mpr ⟨List.mem_append_right _ (List.mem_of_getElem? (i := 126) rfl), rfl⟩
theorem tb_127 : (Cond.fieldLink "CheckedTextModel" 25 "CheckedTextModel" "h" "I") ∈ ct_tb := List.mem_filter.mpr ⟨List.mem_append_right _ (List.mem_of_getElem? (i := 127) rfl), rfl⟩
theorem tb_128 : (Cond.fieldLink "CheckedTextModel" 13 "CheckedTextModel" "data" "[I") ∈ ct_tb := List.mem_filter.mpr ⟨List.mem_append_right _ (List.mem_of_getElem? (i := 128) rfl), rfl⟩
theorem tb_129 : (Cond.fieldLink "CheckedTextModel" 33 "CheckedTextModel" "n" "I") ∈ ct_tb := List.mem_filter.mpr ⟨List.mem_append_right _ (List.mem_of_getElem? (i := 129) rfl), rfl⟩
theorem tb_130 : (Cond.fieldLink "CheckedTextModel" 16 "CheckedTextModel" "bytes" "[I") ∈ ct_tb := List.mem_filter.mpr ⟨List.mem_append_right _ (List.mem_of_getElem? (i := 130) rfl), rfl⟩
theorem tb_131 : (Cond.fieldLink "CheckedTextModel" 42 "CheckedTextModel" "b" "I") ∈ ct_tb := List.mem_filter.mpr ⟨List.mem_append_right _ (List.mem_of_getElem? (i := 131) rfl), rfl⟩
theorem tb_145 : (Cond.methodLink "CheckedTextLaw" 17 (⟨"CheckedTextModel", "head", "(I)Z"⟩ : MethodName)) ∈ ct_tb := List.mem_filter.mpr ⟨List.mem_append_right _ (List.mem_of_getElem? (i := 145) rfl), rfl⟩
theorem tb_146 : (Cond.instanceMethod (⟨"CheckedTextModel", "head", "(I)Z"⟩ : MethodName)) ∈ ct_tb := List.mem_filter.mpr ⟨List.mem_append_right _ (List.mem_of_getElem? (i := 146) rfl), rfl⟩
theorem tb_147 : (Cond.selects "CheckedTextModel" (⟨"CheckedTextModel", "head", "(I)Z"⟩ : MethodName) (⟨"CheckedTextModel", "head", "(I)Z"⟩ : MethodName)) ∈ ct_tb := List.mem_filter.mpr ⟨List.mem_append_right _ (List.mem_of_getElem? (i := 147) rfl), rfl⟩
theorem tb_148 : (Cond.code (⟨"CheckedTextModel", "head", "(I)Z"⟩ : MethodName) prog_3_method_4_code 2 (some .boolean)) ∈ ct_tb := List.mem_filter.mpr ⟨List.mem_append_right _ (List.mem_of_getElem? (i := 148) rfl), rfl⟩
theorem tb_149 : (Cond.constant "CheckedTextModel" 36 (2147483647 : Int32)) ∈ ct_tb := List.mem_filter.mpr ⟨List.mem_append_right _ (List.mem_of_getElem? (i := 149) rfl), rfl⟩
theorem tb_150 : (Cond.methodLink "CheckedTextLaw" 22 (⟨"CheckedTextModel", "put", "(IIII)Z"⟩ : MethodName)) ∈ ct_tb := List.mem_filter.mpr ⟨List.mem_append_right _ (List.mem_of_getElem? (i := 150) rfl), rfl⟩
theorem tb_151 : (Cond.instanceMethod (⟨"CheckedTextModel", "put", "(IIII)Z"⟩ : MethodName)) ∈ ct_tb := List.mem_filter.mpr ⟨List.mem_append_right _ (List.mem_of_getElem? (i := 151) rfl), rfl⟩
theorem tb_152 : (Cond.selects "CheckedTextModel" (⟨"CheckedTextModel", "put", "(IIII)Z"⟩ : MethodName) (⟨"CheckedTextModel", "put", "(IIII)Z"⟩ : MethodName)) ∈ ct_tb := List.mem_filter.mpr ⟨List.mem_append_right _ (List.mem_of_getElem? (i := 152) rfl), rfl⟩
theorem tb_153 : (Cond.code (⟨"CheckedTextModel", "put", "(IIII)Z"⟩ : MethodName) prog_3_method_5_code 5 (some .boolean)) ∈ ct_tb := List.mem_filter.mpr ⟨List.mem_append_right _ (List.mem_of_getElem? (i := 153) rfl), rfl⟩
theorem tb_154 : (Cond.methodLink "CheckedTextLaw" 26 (⟨"CheckedTextModel", "wipe", "()V"⟩ : MethodName)) ∈ ct_tb := List.mem_filter.mpr ⟨List.mem_append_right _ (List.mem_of_getElem? (i := 154) rfl), rfl⟩
theorem tb_155 : (Cond.instanceMethod (⟨"CheckedTextModel", "wipe", "()V"⟩ : MethodName)) ∈ ct_tb := List.mem_filter.mpr ⟨List.mem_append_right _ (List.mem_of_getElem? (i := 155) rfl), rfl⟩
theorem tb_156 : (Cond.selects "CheckedTextModel" (⟨"CheckedTextModel", "wipe", "()V"⟩ : MethodName) (⟨"CheckedTextModel", "wipe", "()V"⟩ : MethodName)) ∈ ct_tb := List.mem_filter.mpr ⟨List.mem_append_right _ (List.mem_of_getElem? (i := 156) rfl), rfl⟩
theorem tb_157 : (Cond.code (⟨"CheckedTextModel", "wipe", "()V"⟩ : MethodName) prog_3_method_6_code 1 (none)) ∈ ct_tb := List.mem_filter.mpr ⟨List.mem_append_right _ (List.mem_of_getElem? (i := 157) rfl), rfl⟩
theorem tb_158 : (Cond.methodLink "CheckedTextLaw" 30 (⟨"CheckedTextModel", "seal", "(I)Z"⟩ : MethodName)) ∈ ct_tb := List.mem_filter.mpr ⟨List.mem_append_right _ (List.mem_of_getElem? (i := 158) rfl), rfl⟩
theorem tb_159 : (Cond.instanceMethod (⟨"CheckedTextModel", "seal", "(I)Z"⟩ : MethodName)) ∈ ct_tb := List.mem_filter.mpr ⟨List.mem_append_right _ (List.mem_of_getElem? (i := 159) rfl), rfl⟩
theorem tb_160 : (Cond.selects "CheckedTextModel" (⟨"CheckedTextModel", "seal", "(I)Z"⟩ : MethodName) (⟨"CheckedTextModel", "seal", "(I)Z"⟩ : MethodName)) ∈ ct_tb := List.mem_filter.mpr ⟨List.mem_append_right _ (List.mem_of_getElem? (i := 160) rfl), rfl⟩
theorem tb_161 : (Cond.code (⟨"CheckedTextModel", "seal", "(I)Z"⟩ : MethodName) prog_3_method_7_code 4 (some .boolean)) ∈ ct_tb := List.mem_filter.mpr ⟨List.mem_append_right _ (List.mem_of_getElem? (i := 161) rfl), rfl⟩
theorem tb_162 : (Cond.methodLink "CheckedTextModel" 37 (⟨"CheckedTextModel", "run", "(I)I"⟩ : MethodName)) ∈ ct_tb := List.mem_filter.mpr ⟨List.mem_append_right _ (List.mem_of_getElem? (i := 162) rfl), rfl⟩
theorem tb_164 : (Cond.instanceMethod (⟨"CheckedTextModel", "run", "(I)I"⟩ : MethodName)) ∈ ct_tb := List.mem_filter.mpr ⟨List.mem_append_right _ (List.mem_of_getElem? (i := 164) rfl), rfl⟩
theorem tb_165 : (Cond.code (⟨"CheckedTextModel", "run", "(I)I"⟩ : MethodName) prog_3_method_3_code 4 (some .int)) ∈ ct_tb := List.mem_filter.mpr ⟨List.mem_append_right _ (List.mem_of_getElem? (i := 165) rfl), rfl⟩
theorem tb_166 : (Cond.methodLink "CheckedTextModel" 29 (⟨"CheckedTextModel", "step", "(II)I"⟩ : MethodName)) ∈ ct_tb := List.mem_filter.mpr ⟨List.mem_append_right _ (List.mem_of_getElem? (i := 166) rfl), rfl⟩
theorem tb_167 : (Cond.static (⟨"CheckedTextModel", "step", "(II)I"⟩ : MethodName)) ∈ ct_tb := List.mem_filter.mpr ⟨List.mem_append_right _ (List.mem_of_getElem? (i := 167) rfl), rfl⟩
theorem tb_168 : (Cond.code (⟨"CheckedTextModel", "step", "(II)I"⟩ : MethodName) prog_3_method_2_code 4 (some .int)) ∈ ct_tb := List.mem_filter.mpr ⟨List.mem_append_right _ (List.mem_of_getElem? (i := 168) rfl), rfl⟩
theorem tb_169 : (Cond.constant "CheckedTextModel" 19 (33554431 : Int32)) ∈ ct_tb := List.mem_filter.mpr ⟨List.mem_append_right _ (List.mem_of_getElem? (i := 169) rfl), rfl⟩
theorem tb_170 : (Cond.constant "CheckedTextModel" 20 (996825010 : Int32)) ∈ ct_tb := List.mem_filter.mpr ⟨List.mem_append_right _ (List.mem_of_getElem? (i := 170) rfl), rfl⟩
theorem tb_171 : (Cond.constant "CheckedTextModel" 21 (642813549 : Int32)) ∈ ct_tb := List.mem_filter.mpr ⟨List.mem_append_right _ (List.mem_of_getElem? (i := 171) rfl), rfl⟩
theorem tb_172 : (Cond.constant "CheckedTextModel" 22 (513874426 : Int32)) ∈ ct_tb := List.mem_filter.mpr ⟨List.mem_append_right _ (List.mem_of_getElem? (i := 172) rfl), rfl⟩
theorem tb_173 : (Cond.constant "CheckedTextModel" 23 (1027748829 : Int32)) ∈ ct_tb := List.mem_filter.mpr ⟨List.mem_append_right _ (List.mem_of_getElem? (i := 173) rfl), rfl⟩
theorem tb_174 : (Cond.constant "CheckedTextModel" 24 (705979059 : Int32)) ∈ ct_tb := List.mem_filter.mpr ⟨List.mem_append_right _ (List.mem_of_getElem? (i := 174) rfl), rfl⟩
theorem tb_175 : (Cond.constant "CheckedTextModel" 41 (734539939 : Int32)) ∈ ct_tb := List.mem_filter.mpr ⟨List.mem_append_right _ (List.mem_of_getElem? (i := 175) rfl), rfl⟩
theorem tb_176 : (Cond.methodLink "CheckedTextLaw" 35 (⟨"CheckedTextModel", "check", "()I"⟩ : MethodName)) ∈ ct_tb := List.mem_filter.mpr ⟨List.mem_append_right _ (List.mem_of_getElem? (i := 176) rfl), rfl⟩
theorem tb_177 : (Cond.instanceMethod (⟨"CheckedTextModel", "check", "()I"⟩ : MethodName)) ∈ ct_tb := List.mem_filter.mpr ⟨List.mem_append_right _ (List.mem_of_getElem? (i := 177) rfl), rfl⟩
theorem tb_178 : (Cond.selects "CheckedTextModel" (⟨"CheckedTextModel", "check", "()I"⟩ : MethodName) (⟨"CheckedTextModel", "check", "()I"⟩ : MethodName)) ∈ ct_tb := List.mem_filter.mpr ⟨List.mem_append_right _ (List.mem_of_getElem? (i := 178) rfl), rfl⟩
theorem tb_179 : (Cond.code (⟨"CheckedTextModel", "check", "()I"⟩ : MethodName) prog_3_method_8_code 2 (some .int)) ∈ ct_tb := List.mem_filter.mpr ⟨List.mem_append_right _ (List.mem_of_getElem? (i := 179) rfl), rfl⟩
theorem tb_180 : (Cond.methodLink "CheckedTextLaw" 40 (⟨"CheckedTextModel", "spoil", "(II)Z"⟩ : MethodName)) ∈ ct_tb := List.mem_filter.mpr ⟨List.mem_append_right _ (List.mem_of_getElem? (i := 180) rfl), rfl⟩
theorem tb_181 : (Cond.instanceMethod (⟨"CheckedTextModel", "spoil", "(II)Z"⟩ : MethodName)) ∈ ct_tb := List.mem_filter.mpr ⟨List.mem_append_right _ (List.mem_of_getElem? (i := 181) rfl), rfl⟩
theorem tb_182 : (Cond.selects "CheckedTextModel" (⟨"CheckedTextModel", "spoil", "(II)Z"⟩ : MethodName) (⟨"CheckedTextModel", "spoil", "(II)Z"⟩ : MethodName)) ∈ ct_tb := List.mem_filter.mpr ⟨List.mem_append_right _ (List.mem_of_getElem? (i := 182) rfl), rfl⟩
theorem tb_183 : (Cond.code (⟨"CheckedTextModel", "spoil", "(II)Z"⟩ : MethodName) prog_3_method_9_code 4 (some .boolean)) ∈ ct_tb := List.mem_filter.mpr ⟨List.mem_append_right _ (List.mem_of_getElem? (i := 183) rfl), rfl⟩
theorem tb_184 : (Cond.methodLink "CheckedTextLaw" 45 (⟨"CheckedTextModel", "at", "(I)I"⟩ : MethodName)) ∈ ct_tb := List.mem_filter.mpr ⟨List.mem_append_right _ (List.mem_of_getElem? (i := 184) rfl), rfl⟩
theorem tb_185 : (Cond.instanceMethod (⟨"CheckedTextModel", "at", "(I)I"⟩ : MethodName)) ∈ ct_tb := List.mem_filter.mpr ⟨List.mem_append_right _ (List.mem_of_getElem? (i := 185) rfl), rfl⟩
theorem tb_186 : (Cond.selects "CheckedTextModel" (⟨"CheckedTextModel", "at", "(I)I"⟩ : MethodName) (⟨"CheckedTextModel", "at", "(I)I"⟩ : MethodName)) ∈ ct_tb := List.mem_filter.mpr ⟨List.mem_append_right _ (List.mem_of_getElem? (i := 186) rfl), rfl⟩
theorem tb_187 : (Cond.code (⟨"CheckedTextModel", "at", "(I)I"⟩ : MethodName) prog_3_method_10_code 2 (some .int)) ∈ ct_tb := List.mem_filter.mpr ⟨List.mem_append_right _ (List.mem_of_getElem? (i := 187) rfl), rfl⟩
theorem tb_188 : (Cond.methodLink "CheckedTextLaw" 49 (⟨"CheckedTextModel", "size", "()I"⟩ : MethodName)) ∈ ct_tb := List.mem_filter.mpr ⟨List.mem_append_right _ (List.mem_of_getElem? (i := 188) rfl), rfl⟩
theorem tb_189 : (Cond.instanceMethod (⟨"CheckedTextModel", "size", "()I"⟩ : MethodName)) ∈ ct_tb := List.mem_filter.mpr ⟨List.mem_append_right _ (List.mem_of_getElem? (i := 189) rfl), rfl⟩
theorem tb_190 : (Cond.selects "CheckedTextModel" (⟨"CheckedTextModel", "size", "()I"⟩ : MethodName) (⟨"CheckedTextModel", "size", "()I"⟩ : MethodName)) ∈ ct_tb := List.mem_filter.mpr ⟨List.mem_append_right _ (List.mem_of_getElem? (i := 190) rfl), rfl⟩
theorem tb_191 : (Cond.code (⟨"CheckedTextModel", "size", "()I"⟩ : MethodName) prog_3_method_11_code 1 (some .int)) ∈ ct_tb := List.mem_filter.mpr ⟨List.mem_append_right _ (List.mem_of_getElem? (i := 191) rfl), rfl⟩
theorem tb_192 : (Cond.methodLink "CheckedTextLaw" 53 (⟨"CheckedTextModel", "octet", "(I)Z"⟩ : MethodName)) ∈ ct_tb := List.mem_filter.mpr ⟨List.mem_append_right _ (List.mem_of_getElem? (i := 192) rfl), rfl⟩
theorem tb_193 : (Cond.instanceMethod (⟨"CheckedTextModel", "octet", "(I)Z"⟩ : MethodName)) ∈ ct_tb := List.mem_filter.mpr ⟨List.mem_append_right _ (List.mem_of_getElem? (i := 193) rfl), rfl⟩
theorem tb_194 : (Cond.selects "CheckedTextModel" (⟨"CheckedTextModel", "octet", "(I)Z"⟩ : MethodName) (⟨"CheckedTextModel", "octet", "(I)Z"⟩ : MethodName)) ∈ ct_tb := List.mem_filter.mpr ⟨List.mem_append_right _ (List.mem_of_getElem? (i := 194) rfl), rfl⟩
theorem tb_195 : (Cond.code (⟨"CheckedTextModel", "octet", "(I)Z"⟩ : MethodName) prog_3_method_12_code 2 (some .boolean)) ∈ ct_tb := List.mem_filter.mpr ⟨List.mem_append_right _ (List.mem_of_getElem? (i := 195) rfl), rfl⟩
theorem tb_196 : (Cond.methodLink "CheckedTextLaw" 57 (⟨"CheckedTextModel", "spread", "()I"⟩ : MethodName)) ∈ ct_tb := List.mem_filter.mpr ⟨List.mem_append_right _ (List.mem_of_getElem? (i := 196) rfl), rfl⟩
theorem tb_197 : (Cond.instanceMethod (⟨"CheckedTextModel", "spread", "()I"⟩ : MethodName)) ∈ ct_tb := List.mem_filter.mpr ⟨List.mem_append_right _ (List.mem_of_getElem? (i := 197) rfl), rfl⟩
theorem tb_198 : (Cond.selects "CheckedTextModel" (⟨"CheckedTextModel", "spread", "()I"⟩ : MethodName) (⟨"CheckedTextModel", "spread", "()I"⟩ : MethodName)) ∈ ct_tb := List.mem_filter.mpr ⟨List.mem_append_right _ (List.mem_of_getElem? (i := 198) rfl), rfl⟩
theorem tb_199 : (Cond.code (⟨"CheckedTextModel", "spread", "()I"⟩ : MethodName) prog_3_method_13_code 7 (some .int)) ∈ ct_tb := List.mem_filter.mpr ⟨List.mem_append_right _ (List.mem_of_getElem? (i := 199) rfl), rfl⟩
theorem tb_200 : (Cond.methodLink "CheckedTextLaw" 61 (⟨"CheckedTextModel", "gather", "()I"⟩ : MethodName)) ∈ ct_tb := List.mem_filter.mpr ⟨List.mem_append_right _ (List.mem_of_getElem? (i := 200) rfl), rfl⟩
theorem tb_201 : (Cond.instanceMethod (⟨"CheckedTextModel", "gather", "()I"⟩ : MethodName)) ∈ ct_tb := List.mem_filter.mpr ⟨List.mem_append_right _ (List.mem_of_getElem? (i := 201) rfl), rfl⟩
theorem tb_202 : (Cond.selects "CheckedTextModel" (⟨"CheckedTextModel", "gather", "()I"⟩ : MethodName) (⟨"CheckedTextModel", "gather", "()I"⟩ : MethodName)) ∈ ct_tb := List.mem_filter.mpr ⟨List.mem_append_right _ (List.mem_of_getElem? (i := 202) rfl), rfl⟩
theorem tb_203 : (Cond.code (⟨"CheckedTextModel", "gather", "()I"⟩ : MethodName) prog_3_method_14_code 8 (some .int)) ∈ ct_tb := List.mem_filter.mpr ⟨List.mem_append_right _ (List.mem_of_getElem? (i := 203) rfl), rfl⟩
theorem tb_204 : (Cond.methodLink "CheckedTextLaw" 65 (⟨"CheckedTextModel", "byteAt", "(I)I"⟩ : MethodName)) ∈ ct_tb := List.mem_filter.mpr ⟨List.mem_append_right _ (List.mem_of_getElem? (i := 204) rfl), rfl⟩
theorem tb_205 : (Cond.instanceMethod (⟨"CheckedTextModel", "byteAt", "(I)I"⟩ : MethodName)) ∈ ct_tb := List.mem_filter.mpr ⟨List.mem_append_right _ (List.mem_of_getElem? (i := 205) rfl), rfl⟩
theorem tb_206 : (Cond.selects "CheckedTextModel" (⟨"CheckedTextModel", "byteAt", "(I)I"⟩ : MethodName) (⟨"CheckedTextModel", "byteAt", "(I)I"⟩ : MethodName)) ∈ ct_tb := List.mem_filter.mpr ⟨List.mem_append_right _ (List.mem_of_getElem? (i := 206) rfl), rfl⟩
theorem tb_207 : (Cond.code (⟨"CheckedTextModel", "byteAt", "(I)I"⟩ : MethodName) prog_3_method_15_code 2 (some .int)) ∈ ct_tb := List.mem_filter.mpr ⟨List.mem_append_right _ (List.mem_of_getElem? (i := 207) rfl), rfl⟩
-- what a method needs: its code, and the tables
abbrev ww (y : MethodName) (b : ByteArray) (n : Nat) (r : Option FieldType) : List Cond := Cond.code y b n r :: ct_tb
theorem ct_good : ∀ w ∈ ct_tb, (w.onTables && w.keeps) = true ∨ ∃ ty, w = .arrayClass ty := by
  intro w hw
  have h1 := (List.mem_filter.mp hw).2
  by_cases hc : k2_isCode w = true
  · cases w <;> first | (simp [k2_isCode] at hc; done) | exact Or.inl rfl
  · simp only [Bool.or_eq_true] at h1
    exact good_of_word (h1.resolve_left hc)
def ok_V (own : String) (idx : Nat) (C : String) (y : MethodName) (b : ByteArray) (n : Nat) (r : Option FieldType) : Prop := Cond.methodLink own idx y ∈ ct_tb ∧ Cond.instanceMethod y ∈ ct_tb ∧ Cond.selects C y y ∈ ct_tb ∧ Cond.initialized C ∈ ct_tb ∧ Cond.code y b n r ∈ ct_tb
def ok_S (own : String) (idx : Nat) (y : MethodName) (b : ByteArray) (n : Nat) (r : Option FieldType) : Prop := Cond.methodLink own idx y ∈ ct_tb ∧ Cond.static y ∈ ct_tb ∧ Cond.initialized own ∈ ct_tb ∧ Cond.code y b n r ∈ ct_tb
theorem ok_V.good {own : String} {idx : Nat} {C : String} {y : MethodName} {b : ByteArray} {n : Nat} {r : Option FieldType} (h : ok_V own idx C y b n r) : GoodIn ct_tb (wsV own idx C y (ww y b n r)) := by
  intro w hw
  have hm : w ∈ ct_tb := by
    simp only [wsV, List.cons_append, List.nil_append, List.mem_cons] at hw
    rcases hw with h1 | h1 | h1 | h1 | h1 | h1
    · rw [h1]; exact h.1
    · rw [h1]; exact h.2.1
    · rw [h1]; exact h.2.2.1
    · rw [h1]; exact h.2.2.2.1
    · rw [h1]; exact h.2.2.2.2
    · exact h1
  exact ⟨hm, ct_good w hm⟩
theorem ok_S.good {own : String} {idx : Nat} {y : MethodName} {b : ByteArray} {n : Nat} {r : Option FieldType} (h : ok_S own idx y b n r) : GoodIn ct_tb (wsS own idx y (ww y b n r)) := by
  intro w hw
  have hm : w ∈ ct_tb := by
    simp only [wsS, List.cons_append, List.nil_append, List.mem_cons] at hw
    rcases hw with h1 | h1 | h1 | h1 | h1
    · rw [h1]; exact h.1
    · rw [h1]; exact h.2.1
    · rw [h1]; exact h.2.2.1
    · rw [h1]; exact h.2.2.2
    · exact h1
  exact ⟨hm, ct_good w hm⟩
theorem ct_goodI {y : MethodName} {b : ByteArray} {n : Nat} {r : Option FieldType} (h : Cond.code y b n r ∈ ct_tb) : GoodIn ct_tb (ww y b n r) := by
  intro w hw
  have hm : w ∈ ct_tb := by
    rcases List.mem_cons.mp hw with h1 | h1
    · rw [h1]; exact h
    · exact h1
  exact ⟨hm, ct_good w hm⟩
theorem sl_X_add : Cond.selects "CheckedText" y_X_add y_X_add ∈ ct_tb := List.mem_filter.mpr ⟨List.mem_append_left _ (List.mem_of_getElem? (i := 0) rfl), rfl⟩
theorem sl_X_sum : Cond.selects "CheckedText" y_X_sum y_X_sum ∈ ct_tb := List.mem_filter.mpr ⟨List.mem_append_left _ (List.mem_of_getElem? (i := 1) rfl), rfl⟩
theorem sl_X_headed : Cond.selects "CheckedText" y_X_headed y_X_headed ∈ ct_tb := List.mem_filter.mpr ⟨List.mem_append_left _ (List.mem_of_getElem? (i := 2) rfl), rfl⟩
theorem sl_X_on : Cond.selects "CheckedText" y_X_on y_X_on ∈ ct_tb := List.mem_filter.mpr ⟨List.mem_append_left _ (List.mem_of_getElem? (i := 3) rfl), rfl⟩
theorem sl_M_run : Cond.selects "CheckedTextModel" y_M_run y_M_run ∈ ct_tb := List.mem_filter.mpr ⟨List.mem_append_left _ (List.mem_of_getElem? (i := 4) rfl), rfl⟩
theorem ok_X_X_on : ok_V R_X 39 R_X y_X_on b_X_on 3 (some .int) := ⟨tb_79, tb_81, sl_X_on, tb_1, tb_82⟩
theorem ok_X_X_headed : ok_V R_X 43 R_X y_X_headed b_X_headed 3 (some .int) := ⟨tb_75, tb_77, sl_X_headed, tb_1, tb_78⟩
theorem ok_X_X_add : ok_V R_X 56 R_X y_X_add b_X_add 2 none := ⟨tb_59, tb_61, sl_X_add, tb_1, tb_62⟩
theorem ok_X_X_sum : ok_V R_X 60 R_X y_X_sum b_X_sum 1 (some .int) := ⟨tb_71, tb_73, sl_X_sum, tb_1, tb_74⟩
theorem ok_M_M_run : ok_V R_M 37 R_M y_M_run b_M_run 4 (some .int) := ⟨tb_162, tb_164, sl_M_run, tb_2, tb_165⟩
theorem ok_law_X_head : ok_V R_law 13 R_X y_X_head b_X_head 2 (some .boolean) := ⟨tb_47, tb_48, tb_49, tb_1, tb_50⟩
theorem ok_law_M_head : ok_V R_law 17 R_M y_M_head b_M_head 2 (some .boolean) := ⟨tb_145, tb_146, tb_147, tb_2, tb_148⟩
theorem ok_law_X_put : ok_V R_law 18 R_X y_X_put b_X_put 5 (some .boolean) := ⟨tb_55, tb_56, tb_57, tb_1, tb_58⟩
theorem ok_law_M_put : ok_V R_law 22 R_M y_M_put b_M_put 5 (some .boolean) := ⟨tb_150, tb_151, tb_152, tb_2, tb_153⟩
theorem ok_law_X_wipe : ok_V R_law 23 R_X y_X_wipe b_X_wipe 1 none := ⟨tb_63, tb_64, tb_65, tb_1, tb_66⟩
theorem ok_law_M_wipe : ok_V R_law 26 R_M y_M_wipe b_M_wipe 1 none := ⟨tb_154, tb_155, tb_156, tb_2, tb_157⟩
theorem ok_law_X_seal : ok_V R_law 27 R_X y_X_seal b_X_seal 4 (some .boolean) := ⟨tb_67, tb_68, tb_69, tb_1, tb_70⟩
theorem ok_law_M_seal : ok_V R_law 30 R_M y_M_seal b_M_seal 4 (some .boolean) := ⟨tb_158, tb_159, tb_160, tb_2, tb_161⟩
theorem ok_law_X_check : ok_V R_law 31 R_X y_X_check b_X_check 2 (some .int) := ⟨tb_85, tb_86, tb_87, tb_1, tb_88⟩
theorem ok_law_M_check : ok_V R_law 35 R_M y_M_check b_M_check 2 (some .int) := ⟨tb_176, tb_177, tb_178, tb_2, tb_179⟩
theorem ok_law_X_spoil : ok_V R_law 36 R_X y_X_spoil b_X_spoil 4 (some .boolean) := ⟨tb_89, tb_90, tb_91, tb_1, tb_92⟩
theorem ok_law_M_spoil : ok_V R_law 40 R_M y_M_spoil b_M_spoil 4 (some .boolean) := ⟨tb_180, tb_181, tb_182, tb_2, tb_183⟩
theorem ok_law_X_at : ok_V R_law 41 R_X y_X_at b_X_at 2 (some .int) := ⟨tb_96, tb_97, tb_98, tb_1, tb_99⟩
theorem ok_law_M_at : ok_V R_law 45 R_M y_M_at b_M_at 2 (some .int) := ⟨tb_184, tb_185, tb_186, tb_2, tb_187⟩
theorem ok_law_X_size : ok_V R_law 46 R_X y_X_size b_X_size 1 (some .int) := ⟨tb_100, tb_101, tb_102, tb_1, tb_103⟩
theorem ok_law_M_size : ok_V R_law 49 R_M y_M_size b_M_size 1 (some .int) := ⟨tb_188, tb_189, tb_190, tb_2, tb_191⟩
theorem ok_law_X_octet : ok_V R_law 50 R_X y_X_octet b_X_octet 2 (some .boolean) := ⟨tb_104, tb_105, tb_106, tb_1, tb_107⟩
theorem ok_law_M_octet : ok_V R_law 53 R_M y_M_octet b_M_octet 2 (some .boolean) := ⟨tb_192, tb_193, tb_194, tb_2, tb_195⟩
theorem ok_law_X_spread : ok_V R_law 54 R_X y_X_spread b_X_spread 5 (some .int) := ⟨tb_108, tb_109, tb_110, tb_1, tb_111⟩
theorem ok_law_M_spread : ok_V R_law 57 R_M y_M_spread b_M_spread 7 (some .int) := ⟨tb_196, tb_197, tb_198, tb_2, tb_199⟩
theorem ok_law_X_gather : ok_V R_law 58 R_X y_X_gather b_X_gather 6 (some .int) := ⟨tb_112, tb_113, tb_114, tb_1, tb_115⟩
theorem ok_law_M_gather : ok_V R_law 61 R_M y_M_gather b_M_gather 8 (some .int) := ⟨tb_200, tb_201, tb_202, tb_2, tb_203⟩
theorem ok_law_X_byteAt : ok_V R_law 62 R_X y_X_byteAt b_X_byteAt 2 (some .int) := ⟨tb_116, tb_117, tb_118, tb_1, tb_119⟩
theorem ok_law_M_byteAt : ok_V R_law 65 R_M y_M_byteAt b_M_byteAt 2 (some .int) := ⟨tb_204, tb_205, tb_206, tb_2, tb_207⟩
theorem ok_X_X_place : ok_S R_X 53 y_X_place b_X_place 2 (some .int) := ⟨tb_51, tb_52, tb_1, tb_53⟩
theorem ok_M_M_step : ok_S R_M 29 y_M_step b_M_step 4 (some .int) := ⟨tb_166, tb_167, tb_2, tb_168⟩
end
section
theorem d_X_init_0 : decode b_X_init 0 = .ok (.aload_n 0, 1) := by decide +kernel
theorem d_X_init_1 : decode b_X_init 1 = .ok (.invokespecial 1, 3) := by decide +kernel
theorem d_X_init_4 : decode b_X_init 4 = .ok (.aload_n 0, 1) := by decide +kernel
theorem d_X_init_5 : decode b_X_init 5 = .ok (.bipush 32, 2) := by decide +kernel
theorem d_X_init_7 : decode b_X_init 7 = .ok (.newarray .int, 2) := by decide +kernel
theorem d_X_init_9 : decode b_X_init 9 = .ok (.putfield 7, 3) := by decide +kernel
theorem d_X_init_12 : decode b_X_init 12 = .ok (.aload_n 0, 1) := by decide +kernel
theorem d_X_init_13 : decode b_X_init 13 = .ok (.bipush 8, 2) := by decide +kernel
theorem d_X_init_15 : decode b_X_init 15 = .ok (.newarray .byte, 2) := by decide +kernel
theorem d_X_init_17 : decode b_X_init 17 = .ok (.putfield 13, 3) := by decide +kernel
theorem d_X_init_20 : decode b_X_init 20 = .ok (.aload_n 0, 1) := by decide +kernel
theorem d_X_init_21 : decode b_X_init 21 = .ok (.bipush 64, 2) := by decide +kernel
theorem d_X_init_23 : decode b_X_init 23 = .ok (.newarray .byte, 2) := by decide +kernel
theorem d_X_init_25 : decode b_X_init 25 = .ok (.putfield 17, 3) := by decide +kernel
theorem d_X_init_28 : decode b_X_init 28 = .ok (.aload_n 0, 1) := by decide +kernel
theorem d_X_init_29 : decode b_X_init 29 = .ok (.bipush 40, 2) := by decide +kernel
theorem d_X_init_31 : decode b_X_init 31 = .ok (.newarray .byte, 2) := by decide +kernel
theorem d_X_init_33 : decode b_X_init 33 = .ok (.putfield 20, 3) := by decide +kernel
theorem d_X_init_36 : decode b_X_init 36 = .ok (.aload_n 0, 1) := by decide +kernel
theorem d_X_init_37 : decode b_X_init 37 = .ok (.bipush 65, 2) := by decide +kernel
theorem d_X_init_39 : decode b_X_init 39 = .ok (.newarray .int, 2) := by decide +kernel
theorem d_X_init_41 : decode b_X_init 41 = .ok (.putfield 23, 3) := by decide +kernel
theorem d_X_init_44 : decode b_X_init 44 = .ok (.aload_n 0, 1) := by decide +kernel
theorem d_X_init_45 : decode b_X_init 45 = .ok (.iconst (-1), 1) := by decide +kernel
theorem d_X_init_46 : decode b_X_init 46 = .ok (.putfield 26, 3) := by decide +kernel
theorem d_X_init_49 : decode b_X_init 49 = .ok (.aload_n 0, 1) := by decide +kernel
theorem d_X_init_50 : decode b_X_init 50 = .ok (.getfield 7, 3) := by decide +kernel
theorem d_X_init_53 : decode b_X_init 53 = .ok (.iconst 1, 1) := by decide +kernel
theorem d_X_init_54 : decode b_X_init 54 = .ok (.ldc 30, 2) := by decide +kernel
theorem d_X_init_56 : decode b_X_init 56 = .ok (.iastore, 1) := by decide +kernel
theorem d_X_init_57 : decode b_X_init 57 = .ok (.aload_n 0, 1) := by decide +kernel
theorem d_X_init_58 : decode b_X_init 58 = .ok (.getfield 7, 3) := by decide +kernel
theorem d_X_init_61 : decode b_X_init 61 = .ok (.iconst 2, 1) := by decide +kernel
theorem d_X_init_62 : decode b_X_init 62 = .ok (.ldc 31, 2) := by decide +kernel
theorem d_X_init_64 : decode b_X_init 64 = .ok (.iastore, 1) := by decide +kernel
theorem d_X_init_65 : decode b_X_init 65 = .ok (.aload_n 0, 1) := by decide +kernel
theorem d_X_init_66 : decode b_X_init 66 = .ok (.getfield 7, 3) := by decide +kernel
theorem d_X_init_69 : decode b_X_init 69 = .ok (.iconst 4, 1) := by decide +kernel
theorem d_X_init_70 : decode b_X_init 70 = .ok (.ldc 32, 2) := by decide +kernel
theorem d_X_init_72 : decode b_X_init 72 = .ok (.iastore, 1) := by decide +kernel
theorem d_X_init_73 : decode b_X_init 73 = .ok (.aload_n 0, 1) := by decide +kernel
theorem d_X_init_74 : decode b_X_init 74 = .ok (.getfield 7, 3) := by decide +kernel
theorem d_X_init_77 : decode b_X_init 77 = .ok (.bipush 8, 2) := by decide +kernel
theorem d_X_init_79 : decode b_X_init 79 = .ok (.ldc 33, 2) := by decide +kernel
theorem d_X_init_81 : decode b_X_init 81 = .ok (.iastore, 1) := by decide +kernel
theorem d_X_init_82 : decode b_X_init 82 = .ok (.aload_n 0, 1) := by decide +kernel
theorem d_X_init_83 : decode b_X_init 83 = .ok (.getfield 7, 3) := by decide +kernel
theorem d_X_init_86 : decode b_X_init 86 = .ok (.bipush 16, 2) := by decide +kernel
theorem d_X_init_88 : decode b_X_init 88 = .ok (.ldc 34, 2) := by decide +kernel
theorem d_X_init_90 : decode b_X_init 90 = .ok (.iastore, 1) := by decide +kernel
theorem d_X_init_91 : decode b_X_init 91 = .ok (.iconst 3, 1) := by decide +kernel
theorem d_X_init_92 : decode b_X_init 92 = .ok (.istore_n 1, 1) := by decide +kernel
theorem d_X_init_93 : decode b_X_init 93 = .ok (.iload_n 1, 1) := by decide +kernel
theorem d_X_init_94 : decode b_X_init 94 = .ok (.bipush 32, 2) := by decide +kernel
theorem d_X_init_96 : decode b_X_init 96 = .ok (.if_icmp .ge 40, 3) := by decide +kernel
theorem d_X_init_99 : decode b_X_init 99 = .ok (.iload_n 1, 1) := by decide +kernel
theorem d_X_init_100 : decode b_X_init 100 = .ok (.iload_n 1, 1) := by decide +kernel
theorem d_X_init_101 : decode b_X_init 101 = .ok (.iconst 1, 1) := by decide +kernel
theorem d_X_init_102 : decode b_X_init 102 = .ok (.isub, 1) := by decide +kernel
theorem d_X_init_103 : decode b_X_init 103 = .ok (.iand, 1) := by decide +kernel
theorem d_X_init_104 : decode b_X_init 104 = .ok (.istore_n 2, 1) := by decide +kernel
theorem d_X_init_105 : decode b_X_init 105 = .ok (.iload_n 2, 1) := by decide +kernel
theorem d_X_init_106 : decode b_X_init 106 = .ok (.ifCond .eq 24, 3) := by decide +kernel
theorem d_X_init_109 : decode b_X_init 109 = .ok (.aload_n 0, 1) := by decide +kernel
theorem d_X_init_110 : decode b_X_init 110 = .ok (.getfield 7, 3) := by decide +kernel
theorem d_X_init_113 : decode b_X_init 113 = .ok (.iload_n 1, 1) := by decide +kernel
theorem d_X_init_114 : decode b_X_init 114 = .ok (.aload_n 0, 1) := by decide +kernel
theorem d_X_init_115 : decode b_X_init 115 = .ok (.getfield 7, 3) := by decide +kernel
theorem d_X_init_118 : decode b_X_init 118 = .ok (.iload_n 2, 1) := by decide +kernel
theorem d_X_init_119 : decode b_X_init 119 = .ok (.iaload, 1) := by decide +kernel
theorem d_X_init_120 : decode b_X_init 120 = .ok (.aload_n 0, 1) := by decide +kernel
theorem d_X_init_121 : decode b_X_init 121 = .ok (.getfield 7, 3) := by decide +kernel
theorem d_X_init_124 : decode b_X_init 124 = .ok (.iload_n 1, 1) := by decide +kernel
theorem d_X_init_125 : decode b_X_init 125 = .ok (.iload_n 2, 1) := by decide +kernel
theorem d_X_init_126 : decode b_X_init 126 = .ok (.ixor, 1) := by decide +kernel
theorem d_X_init_127 : decode b_X_init 127 = .ok (.iaload, 1) := by decide +kernel
theorem d_X_init_128 : decode b_X_init 128 = .ok (.ixor, 1) := by decide +kernel
theorem d_X_init_129 : decode b_X_init 129 = .ok (.iastore, 1) := by decide +kernel
theorem d_X_init_130 : decode b_X_init 130 = .ok (.iinc 1 1, 3) := by decide +kernel
theorem d_X_init_133 : decode b_X_init 133 = .ok (.goto (-40), 3) := by decide +kernel
theorem d_X_init_136 : decode b_X_init 136 = .ok (.return_, 1) := by decide +kernel
theorem d_X_on_0 : decode b_X_on 0 = .ok (.iload_n 1, 1) := by decide +kernel
theorem d_X_on_1 : decode b_X_on 1 = .ok (.ldc 35, 2) := by decide +kernel
theorem d_X_on_3 : decode b_X_on 3 = .ok (.iand, 1) := by decide +kernel
theorem d_X_on_4 : decode b_X_on 4 = .ok (.iconst 5, 1) := by decide +kernel
theorem d_X_on_5 : decode b_X_on 5 = .ok (.ishl, 1) := by decide +kernel
theorem d_X_on_6 : decode b_X_on 6 = .ok (.iload_n 2, 1) := by decide +kernel
theorem d_X_on_7 : decode b_X_on 7 = .ok (.ixor, 1) := by decide +kernel
theorem d_X_on_8 : decode b_X_on 8 = .ok (.aload_n 0, 1) := by decide +kernel
theorem d_X_on_9 : decode b_X_on 9 = .ok (.getfield 7, 3) := by decide +kernel
theorem d_X_on_12 : decode b_X_on 12 = .ok (.iload_n 1, 1) := by decide +kernel
theorem d_X_on_13 : decode b_X_on 13 = .ok (.bipush 25, 2) := by decide +kernel
theorem d_X_on_15 : decode b_X_on 15 = .ok (.ishr, 1) := by decide +kernel
theorem d_X_on_16 : decode b_X_on 16 = .ok (.iaload, 1) := by decide +kernel
theorem d_X_on_17 : decode b_X_on 17 = .ok (.ixor, 1) := by decide +kernel
theorem d_X_on_18 : decode b_X_on 18 = .ok (.ireturn, 1) := by decide +kernel
theorem d_X_headed_0 : decode b_X_headed 0 = .ok (.iconst 1, 1) := by decide +kernel
theorem d_X_headed_1 : decode b_X_headed 1 = .ok (.istore_n 1, 1) := by decide +kernel
theorem d_X_headed_2 : decode b_X_headed 2 = .ok (.iconst 0, 1) := by decide +kernel
theorem d_X_headed_3 : decode b_X_headed 3 = .ok (.istore_n 2, 1) := by decide +kernel
theorem d_X_headed_4 : decode b_X_headed 4 = .ok (.iload_n 2, 1) := by decide +kernel
theorem d_X_headed_5 : decode b_X_headed 5 = .ok (.aload_n 0, 1) := by decide +kernel
theorem d_X_headed_6 : decode b_X_headed 6 = .ok (.getfield 36, 3) := by decide +kernel
theorem d_X_headed_9 : decode b_X_headed 9 = .ok (.if_icmp .ge 23, 3) := by decide +kernel
theorem d_X_headed_12 : decode b_X_headed 12 = .ok (.aload_n 0, 1) := by decide +kernel
theorem d_X_headed_13 : decode b_X_headed 13 = .ok (.iload_n 1, 1) := by decide +kernel
theorem d_X_headed_14 : decode b_X_headed 14 = .ok (.aload_n 0, 1) := by decide +kernel
theorem d_X_headed_15 : decode b_X_headed 15 = .ok (.getfield 13, 3) := by decide +kernel
theorem d_X_headed_18 : decode b_X_headed 18 = .ok (.iload_n 2, 1) := by decide +kernel
theorem d_X_headed_19 : decode b_X_headed 19 = .ok (.baload, 1) := by decide +kernel
theorem d_X_headed_20 : decode b_X_headed 20 = .ok (.iconst 5, 1) := by decide +kernel
theorem d_X_headed_21 : decode b_X_headed 21 = .ok (.ishr, 1) := by decide +kernel
theorem d_X_headed_22 : decode b_X_headed 22 = .ok (.invokevirtual 39, 3) := by decide +kernel
theorem d_X_headed_25 : decode b_X_headed 25 = .ok (.istore_n 1, 1) := by decide +kernel
theorem d_X_headed_26 : decode b_X_headed 26 = .ok (.iinc 2 1, 3) := by decide +kernel
theorem d_X_headed_29 : decode b_X_headed 29 = .ok (.goto (-25), 3) := by decide +kernel
theorem d_X_headed_32 : decode b_X_headed 32 = .ok (.aload_n 0, 1) := by decide +kernel
theorem d_X_headed_33 : decode b_X_headed 33 = .ok (.iload_n 1, 1) := by decide +kernel
theorem d_X_headed_34 : decode b_X_headed 34 = .ok (.iconst 0, 1) := by decide +kernel
theorem d_X_headed_35 : decode b_X_headed 35 = .ok (.invokevirtual 39, 3) := by decide +kernel
theorem d_X_headed_38 : decode b_X_headed 38 = .ok (.istore_n 1, 1) := by decide +kernel
theorem d_X_headed_39 : decode b_X_headed 39 = .ok (.iconst 0, 1) := by decide +kernel
theorem d_X_headed_40 : decode b_X_headed 40 = .ok (.istore_n 2, 1) := by decide +kernel
theorem d_X_headed_41 : decode b_X_headed 41 = .ok (.iload_n 2, 1) := by decide +kernel
theorem d_X_headed_42 : decode b_X_headed 42 = .ok (.aload_n 0, 1) := by decide +kernel
theorem d_X_headed_43 : decode b_X_headed 43 = .ok (.getfield 36, 3) := by decide +kernel
theorem d_X_headed_46 : decode b_X_headed 46 = .ok (.if_icmp .ge 24, 3) := by decide +kernel
theorem d_X_headed_49 : decode b_X_headed 49 = .ok (.aload_n 0, 1) := by decide +kernel
theorem d_X_headed_50 : decode b_X_headed 50 = .ok (.iload_n 1, 1) := by decide +kernel
theorem d_X_headed_51 : decode b_X_headed 51 = .ok (.aload_n 0, 1) := by decide +kernel
theorem d_X_headed_52 : decode b_X_headed 52 = .ok (.getfield 13, 3) := by decide +kernel
theorem d_X_headed_55 : decode b_X_headed 55 = .ok (.iload_n 2, 1) := by decide +kernel
theorem d_X_headed_56 : decode b_X_headed 56 = .ok (.baload, 1) := by decide +kernel
theorem d_X_headed_57 : decode b_X_headed 57 = .ok (.bipush 31, 2) := by decide +kernel
theorem d_X_headed_59 : decode b_X_headed 59 = .ok (.iand, 1) := by decide +kernel
theorem d_X_headed_60 : decode b_X_headed 60 = .ok (.invokevirtual 39, 3) := by decide +kernel
theorem d_X_headed_63 : decode b_X_headed 63 = .ok (.istore_n 1, 1) := by decide +kernel
theorem d_X_headed_64 : decode b_X_headed 64 = .ok (.iinc 2 1, 3) := by decide +kernel
theorem d_X_headed_67 : decode b_X_headed 67 = .ok (.goto (-26), 3) := by decide +kernel
theorem d_X_headed_70 : decode b_X_headed 70 = .ok (.iload_n 1, 1) := by decide +kernel
theorem d_X_headed_71 : decode b_X_headed 71 = .ok (.ireturn, 1) := by decide +kernel
theorem d_X_sum_0 : decode b_X_sum 0 = .ok (.aload_n 0, 1) := by decide +kernel
theorem d_X_sum_1 : decode b_X_sum 1 = .ok (.getfield 26, 3) := by decide +kernel
theorem d_X_sum_4 : decode b_X_sum 4 = .ok (.ifCond .ge 18, 3) := by decide +kernel
theorem d_X_sum_7 : decode b_X_sum 7 = .ok (.aload_n 0, 1) := by decide +kernel
theorem d_X_sum_8 : decode b_X_sum 8 = .ok (.getfield 23, 3) := by decide +kernel
theorem d_X_sum_11 : decode b_X_sum 11 = .ok (.iconst 0, 1) := by decide +kernel
theorem d_X_sum_12 : decode b_X_sum 12 = .ok (.aload_n 0, 1) := by decide +kernel
theorem d_X_sum_13 : decode b_X_sum 13 = .ok (.invokevirtual 43, 3) := by decide +kernel
theorem d_X_sum_16 : decode b_X_sum 16 = .ok (.iastore, 1) := by decide +kernel
theorem d_X_sum_17 : decode b_X_sum 17 = .ok (.aload_n 0, 1) := by decide +kernel
theorem d_X_sum_18 : decode b_X_sum 18 = .ok (.iconst 0, 1) := by decide +kernel
theorem d_X_sum_19 : decode b_X_sum 19 = .ok (.putfield 26, 3) := by decide +kernel
theorem d_X_sum_22 : decode b_X_sum 22 = .ok (.aload_n 0, 1) := by decide +kernel
theorem d_X_sum_23 : decode b_X_sum 23 = .ok (.getfield 26, 3) := by decide +kernel
theorem d_X_sum_26 : decode b_X_sum 26 = .ok (.aload_n 0, 1) := by decide +kernel
theorem d_X_sum_27 : decode b_X_sum 27 = .ok (.getfield 47, 3) := by decide +kernel
theorem d_X_sum_30 : decode b_X_sum 30 = .ok (.if_icmp .ge 49, 3) := by decide +kernel
theorem d_X_sum_33 : decode b_X_sum 33 = .ok (.aload_n 0, 1) := by decide +kernel
theorem d_X_sum_34 : decode b_X_sum 34 = .ok (.getfield 23, 3) := by decide +kernel
theorem d_X_sum_37 : decode b_X_sum 37 = .ok (.aload_n 0, 1) := by decide +kernel
theorem d_X_sum_38 : decode b_X_sum 38 = .ok (.getfield 26, 3) := by decide +kernel
theorem d_X_sum_41 : decode b_X_sum 41 = .ok (.iconst 1, 1) := by decide +kernel
theorem d_X_sum_42 : decode b_X_sum 42 = .ok (.iadd, 1) := by decide +kernel
theorem d_X_sum_43 : decode b_X_sum 43 = .ok (.aload_n 0, 1) := by decide +kernel
theorem d_X_sum_44 : decode b_X_sum 44 = .ok (.aload_n 0, 1) := by decide +kernel
theorem d_X_sum_45 : decode b_X_sum 45 = .ok (.getfield 23, 3) := by decide +kernel
theorem d_X_sum_48 : decode b_X_sum 48 = .ok (.aload_n 0, 1) := by decide +kernel
theorem d_X_sum_49 : decode b_X_sum 49 = .ok (.getfield 26, 3) := by decide +kernel
theorem d_X_sum_52 : decode b_X_sum 52 = .ok (.iaload, 1) := by decide +kernel
theorem d_X_sum_53 : decode b_X_sum 53 = .ok (.aload_n 0, 1) := by decide +kernel
theorem d_X_sum_54 : decode b_X_sum 54 = .ok (.getfield 17, 3) := by decide +kernel
theorem d_X_sum_57 : decode b_X_sum 57 = .ok (.aload_n 0, 1) := by decide +kernel
theorem d_X_sum_58 : decode b_X_sum 58 = .ok (.getfield 26, 3) := by decide +kernel
theorem d_X_sum_61 : decode b_X_sum 61 = .ok (.baload, 1) := by decide +kernel
theorem d_X_sum_62 : decode b_X_sum 62 = .ok (.invokevirtual 39, 3) := by decide +kernel
theorem d_X_sum_65 : decode b_X_sum 65 = .ok (.iastore, 1) := by decide +kernel
theorem d_X_sum_66 : decode b_X_sum 66 = .ok (.aload_n 0, 1) := by decide +kernel
theorem d_X_sum_67 : decode b_X_sum 67 = .ok (.dup, 1) := by decide +kernel
theorem d_X_sum_68 : decode b_X_sum 68 = .ok (.getfield 26, 3) := by decide +kernel
theorem d_X_sum_71 : decode b_X_sum 71 = .ok (.iconst 1, 1) := by decide +kernel
theorem d_X_sum_72 : decode b_X_sum 72 = .ok (.iadd, 1) := by decide +kernel
theorem d_X_sum_73 : decode b_X_sum 73 = .ok (.putfield 26, 3) := by decide +kernel
theorem d_X_sum_76 : decode b_X_sum 76 = .ok (.goto (-54), 3) := by decide +kernel
theorem d_X_sum_79 : decode b_X_sum 79 = .ok (.aload_n 0, 1) := by decide +kernel
theorem d_X_sum_80 : decode b_X_sum 80 = .ok (.getfield 23, 3) := by decide +kernel
theorem d_X_sum_83 : decode b_X_sum 83 = .ok (.aload_n 0, 1) := by decide +kernel
theorem d_X_sum_84 : decode b_X_sum 84 = .ok (.getfield 47, 3) := by decide +kernel
theorem d_X_sum_87 : decode b_X_sum 87 = .ok (.iaload, 1) := by decide +kernel
theorem d_X_sum_88 : decode b_X_sum 88 = .ok (.ireturn, 1) := by decide +kernel
theorem d_X_place_0 : decode b_X_place 0 = .ok (.iload_n 0, 1) := by decide +kernel
theorem d_X_place_1 : decode b_X_place 1 = .ok (.ldc 52, 2) := by decide +kernel
theorem d_X_place_3 : decode b_X_place 3 = .ok (.iand, 1) := by decide +kernel
theorem d_X_place_4 : decode b_X_place 4 = .ok (.iload_n 1, 1) := by decide +kernel
theorem d_X_place_5 : decode b_X_place 5 = .ok (.irem, 1) := by decide +kernel
theorem d_X_place_6 : decode b_X_place 6 = .ok (.ireturn, 1) := by decide +kernel
theorem d_X_head_0 : decode b_X_head 0 = .ok (.aload_n 0, 1) := by decide +kernel
theorem d_X_head_1 : decode b_X_head 1 = .ok (.getfield 36, 3) := by decide +kernel
theorem d_X_head_4 : decode b_X_head 4 = .ok (.bipush 8, 2) := by decide +kernel
theorem d_X_head_6 : decode b_X_head 6 = .ok (.if_icmp .ne 5, 3) := by decide +kernel
theorem d_X_head_9 : decode b_X_head 9 = .ok (.iconst 0, 1) := by decide +kernel
theorem d_X_head_10 : decode b_X_head 10 = .ok (.ireturn, 1) := by decide +kernel
theorem d_X_head_11 : decode b_X_head 11 = .ok (.aload_n 0, 1) := by decide +kernel
theorem d_X_head_12 : decode b_X_head 12 = .ok (.getfield 13, 3) := by decide +kernel
theorem d_X_head_15 : decode b_X_head 15 = .ok (.aload_n 0, 1) := by decide +kernel
theorem d_X_head_16 : decode b_X_head 16 = .ok (.dup, 1) := by decide +kernel
theorem d_X_head_17 : decode b_X_head 17 = .ok (.getfield 36, 3) := by decide +kernel
theorem d_X_head_20 : decode b_X_head 20 = .ok (.dup_x1, 1) := by decide +kernel
theorem d_X_head_21 : decode b_X_head 21 = .ok (.iconst 1, 1) := by decide +kernel
theorem d_X_head_22 : decode b_X_head 22 = .ok (.iadd, 1) := by decide +kernel
theorem d_X_head_23 : decode b_X_head 23 = .ok (.putfield 36, 3) := by decide +kernel
theorem d_X_head_26 : decode b_X_head 26 = .ok (.bipush 33, 2) := by decide +kernel
theorem d_X_head_28 : decode b_X_head 28 = .ok (.iload_n 1, 1) := by decide +kernel
theorem d_X_head_29 : decode b_X_head 29 = .ok (.bipush 94, 2) := by decide +kernel
theorem d_X_head_31 : decode b_X_head 31 = .ok (.invokestatic 53, 3) := by decide +kernel
theorem d_X_head_34 : decode b_X_head 34 = .ok (.iadd, 1) := by decide +kernel
theorem d_X_head_35 : decode b_X_head 35 = .ok (.i2b, 1) := by decide +kernel
theorem d_X_head_36 : decode b_X_head 36 = .ok (.bastore, 1) := by decide +kernel
theorem d_X_head_37 : decode b_X_head 37 = .ok (.aload_n 0, 1) := by decide +kernel
theorem d_X_head_38 : decode b_X_head 38 = .ok (.iconst (-1), 1) := by decide +kernel
theorem d_X_head_39 : decode b_X_head 39 = .ok (.putfield 26, 3) := by decide +kernel
theorem d_X_head_42 : decode b_X_head 42 = .ok (.iconst 1, 1) := by decide +kernel
theorem d_X_head_43 : decode b_X_head 43 = .ok (.ireturn, 1) := by decide +kernel
theorem d_X_add_0 : decode b_X_add 0 = .ok (.aload_n 0, 1) := by decide +kernel
theorem d_X_add_1 : decode b_X_add 1 = .ok (.getfield 17, 3) := by decide +kernel
theorem d_X_add_4 : decode b_X_add 4 = .ok (.aload_n 0, 1) := by decide +kernel
theorem d_X_add_5 : decode b_X_add 5 = .ok (.dup, 1) := by decide +kernel
theorem d_X_add_6 : decode b_X_add 6 = .ok (.getfield 47, 3) := by decide +kernel
theorem d_X_add_9 : decode b_X_add 9 = .ok (.dup_x1, 1) := by decide +kernel
theorem d_X_add_10 : decode b_X_add 10 = .ok (.iconst 1, 1) := by decide +kernel
theorem d_X_add_11 : decode b_X_add 11 = .ok (.iadd, 1) := by decide +kernel
theorem d_X_add_12 : decode b_X_add 12 = .ok (.putfield 47, 3) := by decide +kernel
theorem d_X_add_15 : decode b_X_add 15 = .ok (.iload_n 1, 1) := by decide +kernel
theorem d_X_add_16 : decode b_X_add 16 = .ok (.bipush 31, 2) := by decide +kernel
theorem d_X_add_18 : decode b_X_add 18 = .ok (.iand, 1) := by decide +kernel
theorem d_X_add_19 : decode b_X_add 19 = .ok (.i2b, 1) := by decide +kernel
theorem d_X_add_20 : decode b_X_add 20 = .ok (.bastore, 1) := by decide +kernel
theorem d_X_add_21 : decode b_X_add 21 = .ok (.return_, 1) := by decide +kernel
theorem d_X_put_0 : decode b_X_put 0 = .ok (.aload_n 0, 1) := by decide +kernel
theorem d_X_put_1 : decode b_X_put 1 = .ok (.getfield 47, 3) := by decide +kernel
theorem d_X_put_4 : decode b_X_put 4 = .ok (.iconst 4, 1) := by decide +kernel
theorem d_X_put_5 : decode b_X_put 5 = .ok (.iadd, 1) := by decide +kernel
theorem d_X_put_6 : decode b_X_put 6 = .ok (.bipush 58, 2) := by decide +kernel
theorem d_X_put_8 : decode b_X_put 8 = .ok (.if_icmp .le 5, 3) := by decide +kernel
theorem d_X_put_11 : decode b_X_put 11 = .ok (.iconst 0, 1) := by decide +kernel
theorem d_X_put_12 : decode b_X_put 12 = .ok (.ireturn, 1) := by decide +kernel
theorem d_X_put_13 : decode b_X_put 13 = .ok (.aload_n 0, 1) := by decide +kernel
theorem d_X_put_14 : decode b_X_put 14 = .ok (.iload_n 1, 1) := by decide +kernel
theorem d_X_put_15 : decode b_X_put 15 = .ok (.invokevirtual 56, 3) := by decide +kernel
theorem d_X_put_18 : decode b_X_put 18 = .ok (.aload_n 0, 1) := by decide +kernel
theorem d_X_put_19 : decode b_X_put 19 = .ok (.iload_n 2, 1) := by decide +kernel
theorem d_X_put_20 : decode b_X_put 20 = .ok (.invokevirtual 56, 3) := by decide +kernel
theorem d_X_put_23 : decode b_X_put 23 = .ok (.aload_n 0, 1) := by decide +kernel
theorem d_X_put_24 : decode b_X_put 24 = .ok (.iload_n 3, 1) := by decide +kernel
theorem d_X_put_25 : decode b_X_put 25 = .ok (.invokevirtual 56, 3) := by decide +kernel
theorem d_X_put_28 : decode b_X_put 28 = .ok (.aload_n 0, 1) := by decide +kernel
theorem d_X_put_29 : decode b_X_put 29 = .ok (.iload 4, 2) := by decide +kernel
theorem d_X_put_31 : decode b_X_put 31 = .ok (.invokevirtual 56, 3) := by decide +kernel
theorem d_X_put_34 : decode b_X_put 34 = .ok (.iconst 1, 1) := by decide +kernel
theorem d_X_put_35 : decode b_X_put 35 = .ok (.ireturn, 1) := by decide +kernel
theorem d_X_wipe_0 : decode b_X_wipe 0 = .ok (.aload_n 0, 1) := by decide +kernel
theorem d_X_wipe_1 : decode b_X_wipe 1 = .ok (.iconst 0, 1) := by decide +kernel
theorem d_X_wipe_2 : decode b_X_wipe 2 = .ok (.putfield 36, 3) := by decide +kernel
theorem d_X_wipe_5 : decode b_X_wipe 5 = .ok (.aload_n 0, 1) := by decide +kernel
theorem d_X_wipe_6 : decode b_X_wipe 6 = .ok (.iconst 0, 1) := by decide +kernel
theorem d_X_wipe_7 : decode b_X_wipe 7 = .ok (.putfield 47, 3) := by decide +kernel
theorem d_X_wipe_10 : decode b_X_wipe 10 = .ok (.aload_n 0, 1) := by decide +kernel
theorem d_X_wipe_11 : decode b_X_wipe 11 = .ok (.iconst (-1), 1) := by decide +kernel
theorem d_X_wipe_12 : decode b_X_wipe 12 = .ok (.putfield 26, 3) := by decide +kernel
theorem d_X_wipe_15 : decode b_X_wipe 15 = .ok (.return_, 1) := by decide +kernel
theorem d_X_seal_0 : decode b_X_seal 0 = .ok (.aload_n 0, 1) := by decide +kernel
theorem d_X_seal_1 : decode b_X_seal 1 = .ok (.getfield 47, 3) := by decide +kernel
theorem d_X_seal_4 : decode b_X_seal 4 = .ok (.bipush 6, 2) := by decide +kernel
theorem d_X_seal_6 : decode b_X_seal 6 = .ok (.iadd, 1) := by decide +kernel
theorem d_X_seal_7 : decode b_X_seal 7 = .ok (.bipush 64, 2) := by decide +kernel
theorem d_X_seal_9 : decode b_X_seal 9 = .ok (.if_icmp .le 5, 3) := by decide +kernel
theorem d_X_seal_12 : decode b_X_seal 12 = .ok (.iconst 0, 1) := by decide +kernel
theorem d_X_seal_13 : decode b_X_seal 13 = .ok (.ireturn, 1) := by decide +kernel
theorem d_X_seal_14 : decode b_X_seal 14 = .ok (.aload_n 0, 1) := by decide +kernel
theorem d_X_seal_15 : decode b_X_seal 15 = .ok (.invokevirtual 60, 3) := by decide +kernel
theorem d_X_seal_18 : decode b_X_seal 18 = .ok (.istore_n 2, 1) := by decide +kernel
theorem d_X_seal_19 : decode b_X_seal 19 = .ok (.iconst 0, 1) := by decide +kernel
theorem d_X_seal_20 : decode b_X_seal 20 = .ok (.istore_n 3, 1) := by decide +kernel
theorem d_X_seal_21 : decode b_X_seal 21 = .ok (.iload_n 3, 1) := by decide +kernel
theorem d_X_seal_22 : decode b_X_seal 22 = .ok (.bipush 6, 2) := by decide +kernel
theorem d_X_seal_24 : decode b_X_seal 24 = .ok (.if_icmp .ge 16, 3) := by decide +kernel
theorem d_X_seal_27 : decode b_X_seal 27 = .ok (.aload_n 0, 1) := by decide +kernel
theorem d_X_seal_28 : decode b_X_seal 28 = .ok (.iload_n 2, 1) := by decide +kernel
theorem d_X_seal_29 : decode b_X_seal 29 = .ok (.iconst 0, 1) := by decide +kernel
theorem d_X_seal_30 : decode b_X_seal 30 = .ok (.invokevirtual 39, 3) := by decide +kernel
theorem d_X_seal_33 : decode b_X_seal 33 = .ok (.istore_n 2, 1) := by decide +kernel
theorem d_X_seal_34 : decode b_X_seal 34 = .ok (.iinc 3 1, 3) := by decide +kernel
theorem d_X_seal_37 : decode b_X_seal 37 = .ok (.goto (-16), 3) := by decide +kernel
theorem d_X_seal_40 : decode b_X_seal 40 = .ok (.iload_n 2, 1) := by decide +kernel
theorem d_X_seal_41 : decode b_X_seal 41 = .ok (.iload_n 1, 1) := by decide +kernel
theorem d_X_seal_42 : decode b_X_seal 42 = .ok (.iconst 1, 1) := by decide +kernel
theorem d_X_seal_43 : decode b_X_seal 43 = .ok (.iand, 1) := by decide +kernel
theorem d_X_seal_44 : decode b_X_seal 44 = .ok (.ifCond .ne 7, 3) := by decide +kernel
theorem d_X_seal_47 : decode b_X_seal 47 = .ok (.iconst 1, 1) := by decide +kernel
theorem d_X_seal_48 : decode b_X_seal 48 = .ok (.goto 5, 3) := by decide +kernel
theorem d_X_seal_51 : decode b_X_seal 51 = .ok (.ldc 63, 2) := by decide +kernel
theorem d_X_seal_53 : decode b_X_seal 53 = .ok (.ixor, 1) := by decide +kernel
theorem d_X_seal_54 : decode b_X_seal 54 = .ok (.istore_n 2, 1) := by decide +kernel
theorem d_X_seal_55 : decode b_X_seal 55 = .ok (.bipush 25, 2) := by decide +kernel
theorem d_X_seal_57 : decode b_X_seal 57 = .ok (.istore_n 3, 1) := by decide +kernel
theorem d_X_seal_58 : decode b_X_seal 58 = .ok (.iload_n 3, 1) := by decide +kernel
theorem d_X_seal_59 : decode b_X_seal 59 = .ok (.ifCond .lt 16, 3) := by decide +kernel
theorem d_X_seal_62 : decode b_X_seal 62 = .ok (.aload_n 0, 1) := by decide +kernel
theorem d_X_seal_63 : decode b_X_seal 63 = .ok (.iload_n 2, 1) := by decide +kernel
theorem d_X_seal_64 : decode b_X_seal 64 = .ok (.iload_n 3, 1) := by decide +kernel
theorem d_X_seal_65 : decode b_X_seal 65 = .ok (.ishr, 1) := by decide +kernel
theorem d_X_seal_66 : decode b_X_seal 66 = .ok (.invokevirtual 56, 3) := by decide +kernel
theorem d_X_seal_69 : decode b_X_seal 69 = .ok (.iinc 3 (-5), 3) := by decide +kernel
theorem d_X_seal_72 : decode b_X_seal 72 = .ok (.goto (-14), 3) := by decide +kernel
theorem d_X_seal_75 : decode b_X_seal 75 = .ok (.iconst 1, 1) := by decide +kernel
theorem d_X_seal_76 : decode b_X_seal 76 = .ok (.ireturn, 1) := by decide +kernel
theorem d_X_check_0 : decode b_X_check 0 = .ok (.aload_n 0, 1) := by decide +kernel
theorem d_X_check_1 : decode b_X_check 1 = .ok (.invokevirtual 60, 3) := by decide +kernel
theorem d_X_check_4 : decode b_X_check 4 = .ok (.istore_n 1, 1) := by decide +kernel
theorem d_X_check_5 : decode b_X_check 5 = .ok (.iload_n 1, 1) := by decide +kernel
theorem d_X_check_6 : decode b_X_check 6 = .ok (.iconst 1, 1) := by decide +kernel
theorem d_X_check_7 : decode b_X_check 7 = .ok (.if_icmp .ne 7, 3) := by decide +kernel
theorem d_X_check_10 : decode b_X_check 10 = .ok (.iconst 0, 1) := by decide +kernel
theorem d_X_check_11 : decode b_X_check 11 = .ok (.goto 14, 3) := by decide +kernel
theorem d_X_check_14 : decode b_X_check 14 = .ok (.iload_n 1, 1) := by decide +kernel
theorem d_X_check_15 : decode b_X_check 15 = .ok (.ldc 63, 2) := by decide +kernel
theorem d_X_check_17 : decode b_X_check 17 = .ok (.if_icmp .ne 7, 3) := by decide +kernel
theorem d_X_check_20 : decode b_X_check 20 = .ok (.iconst 1, 1) := by decide +kernel
theorem d_X_check_21 : decode b_X_check 21 = .ok (.goto 4, 3) := by decide +kernel
theorem d_X_check_24 : decode b_X_check 24 = .ok (.iconst (-1), 1) := by decide +kernel
theorem d_X_check_25 : decode b_X_check 25 = .ok (.ireturn, 1) := by decide +kernel
theorem d_X_spoil_0 : decode b_X_spoil 0 = .ok (.aload_n 0, 1) := by decide +kernel
theorem d_X_spoil_1 : decode b_X_spoil 1 = .ok (.getfield 47, 3) := by decide +kernel
theorem d_X_spoil_4 : decode b_X_spoil 4 = .ok (.ifCond .ne 5, 3) := by decide +kernel
theorem d_X_spoil_7 : decode b_X_spoil 7 = .ok (.iconst 0, 1) := by decide +kernel
theorem d_X_spoil_8 : decode b_X_spoil 8 = .ok (.ireturn, 1) := by decide +kernel
theorem d_X_spoil_9 : decode b_X_spoil 9 = .ok (.iload_n 1, 1) := by decide +kernel
theorem d_X_spoil_10 : decode b_X_spoil 10 = .ok (.aload_n 0, 1) := by decide +kernel
theorem d_X_spoil_11 : decode b_X_spoil 11 = .ok (.getfield 47, 3) := by decide +kernel
theorem d_X_spoil_14 : decode b_X_spoil 14 = .ok (.invokestatic 53, 3) := by decide +kernel
theorem d_X_spoil_17 : decode b_X_spoil 17 = .ok (.istore_n 3, 1) := by decide +kernel
theorem d_X_spoil_18 : decode b_X_spoil 18 = .ok (.aload_n 0, 1) := by decide +kernel
theorem d_X_spoil_19 : decode b_X_spoil 19 = .ok (.getfield 17, 3) := by decide +kernel
theorem d_X_spoil_22 : decode b_X_spoil 22 = .ok (.iload_n 3, 1) := by decide +kernel
theorem d_X_spoil_23 : decode b_X_spoil 23 = .ok (.dup2, 1) := by decide +kernel
theorem d_X_spoil_24 : decode b_X_spoil 24 = .ok (.baload, 1) := by decide +kernel
theorem d_X_spoil_25 : decode b_X_spoil 25 = .ok (.iload_n 2, 1) := by decide +kernel
theorem d_X_spoil_26 : decode b_X_spoil 26 = .ok (.bipush 31, 2) := by decide +kernel
theorem d_X_spoil_28 : decode b_X_spoil 28 = .ok (.iand, 1) := by decide +kernel
theorem d_X_spoil_29 : decode b_X_spoil 29 = .ok (.i2b, 1) := by decide +kernel
theorem d_X_spoil_30 : decode b_X_spoil 30 = .ok (.ixor, 1) := by decide +kernel
theorem d_X_spoil_31 : decode b_X_spoil 31 = .ok (.i2b, 1) := by decide +kernel
theorem d_X_spoil_32 : decode b_X_spoil 32 = .ok (.bastore, 1) := by decide +kernel
theorem d_X_spoil_33 : decode b_X_spoil 33 = .ok (.aload_n 0, 1) := by decide +kernel
theorem d_X_spoil_34 : decode b_X_spoil 34 = .ok (.aload_n 0, 1) := by decide +kernel
theorem d_X_spoil_35 : decode b_X_spoil 35 = .ok (.getfield 26, 3) := by decide +kernel
theorem d_X_spoil_38 : decode b_X_spoil 38 = .ok (.iload_n 3, 1) := by decide +kernel
theorem d_X_spoil_39 : decode b_X_spoil 39 = .ok (.invokestatic 64, 3) := by decide +kernel
theorem d_X_spoil_42 : decode b_X_spoil 42 = .ok (.putfield 26, 3) := by decide +kernel
theorem d_X_spoil_45 : decode b_X_spoil 45 = .ok (.iconst 1, 1) := by decide +kernel
theorem d_X_spoil_46 : decode b_X_spoil 46 = .ok (.ireturn, 1) := by decide +kernel
theorem d_X_at_0 : decode b_X_at 0 = .ok (.aload_n 0, 1) := by decide +kernel
theorem d_X_at_1 : decode b_X_at 1 = .ok (.getfield 47, 3) := by decide +kernel
theorem d_X_at_4 : decode b_X_at 4 = .ok (.ifCond .ne 7, 3) := by decide +kernel
theorem d_X_at_7 : decode b_X_at 7 = .ok (.iconst (-1), 1) := by decide +kernel
theorem d_X_at_8 : decode b_X_at 8 = .ok (.goto 16, 3) := by decide +kernel
theorem d_X_at_11 : decode b_X_at 11 = .ok (.aload_n 0, 1) := by decide +kernel
theorem d_X_at_12 : decode b_X_at 12 = .ok (.getfield 17, 3) := by decide +kernel
theorem d_X_at_15 : decode b_X_at 15 = .ok (.iload_n 1, 1) := by decide +kernel
theorem d_X_at_16 : decode b_X_at 16 = .ok (.aload_n 0, 1) := by decide +kernel
theorem d_X_at_17 : decode b_X_at 17 = .ok (.getfield 47, 3) := by decide +kernel
theorem d_X_at_20 : decode b_X_at 20 = .ok (.invokestatic 53, 3) := by decide +kernel
theorem d_X_at_23 : decode b_X_at 23 = .ok (.baload, 1) := by decide +kernel
theorem d_X_at_24 : decode b_X_at 24 = .ok (.ireturn, 1) := by decide +kernel
theorem d_X_size_0 : decode b_X_size 0 = .ok (.aload_n 0, 1) := by decide +kernel
theorem d_X_size_1 : decode b_X_size 1 = .ok (.getfield 47, 3) := by decide +kernel
theorem d_X_size_4 : decode b_X_size 4 = .ok (.ireturn, 1) := by decide +kernel
theorem d_X_octet_0 : decode b_X_octet 0 = .ok (.aload_n 0, 1) := by decide +kernel
theorem d_X_octet_1 : decode b_X_octet 1 = .ok (.getfield 69, 3) := by decide +kernel
theorem d_X_octet_4 : decode b_X_octet 4 = .ok (.bipush 40, 2) := by decide +kernel
theorem d_X_octet_6 : decode b_X_octet 6 = .ok (.if_icmp .ne 5, 3) := by decide +kernel
theorem d_X_octet_9 : decode b_X_octet 9 = .ok (.iconst 0, 1) := by decide +kernel
theorem d_X_octet_10 : decode b_X_octet 10 = .ok (.ireturn, 1) := by decide +kernel
theorem d_X_octet_11 : decode b_X_octet 11 = .ok (.aload_n 0, 1) := by decide +kernel
theorem d_X_octet_12 : decode b_X_octet 12 = .ok (.getfield 20, 3) := by decide +kernel
theorem d_X_octet_15 : decode b_X_octet 15 = .ok (.aload_n 0, 1) := by decide +kernel
theorem d_X_octet_16 : decode b_X_octet 16 = .ok (.dup, 1) := by decide +kernel
theorem d_X_octet_17 : decode b_X_octet 17 = .ok (.getfield 69, 3) := by decide +kernel
theorem d_X_octet_20 : decode b_X_octet 20 = .ok (.dup_x1, 1) := by decide +kernel
theorem d_X_octet_21 : decode b_X_octet 21 = .ok (.iconst 1, 1) := by decide +kernel
theorem d_X_octet_22 : decode b_X_octet 22 = .ok (.iadd, 1) := by decide +kernel
theorem d_X_octet_23 : decode b_X_octet 23 = .ok (.putfield 69, 3) := by decide +kernel
theorem d_X_octet_26 : decode b_X_octet 26 = .ok (.iload_n 1, 1) := by decide +kernel
theorem d_X_octet_27 : decode b_X_octet 27 = .ok (.i2b, 1) := by decide +kernel
theorem d_X_octet_28 : decode b_X_octet 28 = .ok (.bastore, 1) := by decide +kernel
theorem d_X_octet_29 : decode b_X_octet 29 = .ok (.iconst 1, 1) := by decide +kernel
theorem d_X_octet_30 : decode b_X_octet 30 = .ok (.ireturn, 1) := by decide +kernel
theorem d_X_spread_0 : decode b_X_spread 0 = .ok (.bipush 8, 2) := by decide +kernel
theorem d_X_spread_2 : decode b_X_spread 2 = .ok (.aload_n 0, 1) := by decide +kernel
theorem d_X_spread_3 : decode b_X_spread 3 = .ok (.getfield 69, 3) := by decide +kernel
theorem d_X_spread_6 : decode b_X_spread 6 = .ok (.imul, 1) := by decide +kernel
theorem d_X_spread_7 : decode b_X_spread 7 = .ok (.iconst 4, 1) := by decide +kernel
theorem d_X_spread_8 : decode b_X_spread 8 = .ok (.iadd, 1) := by decide +kernel
theorem d_X_spread_9 : decode b_X_spread 9 = .ok (.iconst 5, 1) := by decide +kernel
theorem d_X_spread_10 : decode b_X_spread 10 = .ok (.idiv, 1) := by decide +kernel
theorem d_X_spread_11 : decode b_X_spread 11 = .ok (.istore_n 1, 1) := by decide +kernel
theorem d_X_spread_12 : decode b_X_spread 12 = .ok (.iload_n 1, 1) := by decide +kernel
theorem d_X_spread_13 : decode b_X_spread 13 = .ok (.bipush 58, 2) := by decide +kernel
theorem d_X_spread_15 : decode b_X_spread 15 = .ok (.if_icmp .le 5, 3) := by decide +kernel
theorem d_X_spread_18 : decode b_X_spread 18 = .ok (.iconst (-1), 1) := by decide +kernel
theorem d_X_spread_19 : decode b_X_spread 19 = .ok (.ireturn, 1) := by decide +kernel
theorem d_X_spread_20 : decode b_X_spread 20 = .ok (.aload_n 0, 1) := by decide +kernel
theorem d_X_spread_21 : decode b_X_spread 21 = .ok (.iconst 0, 1) := by decide +kernel
theorem d_X_spread_22 : decode b_X_spread 22 = .ok (.putfield 47, 3) := by decide +kernel
theorem d_X_spread_25 : decode b_X_spread 25 = .ok (.aload_n 0, 1) := by decide +kernel
theorem d_X_spread_26 : decode b_X_spread 26 = .ok (.aload_n 0, 1) := by decide +kernel
theorem d_X_spread_27 : decode b_X_spread 27 = .ok (.getfield 26, 3) := by decide +kernel
theorem d_X_spread_30 : decode b_X_spread 30 = .ok (.iconst 0, 1) := by decide +kernel
theorem d_X_spread_31 : decode b_X_spread 31 = .ok (.invokestatic 64, 3) := by decide +kernel
theorem d_X_spread_34 : decode b_X_spread 34 = .ok (.putfield 26, 3) := by decide +kernel
theorem d_X_spread_37 : decode b_X_spread 37 = .ok (.iconst 0, 1) := by decide +kernel
theorem d_X_spread_38 : decode b_X_spread 38 = .ok (.istore_n 2, 1) := by decide +kernel
theorem d_X_spread_39 : decode b_X_spread 39 = .ok (.iconst 0, 1) := by decide +kernel
theorem d_X_spread_40 : decode b_X_spread 40 = .ok (.istore_n 3, 1) := by decide +kernel
theorem d_X_spread_41 : decode b_X_spread 41 = .ok (.iconst 0, 1) := by decide +kernel
theorem d_X_spread_42 : decode b_X_spread 42 = .ok (.istore 4, 2) := by decide +kernel
theorem d_X_spread_44 : decode b_X_spread 44 = .ok (.iload 4, 2) := by decide +kernel
theorem d_X_spread_46 : decode b_X_spread 46 = .ok (.aload_n 0, 1) := by decide +kernel
theorem d_X_spread_47 : decode b_X_spread 47 = .ok (.getfield 69, 3) := by decide +kernel
theorem d_X_spread_50 : decode b_X_spread 50 = .ok (.if_icmp .ge 53, 3) := by decide +kernel
theorem d_X_spread_53 : decode b_X_spread 53 = .ok (.iload_n 2, 1) := by decide +kernel
theorem d_X_spread_54 : decode b_X_spread 54 = .ok (.bipush 8, 2) := by decide +kernel
theorem d_X_spread_56 : decode b_X_spread 56 = .ok (.ishl, 1) := by decide +kernel
theorem d_X_spread_57 : decode b_X_spread 57 = .ok (.aload_n 0, 1) := by decide +kernel
theorem d_X_spread_58 : decode b_X_spread 58 = .ok (.getfield 20, 3) := by decide +kernel
theorem d_X_spread_61 : decode b_X_spread 61 = .ok (.iload 4, 2) := by decide +kernel
theorem d_X_spread_63 : decode b_X_spread 63 = .ok (.baload, 1) := by decide +kernel
theorem d_X_spread_64 : decode b_X_spread 64 = .ok (.sipush 255, 3) := by decide +kernel
theorem d_X_spread_67 : decode b_X_spread 67 = .ok (.iand, 1) := by decide +kernel
theorem d_X_spread_68 : decode b_X_spread 68 = .ok (.ior, 1) := by decide +kernel
theorem d_X_spread_69 : decode b_X_spread 69 = .ok (.sipush 4095, 3) := by decide +kernel
theorem d_X_spread_72 : decode b_X_spread 72 = .ok (.iand, 1) := by decide +kernel
theorem d_X_spread_73 : decode b_X_spread 73 = .ok (.istore_n 2, 1) := by decide +kernel
theorem d_X_spread_74 : decode b_X_spread 74 = .ok (.iinc 3 8, 3) := by decide +kernel
theorem d_X_spread_77 : decode b_X_spread 77 = .ok (.iload_n 3, 1) := by decide +kernel
theorem d_X_spread_78 : decode b_X_spread 78 = .ok (.iconst 5, 1) := by decide +kernel
theorem d_X_spread_79 : decode b_X_spread 79 = .ok (.if_icmp .lt 18, 3) := by decide +kernel
theorem d_X_spread_82 : decode b_X_spread 82 = .ok (.aload_n 0, 1) := by decide +kernel
theorem d_X_spread_83 : decode b_X_spread 83 = .ok (.iload_n 2, 1) := by decide +kernel
theorem d_X_spread_84 : decode b_X_spread 84 = .ok (.iload_n 3, 1) := by decide +kernel
theorem d_X_spread_85 : decode b_X_spread 85 = .ok (.iconst 5, 1) := by decide +kernel
theorem d_X_spread_86 : decode b_X_spread 86 = .ok (.isub, 1) := by decide +kernel
theorem d_X_spread_87 : decode b_X_spread 87 = .ok (.ishr, 1) := by decide +kernel
theorem d_X_spread_88 : decode b_X_spread 88 = .ok (.invokevirtual 56, 3) := by decide +kernel
theorem d_X_spread_91 : decode b_X_spread 91 = .ok (.iinc 3 (-5), 3) := by decide +kernel
theorem d_X_spread_94 : decode b_X_spread 94 = .ok (.goto (-17), 3) := by decide +kernel
theorem d_X_spread_97 : decode b_X_spread 97 = .ok (.iinc 4 1, 3) := by decide +kernel
theorem d_X_spread_100 : decode b_X_spread 100 = .ok (.goto (-56), 3) := by decide +kernel
theorem d_X_spread_103 : decode b_X_spread 103 = .ok (.iload_n 3, 1) := by decide +kernel
theorem d_X_spread_104 : decode b_X_spread 104 = .ok (.ifCond .le 12, 3) := by decide +kernel
theorem d_X_spread_107 : decode b_X_spread 107 = .ok (.aload_n 0, 1) := by decide +kernel
theorem d_X_spread_108 : decode b_X_spread 108 = .ok (.iload_n 2, 1) := by decide +kernel
theorem d_X_spread_109 : decode b_X_spread 109 = .ok (.iconst 5, 1) := by decide +kernel
theorem d_X_spread_110 : decode b_X_spread 110 = .ok (.iload_n 3, 1) := by decide +kernel
theorem d_X_spread_111 : decode b_X_spread 111 = .ok (.isub, 1) := by decide +kernel
theorem d_X_spread_112 : decode b_X_spread 112 = .ok (.ishl, 1) := by decide +kernel
theorem d_X_spread_113 : decode b_X_spread 113 = .ok (.invokevirtual 56, 3) := by decide +kernel
theorem d_X_spread_116 : decode b_X_spread 116 = .ok (.aload_n 0, 1) := by decide +kernel
theorem d_X_spread_117 : decode b_X_spread 117 = .ok (.getfield 47, 3) := by decide +kernel
theorem d_X_spread_120 : decode b_X_spread 120 = .ok (.ireturn, 1) := by decide +kernel
theorem d_X_gather_0 : decode b_X_gather 0 = .ok (.iconst 5, 1) := by decide +kernel
theorem d_X_gather_1 : decode b_X_gather 1 = .ok (.aload_n 0, 1) := by decide +kernel
theorem d_X_gather_2 : decode b_X_gather 2 = .ok (.getfield 47, 3) := by decide +kernel
theorem d_X_gather_5 : decode b_X_gather 5 = .ok (.imul, 1) := by decide +kernel
theorem d_X_gather_6 : decode b_X_gather 6 = .ok (.bipush 8, 2) := by decide +kernel
theorem d_X_gather_8 : decode b_X_gather 8 = .ok (.idiv, 1) := by decide +kernel
theorem d_X_gather_9 : decode b_X_gather 9 = .ok (.istore_n 1, 1) := by decide +kernel
theorem d_X_gather_10 : decode b_X_gather 10 = .ok (.iconst 5, 1) := by decide +kernel
theorem d_X_gather_11 : decode b_X_gather 11 = .ok (.aload_n 0, 1) := by decide +kernel
theorem d_X_gather_12 : decode b_X_gather 12 = .ok (.getfield 47, 3) := by decide +kernel
theorem d_X_gather_15 : decode b_X_gather 15 = .ok (.imul, 1) := by decide +kernel
theorem d_X_gather_16 : decode b_X_gather 16 = .ok (.bipush 8, 2) := by decide +kernel
theorem d_X_gather_18 : decode b_X_gather 18 = .ok (.irem, 1) := by decide +kernel
theorem d_X_gather_19 : decode b_X_gather 19 = .ok (.istore_n 2, 1) := by decide +kernel
theorem d_X_gather_20 : decode b_X_gather 20 = .ok (.iload_n 1, 1) := by decide +kernel
theorem d_X_gather_21 : decode b_X_gather 21 = .ok (.bipush 40, 2) := by decide +kernel
theorem d_X_gather_23 : decode b_X_gather 23 = .ok (.if_icmp .gt 32, 3) := by decide +kernel
theorem d_X_gather_26 : decode b_X_gather 26 = .ok (.iload_n 2, 1) := by decide +kernel
theorem d_X_gather_27 : decode b_X_gather 27 = .ok (.iconst 4, 1) := by decide +kernel
theorem d_X_gather_28 : decode b_X_gather 28 = .ok (.if_icmp .gt 27, 3) := by decide +kernel
theorem d_X_gather_31 : decode b_X_gather 31 = .ok (.iload_n 2, 1) := by decide +kernel
theorem d_X_gather_32 : decode b_X_gather 32 = .ok (.ifCond .le 25, 3) := by decide +kernel
theorem d_X_gather_35 : decode b_X_gather 35 = .ok (.aload_n 0, 1) := by decide +kernel
theorem d_X_gather_36 : decode b_X_gather 36 = .ok (.getfield 17, 3) := by decide +kernel
theorem d_X_gather_39 : decode b_X_gather 39 = .ok (.aload_n 0, 1) := by decide +kernel
theorem d_X_gather_40 : decode b_X_gather 40 = .ok (.getfield 47, 3) := by decide +kernel
theorem d_X_gather_43 : decode b_X_gather 43 = .ok (.iconst 1, 1) := by decide +kernel
theorem d_X_gather_44 : decode b_X_gather 44 = .ok (.isub, 1) := by decide +kernel
theorem d_X_gather_45 : decode b_X_gather 45 = .ok (.baload, 1) := by decide +kernel
theorem d_X_gather_46 : decode b_X_gather 46 = .ok (.iconst 1, 1) := by decide +kernel
theorem d_X_gather_47 : decode b_X_gather 47 = .ok (.iload_n 2, 1) := by decide +kernel
theorem d_X_gather_48 : decode b_X_gather 48 = .ok (.ishl, 1) := by decide +kernel
theorem d_X_gather_49 : decode b_X_gather 49 = .ok (.iconst 1, 1) := by decide +kernel
theorem d_X_gather_50 : decode b_X_gather 50 = .ok (.isub, 1) := by decide +kernel
theorem d_X_gather_51 : decode b_X_gather 51 = .ok (.iand, 1) := by decide +kernel
theorem d_X_gather_52 : decode b_X_gather 52 = .ok (.ifCond .eq 5, 3) := by decide +kernel
theorem d_X_gather_55 : decode b_X_gather 55 = .ok (.iconst (-1), 1) := by decide +kernel
theorem d_X_gather_56 : decode b_X_gather 56 = .ok (.ireturn, 1) := by decide +kernel
theorem d_X_gather_57 : decode b_X_gather 57 = .ok (.iconst 0, 1) := by decide +kernel
theorem d_X_gather_58 : decode b_X_gather 58 = .ok (.istore_n 3, 1) := by decide +kernel
theorem d_X_gather_59 : decode b_X_gather 59 = .ok (.iconst 0, 1) := by decide +kernel
theorem d_X_gather_60 : decode b_X_gather 60 = .ok (.istore 4, 2) := by decide +kernel
theorem d_X_gather_62 : decode b_X_gather 62 = .ok (.aload_n 0, 1) := by decide +kernel
theorem d_X_gather_63 : decode b_X_gather 63 = .ok (.iconst 0, 1) := by decide +kernel
theorem d_X_gather_64 : decode b_X_gather 64 = .ok (.putfield 69, 3) := by decide +kernel
theorem d_X_gather_67 : decode b_X_gather 67 = .ok (.iconst 0, 1) := by decide +kernel
theorem d_X_gather_68 : decode b_X_gather 68 = .ok (.istore 5, 2) := by decide +kernel
theorem d_X_gather_70 : decode b_X_gather 70 = .ok (.iload 5, 2) := by decide +kernel
theorem d_X_gather_72 : decode b_X_gather 72 = .ok (.aload_n 0, 1) := by decide +kernel
theorem d_X_gather_73 : decode b_X_gather 73 = .ok (.getfield 47, 3) := by decide +kernel
theorem d_X_gather_76 : decode b_X_gather 76 = .ok (.if_icmp .ge 62, 3) := by decide +kernel
theorem d_X_gather_79 : decode b_X_gather 79 = .ok (.iload_n 3, 1) := by decide +kernel
theorem d_X_gather_80 : decode b_X_gather 80 = .ok (.iconst 5, 1) := by decide +kernel
theorem d_X_gather_81 : decode b_X_gather 81 = .ok (.ishl, 1) := by decide +kernel
theorem d_X_gather_82 : decode b_X_gather 82 = .ok (.aload_n 0, 1) := by decide +kernel
theorem d_X_gather_83 : decode b_X_gather 83 = .ok (.getfield 17, 3) := by decide +kernel
theorem d_X_gather_86 : decode b_X_gather 86 = .ok (.iload 5, 2) := by decide +kernel
theorem d_X_gather_88 : decode b_X_gather 88 = .ok (.baload, 1) := by decide +kernel
theorem d_X_gather_89 : decode b_X_gather 89 = .ok (.ior, 1) := by decide +kernel
theorem d_X_gather_90 : decode b_X_gather 90 = .ok (.sipush 4095, 3) := by decide +kernel
theorem d_X_gather_93 : decode b_X_gather 93 = .ok (.iand, 1) := by decide +kernel
theorem d_X_gather_94 : decode b_X_gather 94 = .ok (.istore_n 3, 1) := by decide +kernel
theorem d_X_gather_95 : decode b_X_gather 95 = .ok (.iinc 4 5, 3) := by decide +kernel
theorem d_X_gather_98 : decode b_X_gather 98 = .ok (.iload 4, 2) := by decide +kernel
theorem d_X_gather_100 : decode b_X_gather 100 = .ok (.bipush 8, 2) := by decide +kernel
theorem d_X_gather_102 : decode b_X_gather 102 = .ok (.if_icmp .ge 6, 3) := by decide +kernel
theorem d_X_gather_105 : decode b_X_gather 105 = .ok (.goto 27, 3) := by decide +kernel
theorem d_X_gather_108 : decode b_X_gather 108 = .ok (.iinc 4 (-8), 3) := by decide +kernel
theorem d_X_gather_111 : decode b_X_gather 111 = .ok (.aload_n 0, 1) := by decide +kernel
theorem d_X_gather_112 : decode b_X_gather 112 = .ok (.getfield 20, 3) := by decide +kernel
theorem d_X_gather_115 : decode b_X_gather 115 = .ok (.aload_n 0, 1) := by decide +kernel
theorem d_X_gather_116 : decode b_X_gather 116 = .ok (.dup, 1) := by decide +kernel
theorem d_X_gather_117 : decode b_X_gather 117 = .ok (.getfield 69, 3) := by decide +kernel
theorem d_X_gather_120 : decode b_X_gather 120 = .ok (.dup_x1, 1) := by decide +kernel
theorem d_X_gather_121 : decode b_X_gather 121 = .ok (.iconst 1, 1) := by decide +kernel
theorem d_X_gather_122 : decode b_X_gather 122 = .ok (.iadd, 1) := by decide +kernel
theorem d_X_gather_123 : decode b_X_gather 123 = .ok (.putfield 69, 3) := by decide +kernel
theorem d_X_gather_126 : decode b_X_gather 126 = .ok (.iload_n 3, 1) := by decide +kernel
theorem d_X_gather_127 : decode b_X_gather 127 = .ok (.iload 4, 2) := by decide +kernel
theorem d_X_gather_129 : decode b_X_gather 129 = .ok (.ishr, 1) := by decide +kernel
theorem d_X_gather_130 : decode b_X_gather 130 = .ok (.i2b, 1) := by decide +kernel
theorem d_X_gather_131 : decode b_X_gather 131 = .ok (.bastore, 1) := by decide +kernel
theorem d_X_gather_132 : decode b_X_gather 132 = .ok (.iinc 5 1, 3) := by decide +kernel
theorem d_X_gather_135 : decode b_X_gather 135 = .ok (.goto (-65), 3) := by decide +kernel
theorem d_X_gather_138 : decode b_X_gather 138 = .ok (.aload_n 0, 1) := by decide +kernel
theorem d_X_gather_139 : decode b_X_gather 139 = .ok (.getfield 69, 3) := by decide +kernel
theorem d_X_gather_142 : decode b_X_gather 142 = .ok (.ireturn, 1) := by decide +kernel
theorem d_X_byteAt_0 : decode b_X_byteAt 0 = .ok (.aload_n 0, 1) := by decide +kernel
theorem d_X_byteAt_1 : decode b_X_byteAt 1 = .ok (.getfield 69, 3) := by decide +kernel
theorem d_X_byteAt_4 : decode b_X_byteAt 4 = .ok (.ifCond .ne 7, 3) := by decide +kernel
theorem d_X_byteAt_7 : decode b_X_byteAt 7 = .ok (.iconst (-1), 1) := by decide +kernel
theorem d_X_byteAt_8 : decode b_X_byteAt 8 = .ok (.goto 20, 3) := by decide +kernel
theorem d_X_byteAt_11 : decode b_X_byteAt 11 = .ok (.aload_n 0, 1) := by decide +kernel
theorem d_X_byteAt_12 : decode b_X_byteAt 12 = .ok (.getfield 20, 3) := by decide +kernel
theorem d_X_byteAt_15 : decode b_X_byteAt 15 = .ok (.iload_n 1, 1) := by decide +kernel
theorem d_X_byteAt_16 : decode b_X_byteAt 16 = .ok (.aload_n 0, 1) := by decide +kernel
theorem d_X_byteAt_17 : decode b_X_byteAt 17 = .ok (.getfield 69, 3) := by decide +kernel
theorem d_X_byteAt_20 : decode b_X_byteAt 20 = .ok (.invokestatic 53, 3) := by decide +kernel
theorem d_X_byteAt_23 : decode b_X_byteAt 23 = .ok (.baload, 1) := by decide +kernel
theorem d_X_byteAt_24 : decode b_X_byteAt 24 = .ok (.sipush 255, 3) := by decide +kernel
theorem d_X_byteAt_27 : decode b_X_byteAt 27 = .ok (.iand, 1) := by decide +kernel
theorem d_X_byteAt_28 : decode b_X_byteAt 28 = .ok (.ireturn, 1) := by decide +kernel
end
section
theorem d_M_init_0 : decode b_M_init 0 = .ok (.aload_n 0, 1) := by decide +kernel
theorem d_M_init_1 : decode b_M_init 1 = .ok (.invokespecial 1, 3) := by decide +kernel
theorem d_M_init_4 : decode b_M_init 4 = .ok (.aload_n 0, 1) := by decide +kernel
theorem d_M_init_5 : decode b_M_init 5 = .ok (.bipush 8, 2) := by decide +kernel
theorem d_M_init_7 : decode b_M_init 7 = .ok (.newarray .int, 2) := by decide +kernel
theorem d_M_init_9 : decode b_M_init 9 = .ok (.putfield 7, 3) := by decide +kernel
theorem d_M_init_12 : decode b_M_init 12 = .ok (.aload_n 0, 1) := by decide +kernel
theorem d_M_init_13 : decode b_M_init 13 = .ok (.bipush 64, 2) := by decide +kernel
theorem d_M_init_15 : decode b_M_init 15 = .ok (.newarray .int, 2) := by decide +kernel
theorem d_M_init_17 : decode b_M_init 17 = .ok (.putfield 13, 3) := by decide +kernel
theorem d_M_init_20 : decode b_M_init 20 = .ok (.aload_n 0, 1) := by decide +kernel
theorem d_M_init_21 : decode b_M_init 21 = .ok (.bipush 40, 2) := by decide +kernel
theorem d_M_init_23 : decode b_M_init 23 = .ok (.newarray .int, 2) := by decide +kernel
theorem d_M_init_25 : decode b_M_init 25 = .ok (.putfield 16, 3) := by decide +kernel
theorem d_M_init_28 : decode b_M_init 28 = .ok (.return_, 1) := by decide +kernel
theorem d_M_step_0 : decode b_M_step 0 = .ok (.iload_n 0, 1) := by decide +kernel
theorem d_M_step_1 : decode b_M_step 1 = .ok (.bipush 25, 2) := by decide +kernel
theorem d_M_step_3 : decode b_M_step 3 = .ok (.iushr, 1) := by decide +kernel
theorem d_M_step_4 : decode b_M_step 4 = .ok (.istore_n 2, 1) := by decide +kernel
theorem d_M_step_5 : decode b_M_step 5 = .ok (.iload_n 0, 1) := by decide +kernel
theorem d_M_step_6 : decode b_M_step 6 = .ok (.ldc 19, 2) := by decide +kernel
theorem d_M_step_8 : decode b_M_step 8 = .ok (.iand, 1) := by decide +kernel
theorem d_M_step_9 : decode b_M_step 9 = .ok (.iconst 5, 1) := by decide +kernel
theorem d_M_step_10 : decode b_M_step 10 = .ok (.ishl, 1) := by decide +kernel
theorem d_M_step_11 : decode b_M_step 11 = .ok (.iload_n 1, 1) := by decide +kernel
theorem d_M_step_12 : decode b_M_step 12 = .ok (.ixor, 1) := by decide +kernel
theorem d_M_step_13 : decode b_M_step 13 = .ok (.istore_n 3, 1) := by decide +kernel
theorem d_M_step_14 : decode b_M_step 14 = .ok (.iload_n 3, 1) := by decide +kernel
theorem d_M_step_15 : decode b_M_step 15 = .ok (.iload_n 2, 1) := by decide +kernel
theorem d_M_step_16 : decode b_M_step 16 = .ok (.iconst 1, 1) := by decide +kernel
theorem d_M_step_17 : decode b_M_step 17 = .ok (.iand, 1) := by decide +kernel
theorem d_M_step_18 : decode b_M_step 18 = .ok (.ifCond .eq 8, 3) := by decide +kernel
theorem d_M_step_21 : decode b_M_step 21 = .ok (.ldc 20, 2) := by decide +kernel
theorem d_M_step_23 : decode b_M_step 23 = .ok (.goto 4, 3) := by decide +kernel
theorem d_M_step_26 : decode b_M_step 26 = .ok (.iconst 0, 1) := by decide +kernel
theorem d_M_step_27 : decode b_M_step 27 = .ok (.ixor, 1) := by decide +kernel
theorem d_M_step_28 : decode b_M_step 28 = .ok (.iload_n 2, 1) := by decide +kernel
theorem d_M_step_29 : decode b_M_step 29 = .ok (.iconst 2, 1) := by decide +kernel
theorem d_M_step_30 : decode b_M_step 30 = .ok (.iand, 1) := by decide +kernel
theorem d_M_step_31 : decode b_M_step 31 = .ok (.ifCond .eq 8, 3) := by decide +kernel
theorem d_M_step_34 : decode b_M_step 34 = .ok (.ldc 21, 2) := by decide +kernel
theorem d_M_step_36 : decode b_M_step 36 = .ok (.goto 4, 3) := by decide +kernel
theorem d_M_step_39 : decode b_M_step 39 = .ok (.iconst 0, 1) := by decide +kernel
theorem d_M_step_40 : decode b_M_step 40 = .ok (.ixor, 1) := by decide +kernel
theorem d_M_step_41 : decode b_M_step 41 = .ok (.iload_n 2, 1) := by decide +kernel
theorem d_M_step_42 : decode b_M_step 42 = .ok (.iconst 4, 1) := by decide +kernel
theorem d_M_step_43 : decode b_M_step 43 = .ok (.iand, 1) := by decide +kernel
theorem d_M_step_44 : decode b_M_step 44 = .ok (.ifCond .eq 8, 3) := by decide +kernel
theorem d_M_step_47 : decode b_M_step 47 = .ok (.ldc 22, 2) := by decide +kernel
theorem d_M_step_49 : decode b_M_step 49 = .ok (.goto 4, 3) := by decide +kernel
theorem d_M_step_52 : decode b_M_step 52 = .ok (.iconst 0, 1) := by decide +kernel
theorem d_M_step_53 : decode b_M_step 53 = .ok (.ixor, 1) := by decide +kernel
theorem d_M_step_54 : decode b_M_step 54 = .ok (.iload_n 2, 1) := by decide +kernel
theorem d_M_step_55 : decode b_M_step 55 = .ok (.bipush 8, 2) := by decide +kernel
theorem d_M_step_57 : decode b_M_step 57 = .ok (.iand, 1) := by decide +kernel
theorem d_M_step_58 : decode b_M_step 58 = .ok (.ifCond .eq 8, 3) := by decide +kernel
theorem d_M_step_61 : decode b_M_step 61 = .ok (.ldc 23, 2) := by decide +kernel
theorem d_M_step_63 : decode b_M_step 63 = .ok (.goto 4, 3) := by decide +kernel
theorem d_M_step_66 : decode b_M_step 66 = .ok (.iconst 0, 1) := by decide +kernel
theorem d_M_step_67 : decode b_M_step 67 = .ok (.ixor, 1) := by decide +kernel
theorem d_M_step_68 : decode b_M_step 68 = .ok (.iload_n 2, 1) := by decide +kernel
theorem d_M_step_69 : decode b_M_step 69 = .ok (.bipush 16, 2) := by decide +kernel
theorem d_M_step_71 : decode b_M_step 71 = .ok (.iand, 1) := by decide +kernel
theorem d_M_step_72 : decode b_M_step 72 = .ok (.ifCond .eq 8, 3) := by decide +kernel
theorem d_M_step_75 : decode b_M_step 75 = .ok (.ldc 24, 2) := by decide +kernel
theorem d_M_step_77 : decode b_M_step 77 = .ok (.goto 4, 3) := by decide +kernel
theorem d_M_step_80 : decode b_M_step 80 = .ok (.iconst 0, 1) := by decide +kernel
theorem d_M_step_81 : decode b_M_step 81 = .ok (.ixor, 1) := by decide +kernel
theorem d_M_step_82 : decode b_M_step 82 = .ok (.istore_n 3, 1) := by decide +kernel
theorem d_M_step_83 : decode b_M_step 83 = .ok (.iload_n 3, 1) := by decide +kernel
theorem d_M_step_84 : decode b_M_step 84 = .ok (.ireturn, 1) := by decide +kernel
theorem d_M_run_0 : decode b_M_run 0 = .ok (.iconst 1, 1) := by decide +kernel
theorem d_M_run_1 : decode b_M_run 1 = .ok (.istore_n 2, 1) := by decide +kernel
theorem d_M_run_2 : decode b_M_run 2 = .ok (.iconst 0, 1) := by decide +kernel
theorem d_M_run_3 : decode b_M_run 3 = .ok (.istore_n 3, 1) := by decide +kernel
theorem d_M_run_4 : decode b_M_run 4 = .ok (.iload_n 3, 1) := by decide +kernel
theorem d_M_run_5 : decode b_M_run 5 = .ok (.aload_n 0, 1) := by decide +kernel
theorem d_M_run_6 : decode b_M_run 6 = .ok (.getfield 25, 3) := by decide +kernel
theorem d_M_run_9 : decode b_M_run 9 = .ok (.if_icmp .ge 22, 3) := by decide +kernel
theorem d_M_run_12 : decode b_M_run 12 = .ok (.iload_n 2, 1) := by decide +kernel
theorem d_M_run_13 : decode b_M_run 13 = .ok (.aload_n 0, 1) := by decide +kernel
theorem d_M_run_14 : decode b_M_run 14 = .ok (.getfield 7, 3) := by decide +kernel
theorem d_M_run_17 : decode b_M_run 17 = .ok (.iload_n 3, 1) := by decide +kernel
theorem d_M_run_18 : decode b_M_run 18 = .ok (.iaload, 1) := by decide +kernel
theorem d_M_run_19 : decode b_M_run 19 = .ok (.iconst 5, 1) := by decide +kernel
theorem d_M_run_20 : decode b_M_run 20 = .ok (.ishr, 1) := by decide +kernel
theorem d_M_run_21 : decode b_M_run 21 = .ok (.invokestatic 29, 3) := by decide +kernel
theorem d_M_run_24 : decode b_M_run 24 = .ok (.istore_n 2, 1) := by decide +kernel
theorem d_M_run_25 : decode b_M_run 25 = .ok (.iinc 3 1, 3) := by decide +kernel
theorem d_M_run_28 : decode b_M_run 28 = .ok (.goto (-24), 3) := by decide +kernel
theorem d_M_run_31 : decode b_M_run 31 = .ok (.iload_n 2, 1) := by decide +kernel
theorem d_M_run_32 : decode b_M_run 32 = .ok (.iconst 0, 1) := by decide +kernel
theorem d_M_run_33 : decode b_M_run 33 = .ok (.invokestatic 29, 3) := by decide +kernel
theorem d_M_run_36 : decode b_M_run 36 = .ok (.istore_n 2, 1) := by decide +kernel
theorem d_M_run_37 : decode b_M_run 37 = .ok (.iconst 0, 1) := by decide +kernel
theorem d_M_run_38 : decode b_M_run 38 = .ok (.istore_n 3, 1) := by decide +kernel
theorem d_M_run_39 : decode b_M_run 39 = .ok (.iload_n 3, 1) := by decide +kernel
theorem d_M_run_40 : decode b_M_run 40 = .ok (.aload_n 0, 1) := by decide +kernel
theorem d_M_run_41 : decode b_M_run 41 = .ok (.getfield 25, 3) := by decide +kernel
theorem d_M_run_44 : decode b_M_run 44 = .ok (.if_icmp .ge 23, 3) := by decide +kernel
theorem d_M_run_47 : decode b_M_run 47 = .ok (.iload_n 2, 1) := by decide +kernel
theorem d_M_run_48 : decode b_M_run 48 = .ok (.aload_n 0, 1) := by decide +kernel
theorem d_M_run_49 : decode b_M_run 49 = .ok (.getfield 7, 3) := by decide +kernel
theorem d_M_run_52 : decode b_M_run 52 = .ok (.iload_n 3, 1) := by decide +kernel
theorem d_M_run_53 : decode b_M_run 53 = .ok (.iaload, 1) := by decide +kernel
theorem d_M_run_54 : decode b_M_run 54 = .ok (.bipush 31, 2) := by decide +kernel
theorem d_M_run_56 : decode b_M_run 56 = .ok (.iand, 1) := by decide +kernel
theorem d_M_run_57 : decode b_M_run 57 = .ok (.invokestatic 29, 3) := by decide +kernel
theorem d_M_run_60 : decode b_M_run 60 = .ok (.istore_n 2, 1) := by decide +kernel
theorem d_M_run_61 : decode b_M_run 61 = .ok (.iinc 3 1, 3) := by decide +kernel
theorem d_M_run_64 : decode b_M_run 64 = .ok (.goto (-25), 3) := by decide +kernel
theorem d_M_run_67 : decode b_M_run 67 = .ok (.iconst 0, 1) := by decide +kernel
theorem d_M_run_68 : decode b_M_run 68 = .ok (.istore_n 3, 1) := by decide +kernel
theorem d_M_run_69 : decode b_M_run 69 = .ok (.iload_n 3, 1) := by decide +kernel
theorem d_M_run_70 : decode b_M_run 70 = .ok (.aload_n 0, 1) := by decide +kernel
theorem d_M_run_71 : decode b_M_run 71 = .ok (.getfield 33, 3) := by decide +kernel
theorem d_M_run_74 : decode b_M_run 74 = .ok (.if_icmp .ge 20, 3) := by decide +kernel
theorem d_M_run_77 : decode b_M_run 77 = .ok (.iload_n 2, 1) := by decide +kernel
theorem d_M_run_78 : decode b_M_run 78 = .ok (.aload_n 0, 1) := by decide +kernel
theorem d_M_run_79 : decode b_M_run 79 = .ok (.getfield 13, 3) := by decide +kernel
theorem d_M_run_82 : decode b_M_run 82 = .ok (.iload_n 3, 1) := by decide +kernel
theorem d_M_run_83 : decode b_M_run 83 = .ok (.iaload, 1) := by decide +kernel
theorem d_M_run_84 : decode b_M_run 84 = .ok (.invokestatic 29, 3) := by decide +kernel
theorem d_M_run_87 : decode b_M_run 87 = .ok (.istore_n 2, 1) := by decide +kernel
theorem d_M_run_88 : decode b_M_run 88 = .ok (.iinc 3 1, 3) := by decide +kernel
theorem d_M_run_91 : decode b_M_run 91 = .ok (.goto (-22), 3) := by decide +kernel
theorem d_M_run_94 : decode b_M_run 94 = .ok (.iconst 0, 1) := by decide +kernel
theorem d_M_run_95 : decode b_M_run 95 = .ok (.istore_n 3, 1) := by decide +kernel
theorem d_M_run_96 : decode b_M_run 96 = .ok (.iload_n 3, 1) := by decide +kernel
theorem d_M_run_97 : decode b_M_run 97 = .ok (.iload_n 1, 1) := by decide +kernel
theorem d_M_run_98 : decode b_M_run 98 = .ok (.if_icmp .ge 15, 3) := by decide +kernel
theorem d_M_run_101 : decode b_M_run 101 = .ok (.iload_n 2, 1) := by decide +kernel
theorem d_M_run_102 : decode b_M_run 102 = .ok (.iconst 0, 1) := by decide +kernel
theorem d_M_run_103 : decode b_M_run 103 = .ok (.invokestatic 29, 3) := by decide +kernel
theorem d_M_run_106 : decode b_M_run 106 = .ok (.istore_n 2, 1) := by decide +kernel
theorem d_M_run_107 : decode b_M_run 107 = .ok (.iinc 3 1, 3) := by decide +kernel
theorem d_M_run_110 : decode b_M_run 110 = .ok (.goto (-14), 3) := by decide +kernel
theorem d_M_run_113 : decode b_M_run 113 = .ok (.iload_n 2, 1) := by decide +kernel
theorem d_M_run_114 : decode b_M_run 114 = .ok (.ireturn, 1) := by decide +kernel
theorem d_M_head_0 : decode b_M_head 0 = .ok (.aload_n 0, 1) := by decide +kernel
theorem d_M_head_1 : decode b_M_head 1 = .ok (.getfield 25, 3) := by decide +kernel
theorem d_M_head_4 : decode b_M_head 4 = .ok (.bipush 8, 2) := by decide +kernel
theorem d_M_head_6 : decode b_M_head 6 = .ok (.if_icmp .ne 5, 3) := by decide +kernel
theorem d_M_head_9 : decode b_M_head 9 = .ok (.iconst 0, 1) := by decide +kernel
theorem d_M_head_10 : decode b_M_head 10 = .ok (.ireturn, 1) := by decide +kernel
theorem d_M_head_11 : decode b_M_head 11 = .ok (.aload_n 0, 1) := by decide +kernel
theorem d_M_head_12 : decode b_M_head 12 = .ok (.getfield 7, 3) := by decide +kernel
theorem d_M_head_15 : decode b_M_head 15 = .ok (.aload_n 0, 1) := by decide +kernel
theorem d_M_head_16 : decode b_M_head 16 = .ok (.getfield 25, 3) := by decide +kernel
theorem d_M_head_19 : decode b_M_head 19 = .ok (.bipush 33, 2) := by decide +kernel
theorem d_M_head_21 : decode b_M_head 21 = .ok (.iload_n 1, 1) := by decide +kernel
theorem d_M_head_22 : decode b_M_head 22 = .ok (.ldc 36, 2) := by decide +kernel
theorem d_M_head_24 : decode b_M_head 24 = .ok (.iand, 1) := by decide +kernel
theorem d_M_head_25 : decode b_M_head 25 = .ok (.bipush 94, 2) := by decide +kernel
theorem d_M_head_27 : decode b_M_head 27 = .ok (.irem, 1) := by decide +kernel
theorem d_M_head_28 : decode b_M_head 28 = .ok (.iadd, 1) := by decide +kernel
theorem d_M_head_29 : decode b_M_head 29 = .ok (.iastore, 1) := by decide +kernel
theorem d_M_head_30 : decode b_M_head 30 = .ok (.aload_n 0, 1) := by decide +kernel
theorem d_M_head_31 : decode b_M_head 31 = .ok (.aload_n 0, 1) := by decide +kernel
theorem d_M_head_32 : decode b_M_head 32 = .ok (.getfield 25, 3) := by decide +kernel
theorem d_M_head_35 : decode b_M_head 35 = .ok (.iconst 1, 1) := by decide +kernel
theorem d_M_head_36 : decode b_M_head 36 = .ok (.iadd, 1) := by decide +kernel
theorem d_M_head_37 : decode b_M_head 37 = .ok (.putfield 25, 3) := by decide +kernel
theorem d_M_head_40 : decode b_M_head 40 = .ok (.iconst 1, 1) := by decide +kernel
theorem d_M_head_41 : decode b_M_head 41 = .ok (.ireturn, 1) := by decide +kernel
theorem d_M_put_0 : decode b_M_put 0 = .ok (.aload_n 0, 1) := by decide +kernel
theorem d_M_put_1 : decode b_M_put 1 = .ok (.getfield 33, 3) := by decide +kernel
theorem d_M_put_4 : decode b_M_put 4 = .ok (.iconst 4, 1) := by decide +kernel
theorem d_M_put_5 : decode b_M_put 5 = .ok (.iadd, 1) := by decide +kernel
theorem d_M_put_6 : decode b_M_put 6 = .ok (.bipush 58, 2) := by decide +kernel
theorem d_M_put_8 : decode b_M_put 8 = .ok (.if_icmp .le 5, 3) := by decide +kernel
theorem d_M_put_11 : decode b_M_put 11 = .ok (.iconst 0, 1) := by decide +kernel
theorem d_M_put_12 : decode b_M_put 12 = .ok (.ireturn, 1) := by decide +kernel
theorem d_M_put_13 : decode b_M_put 13 = .ok (.aload_n 0, 1) := by decide +kernel
theorem d_M_put_14 : decode b_M_put 14 = .ok (.getfield 13, 3) := by decide +kernel
theorem d_M_put_17 : decode b_M_put 17 = .ok (.aload_n 0, 1) := by decide +kernel
theorem d_M_put_18 : decode b_M_put 18 = .ok (.getfield 33, 3) := by decide +kernel
theorem d_M_put_21 : decode b_M_put 21 = .ok (.iload_n 1, 1) := by decide +kernel
theorem d_M_put_22 : decode b_M_put 22 = .ok (.bipush 31, 2) := by decide +kernel
theorem d_M_put_24 : decode b_M_put 24 = .ok (.iand, 1) := by decide +kernel
theorem d_M_put_25 : decode b_M_put 25 = .ok (.iastore, 1) := by decide +kernel
theorem d_M_put_26 : decode b_M_put 26 = .ok (.aload_n 0, 1) := by decide +kernel
theorem d_M_put_27 : decode b_M_put 27 = .ok (.getfield 13, 3) := by decide +kernel
theorem d_M_put_30 : decode b_M_put 30 = .ok (.aload_n 0, 1) := by decide +kernel
theorem d_M_put_31 : decode b_M_put 31 = .ok (.getfield 33, 3) := by decide +kernel
theorem d_M_put_34 : decode b_M_put 34 = .ok (.iconst 1, 1) := by decide +kernel
theorem d_M_put_35 : decode b_M_put 35 = .ok (.iadd, 1) := by decide +kernel
theorem d_M_put_36 : decode b_M_put 36 = .ok (.iload_n 2, 1) := by decide +kernel
theorem d_M_put_37 : decode b_M_put 37 = .ok (.bipush 31, 2) := by decide +kernel
theorem d_M_put_39 : decode b_M_put 39 = .ok (.iand, 1) := by decide +kernel
theorem d_M_put_40 : decode b_M_put 40 = .ok (.iastore, 1) := by decide +kernel
theorem d_M_put_41 : decode b_M_put 41 = .ok (.aload_n 0, 1) := by decide +kernel
theorem d_M_put_42 : decode b_M_put 42 = .ok (.getfield 13, 3) := by decide +kernel
theorem d_M_put_45 : decode b_M_put 45 = .ok (.aload_n 0, 1) := by decide +kernel
theorem d_M_put_46 : decode b_M_put 46 = .ok (.getfield 33, 3) := by decide +kernel
theorem d_M_put_49 : decode b_M_put 49 = .ok (.iconst 2, 1) := by decide +kernel
theorem d_M_put_50 : decode b_M_put 50 = .ok (.iadd, 1) := by decide +kernel
theorem d_M_put_51 : decode b_M_put 51 = .ok (.iload_n 3, 1) := by decide +kernel
theorem d_M_put_52 : decode b_M_put 52 = .ok (.bipush 31, 2) := by decide +kernel
theorem d_M_put_54 : decode b_M_put 54 = .ok (.iand, 1) := by decide +kernel
theorem d_M_put_55 : decode b_M_put 55 = .ok (.iastore, 1) := by decide +kernel
theorem d_M_put_56 : decode b_M_put 56 = .ok (.aload_n 0, 1) := by decide +kernel
theorem d_M_put_57 : decode b_M_put 57 = .ok (.getfield 13, 3) := by decide +kernel
theorem d_M_put_60 : decode b_M_put 60 = .ok (.aload_n 0, 1) := by decide +kernel
theorem d_M_put_61 : decode b_M_put 61 = .ok (.getfield 33, 3) := by decide +kernel
theorem d_M_put_64 : decode b_M_put 64 = .ok (.iconst 3, 1) := by decide +kernel
theorem d_M_put_65 : decode b_M_put 65 = .ok (.iadd, 1) := by decide +kernel
theorem d_M_put_66 : decode b_M_put 66 = .ok (.iload 4, 2) := by decide +kernel
theorem d_M_put_68 : decode b_M_put 68 = .ok (.bipush 31, 2) := by decide +kernel
theorem d_M_put_70 : decode b_M_put 70 = .ok (.iand, 1) := by decide +kernel
theorem d_M_put_71 : decode b_M_put 71 = .ok (.iastore, 1) := by decide +kernel
theorem d_M_put_72 : decode b_M_put 72 = .ok (.aload_n 0, 1) := by decide +kernel
theorem d_M_put_73 : decode b_M_put 73 = .ok (.aload_n 0, 1) := by decide +kernel
theorem d_M_put_74 : decode b_M_put 74 = .ok (.getfield 33, 3) := by decide +kernel
theorem d_M_put_77 : decode b_M_put 77 = .ok (.iconst 4, 1) := by decide +kernel
theorem d_M_put_78 : decode b_M_put 78 = .ok (.iadd, 1) := by decide +kernel
theorem d_M_put_79 : decode b_M_put 79 = .ok (.putfield 33, 3) := by decide +kernel
theorem d_M_put_82 : decode b_M_put 82 = .ok (.iconst 1, 1) := by decide +kernel
theorem d_M_put_83 : decode b_M_put 83 = .ok (.ireturn, 1) := by decide +kernel
theorem d_M_wipe_0 : decode b_M_wipe 0 = .ok (.aload_n 0, 1) := by decide +kernel
theorem d_M_wipe_1 : decode b_M_wipe 1 = .ok (.iconst 0, 1) := by decide +kernel
theorem d_M_wipe_2 : decode b_M_wipe 2 = .ok (.putfield 25, 3) := by decide +kernel
theorem d_M_wipe_5 : decode b_M_wipe 5 = .ok (.aload_n 0, 1) := by decide +kernel
theorem d_M_wipe_6 : decode b_M_wipe 6 = .ok (.iconst 0, 1) := by decide +kernel
theorem d_M_wipe_7 : decode b_M_wipe 7 = .ok (.putfield 33, 3) := by decide +kernel
theorem d_M_wipe_10 : decode b_M_wipe 10 = .ok (.return_, 1) := by decide +kernel
theorem d_M_seal_0 : decode b_M_seal 0 = .ok (.aload_n 0, 1) := by decide +kernel
theorem d_M_seal_1 : decode b_M_seal 1 = .ok (.getfield 33, 3) := by decide +kernel
theorem d_M_seal_4 : decode b_M_seal 4 = .ok (.bipush 6, 2) := by decide +kernel
theorem d_M_seal_6 : decode b_M_seal 6 = .ok (.iadd, 1) := by decide +kernel
theorem d_M_seal_7 : decode b_M_seal 7 = .ok (.bipush 64, 2) := by decide +kernel
theorem d_M_seal_9 : decode b_M_seal 9 = .ok (.if_icmp .le 5, 3) := by decide +kernel
theorem d_M_seal_12 : decode b_M_seal 12 = .ok (.iconst 0, 1) := by decide +kernel
theorem d_M_seal_13 : decode b_M_seal 13 = .ok (.ireturn, 1) := by decide +kernel
theorem d_M_seal_14 : decode b_M_seal 14 = .ok (.aload_n 0, 1) := by decide +kernel
theorem d_M_seal_15 : decode b_M_seal 15 = .ok (.bipush 6, 2) := by decide +kernel
theorem d_M_seal_17 : decode b_M_seal 17 = .ok (.invokevirtual 37, 3) := by decide +kernel
theorem d_M_seal_20 : decode b_M_seal 20 = .ok (.iload_n 1, 1) := by decide +kernel
theorem d_M_seal_21 : decode b_M_seal 21 = .ok (.iconst 1, 1) := by decide +kernel
theorem d_M_seal_22 : decode b_M_seal 22 = .ok (.iand, 1) := by decide +kernel
theorem d_M_seal_23 : decode b_M_seal 23 = .ok (.ifCond .ne 7, 3) := by decide +kernel
theorem d_M_seal_26 : decode b_M_seal 26 = .ok (.iconst 1, 1) := by decide +kernel
theorem d_M_seal_27 : decode b_M_seal 27 = .ok (.goto 5, 3) := by decide +kernel
theorem d_M_seal_30 : decode b_M_seal 30 = .ok (.ldc 41, 2) := by decide +kernel
theorem d_M_seal_32 : decode b_M_seal 32 = .ok (.ixor, 1) := by decide +kernel
theorem d_M_seal_33 : decode b_M_seal 33 = .ok (.istore_n 2, 1) := by decide +kernel
theorem d_M_seal_34 : decode b_M_seal 34 = .ok (.iconst 0, 1) := by decide +kernel
theorem d_M_seal_35 : decode b_M_seal 35 = .ok (.istore_n 3, 1) := by decide +kernel
theorem d_M_seal_36 : decode b_M_seal 36 = .ok (.iload_n 3, 1) := by decide +kernel
theorem d_M_seal_37 : decode b_M_seal 37 = .ok (.bipush 6, 2) := by decide +kernel
theorem d_M_seal_39 : decode b_M_seal 39 = .ok (.if_icmp .ge 38, 3) := by decide +kernel
theorem d_M_seal_42 : decode b_M_seal 42 = .ok (.aload_n 0, 1) := by decide +kernel
theorem d_M_seal_43 : decode b_M_seal 43 = .ok (.getfield 13, 3) := by decide +kernel
theorem d_M_seal_46 : decode b_M_seal 46 = .ok (.aload_n 0, 1) := by decide +kernel
theorem d_M_seal_47 : decode b_M_seal 47 = .ok (.getfield 33, 3) := by decide +kernel
theorem d_M_seal_50 : decode b_M_seal 50 = .ok (.iload_n 2, 1) := by decide +kernel
theorem d_M_seal_51 : decode b_M_seal 51 = .ok (.iconst 5, 1) := by decide +kernel
theorem d_M_seal_52 : decode b_M_seal 52 = .ok (.iconst 5, 1) := by decide +kernel
theorem d_M_seal_53 : decode b_M_seal 53 = .ok (.iload_n 3, 1) := by decide +kernel
theorem d_M_seal_54 : decode b_M_seal 54 = .ok (.isub, 1) := by decide +kernel
theorem d_M_seal_55 : decode b_M_seal 55 = .ok (.imul, 1) := by decide +kernel
theorem d_M_seal_56 : decode b_M_seal 56 = .ok (.ishr, 1) := by decide +kernel
theorem d_M_seal_57 : decode b_M_seal 57 = .ok (.bipush 31, 2) := by decide +kernel
theorem d_M_seal_59 : decode b_M_seal 59 = .ok (.iand, 1) := by decide +kernel
theorem d_M_seal_60 : decode b_M_seal 60 = .ok (.iastore, 1) := by decide +kernel
theorem d_M_seal_61 : decode b_M_seal 61 = .ok (.aload_n 0, 1) := by decide +kernel
theorem d_M_seal_62 : decode b_M_seal 62 = .ok (.aload_n 0, 1) := by decide +kernel
theorem d_M_seal_63 : decode b_M_seal 63 = .ok (.getfield 33, 3) := by decide +kernel
theorem d_M_seal_66 : decode b_M_seal 66 = .ok (.iconst 1, 1) := by decide +kernel
theorem d_M_seal_67 : decode b_M_seal 67 = .ok (.iadd, 1) := by decide +kernel
theorem d_M_seal_68 : decode b_M_seal 68 = .ok (.putfield 33, 3) := by decide +kernel
theorem d_M_seal_71 : decode b_M_seal 71 = .ok (.iinc 3 1, 3) := by decide +kernel
theorem d_M_seal_74 : decode b_M_seal 74 = .ok (.goto (-38), 3) := by decide +kernel
theorem d_M_seal_77 : decode b_M_seal 77 = .ok (.iconst 1, 1) := by decide +kernel
theorem d_M_seal_78 : decode b_M_seal 78 = .ok (.ireturn, 1) := by decide +kernel
theorem d_M_check_0 : decode b_M_check 0 = .ok (.aload_n 0, 1) := by decide +kernel
theorem d_M_check_1 : decode b_M_check 1 = .ok (.iconst 0, 1) := by decide +kernel
theorem d_M_check_2 : decode b_M_check 2 = .ok (.invokevirtual 37, 3) := by decide +kernel
theorem d_M_check_5 : decode b_M_check 5 = .ok (.istore_n 1, 1) := by decide +kernel
theorem d_M_check_6 : decode b_M_check 6 = .ok (.iload_n 1, 1) := by decide +kernel
theorem d_M_check_7 : decode b_M_check 7 = .ok (.iconst 1, 1) := by decide +kernel
theorem d_M_check_8 : decode b_M_check 8 = .ok (.if_icmp .ne 7, 3) := by decide +kernel
theorem d_M_check_11 : decode b_M_check 11 = .ok (.iconst 0, 1) := by decide +kernel
theorem d_M_check_12 : decode b_M_check 12 = .ok (.goto 14, 3) := by decide +kernel
theorem d_M_check_15 : decode b_M_check 15 = .ok (.iload_n 1, 1) := by decide +kernel
theorem d_M_check_16 : decode b_M_check 16 = .ok (.ldc 41, 2) := by decide +kernel
theorem d_M_check_18 : decode b_M_check 18 = .ok (.if_icmp .ne 7, 3) := by decide +kernel
theorem d_M_check_21 : decode b_M_check 21 = .ok (.iconst 1, 1) := by decide +kernel
theorem d_M_check_22 : decode b_M_check 22 = .ok (.goto 4, 3) := by decide +kernel
theorem d_M_check_25 : decode b_M_check 25 = .ok (.iconst (-1), 1) := by decide +kernel
theorem d_M_check_26 : decode b_M_check 26 = .ok (.ireturn, 1) := by decide +kernel
theorem d_M_spoil_0 : decode b_M_spoil 0 = .ok (.aload_n 0, 1) := by decide +kernel
theorem d_M_spoil_1 : decode b_M_spoil 1 = .ok (.getfield 33, 3) := by decide +kernel
theorem d_M_spoil_4 : decode b_M_spoil 4 = .ok (.ifCond .ne 5, 3) := by decide +kernel
theorem d_M_spoil_7 : decode b_M_spoil 7 = .ok (.iconst 0, 1) := by decide +kernel
theorem d_M_spoil_8 : decode b_M_spoil 8 = .ok (.ireturn, 1) := by decide +kernel
theorem d_M_spoil_9 : decode b_M_spoil 9 = .ok (.iload_n 1, 1) := by decide +kernel
theorem d_M_spoil_10 : decode b_M_spoil 10 = .ok (.ldc 36, 2) := by decide +kernel
theorem d_M_spoil_12 : decode b_M_spoil 12 = .ok (.iand, 1) := by decide +kernel
theorem d_M_spoil_13 : decode b_M_spoil 13 = .ok (.aload_n 0, 1) := by decide +kernel
theorem d_M_spoil_14 : decode b_M_spoil 14 = .ok (.getfield 33, 3) := by decide +kernel
theorem d_M_spoil_17 : decode b_M_spoil 17 = .ok (.irem, 1) := by decide +kernel
theorem d_M_spoil_18 : decode b_M_spoil 18 = .ok (.istore_n 3, 1) := by decide +kernel
theorem d_M_spoil_19 : decode b_M_spoil 19 = .ok (.aload_n 0, 1) := by decide +kernel
theorem d_M_spoil_20 : decode b_M_spoil 20 = .ok (.getfield 13, 3) := by decide +kernel
theorem d_M_spoil_23 : decode b_M_spoil 23 = .ok (.iload_n 3, 1) := by decide +kernel
theorem d_M_spoil_24 : decode b_M_spoil 24 = .ok (.aload_n 0, 1) := by decide +kernel
theorem d_M_spoil_25 : decode b_M_spoil 25 = .ok (.getfield 13, 3) := by decide +kernel
theorem d_M_spoil_28 : decode b_M_spoil 28 = .ok (.iload_n 3, 1) := by decide +kernel
theorem d_M_spoil_29 : decode b_M_spoil 29 = .ok (.iaload, 1) := by decide +kernel
theorem d_M_spoil_30 : decode b_M_spoil 30 = .ok (.iload_n 2, 1) := by decide +kernel
theorem d_M_spoil_31 : decode b_M_spoil 31 = .ok (.bipush 31, 2) := by decide +kernel
theorem d_M_spoil_33 : decode b_M_spoil 33 = .ok (.iand, 1) := by decide +kernel
theorem d_M_spoil_34 : decode b_M_spoil 34 = .ok (.ixor, 1) := by decide +kernel
theorem d_M_spoil_35 : decode b_M_spoil 35 = .ok (.iastore, 1) := by decide +kernel
theorem d_M_spoil_36 : decode b_M_spoil 36 = .ok (.iconst 1, 1) := by decide +kernel
theorem d_M_spoil_37 : decode b_M_spoil 37 = .ok (.ireturn, 1) := by decide +kernel
theorem d_M_at_0 : decode b_M_at 0 = .ok (.aload_n 0, 1) := by decide +kernel
theorem d_M_at_1 : decode b_M_at 1 = .ok (.getfield 33, 3) := by decide +kernel
theorem d_M_at_4 : decode b_M_at 4 = .ok (.ifCond .ne 7, 3) := by decide +kernel
theorem d_M_at_7 : decode b_M_at 7 = .ok (.iconst (-1), 1) := by decide +kernel
theorem d_M_at_8 : decode b_M_at 8 = .ok (.goto 17, 3) := by decide +kernel
theorem d_M_at_11 : decode b_M_at 11 = .ok (.aload_n 0, 1) := by decide +kernel
theorem d_M_at_12 : decode b_M_at 12 = .ok (.getfield 13, 3) := by decide +kernel
theorem d_M_at_15 : decode b_M_at 15 = .ok (.iload_n 1, 1) := by decide +kernel
theorem d_M_at_16 : decode b_M_at 16 = .ok (.ldc 36, 2) := by decide +kernel
theorem d_M_at_18 : decode b_M_at 18 = .ok (.iand, 1) := by decide +kernel
theorem d_M_at_19 : decode b_M_at 19 = .ok (.aload_n 0, 1) := by decide +kernel
theorem d_M_at_20 : decode b_M_at 20 = .ok (.getfield 33, 3) := by decide +kernel
theorem d_M_at_23 : decode b_M_at 23 = .ok (.irem, 1) := by decide +kernel
theorem d_M_at_24 : decode b_M_at 24 = .ok (.iaload, 1) := by decide +kernel
theorem d_M_at_25 : decode b_M_at 25 = .ok (.ireturn, 1) := by decide +kernel
theorem d_M_size_0 : decode b_M_size 0 = .ok (.aload_n 0, 1) := by decide +kernel
theorem d_M_size_1 : decode b_M_size 1 = .ok (.getfield 33, 3) := by decide +kernel
theorem d_M_size_4 : decode b_M_size 4 = .ok (.ireturn, 1) := by decide +kernel
theorem d_M_octet_0 : decode b_M_octet 0 = .ok (.aload_n 0, 1) := by decide +kernel
theorem d_M_octet_1 : decode b_M_octet 1 = .ok (.getfield 42, 3) := by decide +kernel
theorem d_M_octet_4 : decode b_M_octet 4 = .ok (.bipush 40, 2) := by decide +kernel
theorem d_M_octet_6 : decode b_M_octet 6 = .ok (.if_icmp .ne 5, 3) := by decide +kernel
theorem d_M_octet_9 : decode b_M_octet 9 = .ok (.iconst 0, 1) := by decide +kernel
theorem d_M_octet_10 : decode b_M_octet 10 = .ok (.ireturn, 1) := by decide +kernel
theorem d_M_octet_11 : decode b_M_octet 11 = .ok (.aload_n 0, 1) := by decide +kernel
theorem d_M_octet_12 : decode b_M_octet 12 = .ok (.getfield 16, 3) := by decide +kernel
theorem d_M_octet_15 : decode b_M_octet 15 = .ok (.aload_n 0, 1) := by decide +kernel
theorem d_M_octet_16 : decode b_M_octet 16 = .ok (.getfield 42, 3) := by decide +kernel
theorem d_M_octet_19 : decode b_M_octet 19 = .ok (.iload_n 1, 1) := by decide +kernel
theorem d_M_octet_20 : decode b_M_octet 20 = .ok (.sipush 255, 3) := by decide +kernel
theorem d_M_octet_23 : decode b_M_octet 23 = .ok (.iand, 1) := by decide +kernel
theorem d_M_octet_24 : decode b_M_octet 24 = .ok (.iastore, 1) := by decide +kernel
theorem d_M_octet_25 : decode b_M_octet 25 = .ok (.aload_n 0, 1) := by decide +kernel
theorem d_M_octet_26 : decode b_M_octet 26 = .ok (.aload_n 0, 1) := by decide +kernel
theorem d_M_octet_27 : decode b_M_octet 27 = .ok (.getfield 42, 3) := by decide +kernel
theorem d_M_octet_30 : decode b_M_octet 30 = .ok (.iconst 1, 1) := by decide +kernel
theorem d_M_octet_31 : decode b_M_octet 31 = .ok (.iadd, 1) := by decide +kernel
theorem d_M_octet_32 : decode b_M_octet 32 = .ok (.putfield 42, 3) := by decide +kernel
theorem d_M_octet_35 : decode b_M_octet 35 = .ok (.iconst 1, 1) := by decide +kernel
theorem d_M_octet_36 : decode b_M_octet 36 = .ok (.ireturn, 1) := by decide +kernel
theorem d_M_spread_0 : decode b_M_spread 0 = .ok (.bipush 8, 2) := by decide +kernel
theorem d_M_spread_2 : decode b_M_spread 2 = .ok (.aload_n 0, 1) := by decide +kernel
theorem d_M_spread_3 : decode b_M_spread 3 = .ok (.getfield 42, 3) := by decide +kernel
theorem d_M_spread_6 : decode b_M_spread 6 = .ok (.imul, 1) := by decide +kernel
theorem d_M_spread_7 : decode b_M_spread 7 = .ok (.istore_n 1, 1) := by decide +kernel
theorem d_M_spread_8 : decode b_M_spread 8 = .ok (.iload_n 1, 1) := by decide +kernel
theorem d_M_spread_9 : decode b_M_spread 9 = .ok (.iconst 4, 1) := by decide +kernel
theorem d_M_spread_10 : decode b_M_spread 10 = .ok (.iadd, 1) := by decide +kernel
theorem d_M_spread_11 : decode b_M_spread 11 = .ok (.iconst 5, 1) := by decide +kernel
theorem d_M_spread_12 : decode b_M_spread 12 = .ok (.idiv, 1) := by decide +kernel
theorem d_M_spread_13 : decode b_M_spread 13 = .ok (.istore_n 2, 1) := by decide +kernel
theorem d_M_spread_14 : decode b_M_spread 14 = .ok (.iload_n 2, 1) := by decide +kernel
theorem d_M_spread_15 : decode b_M_spread 15 = .ok (.bipush 58, 2) := by decide +kernel
theorem d_M_spread_17 : decode b_M_spread 17 = .ok (.if_icmp .le 5, 3) := by decide +kernel
theorem d_M_spread_20 : decode b_M_spread 20 = .ok (.iconst (-1), 1) := by decide +kernel
theorem d_M_spread_21 : decode b_M_spread 21 = .ok (.ireturn, 1) := by decide +kernel
theorem d_M_spread_22 : decode b_M_spread 22 = .ok (.iconst 0, 1) := by decide +kernel
theorem d_M_spread_23 : decode b_M_spread 23 = .ok (.istore_n 3, 1) := by decide +kernel
theorem d_M_spread_24 : decode b_M_spread 24 = .ok (.iload_n 3, 1) := by decide +kernel
theorem d_M_spread_25 : decode b_M_spread 25 = .ok (.iload_n 2, 1) := by decide +kernel
theorem d_M_spread_26 : decode b_M_spread 26 = .ok (.if_icmp .ge 81, 3) := by decide +kernel
theorem d_M_spread_29 : decode b_M_spread 29 = .ok (.iconst 0, 1) := by decide +kernel
theorem d_M_spread_30 : decode b_M_spread 30 = .ok (.istore 4, 2) := by decide +kernel
theorem d_M_spread_32 : decode b_M_spread 32 = .ok (.iconst 0, 1) := by decide +kernel
theorem d_M_spread_33 : decode b_M_spread 33 = .ok (.istore 5, 2) := by decide +kernel
theorem d_M_spread_35 : decode b_M_spread 35 = .ok (.iload 5, 2) := by decide +kernel
theorem d_M_spread_37 : decode b_M_spread 37 = .ok (.iconst 5, 1) := by decide +kernel
theorem d_M_spread_38 : decode b_M_spread 38 = .ok (.if_icmp .ge 55, 3) := by decide +kernel
theorem d_M_spread_41 : decode b_M_spread 41 = .ok (.iconst 5, 1) := by decide +kernel
theorem d_M_spread_42 : decode b_M_spread 42 = .ok (.iload_n 3, 1) := by decide +kernel
theorem d_M_spread_43 : decode b_M_spread 43 = .ok (.imul, 1) := by decide +kernel
theorem d_M_spread_44 : decode b_M_spread 44 = .ok (.iload 5, 2) := by decide +kernel
theorem d_M_spread_46 : decode b_M_spread 46 = .ok (.iadd, 1) := by decide +kernel
theorem d_M_spread_47 : decode b_M_spread 47 = .ok (.istore 6, 2) := by decide +kernel
theorem d_M_spread_49 : decode b_M_spread 49 = .ok (.iconst 2, 1) := by decide +kernel
theorem d_M_spread_50 : decode b_M_spread 50 = .ok (.iload 4, 2) := by decide +kernel
theorem d_M_spread_52 : decode b_M_spread 52 = .ok (.imul, 1) := by decide +kernel
theorem d_M_spread_53 : decode b_M_spread 53 = .ok (.iload 6, 2) := by decide +kernel
theorem d_M_spread_55 : decode b_M_spread 55 = .ok (.iload_n 1, 1) := by decide +kernel
theorem d_M_spread_56 : decode b_M_spread 56 = .ok (.if_icmp .ge 27, 3) := by decide +kernel
theorem d_M_spread_59 : decode b_M_spread 59 = .ok (.aload_n 0, 1) := by decide +kernel
theorem d_M_spread_60 : decode b_M_spread 60 = .ok (.getfield 16, 3) := by decide +kernel
theorem d_M_spread_63 : decode b_M_spread 63 = .ok (.iload 6, 2) := by decide +kernel
theorem d_M_spread_65 : decode b_M_spread 65 = .ok (.bipush 8, 2) := by decide +kernel
theorem d_M_spread_67 : decode b_M_spread 67 = .ok (.idiv, 1) := by decide +kernel
theorem d_M_spread_68 : decode b_M_spread 68 = .ok (.iaload, 1) := by decide +kernel
theorem d_M_spread_69 : decode b_M_spread 69 = .ok (.bipush 7, 2) := by decide +kernel
theorem d_M_spread_71 : decode b_M_spread 71 = .ok (.iload 6, 2) := by decide +kernel
theorem d_M_spread_73 : decode b_M_spread 73 = .ok (.bipush 8, 2) := by decide +kernel
theorem d_M_spread_75 : decode b_M_spread 75 = .ok (.irem, 1) := by decide +kernel
theorem d_M_spread_76 : decode b_M_spread 76 = .ok (.isub, 1) := by decide +kernel
theorem d_M_spread_77 : decode b_M_spread 77 = .ok (.ishr, 1) := by decide +kernel
theorem d_M_spread_78 : decode b_M_spread 78 = .ok (.iconst 1, 1) := by decide +kernel
theorem d_M_spread_79 : decode b_M_spread 79 = .ok (.iand, 1) := by decide +kernel
theorem d_M_spread_80 : decode b_M_spread 80 = .ok (.goto 4, 3) := by decide +kernel
theorem d_M_spread_83 : decode b_M_spread 83 = .ok (.iconst 0, 1) := by decide +kernel
theorem d_M_spread_84 : decode b_M_spread 84 = .ok (.iadd, 1) := by decide +kernel
theorem d_M_spread_85 : decode b_M_spread 85 = .ok (.istore 4, 2) := by decide +kernel
theorem d_M_spread_87 : decode b_M_spread 87 = .ok (.iinc 5 1, 3) := by decide +kernel
theorem d_M_spread_90 : decode b_M_spread 90 = .ok (.goto (-55), 3) := by decide +kernel
theorem d_M_spread_93 : decode b_M_spread 93 = .ok (.aload_n 0, 1) := by decide +kernel
theorem d_M_spread_94 : decode b_M_spread 94 = .ok (.getfield 13, 3) := by decide +kernel
theorem d_M_spread_97 : decode b_M_spread 97 = .ok (.iload_n 3, 1) := by decide +kernel
theorem d_M_spread_98 : decode b_M_spread 98 = .ok (.iload 4, 2) := by decide +kernel
theorem d_M_spread_100 : decode b_M_spread 100 = .ok (.iastore, 1) := by decide +kernel
theorem d_M_spread_101 : decode b_M_spread 101 = .ok (.iinc 3 1, 3) := by decide +kernel
theorem d_M_spread_104 : decode b_M_spread 104 = .ok (.goto (-80), 3) := by decide +kernel
theorem d_M_spread_107 : decode b_M_spread 107 = .ok (.aload_n 0, 1) := by decide +kernel
theorem d_M_spread_108 : decode b_M_spread 108 = .ok (.iload_n 2, 1) := by decide +kernel
theorem d_M_spread_109 : decode b_M_spread 109 = .ok (.putfield 33, 3) := by decide +kernel
theorem d_M_spread_112 : decode b_M_spread 112 = .ok (.iload_n 2, 1) := by decide +kernel
theorem d_M_spread_113 : decode b_M_spread 113 = .ok (.ireturn, 1) := by decide +kernel
theorem d_M_gather_0 : decode b_M_gather 0 = .ok (.iconst 5, 1) := by decide +kernel
theorem d_M_gather_1 : decode b_M_gather 1 = .ok (.aload_n 0, 1) := by decide +kernel
theorem d_M_gather_2 : decode b_M_gather 2 = .ok (.getfield 33, 3) := by decide +kernel
theorem d_M_gather_5 : decode b_M_gather 5 = .ok (.imul, 1) := by decide +kernel
theorem d_M_gather_6 : decode b_M_gather 6 = .ok (.istore_n 1, 1) := by decide +kernel
theorem d_M_gather_7 : decode b_M_gather 7 = .ok (.iload_n 1, 1) := by decide +kernel
theorem d_M_gather_8 : decode b_M_gather 8 = .ok (.bipush 8, 2) := by decide +kernel
theorem d_M_gather_10 : decode b_M_gather 10 = .ok (.idiv, 1) := by decide +kernel
theorem d_M_gather_11 : decode b_M_gather 11 = .ok (.istore_n 2, 1) := by decide +kernel
theorem d_M_gather_12 : decode b_M_gather 12 = .ok (.iload_n 1, 1) := by decide +kernel
theorem d_M_gather_13 : decode b_M_gather 13 = .ok (.bipush 8, 2) := by decide +kernel
theorem d_M_gather_15 : decode b_M_gather 15 = .ok (.iload_n 2, 1) := by decide +kernel
theorem d_M_gather_16 : decode b_M_gather 16 = .ok (.imul, 1) := by decide +kernel
theorem d_M_gather_17 : decode b_M_gather 17 = .ok (.isub, 1) := by decide +kernel
theorem d_M_gather_18 : decode b_M_gather 18 = .ok (.istore_n 3, 1) := by decide +kernel
theorem d_M_gather_19 : decode b_M_gather 19 = .ok (.bipush 8, 2) := by decide +kernel
theorem d_M_gather_21 : decode b_M_gather 21 = .ok (.iload_n 2, 1) := by decide +kernel
theorem d_M_gather_22 : decode b_M_gather 22 = .ok (.imul, 1) := by decide +kernel
theorem d_M_gather_23 : decode b_M_gather 23 = .ok (.istore 4, 2) := by decide +kernel
theorem d_M_gather_25 : decode b_M_gather 25 = .ok (.iload 4, 2) := by decide +kernel
theorem d_M_gather_27 : decode b_M_gather 27 = .ok (.iload_n 1, 1) := by decide +kernel
theorem d_M_gather_28 : decode b_M_gather 28 = .ok (.if_icmp .ge 32, 3) := by decide +kernel
theorem d_M_gather_31 : decode b_M_gather 31 = .ok (.aload_n 0, 1) := by decide +kernel
theorem d_M_gather_32 : decode b_M_gather 32 = .ok (.getfield 13, 3) := by decide +kernel
theorem d_M_gather_35 : decode b_M_gather 35 = .ok (.iload 4, 2) := by decide +kernel
theorem d_M_gather_37 : decode b_M_gather 37 = .ok (.iconst 5, 1) := by decide +kernel
theorem d_M_gather_38 : decode b_M_gather 38 = .ok (.idiv, 1) := by decide +kernel
theorem d_M_gather_39 : decode b_M_gather 39 = .ok (.iaload, 1) := by decide +kernel
theorem d_M_gather_40 : decode b_M_gather 40 = .ok (.iconst 4, 1) := by decide +kernel
theorem d_M_gather_41 : decode b_M_gather 41 = .ok (.iload 4, 2) := by decide +kernel
theorem d_M_gather_43 : decode b_M_gather 43 = .ok (.iconst 5, 1) := by decide +kernel
theorem d_M_gather_44 : decode b_M_gather 44 = .ok (.irem, 1) := by decide +kernel
theorem d_M_gather_45 : decode b_M_gather 45 = .ok (.isub, 1) := by decide +kernel
theorem d_M_gather_46 : decode b_M_gather 46 = .ok (.ishr, 1) := by decide +kernel
theorem d_M_gather_47 : decode b_M_gather 47 = .ok (.iconst 1, 1) := by decide +kernel
theorem d_M_gather_48 : decode b_M_gather 48 = .ok (.iand, 1) := by decide +kernel
theorem d_M_gather_49 : decode b_M_gather 49 = .ok (.ifCond .eq 5, 3) := by decide +kernel
theorem d_M_gather_52 : decode b_M_gather 52 = .ok (.iconst (-1), 1) := by decide +kernel
theorem d_M_gather_53 : decode b_M_gather 53 = .ok (.ireturn, 1) := by decide +kernel
theorem d_M_gather_54 : decode b_M_gather 54 = .ok (.iinc 4 1, 3) := by decide +kernel
theorem d_M_gather_57 : decode b_M_gather 57 = .ok (.goto (-32), 3) := by decide +kernel
theorem d_M_gather_60 : decode b_M_gather 60 = .ok (.iload_n 3, 1) := by decide +kernel
theorem d_M_gather_61 : decode b_M_gather 61 = .ok (.iconst 4, 1) := by decide +kernel
theorem d_M_gather_62 : decode b_M_gather 62 = .ok (.if_icmp .gt 9, 3) := by decide +kernel
theorem d_M_gather_65 : decode b_M_gather 65 = .ok (.iload_n 2, 1) := by decide +kernel
theorem d_M_gather_66 : decode b_M_gather 66 = .ok (.bipush 40, 2) := by decide +kernel
theorem d_M_gather_68 : decode b_M_gather 68 = .ok (.if_icmp .le 5, 3) := by decide +kernel
theorem d_M_gather_71 : decode b_M_gather 71 = .ok (.iconst (-1), 1) := by decide +kernel
theorem d_M_gather_72 : decode b_M_gather 72 = .ok (.ireturn, 1) := by decide +kernel
theorem d_M_gather_73 : decode b_M_gather 73 = .ok (.iconst 0, 1) := by decide +kernel
theorem d_M_gather_74 : decode b_M_gather 74 = .ok (.istore 4, 2) := by decide +kernel
theorem d_M_gather_76 : decode b_M_gather 76 = .ok (.iload 4, 2) := by decide +kernel
theorem d_M_gather_78 : decode b_M_gather 78 = .ok (.iload_n 2, 1) := by decide +kernel
theorem d_M_gather_79 : decode b_M_gather 79 = .ok (.if_icmp .ge 72, 3) := by decide +kernel
theorem d_M_gather_82 : decode b_M_gather 82 = .ok (.iconst 0, 1) := by decide +kernel
theorem d_M_gather_83 : decode b_M_gather 83 = .ok (.istore 5, 2) := by decide +kernel
theorem d_M_gather_85 : decode b_M_gather 85 = .ok (.iconst 0, 1) := by decide +kernel
theorem d_M_gather_86 : decode b_M_gather 86 = .ok (.istore 6, 2) := by decide +kernel
theorem d_M_gather_88 : decode b_M_gather 88 = .ok (.iload 6, 2) := by decide +kernel
theorem d_M_gather_90 : decode b_M_gather 90 = .ok (.bipush 8, 2) := by decide +kernel
theorem d_M_gather_92 : decode b_M_gather 92 = .ok (.if_icmp .ge 44, 3) := by decide +kernel
theorem d_M_gather_95 : decode b_M_gather 95 = .ok (.bipush 8, 2) := by decide +kernel
theorem d_M_gather_97 : decode b_M_gather 97 = .ok (.iload 4, 2) := by decide +kernel
theorem d_M_gather_99 : decode b_M_gather 99 = .ok (.imul, 1) := by decide +kernel
theorem d_M_gather_100 : decode b_M_gather 100 = .ok (.iload 6, 2) := by decide +kernel
theorem d_M_gather_102 : decode b_M_gather 102 = .ok (.iadd, 1) := by decide +kernel
theorem d_M_gather_103 : decode b_M_gather 103 = .ok (.istore 7, 2) := by decide +kernel
theorem d_M_gather_105 : decode b_M_gather 105 = .ok (.iconst 2, 1) := by decide +kernel
theorem d_M_gather_106 : decode b_M_gather 106 = .ok (.iload 5, 2) := by decide +kernel
theorem d_M_gather_108 : decode b_M_gather 108 = .ok (.imul, 1) := by decide +kernel
theorem d_M_gather_109 : decode b_M_gather 109 = .ok (.aload_n 0, 1) := by decide +kernel
theorem d_M_gather_110 : decode b_M_gather 110 = .ok (.getfield 13, 3) := by decide +kernel
theorem d_M_gather_113 : decode b_M_gather 113 = .ok (.iload 7, 2) := by decide +kernel
theorem d_M_gather_115 : decode b_M_gather 115 = .ok (.iconst 5, 1) := by decide +kernel
theorem d_M_gather_116 : decode b_M_gather 116 = .ok (.idiv, 1) := by decide +kernel
theorem d_M_gather_117 : decode b_M_gather 117 = .ok (.iaload, 1) := by decide +kernel
theorem d_M_gather_118 : decode b_M_gather 118 = .ok (.iconst 4, 1) := by decide +kernel
theorem d_M_gather_119 : decode b_M_gather 119 = .ok (.iload 7, 2) := by decide +kernel
theorem d_M_gather_121 : decode b_M_gather 121 = .ok (.iconst 5, 1) := by decide +kernel
theorem d_M_gather_122 : decode b_M_gather 122 = .ok (.irem, 1) := by decide +kernel
theorem d_M_gather_123 : decode b_M_gather 123 = .ok (.isub, 1) := by decide +kernel
theorem d_M_gather_124 : decode b_M_gather 124 = .ok (.ishr, 1) := by decide +kernel
theorem d_M_gather_125 : decode b_M_gather 125 = .ok (.iconst 1, 1) := by decide +kernel
theorem d_M_gather_126 : decode b_M_gather 126 = .ok (.iand, 1) := by decide +kernel
theorem d_M_gather_127 : decode b_M_gather 127 = .ok (.iadd, 1) := by decide +kernel
theorem d_M_gather_128 : decode b_M_gather 128 = .ok (.istore 5, 2) := by decide +kernel
theorem d_M_gather_130 : decode b_M_gather 130 = .ok (.iinc 6 1, 3) := by decide +kernel
theorem d_M_gather_133 : decode b_M_gather 133 = .ok (.goto (-45), 3) := by decide +kernel
theorem d_M_gather_136 : decode b_M_gather 136 = .ok (.aload_n 0, 1) := by decide +kernel
theorem d_M_gather_137 : decode b_M_gather 137 = .ok (.getfield 16, 3) := by decide +kernel
theorem d_M_gather_140 : decode b_M_gather 140 = .ok (.iload 4, 2) := by decide +kernel
theorem d_M_gather_142 : decode b_M_gather 142 = .ok (.iload 5, 2) := by decide +kernel
theorem d_M_gather_144 : decode b_M_gather 144 = .ok (.iastore, 1) := by decide +kernel
theorem d_M_gather_145 : decode b_M_gather 145 = .ok (.iinc 4 1, 3) := by decide +kernel
theorem d_M_gather_148 : decode b_M_gather 148 = .ok (.goto (-72), 3) := by decide +kernel
theorem d_M_gather_151 : decode b_M_gather 151 = .ok (.aload_n 0, 1) := by decide +kernel
theorem d_M_gather_152 : decode b_M_gather 152 = .ok (.iload_n 2, 1) := by decide +kernel
theorem d_M_gather_153 : decode b_M_gather 153 = .ok (.putfield 42, 3) := by decide +kernel
theorem d_M_gather_156 : decode b_M_gather 156 = .ok (.iload_n 2, 1) := by decide +kernel
theorem d_M_gather_157 : decode b_M_gather 157 = .ok (.ireturn, 1) := by decide +kernel
theorem d_M_byteAt_0 : decode b_M_byteAt 0 = .ok (.aload_n 0, 1) := by decide +kernel
theorem d_M_byteAt_1 : decode b_M_byteAt 1 = .ok (.getfield 42, 3) := by decide +kernel
theorem d_M_byteAt_4 : decode b_M_byteAt 4 = .ok (.ifCond .ne 7, 3) := by decide +kernel
theorem d_M_byteAt_7 : decode b_M_byteAt 7 = .ok (.iconst (-1), 1) := by decide +kernel
theorem d_M_byteAt_8 : decode b_M_byteAt 8 = .ok (.goto 17, 3) := by decide +kernel
theorem d_M_byteAt_11 : decode b_M_byteAt 11 = .ok (.aload_n 0, 1) := by decide +kernel
theorem d_M_byteAt_12 : decode b_M_byteAt 12 = .ok (.getfield 16, 3) := by decide +kernel
theorem d_M_byteAt_15 : decode b_M_byteAt 15 = .ok (.iload_n 1, 1) := by decide +kernel
theorem d_M_byteAt_16 : decode b_M_byteAt 16 = .ok (.ldc 36, 2) := by decide +kernel
theorem d_M_byteAt_18 : decode b_M_byteAt 18 = .ok (.iand, 1) := by decide +kernel
theorem d_M_byteAt_19 : decode b_M_byteAt 19 = .ok (.aload_n 0, 1) := by decide +kernel
theorem d_M_byteAt_20 : decode b_M_byteAt 20 = .ok (.getfield 42, 3) := by decide +kernel
theorem d_M_byteAt_23 : decode b_M_byteAt 23 = .ok (.irem, 1) := by decide +kernel
theorem d_M_byteAt_24 : decode b_M_byteAt 24 = .ok (.iaload, 1) := by decide +kernel
theorem d_M_byteAt_25 : decode b_M_byteAt 25 = .ok (.ireturn, 1) := by decide +kernel
end
section
theorem d_law_0 : decode code 0 = .ok (.new 7, 3) := by decide +kernel
theorem d_law_3 : decode code 3 = .ok (.dup, 1) := by decide +kernel
theorem d_law_4 : decode code 4 = .ok (.invokespecial 9, 3) := by decide +kernel
theorem d_law_7 : decode code 7 = .ok (.astore_n 1, 1) := by decide +kernel
theorem d_law_8 : decode code 8 = .ok (.new 10, 3) := by decide +kernel
theorem d_law_11 : decode code 11 = .ok (.dup, 1) := by decide +kernel
theorem d_law_12 : decode code 12 = .ok (.invokespecial 12, 3) := by decide +kernel
theorem d_law_15 : decode code 15 = .ok (.astore_n 2, 1) := by decide +kernel
theorem d_law_16 : decode code 16 = .ok (.iconst 0, 1) := by decide +kernel
theorem d_law_17 : decode code 17 = .ok (.istore_n 3, 1) := by decide +kernel
theorem d_law_18 : decode code 18 = .ok (.iload_n 3, 1) := by decide +kernel
theorem d_law_19 : decode code 19 = .ok (.aload_n 0, 1) := by decide +kernel
theorem d_law_20 : decode code 20 = .ok (.arraylength, 1) := by decide +kernel
theorem d_law_21 : decode code 21 = .ok (.iconst 5, 1) := by decide +kernel
theorem d_law_22 : decode code 22 = .ok (.isub, 1) := by decide +kernel
theorem d_law_23 : decode code 23 = .ok (.if_icmp .gt 343, 3) := by decide +kernel
theorem d_law_26 : decode code 26 = .ok (.aload_n 0, 1) := by decide +kernel
theorem d_law_27 : decode code 27 = .ok (.iload_n 3, 1) := by decide +kernel
theorem d_law_28 : decode code 28 = .ok (.iaload, 1) := by decide +kernel
theorem d_law_29 : decode code 29 = .ok (.bipush 15, 2) := by decide +kernel
theorem d_law_31 : decode code 31 = .ok (.iand, 1) := by decide +kernel
theorem d_law_32 : decode code 32 = .ok (.tableswitch 328 0 11 #[64, 87, 140, 151, 174, 187, 220, 243, 256, 279, 292, 305], 64) := by decide +kernel
theorem d_law_96 : decode code 96 = .ok (.aload_n 1, 1) := by decide +kernel
theorem d_law_97 : decode code 97 = .ok (.aload_n 0, 1) := by decide +kernel
theorem d_law_98 : decode code 98 = .ok (.iload_n 3, 1) := by decide +kernel
theorem d_law_99 : decode code 99 = .ok (.iconst 1, 1) := by decide +kernel
theorem d_law_100 : decode code 100 = .ok (.iadd, 1) := by decide +kernel
theorem d_law_101 : decode code 101 = .ok (.iaload, 1) := by decide +kernel
theorem d_law_102 : decode code 102 = .ok (.invokevirtual 13, 3) := by decide +kernel
theorem d_law_105 : decode code 105 = .ok (.aload_n 2, 1) := by decide +kernel
theorem d_law_106 : decode code 106 = .ok (.aload_n 0, 1) := by decide +kernel
theorem d_law_107 : decode code 107 = .ok (.iload_n 3, 1) := by decide +kernel
theorem d_law_108 : decode code 108 = .ok (.iconst 1, 1) := by decide +kernel
theorem d_law_109 : decode code 109 = .ok (.iadd, 1) := by decide +kernel
theorem d_law_110 : decode code 110 = .ok (.iaload, 1) := by decide +kernel
theorem d_law_111 : decode code 111 = .ok (.invokevirtual 17, 3) := by decide +kernel
theorem d_law_114 : decode code 114 = .ok (.if_icmp .eq 246, 3) := by decide +kernel
theorem d_law_117 : decode code 117 = .ok (.iconst 0, 1) := by decide +kernel
theorem d_law_118 : decode code 118 = .ok (.ireturn, 1) := by decide +kernel
theorem d_law_119 : decode code 119 = .ok (.aload_n 1, 1) := by decide +kernel
theorem d_law_120 : decode code 120 = .ok (.aload_n 0, 1) := by decide +kernel
theorem d_law_121 : decode code 121 = .ok (.iload_n 3, 1) := by decide +kernel
theorem d_law_122 : decode code 122 = .ok (.iconst 1, 1) := by decide +kernel
theorem d_law_123 : decode code 123 = .ok (.iadd, 1) := by decide +kernel
theorem d_law_124 : decode code 124 = .ok (.iaload, 1) := by decide +kernel
theorem d_law_125 : decode code 125 = .ok (.aload_n 0, 1) := by decide +kernel
theorem d_law_126 : decode code 126 = .ok (.iload_n 3, 1) := by decide +kernel
theorem d_law_127 : decode code 127 = .ok (.iconst 2, 1) := by decide +kernel
theorem d_law_128 : decode code 128 = .ok (.iadd, 1) := by decide +kernel
theorem d_law_129 : decode code 129 = .ok (.iaload, 1) := by decide +kernel
theorem d_law_130 : decode code 130 = .ok (.aload_n 0, 1) := by decide +kernel
theorem d_law_131 : decode code 131 = .ok (.iload_n 3, 1) := by decide +kernel
theorem d_law_132 : decode code 132 = .ok (.iconst 3, 1) := by decide +kernel
theorem d_law_133 : decode code 133 = .ok (.iadd, 1) := by decide +kernel
theorem d_law_134 : decode code 134 = .ok (.iaload, 1) := by decide +kernel
theorem d_law_135 : decode code 135 = .ok (.aload_n 0, 1) := by decide +kernel
theorem d_law_136 : decode code 136 = .ok (.iload_n 3, 1) := by decide +kernel
theorem d_law_137 : decode code 137 = .ok (.iconst 4, 1) := by decide +kernel
theorem d_law_138 : decode code 138 = .ok (.iadd, 1) := by decide +kernel
theorem d_law_139 : decode code 139 = .ok (.iaload, 1) := by decide +kernel
theorem d_law_140 : decode code 140 = .ok (.invokevirtual 18, 3) := by decide +kernel
theorem d_law_143 : decode code 143 = .ok (.aload_n 2, 1) := by decide +kernel
theorem d_law_144 : decode code 144 = .ok (.aload_n 0, 1) := by decide +kernel
theorem d_law_145 : decode code 145 = .ok (.iload_n 3, 1) := by decide +kernel
theorem d_law_146 : decode code 146 = .ok (.iconst 1, 1) := by decide +kernel
theorem d_law_147 : decode code 147 = .ok (.iadd, 1) := by decide +kernel
theorem d_law_148 : decode code 148 = .ok (.iaload, 1) := by decide +kernel
theorem d_law_149 : decode code 149 = .ok (.aload_n 0, 1) := by decide +kernel
theorem d_law_150 : decode code 150 = .ok (.iload_n 3, 1) := by decide +kernel
theorem d_law_151 : decode code 151 = .ok (.iconst 2, 1) := by decide +kernel
theorem d_law_152 : decode code 152 = .ok (.iadd, 1) := by decide +kernel
theorem d_law_153 : decode code 153 = .ok (.iaload, 1) := by decide +kernel
theorem d_law_154 : decode code 154 = .ok (.aload_n 0, 1) := by decide +kernel
theorem d_law_155 : decode code 155 = .ok (.iload_n 3, 1) := by decide +kernel
theorem d_law_156 : decode code 156 = .ok (.iconst 3, 1) := by decide +kernel
theorem d_law_157 : decode code 157 = .ok (.iadd, 1) := by decide +kernel
theorem d_law_158 : decode code 158 = .ok (.iaload, 1) := by decide +kernel
theorem d_law_159 : decode code 159 = .ok (.aload_n 0, 1) := by decide +kernel
theorem d_law_160 : decode code 160 = .ok (.iload_n 3, 1) := by decide +kernel
theorem d_law_161 : decode code 161 = .ok (.iconst 4, 1) := by decide +kernel
theorem d_law_162 : decode code 162 = .ok (.iadd, 1) := by decide +kernel
theorem d_law_163 : decode code 163 = .ok (.iaload, 1) := by decide +kernel
theorem d_law_164 : decode code 164 = .ok (.invokevirtual 22, 3) := by decide +kernel
theorem d_law_167 : decode code 167 = .ok (.if_icmp .eq 193, 3) := by decide +kernel
theorem d_law_170 : decode code 170 = .ok (.iconst 0, 1) := by decide +kernel
theorem d_law_171 : decode code 171 = .ok (.ireturn, 1) := by decide +kernel
theorem d_law_172 : decode code 172 = .ok (.aload_n 1, 1) := by decide +kernel
theorem d_law_173 : decode code 173 = .ok (.invokevirtual 23, 3) := by decide +kernel
theorem d_law_176 : decode code 176 = .ok (.aload_n 2, 1) := by decide +kernel
theorem d_law_177 : decode code 177 = .ok (.invokevirtual 26, 3) := by decide +kernel
theorem d_law_180 : decode code 180 = .ok (.goto 180, 3) := by decide +kernel
theorem d_law_183 : decode code 183 = .ok (.aload_n 1, 1) := by decide +kernel
theorem d_law_184 : decode code 184 = .ok (.aload_n 0, 1) := by decide +kernel
theorem d_law_185 : decode code 185 = .ok (.iload_n 3, 1) := by decide +kernel
theorem d_law_186 : decode code 186 = .ok (.iconst 1, 1) := by decide +kernel
theorem d_law_187 : decode code 187 = .ok (.iadd, 1) := by decide +kernel
theorem d_law_188 : decode code 188 = .ok (.iaload, 1) := by decide +kernel
theorem d_law_189 : decode code 189 = .ok (.invokevirtual 27, 3) := by decide +kernel
theorem d_law_192 : decode code 192 = .ok (.aload_n 2, 1) := by decide +kernel
theorem d_law_193 : decode code 193 = .ok (.aload_n 0, 1) := by decide +kernel
theorem d_law_194 : decode code 194 = .ok (.iload_n 3, 1) := by decide +kernel
theorem d_law_195 : decode code 195 = .ok (.iconst 1, 1) := by decide +kernel
theorem d_law_196 : decode code 196 = .ok (.iadd, 1) := by decide +kernel
theorem d_law_197 : decode code 197 = .ok (.iaload, 1) := by decide +kernel
theorem d_law_198 : decode code 198 = .ok (.invokevirtual 30, 3) := by decide +kernel
theorem d_law_201 : decode code 201 = .ok (.if_icmp .eq 159, 3) := by decide +kernel
theorem d_law_204 : decode code 204 = .ok (.iconst 0, 1) := by decide +kernel
theorem d_law_205 : decode code 205 = .ok (.ireturn, 1) := by decide +kernel
theorem d_law_206 : decode code 206 = .ok (.aload_n 1, 1) := by decide +kernel
theorem d_law_207 : decode code 207 = .ok (.invokevirtual 31, 3) := by decide +kernel
theorem d_law_210 : decode code 210 = .ok (.aload_n 2, 1) := by decide +kernel
theorem d_law_211 : decode code 211 = .ok (.invokevirtual 35, 3) := by decide +kernel
theorem d_law_214 : decode code 214 = .ok (.if_icmp .eq 146, 3) := by decide +kernel
theorem d_law_217 : decode code 217 = .ok (.iconst 0, 1) := by decide +kernel
theorem d_law_218 : decode code 218 = .ok (.ireturn, 1) := by decide +kernel
theorem d_law_219 : decode code 219 = .ok (.aload_n 1, 1) := by decide +kernel
theorem d_law_220 : decode code 220 = .ok (.aload_n 0, 1) := by decide +kernel
theorem d_law_221 : decode code 221 = .ok (.iload_n 3, 1) := by decide +kernel
theorem d_law_222 : decode code 222 = .ok (.iconst 1, 1) := by decide +kernel
theorem d_law_223 : decode code 223 = .ok (.iadd, 1) := by decide +kernel
theorem d_law_224 : decode code 224 = .ok (.iaload, 1) := by decide +kernel
theorem d_law_225 : decode code 225 = .ok (.aload_n 0, 1) := by decide +kernel
theorem d_law_226 : decode code 226 = .ok (.iload_n 3, 1) := by decide +kernel
theorem d_law_227 : decode code 227 = .ok (.iconst 2, 1) := by decide +kernel
theorem d_law_228 : decode code 228 = .ok (.iadd, 1) := by decide +kernel
theorem d_law_229 : decode code 229 = .ok (.iaload, 1) := by decide +kernel
theorem d_law_230 : decode code 230 = .ok (.invokevirtual 36, 3) := by decide +kernel
theorem d_law_233 : decode code 233 = .ok (.aload_n 2, 1) := by decide +kernel
theorem d_law_234 : decode code 234 = .ok (.aload_n 0, 1) := by decide +kernel
theorem d_law_235 : decode code 235 = .ok (.iload_n 3, 1) := by decide +kernel
theorem d_law_236 : decode code 236 = .ok (.iconst 1, 1) := by decide +kernel
theorem d_law_237 : decode code 237 = .ok (.iadd, 1) := by decide +kernel
theorem d_law_238 : decode code 238 = .ok (.iaload, 1) := by decide +kernel
theorem d_law_239 : decode code 239 = .ok (.aload_n 0, 1) := by decide +kernel
theorem d_law_240 : decode code 240 = .ok (.iload_n 3, 1) := by decide +kernel
theorem d_law_241 : decode code 241 = .ok (.iconst 2, 1) := by decide +kernel
theorem d_law_242 : decode code 242 = .ok (.iadd, 1) := by decide +kernel
theorem d_law_243 : decode code 243 = .ok (.iaload, 1) := by decide +kernel
theorem d_law_244 : decode code 244 = .ok (.invokevirtual 40, 3) := by decide +kernel
theorem d_law_247 : decode code 247 = .ok (.if_icmp .eq 113, 3) := by decide +kernel
theorem d_law_250 : decode code 250 = .ok (.iconst 0, 1) := by decide +kernel
theorem d_law_251 : decode code 251 = .ok (.ireturn, 1) := by decide +kernel
theorem d_law_252 : decode code 252 = .ok (.aload_n 1, 1) := by decide +kernel
theorem d_law_253 : decode code 253 = .ok (.aload_n 0, 1) := by decide +kernel
theorem d_law_254 : decode code 254 = .ok (.iload_n 3, 1) := by decide +kernel
theorem d_law_255 : decode code 255 = .ok (.iconst 1, 1) := by decide +kernel
theorem d_law_256 : decode code 256 = .ok (.iadd, 1) := by decide +kernel
theorem d_law_257 : decode code 257 = .ok (.iaload, 1) := by decide +kernel
theorem d_law_258 : decode code 258 = .ok (.invokevirtual 41, 3) := by decide +kernel
theorem d_law_261 : decode code 261 = .ok (.aload_n 2, 1) := by decide +kernel
theorem d_law_262 : decode code 262 = .ok (.aload_n 0, 1) := by decide +kernel
theorem d_law_263 : decode code 263 = .ok (.iload_n 3, 1) := by decide +kernel
theorem d_law_264 : decode code 264 = .ok (.iconst 1, 1) := by decide +kernel
theorem d_law_265 : decode code 265 = .ok (.iadd, 1) := by decide +kernel
theorem d_law_266 : decode code 266 = .ok (.iaload, 1) := by decide +kernel
theorem d_law_267 : decode code 267 = .ok (.invokevirtual 45, 3) := by decide +kernel
theorem d_law_270 : decode code 270 = .ok (.if_icmp .eq 90, 3) := by decide +kernel
theorem d_law_273 : decode code 273 = .ok (.iconst 0, 1) := by decide +kernel
theorem d_law_274 : decode code 274 = .ok (.ireturn, 1) := by decide +kernel
theorem d_law_275 : decode code 275 = .ok (.aload_n 1, 1) := by decide +kernel
theorem d_law_276 : decode code 276 = .ok (.invokevirtual 46, 3) := by decide +kernel
theorem d_law_279 : decode code 279 = .ok (.aload_n 2, 1) := by decide +kernel
theorem d_law_280 : decode code 280 = .ok (.invokevirtual 49, 3) := by decide +kernel
theorem d_law_283 : decode code 283 = .ok (.if_icmp .eq 77, 3) := by decide +kernel
theorem d_law_286 : decode code 286 = .ok (.iconst 0, 1) := by decide +kernel
theorem d_law_287 : decode code 287 = .ok (.ireturn, 1) := by decide +kernel
theorem d_law_288 : decode code 288 = .ok (.aload_n 1, 1) := by decide +kernel
theorem d_law_289 : decode code 289 = .ok (.aload_n 0, 1) := by decide +kernel
theorem d_law_290 : decode code 290 = .ok (.iload_n 3, 1) := by decide +kernel
theorem d_law_291 : decode code 291 = .ok (.iconst 1, 1) := by decide +kernel
theorem d_law_292 : decode code 292 = .ok (.iadd, 1) := by decide +kernel
theorem d_law_293 : decode code 293 = .ok (.iaload, 1) := by decide +kernel
theorem d_law_294 : decode code 294 = .ok (.invokevirtual 50, 3) := by decide +kernel
theorem d_law_297 : decode code 297 = .ok (.aload_n 2, 1) := by decide +kernel
theorem d_law_298 : decode code 298 = .ok (.aload_n 0, 1) := by decide +kernel
theorem d_law_299 : decode code 299 = .ok (.iload_n 3, 1) := by decide +kernel
theorem d_law_300 : decode code 300 = .ok (.iconst 1, 1) := by decide +kernel
theorem d_law_301 : decode code 301 = .ok (.iadd, 1) := by decide +kernel
theorem d_law_302 : decode code 302 = .ok (.iaload, 1) := by decide +kernel
theorem d_law_303 : decode code 303 = .ok (.invokevirtual 53, 3) := by decide +kernel
theorem d_law_306 : decode code 306 = .ok (.if_icmp .eq 54, 3) := by decide +kernel
theorem d_law_309 : decode code 309 = .ok (.iconst 0, 1) := by decide +kernel
theorem d_law_310 : decode code 310 = .ok (.ireturn, 1) := by decide +kernel
theorem d_law_311 : decode code 311 = .ok (.aload_n 1, 1) := by decide +kernel
theorem d_law_312 : decode code 312 = .ok (.invokevirtual 54, 3) := by decide +kernel
theorem d_law_315 : decode code 315 = .ok (.aload_n 2, 1) := by decide +kernel
theorem d_law_316 : decode code 316 = .ok (.invokevirtual 57, 3) := by decide +kernel
theorem d_law_319 : decode code 319 = .ok (.if_icmp .eq 41, 3) := by decide +kernel
theorem d_law_322 : decode code 322 = .ok (.iconst 0, 1) := by decide +kernel
theorem d_law_323 : decode code 323 = .ok (.ireturn, 1) := by decide +kernel
theorem d_law_324 : decode code 324 = .ok (.aload_n 1, 1) := by decide +kernel
theorem d_law_325 : decode code 325 = .ok (.invokevirtual 58, 3) := by decide +kernel
theorem d_law_328 : decode code 328 = .ok (.aload_n 2, 1) := by decide +kernel
theorem d_law_329 : decode code 329 = .ok (.invokevirtual 61, 3) := by decide +kernel
theorem d_law_332 : decode code 332 = .ok (.if_icmp .eq 28, 3) := by decide +kernel
theorem d_law_335 : decode code 335 = .ok (.iconst 0, 1) := by decide +kernel
theorem d_law_336 : decode code 336 = .ok (.ireturn, 1) := by decide +kernel
theorem d_law_337 : decode code 337 = .ok (.aload_n 1, 1) := by decide +kernel
theorem d_law_338 : decode code 338 = .ok (.aload_n 0, 1) := by decide +kernel
theorem d_law_339 : decode code 339 = .ok (.iload_n 3, 1) := by decide +kernel
theorem d_law_340 : decode code 340 = .ok (.iconst 1, 1) := by decide +kernel
theorem d_law_341 : decode code 341 = .ok (.iadd, 1) := by decide +kernel
theorem d_law_342 : decode code 342 = .ok (.iaload, 1) := by decide +kernel
theorem d_law_343 : decode code 343 = .ok (.invokevirtual 62, 3) := by decide +kernel
theorem d_law_346 : decode code 346 = .ok (.aload_n 2, 1) := by decide +kernel
theorem d_law_347 : decode code 347 = .ok (.aload_n 0, 1) := by decide +kernel
theorem d_law_348 : decode code 348 = .ok (.iload_n 3, 1) := by decide +kernel
theorem d_law_349 : decode code 349 = .ok (.iconst 1, 1) := by decide +kernel
theorem d_law_350 : decode code 350 = .ok (.iadd, 1) := by decide +kernel
theorem d_law_351 : decode code 351 = .ok (.iaload, 1) := by decide +kernel
theorem d_law_352 : decode code 352 = .ok (.invokevirtual 65, 3) := by decide +kernel
theorem d_law_355 : decode code 355 = .ok (.if_icmp .eq 5, 3) := by decide +kernel
theorem d_law_358 : decode code 358 = .ok (.iconst 0, 1) := by decide +kernel
theorem d_law_359 : decode code 359 = .ok (.ireturn, 1) := by decide +kernel
theorem d_law_360 : decode code 360 = .ok (.iinc 3 5, 3) := by decide +kernel
theorem d_law_363 : decode code 363 = .ok (.goto (-345), 3) := by decide +kernel
theorem d_law_366 : decode code 366 = .ok (.iconst 1, 1) := by decide +kernel
theorem d_law_367 : decode code 367 = .ok (.ireturn, 1) := by decide +kernel
end
section
/-! one row an instruction, with numbers of the form nI n; calls of methods over the words ww -/
section RW
variable {p : Program} {l : Launch} {e : Env} {R : Room} {s : State} {m : MethodId} {args : Array Value} {below : List Frame} {meth : Method} {c : Code} {H : Heap} {locs : List Loc} {cells slots : Nat} {Q : State → Prop}
variable {cc : ByteArray} {pc : Nat} {ls : Array Slot} {rest : List Value} {D : va_G} {A : Nat → Prop} {a : Nat} {tys : List (ClassId × FieldType)} {ws : va_W} {H0 : Heap} {fs : List Value}
theorem r_as {x y : Int32} (h : x = y) (k : W p l e R s m args below meth c H locs cells slots Q (F0 m pc ls (.int y :: rest))) : W p l e R s m args below meth c H locs cells slots Q (F0 m pc ls (.int x :: rest)) := by
  subst h
  exact k
theorem r_dia {g1 g2 : JFrame} (k : W p l e R s m args below meth c H locs cells slots Q g2 → W p l e R s m args below meth c H locs cells slots Q g1) (h : W p l e R s m args below meth c H locs cells slots Q g2) : W p l e R s m args below meth c H locs cells slots Q g1 := k h
theorem x_get (hx : p.tables.exec = Jvm.exec) (hb : c.code = cc) (hts : ∀ w ∈ ct_tb, w.before args s = true) (hown : s.vm.findClass R_X = some m.cls) (hK : va_K D ct_cl tys s) (hP : va_P D ct_cl ((a, .inr (0, fs)) :: ws) H) (k : Nat) {idx : Nat} (hk : k < 9) (hl : Cond.fieldLink R_X idx R_X (F_X k).2.1 (F_X k).2.2.1 ∈ ct_tb) {v : Value} (hv : fs[k]? = some v) (hd : decode cc pc = .ok (.getfield idx, 3))
    (kk : W p l e R s m args below meth c H locs cells slots Q (F0 m (pc + 3) ls (v :: rest))) : W p l e R s m args below meth c H locs cells slots Q (F0 m pc ls (.ref a :: rest)) :=
  va_get (C := R_X) (T := F_X) (N := 9) (ref := R_X) hx hb hts i_X hown hK hP 0 rfl rfl k hk (hts _ hl) (fun _ h => h) hv hd kk
theorem m_get (hx : p.tables.exec = Jvm.exec) (hb : c.code = cc) (hts : ∀ w ∈ ct_tb, w.before args s = true) (hown : s.vm.findClass R_M = some m.cls) (hK : va_K D ct_cl tys s) (hP : va_P D ct_cl ((a, .inr (1, fs)) :: ws) H) (k : Nat) {idx : Nat} (hk : k < 6) (hl : Cond.fieldLink R_M idx R_M (F_M k).2.1 (F_M k).2.2.1 ∈ ct_tb) {v : Value} (hv : fs[k]? = some v) (hd : decode cc pc = .ok (.getfield idx, 3))
    (kk : W p l e R s m args below meth c H locs cells slots Q (F0 m (pc + 3) ls (v :: rest))) : W p l e R s m args below meth c H locs cells slots Q (F0 m pc ls (.ref a :: rest)) :=
  va_get (C := R_M) (T := F_M) (N := 6) (ref := R_M) hx hb hts i_M hown hK hP 0 rfl rfl k hk (hts _ hl) (fun _ h => h) hv hd kk
theorem x_put (hx : p.tables.exec = Jvm.exec) (hb : c.code = cc) (hts : ∀ w ∈ ct_tb, w.before args s = true) (hown : s.vm.findClass R_X = some m.cls) (hK : va_K D ct_cl tys s) (hP : va_P D ct_cl ((a, .inr (0, fs)) :: ws) H) (hD : va_D A ((a, .inr (0, fs)) :: ws)) (hS : va_S A H0 H locs) (k : Nat) {idx : Nat} (hk : k < 9) (hl : Cond.fieldLink R_X idx R_X (F_X k).2.1 (F_X k).2.2.1 ∈ ct_tb) (hf : (F_X k).2.2.2 = false) (ht : parseFieldDescriptor (F_X k).2.2.1 = some .int) {z : Int32} (hlen : k < fs.length) (hd : decode cc pc = .ok (.putfield idx, 3))
    (kk : ∀ (H1 : Heap) (locs1 : List Loc), va_P D ct_cl ((a, .inr (0, fs.set k (.int z))) :: ws) H1 → va_D A ((a, .inr (0, fs.set k (.int z))) :: ws) → va_S A H0 H1 locs1 → W p l e R s m args below meth c H1 locs1 cells slots Q (F0 m (pc + 3) ls rest)) : W p l e R s m args below meth c H locs cells slots Q (F0 m pc ls (.int z :: .ref a :: rest)) :=
  va_put (C := R_X) (T := F_X) (N := 9) (ref := R_X) (ty := .int) hx hb hts i_X t_X t_X_ok n_X hown hK hP hD hS 0 rfl rfl k hk (hts _ hl) (fun _ h => h) hf ht rfl rfl hlen hd kk
theorem m_put (hx : p.tables.exec = Jvm.exec) (hb : c.code = cc) (hts : ∀ w ∈ ct_tb, w.before args s = true) (hown : s.vm.findClass R_M = some m.cls) (hK : va_K D ct_cl tys s) (hP : va_P D ct_cl ((a, .inr (1, fs)) :: ws) H) (hD : va_D A ((a, .inr (1, fs)) :: ws)) (hS : va_S A H0 H locs) (k : Nat) {idx : Nat} (hk : k < 6) (hl : Cond.fieldLink R_M idx R_M (F_M k).2.1 (F_M k).2.2.1 ∈ ct_tb) (hf : (F_M k).2.2.2 = false) (ht : parseFieldDescriptor (F_M k).2.2.1 = some .int) {z : Int32} (hlen : k < fs.length) (hd : decode cc pc = .ok (.putfield idx, 3))
    (kk : ∀ (H1 : Heap) (locs1 : List Loc), va_P D ct_cl ((a, .inr (1, fs.set k (.int z))) :: ws) H1 → va_D A ((a, .inr (1, fs.set k (.int z))) :: ws) → va_S A H0 H1 locs1 → W p l e R s m args below meth c H1 locs1 cells slots Q (F0 m (pc + 3) ls rest)) : W p l e R s m args below meth c H locs cells slots Q (F0 m pc ls (.int z :: .ref a :: rest)) :=
  va_put (C := R_M) (T := F_M) (N := 6) (ref := R_M) (ty := .int) hx hb hts i_M t_M t_M_ok n_M hown hK hP hD hS 0 rfl rfl k hk (hts _ hl) (fun _ h => h) hf ht rfl rfl hlen hd kk
theorem r_iald (hx : p.tables.exec = Jvm.exec) (hb : c.code = cc) (hK : va_K D ct_cl tys s) (hP : va_P D ct_cl ws H) (q0 t0 : Nat) {cA : ClassId} {n : Nat} {f : Nat → Int32} (ha : ws[q0]? = some (a, .inl (cA, n, .inl f))) (ht : tys[t0]? = some (cA, .int)) {j : Nat} {v : Int32} (hj : j < n) (hn : n < 2 ^ 31) (hv : f j = v) (hd : decode cc pc = .ok (.iaload, 1))
    (kk : W p l e R s m args below meth c H locs cells slots Q (F0 m (pc + 1) ls (.int v :: rest))) : W p l e R s m args below meth c H locs cells slots Q (F0 m pc ls (.int (nI j) :: .ref a :: rest)) :=
  va_iald hx hb hK hP q0 t0 ha ht (vp_in_nI hj hn) hd (by rw [nI_clamp (Nat.lt_trans hj hn), hv]; exact kk)
theorem r_bald (hx : p.tables.exec = Jvm.exec) (hb : c.code = cc) (hK : va_K D ct_cl tys s) (hP : va_P D ct_cl ws H) (q0 t0 : Nat) {cA : ClassId} {n : Nat} {f : Nat → Int32} (ha : ws[q0]? = some (a, .inl (cA, n, .inl f))) (ht : tys[t0]? = some (cA, .byte)) {j : Nat} {v : Int32} (hj : j < n) (hn : n < 2 ^ 31) (hv : f j = v) (hd : decode cc pc = .ok (.baload, 1))
    (kk : W p l e R s m args below meth c H locs cells slots Q (F0 m (pc + 1) ls (.int v :: rest))) : W p l e R s m args below meth c H locs cells slots Q (F0 m pc ls (.int (nI j) :: .ref a :: rest)) :=
  va_bald hx hb hK hP q0 t0 ha ht (vp_in_nI hj hn) hd (by rw [nI_clamp (Nat.lt_trans hj hn), hv]; exact kk)
theorem r_iast (hx : p.tables.exec = Jvm.exec) (hb : c.code = cc) (hK : va_K D ct_cl tys s) (hP : va_P D ct_cl ws H) (hD : va_D A ws) (hS : va_S A H0 H locs) (q0 t0 : Nat) {cA : ClassId} {n : Nat} {f : Nat → Int32} (ha : ws[q0]? = some (a, .inl (cA, n, .inl f))) (ht : tys[t0]? = some (cA, .int)) {j : Nat} {x : Int32} (hj : j < n) (hn : n < 2 ^ 31) (hd : decode cc pc = .ok (.iastore, 1))
    (kk : ∀ (H1 : Heap) (locs1 : List Loc), va_P D ct_cl (ws.set q0 (a, .inl (cA, n, .inl (upd f j x)))) H1 → va_D A (ws.set q0 (a, .inl (cA, n, .inl (upd f j x)))) → va_S A H0 H1 locs1 → W p l e R s m args below meth c H1 locs1 cells slots Q (F0 m (pc + 1) ls rest)) : W p l e R s m args below meth c H locs cells slots Q (F0 m pc ls (.int x :: .int (nI j) :: .ref a :: rest)) := by
  have hc := nI_clamp (Nat.lt_trans hj hn)
  refine va_iast hx hb hK hP hD hS q0 t0 ha ht (vp_in_nI hj hn) hd (fun H1 locs1 h1 h2 h3 => ?_)
  rw [hc] at h1 h2
  exact kk H1 locs1 h1 h2 h3
theorem r_bast (hx : p.tables.exec = Jvm.exec) (hb : c.code = cc) (hK : va_K D ct_cl tys s) (hP : va_P D ct_cl ws H) (hD : va_D A ws) (hS : va_S A H0 H locs) (q0 t0 : Nat) {cA : ClassId} {n : Nat} {f : Nat → Int32} (ha : ws[q0]? = some (a, .inl (cA, n, .inl f))) (ht : tys[t0]? = some (cA, .byte)) {j : Nat} {x y : Int32} (hj : j < n) (hn : n < 2 ^ 31) (hy : vp_nar .byte x = y) (hd : decode cc pc = .ok (.bastore, 1))
    (kk : ∀ (H1 : Heap) (locs1 : List Loc), va_P D ct_cl (ws.set q0 (a, .inl (cA, n, .inl (upd f j y)))) H1 → va_D A (ws.set q0 (a, .inl (cA, n, .inl (upd f j y)))) → va_S A H0 H1 locs1 → W p l e R s m args below meth c H1 locs1 cells slots Q (F0 m (pc + 1) ls rest)) : W p l e R s m args below meth c H locs cells slots Q (F0 m pc ls (.int x :: .int (nI j) :: .ref a :: rest)) := by
  have hc := nI_clamp (Nat.lt_trans hj hn)
  refine va_bast hx hb hK hP hD hS q0 t0 ha ht (vp_in_nI hj hn) hd (fun H1 locs1 h1 h2 h3 => ?_)
  rw [hc, hy] at h1 h2
  exact kk H1 locs1 h1 h2 h3
/-! compares of numbers -/
theorem r_ge {x y : Nat} (hx : p.tables.exec = Jvm.exec) (hb : c.code = cc) {off : Int} {tgt : Nat} (hd : decode cc pc = .ok (.if_icmp .ge off, 3)) (ht : (pc : Int) + off = (tgt : Int)) (hx1 : x < 2 ^ 31) (hy1 : y < 2 ^ 31)
    (kt : y ≤ x → W p l e R s m args below meth c H locs cells slots Q (F0 m tgt ls rest)) (kf : x < y → W p l e R s m args below meth c H locs cells slots Q (F0 m (pc + 3) ls rest)) : W p l e R s m args below meth c H locs cells slots Q (F0 m pc ls (.int (nI y) :: .int (nI x) :: rest)) :=
  lv_icmp_ge hx hb hd ht (fun h => kt ((nI_leI hy1 hx1).mp h)) (fun h => kf (Nat.not_le.mp fun z => h ((nI_leI hy1 hx1).mpr z)))
theorem r_gt {x y : Nat} (hx : p.tables.exec = Jvm.exec) (hb : c.code = cc) {off : Int} {tgt : Nat} (hd : decode cc pc = .ok (.if_icmp .gt off, 3)) (ht : (pc : Int) + off = (tgt : Int)) (hx1 : x < 2 ^ 31) (hy1 : y < 2 ^ 31)
    (kt : y < x → W p l e R s m args below meth c H locs cells slots Q (F0 m tgt ls rest)) (kf : x ≤ y → W p l e R s m args below meth c H locs cells slots Q (F0 m (pc + 3) ls rest)) : W p l e R s m args below meth c H locs cells slots Q (F0 m pc ls (.int (nI y) :: .int (nI x) :: rest)) :=
  lv_icmp_gt hx hb hd ht (fun h => kt ((nI_ltI hy1 hx1).mp h)) (fun h => kf (Nat.not_lt.mp fun z => h ((nI_ltI hy1 hx1).mpr z)))
theorem r_le {x y : Nat} (hx : p.tables.exec = Jvm.exec) (hb : c.code = cc) {off : Int} {tgt : Nat} (hd : decode cc pc = .ok (.if_icmp .le off, 3)) (ht : (pc : Int) + off = (tgt : Int)) (hx1 : x < 2 ^ 31) (hy1 : y < 2 ^ 31)
    (kt : x ≤ y → W p l e R s m args below meth c H locs cells slots Q (F0 m tgt ls rest)) (kf : y < x → W p l e R s m args below meth c H locs cells slots Q (F0 m (pc + 3) ls rest)) : W p l e R s m args below meth c H locs cells slots Q (F0 m pc ls (.int (nI y) :: .int (nI x) :: rest)) :=
  lv_icmp_le hx hb hd ht (fun h => kt ((nI_leI hx1 hy1).mp h)) (fun h => kf (Nat.not_le.mp fun z => h ((nI_leI hx1 hy1).mpr z)))
theorem r_lt {x y : Nat} (hx : p.tables.exec = Jvm.exec) (hb : c.code = cc) {off : Int} {tgt : Nat} (hd : decode cc pc = .ok (.if_icmp .lt off, 3)) (ht : (pc : Int) + off = (tgt : Int)) (hx1 : x < 2 ^ 31) (hy1 : y < 2 ^ 31)
    (kt : x < y → W p l e R s m args below meth c H locs cells slots Q (F0 m tgt ls rest)) (kf : y ≤ x → W p l e R s m args below meth c H locs cells slots Q (F0 m (pc + 3) ls rest)) : W p l e R s m args below meth c H locs cells slots Q (F0 m pc ls (.int (nI y) :: .int (nI x) :: rest)) :=
  lv_icmp_lt hx hb hd ht (fun h => kt ((nI_ltI hx1 hy1).mp h)) (fun h => kf (Nat.not_lt.mp fun z => h ((nI_ltI hx1 hy1).mpr z)))
theorem r_ne {x y : Nat} (hx : p.tables.exec = Jvm.exec) (hb : c.code = cc) {off : Int} {tgt : Nat} (hd : decode cc pc = .ok (.if_icmp .ne off, 3)) (ht : (pc : Int) + off = (tgt : Int)) (hx1 : x < 2 ^ 31) (hy1 : y < 2 ^ 31)
    (kt : x ≠ y → W p l e R s m args below meth c H locs cells slots Q (F0 m tgt ls rest)) (kf : x = y → W p l e R s m args below meth c H locs cells slots Q (F0 m (pc + 3) ls rest)) : W p l e R s m args below meth c H locs cells slots Q (F0 m pc ls (.int (nI y) :: .int (nI x) :: rest)) :=
  lv_icmp_ne hx hb hd ht (fun h => kt (fun z => h (by rw [z]))) (fun h => kf ((nI_eq hx1 hy1).mp h))
theorem r_eq0 {x : Nat} (hx : p.tables.exec = Jvm.exec) (hb : c.code = cc) {off : Int} {tgt : Nat} (hd : decode cc pc = .ok (.ifCond .eq off, 3)) (ht : (pc : Int) + off = (tgt : Int)) (hx1 : x < 2 ^ 31)
    (kt : x = 0 → W p l e R s m args below meth c H locs cells slots Q (F0 m tgt ls rest)) (kf : x ≠ 0 → W p l e R s m args below meth c H locs cells slots Q (F0 m (pc + 3) ls rest)) : W p l e R s m args below meth c H locs cells slots Q (F0 m pc ls (.int (nI x) :: rest)) :=
  lv_if_eq hx hb hd ht (fun h => kt ((nI_eq hx1 (by decide)).mp (h.trans nI_0.symm))) (fun h => kf (fun z => h (by rw [z]; exact nI_0)))
theorem r_ne0 {x : Nat} (hx : p.tables.exec = Jvm.exec) (hb : c.code = cc) {off : Int} {tgt : Nat} (hd : decode cc pc = .ok (.ifCond .ne off, 3)) (ht : (pc : Int) + off = (tgt : Int)) (hx1 : x < 2 ^ 31)
    (kt : x ≠ 0 → W p l e R s m args below meth c H locs cells slots Q (F0 m tgt ls rest)) (kf : x = 0 → W p l e R s m args below meth c H locs cells slots Q (F0 m (pc + 3) ls rest)) : W p l e R s m args below meth c H locs cells slots Q (F0 m pc ls (.int (nI x) :: rest)) :=
  lv_if_ne hx hb hd ht (fun h => kt (fun z => h (by rw [z]; exact nI_0))) (fun h => kf ((nI_eq hx1 (by decide)).mp (h.trans nI_0.symm)))
theorem r_le0 {x : Nat} (hx : p.tables.exec = Jvm.exec) (hb : c.code = cc) {off : Int} {tgt : Nat} (hd : decode cc pc = .ok (.ifCond .le off, 3)) (ht : (pc : Int) + off = (tgt : Int)) (hx1 : x < 2 ^ 31)
    (kt : x = 0 → W p l e R s m args below meth c H locs cells slots Q (F0 m tgt ls rest)) (kf : 0 < x → W p l e R s m args below meth c H locs cells slots Q (F0 m (pc + 3) ls rest)) : W p l e R s m args below meth c H locs cells slots Q (F0 m pc ls (.int (nI x) :: rest)) :=
  lv_if_le hx hb hd ht (fun h => kt (by rw [← nI_0, nI_leI hx1 (by decide)] at h; omega)) (fun h => kf (by rw [← nI_0, nI_leI hx1 (by decide)] at h; omega))
end RW
/-! calls: a method that only reads; a method that changes its own cells -/
def ct_PR (D : va_G) (w : va_W) (tys : List (ClassId × FieldType)) (U : State) : Prop := va_P D ct_cl w U.heap ∧ va_K D ct_cl tys U
def ct_PW (D : va_G) (w : va_W) (tys : List (ClassId × FieldType)) (sz : Nat) (U : State) : Prop := U.heap.size = sz ∧ va_P D ct_cl w U.heap ∧ va_K D ct_cl tys U ∧ va_D (fun _ => True) w
def ct_BW {S : Type} (D : va_G) (tys : List (ClassId × FieldType)) (B : S → va_W) (A : Nat → Prop) (u : S) (t : State) : Prop := va_P D ct_cl (B u) t.heap ∧ va_K D ct_cl tys t ∧ va_D A (B u)
theorem ct_fbR (av : List Value) (D : va_G) (w : va_W) (tys : List (ClassId × FieldType)) : FrameBlind (va_Pc av (ct_PR D w tys)) := fun a U g mk q => by
  obtain ⟨q0, qP, qK⟩ := q
  exact ⟨q0, qP, va_K.moved (u := U) (U := U.calling g mk a) (Vm.Alike.refl U.vm) qK⟩
theorem ct_fbW (av : List Value) (D : va_G) (w : va_W) (tys : List (ClassId × FieldType)) (sz : Nat) : FrameBlind (va_Pc av (ct_PW D w tys sz)) := fun a U g mk q => by
  obtain ⟨q0, q1, qP, qK, qD⟩ := q
  exact ⟨q0, q1, qP, va_K.moved (u := U) (U := U.calling g mk a) (Vm.Alike.refl U.vm) qK, qD⟩
theorem ct_getA {w1 w2 : va_W} {k : Nat} {q : Nat × va_E} (h : w1[k]? = some q) : (w1 ++ w2)[k]? = some q := by
  rw [List.getElem?_append_left (List.getElem?_eq_some_iff.mp h).1]; exact h
theorem ct_getB {w1 w2 : va_W} {k : Nat} {q : Nat × va_E} (h : w2[k]? = some q) : (w1 ++ w2)[w1.length + k]? = some q := by
  rw [List.getElem?_append_right (Nat.le_add_right _ _), Nat.add_sub_cancel_left]; exact h
theorem ct_PL {D : va_G} {cl : List vw_C} {w1 w2 : va_W} {H : Heap} (h : va_P D cl (w1 ++ w2) H) : va_P D cl w1 H := fun k q hk => h k q (ct_getA hk)
theorem ct_PRr {D : va_G} {cl : List vw_C} {w1 w2 : va_W} {H : Heap} (h : va_P D cl (w1 ++ w2) H) : va_P D cl w2 H := fun k q hk => h _ q (ct_getB hk)
theorem ct_DL {A : Nat → Prop} {w1 w2 : va_W} (h : va_D A (w1 ++ w2)) : va_D A w1 := ⟨fun i j p q hi hj e => h.1 i j p q (ct_getA hi) (ct_getA hj) e, fun k q hk => h.2 k q (ct_getA hk)⟩
theorem ct_DR {A : Nat → Prop} {w1 w2 : va_W} (h : va_D A (w1 ++ w2)) : va_D A w2 := ⟨fun i j p q hi hj e => by
  have := h.1 _ _ p q (ct_getB hi) (ct_getB hj) e
  omega, fun k q hk => h.2 _ q (ct_getB hk)⟩
theorem ct_apart {A : Nat → Prop} {w1 w2 : va_W} (h : va_D A (w1 ++ w2)) {i j : Nat} {p q : Nat × va_E} (hi : w1[i]? = some p) (hj : w2[j]? = some q) : p.1 ≠ q.1 := fun e => by
  have h1 := h.1 _ _ p q (ct_getA hi) (ct_getB hj) e
  have h2 := (List.getElem?_eq_some_iff.mp hi).1
  omega
theorem ct_comm {A : Nat → Prop} {D : va_G} {cl : List vw_C} {w1 w2 : va_W} {H : Heap} (hP : va_P D cl (w1 ++ w2) H) (hD : va_D A (w1 ++ w2)) : va_P D cl (w2 ++ w1) H ∧ va_D A (w2 ++ w1) :=
  ⟨va_P.app (ct_PRr hP) (ct_PL hP), va_D.app (ct_DR hD) (ct_DL hD) (fun _ _ _ _ hi hj e => ct_apart hD hj hi e.symm)⟩
theorem ct_free {A : Nat → Prop} {wc wr : va_W} {H0 H : Heap} {locs : List Loc} (hD : va_D A (wc ++ wr)) (hS : va_S A H0 H locs) (hA : ∀ q, H0.size ≤ q → A q) : ∀ q, va_A wc H.size q → A q := by
  intro q h
  rcases h with ⟨k, e, h⟩ | h
  · exact hD.2 k (q, e) (ct_getA h)
  · exact hA q (Nat.le_trans hS.1 h)
theorem ct_join {A : Nat → Prop} {D : va_G} {cl : List vw_C} {wc wr w1 : va_W} {H H1 : Heap} (hP : va_P D cl (wc ++ wr) H) (hD : va_D A (wc ++ wr)) (hk : ∀ q : Nat, q < H.size → ¬ va_A wc H.size q → H1[q]? = H[q]?) (hF : ∀ q, va_A wc H.size q → A q) (hP1 : va_P D cl w1 H1) (hD1 : va_D (va_A wc H.size) w1) : va_P D cl (w1 ++ wr) H1 ∧ va_D A (w1 ++ wr) := by
  have apart : ∀ (k : Nat) (q : Nat × va_E), wr[k]? = some q → q.1 < H.size ∧ ¬ va_A wc H.size q.1 := by
    intro k q hq
    have hl := (ct_PRr hP k q hq).lt
    refine ⟨hl, fun h => ?_⟩
    rcases h with ⟨k2, e, h⟩ | h
    · exact ct_apart hD h hq rfl
    · omega
  refine ⟨va_P.app hP1 (fun k q hq => ?_), va_D.app (hD1.weaken (fun k q _ h => hF q.1 h)) (ct_DR hD) (fun i j x y hx hy hxy => ?_)⟩
  · obtain ⟨g1, g2⟩ := apart k q hq
    exact (ct_PRr hP k q hq).kept (hk q.1 g1 g2)
  · exact (apart j y hy).2 (by rw [← hxy]; exact hD1.2 i x hx)
abbrev ct_dc (y : MethodName) (C : String) (n : Nat) : Prop := y.cls = C ∧ y.cls ≠ "java/lang/invoke/MethodHandle" ∧ y.cls ≠ "java/lang/invoke/VarHandle" ∧ (parseMethodDescriptor y.desc).map (fun d => d.parameters.length) = some n
section CW
variable {p : Program} {l : Launch} {e : Env} {R : Room} {s : State} {m : MethodId} {args : Array Value} {below : List Frame} {meth : Method} {c : Code} {H : Heap} {locs : List Loc} {cells slots : Nat} {Q : State → Prop}
variable {cc b : ByteArray} {pc : Nat} {ls : Array Slot} {rest As : List Value} {D : va_G} {A : Nat → Prop} {o : Nat} {tys : List (ClassId × FieldType)} {wc wr : va_W} {H0 : Heap} {fs : List Value} {own C : String} {y : MethodName} {nL maxL idx n ci N : Nat} {ret : Option FieldType} {rm : Room} {T : u_T}
theorem ct_callR {post : Int32 → Prop} (S0 : CallFix p m c cc nL s args ct_tb own) (hM : Met l y (ww y b maxL ret) rm (va_Pc (.ref o :: As) (ct_PR D wc tys)) (vp_Si post) 0 0 (fun _ => False)) (ok : ok_V own idx C y b maxL ret) (hd : ct_dc y C n) (hR : rm.frames + 1 ≤ R.frames ∧ 8 + (maxL + 11) + rm.locals ≤ R.locals) (hrc : rm.cells = 0) (hrs : rm.slots = 0)
    (hK : va_K D ct_cl tys s) (hP : va_P D ct_cl wc H) (hrecv : wc[0]? = some (o, .inr (ci, fs))) (hcl : ct_cl[ci]? = some (C, T, N)) (hn : As.length = n) (hsize : ls.size = nL) (hroom : (rest.map fun v => v.category).sum ≤ 8) (hdg : decode cc pc = .ok (.invokevirtual idx, 3)) (hf : cells ≤ R.cells ∧ slots ≤ R.slots)
    (kk : ∀ r : Int32, post r → W p l e R s m args below meth c H locs cells slots Q (F0 m (pc + 3) ls (.int r :: rest))) : W p l e R s m args below meth c H locs cells slots Q (F0 m pc ls (As.reverse ++ .ref o :: rest)) :=
  vp_callSi (va_Run.run (va_runV (As := As) (rest := rest) S0 hM (cwV n S0.2.2.2.2 ok.good rfl hrc hrs hd hR) ⟨ct_fbR _ _ _ _, va_recv hK hP hcl hrecv, fun U hU hW => ⟨rfl, by rw [hU]; exact hP, va_K.moved hW.alike hK⟩⟩ rfl hn hsize rfl (lv_room hroom) hdg hf)) kk
theorem ct_callSt {post : Int32 → Prop} (S0 : CallFix p m c cc nL s args ct_tb own) (hM : Met l y (ww y b maxL ret) rm (va_Pc As (ct_PR D [] [])) (vp_Si post) 0 0 (fun _ => False)) (ok : ok_S own idx y b maxL ret) (hd : ct_dc y own n) (hR : rm.frames + 1 ≤ R.frames ∧ 8 + (maxL + 11) + rm.locals ≤ R.locals) (hrc : rm.cells = 0) (hrs : rm.slots = 0)
    (hK : va_K D ct_cl tys s) (hn : As.length = n) (hsize : ls.size = nL) (hroom : (rest.map fun v => v.category).sum ≤ 8) (hdg : decode cc pc = .ok (.invokestatic idx, 3)) (hf : cells ≤ R.cells ∧ slots ≤ R.slots)
    (kk : ∀ r : Int32, post r → W p l e R s m args below meth c H locs cells slots Q (F0 m (pc + 3) ls (.int r :: rest))) : W p l e R s m args below meth c H locs cells slots Q (F0 m pc ls (As.reverse ++ rest)) :=
  vp_callSi (va_Run.run (va_runS (As := As) (rest := rest) S0 hM (cwS n S0.2.2.2.2 ok.good rfl hrc hrs hd hR) ⟨ct_fbR _ _ _ _, fun U hU hW => ⟨rfl, fun k q h => by simp at h, va_K.moved hW.alike (hK.sub (tys' := []) [] rfl)⟩⟩ rfl hn hsize rfl (lv_room hroom) hdg hf)) kk
theorem ct_callW {S : Type} {post : Int32 → S → Prop} {B : S → va_W} (S0 : CallFix p m c cc nL s args ct_tb own) (hM : Met l y (ww y b maxL ret) rm (va_Pc (.ref o :: As) (ct_PW D wc tys H.size)) (va_Qi post (ct_BW D tys B (va_A wc H.size)) (va_A wc H.size)) 0 0 (va_A wc H.size)) (ok : ok_V own idx C y b maxL ret) (hd : ct_dc y C n) (hR : rm.frames + 1 ≤ R.frames ∧ 8 + (maxL + 11) + rm.locals ≤ R.locals) (hrc : rm.cells = 0) (hrs : rm.slots = 0)
    (hK : va_K D ct_cl tys s) (hP : va_P D ct_cl (wc ++ wr) H) (hD : va_D A (wc ++ wr)) (hS : va_S A H0 H locs) (hA : ∀ q, H0.size ≤ q → A q) (hrecv : wc[0]? = some (o, .inr (ci, fs))) (hcl : ct_cl[ci]? = some (C, T, N)) (hn : As.length = n) (hsize : ls.size = nL) (hroom : (rest.map fun v => v.category).sum ≤ 8) (hdg : decode cc pc = .ok (.invokevirtual idx, 3)) (hf : cells ≤ R.cells ∧ slots ≤ R.slots)
    (kk : ∀ (r : Int32) (u : S) (H1 : Heap) (locs1 : List Loc), post r u → va_P D ct_cl (B u ++ wr) H1 → va_D A (B u ++ wr) → va_S A H0 H1 locs1 → W p l e R s m args below meth c H1 locs1 cells slots Q (F0 m (pc + 3) ls (.int r :: rest))) : W p l e R s m args below meth c H locs cells slots Q (F0 m pc ls (As.reverse ++ .ref o :: rest)) := by
  have hPc := ct_PL hP
  have hFc := ct_free hD hS hA
  refine va_calli (va_runV (As := As) (rest := rest) S0 hM (cwV n S0.2.2.2.2 ok.good rfl hrc hrs hd hR) ⟨ct_fbW _ _ _ _ _, va_recv hK hPc hcl hrecv, fun U hU hW => ⟨rfl, by rw [hU], by rw [hU]; exact hPc, va_K.moved hW.alike hK, (ct_DL hD).weaken (fun _ _ _ _ => trivial)⟩⟩ rfl hn hsize rfl (lv_room hroom) hdg hf) hS (fun q _ h => hFc q h) hFc (fun r u t H1 locs1 ht hvm hw hB hz1 hk1 hS1 => ?_)
  obtain ⟨hP1, hK1, hD1⟩ := hB
  rw [ht] at hP1
  obtain ⟨hP2, hD2⟩ := ct_join hP hD hk1 hFc hP1 hD1
  exact kk r u H1 locs1 hw hP2 hD2 hS1
theorem ct_callV {S : Type} {post : S → Prop} {B : S → va_W} (S0 : CallFix p m c cc nL s args ct_tb own) (hM : Met l y (ww y b maxL ret) rm (va_Pc (.ref o :: As) (ct_PW D wc tys H.size)) (va_Qv post (ct_BW D tys B (va_A wc H.size)) (va_A wc H.size)) 0 0 (va_A wc H.size)) (ok : ok_V own idx C y b maxL ret) (hd : ct_dc y C n) (hR : rm.frames + 1 ≤ R.frames ∧ 8 + (maxL + 11) + rm.locals ≤ R.locals) (hrc : rm.cells = 0) (hrs : rm.slots = 0)
    (hK : va_K D ct_cl tys s) (hP : va_P D ct_cl (wc ++ wr) H) (hD : va_D A (wc ++ wr)) (hS : va_S A H0 H locs) (hA : ∀ q, H0.size ≤ q → A q) (hrecv : wc[0]? = some (o, .inr (ci, fs))) (hcl : ct_cl[ci]? = some (C, T, N)) (hn : As.length = n) (hsize : ls.size = nL) (hroom : (rest.map fun v => v.category).sum ≤ 8) (hdg : decode cc pc = .ok (.invokevirtual idx, 3)) (hf : cells ≤ R.cells ∧ slots ≤ R.slots)
    (kk : ∀ (u : S) (H1 : Heap) (locs1 : List Loc), post u → va_P D ct_cl (B u ++ wr) H1 → va_D A (B u ++ wr) → va_S A H0 H1 locs1 → W p l e R s m args below meth c H1 locs1 cells slots Q (F0 m (pc + 3) ls rest)) : W p l e R s m args below meth c H locs cells slots Q (F0 m pc ls (As.reverse ++ .ref o :: rest)) := by
  have hPc := ct_PL hP
  have hFc := ct_free hD hS hA
  refine va_callv (va_runV (As := As) (rest := rest) S0 hM (cwV n S0.2.2.2.2 ok.good rfl hrc hrs hd hR) ⟨ct_fbW _ _ _ _ _, va_recv hK hPc hcl hrecv, fun U hU hW => ⟨rfl, by rw [hU], by rw [hU]; exact hPc, va_K.moved hW.alike hK, (ct_DL hD).weaken (fun _ _ _ _ => trivial)⟩⟩ rfl hn hsize rfl (lv_room hroom) hdg hf) hS (fun q _ h => hFc q h) hFc (fun u t H1 locs1 ht hvm hw hB hz1 hk1 hS1 => ?_)
  obtain ⟨hP1, hK1, hD1⟩ := hB
  rw [ht] at hP1
  obtain ⟨hP2, hD2⟩ := ct_join hP hD hk1 hFc hP1 hD1
  exact kk u H1 locs1 hw hP2 hD2 hS1
end CW
end
section
/-! numbers: nI under the machine's operations -/
theorem nx_and (a b : Nat) : nI a &&& nI b = nI (a &&& b) := by
  apply Int32.toBitVec_inj.1
  show BitVec.ofNat 32 a &&& BitVec.ofNat 32 b = BitVec.ofNat 32 (a &&& b)
  apply BitVec.eq_of_getLsbD_eq
  intro i hi
  simp [hi]
theorem nx_xor (a b : Nat) : nI a ^^^ nI b = nI (a ^^^ b) := by
  apply Int32.toBitVec_inj.1
  show BitVec.ofNat 32 a ^^^ BitVec.ofNat 32 b = BitVec.ofNat 32 (a ^^^ b)
  apply BitVec.eq_of_getLsbD_eq
  intro i hi
  simp [hi]
theorem nx_or (a b : Nat) : nI a ||| nI b = nI (a ||| b) := by
  apply Int32.toBitVec_inj.1
  show BitVec.ofNat 32 a ||| BitVec.ofNat 32 b = BitVec.ofNat 32 (a ||| b)
  apply BitVec.eq_of_getLsbD_eq
  intro i hi
  simp [hi]
theorem s_l : ∀ n, n < 32 → ((nI n &&& 31).toBitVec.smod 32).toNat = n := by decide +kernel
theorem s_u : ∀ n, n < 32 → (((nI n).toUInt32 &&& Int32.toUInt32 31).toBitVec % 32).toNat = n := by decide +kernel
theorem ct_mask (n k : Nat) : nI n &&& nI (2 ^ k - 1) = nI (n % 2 ^ k) := by rw [nx_and, Nat.and_two_pow_sub_one_eq_mod]
theorem ct_a1 (n : Nat) : nI n &&& nI 1 = nI (n % 2) := ct_mask n 1
theorem ct_a15 (n : Nat) : nI n &&& nI 15 = nI (n % 16) := ct_mask n 4
theorem ct_a31 (n : Nat) : nI n &&& nI 31 = nI (n % 32) := ct_mask n 5
theorem ct_a255 (n : Nat) : nI n &&& nI 255 = nI (n % 256) := ct_mask n 8
theorem ct_a4095 (n : Nat) : nI n &&& nI 4095 = nI (n % 4096) := ct_mask n 12
theorem ct_aL (n : Nat) : nI n &&& nI 33554431 = nI (n % 33554432) := ct_mask n 25
theorem ct_aM (n : Nat) : nI n &&& nI 2147483647 = nI (n % 2147483648) := ct_mask n 31
theorem ct_shr {n s : Nat} (hn : n < 2 ^ 31) (hs : s < 32) : nI n >>> (nI s &&& 31) = nI (n / 2 ^ s) := pk_shrN hn _ s (s_l s hs)
theorem ct_shl {n s : Nat} (h : n * 2 ^ s < 2 ^ 32) (hs : s < 32) : nI n <<< (nI s &&& 31) = nI (n * 2 ^ s) := pk_shlN _ s (s_l s hs) h
theorem ct_ushr {n s : Nat} (hn : n < 2 ^ 32) (hs : s < 32) : ((nI n).toUInt32 >>> ((nI s).toUInt32 &&& Int32.toUInt32 31)).toInt32 = nI (n / 2 ^ s) := pk_ushrN hn _ s (s_u s hs)
theorem ct_of32 (x : Int32) : ∃ n, n < 2 ^ 32 ∧ x = nI n := ⟨x.toBitVec.toNat, x.toBitVec.isLt, by
  apply Int32.toBitVec_inj.1
  show x.toBitVec = BitVec.ofNat 32 x.toBitVec.toNat
  simp⟩
/-- what a byte keeps -/
def ct_sx (n : Nat) : Int32 := (nI n).toInt8.toInt32
theorem ct_i2b (n : Nat) : (nI n).toInt8.toInt32 = ct_sx (n % 256) := by
  unfold ct_sx
  congr 1
  apply Int8.toBitVec_inj.1
  show (BitVec.ofNat 32 n).signExtend 8 = (BitVec.ofNat 32 (n % 256)).signExtend 8
  apply BitVec.eq_of_getLsbD_eq
  intro i hi
  rw [BitVec.getLsbD_signExtend, BitVec.getLsbD_signExtend]
  have h32 : i < 32 := by omega
  simp only [hi, h32, if_true, decide_true, Bool.true_and, BitVec.getLsbD_ofNat]
  rw [show (256 : Nat) = 2 ^ 8 from rfl, Nat.testBit_mod_two_pow]
  simp [hi]
theorem ct_small : ∀ n, n < 128 → (nI n).toInt8.toInt32 = nI n := by decide +kernel
theorem ct_sx255 : ∀ n, n < 256 → ct_sx n &&& nI 255 = nI n := by decide +kernel
theorem ct_nb (x : Int32) : vp_nar .byte x.toInt8.toInt32 = x.toInt8.toInt32 := pk_vb x
theorem ct_nbs {n : Nat} (h : n < 128) : vp_nar .byte (nI n) = nI n := by rw [vp_nar_byte]; exact ct_small n h
theorem ct_nbx (n : Nat) : vp_nar .byte (ct_sx n) = ct_sx n := pk_vb (nI n)
/-! the sum -/
def ct_T (t : Nat) : Nat := (if t &&& 1 = 0 then 0 else 996825010) ^^^ (if t &&& 2 = 0 then 0 else 642813549) ^^^ (if t &&& 4 = 0 then 0 else 513874426) ^^^ (if t &&& 8 = 0 then 0 else 1027748829) ^^^ (if t &&& 16 = 0 then 0 else 705979059)
theorem ct_T_lt (t : Nat) : ct_T t < 2 ^ 30 := by
  unfold ct_T
  refine Nat.xor_lt_two_pow (Nat.xor_lt_two_pow (Nat.xor_lt_two_pow (Nat.xor_lt_two_pow ?_ ?_) ?_) ?_) ?_ <;> (split <;> decide)
def ct_step (c v : Nat) : Nat := (c % 33554432 * 32) ^^^ v ^^^ ct_T (c / 33554432)
theorem ct_step_lt {c v : Nat} (hv : v < 2 ^ 30) : ct_step c v < 2 ^ 30 := Nat.xor_lt_two_pow (Nat.xor_lt_two_pow (by omega) hv) (ct_T_lt _)
def ct_run (c : Nat) (l : List Nat) : Nat := l.foldl ct_step c
theorem ct_run_snoc (c : Nat) (l : List Nat) (x : Nat) : ct_run c (l ++ [x]) = ct_step (ct_run c l) x := by simp [ct_run]
theorem ct_run_lt (l : List Nat) : ∀ {c : Nat}, c < 2 ^ 30 → (∀ x ∈ l, x < 2 ^ 30) → ct_run c l < 2 ^ 30 := by
  induction l with
  | nil => intro c h _; exact h
  | cons a l ih => intro c h hl; exact ih (ct_step_lt (hl a List.mem_cons_self)) (fun x hx => hl x (List.mem_cons_of_mem _ hx))
def ct_hd (hl : List Nat) : Nat := ct_run (ct_step (ct_run 1 (hl.map (fun x => x / 32))) 0) (hl.map (fun x => x % 32))
theorem ct_hd_lt (hl : List Nat) : ct_hd hl < 2 ^ 30 := ct_run_lt _ (ct_step_lt (by decide)) (fun x hx => by
  obtain ⟨y, -, rfl⟩ := List.mem_map.mp hx
  show y % 32 < 2 ^ 30
  omega)
def ct_sum (hl dl : List Nat) : Nat := ct_run (ct_hd hl) dl
theorem ct_sum_lt (hl : List Nat) {dl : List Nat} (h : ∀ x ∈ dl, x < 32) : ct_sum hl dl < 2 ^ 30 := ct_run_lt _ (ct_hd_lt hl) (fun x hx => Nat.lt_trans (h x hx) (by decide))
theorem ct_take {α : Type} (l : List α) {k : Nat} (d : α) (h : k < l.length) : l.take (k + 1) = l.take k ++ [l.getD k d] := by
  rw [List.take_succ_eq_append_getElem h]
  simp [h]
theorem ct_rs {α : Type} (f : Nat → α) (i : Nat) : (List.range (i + 1)).map f = (List.range i).map f ++ [f i] := by
  rw [List.range_succ, List.map_append]; rfl
theorem ct_lr {α : Type} (f : Nat → α) (i : Nat) : ((List.range i).map f).length = i := by simp
theorem ct_gr (f : Nat → Nat) {i j : Nat} (h : j < i) : ((List.range i).map f).getD j 0 = f j := by simp [h]
/-! a list of numbers in an array -/
def LA (g f : Nat → Int32) (l : List Nat) (cap bd : Nat) : Prop := l.length ≤ cap ∧ (∀ x ∈ l, x < bd) ∧ ∀ j, j < l.length → f j = g (l.getD j 0)
theorem LA.nil {g f : Nat → Int32} {cap bd : Nat} : LA g f [] cap bd := ⟨Nat.zero_le _, fun _ h => (by cases h), fun j h => absurd h (Nat.not_lt_zero j)⟩
theorem LA.lt {g f : Nat → Int32} {l : List Nat} {cap bd : Nat} (h : LA g f l cap bd) {j : Nat} (hj : j < l.length) : l.getD j 0 < bd := by
  have e : l.getD j 0 = l[j] := by simp [hj]
  rw [e]
  exact h.2.1 _ (List.getElem_mem hj)
theorem LA.push {g f : Nat → Int32} {l : List Nat} {cap bd : Nat} (h : LA g f l cap bd) (hl : l.length < cap) {x : Nat} (hx : x < bd) {z : Int32} (hz : z = g x) : LA g (upd f l.length z) (l ++ [x]) cap bd := by
  refine ⟨by simp; omega, fun y hy => ?_, fun j hj => ?_⟩
  · rcases List.mem_append.mp hy with h1 | h1
    · exact h.2.1 y h1
    · rw [List.mem_singleton.mp h1]; exact hx
  · by_cases e : j = l.length
    · subst e
      rw [pk_us, hz]
      simp
    · have hj2 : j < l.length := by simp at hj; omega
      rw [pk_un e, h.2.2 j hj2]
      congr 1
      simp [List.getElem?_append_left hj2]
theorem LA.set {g f : Nat → Int32} {l : List Nat} {cap bd : Nat} (h : LA g f l cap bd) {k x : Nat} (hx : x < bd) {z : Int32} (hz : z = g x) (hk : k < l.length) : LA g (upd f k z) (l.set k x) cap bd := by
  refine ⟨by simpa using h.1, fun y hy => ?_, fun j hj => ?_⟩
  · rcases List.mem_or_eq_of_mem_set hy with h1 | h1
    · exact h.2.1 y h1
    · rw [h1]; exact hx
  · have hj2 : j < l.length := by simpa using hj
    by_cases e : j = k
    · subst e
      rw [pk_us, hz]
      simp [hj2]
    · rw [pk_un e, h.2.2 j hj2]
      congr 1
      simp [List.getElem?_set_ne (Ne.symm e)]
theorem LA.of {g f : Nat → Int32} {l : List Nat} {cap bd : Nat} (h1 : l.length ≤ cap) (h2 : ∀ x ∈ l, x < bd) (h3 : ∀ j, j < l.length → f j = g (l.getD j 0)) : LA g f l cap bd := ⟨h1, h2, h3⟩
/-! how far the sums are known -/
def KN (hl dl : List Nat) (fs : Nat → Int32) (kn : Int32) : Prop := kn = -1 ∨ ∃ k, k ≤ dl.length ∧ kn = nI k ∧ ∀ j, j ≤ k → fs j = nI (ct_sum hl (dl.take j))
theorem KN.no {hl dl : List Nat} {fs : Nat → Int32} : KN hl dl fs (-1) := Or.inl rfl
theorem KN.push {hl dl : List Nat} {fs : Nat → Int32} {kn : Int32} (h : KN hl dl fs kn) (l2 : List Nat) : KN hl (dl ++ l2) fs kn := by
  rcases h with h | ⟨k, h1, h2, h3⟩
  · exact Or.inl h
  · refine Or.inr ⟨k, by simp; omega, h2, fun j hj => ?_⟩
    rw [List.take_append_of_le_length (by omega)]
    exact h3 j hj
theorem KN.set {hl dl : List Nat} {fs : Nat → Int32} {kn : Int32} (h : KN hl dl fs kn) {p x : Nat} (hp : p < dl.length) (hn : dl.length ≤ 64) : KN hl (dl.set p x) fs (if nI p < kn then nI p else kn) := by
  rcases h with h | ⟨k, h1, h2, h3⟩
  · refine Or.inl ?_
    rw [h, if_neg]
    intro z
    have h4 : nI p < nI p := Int32.lt_of_lt_of_le z (Int32.le_trans (show (-1 : Int32) ≤ 0 by decide) (nI_pos' (by omega)))
    exact absurd h4 (Int32.lt_irrefl)
  · have hset : ∀ j, j ≤ p → (dl.set p x).take j = dl.take j := fun j hj => by
      rw [List.take_set, List.set_eq_of_length_le (by simp; omega)]
    rw [h2]
    by_cases hlt : p < k
    · rw [if_pos (nI_lt hlt (by omega))]
      exact Or.inr ⟨p, by simp; omega, rfl, fun j hj => by rw [hset j hj]; exact h3 j (by omega)⟩
    · rw [if_neg (nI_nlt (by omega) (by omega))]
      exact Or.inr ⟨k, by simpa using h1, rfl, fun j hj => by rw [hset j (by omega)]; exact h3 j hj⟩
theorem KN.zero {hl dl : List Nat} {fs : Nat → Int32} {kn : Int32} (h : KN hl dl fs kn) (hn : dl.length ≤ 64) : KN hl [] fs (if nI 0 < kn then nI 0 else kn) := by
  rcases h with h | ⟨k, h1, h2, h3⟩
  · refine Or.inl ?_
    rw [h]
    decide
  · have e : (if nI 0 < kn then nI 0 else kn) = nI 0 := by
      rw [h2]
      by_cases hk : 0 < k
      · rw [if_pos (nI_lt hk (by omega))]
      · have : k = 0 := by omega
        subst this
        simp
    rw [e]
    exact Or.inr ⟨0, Nat.le_refl _, rfl, fun j hj => by
      have : j = 0 := by omega
      subst this
      exact h3 0 (Nat.zero_le _)⟩
/-! the two pictures -/
def ct_tabOk (tb : Nat → Int32) : Prop := ∀ t, t < 32 → tb t = nI (ct_T t)
def RX (tb fh fd fb fs : Nat → Int32) (kn : Int32) (hl dl bl : List Nat) : Prop := ct_tabOk tb ∧ LA nI fh hl 8 128 ∧ LA nI fd dl 64 32 ∧ LA ct_sx fb bl 40 256 ∧ KN hl dl fs kn
def RM (fh fd fb : Nat → Int32) (hl dl bl : List Nat) : Prop := LA nI fh hl 8 128 ∧ LA nI fd dl 64 32 ∧ LA nI fb bl 40 256
/-! what each call answers and leaves -/
def ct_pl (i n : Nat) : Nat := i % 2147483648 % n
def ct_headL (hl : List Nat) (v : Nat) : List Nat := if hl.length = 8 then hl else hl ++ [33 + ct_pl v 94]
def ct_headA (hl : List Nat) : Int32 := if hl.length = 8 then nI 0 else nI 1
def ct_putL (dl : List Nat) (a x y z : Nat) : List Nat := if 58 < dl.length + 4 then dl else dl ++ [a % 32, x % 32, y % 32, z % 32]
def ct_putA (dl : List Nat) : Int32 := if 58 < dl.length + 4 then nI 0 else nI 1
def ct_kx (v : Nat) : Nat := if v % 2 = 0 then 1 else 734539939
def ct_sc (hl dl : List Nat) (v : Nat) : Nat := ct_run (ct_sum hl dl) (List.replicate 6 0) ^^^ ct_kx v
def ct_sealF (hl dl : List Nat) (v : Nat) : Nat → Nat := fun i => ct_sc hl dl v / 2 ^ (25 - 5 * i) % 32
def ct_sealL (hl dl : List Nat) (v : Nat) : List Nat := if 64 < dl.length + 6 then dl else dl ++ (List.range 6).map (ct_sealF hl dl v)
def ct_sealA (dl : List Nat) : Int32 := if 64 < dl.length + 6 then nI 0 else nI 1
def ct_chk (c : Nat) : Int32 := if c = 1 then nI 0 else if c = 734539939 then nI 1 else -1
def ct_spoilL (dl : List Nat) (i v : Nat) : List Nat := if dl.length = 0 then dl else dl.set (ct_pl i dl.length) (dl.getD (ct_pl i dl.length) 0 ^^^ (v % 32))
def ct_spoilA (dl : List Nat) : Int32 := if dl.length = 0 then nI 0 else nI 1
def ct_atA (dl : List Nat) (i : Nat) : Int32 := if dl.length = 0 then -1 else nI (dl.getD (ct_pl i dl.length) 0)
def ct_octL (bl : List Nat) (v : Nat) : List Nat := if bl.length = 40 then bl else bl ++ [v % 256]
def ct_octA (bl : List Nat) : Int32 := if bl.length = 40 then nI 0 else nI 1
/-- a list of digits as one number -/
def ct_val (B : Nat) (l : List Nat) : Nat := l.foldl (fun a d => a * B + d) 0
def ct_sprF (bl : List Nat) : Nat → Nat := fun j => ct_val 256 bl * 16 / 2 ^ (8 * bl.length - 1 - 5 * j) % 32
def ct_spr (bl : List Nat) : List Nat := (List.range ((8 * bl.length + 4) / 5)).map (ct_sprF bl)
def ct_sprL (dl bl : List Nat) : List Nat := if 58 < (8 * bl.length + 4) / 5 then dl else ct_spr bl
def ct_sprA (bl : List Nat) : Int32 := if 58 < (8 * bl.length + 4) / 5 then -1 else nI ((8 * bl.length + 4) / 5)
def ct_gatF (dl : List Nat) : Nat → Nat := fun j => ct_val 32 dl / 2 ^ (5 * dl.length - 8 * (j + 1)) % 256
def ct_gat (dl : List Nat) : List Nat := (List.range (5 * dl.length / 8)).map (ct_gatF dl)
def ct_gok (dl : List Nat) : Bool := decide (5 * dl.length % 8 ≤ 4) && decide (ct_val 32 dl % 2 ^ (5 * dl.length % 8) = 0)
def ct_gatL (dl bl : List Nat) : List Nat := if ct_gok dl = true then ct_gat dl else bl
def ct_gatA (dl : List Nat) : Int32 := if ct_gok dl = true then nI (5 * dl.length / 8) else -1
def ct_byA (bl : List Nat) (i : Nat) : Int32 := if bl.length = 0 then -1 else nI (bl.getD (ct_pl i bl.length) 0)
end
section
/-! the cells of the two objects; contracts of on, place, step -/
abbrev wX (q : Nat → Nat) (kk : Nat → ClassId) (tb fh fd fb fs : Nat → Int32) (h n b : Nat) (kn : Int32) : va_W := [(q 0, .inr (0, [.ref (q 1), .ref (q 2), .ref (q 3), .ref (q 4), .int (nI h), .int (nI n), .int (nI b), .ref (q 5), .int kn])), (q 1, .inl (kk 1, 32, .inl tb)), (q 2, .inl (kk 2, 8, .inl fh)), (q 3, .inl (kk 3, 64, .inl fd)), (q 4, .inl (kk 4, 40, .inl fb)), (q 5, .inl (kk 5, 65, .inl fs))]
abbrev tX (kk : Nat → ClassId) : List (ClassId × FieldType) := [(kk 1, .int), (kk 2, .byte), (kk 3, .byte), (kk 4, .byte), (kk 5, .int)]
abbrev wM (q : Nat → Nat) (kk : Nat → ClassId) (fh fd fb : Nat → Int32) (h n b : Nat) : va_W := [(q 0, .inr (1, [.ref (q 1), .int (nI h), .ref (q 2), .int (nI n), .ref (q 3), .int (nI b)])), (q 1, .inl (kk 1, 8, .inl fh)), (q 2, .inl (kk 2, 64, .inl fd)), (q 3, .inl (kk 3, 40, .inl fb))]
abbrev tM (kk : Nat → ClassId) : List (ClassId × FieldType) := [(kk 1, .int), (kk 2, .int), (kk 3, .int)]
abbrev XU : Type := (Nat → Int32) × (Nat → Int32) × (Nat → Int32) × (Nat → Int32) × Int32 × List Nat × List Nat × List Nat
abbrev MU : Type := (Nat → Int32) × (Nat → Int32) × (Nat → Int32) × List Nat × List Nat × List Nat
abbrev wXu (q : Nat → Nat) (kk : Nat → ClassId) (tb : Nat → Int32) (u : XU) : va_W := match u with
  | (fh, fd, fb, fs, kn, hl, dl, bl) => wX q kk tb fh fd fb fs hl.length dl.length bl.length kn
abbrev wMu (q : Nat → Nat) (kk : Nat → ClassId) (u : MU) : va_W := match u with
  | (fh, fd, fb, hl, dl, bl) => wM q kk fh fd fb hl.length dl.length bl.length
/-- the answer, the lists, the picture -/
def pX (tb : Nat → Int32) (a : Int32) (HL DL BL : List Nat) (r : Int32) (u : XU) : Prop := match u with
  | (fh, fd, fb, fs, kn, hl, dl, bl) => r = a ∧ hl = HL ∧ dl = DL ∧ bl = BL ∧ RX tb fh fd fb fs kn hl dl bl
def pM (a : Int32) (HL DL BL : List Nat) (r : Int32) (u : MU) : Prop := match u with
  | (fh, fd, fb, hl, dl, bl) => r = a ∧ hl = HL ∧ dl = DL ∧ bl = BL ∧ RM fh fd fb hl dl bl
theorem dc_X_on : ct_dc y_X_on R_X 2 := by decide +kernel
theorem dc_X_headed : ct_dc y_X_headed R_X 0 := by decide +kernel
theorem dc_X_sum : ct_dc y_X_sum R_X 0 := by decide +kernel
theorem dc_X_place : ct_dc y_X_place R_X 2 := by decide +kernel
theorem dc_X_head : ct_dc y_X_head R_X 1 := by decide +kernel
theorem dc_X_add : ct_dc y_X_add R_X 1 := by decide +kernel
theorem dc_X_put : ct_dc y_X_put R_X 4 := by decide +kernel
theorem dc_X_wipe : ct_dc y_X_wipe R_X 0 := by decide +kernel
theorem dc_X_seal : ct_dc y_X_seal R_X 1 := by decide +kernel
theorem dc_X_check : ct_dc y_X_check R_X 0 := by decide +kernel
theorem dc_X_spoil : ct_dc y_X_spoil R_X 2 := by decide +kernel
theorem dc_X_at : ct_dc y_X_at R_X 1 := by decide +kernel
theorem dc_X_size : ct_dc y_X_size R_X 0 := by decide +kernel
theorem dc_X_octet : ct_dc y_X_octet R_X 1 := by decide +kernel
theorem dc_X_spread : ct_dc y_X_spread R_X 0 := by decide +kernel
theorem dc_X_gather : ct_dc y_X_gather R_X 0 := by decide +kernel
theorem dc_X_byteAt : ct_dc y_X_byteAt R_X 1 := by decide +kernel
theorem dc_M_step : ct_dc y_M_step R_M 2 := by decide +kernel
theorem dc_M_run : ct_dc y_M_run R_M 1 := by decide +kernel
theorem dc_M_head : ct_dc y_M_head R_M 1 := by decide +kernel
theorem dc_M_put : ct_dc y_M_put R_M 4 := by decide +kernel
theorem dc_M_wipe : ct_dc y_M_wipe R_M 0 := by decide +kernel
theorem dc_M_seal : ct_dc y_M_seal R_M 1 := by decide +kernel
theorem dc_M_check : ct_dc y_M_check R_M 0 := by decide +kernel
theorem dc_M_spoil : ct_dc y_M_spoil R_M 2 := by decide +kernel
theorem dc_M_at : ct_dc y_M_at R_M 1 := by decide +kernel
theorem dc_M_size : ct_dc y_M_size R_M 0 := by decide +kernel
theorem dc_M_octet : ct_dc y_M_octet R_M 1 := by decide +kernel
theorem dc_M_spread : ct_dc y_M_spread R_M 0 := by decide +kernel
theorem dc_M_gather : ct_dc y_M_gather R_M 0 := by decide +kernel
theorem dc_M_byteAt : ct_dc y_M_byteAt R_M 1 := by decide +kernel
set_option maxHeartbeats 4000000 in
set_option maxRecDepth 100000 in
theorem c_X_on (l : Launch) (D : va_G) (q : Nat → Nat) (kk : Nat → ClassId) {tb fh fd fb fs : Nat → Int32} {h n b : Nat} {kn : Int32} (ht : ct_tabOk tb) {c v : Nat} (hc : c < 2 ^ 30) (hv : v < 2 ^ 30) : Met l y_X_on (ww y_X_on b_X_on 3 (some .int)) ({ frames := 0, cells := 0, slots := 0, locals := 0 } : Room) (va_Pc [.ref (q 0), .int (nI c), .int (nI v)] (ct_PR D (wX q kk tb fh fd fb fs h n b kn) (tX kk))) (vp_Si (fun r => r = nI (ct_step c v))) 0 0 (fun _ => False) := by
  refine Met.ofW (cc := b_X_on) (maxL := 3) (ret := (some .int)) (by decide) rfl ?_
  intro p e s m args below meth co s₁ B hml hv0
  obtain ⟨rfl, hP, hK⟩ := hv0
  have hx := B.exec
  have hb := B.bytes
  have hr := B.returns
  have hts := fun w0 (h0 : w0 ∈ ct_tb) => atoms_spec (ws := ww y_X_on b_X_on 3 (some .int)) B.pre w0 (List.mem_cons_of_mem _ h0)
  have hown : s.vm.findClass R_X = some m.cls := findClass_of_methodNamed B.named
  have hlocks := B.notSynchronized
  have hl := lv_entry ([.ref (q 0), .int (nI c), .int (nI v)]) (n := 3) (Nat.le_of_ble_eq_true rfl)
  rw [lg_entry_eq]
  generalize (lg_sl ([.ref (q 0), .int (nI c), .int (nI v)]) ++ List.replicate (3 - (lg_sl ([.ref (q 0), .int (nI c), .int (nI v)])).length) Slot.unset).toArray = ls at hl ⊢
  have hl : lv_has ls 3 [(0, .ref (q 0)), (1, .int (nI c)), (2, .int (nI v))] := hl
  refine lv_iload_n hx hb d_X_on_0 rfl (lv_at hl 1 rfl) ?_
  refine lv_ldc hx hb hown (hts _ tb_83) d_X_on_1 ?_
  refine r_as (y := nI 33554431) (by decide) ?_
  refine lv_iand hx hb d_X_on_3 ?_
  refine r_as (y := nI (c % 33554432)) (ct_aL _) ?_
  refine lv_iconst (v := nI 5) hx hb d_X_on_4 (by decide) ?_
  refine lv_ishl hx hb d_X_on_5 ?_
  refine r_as (y := nI ((c % 33554432) * 2 ^ 5)) (ct_shl (by omega) (by decide)) ?_
  refine lv_iload_n hx hb d_X_on_6 rfl (lv_at hl 2 rfl) ?_
  refine lv_ixor hx hb d_X_on_7 ?_
  refine r_as (y := nI (((c % 33554432) * 2 ^ 5) ^^^ v)) (nx_xor _ _) ?_
  refine lv_aload_n hx hb d_X_on_8 rfl (lv_at hl 0 rfl) ?_
  refine x_get hx hb hts hown hK hP 0 (by decide) tb_17 rfl d_X_on_9 ?_
  refine lv_iload_n hx hb d_X_on_12 rfl (lv_at hl 1 rfl) ?_
  refine lv_bipush (v := nI 25) hx hb d_X_on_13 (by decide) ?_
  refine lv_ishr hx hb d_X_on_15 ?_
  refine r_as (y := nI (c / 2 ^ 25)) (ct_shr (by omega) (by decide)) ?_
  refine r_iald (v := nI (ct_T (c / 33554432))) hx hb hK hP 1 0 rfl rfl (by omega) (by decide) (ht _ (by omega)) d_X_on_16 ?_
  refine lv_ixor hx hb d_X_on_17 ?_
  refine r_as (y := nI ((((c % 33554432) * 2 ^ 5) ^^^ v) ^^^ (ct_T (c / 33554432)))) (nx_xor _ _) ?_
  exact W.iret (v := nI ((((c % 33554432) * 2 ^ 5) ^^^ v) ^^^ (ct_T (c / 33554432)))) hx hb hr (fun t ht _ => ⟨nI ((((c % 33554432) * 2 ^ 5) ^^^ v) ^^^ (ct_T (c / 33554432))), rfl, rfl, ht⟩) (fun _ hq => by cases hq) d_X_on_18
theorem k_X_on {p : Program} {l : Launch} {e : Env} {R : Room} {s : State} {m : MethodId} {args : Array Value} {below : List Frame} {meth : Method} {co : Code} {H : Heap} {locs : List Loc} {Q : State → Prop} {cc : ByteArray} {pc nL : Nat} {ls : Array Slot} {rest : List Value} {D : va_G} {q : Nat → Nat} {kk : Nat → ClassId} {tb fh fd fb fs : Nat → Int32} {h n b : Nat} {kn : Int32} {c v : Nat} (hx : p.tables.exec = Jvm.exec) (hb : co.code = cc) (hml : co.maxLocals = nL) (hown : s.vm.findClass R_X = some m.cls) (hts : ∀ w ∈ ct_tb, w.before args s = true) (hK : va_K D ct_cl (tX kk) s) (hP : va_P D ct_cl (wX q kk tb fh fd fb fs h n b kn) H) (ht : ct_tabOk tb) (hc : c < 2 ^ 30) (hv : v < 2 ^ 30) (hsize : ls.size = nL) (hroom : (rest.map fun v => v.category).sum ≤ 8) (hR : 1 ≤ R.frames ∧ 22 ≤ R.locals) (hd : decode cc pc = .ok (.invokevirtual 39, 3)) (k0 : W p l e R s m args below meth co H locs 0 0 Q (F0 m (pc + 3) ls (.int (nI (ct_step c v)) :: rest))) : W p l e R s m args below meth co H locs 0 0 Q (F0 m pc ls (.int (nI v) :: .int (nI c) :: .ref (q 0) :: rest)) :=
  ct_callR (As := [.int (nI c), .int (nI v)]) (rest := rest) ⟨hx, hb, hml, hown, hts⟩ (c_X_on l D q kk ht hc hv) ok_X_X_on dc_X_on hR rfl rfl hK hP rfl rfl rfl hsize hroom hd ⟨Nat.zero_le _, Nat.zero_le _⟩ (fun r hr => by rw [hr]; exact k0)
set_option maxHeartbeats 4000000 in
set_option maxRecDepth 100000 in
theorem c_X_place (l : Launch) (D : va_G) {i n : Nat} (hn : 0 < n) (hN : n < 2 ^ 31) : Met l y_X_place (ww y_X_place b_X_place 2 (some .int)) ({ frames := 0, cells := 0, slots := 0, locals := 0 } : Room) (va_Pc [.int (nI i), .int (nI n)] (ct_PR D [] [])) (vp_Si (fun r => r = nI (ct_pl i n))) 0 0 (fun _ => False) := by
  refine Met.ofW (cc := b_X_place) (maxL := 2) (ret := (some .int)) (by decide) rfl ?_
  intro p e s m args below meth co s₁ B hml hv0
  obtain ⟨rfl, hP, hK⟩ := hv0
  have hx := B.exec
  have hb := B.bytes
  have hr := B.returns
  have hts := fun w0 (h0 : w0 ∈ ct_tb) => atoms_spec (ws := ww y_X_place b_X_place 2 (some .int)) B.pre w0 (List.mem_cons_of_mem _ h0)
  have hown : s.vm.findClass R_X = some m.cls := findClass_of_methodNamed B.named
  have hlocks := B.notSynchronized
  have hl := lv_entry ([.int (nI i), .int (nI n)]) (n := 2) (Nat.le_of_ble_eq_true rfl)
  rw [lg_entry_eq]
  generalize (lg_sl ([.int (nI i), .int (nI n)]) ++ List.replicate (2 - (lg_sl ([.int (nI i), .int (nI n)])).length) Slot.unset).toArray = ls at hl ⊢
  have hl : lv_has ls 2 [(0, .int (nI i)), (1, .int (nI n))] := hl
  refine lv_iload_n hx hb d_X_place_0 rfl (lv_at hl 0 rfl) ?_
  refine lv_ldc hx hb hown (hts _ tb_54) d_X_place_1 ?_
  refine r_as (y := nI 2147483647) (by decide) ?_
  refine lv_iand hx hb d_X_place_3 ?_
  refine r_as (y := nI (i % 2147483648)) (ct_aM _) ?_
  refine lv_iload_n hx hb d_X_place_4 rfl (lv_at hl 1 rfl) ?_
  refine lv_irem hx hb d_X_place_5 (nI_ne0 (hn) (by omega)) ?_
  refine r_as (y := nI ((i % 2147483648) % n)) (pk_rem (by omega) (hn) (by omega)) ?_
  exact W.iret (v := nI ((i % 2147483648) % n)) hx hb hr (fun t ht _ => ⟨nI ((i % 2147483648) % n), rfl, rfl, ht⟩) (fun _ hq => by cases hq) d_X_place_6
theorem k_X_place {p : Program} {l : Launch} {e : Env} {R : Room} {s : State} {m : MethodId} {args : Array Value} {below : List Frame} {meth : Method} {co : Code} {H : Heap} {locs : List Loc} {Q : State → Prop} {cc : ByteArray} {pc nL : Nat} {ls : Array Slot} {rest : List Value} {D : va_G} {tys : List (ClassId × FieldType)} {i n : Nat} (hx : p.tables.exec = Jvm.exec) (hb : co.code = cc) (hml : co.maxLocals = nL) (hown : s.vm.findClass R_X = some m.cls) (hts : ∀ w ∈ ct_tb, w.before args s = true) (hK : va_K D ct_cl tys s) (hn : 0 < n) (hN : n < 2 ^ 31) (hsize : ls.size = nL) (hroom : (rest.map fun v => v.category).sum ≤ 8) (hR : 1 ≤ R.frames ∧ 21 ≤ R.locals) (hd : decode cc pc = .ok (.invokestatic 53, 3)) (k0 : W p l e R s m args below meth co H locs 0 0 Q (F0 m (pc + 3) ls (.int (nI (ct_pl i n)) :: rest))) : W p l e R s m args below meth co H locs 0 0 Q (F0 m pc ls (.int (nI n) :: .int (nI i) :: rest)) :=
  ct_callSt (As := [.int (nI i), .int (nI n)]) (rest := rest) ⟨hx, hb, hml, hown, hts⟩ (c_X_place l D hn hN) ok_X_X_place dc_X_place hR rfl rfl hK rfl hsize hroom hd ⟨Nat.zero_le _, Nat.zero_le _⟩ (fun r hr => by rw [hr]; exact k0)
set_option maxHeartbeats 4000000 in
set_option maxRecDepth 100000 in
theorem c_M_step (l : Launch) (D : va_G) {c v : Nat} (hc : c < 2 ^ 30) (hv : v < 2 ^ 30) : Met l y_M_step (ww y_M_step b_M_step 4 (some .int)) ({ frames := 0, cells := 0, slots := 0, locals := 0 } : Room) (va_Pc [.int (nI c), .int (nI v)] (ct_PR D [] [])) (vp_Si (fun r => r = nI (ct_step c v))) 0 0 (fun _ => False) := by
  refine Met.ofW (cc := b_M_step) (maxL := 4) (ret := (some .int)) (by decide) rfl ?_
  intro p e s m args below meth co s₁ B hml hv0
  obtain ⟨rfl, hP, hK⟩ := hv0
  have hx := B.exec
  have hb := B.bytes
  have hr := B.returns
  have hts := fun w0 (h0 : w0 ∈ ct_tb) => atoms_spec (ws := ww y_M_step b_M_step 4 (some .int)) B.pre w0 (List.mem_cons_of_mem _ h0)
  have hown : s.vm.findClass R_M = some m.cls := findClass_of_methodNamed B.named
  have hlocks := B.notSynchronized
  have hl := lv_entry ([.int (nI c), .int (nI v)]) (n := 4) (Nat.le_of_ble_eq_true rfl)
  rw [lg_entry_eq]
  generalize (lg_sl ([.int (nI c), .int (nI v)]) ++ List.replicate (4 - (lg_sl ([.int (nI c), .int (nI v)])).length) Slot.unset).toArray = ls at hl ⊢
  have hl : lv_has ls 4 [(0, .int (nI c)), (1, .int (nI v))] := hl
  refine lv_iload_n hx hb d_M_step_0 rfl (lv_at hl 0 rfl) ?_
  refine lv_bipush (v := nI 25) hx hb d_M_step_1 (by decide) ?_
  refine lv_iushr (v := nI (c / 2 ^ 25)) hx hb d_M_step_3 (ct_ushr (by omega) (by decide)) ?_
  refine lv_istore_n (lv' := [(2, .int (nI (c / 2 ^ 25))), (0, .int (nI c)), (1, .int (nI v))]) hx hb d_M_step_4 rfl hl (by decide) rfl (fun ls hl => ?_)
  refine lv_iload_n hx hb d_M_step_5 rfl (lv_at hl 1 rfl) ?_
  refine lv_ldc hx hb hown (hts _ tb_169) d_M_step_6 ?_
  refine r_as (y := nI 33554431) (by decide) ?_
  refine lv_iand hx hb d_M_step_8 ?_
  refine r_as (y := nI (c % 33554432)) (ct_aL _) ?_
  refine lv_iconst (v := nI 5) hx hb d_M_step_9 (by decide) ?_
  refine lv_ishl hx hb d_M_step_10 ?_
  refine r_as (y := nI ((c % 33554432) * 2 ^ 5)) (ct_shl (by omega) (by decide)) ?_
  refine lv_iload_n hx hb d_M_step_11 rfl (lv_at hl 2 rfl) ?_
  refine lv_ixor hx hb d_M_step_12 ?_
  refine r_as (y := nI (((c % 33554432) * 2 ^ 5) ^^^ v)) (nx_xor _ _) ?_
  refine lv_istore_n (lv' := [(3, .int (nI (((c % 33554432) * 2 ^ 5) ^^^ v))), (2, .int (nI (c / 2 ^ 25))), (0, .int (nI c)), (1, .int (nI v))]) hx hb d_M_step_13 rfl hl (by decide) rfl (fun ls hl => ?_)
  obtain ⟨tt, ett⟩ : ∃ z, z = c / 2 ^ 25 := ⟨_, rfl⟩
  obtain ⟨r0, er0⟩ : ∃ z, z = c % 33554432 * 2 ^ 5 ^^^ v := ⟨_, rfl⟩
  rw [← ett, ← er0] at hl
  refine lv_iload_n hx hb d_M_step_14 rfl (lv_at hl 0 rfl) ?_
  refine lv_iload_n hx hb d_M_step_15 rfl (lv_at hl 1 rfl) ?_
  refine lv_iconst (v := nI 1) hx hb d_M_step_16 (by decide) ?_
  refine lv_iand hx hb d_M_step_17 ?_
  refine r_as (y := nI (tt &&& 1)) (nx_and _ _) ?_
  refine r_dia (g2 := F0 m 27 ls (.int (nI (if tt &&& 1 = 0 then 0 else 996825010)) :: [.int (nI r0)])) (fun K => ?_) ?_
  · refine r_eq0 (tgt := 26) hx hb d_M_step_18 (by decide) (by have := Nat.and_le_right (n := tt) (m := 1); omega) (fun hc => ?_) (fun hc => ?_)
    · rw [if_pos hc] at K
      refine lv_iconst (v := nI 0) hx hb d_M_step_26 (by decide) ?_
      exact K
    · rw [if_neg hc] at K
      refine lv_ldc hx hb hown (hts _ tb_170) d_M_step_21 ?_
      refine r_as (y := nI 996825010) (by decide) ?_
      refine lv_goto (tgt := 27) hx hb d_M_step_23 (by decide) ?_
      exact K
  refine lv_ixor hx hb d_M_step_27 ?_
  refine r_as (y := nI (r0 ^^^ (if tt &&& 1 = 0 then 0 else 996825010))) (nx_xor _ _) ?_
  refine lv_iload_n hx hb d_M_step_28 rfl (lv_at hl 1 rfl) ?_
  refine lv_iconst (v := nI 2) hx hb d_M_step_29 (by decide) ?_
  refine lv_iand hx hb d_M_step_30 ?_
  refine r_as (y := nI (tt &&& 2)) (nx_and _ _) ?_
  refine r_dia (g2 := F0 m 40 ls (.int (nI (if tt &&& 2 = 0 then 0 else 642813549)) :: [.int (nI (r0 ^^^ (if tt &&& 1 = 0 then 0 else 996825010)))])) (fun K => ?_) ?_
  · refine r_eq0 (tgt := 39) hx hb d_M_step_31 (by decide) (by have := Nat.and_le_right (n := tt) (m := 2); omega) (fun hc => ?_) (fun hc => ?_)
    · rw [if_pos hc] at K
      refine lv_iconst (v := nI 0) hx hb d_M_step_39 (by decide) ?_
      exact K
    · rw [if_neg hc] at K
      refine lv_ldc hx hb hown (hts _ tb_171) d_M_step_34 ?_
      refine r_as (y := nI 642813549) (by decide) ?_
      refine lv_goto (tgt := 40) hx hb d_M_step_36 (by decide) ?_
      exact K
  refine lv_ixor hx hb d_M_step_40 ?_
  refine r_as (y := nI ((r0 ^^^ (if tt &&& 1 = 0 then 0 else 996825010)) ^^^ (if tt &&& 2 = 0 then 0 else 642813549))) (nx_xor _ _) ?_
  refine lv_iload_n hx hb d_M_step_41 rfl (lv_at hl 1 rfl) ?_
  refine lv_iconst (v := nI 4) hx hb d_M_step_42 (by decide) ?_
  refine lv_iand hx hb d_M_step_43 ?_
  refine r_as (y := nI (tt &&& 4)) (nx_and _ _) ?_
  refine r_dia (g2 := F0 m 53 ls (.int (nI (if tt &&& 4 = 0 then 0 else 513874426)) :: [.int (nI ((r0 ^^^ (if tt &&& 1 = 0 then 0 else 996825010)) ^^^ (if tt &&& 2 = 0 then 0 else 642813549)))])) (fun K => ?_) ?_
  · refine r_eq0 (tgt := 52) hx hb d_M_step_44 (by decide) (by have := Nat.and_le_right (n := tt) (m := 4); omega) (fun hc => ?_) (fun hc => ?_)
    · rw [if_pos hc] at K
      refine lv_iconst (v := nI 0) hx hb d_M_step_52 (by decide) ?_
      exact K
    · rw [if_neg hc] at K
      refine lv_ldc hx hb hown (hts _ tb_172) d_M_step_47 ?_
      refine r_as (y := nI 513874426) (by decide) ?_
      refine lv_goto (tgt := 53) hx hb d_M_step_49 (by decide) ?_
      exact K
  refine lv_ixor hx hb d_M_step_53 ?_
  refine r_as (y := nI (((r0 ^^^ (if tt &&& 1 = 0 then 0 else 996825010)) ^^^ (if tt &&& 2 = 0 then 0 else 642813549)) ^^^ (if tt &&& 4 = 0 then 0 else 513874426))) (nx_xor _ _) ?_
  refine lv_iload_n hx hb d_M_step_54 rfl (lv_at hl 1 rfl) ?_
  refine lv_bipush (v := nI 8) hx hb d_M_step_55 (by decide) ?_
  refine lv_iand hx hb d_M_step_57 ?_
  refine r_as (y := nI (tt &&& 8)) (nx_and _ _) ?_
  refine r_dia (g2 := F0 m 67 ls (.int (nI (if tt &&& 8 = 0 then 0 else 1027748829)) :: [.int (nI (((r0 ^^^ (if tt &&& 1 = 0 then 0 else 996825010)) ^^^ (if tt &&& 2 = 0 then 0 else 642813549)) ^^^ (if tt &&& 4 = 0 then 0 else 513874426)))])) (fun K => ?_) ?_
  · refine r_eq0 (tgt := 66) hx hb d_M_step_58 (by decide) (by have := Nat.and_le_right (n := tt) (m := 8); omega) (fun hc => ?_) (fun hc => ?_)
    · rw [if_pos hc] at K
      refine lv_iconst (v := nI 0) hx hb d_M_step_66 (by decide) ?_
      exact K
    · rw [if_neg hc] at K
      refine lv_ldc hx hb hown (hts _ tb_173) d_M_step_61 ?_
      refine r_as (y := nI 1027748829) (by decide) ?_
      refine lv_goto (tgt := 67) hx hb d_M_step_63 (by decide) ?_
      exact K
  refine lv_ixor hx hb d_M_step_67 ?_
  refine r_as (y := nI ((((r0 ^^^ (if tt &&& 1 = 0 then 0 else 996825010)) ^^^ (if tt &&& 2 = 0 then 0 else 642813549)) ^^^ (if tt &&& 4 = 0 then 0 else 513874426)) ^^^ (if tt &&& 8 = 0 then 0 else 1027748829))) (nx_xor _ _) ?_
  refine lv_iload_n hx hb d_M_step_68 rfl (lv_at hl 1 rfl) ?_
  refine lv_bipush (v := nI 16) hx hb d_M_step_69 (by decide) ?_
  refine lv_iand hx hb d_M_step_71 ?_
  refine r_as (y := nI (tt &&& 16)) (nx_and _ _) ?_
  refine r_dia (g2 := F0 m 81 ls (.int (nI (if tt &&& 16 = 0 then 0 else 705979059)) :: [.int (nI ((((r0 ^^^ (if tt &&& 1 = 0 then 0 else 996825010)) ^^^ (if tt &&& 2 = 0 then 0 else 642813549)) ^^^ (if tt &&& 4 = 0 then 0 else 513874426)) ^^^ (if tt &&& 8 = 0 then 0 else 1027748829)))])) (fun K => ?_) ?_
  · refine r_eq0 (tgt := 80) hx hb d_M_step_72 (by decide) (by have := Nat.and_le_right (n := tt) (m := 16); omega) (fun hc => ?_) (fun hc => ?_)
    · rw [if_pos hc] at K
      refine lv_iconst (v := nI 0) hx hb d_M_step_80 (by decide) ?_
      exact K
    · rw [if_neg hc] at K
      refine lv_ldc hx hb hown (hts _ tb_174) d_M_step_75 ?_
      refine r_as (y := nI 705979059) (by decide) ?_
      refine lv_goto (tgt := 81) hx hb d_M_step_77 (by decide) ?_
      exact K
  refine lv_ixor hx hb d_M_step_81 ?_
  refine r_as (y := nI (((((r0 ^^^ (if tt &&& 1 = 0 then 0 else 996825010)) ^^^ (if tt &&& 2 = 0 then 0 else 642813549)) ^^^ (if tt &&& 4 = 0 then 0 else 513874426)) ^^^ (if tt &&& 8 = 0 then 0 else 1027748829)) ^^^ (if tt &&& 16 = 0 then 0 else 705979059))) (nx_xor _ _) ?_
  refine lv_istore_n (lv' := [(3, .int (nI (((((r0 ^^^ (if tt &&& 1 = 0 then 0 else 996825010)) ^^^ (if tt &&& 2 = 0 then 0 else 642813549)) ^^^ (if tt &&& 4 = 0 then 0 else 513874426)) ^^^ (if tt &&& 8 = 0 then 0 else 1027748829)) ^^^ (if tt &&& 16 = 0 then 0 else 705979059)))), (2, .int (nI tt)), (0, .int (nI c)), (1, .int (nI v))]) hx hb d_M_step_82 rfl hl (by decide) rfl (fun ls hl => ?_)
  refine lv_iload_n hx hb d_M_step_83 rfl (lv_at hl 0 rfl) ?_
  exact W.iret (v := nI (((((r0 ^^^ (if tt &&& 1 = 0 then 0 else 996825010)) ^^^ (if tt &&& 2 = 0 then 0 else 642813549)) ^^^ (if tt &&& 4 = 0 then 0 else 513874426)) ^^^ (if tt &&& 8 = 0 then 0 else 1027748829)) ^^^ (if tt &&& 16 = 0 then 0 else 705979059))) hx hb hr (fun t ht _ => ⟨nI (((((r0 ^^^ (if tt &&& 1 = 0 then 0 else 996825010)) ^^^ (if tt &&& 2 = 0 then 0 else 642813549)) ^^^ (if tt &&& 4 = 0 then 0 else 513874426)) ^^^ (if tt &&& 8 = 0 then 0 else 1027748829)) ^^^ (if tt &&& 16 = 0 then 0 else 705979059)), rfl, by rw [er0, ett]; simp only [ct_step, ct_T, Nat.xor_assoc], ht⟩) (fun _ hq => by cases hq) d_M_step_84
theorem k_M_step {p : Program} {l : Launch} {e : Env} {R : Room} {s : State} {m : MethodId} {args : Array Value} {below : List Frame} {meth : Method} {co : Code} {H : Heap} {locs : List Loc} {Q : State → Prop} {cc : ByteArray} {pc nL : Nat} {ls : Array Slot} {rest : List Value} {D : va_G} {tys : List (ClassId × FieldType)} {c v : Nat} (hx : p.tables.exec = Jvm.exec) (hb : co.code = cc) (hml : co.maxLocals = nL) (hown : s.vm.findClass R_M = some m.cls) (hts : ∀ w ∈ ct_tb, w.before args s = true) (hK : va_K D ct_cl tys s) (hc : c < 2 ^ 30) (hv : v < 2 ^ 30) (hsize : ls.size = nL) (hroom : (rest.map fun v => v.category).sum ≤ 8) (hR : 1 ≤ R.frames ∧ 23 ≤ R.locals) (hd : decode cc pc = .ok (.invokestatic 29, 3)) (k0 : W p l e R s m args below meth co H locs 0 0 Q (F0 m (pc + 3) ls (.int (nI (ct_step c v)) :: rest))) : W p l e R s m args below meth co H locs 0 0 Q (F0 m pc ls (.int (nI v) :: .int (nI c) :: rest)) :=
  ct_callSt (As := [.int (nI c), .int (nI v)]) (rest := rest) ⟨hx, hb, hml, hown, hts⟩ (c_M_step l D hc hv) ok_M_M_step dc_M_step hR rfl rfl hK rfl hsize hroom hd ⟨Nat.zero_le _, Nat.zero_le _⟩ (fun r hr => by rw [hr]; exact k0)
end
section
/-! loops, cuts; more about lists and sums -/
section LP
variable {p : Program} {l : Launch} {e : Env} {R : Room} {s : State} {m : MethodId} {args : Array Value} {below : List Frame} {meth : Method} {c : Code} {H : Heap} {locs : List Loc} {cells slots : Nat} {Q : State → Prop}
variable {pc : Nat} {ls : Array Slot} {g : JFrame}
theorem r_loop (I : Nat → Array Slot → Heap → List Loc → Prop) (N : Nat) {k0 : Nat} (h0 : k0 ≤ N) (hI : I k0 ls H locs)
    (h : ∀ (k : Nat) (H : Heap) (locs : List Loc) (ls : Array Slot), k ≤ N → I k ls H locs → (k < N → ∀ (H : Heap) (locs : List Loc) (ls : Array Slot), I (k + 1) ls H locs → W p l e R s m args below meth c H locs cells slots Q (F0 m pc ls [])) → W p l e R s m args below meth c H locs cells slots Q (F0 m pc ls [])) : W p l e R s m args below meth c H locs cells slots Q (F0 m pc ls []) := by
  have key : ∀ (f k : Nat), N - k ≤ f → k ≤ N → ∀ (H : Heap) (locs : List Loc) (ls : Array Slot), I k ls H locs → W p l e R s m args below meth c H locs cells slots Q (F0 m pc ls []) := by
    intro f
    induction f with
    | zero => intro k hf hk H locs ls hI; exact h k H locs ls hk hI (fun hl => absurd hl (by omega))
    | succ f ih => intro k hf hk H locs ls hI; exact h k H locs ls hk hI (fun hl H locs ls hI => ih (k + 1) (by omega) (by omega) H locs ls hI)
  exact key N k0 (by omega) h0 H locs ls hI
theorem r_cut (pc2 : Nat) (I : Array Slot → Heap → List Loc → Prop) (h1 : (∀ (H : Heap) (locs : List Loc) (ls : Array Slot), I ls H locs → W p l e R s m args below meth c H locs cells slots Q (F0 m pc2 ls [])) → W p l e R s m args below meth c H locs cells slots Q g) (h2 : ∀ (H : Heap) (locs : List Loc) (ls : Array Slot), I ls H locs → W p l e R s m args below meth c H locs cells slots Q (F0 m pc2 ls [])) : W p l e R s m args below meth c H locs cells slots Q g := h1 h2
end LP
theorem ct_runk (c : Nat) (hl : List Nat) (f : Nat → Nat) {k : Nat} (hk : k < hl.length) : ct_run c ((hl.map f).take (k + 1)) = ct_step (ct_run c ((hl.map f).take k)) (f (hl.getD k 0)) := by
  rw [ct_take (hl.map f) 0 (by simpa using hk), ct_run_snoc]
  congr 1
  simp [hk]
theorem ct_runk_lt {c : Nat} (hc : c < 2 ^ 30) {hl : List Nat} (h : ∀ x ∈ hl, x < 128) {f : Nat → Nat} (hf : ∀ x, x < 128 → f x < 2 ^ 30) (k : Nat) : ct_run c ((hl.map f).take k) < 2 ^ 30 := ct_run_lt _ hc (fun x hx => by
  obtain ⟨y, hy, rfl⟩ := List.mem_map.mp (List.mem_of_mem_take hx)
  exact hf y (h y hy))
theorem ct_all (c : Nat) (hl : List Nat) (f : Nat → Nat) : (hl.map f).take hl.length = hl.map f := List.take_of_length_le (by simp)
theorem ct_sumk (hl dl : List Nat) {k : Nat} (hk : k < dl.length) : ct_sum hl (dl.take (k + 1)) = ct_step (ct_sum hl (dl.take k)) (dl.getD k 0) := by
  rw [ct_take dl 0 hk]
  exact ct_run_snoc _ _ _
theorem ct_sumk_lt (hl : List Nat) {dl : List Nat} (h : ∀ x ∈ dl, x < 32) (k : Nat) : ct_sum hl (dl.take k) < 2 ^ 30 := ct_sum_lt hl (fun x hx => h x (List.mem_of_mem_take hx))
theorem ct_zer (c k : Nat) : ct_run c (List.replicate (k + 1) 0) = ct_step (ct_run c (List.replicate k 0)) 0 := by
  rw [List.replicate_succ', ct_run_snoc]
theorem ct_zer_lt {c : Nat} (hc : c < 2 ^ 30) (k : Nat) : ct_run c (List.replicate k 0) < 2 ^ 30 := ct_run_lt _ hc (fun x hx => by rw [List.eq_of_mem_replicate hx]; decide)
theorem ct_kx_lt (v : Nat) : ct_kx v < 2 ^ 30 := by
  unfold ct_kx
  split <;> decide
theorem ct_sc_lt (hl : List Nat) {dl : List Nat} (h : ∀ x ∈ dl, x < 32) (v : Nat) : ct_sc hl dl v < 2 ^ 30 := Nat.xor_lt_two_pow (ct_zer_lt (ct_sum_lt hl h) 6) (ct_kx_lt v)
theorem ct_pl_lt (i : Nat) {n : Nat} (h : 0 < n) : ct_pl i n < n := Nat.mod_lt _ h
theorem ct_l1 (l : List Nat) (x : Nat) : (l ++ [x]).length = l.length + 1 := by simp
theorem ct_xor32 {a b : Nat} (ha : a < 32) (hb : b < 32) : a ^^^ b < 32 := Nat.xor_lt_two_pow (n := 5) ha hb
end
section
set_option maxHeartbeats 4000000 in
set_option maxRecDepth 100000 in
/-- headed(): the sum of the head -/
theorem c_X_headed (l : Launch) (D : va_G) (q : Nat → Nat) (kk : Nat → ClassId) {tb fh fd fb fs : Nat → Int32} {kn : Int32} {gl dl bl : List Nat} (hR : RX tb fh fd fb fs kn gl dl bl)  : Met l y_X_headed (ww y_X_headed b_X_headed 3 (some .int)) ({ frames := 1, cells := 0, slots := 0, locals := 22 } : Room) (va_Pc [.ref (q 0)] (ct_PR D (wX q kk tb fh fd fb fs gl.length dl.length bl.length kn) (tX kk))) (vp_Si (fun r => r = nI (ct_hd gl))) 0 0 (fun _ => False) := by
  refine Met.ofW (cc := b_X_headed) (maxL := 3) (ret := (some .int)) (by decide) rfl ?_
  intro p e s m args below meth co s₁ B hml hv0
  obtain ⟨rfl, hP, hK⟩ := hv0
  have hx := B.exec
  have hb := B.bytes
  have hr := B.returns
  have hts := fun w0 (h0 : w0 ∈ ct_tb) => atoms_spec (ws := ww y_X_headed b_X_headed 3 (some .int)) B.pre w0 (List.mem_cons_of_mem _ h0)
  have hown : s.vm.findClass R_X = some m.cls := findClass_of_methodNamed B.named
  have hlocks := B.notSynchronized
  have hl := lv_entry ([.ref (q 0)]) (n := 3) (Nat.le_of_ble_eq_true rfl)
  rw [lg_entry_eq]
  generalize (lg_sl ([.ref (q 0)]) ++ List.replicate (3 - (lg_sl ([.ref (q 0)])).length) Slot.unset).toArray = ls at hl ⊢
  have hl : lv_has ls 3 [(0, .ref (q 0))] := hl
  obtain ⟨ht, hH, hDl, hB, hKN⟩ := id hR
  have hH1 := hH.1
  have hD1 := hDl.1
  have hB1 := hB.1
  refine lv_iconst (v := nI 1) hx hb d_X_headed_0 (by decide) ?_
  refine lv_istore_n (lv' := [(1, .int (nI 1)), (0, .ref (q 0))]) hx hb d_X_headed_1 rfl hl (by decide) rfl (fun ls hl => ?_)
  refine lv_iconst (v := nI 0) hx hb d_X_headed_2 (by decide) ?_
  refine lv_istore_n (lv' := [(2, .int (nI 0)), (1, .int (nI 1)), (0, .ref (q 0))]) hx hb d_X_headed_3 rfl hl (by decide) rfl (fun ls hl => ?_)
  refine r_loop (fun k ls H2 locs2 => s.heap = H2 ∧ [] = locs2 ∧ lv_has ls 3 [(0, .ref (q 0)), (1, .int (nI (ct_run 1 ((gl.map (fun x => x / 32)).take k)))), (2, .int (nI k))]) gl.length (k0 := 0) (Nat.zero_le _) ⟨rfl, rfl, lv_sub hl [2, 1, 0] rfl⟩ (fun k H2 locs2 ls hk hI hnext => ?_)
  obtain ⟨rfl, rfl, hl⟩ := hI
  refine lv_iload_n hx hb d_X_headed_4 rfl (lv_at hl 2 rfl) ?_
  refine lv_aload_n hx hb d_X_headed_5 rfl (lv_at hl 0 rfl) ?_
  refine x_get hx hb hts hown hK hP 4 (by decide) tb_21 rfl d_X_headed_6 ?_
  refine r_ge (tgt := 32) hx hb d_X_headed_9 (by decide) (by omega) (by omega) (fun hc => ?_) (fun hc => ?_)
  · have ek : k = gl.length := by omega
    subst ek
    rw [ct_all 1] at hl
    refine lv_aload_n hx hb d_X_headed_32 rfl (lv_at hl 0 rfl) ?_
    refine lv_iload_n hx hb d_X_headed_33 rfl (lv_at hl 1 rfl) ?_
    refine lv_iconst (v := nI 0) hx hb d_X_headed_34 (by decide) ?_
    refine k_X_on hx hb hml hown hts hK hP (rest := []) ht (ct_run_lt _ (by decide) (fun x hx => by obtain ⟨y, hy, rfl⟩ := List.mem_map.mp hx; have := hH.2.1 y hy; show y / 32 < 2 ^ 30; omega)) (by decide) hl.1 (Nat.le_of_ble_eq_true rfl) ⟨Nat.le_of_ble_eq_true rfl, Nat.le_of_ble_eq_true rfl⟩ d_X_headed_35 ?_
    refine lv_istore_n (lv' := [(1, .int (nI (ct_step (ct_run 1 (gl.map (fun x => x / 32))) 0))), (0, .ref (q 0)), (2, .int (nI gl.length))]) hx hb d_X_headed_38 rfl hl (by decide) rfl (fun ls hl => ?_)
    refine lv_iconst (v := nI 0) hx hb d_X_headed_39 (by decide) ?_
    refine lv_istore_n (lv' := [(2, .int (nI 0)), (1, .int (nI (ct_step (ct_run 1 (gl.map (fun x => x / 32))) 0))), (0, .ref (q 0))]) hx hb d_X_headed_40 rfl hl (by decide) rfl (fun ls hl => ?_)
    refine r_loop (fun k ls H2 locs2 => s.heap = H2 ∧ [] = locs2 ∧ lv_has ls 3 [(0, .ref (q 0)), (1, .int (nI (ct_run (ct_step (ct_run 1 (gl.map (fun x => x / 32))) 0) ((gl.map (fun x => x % 32)).take k)))), (2, .int (nI k))]) gl.length (k0 := 0) (Nat.zero_le _) ⟨rfl, rfl, lv_sub hl [2, 1, 0] rfl⟩ (fun k H2 locs2 ls hk hI hnext => ?_)
    obtain ⟨rfl, rfl, hl⟩ := hI
    refine lv_iload_n hx hb d_X_headed_41 rfl (lv_at hl 2 rfl) ?_
    refine lv_aload_n hx hb d_X_headed_42 rfl (lv_at hl 0 rfl) ?_
    refine x_get hx hb hts hown hK hP 4 (by decide) tb_21 rfl d_X_headed_43 ?_
    refine r_ge (tgt := 70) hx hb d_X_headed_46 (by decide) (by omega) (by omega) (fun hc => ?_) (fun hc => ?_)
    · have ek : k = gl.length := by omega
      subst ek
      rw [ct_all (ct_step (ct_run 1 (gl.map (fun x => x / 32))) 0)] at hl
      refine lv_iload_n hx hb d_X_headed_70 rfl (lv_at hl 1 rfl) ?_
      exact W.iret (v := nI (ct_run (ct_step (ct_run 1 (gl.map (fun x => x / 32))) 0) (gl.map (fun x => x % 32)))) hx hb hr (fun t ht _ => ⟨nI (ct_run (ct_step (ct_run 1 (gl.map (fun x => x / 32))) 0) (gl.map (fun x => x % 32))), rfl, rfl, ht⟩) (fun _ hq => by cases hq) d_X_headed_71
    · refine lv_aload_n hx hb d_X_headed_49 rfl (lv_at hl 0 rfl) ?_
      refine lv_iload_n hx hb d_X_headed_50 rfl (lv_at hl 1 rfl) ?_
      refine lv_aload_n hx hb d_X_headed_51 rfl (lv_at hl 0 rfl) ?_
      refine x_get hx hb hts hown hK hP 1 (by decide) tb_18 rfl d_X_headed_52 ?_
      refine lv_iload_n hx hb d_X_headed_55 rfl (lv_at hl 2 rfl) ?_
      refine r_bald (v := nI (gl.getD k 0)) hx hb hK hP 2 1 rfl rfl (by omega) (by decide) (hH.2.2 k hc) d_X_headed_56 ?_
      refine lv_bipush (v := nI 31) hx hb d_X_headed_57 (by decide) ?_
      refine lv_iand hx hb d_X_headed_59 ?_
      refine r_as (y := nI ((gl.getD k 0) % 32)) (ct_a31 _) ?_
      refine k_X_on hx hb hml hown hts hK hP (rest := []) ht (ct_runk_lt (ct_step_lt (by decide)) hH.2.1 (fun x h => by omega) k) (by have := hH.lt hc; omega) hl.1 (Nat.le_of_ble_eq_true rfl) ⟨Nat.le_of_ble_eq_true rfl, Nat.le_of_ble_eq_true rfl⟩ d_X_headed_60 ?_
      refine lv_istore_n (lv' := [(1, .int (nI (ct_step (ct_run (ct_step (ct_run 1 (gl.map (fun x => x / 32))) 0) ((gl.map (fun x => x % 32)).take k)) ((gl.getD k 0) % 32)))), (0, .ref (q 0)), (2, .int (nI k))]) hx hb d_X_headed_63 rfl hl (by decide) rfl (fun ls hl => ?_)
      refine lv_iinc (v := nI (k + 1)) (lv' := [(2, .int (nI (k + 1))), (1, .int (nI (ct_step (ct_run (ct_step (ct_run 1 (gl.map (fun x => x / 32))) 0) ((gl.map (fun x => x % 32)).take k)) ((gl.getD k 0) % 32)))), (0, .ref (q 0))]) hx hb d_X_headed_64 hl (k := 2) rfl (nI_add _ 1) (by decide) rfl (fun ls hl => ?_)
      refine lv_goto (tgt := 41) hx hb d_X_headed_67 (by decide) ?_
      exact hnext hc _ _ _ ⟨rfl, rfl, by rw [ct_runk _ _ _ hc]; exact lv_sub hl [2, 1, 0] rfl⟩
  · refine lv_aload_n hx hb d_X_headed_12 rfl (lv_at hl 0 rfl) ?_
    refine lv_iload_n hx hb d_X_headed_13 rfl (lv_at hl 1 rfl) ?_
    refine lv_aload_n hx hb d_X_headed_14 rfl (lv_at hl 0 rfl) ?_
    refine x_get hx hb hts hown hK hP 1 (by decide) tb_18 rfl d_X_headed_15 ?_
    refine lv_iload_n hx hb d_X_headed_18 rfl (lv_at hl 2 rfl) ?_
    refine r_bald (v := nI (gl.getD k 0)) hx hb hK hP 2 1 rfl rfl (by omega) (by decide) (hH.2.2 k hc) d_X_headed_19 ?_
    refine lv_iconst (v := nI 5) hx hb d_X_headed_20 (by decide) ?_
    refine lv_ishr hx hb d_X_headed_21 ?_
    refine r_as (y := nI (gl.getD k 0 / 32)) (ct_shr (by have := hH.lt hc; omega) (by decide)) ?_
    refine k_X_on hx hb hml hown hts hK hP (rest := []) ht (ct_runk_lt (by decide) hH.2.1 (fun x h => by omega) k) (by have := hH.lt hc; omega) hl.1 (Nat.le_of_ble_eq_true rfl) ⟨Nat.le_of_ble_eq_true rfl, Nat.le_of_ble_eq_true rfl⟩ d_X_headed_22 ?_
    refine lv_istore_n (lv' := [(1, .int (nI (ct_step (ct_run 1 ((gl.map (fun x => x / 32)).take k)) (gl.getD k 0 / 32)))), (0, .ref (q 0)), (2, .int (nI k))]) hx hb d_X_headed_25 rfl hl (by decide) rfl (fun ls hl => ?_)
    refine lv_iinc (v := nI (k + 1)) (lv' := [(2, .int (nI (k + 1))), (1, .int (nI (ct_step (ct_run 1 ((gl.map (fun x => x / 32)).take k)) (gl.getD k 0 / 32)))), (0, .ref (q 0))]) hx hb d_X_headed_26 hl (k := 2) rfl (nI_add _ 1) (by decide) rfl (fun ls hl => ?_)
    refine lv_goto (tgt := 4) hx hb d_X_headed_29 (by decide) ?_
    exact hnext hc _ _ _ ⟨rfl, rfl, by rw [ct_runk _ _ _ hc]; exact lv_sub hl [2, 1, 0] rfl⟩
theorem k_X_headed {p : Program} {l : Launch} {e : Env} {R : Room} {s : State} {m : MethodId} {args : Array Value} {below : List Frame} {meth : Method} {co : Code} {H : Heap} {locs : List Loc} {Q : State → Prop} {cc : ByteArray} {pc nL : Nat} {ls : Array Slot} {rest : List Value} {D : va_G} {q : Nat → Nat} {kk : Nat → ClassId} {tb fh fd fb fs : Nat → Int32} {kn : Int32} {gl dl bl : List Nat} (hx : p.tables.exec = Jvm.exec) (hb : co.code = cc) (hml : co.maxLocals = nL) (hown : s.vm.findClass R_X = some m.cls) (hts : ∀ w ∈ ct_tb, w.before args s = true) (hK : va_K D ct_cl (tX kk) s) (hP : va_P D ct_cl (wX q kk tb fh fd fb fs gl.length dl.length bl.length kn) H) (hR : RX tb fh fd fb fs kn gl dl bl) (hsize : ls.size = nL) (hroom : (rest.map fun v => v.category).sum ≤ 8) (hRm : 2 ≤ R.frames ∧ 44 ≤ R.locals) (hd : decode cc pc = .ok (.invokevirtual 43, 3)) (k0 : W p l e R s m args below meth co H locs 0 0 Q (F0 m (pc + 3) ls (.int (nI (ct_hd gl)) :: rest))) : W p l e R s m args below meth co H locs 0 0 Q (F0 m pc ls (.ref (q 0) :: rest)) :=
  ct_callR (As := []) (rest := rest) ⟨hx, hb, hml, hown, hts⟩ (c_X_headed l D q kk hR) ok_X_X_headed dc_X_headed hRm rfl rfl hK hP rfl rfl rfl hsize hroom hd ⟨Nat.zero_le _, Nat.zero_le _⟩ (fun r hr => by rw [hr]; exact k0)
set_option maxHeartbeats 4000000 in
set_option maxRecDepth 100000 in
/-- sum(): the sum of head and data; sums and known move -/
theorem c_X_sum (l : Launch) (D : va_G) (q : Nat → Nat) (kk : Nat → ClassId) {tb fh fd fb fs : Nat → Int32} {kn : Int32} {gl dl bl : List Nat} (hR : RX tb fh fd fb fs kn gl dl bl)  (sz : Nat) : Met l y_X_sum (ww y_X_sum b_X_sum 1 (some .int)) ({ frames := 2, cells := 0, slots := 0, locals := 44 } : Room) (va_Pc [.ref (q 0)] (ct_PW D (wX q kk tb fh fd fb fs gl.length dl.length bl.length kn) (tX kk) sz)) (va_Qi (pX tb (nI (ct_sum gl dl)) gl dl bl) (ct_BW D (tX kk) (wXu q kk tb) (va_A (wX q kk tb fh fd fb fs gl.length dl.length bl.length kn) sz)) (va_A (wX q kk tb fh fd fb fs gl.length dl.length bl.length kn) sz)) 0 0 (va_A (wX q kk tb fh fd fb fs gl.length dl.length bl.length kn) sz) := by
  refine Met.ofW (cc := b_X_sum) (maxL := 1) (ret := (some .int)) (by decide) rfl ?_
  intro p e s m args below meth co s₁ B hml hv0
  obtain ⟨rfl, hsz, hP, hK, hD0⟩ := hv0
  have hx := B.exec
  have hb := B.bytes
  have hr := B.returns
  have hts := fun w0 (h0 : w0 ∈ ct_tb) => atoms_spec (ws := ww y_X_sum b_X_sum 1 (some .int)) B.pre w0 (List.mem_cons_of_mem _ h0)
  have hown : s.vm.findClass R_X = some m.cls := findClass_of_methodNamed B.named
  have hlocks := B.notSynchronized
  subst hsz
  have hD := hD0.self (sz := s.heap.size)
  generalize hAe : va_A (wX q kk tb fh fd fb fs gl.length dl.length bl.length kn) s.heap.size = A at hD ⊢
  have hA : ∀ q : Nat, s.heap.size ≤ q → A q := fun q h => by rw [← hAe]; exact Or.inr h
  have hS : va_S A s.heap s.heap [] := va_S.rf
  have hl := lv_entry ([.ref (q 0)]) (n := 1) (Nat.le_of_ble_eq_true rfl)
  rw [lg_entry_eq]
  generalize (lg_sl ([.ref (q 0)]) ++ List.replicate (1 - (lg_sl ([.ref (q 0)])).length) Slot.unset).toArray = ls at hl ⊢
  have hl : lv_has ls 1 [(0, .ref (q 0))] := hl
  obtain ⟨ht, hH, hDl, hB, hKN⟩ := id hR
  have hH1 := hH.1
  have hD1 := hDl.1
  have hB1 := hB.1
  refine lv_aload_n hx hb d_X_sum_0 rfl (lv_at hl 0 rfl) ?_
  refine x_get hx hb hts hown hK hP 8 (by decide) tb_25 rfl d_X_sum_1 ?_
  refine r_dia (g2 := F0 m 4 ls [.int kn]) (fun K => K) ?_
  refine r_cut 22 (fun ls H locs => ∃ k, k ≤ dl.length ∧ ∃ (fs2 : Nat → Int32), (∀ j, j ≤ k → fs2 j = nI (ct_sum gl (dl.take j))) ∧ va_P D ct_cl (wX q kk tb fh fd fb fs2 gl.length dl.length bl.length (nI k)) H ∧ va_D A (wX q kk tb fh fd fb fs2 gl.length dl.length bl.length (nI k)) ∧ va_S A s.heap H locs ∧ lv_has ls 1 [(0, .ref (q 0))]) (fun K => ?_) (fun H locs ls hI => ?_)
  · refine lv_if_ge (tgt := 22) hx hb d_X_sum_4 (by decide) (fun hc => ?_) (fun hc => ?_)
    · rcases hKN with h | ⟨k, h1, h2, h3⟩
      · rw [h] at hc
        exact absurd hc (by decide)
      · subst h2
        exact K _ _ _ ⟨k, h1, fs, h3, hP, hD, hS, hl⟩
    · refine lv_aload_n hx hb d_X_sum_7 rfl (lv_at hl 0 rfl) ?_
      refine x_get hx hb hts hown hK hP 7 (by decide) tb_24 rfl d_X_sum_8 ?_
      refine lv_iconst (v := nI 0) hx hb d_X_sum_11 (by decide) ?_
      refine lv_aload_n hx hb d_X_sum_12 rfl (lv_at hl 0 rfl) ?_
      refine k_X_headed hx hb hml hown hts hK (rest := [.int (nI 0), .ref (q 5)]) hP hR hl.1 (Nat.le_of_ble_eq_true rfl) ⟨Nat.le_of_ble_eq_true rfl, Nat.le_of_ble_eq_true rfl⟩ d_X_sum_13 ?_
      refine r_iast hx hb hK hP hD hS 5 4 rfl rfl (by omega) (by decide) d_X_sum_16 (fun H locs hP hD hS => ?_)
      have hP : va_P D ct_cl (wX q kk tb fh fd fb (upd fs 0 (nI (ct_hd gl))) gl.length dl.length bl.length kn) H := hP
      have hD : va_D A (wX q kk tb fh fd fb (upd fs 0 (nI (ct_hd gl))) gl.length dl.length bl.length kn) := hD
      refine lv_aload_n hx hb d_X_sum_17 rfl (lv_at hl 0 rfl) ?_
      refine lv_iconst (v := nI 0) hx hb d_X_sum_18 (by decide) ?_
      refine x_put hx hb hts hown hK hP hD hS 8 (by decide) tb_25 rfl (by decide +kernel) (Nat.le_of_ble_eq_true rfl) d_X_sum_19 (fun H locs hP hD hS => ?_)
      have hP : va_P D ct_cl (wX q kk tb fh fd fb (upd fs 0 (nI (ct_hd gl))) gl.length dl.length bl.length (nI 0)) H := hP
      have hD : va_D A (wX q kk tb fh fd fb (upd fs 0 (nI (ct_hd gl))) gl.length dl.length bl.length (nI 0)) := hD
      exact K _ _ _ ⟨0, Nat.zero_le _, _, fun j hj => by rw [show j = 0 by omega, pk_us]; rfl, hP, hD, hS, hl⟩
  · obtain ⟨k0, hk0, hI⟩ := hI
    refine r_loop (fun k ls H locs => ∃ (fs2 : Nat → Int32), (∀ j, j ≤ k → fs2 j = nI (ct_sum gl (dl.take j))) ∧ va_P D ct_cl (wX q kk tb fh fd fb fs2 gl.length dl.length bl.length (nI k)) H ∧ va_D A (wX q kk tb fh fd fb fs2 gl.length dl.length bl.length (nI k)) ∧ va_S A s.heap H locs ∧ lv_has ls 1 [(0, .ref (q 0))]) dl.length (k0 := k0) hk0 hI (fun k H locs ls hk hI hnext => ?_)
    obtain ⟨fs2, hf2, hP, hD, hS, hl⟩ := hI
    refine lv_aload_n hx hb d_X_sum_22 rfl (lv_at hl 0 rfl) ?_
    refine x_get hx hb hts hown hK hP 8 (by decide) tb_25 rfl d_X_sum_23 ?_
    refine lv_aload_n hx hb d_X_sum_26 rfl (lv_at hl 0 rfl) ?_
    refine x_get hx hb hts hown hK hP 5 (by decide) tb_22 rfl d_X_sum_27 ?_
    refine r_ge (tgt := 79) hx hb d_X_sum_30 (by decide) (by omega) (by omega) (fun hc => ?_) (fun hc => ?_)
    · have ek : k = dl.length := by omega
      subst ek
      refine lv_aload_n hx hb d_X_sum_79 rfl (lv_at hl 0 rfl) ?_
      refine x_get hx hb hts hown hK hP 7 (by decide) tb_24 rfl d_X_sum_80 ?_
      refine lv_aload_n hx hb d_X_sum_83 rfl (lv_at hl 0 rfl) ?_
      refine x_get hx hb hts hown hK hP 5 (by decide) tb_22 rfl d_X_sum_84 ?_
      refine r_iald (v := nI (ct_sum gl (dl.take dl.length))) hx hb hK hP 5 4 rfl rfl (by omega) (by decide) (hf2 _ (Nat.le_refl _)) d_X_sum_87 ?_
      refine r_as (y := nI (ct_sum gl dl)) (by rw [List.take_length]) ?_
      exact W.iret (v := nI (ct_sum gl dl)) hx hb hr (fun t1 ht1 hW => ⟨⟨nI (ct_sum gl dl), (fh, fd, fb, fs2, nI dl.length, gl, dl, bl), rfl, ⟨rfl, rfl, rfl, rfl, ht, hH, hDl, hB, Or.inr ⟨_, Nat.le_refl _, rfl, hf2⟩⟩, by rw [ht1]; exact hP, va_K.moved hW.alike hK, hD⟩, hS.F ht1⟩) hS.2.2 d_X_sum_88
    · refine lv_aload_n hx hb d_X_sum_33 rfl (lv_at hl 0 rfl) ?_
      refine x_get hx hb hts hown hK hP 7 (by decide) tb_24 rfl d_X_sum_34 ?_
      refine lv_aload_n hx hb d_X_sum_37 rfl (lv_at hl 0 rfl) ?_
      refine x_get hx hb hts hown hK hP 8 (by decide) tb_25 rfl d_X_sum_38 ?_
      refine lv_iconst (v := nI 1) hx hb d_X_sum_41 (by decide) ?_
      refine lv_iadd hx hb d_X_sum_42 ?_
      refine r_as (y := nI (k + 1)) (nI_add _ _) ?_
      refine lv_aload_n hx hb d_X_sum_43 rfl (lv_at hl 0 rfl) ?_
      refine lv_aload_n hx hb d_X_sum_44 rfl (lv_at hl 0 rfl) ?_
      refine x_get hx hb hts hown hK hP 7 (by decide) tb_24 rfl d_X_sum_45 ?_
      refine lv_aload_n hx hb d_X_sum_48 rfl (lv_at hl 0 rfl) ?_
      refine x_get hx hb hts hown hK hP 8 (by decide) tb_25 rfl d_X_sum_49 ?_
      refine r_iald (v := nI (ct_sum gl (dl.take k))) hx hb hK hP 5 4 rfl rfl (by omega) (by decide) (hf2 k (Nat.le_refl _)) d_X_sum_52 ?_
      refine lv_aload_n hx hb d_X_sum_53 rfl (lv_at hl 0 rfl) ?_
      refine x_get hx hb hts hown hK hP 2 (by decide) tb_19 rfl d_X_sum_54 ?_
      refine lv_aload_n hx hb d_X_sum_57 rfl (lv_at hl 0 rfl) ?_
      refine x_get hx hb hts hown hK hP 8 (by decide) tb_25 rfl d_X_sum_58 ?_
      refine r_bald (v := nI (dl.getD k 0)) hx hb hK hP 3 2 rfl rfl (by omega) (by decide) (hDl.2.2 k hc) d_X_sum_61 ?_
      refine k_X_on hx hb hml hown hts hK hP (rest := [.int (nI (k + 1)), .ref (q 5)]) ht (ct_sumk_lt gl hDl.2.1 k) (by have := hDl.lt hc; omega) hl.1 (Nat.le_of_ble_eq_true rfl) ⟨Nat.le_of_ble_eq_true rfl, Nat.le_of_ble_eq_true rfl⟩ d_X_sum_62 ?_
      refine r_iast hx hb hK hP hD hS 5 4 rfl rfl (by omega) (by decide) d_X_sum_65 (fun H locs hP hD hS => ?_)
      have hP : va_P D ct_cl (wX q kk tb fh fd fb (upd fs2 (k + 1) (nI (ct_step (ct_sum gl (dl.take k)) (dl.getD k 0)))) gl.length dl.length bl.length (nI k)) H := hP
      have hD : va_D A (wX q kk tb fh fd fb (upd fs2 (k + 1) (nI (ct_step (ct_sum gl (dl.take k)) (dl.getD k 0)))) gl.length dl.length bl.length (nI k)) := hD
      refine lv_aload_n hx hb d_X_sum_66 rfl (lv_at hl 0 rfl) ?_
      refine lv_dup hx hb d_X_sum_67 rfl ?_
      refine x_get hx hb hts hown hK hP 8 (by decide) tb_25 rfl d_X_sum_68 ?_
      refine lv_iconst (v := nI 1) hx hb d_X_sum_71 (by decide) ?_
      refine lv_iadd hx hb d_X_sum_72 ?_
      refine r_as (y := nI (k + 1)) (nI_add _ _) ?_
      refine x_put hx hb hts hown hK hP hD hS 8 (by decide) tb_25 rfl (by decide +kernel) (Nat.le_of_ble_eq_true rfl) d_X_sum_73 (fun H locs hP hD hS => ?_)
      have hP : va_P D ct_cl (wX q kk tb fh fd fb (upd fs2 (k + 1) (nI (ct_step (ct_sum gl (dl.take k)) (dl.getD k 0)))) gl.length dl.length bl.length (nI (k + 1))) H := hP
      have hD : va_D A (wX q kk tb fh fd fb (upd fs2 (k + 1) (nI (ct_step (ct_sum gl (dl.take k)) (dl.getD k 0)))) gl.length dl.length bl.length (nI (k + 1))) := hD
      refine lv_goto (tgt := 22) hx hb d_X_sum_76 (by decide) ?_
      refine hnext hc _ _ _ ⟨_, fun j hj => ?_, hP, hD, hS, hl⟩
      by_cases ej : j = k + 1
      · rw [ej, pk_us, ct_sumk gl dl hc]
      · rw [pk_un ej]
        exact hf2 j (by omega)
theorem k_X_sum {p : Program} {l : Launch} {e : Env} {R : Room} {s : State} {m : MethodId} {args : Array Value} {below : List Frame} {meth : Method} {co : Code} {H : Heap} {locs : List Loc} {Q : State → Prop} {cc : ByteArray} {pc nL : Nat} {ls : Array Slot} {rest : List Value} {D : va_G} {q : Nat → Nat} {kk : Nat → ClassId} {tb fh fd fb fs : Nat → Int32} {kn : Int32} {gl dl bl : List Nat} {A : Nat → Prop} {H0 : Heap}  (hx : p.tables.exec = Jvm.exec) (hb : co.code = cc) (hml : co.maxLocals = nL) (hown : s.vm.findClass R_X = some m.cls) (hts : ∀ w ∈ ct_tb, w.before args s = true) (hK : va_K D ct_cl (tX kk) s) (hP : va_P D ct_cl (wX q kk tb fh fd fb fs gl.length dl.length bl.length kn) H) (hD : va_D A (wX q kk tb fh fd fb fs gl.length dl.length bl.length kn)) (hS : va_S A H0 H locs) (hA : ∀ q, H0.size ≤ q → A q) (hR : RX tb fh fd fb fs kn gl dl bl)  (hsize : ls.size = nL) (hroom : (rest.map fun v => v.category).sum ≤ 8) (hRm : 3 ≤ R.frames ∧ 64 ≤ R.locals) (hd : decode cc pc = .ok (.invokevirtual 60, 3)) (k0 : ∀ (fh2 fd2 fb2 fs2 : Nat → Int32) (kn2 : Int32) (H1 : Heap) (locs1 : List Loc), RX tb fh2 fd2 fb2 fs2 kn2 (gl) (dl) (bl) → va_P D ct_cl (wX q kk tb fh2 fd2 fb2 fs2 (gl).length (dl).length (bl).length kn2) H1 → va_D A (wX q kk tb fh2 fd2 fb2 fs2 (gl).length (dl).length (bl).length kn2) → va_S A H0 H1 locs1 → W p l e R s m args below meth co H1 locs1 0 0 Q (F0 m (pc + 3) ls (.int (nI (ct_sum gl dl)) :: rest))) : W p l e R s m args below meth co H locs 0 0 Q (F0 m pc ls (.ref (q 0) :: rest)) := by
  refine ct_callW (As := []) (rest := rest) (B := wXu q kk tb) (wr := []) ⟨hx, hb, hml, hown, hts⟩ (c_X_sum l D q kk hR H.size) ok_X_X_sum dc_X_sum hRm rfl rfl hK hP hD hS hA rfl rfl rfl hsize hroom hd ⟨Nat.zero_le _, Nat.zero_le _⟩ (fun r u H1 locs1 hw hP1 hD1 hS1 => ?_)
  obtain ⟨fh2, fd2, fb2, fs2, kn2, gl2, dl2, bl2⟩ := u
  obtain ⟨rfl, rfl, rfl, rfl, hR2⟩ := hw
  exact k0 fh2 fd2 fb2 fs2 kn2 H1 locs1 hR2 hP1 hD1 hS1
set_option maxHeartbeats 4000000 in
set_option maxRecDepth 100000 in
/-- add(v) -/
theorem c_X_add (l : Launch) (D : va_G) (q : Nat → Nat) (kk : Nat → ClassId) {tb fh fd fb fs : Nat → Int32} {kn : Int32} {gl dl bl : List Nat} (hR : RX tb fh fd fb fs kn gl dl bl) {v : Nat} (hn : dl.length < 64) (sz : Nat) : Met l y_X_add (ww y_X_add b_X_add 2 none) ({ frames := 0, cells := 0, slots := 0, locals := 0 } : Room) (va_Pc [.ref (q 0), .int (nI v)] (ct_PW D (wX q kk tb fh fd fb fs gl.length dl.length bl.length kn) (tX kk) sz)) (va_Qv (pX tb (nI 0) gl (dl ++ [v % 32]) bl (nI 0)) (ct_BW D (tX kk) (wXu q kk tb) (va_A (wX q kk tb fh fd fb fs gl.length dl.length bl.length kn) sz)) (va_A (wX q kk tb fh fd fb fs gl.length dl.length bl.length kn) sz)) 0 0 (va_A (wX q kk tb fh fd fb fs gl.length dl.length bl.length kn) sz) := by
  refine Met.ofW (cc := b_X_add) (maxL := 2) (ret := none) (by decide) rfl ?_
  intro p e s m args below meth co s₁ B hml hv0
  obtain ⟨rfl, hsz, hP, hK, hD0⟩ := hv0
  have hx := B.exec
  have hb := B.bytes
  have hr := B.returns
  have hts := fun w0 (h0 : w0 ∈ ct_tb) => atoms_spec (ws := ww y_X_add b_X_add 2 none) B.pre w0 (List.mem_cons_of_mem _ h0)
  have hown : s.vm.findClass R_X = some m.cls := findClass_of_methodNamed B.named
  have hlocks := B.notSynchronized
  subst hsz
  have hD := hD0.self (sz := s.heap.size)
  generalize hAe : va_A (wX q kk tb fh fd fb fs gl.length dl.length bl.length kn) s.heap.size = A at hD ⊢
  have hA : ∀ q : Nat, s.heap.size ≤ q → A q := fun q h => by rw [← hAe]; exact Or.inr h
  have hS : va_S A s.heap s.heap [] := va_S.rf
  have hl := lv_entry ([.ref (q 0), .int (nI v)]) (n := 2) (Nat.le_of_ble_eq_true rfl)
  rw [lg_entry_eq]
  generalize (lg_sl ([.ref (q 0), .int (nI v)]) ++ List.replicate (2 - (lg_sl ([.ref (q 0), .int (nI v)])).length) Slot.unset).toArray = ls at hl ⊢
  have hl : lv_has ls 2 [(0, .ref (q 0)), (1, .int (nI v))] := hl
  obtain ⟨ht, hH, hDl, hB, hKN⟩ := id hR
  have hH1 := hH.1
  have hD1 := hDl.1
  have hB1 := hB.1
  refine lv_aload_n hx hb d_X_add_0 rfl (lv_at hl 0 rfl) ?_
  refine x_get hx hb hts hown hK hP 2 (by decide) tb_19 rfl d_X_add_1 ?_
  refine lv_aload_n hx hb d_X_add_4 rfl (lv_at hl 0 rfl) ?_
  refine lv_dup hx hb d_X_add_5 rfl ?_
  refine x_get hx hb hts hown hK hP 5 (by decide) tb_22 rfl d_X_add_6 ?_
  refine lv_dup_x1 hx hb d_X_add_9 rfl rfl ?_
  refine lv_iconst (v := nI 1) hx hb d_X_add_10 (by decide) ?_
  refine lv_iadd hx hb d_X_add_11 ?_
  refine r_as (y := nI (dl.length + 1)) (nI_add _ _) ?_
  refine x_put hx hb hts hown hK hP hD hS 5 (by decide) tb_22 rfl (by decide +kernel) (Nat.le_of_ble_eq_true rfl) d_X_add_12 (fun H locs hP hD hS => ?_)
  have hP : va_P D ct_cl (wX q kk tb fh fd fb fs gl.length (dl.length + 1) bl.length kn) H := hP
  have hD : va_D A (wX q kk tb fh fd fb fs gl.length (dl.length + 1) bl.length kn) := hD
  refine lv_iload_n hx hb d_X_add_15 rfl (lv_at hl 1 rfl) ?_
  refine lv_bipush (v := nI 31) hx hb d_X_add_16 (by decide) ?_
  refine lv_iand hx hb d_X_add_18 ?_
  refine r_as (y := nI (v % 32)) (ct_a31 _) ?_
  refine lv_i2b (v := nI (v % 32)) hx hb d_X_add_19 (ct_small _ (by omega)) ?_
  refine r_bast (y := nI (v % 32)) hx hb hK hP hD hS 3 2 rfl rfl (hn) (by decide) (ct_nbs (by omega)) d_X_add_20 (fun H locs hP hD hS => ?_)
  have hP : va_P D ct_cl (wX q kk tb fh (upd fd dl.length (nI (v % 32))) fb fs gl.length (dl.length + 1) bl.length kn) H := hP
  have hD : va_D A (wX q kk tb fh (upd fd dl.length (nI (v % 32))) fb fs gl.length (dl.length + 1) bl.length kn) := hD
  have el : (dl ++ [v % 32]).length = dl.length + 1 := ct_l1 _ _
  have hP : va_P D ct_cl (wX q kk tb fh (upd fd dl.length (nI (v % 32))) fb fs gl.length ((dl ++ [v % 32]).length) bl.length kn) H := by rw [el]; exact hP
  have hD : va_D A (wX q kk tb fh (upd fd dl.length (nI (v % 32))) fb fs gl.length ((dl ++ [v % 32]).length) bl.length kn) := by rw [el]; exact hD
  exact W.vret hx hb hr (fun t1 ht1 hW => ⟨⟨(fh, upd fd dl.length (nI (v % 32)), fb, fs, kn, gl, dl ++ [v % 32], bl), rfl, ⟨rfl, rfl, rfl, rfl, ht, hH, hDl.push hn (by omega) rfl, hB, hKN.push _⟩, by rw [ht1]; exact hP, va_K.moved hW.alike hK, hD⟩, hS.F ht1⟩) hS.2.2 d_X_add_21
theorem k_X_add {p : Program} {l : Launch} {e : Env} {R : Room} {s : State} {m : MethodId} {args : Array Value} {below : List Frame} {meth : Method} {co : Code} {H : Heap} {locs : List Loc} {Q : State → Prop} {cc : ByteArray} {pc nL : Nat} {ls : Array Slot} {rest : List Value} {D : va_G} {q : Nat → Nat} {kk : Nat → ClassId} {tb fh fd fb fs : Nat → Int32} {kn : Int32} {gl dl bl : List Nat} {A : Nat → Prop} {H0 : Heap} {v : Nat} (hx : p.tables.exec = Jvm.exec) (hb : co.code = cc) (hml : co.maxLocals = nL) (hown : s.vm.findClass R_X = some m.cls) (hts : ∀ w ∈ ct_tb, w.before args s = true) (hK : va_K D ct_cl (tX kk) s) (hP : va_P D ct_cl (wX q kk tb fh fd fb fs gl.length dl.length bl.length kn) H) (hD : va_D A (wX q kk tb fh fd fb fs gl.length dl.length bl.length kn)) (hS : va_S A H0 H locs) (hA : ∀ q, H0.size ≤ q → A q) (hR : RX tb fh fd fb fs kn gl dl bl) (hn : dl.length < 64) (hsize : ls.size = nL) (hroom : (rest.map fun v => v.category).sum ≤ 8) (hRm : 1 ≤ R.frames ∧ 21 ≤ R.locals) (hd : decode cc pc = .ok (.invokevirtual 56, 3)) (k0 : ∀ (fh2 fd2 fb2 fs2 : Nat → Int32) (kn2 : Int32) (H1 : Heap) (locs1 : List Loc), RX tb fh2 fd2 fb2 fs2 kn2 (gl) (dl ++ [v % 32]) (bl) → va_P D ct_cl (wX q kk tb fh2 fd2 fb2 fs2 (gl).length (dl ++ [v % 32]).length (bl).length kn2) H1 → va_D A (wX q kk tb fh2 fd2 fb2 fs2 (gl).length (dl ++ [v % 32]).length (bl).length kn2) → va_S A H0 H1 locs1 → W p l e R s m args below meth co H1 locs1 0 0 Q (F0 m (pc + 3) ls (rest))) : W p l e R s m args below meth co H locs 0 0 Q (F0 m pc ls (.int (nI v) :: .ref (q 0) :: rest)) := by
  refine ct_callV (As := [.int (nI v)]) (rest := rest) (B := wXu q kk tb) (wr := []) ⟨hx, hb, hml, hown, hts⟩ (c_X_add l D q kk hR hn H.size) ok_X_X_add dc_X_add hRm rfl rfl hK hP hD hS hA rfl rfl rfl hsize hroom hd ⟨Nat.zero_le _, Nat.zero_le _⟩ (fun u H1 locs1 hw hP1 hD1 hS1 => ?_)
  obtain ⟨fh2, fd2, fb2, fs2, kn2, gl2, dl2, bl2⟩ := u
  obtain ⟨-, rfl, rfl, rfl, hR2⟩ := hw
  exact k0 fh2 fd2 fb2 fs2 kn2 H1 locs1 hR2 hP1 hD1 hS1
set_option maxHeartbeats 4000000 in
set_option maxRecDepth 100000 in
/-- head(c) -/
theorem c_X_head (l : Launch) (D : va_G) (q : Nat → Nat) (kk : Nat → ClassId) {tb fh fd fb fs : Nat → Int32} {kn : Int32} {gl dl bl : List Nat} (hR : RX tb fh fd fb fs kn gl dl bl) {v : Nat} (sz : Nat) : Met l y_X_head (ww y_X_head b_X_head 2 (some .boolean)) ({ frames := 1, cells := 0, slots := 0, locals := 21 } : Room) (va_Pc [.ref (q 0), .int (nI v)] (ct_PW D (wX q kk tb fh fd fb fs gl.length dl.length bl.length kn) (tX kk) sz)) (va_Qi (pX tb (ct_headA gl) (ct_headL gl v) dl bl) (ct_BW D (tX kk) (wXu q kk tb) (va_A (wX q kk tb fh fd fb fs gl.length dl.length bl.length kn) sz)) (va_A (wX q kk tb fh fd fb fs gl.length dl.length bl.length kn) sz)) 0 0 (va_A (wX q kk tb fh fd fb fs gl.length dl.length bl.length kn) sz) := by
  refine Met.ofW (cc := b_X_head) (maxL := 2) (ret := (some .boolean)) (by decide) rfl ?_
  intro p e s m args below meth co s₁ B hml hv0
  obtain ⟨rfl, hsz, hP, hK, hD0⟩ := hv0
  have hx := B.exec
  have hb := B.bytes
  have hr := B.returns
  have hts := fun w0 (h0 : w0 ∈ ct_tb) => atoms_spec (ws := ww y_X_head b_X_head 2 (some .boolean)) B.pre w0 (List.mem_cons_of_mem _ h0)
  have hown : s.vm.findClass R_X = some m.cls := findClass_of_methodNamed B.named
  have hlocks := B.notSynchronized
  subst hsz
  have hD := hD0.self (sz := s.heap.size)
  generalize hAe : va_A (wX q kk tb fh fd fb fs gl.length dl.length bl.length kn) s.heap.size = A at hD ⊢
  have hA : ∀ q : Nat, s.heap.size ≤ q → A q := fun q h => by rw [← hAe]; exact Or.inr h
  have hS : va_S A s.heap s.heap [] := va_S.rf
  have hl := lv_entry ([.ref (q 0), .int (nI v)]) (n := 2) (Nat.le_of_ble_eq_true rfl)
  rw [lg_entry_eq]
  generalize (lg_sl ([.ref (q 0), .int (nI v)]) ++ List.replicate (2 - (lg_sl ([.ref (q 0), .int (nI v)])).length) Slot.unset).toArray = ls at hl ⊢
  have hl : lv_has ls 2 [(0, .ref (q 0)), (1, .int (nI v))] := hl
  obtain ⟨ht, hH, hDl, hB, hKN⟩ := id hR
  have hH1 := hH.1
  have hD1 := hDl.1
  have hB1 := hB.1
  refine lv_aload_n hx hb d_X_head_0 rfl (lv_at hl 0 rfl) ?_
  refine x_get hx hb hts hown hK hP 4 (by decide) tb_21 rfl d_X_head_1 ?_
  refine lv_bipush (v := nI 8) hx hb d_X_head_4 (by decide) ?_
  refine r_ne (tgt := 11) hx hb d_X_head_6 (by decide) (by omega) (by omega) (fun hc => ?_) (fun hc => ?_)
  · refine lv_aload_n hx hb d_X_head_11 rfl (lv_at hl 0 rfl) ?_
    refine x_get hx hb hts hown hK hP 1 (by decide) tb_18 rfl d_X_head_12 ?_
    refine lv_aload_n hx hb d_X_head_15 rfl (lv_at hl 0 rfl) ?_
    refine lv_dup hx hb d_X_head_16 rfl ?_
    refine x_get hx hb hts hown hK hP 4 (by decide) tb_21 rfl d_X_head_17 ?_
    refine lv_dup_x1 hx hb d_X_head_20 rfl rfl ?_
    refine lv_iconst (v := nI 1) hx hb d_X_head_21 (by decide) ?_
    refine lv_iadd hx hb d_X_head_22 ?_
    refine r_as (y := nI (gl.length + 1)) (nI_add _ _) ?_
    refine x_put hx hb hts hown hK hP hD hS 4 (by decide) tb_21 rfl (by decide +kernel) (Nat.le_of_ble_eq_true rfl) d_X_head_23 (fun H locs hP hD hS => ?_)
    have hP : va_P D ct_cl (wX q kk tb fh fd fb fs (gl.length + 1) dl.length bl.length kn) H := hP
    have hD : va_D A (wX q kk tb fh fd fb fs (gl.length + 1) dl.length bl.length kn) := hD
    refine lv_bipush (v := nI 33) hx hb d_X_head_26 (by decide) ?_
    refine lv_iload_n hx hb d_X_head_28 rfl (lv_at hl 1 rfl) ?_
    refine lv_bipush (v := nI 94) hx hb d_X_head_29 (by decide) ?_
    refine k_X_place hx hb hml hown hts hK (rest := [.int (nI 33), .int (nI gl.length), .ref (q 2)]) (by decide) (by decide) hl.1 (Nat.le_of_ble_eq_true rfl) ⟨Nat.le_of_ble_eq_true rfl, Nat.le_of_ble_eq_true rfl⟩ d_X_head_31 ?_
    refine lv_iadd hx hb d_X_head_34 ?_
    refine r_as (y := nI (33 + (ct_pl v 94))) (nI_add _ _) ?_
    refine lv_i2b (v := nI (33 + ct_pl v 94)) hx hb d_X_head_35 (ct_small _ (by have := ct_pl_lt v (n := 94) (by decide); omega)) ?_
    refine r_bast (y := nI (33 + ct_pl v 94)) hx hb hK hP hD hS 2 1 rfl rfl (by omega) (by decide) (ct_nbs (by have := ct_pl_lt v (n := 94) (by decide); omega)) d_X_head_36 (fun H locs hP hD hS => ?_)
    have hP : va_P D ct_cl (wX q kk tb (upd fh gl.length (nI (33 + ct_pl v 94))) fd fb fs (gl.length + 1) dl.length bl.length kn) H := hP
    have hD : va_D A (wX q kk tb (upd fh gl.length (nI (33 + ct_pl v 94))) fd fb fs (gl.length + 1) dl.length bl.length kn) := hD
    refine lv_aload_n hx hb d_X_head_37 rfl (lv_at hl 0 rfl) ?_
    refine lv_iconst (v := -1) hx hb d_X_head_38 (by decide) ?_
    refine x_put hx hb hts hown hK hP hD hS 8 (by decide) tb_25 rfl (by decide +kernel) (Nat.le_of_ble_eq_true rfl) d_X_head_39 (fun H locs hP hD hS => ?_)
    have hP : va_P D ct_cl (wX q kk tb (upd fh gl.length (nI (33 + ct_pl v 94))) fd fb fs (gl.length + 1) dl.length bl.length (-1)) H := hP
    have hD : va_D A (wX q kk tb (upd fh gl.length (nI (33 + ct_pl v 94))) fd fb fs (gl.length + 1) dl.length bl.length (-1)) := hD
    refine lv_iconst (v := nI 1) hx hb d_X_head_42 (by decide) ?_
    have el : (gl ++ [33 + ct_pl v 94]).length = gl.length + 1 := ct_l1 _ _
    have hP : va_P D ct_cl (wX q kk tb (upd fh gl.length (nI (33 + ct_pl v 94))) fd fb fs ((gl ++ [33 + ct_pl v 94]).length) dl.length bl.length (-1)) H := by rw [el]; exact hP
    have hD : va_D A (wX q kk tb (upd fh gl.length (nI (33 + ct_pl v 94))) fd fb fs ((gl ++ [33 + ct_pl v 94]).length) dl.length bl.length (-1)) := by rw [el]; exact hD
    exact W.zret (v := nI 1) hx hb hr rfl (fun t1 ht1 hW => ⟨⟨nI 1, (upd fh gl.length (nI (33 + ct_pl v 94)), fd, fb, fs, -1, gl ++ [33 + ct_pl v 94], dl, bl), rfl, ⟨(if_neg hc).symm, (if_neg hc).symm, rfl, rfl, ht, hH.push (by omega) (by have := ct_pl_lt v (n := 94) (by decide); omega) rfl, hDl, hB, KN.no⟩, by rw [ht1]; exact hP, va_K.moved hW.alike hK, hD⟩, hS.F ht1⟩) hS.2.2 d_X_head_43
  · refine lv_iconst (v := nI 0) hx hb d_X_head_9 (by decide) ?_
    exact W.zret (v := nI 0) hx hb hr rfl (fun t1 ht1 hW => ⟨⟨nI 0, (fh, fd, fb, fs, kn, gl, dl, bl), rfl, ⟨(if_pos hc).symm, (if_pos hc).symm, rfl, rfl, hR⟩, by rw [ht1]; exact hP, va_K.moved hW.alike hK, hD⟩, hS.F ht1⟩) hS.2.2 d_X_head_10
set_option maxHeartbeats 4000000 in
set_option maxRecDepth 100000 in
/-- put(a, x, y, z) -/
theorem c_X_put (l : Launch) (D : va_G) (q : Nat → Nat) (kk : Nat → ClassId) {tb fh fd fb fs : Nat → Int32} {kn : Int32} {gl dl bl : List Nat} (hR : RX tb fh fd fb fs kn gl dl bl) {a x y z : Nat} (sz : Nat) : Met l y_X_put (ww y_X_put b_X_put 5 (some .boolean)) ({ frames := 1, cells := 0, slots := 0, locals := 21 } : Room) (va_Pc [.ref (q 0), .int (nI a), .int (nI x), .int (nI y), .int (nI z)] (ct_PW D (wX q kk tb fh fd fb fs gl.length dl.length bl.length kn) (tX kk) sz)) (va_Qi (pX tb (ct_putA dl) gl (ct_putL dl a x y z) bl) (ct_BW D (tX kk) (wXu q kk tb) (va_A (wX q kk tb fh fd fb fs gl.length dl.length bl.length kn) sz)) (va_A (wX q kk tb fh fd fb fs gl.length dl.length bl.length kn) sz)) 0 0 (va_A (wX q kk tb fh fd fb fs gl.length dl.length bl.length kn) sz) := by
  refine Met.ofW (cc := b_X_put) (maxL := 5) (ret := (some .boolean)) (by decide) rfl ?_
  intro p e s m args below meth co s₁ B hml hv0
  obtain ⟨rfl, hsz, hP, hK, hD0⟩ := hv0
  have hx := B.exec
  have hb := B.bytes
  have hr := B.returns
  have hts := fun w0 (h0 : w0 ∈ ct_tb) => atoms_spec (ws := ww y_X_put b_X_put 5 (some .boolean)) B.pre w0 (List.mem_cons_of_mem _ h0)
  have hown : s.vm.findClass R_X = some m.cls := findClass_of_methodNamed B.named
  have hlocks := B.notSynchronized
  subst hsz
  have hD := hD0.self (sz := s.heap.size)
  generalize hAe : va_A (wX q kk tb fh fd fb fs gl.length dl.length bl.length kn) s.heap.size = A at hD ⊢
  have hA : ∀ q : Nat, s.heap.size ≤ q → A q := fun q h => by rw [← hAe]; exact Or.inr h
  have hS : va_S A s.heap s.heap [] := va_S.rf
  have hl := lv_entry ([.ref (q 0), .int (nI a), .int (nI x), .int (nI y), .int (nI z)]) (n := 5) (Nat.le_of_ble_eq_true rfl)
  rw [lg_entry_eq]
  generalize (lg_sl ([.ref (q 0), .int (nI a), .int (nI x), .int (nI y), .int (nI z)]) ++ List.replicate (5 - (lg_sl ([.ref (q 0), .int (nI a), .int (nI x), .int (nI y), .int (nI z)])).length) Slot.unset).toArray = ls at hl ⊢
  have hl : lv_has ls 5 [(0, .ref (q 0)), (1, .int (nI a)), (2, .int (nI x)), (3, .int (nI y)), (4, .int (nI z))] := hl
  obtain ⟨ht, hH, hDl, hB, hKN⟩ := id hR
  have hH1 := hH.1
  have hD1 := hDl.1
  have hB1 := hB.1
  refine lv_aload_n hx hb d_X_put_0 rfl (lv_at hl 0 rfl) ?_
  refine x_get hx hb hts hown hK hP 5 (by decide) tb_22 rfl d_X_put_1 ?_
  refine lv_iconst (v := nI 4) hx hb d_X_put_4 (by decide) ?_
  refine lv_iadd hx hb d_X_put_5 ?_
  refine r_as (y := nI (dl.length + 4)) (nI_add _ _) ?_
  refine lv_bipush (v := nI 58) hx hb d_X_put_6 (by decide) ?_
  refine r_le (tgt := 13) hx hb d_X_put_8 (by decide) (by omega) (by omega) (fun hc => ?_) (fun hc => ?_)
  · refine lv_aload_n hx hb d_X_put_13 rfl (lv_at hl 0 rfl) ?_
    refine lv_iload_n hx hb d_X_put_14 rfl (lv_at hl 1 rfl) ?_
    refine k_X_add hx hb hml hown hts hK (rest := []) hP hD hS hA hR (by omega) hl.1 (Nat.le_of_ble_eq_true rfl) ⟨Nat.le_of_ble_eq_true rfl, Nat.le_of_ble_eq_true rfl⟩ d_X_put_15 (fun fh fd fb fs kn H locs hR hP hD hS => ?_)
    refine lv_aload_n hx hb d_X_put_18 rfl (lv_at hl 0 rfl) ?_
    refine lv_iload_n hx hb d_X_put_19 rfl (lv_at hl 2 rfl) ?_
    refine k_X_add hx hb hml hown hts hK (rest := []) hP hD hS hA hR (by simp only [ct_l1]; omega) hl.1 (Nat.le_of_ble_eq_true rfl) ⟨Nat.le_of_ble_eq_true rfl, Nat.le_of_ble_eq_true rfl⟩ d_X_put_20 (fun fh fd fb fs kn H locs hR hP hD hS => ?_)
    refine lv_aload_n hx hb d_X_put_23 rfl (lv_at hl 0 rfl) ?_
    refine lv_iload_n hx hb d_X_put_24 rfl (lv_at hl 3 rfl) ?_
    refine k_X_add hx hb hml hown hts hK (rest := []) hP hD hS hA hR (by simp only [ct_l1]; omega) hl.1 (Nat.le_of_ble_eq_true rfl) ⟨Nat.le_of_ble_eq_true rfl, Nat.le_of_ble_eq_true rfl⟩ d_X_put_25 (fun fh fd fb fs kn H locs hR hP hD hS => ?_)
    refine lv_aload_n hx hb d_X_put_28 rfl (lv_at hl 0 rfl) ?_
    refine lv_iload hx hb d_X_put_29 (lv_at hl 4 rfl) ?_
    refine k_X_add hx hb hml hown hts hK (rest := []) hP hD hS hA hR (by simp only [ct_l1]; omega) hl.1 (Nat.le_of_ble_eq_true rfl) ⟨Nat.le_of_ble_eq_true rfl, Nat.le_of_ble_eq_true rfl⟩ d_X_put_31 (fun fh fd fb fs kn H locs hR hP hD hS => ?_)
    refine lv_iconst (v := nI 1) hx hb d_X_put_34 (by decide) ?_
    exact W.zret (v := nI 1) hx hb hr rfl (fun t1 ht1 hW => ⟨⟨nI 1, (fh, fd, fb, fs, kn, gl, (((dl ++ [a % 32]) ++ [x % 32]) ++ [y % 32]) ++ [z % 32], bl), rfl, ⟨(if_neg (by omega)).symm, rfl, by rw [ct_putL, if_neg (by omega)]; simp, rfl, hR⟩, by rw [ht1]; exact hP, va_K.moved hW.alike hK, hD⟩, hS.F ht1⟩) hS.2.2 d_X_put_35
  · refine lv_iconst (v := nI 0) hx hb d_X_put_11 (by decide) ?_
    exact W.zret (v := nI 0) hx hb hr rfl (fun t1 ht1 hW => ⟨⟨nI 0, (fh, fd, fb, fs, kn, gl, dl, bl), rfl, ⟨(if_pos hc).symm, rfl, (if_pos hc).symm, rfl, hR⟩, by rw [ht1]; exact hP, va_K.moved hW.alike hK, hD⟩, hS.F ht1⟩) hS.2.2 d_X_put_12
set_option maxHeartbeats 4000000 in
set_option maxRecDepth 100000 in
/-- wipe() -/
theorem c_X_wipe (l : Launch) (D : va_G) (q : Nat → Nat) (kk : Nat → ClassId) {tb fh fd fb fs : Nat → Int32} {kn : Int32} {gl dl bl : List Nat} (hR : RX tb fh fd fb fs kn gl dl bl)  (sz : Nat) : Met l y_X_wipe (ww y_X_wipe b_X_wipe 1 none) ({ frames := 0, cells := 0, slots := 0, locals := 0 } : Room) (va_Pc [.ref (q 0)] (ct_PW D (wX q kk tb fh fd fb fs gl.length dl.length bl.length kn) (tX kk) sz)) (va_Qv (pX tb (nI 0) [] [] bl (nI 0)) (ct_BW D (tX kk) (wXu q kk tb) (va_A (wX q kk tb fh fd fb fs gl.length dl.length bl.length kn) sz)) (va_A (wX q kk tb fh fd fb fs gl.length dl.length bl.length kn) sz)) 0 0 (va_A (wX q kk tb fh fd fb fs gl.length dl.length bl.length kn) sz) := by
  refine Met.ofW (cc := b_X_wipe) (maxL := 1) (ret := none) (by decide) rfl ?_
  intro p e s m args below meth co s₁ B hml hv0
  obtain ⟨rfl, hsz, hP, hK, hD0⟩ := hv0
  have hx := B.exec
  have hb := B.bytes
  have hr := B.returns
  have hts := fun w0 (h0 : w0 ∈ ct_tb) => atoms_spec (ws := ww y_X_wipe b_X_wipe 1 none) B.pre w0 (List.mem_cons_of_mem _ h0)
  have hown : s.vm.findClass R_X = some m.cls := findClass_of_methodNamed B.named
  have hlocks := B.notSynchronized
  subst hsz
  have hD := hD0.self (sz := s.heap.size)
  generalize hAe : va_A (wX q kk tb fh fd fb fs gl.length dl.length bl.length kn) s.heap.size = A at hD ⊢
  have hA : ∀ q : Nat, s.heap.size ≤ q → A q := fun q h => by rw [← hAe]; exact Or.inr h
  have hS : va_S A s.heap s.heap [] := va_S.rf
  have hl := lv_entry ([.ref (q 0)]) (n := 1) (Nat.le_of_ble_eq_true rfl)
  rw [lg_entry_eq]
  generalize (lg_sl ([.ref (q 0)]) ++ List.replicate (1 - (lg_sl ([.ref (q 0)])).length) Slot.unset).toArray = ls at hl ⊢
  have hl : lv_has ls 1 [(0, .ref (q 0))] := hl
  obtain ⟨ht, hH, hDl, hB, hKN⟩ := id hR
  have hH1 := hH.1
  have hD1 := hDl.1
  have hB1 := hB.1
  refine lv_aload_n hx hb d_X_wipe_0 rfl (lv_at hl 0 rfl) ?_
  refine lv_iconst (v := nI 0) hx hb d_X_wipe_1 (by decide) ?_
  refine x_put hx hb hts hown hK hP hD hS 4 (by decide) tb_21 rfl (by decide +kernel) (Nat.le_of_ble_eq_true rfl) d_X_wipe_2 (fun H locs hP hD hS => ?_)
  have hP : va_P D ct_cl (wX q kk tb fh fd fb fs 0 dl.length bl.length kn) H := hP
  have hD : va_D A (wX q kk tb fh fd fb fs 0 dl.length bl.length kn) := hD
  refine lv_aload_n hx hb d_X_wipe_5 rfl (lv_at hl 0 rfl) ?_
  refine lv_iconst (v := nI 0) hx hb d_X_wipe_6 (by decide) ?_
  refine x_put hx hb hts hown hK hP hD hS 5 (by decide) tb_22 rfl (by decide +kernel) (Nat.le_of_ble_eq_true rfl) d_X_wipe_7 (fun H locs hP hD hS => ?_)
  have hP : va_P D ct_cl (wX q kk tb fh fd fb fs 0 0 bl.length kn) H := hP
  have hD : va_D A (wX q kk tb fh fd fb fs 0 0 bl.length kn) := hD
  refine lv_aload_n hx hb d_X_wipe_10 rfl (lv_at hl 0 rfl) ?_
  refine lv_iconst (v := -1) hx hb d_X_wipe_11 (by decide) ?_
  refine x_put hx hb hts hown hK hP hD hS 8 (by decide) tb_25 rfl (by decide +kernel) (Nat.le_of_ble_eq_true rfl) d_X_wipe_12 (fun H locs hP hD hS => ?_)
  have hP : va_P D ct_cl (wX q kk tb fh fd fb fs 0 0 bl.length (-1)) H := hP
  have hD : va_D A (wX q kk tb fh fd fb fs 0 0 bl.length (-1)) := hD
  exact W.vret hx hb hr (fun t1 ht1 hW => ⟨⟨(fh, fd, fb, fs, -1, [], [], bl), rfl, ⟨rfl, rfl, rfl, rfl, ht, LA.nil, LA.nil, hB, KN.no⟩, by rw [ht1]; exact hP, va_K.moved hW.alike hK, hD⟩, hS.F ht1⟩) hS.2.2 d_X_wipe_15
set_option maxHeartbeats 4000000 in
set_option maxRecDepth 100000 in
/-- check() -/
theorem c_X_check (l : Launch) (D : va_G) (q : Nat → Nat) (kk : Nat → ClassId) {tb fh fd fb fs : Nat → Int32} {kn : Int32} {gl dl bl : List Nat} (hR : RX tb fh fd fb fs kn gl dl bl)  (sz : Nat) : Met l y_X_check (ww y_X_check b_X_check 2 (some .int)) ({ frames := 3, cells := 0, slots := 0, locals := 64 } : Room) (va_Pc [.ref (q 0)] (ct_PW D (wX q kk tb fh fd fb fs gl.length dl.length bl.length kn) (tX kk) sz)) (va_Qi (pX tb (ct_chk (ct_sum gl dl)) gl dl bl) (ct_BW D (tX kk) (wXu q kk tb) (va_A (wX q kk tb fh fd fb fs gl.length dl.length bl.length kn) sz)) (va_A (wX q kk tb fh fd fb fs gl.length dl.length bl.length kn) sz)) 0 0 (va_A (wX q kk tb fh fd fb fs gl.length dl.length bl.length kn) sz) := by
  refine Met.ofW (cc := b_X_check) (maxL := 2) (ret := (some .int)) (by decide) rfl ?_
  intro p e s m args below meth co s₁ B hml hv0
  obtain ⟨rfl, hsz, hP, hK, hD0⟩ := hv0
  have hx := B.exec
  have hb := B.bytes
  have hr := B.returns
  have hts := fun w0 (h0 : w0 ∈ ct_tb) => atoms_spec (ws := ww y_X_check b_X_check 2 (some .int)) B.pre w0 (List.mem_cons_of_mem _ h0)
  have hown : s.vm.findClass R_X = some m.cls := findClass_of_methodNamed B.named
  have hlocks := B.notSynchronized
  subst hsz
  have hD := hD0.self (sz := s.heap.size)
  generalize hAe : va_A (wX q kk tb fh fd fb fs gl.length dl.length bl.length kn) s.heap.size = A at hD ⊢
  have hA : ∀ q : Nat, s.heap.size ≤ q → A q := fun q h => by rw [← hAe]; exact Or.inr h
  have hS : va_S A s.heap s.heap [] := va_S.rf
  have hl := lv_entry ([.ref (q 0)]) (n := 2) (Nat.le_of_ble_eq_true rfl)
  rw [lg_entry_eq]
  generalize (lg_sl ([.ref (q 0)]) ++ List.replicate (2 - (lg_sl ([.ref (q 0)])).length) Slot.unset).toArray = ls at hl ⊢
  have hl : lv_has ls 2 [(0, .ref (q 0))] := hl
  obtain ⟨ht, hH, hDl, hB, hKN⟩ := id hR
  have hH1 := hH.1
  have hD1 := hDl.1
  have hB1 := hB.1
  refine lv_aload_n hx hb d_X_check_0 rfl (lv_at hl 0 rfl) ?_
  refine k_X_sum hx hb hml hown hts hK (rest := []) hP hD hS hA hR hl.1 (Nat.le_of_ble_eq_true rfl) ⟨Nat.le_of_ble_eq_true rfl, Nat.le_of_ble_eq_true rfl⟩ d_X_check_1 (fun fh fd fb fs kn H locs hR hP hD hS => ?_)
  have hlt := ct_sum_lt gl hDl.2.1
  refine lv_istore_n (lv' := [(1, .int (nI (ct_sum gl dl))), (0, .ref (q 0))]) hx hb d_X_check_4 rfl hl (by decide) rfl (fun ls hl => ?_)
  refine lv_iload_n hx hb d_X_check_5 rfl (lv_at hl 0 rfl) ?_
  refine lv_iconst (v := nI 1) hx hb d_X_check_6 (by decide) ?_
  refine r_ne (tgt := 14) hx hb d_X_check_7 (by decide) (by omega) (by omega) (fun hc => ?_) (fun hc => ?_)
  · refine lv_iload_n hx hb d_X_check_14 rfl (lv_at hl 0 rfl) ?_
    refine lv_ldc hx hb hown (hts _ tb_84) d_X_check_15 ?_
    refine r_as (y := nI 734539939) (by decide) ?_
    refine r_ne (tgt := 24) hx hb d_X_check_17 (by decide) (by omega) (by omega) (fun hc2 => ?_) (fun hc2 => ?_)
    · refine lv_iconst (v := -1) hx hb d_X_check_24 (by decide) ?_
      exact W.iret (v := -1) hx hb hr (fun t1 ht1 hW => ⟨⟨-1, (fh, fd, fb, fs, kn, gl, dl, bl), rfl, ⟨by rw [ct_chk, if_neg hc, if_neg hc2], rfl, rfl, rfl, hR⟩, by rw [ht1]; exact hP, va_K.moved hW.alike hK, hD⟩, hS.F ht1⟩) hS.2.2 d_X_check_25
    · refine lv_iconst (v := nI 1) hx hb d_X_check_20 (by decide) ?_
      refine lv_goto (tgt := 25) hx hb d_X_check_21 (by decide) ?_
      exact W.iret (v := nI 1) hx hb hr (fun t1 ht1 hW => ⟨⟨nI 1, (fh, fd, fb, fs, kn, gl, dl, bl), rfl, ⟨by rw [ct_chk, if_neg hc, if_pos hc2], rfl, rfl, rfl, hR⟩, by rw [ht1]; exact hP, va_K.moved hW.alike hK, hD⟩, hS.F ht1⟩) hS.2.2 d_X_check_25
  · refine lv_iconst (v := nI 0) hx hb d_X_check_10 (by decide) ?_
    refine lv_goto (tgt := 25) hx hb d_X_check_11 (by decide) ?_
    exact W.iret (v := nI 0) hx hb hr (fun t1 ht1 hW => ⟨⟨nI 0, (fh, fd, fb, fs, kn, gl, dl, bl), rfl, ⟨by rw [ct_chk, if_pos hc], rfl, rfl, rfl, hR⟩, by rw [ht1]; exact hP, va_K.moved hW.alike hK, hD⟩, hS.F ht1⟩) hS.2.2 d_X_check_25
set_option maxHeartbeats 4000000 in
set_option maxRecDepth 100000 in
/-- spoil(i, v) -/
theorem c_X_spoil (l : Launch) (D : va_G) (q : Nat → Nat) (kk : Nat → ClassId) {tb fh fd fb fs : Nat → Int32} {kn : Int32} {gl dl bl : List Nat} (hR : RX tb fh fd fb fs kn gl dl bl) {i v : Nat} (sz : Nat) : Met l y_X_spoil (ww y_X_spoil b_X_spoil 4 (some .boolean)) ({ frames := 1, cells := 0, slots := 0, locals := 21 } : Room) (va_Pc [.ref (q 0), .int (nI i), .int (nI v)] (ct_PW D (wX q kk tb fh fd fb fs gl.length dl.length bl.length kn) (tX kk) sz)) (va_Qi (pX tb (ct_spoilA dl) gl (ct_spoilL dl i v) bl) (ct_BW D (tX kk) (wXu q kk tb) (va_A (wX q kk tb fh fd fb fs gl.length dl.length bl.length kn) sz)) (va_A (wX q kk tb fh fd fb fs gl.length dl.length bl.length kn) sz)) 0 0 (va_A (wX q kk tb fh fd fb fs gl.length dl.length bl.length kn) sz) := by
  refine Met.ofW (cc := b_X_spoil) (maxL := 4) (ret := (some .boolean)) (by decide) rfl ?_
  intro p e s m args below meth co s₁ B hml hv0
  obtain ⟨rfl, hsz, hP, hK, hD0⟩ := hv0
  have hx := B.exec
  have hb := B.bytes
  have hr := B.returns
  have hts := fun w0 (h0 : w0 ∈ ct_tb) => atoms_spec (ws := ww y_X_spoil b_X_spoil 4 (some .boolean)) B.pre w0 (List.mem_cons_of_mem _ h0)
  have hown : s.vm.findClass R_X = some m.cls := findClass_of_methodNamed B.named
  have hlocks := B.notSynchronized
  subst hsz
  have hD := hD0.self (sz := s.heap.size)
  generalize hAe : va_A (wX q kk tb fh fd fb fs gl.length dl.length bl.length kn) s.heap.size = A at hD ⊢
  have hA : ∀ q : Nat, s.heap.size ≤ q → A q := fun q h => by rw [← hAe]; exact Or.inr h
  have hS : va_S A s.heap s.heap [] := va_S.rf
  have hl := lv_entry ([.ref (q 0), .int (nI i), .int (nI v)]) (n := 4) (Nat.le_of_ble_eq_true rfl)
  rw [lg_entry_eq]
  generalize (lg_sl ([.ref (q 0), .int (nI i), .int (nI v)]) ++ List.replicate (4 - (lg_sl ([.ref (q 0), .int (nI i), .int (nI v)])).length) Slot.unset).toArray = ls at hl ⊢
  have hl : lv_has ls 4 [(0, .ref (q 0)), (1, .int (nI i)), (2, .int (nI v))] := hl
  obtain ⟨ht, hH, hDl, hB, hKN⟩ := id hR
  have hH1 := hH.1
  have hD1 := hDl.1
  have hB1 := hB.1
  refine lv_aload_n hx hb d_X_spoil_0 rfl (lv_at hl 0 rfl) ?_
  refine x_get hx hb hts hown hK hP 5 (by decide) tb_22 rfl d_X_spoil_1 ?_
  refine r_ne0 (tgt := 9) hx hb d_X_spoil_4 (by decide) (by omega) (fun hc => ?_) (fun hc => ?_)
  · refine lv_iload_n hx hb d_X_spoil_9 rfl (lv_at hl 1 rfl) ?_
    refine lv_aload_n hx hb d_X_spoil_10 rfl (lv_at hl 0 rfl) ?_
    refine x_get hx hb hts hown hK hP 5 (by decide) tb_22 rfl d_X_spoil_11 ?_
    refine k_X_place hx hb hml hown hts hK (rest := []) (by omega) (by omega) hl.1 (Nat.le_of_ble_eq_true rfl) ⟨Nat.le_of_ble_eq_true rfl, Nat.le_of_ble_eq_true rfl⟩ d_X_spoil_14 ?_
    have hp := ct_pl_lt i (n := dl.length) (by omega)
    have hx32 : dl.getD (ct_pl i dl.length) 0 ^^^ (v % 32) < 32 := ct_xor32 (hDl.lt hp) (by omega)
    refine lv_istore_n (lv' := [(3, .int (nI (ct_pl i dl.length))), (0, .ref (q 0)), (1, .int (nI i)), (2, .int (nI v))]) hx hb d_X_spoil_17 rfl hl (by decide) rfl (fun ls hl => ?_)
    refine lv_aload_n hx hb d_X_spoil_18 rfl (lv_at hl 1 rfl) ?_
    refine x_get hx hb hts hown hK hP 2 (by decide) tb_19 rfl d_X_spoil_19 ?_
    refine lv_iload_n hx hb d_X_spoil_22 rfl (lv_at hl 0 rfl) ?_
    refine lv_dup2_11 hx hb d_X_spoil_23 rfl rfl ?_
    refine r_bald (v := nI (dl.getD (ct_pl i dl.length) 0)) hx hb hK hP 3 2 rfl rfl (by omega) (by decide) (hDl.2.2 _ hp) d_X_spoil_24 ?_
    refine lv_iload_n hx hb d_X_spoil_25 rfl (lv_at hl 3 rfl) ?_
    refine lv_bipush (v := nI 31) hx hb d_X_spoil_26 (by decide) ?_
    refine lv_iand hx hb d_X_spoil_28 ?_
    refine r_as (y := nI (v % 32)) (ct_a31 _) ?_
    refine lv_i2b (v := nI (v % 32)) hx hb d_X_spoil_29 (ct_small _ (by omega)) ?_
    refine lv_ixor hx hb d_X_spoil_30 ?_
    refine r_as (y := nI ((dl.getD (ct_pl i dl.length) 0) ^^^ (v % 32))) (nx_xor _ _) ?_
    refine lv_i2b (v := nI (dl.getD (ct_pl i dl.length) 0 ^^^ (v % 32))) hx hb d_X_spoil_31 (ct_small _ (by omega)) ?_
    refine r_bast (y := nI (dl.getD (ct_pl i dl.length) 0 ^^^ (v % 32))) hx hb hK hP hD hS 3 2 rfl rfl (by omega) (by decide) (ct_nbs (by omega)) d_X_spoil_32 (fun H locs hP hD hS => ?_)
    have hP : va_P D ct_cl (wX q kk tb fh (upd fd (ct_pl i dl.length) (nI (dl.getD (ct_pl i dl.length) 0 ^^^ (v % 32)))) fb fs gl.length dl.length bl.length kn) H := hP
    have hD : va_D A (wX q kk tb fh (upd fd (ct_pl i dl.length) (nI (dl.getD (ct_pl i dl.length) 0 ^^^ (v % 32)))) fb fs gl.length dl.length bl.length kn) := hD
    refine lv_aload_n hx hb d_X_spoil_33 rfl (lv_at hl 1 rfl) ?_
    refine lv_aload_n hx hb d_X_spoil_34 rfl (lv_at hl 1 rfl) ?_
    refine x_get hx hb hts hown hK hP 8 (by decide) tb_25 rfl d_X_spoil_35 ?_
    refine lv_iload_n hx hb d_X_spoil_38 rfl (lv_at hl 0 rfl) ?_
    refine va_mmin hx hb (hml.trans hl.1.symm) hown (hts _ tb_93) (hts _ tb_94) (hts _ tb_3) (hts _ tb_95) (Nat.le_of_ble_eq_true rfl) (Nat.le_of_ble_eq_true rfl) (Nat.zero_le _) (Nat.zero_le _) d_X_spoil_39 ?_
    refine x_put hx hb hts hown hK hP hD hS 8 (by decide) tb_25 rfl (by decide +kernel) (Nat.le_of_ble_eq_true rfl) d_X_spoil_42 (fun H locs hP hD hS => ?_)
    have hP : va_P D ct_cl (wX q kk tb fh (upd fd (ct_pl i dl.length) (nI (dl.getD (ct_pl i dl.length) 0 ^^^ (v % 32)))) fb fs gl.length dl.length bl.length (if nI (ct_pl i dl.length) < kn then nI (ct_pl i dl.length) else kn)) H := hP
    have hD : va_D A (wX q kk tb fh (upd fd (ct_pl i dl.length) (nI (dl.getD (ct_pl i dl.length) 0 ^^^ (v % 32)))) fb fs gl.length dl.length bl.length (if nI (ct_pl i dl.length) < kn then nI (ct_pl i dl.length) else kn)) := hD
    refine lv_iconst (v := nI 1) hx hb d_X_spoil_45 (by decide) ?_
    have el : (dl.set (ct_pl i dl.length) (dl.getD (ct_pl i dl.length) 0 ^^^ (v % 32))).length = dl.length := List.length_set
    have hP : va_P D ct_cl (wX q kk tb fh (upd fd (ct_pl i dl.length) (nI (dl.getD (ct_pl i dl.length) 0 ^^^ (v % 32)))) fb fs gl.length ((dl.set (ct_pl i dl.length) (dl.getD (ct_pl i dl.length) 0 ^^^ (v % 32))).length) bl.length (if nI (ct_pl i dl.length) < kn then nI (ct_pl i dl.length) else kn)) H := by rw [el]; exact hP
    have hD : va_D A (wX q kk tb fh (upd fd (ct_pl i dl.length) (nI (dl.getD (ct_pl i dl.length) 0 ^^^ (v % 32)))) fb fs gl.length ((dl.set (ct_pl i dl.length) (dl.getD (ct_pl i dl.length) 0 ^^^ (v % 32))).length) bl.length (if nI (ct_pl i dl.length) < kn then nI (ct_pl i dl.length) else kn)) := by rw [el]; exact hD
    exact W.zret (v := nI 1) hx hb hr rfl (fun t1 ht1 hW => ⟨⟨nI 1, (fh, upd fd (ct_pl i dl.length) (nI (dl.getD (ct_pl i dl.length) 0 ^^^ (v % 32))), fb, fs, if nI (ct_pl i dl.length) < kn then nI (ct_pl i dl.length) else kn, gl, dl.set (ct_pl i dl.length) (dl.getD (ct_pl i dl.length) 0 ^^^ (v % 32)), bl), rfl, ⟨(if_neg hc).symm, rfl, (if_neg hc).symm, rfl, ht, hH, hDl.set hx32 rfl hp, hB, hKN.set hp hD1⟩, by rw [ht1]; exact hP, va_K.moved hW.alike hK, hD⟩, hS.F ht1⟩) hS.2.2 d_X_spoil_46
  · refine lv_iconst (v := nI 0) hx hb d_X_spoil_7 (by decide) ?_
    exact W.zret (v := nI 0) hx hb hr rfl (fun t1 ht1 hW => ⟨⟨nI 0, (fh, fd, fb, fs, kn, gl, dl, bl), rfl, ⟨(if_pos hc).symm, rfl, (if_pos hc).symm, rfl, hR⟩, by rw [ht1]; exact hP, va_K.moved hW.alike hK, hD⟩, hS.F ht1⟩) hS.2.2 d_X_spoil_8
set_option maxHeartbeats 4000000 in
set_option maxRecDepth 100000 in
/-- at(i) -/
theorem c_X_at (l : Launch) (D : va_G) (q : Nat → Nat) (kk : Nat → ClassId) {tb fh fd fb fs : Nat → Int32} {kn : Int32} {gl dl bl : List Nat} (hR : RX tb fh fd fb fs kn gl dl bl) {i : Nat} : Met l y_X_at (ww y_X_at b_X_at 2 (some .int)) ({ frames := 1, cells := 0, slots := 0, locals := 21 } : Room) (va_Pc [.ref (q 0), .int (nI i)] (ct_PR D (wX q kk tb fh fd fb fs gl.length dl.length bl.length kn) (tX kk))) (vp_Si (fun r => r = ct_atA dl i)) 0 0 (fun _ => False) := by
  refine Met.ofW (cc := b_X_at) (maxL := 2) (ret := (some .int)) (by decide) rfl ?_
  intro p e s m args below meth co s₁ B hml hv0
  obtain ⟨rfl, hP, hK⟩ := hv0
  have hx := B.exec
  have hb := B.bytes
  have hr := B.returns
  have hts := fun w0 (h0 : w0 ∈ ct_tb) => atoms_spec (ws := ww y_X_at b_X_at 2 (some .int)) B.pre w0 (List.mem_cons_of_mem _ h0)
  have hown : s.vm.findClass R_X = some m.cls := findClass_of_methodNamed B.named
  have hlocks := B.notSynchronized
  have hl := lv_entry ([.ref (q 0), .int (nI i)]) (n := 2) (Nat.le_of_ble_eq_true rfl)
  rw [lg_entry_eq]
  generalize (lg_sl ([.ref (q 0), .int (nI i)]) ++ List.replicate (2 - (lg_sl ([.ref (q 0), .int (nI i)])).length) Slot.unset).toArray = ls at hl ⊢
  have hl : lv_has ls 2 [(0, .ref (q 0)), (1, .int (nI i))] := hl
  obtain ⟨ht, hH, hDl, hB, hKN⟩ := id hR
  have hH1 := hH.1
  have hD1 := hDl.1
  have hB1 := hB.1
  refine lv_aload_n hx hb d_X_at_0 rfl (lv_at hl 0 rfl) ?_
  refine x_get hx hb hts hown hK hP 5 (by decide) tb_22 rfl d_X_at_1 ?_
  refine r_ne0 (tgt := 11) hx hb d_X_at_4 (by decide) (by omega) (fun hc => ?_) (fun hc => ?_)
  · refine lv_aload_n hx hb d_X_at_11 rfl (lv_at hl 0 rfl) ?_
    refine x_get hx hb hts hown hK hP 2 (by decide) tb_19 rfl d_X_at_12 ?_
    refine lv_iload_n hx hb d_X_at_15 rfl (lv_at hl 1 rfl) ?_
    refine lv_aload_n hx hb d_X_at_16 rfl (lv_at hl 0 rfl) ?_
    refine x_get hx hb hts hown hK hP 5 (by decide) tb_22 rfl d_X_at_17 ?_
    refine k_X_place hx hb hml hown hts hK (rest := [.ref (q 3)]) (by omega) (by omega) hl.1 (Nat.le_of_ble_eq_true rfl) ⟨Nat.le_of_ble_eq_true rfl, Nat.le_of_ble_eq_true rfl⟩ d_X_at_20 ?_
    have hp := ct_pl_lt i (n := dl.length) (by omega)
    refine r_bald (v := nI (dl.getD (ct_pl i dl.length) 0)) hx hb hK hP 3 2 rfl rfl (by omega) (by decide) (hDl.2.2 _ hp) d_X_at_23 ?_
    exact W.iret (v := nI (dl.getD (ct_pl i dl.length) 0)) hx hb hr (fun t ht _ => ⟨nI (dl.getD (ct_pl i dl.length) 0), rfl, (if_neg hc).symm, ht⟩) (fun _ hq => by cases hq) d_X_at_24
  · refine lv_iconst (v := -1) hx hb d_X_at_7 (by decide) ?_
    refine lv_goto (tgt := 24) hx hb d_X_at_8 (by decide) ?_
    exact W.iret (v := -1) hx hb hr (fun t ht _ => ⟨-1, rfl, (if_pos hc).symm, ht⟩) (fun _ hq => by cases hq) d_X_at_24
set_option maxHeartbeats 4000000 in
set_option maxRecDepth 100000 in
/-- size() -/
theorem c_X_size (l : Launch) (D : va_G) (q : Nat → Nat) (kk : Nat → ClassId) {tb fh fd fb fs : Nat → Int32} {kn : Int32} {gl dl bl : List Nat} (hR : RX tb fh fd fb fs kn gl dl bl)  : Met l y_X_size (ww y_X_size b_X_size 1 (some .int)) ({ frames := 0, cells := 0, slots := 0, locals := 0 } : Room) (va_Pc [.ref (q 0)] (ct_PR D (wX q kk tb fh fd fb fs gl.length dl.length bl.length kn) (tX kk))) (vp_Si (fun r => r = nI dl.length)) 0 0 (fun _ => False) := by
  refine Met.ofW (cc := b_X_size) (maxL := 1) (ret := (some .int)) (by decide) rfl ?_
  intro p e s m args below meth co s₁ B hml hv0
  obtain ⟨rfl, hP, hK⟩ := hv0
  have hx := B.exec
  have hb := B.bytes
  have hr := B.returns
  have hts := fun w0 (h0 : w0 ∈ ct_tb) => atoms_spec (ws := ww y_X_size b_X_size 1 (some .int)) B.pre w0 (List.mem_cons_of_mem _ h0)
  have hown : s.vm.findClass R_X = some m.cls := findClass_of_methodNamed B.named
  have hlocks := B.notSynchronized
  have hl := lv_entry ([.ref (q 0)]) (n := 1) (Nat.le_of_ble_eq_true rfl)
  rw [lg_entry_eq]
  generalize (lg_sl ([.ref (q 0)]) ++ List.replicate (1 - (lg_sl ([.ref (q 0)])).length) Slot.unset).toArray = ls at hl ⊢
  have hl : lv_has ls 1 [(0, .ref (q 0))] := hl
  obtain ⟨ht, hH, hDl, hB, hKN⟩ := id hR
  have hH1 := hH.1
  have hD1 := hDl.1
  have hB1 := hB.1
  refine lv_aload_n hx hb d_X_size_0 rfl (lv_at hl 0 rfl) ?_
  refine x_get hx hb hts hown hK hP 5 (by decide) tb_22 rfl d_X_size_1 ?_
  exact W.iret (v := nI dl.length) hx hb hr (fun t ht _ => ⟨nI dl.length, rfl, rfl, ht⟩) (fun _ hq => by cases hq) d_X_size_4
set_option maxHeartbeats 4000000 in
set_option maxRecDepth 100000 in
/-- octet(v) -/
theorem c_X_octet (l : Launch) (D : va_G) (q : Nat → Nat) (kk : Nat → ClassId) {tb fh fd fb fs : Nat → Int32} {kn : Int32} {gl dl bl : List Nat} (hR : RX tb fh fd fb fs kn gl dl bl) {v : Nat} (sz : Nat) : Met l y_X_octet (ww y_X_octet b_X_octet 2 (some .boolean)) ({ frames := 0, cells := 0, slots := 0, locals := 0 } : Room) (va_Pc [.ref (q 0), .int (nI v)] (ct_PW D (wX q kk tb fh fd fb fs gl.length dl.length bl.length kn) (tX kk) sz)) (va_Qi (pX tb (ct_octA bl) gl dl (ct_octL bl v)) (ct_BW D (tX kk) (wXu q kk tb) (va_A (wX q kk tb fh fd fb fs gl.length dl.length bl.length kn) sz)) (va_A (wX q kk tb fh fd fb fs gl.length dl.length bl.length kn) sz)) 0 0 (va_A (wX q kk tb fh fd fb fs gl.length dl.length bl.length kn) sz) := by
  refine Met.ofW (cc := b_X_octet) (maxL := 2) (ret := (some .boolean)) (by decide) rfl ?_
  intro p e s m args below meth co s₁ B hml hv0
  obtain ⟨rfl, hsz, hP, hK, hD0⟩ := hv0
  have hx := B.exec
  have hb := B.bytes
  have hr := B.returns
  have hts := fun w0 (h0 : w0 ∈ ct_tb) => atoms_spec (ws := ww y_X_octet b_X_octet 2 (some .boolean)) B.pre w0 (List.mem_cons_of_mem _ h0)
  have hown : s.vm.findClass R_X = some m.cls := findClass_of_methodNamed B.named
  have hlocks := B.notSynchronized
  subst hsz
  have hD := hD0.self (sz := s.heap.size)
  generalize hAe : va_A (wX q kk tb fh fd fb fs gl.length dl.length bl.length kn) s.heap.size = A at hD ⊢
  have hA : ∀ q : Nat, s.heap.size ≤ q → A q := fun q h => by rw [← hAe]; exact Or.inr h
  have hS : va_S A s.heap s.heap [] := va_S.rf
  have hl := lv_entry ([.ref (q 0), .int (nI v)]) (n := 2) (Nat.le_of_ble_eq_true rfl)
  rw [lg_entry_eq]
  generalize (lg_sl ([.ref (q 0), .int (nI v)]) ++ List.replicate (2 - (lg_sl ([.ref (q 0), .int (nI v)])).length) Slot.unset).toArray = ls at hl ⊢
  have hl : lv_has ls 2 [(0, .ref (q 0)), (1, .int (nI v))] := hl
  obtain ⟨ht, hH, hDl, hB, hKN⟩ := id hR
  have hH1 := hH.1
  have hD1 := hDl.1
  have hB1 := hB.1
  refine lv_aload_n hx hb d_X_octet_0 rfl (lv_at hl 0 rfl) ?_
  refine x_get hx hb hts hown hK hP 6 (by decide) tb_23 rfl d_X_octet_1 ?_
  refine lv_bipush (v := nI 40) hx hb d_X_octet_4 (by decide) ?_
  refine r_ne (tgt := 11) hx hb d_X_octet_6 (by decide) (by omega) (by omega) (fun hc => ?_) (fun hc => ?_)
  · refine lv_aload_n hx hb d_X_octet_11 rfl (lv_at hl 0 rfl) ?_
    refine x_get hx hb hts hown hK hP 3 (by decide) tb_20 rfl d_X_octet_12 ?_
    refine lv_aload_n hx hb d_X_octet_15 rfl (lv_at hl 0 rfl) ?_
    refine lv_dup hx hb d_X_octet_16 rfl ?_
    refine x_get hx hb hts hown hK hP 6 (by decide) tb_23 rfl d_X_octet_17 ?_
    refine lv_dup_x1 hx hb d_X_octet_20 rfl rfl ?_
    refine lv_iconst (v := nI 1) hx hb d_X_octet_21 (by decide) ?_
    refine lv_iadd hx hb d_X_octet_22 ?_
    refine r_as (y := nI (bl.length + 1)) (nI_add _ _) ?_
    refine x_put hx hb hts hown hK hP hD hS 6 (by decide) tb_23 rfl (by decide +kernel) (Nat.le_of_ble_eq_true rfl) d_X_octet_23 (fun H locs hP hD hS => ?_)
    have hP : va_P D ct_cl (wX q kk tb fh fd fb fs gl.length dl.length (bl.length + 1) kn) H := hP
    have hD : va_D A (wX q kk tb fh fd fb fs gl.length dl.length (bl.length + 1) kn) := hD
    refine lv_iload_n hx hb d_X_octet_26 rfl (lv_at hl 1 rfl) ?_
    refine lv_i2b (v := ct_sx (v % 256)) hx hb d_X_octet_27 (ct_i2b v) ?_
    refine r_bast (y := ct_sx (v % 256)) hx hb hK hP hD hS 4 3 rfl rfl (by omega) (by decide) (ct_nbx _) d_X_octet_28 (fun H locs hP hD hS => ?_)
    have hP : va_P D ct_cl (wX q kk tb fh fd (upd fb bl.length (ct_sx (v % 256))) fs gl.length dl.length (bl.length + 1) kn) H := hP
    have hD : va_D A (wX q kk tb fh fd (upd fb bl.length (ct_sx (v % 256))) fs gl.length dl.length (bl.length + 1) kn) := hD
    refine lv_iconst (v := nI 1) hx hb d_X_octet_29 (by decide) ?_
    have el : (bl ++ [v % 256]).length = bl.length + 1 := ct_l1 _ _
    have hP : va_P D ct_cl (wX q kk tb fh fd (upd fb bl.length (ct_sx (v % 256))) fs gl.length dl.length ((bl ++ [v % 256]).length) kn) H := by rw [el]; exact hP
    have hD : va_D A (wX q kk tb fh fd (upd fb bl.length (ct_sx (v % 256))) fs gl.length dl.length ((bl ++ [v % 256]).length) kn) := by rw [el]; exact hD
    exact W.zret (v := nI 1) hx hb hr rfl (fun t1 ht1 hW => ⟨⟨nI 1, (fh, fd, upd fb bl.length (ct_sx (v % 256)), fs, kn, gl, dl, bl ++ [v % 256]), rfl, ⟨(if_neg hc).symm, rfl, rfl, (if_neg hc).symm, ht, hH, hDl, hB.push (by omega) (by omega) rfl, hKN⟩, by rw [ht1]; exact hP, va_K.moved hW.alike hK, hD⟩, hS.F ht1⟩) hS.2.2 d_X_octet_30
  · refine lv_iconst (v := nI 0) hx hb d_X_octet_9 (by decide) ?_
    exact W.zret (v := nI 0) hx hb hr rfl (fun t1 ht1 hW => ⟨⟨nI 0, (fh, fd, fb, fs, kn, gl, dl, bl), rfl, ⟨(if_pos hc).symm, rfl, rfl, (if_pos hc).symm, hR⟩, by rw [ht1]; exact hP, va_K.moved hW.alike hK, hD⟩, hS.F ht1⟩) hS.2.2 d_X_octet_10
set_option maxHeartbeats 4000000 in
set_option maxRecDepth 100000 in
/-- byteAt(i) -/
theorem c_X_byteAt (l : Launch) (D : va_G) (q : Nat → Nat) (kk : Nat → ClassId) {tb fh fd fb fs : Nat → Int32} {kn : Int32} {gl dl bl : List Nat} (hR : RX tb fh fd fb fs kn gl dl bl) {i : Nat} : Met l y_X_byteAt (ww y_X_byteAt b_X_byteAt 2 (some .int)) ({ frames := 1, cells := 0, slots := 0, locals := 21 } : Room) (va_Pc [.ref (q 0), .int (nI i)] (ct_PR D (wX q kk tb fh fd fb fs gl.length dl.length bl.length kn) (tX kk))) (vp_Si (fun r => r = ct_byA bl i)) 0 0 (fun _ => False) := by
  refine Met.ofW (cc := b_X_byteAt) (maxL := 2) (ret := (some .int)) (by decide) rfl ?_
  intro p e s m args below meth co s₁ B hml hv0
  obtain ⟨rfl, hP, hK⟩ := hv0
  have hx := B.exec
  have hb := B.bytes
  have hr := B.returns
  have hts := fun w0 (h0 : w0 ∈ ct_tb) => atoms_spec (ws := ww y_X_byteAt b_X_byteAt 2 (some .int)) B.pre w0 (List.mem_cons_of_mem _ h0)
  have hown : s.vm.findClass R_X = some m.cls := findClass_of_methodNamed B.named
  have hlocks := B.notSynchronized
  have hl := lv_entry ([.ref (q 0), .int (nI i)]) (n := 2) (Nat.le_of_ble_eq_true rfl)
  rw [lg_entry_eq]
  generalize (lg_sl ([.ref (q 0), .int (nI i)]) ++ List.replicate (2 - (lg_sl ([.ref (q 0), .int (nI i)])).length) Slot.unset).toArray = ls at hl ⊢
  have hl : lv_has ls 2 [(0, .ref (q 0)), (1, .int (nI i))] := hl
  obtain ⟨ht, hH, hDl, hB, hKN⟩ := id hR
  have hH1 := hH.1
  have hD1 := hDl.1
  have hB1 := hB.1
  refine lv_aload_n hx hb d_X_byteAt_0 rfl (lv_at hl 0 rfl) ?_
  refine x_get hx hb hts hown hK hP 6 (by decide) tb_23 rfl d_X_byteAt_1 ?_
  refine r_ne0 (tgt := 11) hx hb d_X_byteAt_4 (by decide) (by omega) (fun hc => ?_) (fun hc => ?_)
  · refine lv_aload_n hx hb d_X_byteAt_11 rfl (lv_at hl 0 rfl) ?_
    refine x_get hx hb hts hown hK hP 3 (by decide) tb_20 rfl d_X_byteAt_12 ?_
    refine lv_iload_n hx hb d_X_byteAt_15 rfl (lv_at hl 1 rfl) ?_
    refine lv_aload_n hx hb d_X_byteAt_16 rfl (lv_at hl 0 rfl) ?_
    refine x_get hx hb hts hown hK hP 6 (by decide) tb_23 rfl d_X_byteAt_17 ?_
    refine k_X_place hx hb hml hown hts hK (rest := [.ref (q 4)]) (by omega) (by omega) hl.1 (Nat.le_of_ble_eq_true rfl) ⟨Nat.le_of_ble_eq_true rfl, Nat.le_of_ble_eq_true rfl⟩ d_X_byteAt_20 ?_
    have hp := ct_pl_lt i (n := bl.length) (by omega)
    refine r_bald (v := ct_sx (bl.getD (ct_pl i bl.length) 0)) hx hb hK hP 4 3 rfl rfl (by omega) (by decide) (hB.2.2 _ hp) d_X_byteAt_23 ?_
    refine lv_sipush (v := nI 255) hx hb d_X_byteAt_24 (by decide) ?_
    refine lv_iand hx hb d_X_byteAt_27 ?_
    refine r_as (y := nI (bl.getD (ct_pl i bl.length) 0)) (ct_sx255 _ (hB.lt hp)) ?_
    exact W.iret (v := nI (bl.getD (ct_pl i bl.length) 0)) hx hb hr (fun t ht _ => ⟨nI (bl.getD (ct_pl i bl.length) 0), rfl, (if_neg hc).symm, ht⟩) (fun _ hq => by cases hq) d_X_byteAt_28
  · refine lv_iconst (v := -1) hx hb d_X_byteAt_7 (by decide) ?_
    refine lv_goto (tgt := 28) hx hb d_X_byteAt_8 (by decide) ?_
    exact W.iret (v := -1) hx hb hr (fun t ht _ => ⟨-1, rfl, (if_pos hc).symm, ht⟩) (fun _ hq => by cases hq) d_X_byteAt_28
/-- the counter of seal's second loop: 25, 20 .. 0, -5 -/
def ct_k5 (k : Nat) : Int32 := Int32.ofInt (25 - 5 * (k : Int))
theorem ct_k5lt : ∀ k, k < 7 → (ct_k5 k < 0 ↔ k = 6) := by decide +kernel
theorem ct_k5n : ∀ k, k < 6 → ct_k5 k = nI (25 - 5 * k) := by decide +kernel
theorem ct_k5s : ∀ k, k < 6 → ct_k5 k + Int32.ofInt (-5) = ct_k5 (k + 1) := by decide +kernel
set_option maxHeartbeats 4000000 in
set_option maxRecDepth 100000 in
/-- seal(kind) -/
theorem c_X_seal (l : Launch) (D : va_G) (q : Nat → Nat) (kk : Nat → ClassId) {tb fh fd fb fs : Nat → Int32} {kn : Int32} {gl dl bl : List Nat} (hR : RX tb fh fd fb fs kn gl dl bl) {v : Nat} (sz : Nat) : Met l y_X_seal (ww y_X_seal b_X_seal 4 (some .boolean)) ({ frames := 3, cells := 0, slots := 0, locals := 64 } : Room) (va_Pc [.ref (q 0), .int (nI v)] (ct_PW D (wX q kk tb fh fd fb fs gl.length dl.length bl.length kn) (tX kk) sz)) (va_Qi (pX tb (ct_sealA dl) gl (ct_sealL gl dl v) bl) (ct_BW D (tX kk) (wXu q kk tb) (va_A (wX q kk tb fh fd fb fs gl.length dl.length bl.length kn) sz)) (va_A (wX q kk tb fh fd fb fs gl.length dl.length bl.length kn) sz)) 0 0 (va_A (wX q kk tb fh fd fb fs gl.length dl.length bl.length kn) sz) := by
  refine Met.ofW (cc := b_X_seal) (maxL := 4) (ret := (some .boolean)) (by decide) rfl ?_
  intro p e s m args below meth co s₁ B hml hv0
  obtain ⟨rfl, hsz, hP, hK, hD0⟩ := hv0
  have hx := B.exec
  have hb := B.bytes
  have hr := B.returns
  have hts := fun w0 (h0 : w0 ∈ ct_tb) => atoms_spec (ws := ww y_X_seal b_X_seal 4 (some .boolean)) B.pre w0 (List.mem_cons_of_mem _ h0)
  have hown : s.vm.findClass R_X = some m.cls := findClass_of_methodNamed B.named
  have hlocks := B.notSynchronized
  subst hsz
  have hD := hD0.self (sz := s.heap.size)
  generalize hAe : va_A (wX q kk tb fh fd fb fs gl.length dl.length bl.length kn) s.heap.size = A at hD ⊢
  have hA : ∀ q : Nat, s.heap.size ≤ q → A q := fun q h => by rw [← hAe]; exact Or.inr h
  have hS : va_S A s.heap s.heap [] := va_S.rf
  have hl := lv_entry ([.ref (q 0), .int (nI v)]) (n := 4) (Nat.le_of_ble_eq_true rfl)
  rw [lg_entry_eq]
  generalize (lg_sl ([.ref (q 0), .int (nI v)]) ++ List.replicate (4 - (lg_sl ([.ref (q 0), .int (nI v)])).length) Slot.unset).toArray = ls at hl ⊢
  have hl : lv_has ls 4 [(0, .ref (q 0)), (1, .int (nI v))] := hl
  obtain ⟨ht, hH, hDl, hB, hKN⟩ := id hR
  have hH1 := hH.1
  have hD1 := hDl.1
  have hB1 := hB.1
  refine lv_aload_n hx hb d_X_seal_0 rfl (lv_at hl 0 rfl) ?_
  refine x_get hx hb hts hown hK hP 5 (by decide) tb_22 rfl d_X_seal_1 ?_
  refine lv_bipush (v := nI 6) hx hb d_X_seal_4 (by decide) ?_
  refine lv_iadd hx hb d_X_seal_6 ?_
  refine r_as (y := nI (dl.length + 6)) (nI_add _ _) ?_
  refine lv_bipush (v := nI 64) hx hb d_X_seal_7 (by decide) ?_
  refine r_le (tgt := 14) hx hb d_X_seal_9 (by decide) (by omega) (by omega) (fun hc => ?_) (fun hc => ?_)
  · refine lv_aload_n hx hb d_X_seal_14 rfl (lv_at hl 0 rfl) ?_
    refine k_X_sum hx hb hml hown hts hK (rest := []) hP hD hS hA hR hl.1 (Nat.le_of_ble_eq_true rfl) ⟨Nat.le_of_ble_eq_true rfl, Nat.le_of_ble_eq_true rfl⟩ d_X_seal_15 (fun fh fd fb fs kn H locs hR hP hD hS => ?_)
    have hlt := ct_sum_lt gl hDl.2.1
    refine lv_istore_n (lv' := [(2, .int (nI (ct_sum gl dl))), (0, .ref (q 0)), (1, .int (nI v))]) hx hb d_X_seal_18 rfl hl (by decide) rfl (fun ls hl => ?_)
    refine lv_iconst (v := nI 0) hx hb d_X_seal_19 (by decide) ?_
    refine lv_istore_n (lv' := [(3, .int (nI 0)), (2, .int (nI (ct_sum gl dl))), (0, .ref (q 0)), (1, .int (nI v))]) hx hb d_X_seal_20 rfl hl (by decide) rfl (fun ls hl => ?_)
    refine r_loop (fun k ls H2 locs2 => H = H2 ∧ locs = locs2 ∧ lv_has ls 4 [(0, .ref (q 0)), (1, .int (nI v)), (2, .int (nI (ct_run (ct_sum gl dl) (List.replicate k 0)))), (3, .int (nI k))]) 6 (k0 := 0) (Nat.zero_le _) ⟨rfl, rfl, lv_sub hl [2, 3, 1, 0] rfl⟩ (fun k H2 locs2 ls hk hI hnext => ?_)
    obtain ⟨rfl, rfl, hl⟩ := hI
    refine lv_iload_n hx hb d_X_seal_21 rfl (lv_at hl 3 rfl) ?_
    refine lv_bipush (v := nI 6) hx hb d_X_seal_22 (by decide) ?_
    refine r_ge (tgt := 40) hx hb d_X_seal_24 (by decide) (by omega) (by decide) (fun hc2 => ?_) (fun hc2 => ?_)
    · have ek : k = 6 := by omega
      subst ek
      refine lv_iload_n hx hb d_X_seal_40 rfl (lv_at hl 2 rfl) ?_
      refine lv_iload_n hx hb d_X_seal_41 rfl (lv_at hl 1 rfl) ?_
      refine lv_iconst (v := nI 1) hx hb d_X_seal_42 (by decide) ?_
      refine lv_iand hx hb d_X_seal_43 ?_
      refine r_as (y := nI (v % 2)) (ct_a1 _) ?_
      refine r_dia (g2 := F0 m 53 ls (.int (nI (ct_kx v)) :: [.int (nI (ct_run (ct_sum gl dl) (List.replicate 6 0)))])) (fun K => ?_) ?_
      · refine r_ne0 (tgt := 51) hx hb d_X_seal_44 (by decide) (by omega) (fun hc3 => ?_) (fun hc3 => ?_)
        · refine lv_ldc hx hb hown (hts _ tb_84) d_X_seal_51 ?_
          refine r_as (y := nI 734539939) (by decide) ?_
          rw [ct_kx, if_neg hc3] at K
          exact K
        · refine lv_iconst (v := nI 1) hx hb d_X_seal_47 (by decide) ?_
          refine lv_goto (tgt := 53) hx hb d_X_seal_48 (by decide) ?_
          rw [ct_kx, if_pos hc3] at K
          exact K
      refine lv_ixor hx hb d_X_seal_53 ?_
      refine r_as (y := nI ((ct_run (ct_sum gl dl) (List.replicate 6 0)) ^^^ (ct_kx v))) (nx_xor _ _) ?_
      refine r_as (y := nI (ct_sc gl dl v)) (rfl) ?_
      refine lv_istore_n (lv' := [(2, .int (nI (ct_sc gl dl v))), (0, .ref (q 0)), (1, .int (nI v)), (3, .int (nI 6))]) hx hb d_X_seal_54 rfl hl (by decide) rfl (fun ls hl => ?_)
      refine lv_bipush (v := nI 25) hx hb d_X_seal_55 (by decide) ?_
      refine lv_istore_n (lv' := [(3, .int (nI 25)), (2, .int (nI (ct_sc gl dl v))), (0, .ref (q 0)), (1, .int (nI v))]) hx hb d_X_seal_57 rfl hl (by decide) rfl (fun ls hl => ?_)
      have hsc := ct_sc_lt gl hDl.2.1 v
      refine r_loop (fun k ls H locs => ∃ (fh fd fb fs : Nat → Int32) (kn : Int32), RX tb fh fd fb fs kn gl (dl ++ (List.range k).map (ct_sealF gl dl v)) bl ∧ va_P D ct_cl (wX q kk tb fh fd fb fs gl.length (dl ++ (List.range k).map (ct_sealF gl dl v)).length bl.length kn) H ∧ va_D A (wX q kk tb fh fd fb fs gl.length (dl ++ (List.range k).map (ct_sealF gl dl v)).length bl.length kn) ∧ va_S A s.heap H locs ∧ lv_has ls 4 [(0, .ref (q 0)), (2, .int (nI (ct_sc gl dl v))), (3, .int (ct_k5 k))]) 6 (k0 := 0) (Nat.zero_le _) ⟨fh, fd, fb, fs, kn, by rw [List.range_zero, List.map_nil, List.append_nil]; exact hR, by rw [List.range_zero, List.map_nil, List.append_nil]; exact hP, by rw [List.range_zero, List.map_nil, List.append_nil]; exact hD, hS, lv_sub hl [2, 1, 0] rfl⟩ (fun k H locs ls hk hI hnext => ?_)
      obtain ⟨fh, fd, fb, fs, kn, hR, hP, hD, hS, hl⟩ := hI
      refine lv_iload_n hx hb d_X_seal_58 rfl (lv_at hl 2 rfl) ?_
      refine lv_if_lt (tgt := 75) hx hb d_X_seal_59 (by decide) (fun hc3 => ?_) (fun hc3 => ?_)
      · have ek : k = 6 := (ct_k5lt k (by omega)).mp hc3
        subst ek
        refine lv_iconst (v := nI 1) hx hb d_X_seal_75 (by decide) ?_
        exact W.zret (v := nI 1) hx hb hr rfl (fun t1 ht1 hW => ⟨⟨nI 1, (fh, fd, fb, fs, kn, gl, dl ++ (List.range 6).map (ct_sealF gl dl v), bl), rfl, ⟨(if_neg (by omega)).symm, rfl, (if_neg (by omega)).symm, rfl, hR⟩, by rw [ht1]; exact hP, va_K.moved hW.alike hK, hD⟩, hS.F ht1⟩) hS.2.2 d_X_seal_76
      · have hk6 : k < 6 := by rcases Nat.lt_or_ge k 6 with z | z; exact z; exact absurd ((ct_k5lt k (by omega)).mpr (by omega)) hc3
        refine lv_aload_n hx hb d_X_seal_62 rfl (lv_at hl 0 rfl) ?_
        refine lv_iload_n hx hb d_X_seal_63 rfl (lv_at hl 1 rfl) ?_
        refine lv_iload_n hx hb d_X_seal_64 rfl (lv_at hl 2 rfl) ?_
        refine r_as (y := nI (25 - 5 * k)) (ct_k5n k hk6) ?_
        refine lv_ishr hx hb d_X_seal_65 ?_
        refine r_as (y := nI ((ct_sc gl dl v) / 2 ^ (25 - 5 * k))) (ct_shr (by omega) (by omega)) ?_
        refine k_X_add hx hb hml hown hts hK (rest := []) hP hD hS hA hR (by rw [List.length_append, ct_lr]; omega) hl.1 (Nat.le_of_ble_eq_true rfl) ⟨Nat.le_of_ble_eq_true rfl, Nat.le_of_ble_eq_true rfl⟩ d_X_seal_66 (fun fh fd fb fs kn H locs hR hP hD hS => ?_)
        refine lv_iinc (v := ct_k5 (k + 1)) (lv' := [(3, .int (ct_k5 (k + 1))), (0, .ref (q 0)), (2, .int (nI (ct_sc gl dl v)))]) hx hb d_X_seal_69 hl (k := 2) rfl (ct_k5s k hk6) (by decide) rfl (fun ls hl => ?_)
        refine lv_goto (tgt := 58) hx hb d_X_seal_72 (by decide) ?_
        have ed : dl ++ (List.range (k + 1)).map (ct_sealF gl dl v) = ((dl ++ (List.range k).map (ct_sealF gl dl v)) ++ [((ct_sc gl dl v) / 2 ^ (25 - 5 * k)) % 32]) := by rw [ct_rs, ← List.append_assoc]; rfl
        exact hnext hk6 _ _ _ ⟨fh, fd, fb, fs, kn, by rw [ed]; exact hR, by rw [ed]; exact hP, by rw [ed]; exact hD, hS, lv_sub hl [1, 2, 0] rfl⟩
    · refine lv_aload_n hx hb d_X_seal_27 rfl (lv_at hl 0 rfl) ?_
      refine lv_iload_n hx hb d_X_seal_28 rfl (lv_at hl 2 rfl) ?_
      refine lv_iconst (v := nI 0) hx hb d_X_seal_29 (by decide) ?_
      refine k_X_on hx hb hml hown hts hK hP (rest := []) ht (ct_zer_lt hlt k) (by decide) hl.1 (Nat.le_of_ble_eq_true rfl) ⟨Nat.le_of_ble_eq_true rfl, Nat.le_of_ble_eq_true rfl⟩ d_X_seal_30 ?_
      refine lv_istore_n (lv' := [(2, .int (nI (ct_step (ct_run (ct_sum gl dl) (List.replicate k 0)) 0))), (0, .ref (q 0)), (1, .int (nI v)), (3, .int (nI k))]) hx hb d_X_seal_33 rfl hl (by decide) rfl (fun ls hl => ?_)
      refine lv_iinc (v := nI (k + 1)) (lv' := [(3, .int (nI (k + 1))), (2, .int (nI (ct_step (ct_run (ct_sum gl dl) (List.replicate k 0)) 0))), (0, .ref (q 0)), (1, .int (nI v))]) hx hb d_X_seal_34 hl (k := 3) rfl (nI_add _ 1) (by decide) rfl (fun ls hl => ?_)
      refine lv_goto (tgt := 21) hx hb d_X_seal_37 (by decide) ?_
      exact hnext hc2 _ _ _ ⟨rfl, rfl, by rw [ct_zer]; exact lv_sub hl [2, 3, 1, 0] rfl⟩
  · refine lv_iconst (v := nI 0) hx hb d_X_seal_12 (by decide) ?_
    exact W.zret (v := nI 0) hx hb hr rfl (fun t1 ht1 hW => ⟨⟨nI 0, (fh, fd, fb, fs, kn, gl, dl, bl), rfl, ⟨(if_pos hc).symm, rfl, (if_pos hc).symm, rfl, hR⟩, by rw [ht1]; exact hP, va_K.moved hW.alike hK, hD⟩, hS.F ht1⟩) hS.2.2 d_X_seal_13
end
section
theorem LA.pushk {g f : Nat → Int32} {l : List Nat} {cap bd : Nat} (h : LA g f l cap bd) {k : Nat} (hk : l.length = k) (hl : k < cap) {x : Nat} (hx : x < bd) {z : Int32} (hz : z = g x) : LA g (upd f k z) (l ++ [x]) cap bd := by
  subst hk
  exact h.push hl hx hz
set_option maxHeartbeats 4000000 in
set_option maxRecDepth 100000 in
/-- run(more) -/
theorem c_M_run (l : Launch) (D : va_G) (q : Nat → Nat) (kk : Nat → ClassId) {fh fd fb : Nat → Int32} {gl dl bl : List Nat} (hR : RM fh fd fb gl dl bl) {more : Nat} (hm : more ≤ 6) : Met l y_M_run (ww y_M_run b_M_run 4 (some .int)) ({ frames := 1, cells := 0, slots := 0, locals := 23 } : Room) (va_Pc [.ref (q 0), .int (nI more)] (ct_PR D (wM q kk fh fd fb gl.length dl.length bl.length) (tM kk))) (vp_Si (fun r => r = nI (ct_run (ct_sum gl dl) (List.replicate more 0)))) 0 0 (fun _ => False) := by
  refine Met.ofW (cc := b_M_run) (maxL := 4) (ret := (some .int)) (by decide) rfl ?_
  intro p e s m args below meth co s₁ B hml hv0
  obtain ⟨rfl, hP, hK⟩ := hv0
  have hx := B.exec
  have hb := B.bytes
  have hr := B.returns
  have hts := fun w0 (h0 : w0 ∈ ct_tb) => atoms_spec (ws := ww y_M_run b_M_run 4 (some .int)) B.pre w0 (List.mem_cons_of_mem _ h0)
  have hown : s.vm.findClass R_M = some m.cls := findClass_of_methodNamed B.named
  have hlocks := B.notSynchronized
  have hl := lv_entry ([.ref (q 0), .int (nI more)]) (n := 4) (Nat.le_of_ble_eq_true rfl)
  rw [lg_entry_eq]
  generalize (lg_sl ([.ref (q 0), .int (nI more)]) ++ List.replicate (4 - (lg_sl ([.ref (q 0), .int (nI more)])).length) Slot.unset).toArray = ls at hl ⊢
  have hl : lv_has ls 4 [(0, .ref (q 0)), (1, .int (nI more))] := hl
  obtain ⟨hH, hDl, hB⟩ := id hR
  have hH1 := hH.1
  have hD1 := hDl.1
  have hB1 := hB.1
  refine lv_iconst (v := nI 1) hx hb d_M_run_0 (by decide) ?_
  refine lv_istore_n (lv' := [(2, .int (nI 1)), (0, .ref (q 0)), (1, .int (nI more))]) hx hb d_M_run_1 rfl hl (by decide) rfl (fun ls hl => ?_)
  refine lv_iconst (v := nI 0) hx hb d_M_run_2 (by decide) ?_
  refine lv_istore_n (lv' := [(3, .int (nI 0)), (2, .int (nI 1)), (0, .ref (q 0)), (1, .int (nI more))]) hx hb d_M_run_3 rfl hl (by decide) rfl (fun ls hl => ?_)
  refine r_loop (fun k ls H2 locs2 => s.heap = H2 ∧ [] = locs2 ∧ lv_has ls 4 [(0, .ref (q 0)), (1, .int (nI more)), (2, .int (nI (ct_run 1 ((gl.map (fun x => x / 32)).take k)))), (3, .int (nI k))]) gl.length (k0 := 0) (Nat.zero_le _) ⟨rfl, rfl, lv_sub hl [2, 3, 1, 0] rfl⟩ (fun k H2 locs2 ls hk hI hnext => ?_)
  obtain ⟨rfl, rfl, hl⟩ := hI
  refine lv_iload_n hx hb d_M_run_4 rfl (lv_at hl 3 rfl) ?_
  refine lv_aload_n hx hb d_M_run_5 rfl (lv_at hl 0 rfl) ?_
  refine m_get hx hb hts hown hK hP 1 (by decide) tb_127 rfl d_M_run_6 ?_
  refine r_ge (tgt := 31) hx hb d_M_run_9 (by decide) (by omega) (by omega) (fun hc => ?_) (fun hc => ?_)
  · have ek : gl.length = k := by omega
    subst ek
    rw [ct_all 1] at hl
    refine lv_iload_n hx hb d_M_run_31 rfl (lv_at hl 2 rfl) ?_
    refine lv_iconst (v := nI 0) hx hb d_M_run_32 (by decide) ?_
    refine k_M_step hx hb hml hown hts hK (rest := []) (ct_run_lt _ (by decide) (fun x hx => by obtain ⟨y, hy, rfl⟩ := List.mem_map.mp hx; have := hH.2.1 y hy; show y / 32 < 2 ^ 30; omega)) (by decide) hl.1 (Nat.le_of_ble_eq_true rfl) ⟨Nat.le_of_ble_eq_true rfl, Nat.le_of_ble_eq_true rfl⟩ d_M_run_33 ?_
    refine lv_istore_n (lv' := [(2, .int (nI (ct_step (ct_run 1 (gl.map (fun x => x / 32))) 0))), (0, .ref (q 0)), (1, .int (nI more)), (3, .int (nI gl.length))]) hx hb d_M_run_36 rfl hl (by decide) rfl (fun ls hl => ?_)
    refine lv_iconst (v := nI 0) hx hb d_M_run_37 (by decide) ?_
    refine lv_istore_n (lv' := [(3, .int (nI 0)), (2, .int (nI (ct_step (ct_run 1 (gl.map (fun x => x / 32))) 0))), (0, .ref (q 0)), (1, .int (nI more))]) hx hb d_M_run_38 rfl hl (by decide) rfl (fun ls hl => ?_)
    refine r_loop (fun k ls H2 locs2 => s.heap = H2 ∧ [] = locs2 ∧ lv_has ls 4 [(0, .ref (q 0)), (1, .int (nI more)), (2, .int (nI (ct_run (ct_step (ct_run 1 (gl.map (fun x => x / 32))) 0) ((gl.map (fun x => x % 32)).take k)))), (3, .int (nI k))]) gl.length (k0 := 0) (Nat.zero_le _) ⟨rfl, rfl, lv_sub hl [2, 3, 1, 0] rfl⟩ (fun k H2 locs2 ls hk hI hnext => ?_)
    obtain ⟨rfl, rfl, hl⟩ := hI
    refine lv_iload_n hx hb d_M_run_39 rfl (lv_at hl 3 rfl) ?_
    refine lv_aload_n hx hb d_M_run_40 rfl (lv_at hl 0 rfl) ?_
    refine m_get hx hb hts hown hK hP 1 (by decide) tb_127 rfl d_M_run_41 ?_
    refine r_ge (tgt := 67) hx hb d_M_run_44 (by decide) (by omega) (by omega) (fun hc => ?_) (fun hc => ?_)
    · have ek : gl.length = k := by omega
      subst ek
      rw [ct_all 1] at hl
      have hl : lv_has ls 4 [(0, .ref (q 0)), (1, .int (nI more)), (2, .int (nI (ct_hd gl))), (3, .int (nI gl.length))] := hl
      refine lv_iconst (v := nI 0) hx hb d_M_run_67 (by decide) ?_
      refine lv_istore_n (lv' := [(3, .int (nI 0)), (0, .ref (q 0)), (1, .int (nI more)), (2, .int (nI (ct_hd gl)))]) hx hb d_M_run_68 rfl hl (by decide) rfl (fun ls hl => ?_)
      refine r_loop (fun k ls H2 locs2 => s.heap = H2 ∧ [] = locs2 ∧ lv_has ls 4 [(0, .ref (q 0)), (1, .int (nI more)), (2, .int (nI (ct_sum gl (dl.take k)))), (3, .int (nI k))]) dl.length (k0 := 0) (Nat.zero_le _) ⟨rfl, rfl, lv_sub hl [1, 2, 3, 0] rfl⟩ (fun k H2 locs2 ls hk hI hnext => ?_)
      obtain ⟨rfl, rfl, hl⟩ := hI
      refine lv_iload_n hx hb d_M_run_69 rfl (lv_at hl 3 rfl) ?_
      refine lv_aload_n hx hb d_M_run_70 rfl (lv_at hl 0 rfl) ?_
      refine m_get hx hb hts hown hK hP 3 (by decide) tb_129 rfl d_M_run_71 ?_
      refine r_ge (tgt := 94) hx hb d_M_run_74 (by decide) (by omega) (by omega) (fun hc => ?_) (fun hc => ?_)
      · have ek : dl.length = k := by omega
        subst ek
        rw [List.take_length] at hl
        refine lv_iconst (v := nI 0) hx hb d_M_run_94 (by decide) ?_
        refine lv_istore_n (lv' := [(3, .int (nI 0)), (0, .ref (q 0)), (1, .int (nI more)), (2, .int (nI (ct_sum gl dl)))]) hx hb d_M_run_95 rfl hl (by decide) rfl (fun ls hl => ?_)
        refine r_loop (fun k ls H2 locs2 => s.heap = H2 ∧ [] = locs2 ∧ lv_has ls 4 [(0, .ref (q 0)), (1, .int (nI more)), (2, .int (nI (ct_run (ct_sum gl dl) (List.replicate k 0)))), (3, .int (nI k))]) more (k0 := 0) (Nat.zero_le _) ⟨rfl, rfl, lv_sub hl [1, 2, 3, 0] rfl⟩ (fun k H2 locs2 ls hk hI hnext => ?_)
        obtain ⟨rfl, rfl, hl⟩ := hI
        refine lv_iload_n hx hb d_M_run_96 rfl (lv_at hl 3 rfl) ?_
        refine lv_iload_n hx hb d_M_run_97 rfl (lv_at hl 1 rfl) ?_
        refine r_ge (tgt := 113) hx hb d_M_run_98 (by decide) (by omega) (by omega) (fun hc => ?_) (fun hc => ?_)
        · have ek : more = k := by omega
          subst ek
          refine lv_iload_n hx hb d_M_run_113 rfl (lv_at hl 2 rfl) ?_
          exact W.iret (v := nI (ct_run (ct_sum gl dl) (List.replicate more 0))) hx hb hr (fun t ht _ => ⟨nI (ct_run (ct_sum gl dl) (List.replicate more 0)), rfl, rfl, ht⟩) (fun _ hq => by cases hq) d_M_run_114
        · refine lv_iload_n hx hb d_M_run_101 rfl (lv_at hl 2 rfl) ?_
          refine lv_iconst (v := nI 0) hx hb d_M_run_102 (by decide) ?_
          refine k_M_step hx hb hml hown hts hK (rest := []) (ct_zer_lt (ct_sum_lt gl hDl.2.1) k) (by decide) hl.1 (Nat.le_of_ble_eq_true rfl) ⟨Nat.le_of_ble_eq_true rfl, Nat.le_of_ble_eq_true rfl⟩ d_M_run_103 ?_
          refine lv_istore_n (lv' := [(2, .int (nI (ct_step (ct_run (ct_sum gl dl) (List.replicate k 0)) 0))), (0, .ref (q 0)), (1, .int (nI more)), (3, .int (nI k))]) hx hb d_M_run_106 rfl hl (by decide) rfl (fun ls hl => ?_)
          refine lv_iinc (v := nI (k + 1)) (lv' := [(3, .int (nI (k + 1))), (2, .int (nI (ct_step (ct_run (ct_sum gl dl) (List.replicate k 0)) 0))), (0, .ref (q 0)), (1, .int (nI more))]) hx hb d_M_run_107 hl (k := 3) rfl (nI_add _ 1) (by decide) rfl (fun ls hl => ?_)
          refine lv_goto (tgt := 96) hx hb d_M_run_110 (by decide) ?_
          exact hnext hc _ _ _ ⟨rfl, rfl, by rw [ct_zer]; exact lv_sub hl [2, 3, 1, 0] rfl⟩
      · refine lv_iload_n hx hb d_M_run_77 rfl (lv_at hl 2 rfl) ?_
        refine lv_aload_n hx hb d_M_run_78 rfl (lv_at hl 0 rfl) ?_
        refine m_get hx hb hts hown hK hP 2 (by decide) tb_128 rfl d_M_run_79 ?_
        refine lv_iload_n hx hb d_M_run_82 rfl (lv_at hl 3 rfl) ?_
        refine r_iald (v := nI (dl.getD k 0)) hx hb hK hP 2 1 rfl rfl (by omega) (by decide) (hDl.2.2 k hc) d_M_run_83 ?_
        refine k_M_step hx hb hml hown hts hK (rest := []) (ct_sumk_lt gl hDl.2.1 k) (by have := hDl.lt hc; omega) hl.1 (Nat.le_of_ble_eq_true rfl) ⟨Nat.le_of_ble_eq_true rfl, Nat.le_of_ble_eq_true rfl⟩ d_M_run_84 ?_
        refine lv_istore_n (lv' := [(2, .int (nI (ct_step (ct_sum gl (dl.take k)) (dl.getD k 0)))), (0, .ref (q 0)), (1, .int (nI more)), (3, .int (nI k))]) hx hb d_M_run_87 rfl hl (by decide) rfl (fun ls hl => ?_)
        refine lv_iinc (v := nI (k + 1)) (lv' := [(3, .int (nI (k + 1))), (2, .int (nI (ct_step (ct_sum gl (dl.take k)) (dl.getD k 0)))), (0, .ref (q 0)), (1, .int (nI more))]) hx hb d_M_run_88 hl (k := 3) rfl (nI_add _ 1) (by decide) rfl (fun ls hl => ?_)
        refine lv_goto (tgt := 69) hx hb d_M_run_91 (by decide) ?_
        exact hnext hc _ _ _ ⟨rfl, rfl, by rw [ct_sumk gl dl hc]; exact lv_sub hl [2, 3, 1, 0] rfl⟩
    · refine lv_iload_n hx hb d_M_run_47 rfl (lv_at hl 2 rfl) ?_
      refine lv_aload_n hx hb d_M_run_48 rfl (lv_at hl 0 rfl) ?_
      refine m_get hx hb hts hown hK hP 0 (by decide) tb_126 rfl d_M_run_49 ?_
      refine lv_iload_n hx hb d_M_run_52 rfl (lv_at hl 3 rfl) ?_
      refine r_iald (v := nI (gl.getD k 0)) hx hb hK hP 1 0 rfl rfl (by omega) (by decide) (hH.2.2 k hc) d_M_run_53 ?_
      refine lv_bipush (v := nI 31) hx hb d_M_run_54 (by decide) ?_
      refine lv_iand hx hb d_M_run_56 ?_
      refine r_as (y := nI ((gl.getD k 0) % 32)) (ct_a31 _) ?_
      refine k_M_step hx hb hml hown hts hK (rest := []) (ct_runk_lt (ct_step_lt (by decide)) hH.2.1 (fun x h => by omega) k) (by have := hH.lt hc; omega) hl.1 (Nat.le_of_ble_eq_true rfl) ⟨Nat.le_of_ble_eq_true rfl, Nat.le_of_ble_eq_true rfl⟩ d_M_run_57 ?_
      refine lv_istore_n (lv' := [(2, .int (nI (ct_step (ct_run (ct_step (ct_run 1 (gl.map (fun x => x / 32))) 0) ((gl.map (fun x => x % 32)).take k)) ((gl.getD k 0) % 32)))), (0, .ref (q 0)), (1, .int (nI more)), (3, .int (nI k))]) hx hb d_M_run_60 rfl hl (by decide) rfl (fun ls hl => ?_)
      refine lv_iinc (v := nI (k + 1)) (lv' := [(3, .int (nI (k + 1))), (2, .int (nI (ct_step (ct_run (ct_step (ct_run 1 (gl.map (fun x => x / 32))) 0) ((gl.map (fun x => x % 32)).take k)) ((gl.getD k 0) % 32)))), (0, .ref (q 0)), (1, .int (nI more))]) hx hb d_M_run_61 hl (k := 3) rfl (nI_add _ 1) (by decide) rfl (fun ls hl => ?_)
      refine lv_goto (tgt := 39) hx hb d_M_run_64 (by decide) ?_
      exact hnext hc _ _ _ ⟨rfl, rfl, by rw [ct_runk _ _ _ hc]; exact lv_sub hl [2, 3, 1, 0] rfl⟩
  · refine lv_iload_n hx hb d_M_run_12 rfl (lv_at hl 2 rfl) ?_
    refine lv_aload_n hx hb d_M_run_13 rfl (lv_at hl 0 rfl) ?_
    refine m_get hx hb hts hown hK hP 0 (by decide) tb_126 rfl d_M_run_14 ?_
    refine lv_iload_n hx hb d_M_run_17 rfl (lv_at hl 3 rfl) ?_
    refine r_iald (v := nI (gl.getD k 0)) hx hb hK hP 1 0 rfl rfl (by omega) (by decide) (hH.2.2 k hc) d_M_run_18 ?_
    refine lv_iconst (v := nI 5) hx hb d_M_run_19 (by decide) ?_
    refine lv_ishr hx hb d_M_run_20 ?_
    refine r_as (y := nI (gl.getD k 0 / 32)) (ct_shr (by have := hH.lt hc; omega) (by decide)) ?_
    refine k_M_step hx hb hml hown hts hK (rest := []) (ct_runk_lt (by decide) hH.2.1 (fun x h => by omega) k) (by have := hH.lt hc; omega) hl.1 (Nat.le_of_ble_eq_true rfl) ⟨Nat.le_of_ble_eq_true rfl, Nat.le_of_ble_eq_true rfl⟩ d_M_run_21 ?_
    refine lv_istore_n (lv' := [(2, .int (nI (ct_step (ct_run 1 ((gl.map (fun x => x / 32)).take k)) (gl.getD k 0 / 32)))), (0, .ref (q 0)), (1, .int (nI more)), (3, .int (nI k))]) hx hb d_M_run_24 rfl hl (by decide) rfl (fun ls hl => ?_)
    refine lv_iinc (v := nI (k + 1)) (lv' := [(3, .int (nI (k + 1))), (2, .int (nI (ct_step (ct_run 1 ((gl.map (fun x => x / 32)).take k)) (gl.getD k 0 / 32)))), (0, .ref (q 0)), (1, .int (nI more))]) hx hb d_M_run_25 hl (k := 3) rfl (nI_add _ 1) (by decide) rfl (fun ls hl => ?_)
    refine lv_goto (tgt := 4) hx hb d_M_run_28 (by decide) ?_
    exact hnext hc _ _ _ ⟨rfl, rfl, by rw [ct_runk _ _ _ hc]; exact lv_sub hl [2, 3, 1, 0] rfl⟩
theorem k_M_run {p : Program} {l : Launch} {e : Env} {R : Room} {s : State} {m : MethodId} {args : Array Value} {below : List Frame} {meth : Method} {co : Code} {H : Heap} {locs : List Loc} {Q : State → Prop} {cc : ByteArray} {pc nL : Nat} {ls : Array Slot} {rest : List Value} {D : va_G} {q : Nat → Nat} {kk : Nat → ClassId} {fh fd fb : Nat → Int32} {gl dl bl : List Nat} {more : Nat} (hx : p.tables.exec = Jvm.exec) (hb : co.code = cc) (hml : co.maxLocals = nL) (hown : s.vm.findClass R_M = some m.cls) (hts : ∀ w ∈ ct_tb, w.before args s = true) (hK : va_K D ct_cl (tM kk) s) (hP : va_P D ct_cl (wM q kk fh fd fb gl.length dl.length bl.length) H) (hR : RM fh fd fb gl dl bl) (hm : more ≤ 6) (hsize : ls.size = nL) (hroom : (rest.map fun v => v.category).sum ≤ 8) (hRm : 2 ≤ R.frames ∧ 46 ≤ R.locals) (hd : decode cc pc = .ok (.invokevirtual 37, 3)) (k0 : W p l e R s m args below meth co H locs 0 0 Q (F0 m (pc + 3) ls (.int (nI (ct_run (ct_sum gl dl) (List.replicate more 0))) :: rest))) : W p l e R s m args below meth co H locs 0 0 Q (F0 m pc ls (.int (nI more) :: .ref (q 0) :: rest)) :=
  ct_callR (As := [.int (nI more)]) (rest := rest) ⟨hx, hb, hml, hown, hts⟩ (c_M_run l D q kk hR hm) ok_M_M_run dc_M_run hRm rfl rfl hK hP rfl rfl rfl hsize hroom hd ⟨Nat.zero_le _, Nat.zero_le _⟩ (fun r hr => by rw [hr]; exact k0)
set_option maxHeartbeats 4000000 in
set_option maxRecDepth 100000 in
/-- head(c) -/
theorem c_M_head (l : Launch) (D : va_G) (q : Nat → Nat) (kk : Nat → ClassId) {fh fd fb : Nat → Int32} {gl dl bl : List Nat} (hR : RM fh fd fb gl dl bl) {v : Nat} (sz : Nat) : Met l y_M_head (ww y_M_head b_M_head 2 (some .boolean)) ({ frames := 0, cells := 0, slots := 0, locals := 0 } : Room) (va_Pc [.ref (q 0), .int (nI v)] (ct_PW D (wM q kk fh fd fb gl.length dl.length bl.length) (tM kk) sz)) (va_Qi (pM (ct_headA gl) (ct_headL gl v) dl bl) (ct_BW D (tM kk) (wMu q kk) (va_A (wM q kk fh fd fb gl.length dl.length bl.length) sz)) (va_A (wM q kk fh fd fb gl.length dl.length bl.length) sz)) 0 0 (va_A (wM q kk fh fd fb gl.length dl.length bl.length) sz) := by
  refine Met.ofW (cc := b_M_head) (maxL := 2) (ret := (some .boolean)) (by decide) rfl ?_
  intro p e s m args below meth co s₁ B hml hv0
  obtain ⟨rfl, hsz, hP, hK, hD0⟩ := hv0
  have hx := B.exec
  have hb := B.bytes
  have hr := B.returns
  have hts := fun w0 (h0 : w0 ∈ ct_tb) => atoms_spec (ws := ww y_M_head b_M_head 2 (some .boolean)) B.pre w0 (List.mem_cons_of_mem _ h0)
  have hown : s.vm.findClass R_M = some m.cls := findClass_of_methodNamed B.named
  have hlocks := B.notSynchronized
  subst hsz
  have hD := hD0.self (sz := s.heap.size)
  generalize hAe : va_A (wM q kk fh fd fb gl.length dl.length bl.length) s.heap.size = A at hD ⊢
  have hA : ∀ q : Nat, s.heap.size ≤ q → A q := fun q h => by rw [← hAe]; exact Or.inr h
  have hS : va_S A s.heap s.heap [] := va_S.rf
  have hl := lv_entry ([.ref (q 0), .int (nI v)]) (n := 2) (Nat.le_of_ble_eq_true rfl)
  rw [lg_entry_eq]
  generalize (lg_sl ([.ref (q 0), .int (nI v)]) ++ List.replicate (2 - (lg_sl ([.ref (q 0), .int (nI v)])).length) Slot.unset).toArray = ls at hl ⊢
  have hl : lv_has ls 2 [(0, .ref (q 0)), (1, .int (nI v))] := hl
  obtain ⟨hH, hDl, hB⟩ := id hR
  have hH1 := hH.1
  have hD1 := hDl.1
  have hB1 := hB.1
  refine lv_aload_n hx hb d_M_head_0 rfl (lv_at hl 0 rfl) ?_
  refine m_get hx hb hts hown hK hP 1 (by decide) tb_127 rfl d_M_head_1 ?_
  refine lv_bipush (v := nI 8) hx hb d_M_head_4 (by decide) ?_
  refine r_ne (tgt := 11) hx hb d_M_head_6 (by decide) (by omega) (by omega) (fun hc => ?_) (fun hc => ?_)
  · have hpl := ct_pl_lt v (n := 94) (by decide)
    refine lv_aload_n hx hb d_M_head_11 rfl (lv_at hl 0 rfl) ?_
    refine m_get hx hb hts hown hK hP 0 (by decide) tb_126 rfl d_M_head_12 ?_
    refine lv_aload_n hx hb d_M_head_15 rfl (lv_at hl 0 rfl) ?_
    refine m_get hx hb hts hown hK hP 1 (by decide) tb_127 rfl d_M_head_16 ?_
    refine lv_bipush (v := nI 33) hx hb d_M_head_19 (by decide) ?_
    refine lv_iload_n hx hb d_M_head_21 rfl (lv_at hl 1 rfl) ?_
    refine lv_ldc hx hb hown (hts _ tb_149) d_M_head_22 ?_
    refine r_as (y := nI 2147483647) (by decide) ?_
    refine lv_iand hx hb d_M_head_24 ?_
    refine r_as (y := nI (v % 2147483648)) (ct_aM _) ?_
    refine lv_bipush (v := nI 94) hx hb d_M_head_25 (by decide) ?_
    refine lv_irem hx hb d_M_head_27 (nI_ne0 (by omega) (by omega)) ?_
    refine r_as (y := nI ((v % 2147483648) % 94)) (pk_rem (by omega) (by omega) (by omega)) ?_
    refine r_as (y := nI (ct_pl v 94)) (rfl) ?_
    refine lv_iadd hx hb d_M_head_28 ?_
    refine r_as (y := nI (33 + (ct_pl v 94))) (nI_add _ _) ?_
    refine r_iast hx hb hK hP hD hS 1 0 rfl rfl (by omega) (by decide) d_M_head_29 (fun H locs hP hD hS => ?_)
    have hP : va_P D ct_cl (wM q kk (upd fh gl.length (nI (33 + (ct_pl v 94)))) fd fb gl.length dl.length bl.length) H := hP
    have hD : va_D A (wM q kk (upd fh gl.length (nI (33 + (ct_pl v 94)))) fd fb gl.length dl.length bl.length) := hD
    refine lv_aload_n hx hb d_M_head_30 rfl (lv_at hl 0 rfl) ?_
    refine lv_aload_n hx hb d_M_head_31 rfl (lv_at hl 0 rfl) ?_
    refine m_get hx hb hts hown hK hP 1 (by decide) tb_127 rfl d_M_head_32 ?_
    refine lv_iconst (v := nI 1) hx hb d_M_head_35 (by decide) ?_
    refine lv_iadd hx hb d_M_head_36 ?_
    refine r_as (y := nI (gl.length + 1)) (nI_add _ _) ?_
    refine m_put hx hb hts hown hK hP hD hS 1 (by decide) tb_127 rfl (by decide +kernel) (Nat.le_of_ble_eq_true rfl) d_M_head_37 (fun H locs hP hD hS => ?_)
    have hP : va_P D ct_cl (wM q kk (upd fh gl.length (nI (33 + (ct_pl v 94)))) fd fb (gl.length + 1) dl.length bl.length) H := hP
    have hD : va_D A (wM q kk (upd fh gl.length (nI (33 + (ct_pl v 94)))) fd fb (gl.length + 1) dl.length bl.length) := hD
    refine lv_iconst (v := nI 1) hx hb d_M_head_40 (by decide) ?_
    have el : (gl ++ [33 + ct_pl v 94]).length = gl.length + 1 := ct_l1 _ _
    have hP : va_P D ct_cl (wM q kk (upd fh gl.length (nI (33 + (ct_pl v 94)))) fd fb ((gl ++ [33 + ct_pl v 94]).length) dl.length bl.length) H := by rw [el]; exact hP
    have hD : va_D A (wM q kk (upd fh gl.length (nI (33 + (ct_pl v 94)))) fd fb ((gl ++ [33 + ct_pl v 94]).length) dl.length bl.length) := by rw [el]; exact hD
    exact W.zret (v := nI 1) hx hb hr rfl (fun t1 ht1 hW => ⟨⟨nI 1, (upd fh gl.length (nI (33 + (ct_pl v 94))), fd, fb, gl ++ [33 + ct_pl v 94], dl, bl), rfl, ⟨(if_neg hc).symm, (if_neg hc).symm, rfl, rfl, hH.push (by omega) (by omega) rfl, hDl, hB⟩, by rw [ht1]; exact hP, va_K.moved hW.alike hK, hD⟩, hS.F ht1⟩) hS.2.2 d_M_head_41
  · refine lv_iconst (v := nI 0) hx hb d_M_head_9 (by decide) ?_
    exact W.zret (v := nI 0) hx hb hr rfl (fun t1 ht1 hW => ⟨⟨nI 0, (fh, fd, fb, gl, dl, bl), rfl, ⟨(if_pos hc).symm, (if_pos hc).symm, rfl, rfl, hR⟩, by rw [ht1]; exact hP, va_K.moved hW.alike hK, hD⟩, hS.F ht1⟩) hS.2.2 d_M_head_10
set_option maxHeartbeats 4000000 in
set_option maxRecDepth 100000 in
/-- put(a, x, y, z) -/
theorem c_M_put (l : Launch) (D : va_G) (q : Nat → Nat) (kk : Nat → ClassId) {fh fd fb : Nat → Int32} {gl dl bl : List Nat} (hR : RM fh fd fb gl dl bl) {a x y z : Nat} (sz : Nat) : Met l y_M_put (ww y_M_put b_M_put 5 (some .boolean)) ({ frames := 0, cells := 0, slots := 0, locals := 0 } : Room) (va_Pc [.ref (q 0), .int (nI a), .int (nI x), .int (nI y), .int (nI z)] (ct_PW D (wM q kk fh fd fb gl.length dl.length bl.length) (tM kk) sz)) (va_Qi (pM (ct_putA dl) gl (ct_putL dl a x y z) bl) (ct_BW D (tM kk) (wMu q kk) (va_A (wM q kk fh fd fb gl.length dl.length bl.length) sz)) (va_A (wM q kk fh fd fb gl.length dl.length bl.length) sz)) 0 0 (va_A (wM q kk fh fd fb gl.length dl.length bl.length) sz) := by
  refine Met.ofW (cc := b_M_put) (maxL := 5) (ret := (some .boolean)) (by decide) rfl ?_
  intro p e s m args below meth co s₁ B hml hv0
  obtain ⟨rfl, hsz, hP, hK, hD0⟩ := hv0
  have hx := B.exec
  have hb := B.bytes
  have hr := B.returns
  have hts := fun w0 (h0 : w0 ∈ ct_tb) => atoms_spec (ws := ww y_M_put b_M_put 5 (some .boolean)) B.pre w0 (List.mem_cons_of_mem _ h0)
  have hown : s.vm.findClass R_M = some m.cls := findClass_of_methodNamed B.named
  have hlocks := B.notSynchronized
  subst hsz
  have hD := hD0.self (sz := s.heap.size)
  generalize hAe : va_A (wM q kk fh fd fb gl.length dl.length bl.length) s.heap.size = A at hD ⊢
  have hA : ∀ q : Nat, s.heap.size ≤ q → A q := fun q h => by rw [← hAe]; exact Or.inr h
  have hS : va_S A s.heap s.heap [] := va_S.rf
  have hl := lv_entry ([.ref (q 0), .int (nI a), .int (nI x), .int (nI y), .int (nI z)]) (n := 5) (Nat.le_of_ble_eq_true rfl)
  rw [lg_entry_eq]
  generalize (lg_sl ([.ref (q 0), .int (nI a), .int (nI x), .int (nI y), .int (nI z)]) ++ List.replicate (5 - (lg_sl ([.ref (q 0), .int (nI a), .int (nI x), .int (nI y), .int (nI z)])).length) Slot.unset).toArray = ls at hl ⊢
  have hl : lv_has ls 5 [(0, .ref (q 0)), (1, .int (nI a)), (2, .int (nI x)), (3, .int (nI y)), (4, .int (nI z))] := hl
  obtain ⟨hH, hDl, hB⟩ := id hR
  have hH1 := hH.1
  have hD1 := hDl.1
  have hB1 := hB.1
  refine lv_aload_n hx hb d_M_put_0 rfl (lv_at hl 0 rfl) ?_
  refine m_get hx hb hts hown hK hP 3 (by decide) tb_129 rfl d_M_put_1 ?_
  refine lv_iconst (v := nI 4) hx hb d_M_put_4 (by decide) ?_
  refine lv_iadd hx hb d_M_put_5 ?_
  refine r_as (y := nI (dl.length + 4)) (nI_add _ _) ?_
  refine lv_bipush (v := nI 58) hx hb d_M_put_6 (by decide) ?_
  refine r_le (tgt := 13) hx hb d_M_put_8 (by decide) (by omega) (by omega) (fun hc => ?_) (fun hc => ?_)
  · refine lv_aload_n hx hb d_M_put_13 rfl (lv_at hl 0 rfl) ?_
    refine m_get hx hb hts hown hK hP 2 (by decide) tb_128 rfl d_M_put_14 ?_
    refine lv_aload_n hx hb d_M_put_17 rfl (lv_at hl 0 rfl) ?_
    refine m_get hx hb hts hown hK hP 3 (by decide) tb_129 rfl d_M_put_18 ?_
    refine lv_iload_n hx hb d_M_put_21 rfl (lv_at hl 1 rfl) ?_
    refine lv_bipush (v := nI 31) hx hb d_M_put_22 (by decide) ?_
    refine lv_iand hx hb d_M_put_24 ?_
    refine r_as (y := nI (a % 32)) (ct_a31 _) ?_
    refine r_iast hx hb hK hP hD hS 2 1 rfl rfl (by omega) (by decide) d_M_put_25 (fun H locs hP hD hS => ?_)
    have hP : va_P D ct_cl (wM q kk fh (upd fd dl.length (nI (a % 32))) fb gl.length dl.length bl.length) H := hP
    have hD : va_D A (wM q kk fh (upd fd dl.length (nI (a % 32))) fb gl.length dl.length bl.length) := hD
    refine lv_aload_n hx hb d_M_put_26 rfl (lv_at hl 0 rfl) ?_
    refine m_get hx hb hts hown hK hP 2 (by decide) tb_128 rfl d_M_put_27 ?_
    refine lv_aload_n hx hb d_M_put_30 rfl (lv_at hl 0 rfl) ?_
    refine m_get hx hb hts hown hK hP 3 (by decide) tb_129 rfl d_M_put_31 ?_
    refine lv_iconst (v := nI 1) hx hb d_M_put_34 (by decide) ?_
    refine lv_iadd hx hb d_M_put_35 ?_
    refine r_as (y := nI (dl.length + 1)) (nI_add _ _) ?_
    refine lv_iload_n hx hb d_M_put_36 rfl (lv_at hl 2 rfl) ?_
    refine lv_bipush (v := nI 31) hx hb d_M_put_37 (by decide) ?_
    refine lv_iand hx hb d_M_put_39 ?_
    refine r_as (y := nI (x % 32)) (ct_a31 _) ?_
    refine r_iast hx hb hK hP hD hS 2 1 rfl rfl (by omega) (by decide) d_M_put_40 (fun H locs hP hD hS => ?_)
    have hP : va_P D ct_cl (wM q kk fh (upd (upd fd dl.length (nI (a % 32))) (dl.length + 1) (nI (x % 32))) fb gl.length dl.length bl.length) H := hP
    have hD : va_D A (wM q kk fh (upd (upd fd dl.length (nI (a % 32))) (dl.length + 1) (nI (x % 32))) fb gl.length dl.length bl.length) := hD
    refine lv_aload_n hx hb d_M_put_41 rfl (lv_at hl 0 rfl) ?_
    refine m_get hx hb hts hown hK hP 2 (by decide) tb_128 rfl d_M_put_42 ?_
    refine lv_aload_n hx hb d_M_put_45 rfl (lv_at hl 0 rfl) ?_
    refine m_get hx hb hts hown hK hP 3 (by decide) tb_129 rfl d_M_put_46 ?_
    refine lv_iconst (v := nI 2) hx hb d_M_put_49 (by decide) ?_
    refine lv_iadd hx hb d_M_put_50 ?_
    refine r_as (y := nI (dl.length + 2)) (nI_add _ _) ?_
    refine lv_iload_n hx hb d_M_put_51 rfl (lv_at hl 3 rfl) ?_
    refine lv_bipush (v := nI 31) hx hb d_M_put_52 (by decide) ?_
    refine lv_iand hx hb d_M_put_54 ?_
    refine r_as (y := nI (y % 32)) (ct_a31 _) ?_
    refine r_iast hx hb hK hP hD hS 2 1 rfl rfl (by omega) (by decide) d_M_put_55 (fun H locs hP hD hS => ?_)
    have hP : va_P D ct_cl (wM q kk fh (upd (upd (upd fd dl.length (nI (a % 32))) (dl.length + 1) (nI (x % 32))) (dl.length + 2) (nI (y % 32))) fb gl.length dl.length bl.length) H := hP
    have hD : va_D A (wM q kk fh (upd (upd (upd fd dl.length (nI (a % 32))) (dl.length + 1) (nI (x % 32))) (dl.length + 2) (nI (y % 32))) fb gl.length dl.length bl.length) := hD
    refine lv_aload_n hx hb d_M_put_56 rfl (lv_at hl 0 rfl) ?_
    refine m_get hx hb hts hown hK hP 2 (by decide) tb_128 rfl d_M_put_57 ?_
    refine lv_aload_n hx hb d_M_put_60 rfl (lv_at hl 0 rfl) ?_
    refine m_get hx hb hts hown hK hP 3 (by decide) tb_129 rfl d_M_put_61 ?_
    refine lv_iconst (v := nI 3) hx hb d_M_put_64 (by decide) ?_
    refine lv_iadd hx hb d_M_put_65 ?_
    refine r_as (y := nI (dl.length + 3)) (nI_add _ _) ?_
    refine lv_iload hx hb d_M_put_66 (lv_at hl 4 rfl) ?_
    refine lv_bipush (v := nI 31) hx hb d_M_put_68 (by decide) ?_
    refine lv_iand hx hb d_M_put_70 ?_
    refine r_as (y := nI (z % 32)) (ct_a31 _) ?_
    refine r_iast hx hb hK hP hD hS 2 1 rfl rfl (by omega) (by decide) d_M_put_71 (fun H locs hP hD hS => ?_)
    have hP : va_P D ct_cl (wM q kk fh (upd (upd (upd (upd fd dl.length (nI (a % 32))) (dl.length + 1) (nI (x % 32))) (dl.length + 2) (nI (y % 32))) (dl.length + 3) (nI (z % 32))) fb gl.length dl.length bl.length) H := hP
    have hD : va_D A (wM q kk fh (upd (upd (upd (upd fd dl.length (nI (a % 32))) (dl.length + 1) (nI (x % 32))) (dl.length + 2) (nI (y % 32))) (dl.length + 3) (nI (z % 32))) fb gl.length dl.length bl.length) := hD
    refine lv_aload_n hx hb d_M_put_72 rfl (lv_at hl 0 rfl) ?_
    refine lv_aload_n hx hb d_M_put_73 rfl (lv_at hl 0 rfl) ?_
    refine m_get hx hb hts hown hK hP 3 (by decide) tb_129 rfl d_M_put_74 ?_
    refine lv_iconst (v := nI 4) hx hb d_M_put_77 (by decide) ?_
    refine lv_iadd hx hb d_M_put_78 ?_
    refine r_as (y := nI (dl.length + 4)) (nI_add _ _) ?_
    refine m_put hx hb hts hown hK hP hD hS 3 (by decide) tb_129 rfl (by decide +kernel) (Nat.le_of_ble_eq_true rfl) d_M_put_79 (fun H locs hP hD hS => ?_)
    have hP : va_P D ct_cl (wM q kk fh (upd (upd (upd (upd fd dl.length (nI (a % 32))) (dl.length + 1) (nI (x % 32))) (dl.length + 2) (nI (y % 32))) (dl.length + 3) (nI (z % 32))) fb gl.length (dl.length + 4) bl.length) H := hP
    have hD : va_D A (wM q kk fh (upd (upd (upd (upd fd dl.length (nI (a % 32))) (dl.length + 1) (nI (x % 32))) (dl.length + 2) (nI (y % 32))) (dl.length + 3) (nI (z % 32))) fb gl.length (dl.length + 4) bl.length) := hD
    refine lv_iconst (v := nI 1) hx hb d_M_put_82 (by decide) ?_
    have el : (dl ++ [a % 32] ++ [x % 32] ++ [y % 32] ++ [z % 32]).length = dl.length + 4 := by simp only [ct_l1]
    have hP : va_P D ct_cl (wM q kk fh (upd (upd (upd (upd fd dl.length (nI (a % 32))) (dl.length + 1) (nI (x % 32))) (dl.length + 2) (nI (y % 32))) (dl.length + 3) (nI (z % 32))) fb gl.length ((dl ++ [a % 32] ++ [x % 32] ++ [y % 32] ++ [z % 32]).length) bl.length) H := by rw [el]; exact hP
    have hD : va_D A (wM q kk fh (upd (upd (upd (upd fd dl.length (nI (a % 32))) (dl.length + 1) (nI (x % 32))) (dl.length + 2) (nI (y % 32))) (dl.length + 3) (nI (z % 32))) fb gl.length ((dl ++ [a % 32] ++ [x % 32] ++ [y % 32] ++ [z % 32]).length) bl.length) := by rw [el]; exact hD
    exact W.zret (v := nI 1) hx hb hr rfl (fun t1 ht1 hW => ⟨⟨nI 1, (fh, upd (upd (upd (upd fd dl.length (nI (a % 32))) (dl.length + 1) (nI (x % 32))) (dl.length + 2) (nI (y % 32))) (dl.length + 3) (nI (z % 32)), fb, gl, dl ++ [a % 32] ++ [x % 32] ++ [y % 32] ++ [z % 32], bl), rfl, ⟨(if_neg (by omega)).symm, rfl, by rw [ct_putL, if_neg (by omega)]; simp, rfl, hH, (((hDl.pushk rfl (by omega) (by omega) rfl).pushk (ct_l1 _ _) (by omega) (by omega) rfl).pushk (by simp only [ct_l1]) (by omega) (by omega) rfl).pushk (by simp only [ct_l1]) (by omega) (by omega) rfl, hB⟩, by rw [ht1]; exact hP, va_K.moved hW.alike hK, hD⟩, hS.F ht1⟩) hS.2.2 d_M_put_83
  · refine lv_iconst (v := nI 0) hx hb d_M_put_11 (by decide) ?_
    exact W.zret (v := nI 0) hx hb hr rfl (fun t1 ht1 hW => ⟨⟨nI 0, (fh, fd, fb, gl, dl, bl), rfl, ⟨(if_pos hc).symm, rfl, (if_pos hc).symm, rfl, hR⟩, by rw [ht1]; exact hP, va_K.moved hW.alike hK, hD⟩, hS.F ht1⟩) hS.2.2 d_M_put_12
set_option maxHeartbeats 4000000 in
set_option maxRecDepth 100000 in
/-- wipe() -/
theorem c_M_wipe (l : Launch) (D : va_G) (q : Nat → Nat) (kk : Nat → ClassId) {fh fd fb : Nat → Int32} {gl dl bl : List Nat} (hR : RM fh fd fb gl dl bl)  (sz : Nat) : Met l y_M_wipe (ww y_M_wipe b_M_wipe 1 none) ({ frames := 0, cells := 0, slots := 0, locals := 0 } : Room) (va_Pc [.ref (q 0)] (ct_PW D (wM q kk fh fd fb gl.length dl.length bl.length) (tM kk) sz)) (va_Qv (pM (nI 0) [] [] bl (nI 0)) (ct_BW D (tM kk) (wMu q kk) (va_A (wM q kk fh fd fb gl.length dl.length bl.length) sz)) (va_A (wM q kk fh fd fb gl.length dl.length bl.length) sz)) 0 0 (va_A (wM q kk fh fd fb gl.length dl.length bl.length) sz) := by
  refine Met.ofW (cc := b_M_wipe) (maxL := 1) (ret := none) (by decide) rfl ?_
  intro p e s m args below meth co s₁ B hml hv0
  obtain ⟨rfl, hsz, hP, hK, hD0⟩ := hv0
  have hx := B.exec
  have hb := B.bytes
  have hr := B.returns
  have hts := fun w0 (h0 : w0 ∈ ct_tb) => atoms_spec (ws := ww y_M_wipe b_M_wipe 1 none) B.pre w0 (List.mem_cons_of_mem _ h0)
  have hown : s.vm.findClass R_M = some m.cls := findClass_of_methodNamed B.named
  have hlocks := B.notSynchronized
  subst hsz
  have hD := hD0.self (sz := s.heap.size)
  generalize hAe : va_A (wM q kk fh fd fb gl.length dl.length bl.length) s.heap.size = A at hD ⊢
  have hA : ∀ q : Nat, s.heap.size ≤ q → A q := fun q h => by rw [← hAe]; exact Or.inr h
  have hS : va_S A s.heap s.heap [] := va_S.rf
  have hl := lv_entry ([.ref (q 0)]) (n := 1) (Nat.le_of_ble_eq_true rfl)
  rw [lg_entry_eq]
  generalize (lg_sl ([.ref (q 0)]) ++ List.replicate (1 - (lg_sl ([.ref (q 0)])).length) Slot.unset).toArray = ls at hl ⊢
  have hl : lv_has ls 1 [(0, .ref (q 0))] := hl
  obtain ⟨hH, hDl, hB⟩ := id hR
  have hH1 := hH.1
  have hD1 := hDl.1
  have hB1 := hB.1
  refine lv_aload_n hx hb d_M_wipe_0 rfl (lv_at hl 0 rfl) ?_
  refine lv_iconst (v := nI 0) hx hb d_M_wipe_1 (by decide) ?_
  refine m_put hx hb hts hown hK hP hD hS 1 (by decide) tb_127 rfl (by decide +kernel) (Nat.le_of_ble_eq_true rfl) d_M_wipe_2 (fun H locs hP hD hS => ?_)
  have hP : va_P D ct_cl (wM q kk fh fd fb 0 dl.length bl.length) H := hP
  have hD : va_D A (wM q kk fh fd fb 0 dl.length bl.length) := hD
  refine lv_aload_n hx hb d_M_wipe_5 rfl (lv_at hl 0 rfl) ?_
  refine lv_iconst (v := nI 0) hx hb d_M_wipe_6 (by decide) ?_
  refine m_put hx hb hts hown hK hP hD hS 3 (by decide) tb_129 rfl (by decide +kernel) (Nat.le_of_ble_eq_true rfl) d_M_wipe_7 (fun H locs hP hD hS => ?_)
  have hP : va_P D ct_cl (wM q kk fh fd fb 0 0 bl.length) H := hP
  have hD : va_D A (wM q kk fh fd fb 0 0 bl.length) := hD
  exact W.vret hx hb hr (fun t1 ht1 hW => ⟨⟨(fh, fd, fb, [], [], bl), rfl, ⟨rfl, rfl, rfl, rfl, LA.nil, LA.nil, hB⟩, by rw [ht1]; exact hP, va_K.moved hW.alike hK, hD⟩, hS.F ht1⟩) hS.2.2 d_M_wipe_10
set_option maxHeartbeats 4000000 in
set_option maxRecDepth 100000 in
/-- check() -/
theorem c_M_check (l : Launch) (D : va_G) (q : Nat → Nat) (kk : Nat → ClassId) {fh fd fb : Nat → Int32} {gl dl bl : List Nat} (hR : RM fh fd fb gl dl bl)  : Met l y_M_check (ww y_M_check b_M_check 2 (some .int)) ({ frames := 2, cells := 0, slots := 0, locals := 46 } : Room) (va_Pc [.ref (q 0)] (ct_PR D (wM q kk fh fd fb gl.length dl.length bl.length) (tM kk))) (vp_Si (fun r => r = ct_chk (ct_sum gl dl))) 0 0 (fun _ => False) := by
  refine Met.ofW (cc := b_M_check) (maxL := 2) (ret := (some .int)) (by decide) rfl ?_
  intro p e s m args below meth co s₁ B hml hv0
  obtain ⟨rfl, hP, hK⟩ := hv0
  have hx := B.exec
  have hb := B.bytes
  have hr := B.returns
  have hts := fun w0 (h0 : w0 ∈ ct_tb) => atoms_spec (ws := ww y_M_check b_M_check 2 (some .int)) B.pre w0 (List.mem_cons_of_mem _ h0)
  have hown : s.vm.findClass R_M = some m.cls := findClass_of_methodNamed B.named
  have hlocks := B.notSynchronized
  have hl := lv_entry ([.ref (q 0)]) (n := 2) (Nat.le_of_ble_eq_true rfl)
  rw [lg_entry_eq]
  generalize (lg_sl ([.ref (q 0)]) ++ List.replicate (2 - (lg_sl ([.ref (q 0)])).length) Slot.unset).toArray = ls at hl ⊢
  have hl : lv_has ls 2 [(0, .ref (q 0))] := hl
  obtain ⟨hH, hDl, hB⟩ := id hR
  have hH1 := hH.1
  have hD1 := hDl.1
  have hB1 := hB.1
  refine lv_aload_n hx hb d_M_check_0 rfl (lv_at hl 0 rfl) ?_
  refine lv_iconst (v := nI 0) hx hb d_M_check_1 (by decide) ?_
  refine k_M_run hx hb hml hown hts hK (rest := []) hP hR (by decide) hl.1 (Nat.le_of_ble_eq_true rfl) ⟨Nat.le_of_ble_eq_true rfl, Nat.le_of_ble_eq_true rfl⟩ d_M_check_2 ?_
  refine r_as (y := nI (ct_sum gl dl)) (rfl) ?_
  have hlt := ct_sum_lt gl hDl.2.1
  refine lv_istore_n (lv' := [(1, .int (nI (ct_sum gl dl))), (0, .ref (q 0))]) hx hb d_M_check_5 rfl hl (by decide) rfl (fun ls hl => ?_)
  refine lv_iload_n hx hb d_M_check_6 rfl (lv_at hl 0 rfl) ?_
  refine lv_iconst (v := nI 1) hx hb d_M_check_7 (by decide) ?_
  refine r_ne (tgt := 15) hx hb d_M_check_8 (by decide) (by omega) (by omega) (fun hc => ?_) (fun hc => ?_)
  · refine lv_iload_n hx hb d_M_check_15 rfl (lv_at hl 0 rfl) ?_
    refine lv_ldc hx hb hown (hts _ tb_175) d_M_check_16 ?_
    refine r_as (y := nI 734539939) (by decide) ?_
    refine r_ne (tgt := 25) hx hb d_M_check_18 (by decide) (by omega) (by omega) (fun hc2 => ?_) (fun hc2 => ?_)
    · refine lv_iconst (v := -1) hx hb d_M_check_25 (by decide) ?_
      exact W.iret (v := -1) hx hb hr (fun t ht _ => ⟨-1, rfl, by rw [ct_chk, if_neg hc, if_neg hc2], ht⟩) (fun _ hq => by cases hq) d_M_check_26
    · refine lv_iconst (v := nI 1) hx hb d_M_check_21 (by decide) ?_
      refine lv_goto (tgt := 26) hx hb d_M_check_22 (by decide) ?_
      exact W.iret (v := nI 1) hx hb hr (fun t ht _ => ⟨nI 1, rfl, by rw [ct_chk, if_neg hc, if_pos hc2], ht⟩) (fun _ hq => by cases hq) d_M_check_26
  · refine lv_iconst (v := nI 0) hx hb d_M_check_11 (by decide) ?_
    refine lv_goto (tgt := 26) hx hb d_M_check_12 (by decide) ?_
    exact W.iret (v := nI 0) hx hb hr (fun t ht _ => ⟨nI 0, rfl, by rw [ct_chk, if_pos hc], ht⟩) (fun _ hq => by cases hq) d_M_check_26
set_option maxHeartbeats 4000000 in
set_option maxRecDepth 100000 in
/-- spoil(i, v) -/
theorem c_M_spoil (l : Launch) (D : va_G) (q : Nat → Nat) (kk : Nat → ClassId) {fh fd fb : Nat → Int32} {gl dl bl : List Nat} (hR : RM fh fd fb gl dl bl) {i v : Nat} (sz : Nat) : Met l y_M_spoil (ww y_M_spoil b_M_spoil 4 (some .boolean)) ({ frames := 0, cells := 0, slots := 0, locals := 0 } : Room) (va_Pc [.ref (q 0), .int (nI i), .int (nI v)] (ct_PW D (wM q kk fh fd fb gl.length dl.length bl.length) (tM kk) sz)) (va_Qi (pM (ct_spoilA dl) gl (ct_spoilL dl i v) bl) (ct_BW D (tM kk) (wMu q kk) (va_A (wM q kk fh fd fb gl.length dl.length bl.length) sz)) (va_A (wM q kk fh fd fb gl.length dl.length bl.length) sz)) 0 0 (va_A (wM q kk fh fd fb gl.length dl.length bl.length) sz) := by
  refine Met.ofW (cc := b_M_spoil) (maxL := 4) (ret := (some .boolean)) (by decide) rfl ?_
  intro p e s m args below meth co s₁ B hml hv0
  obtain ⟨rfl, hsz, hP, hK, hD0⟩ := hv0
  have hx := B.exec
  have hb := B.bytes
  have hr := B.returns
  have hts := fun w0 (h0 : w0 ∈ ct_tb) => atoms_spec (ws := ww y_M_spoil b_M_spoil 4 (some .boolean)) B.pre w0 (List.mem_cons_of_mem _ h0)
  have hown : s.vm.findClass R_M = some m.cls := findClass_of_methodNamed B.named
  have hlocks := B.notSynchronized
  subst hsz
  have hD := hD0.self (sz := s.heap.size)
  generalize hAe : va_A (wM q kk fh fd fb gl.length dl.length bl.length) s.heap.size = A at hD ⊢
  have hA : ∀ q : Nat, s.heap.size ≤ q → A q := fun q h => by rw [← hAe]; exact Or.inr h
  have hS : va_S A s.heap s.heap [] := va_S.rf
  have hl := lv_entry ([.ref (q 0), .int (nI i), .int (nI v)]) (n := 4) (Nat.le_of_ble_eq_true rfl)
  rw [lg_entry_eq]
  generalize (lg_sl ([.ref (q 0), .int (nI i), .int (nI v)]) ++ List.replicate (4 - (lg_sl ([.ref (q 0), .int (nI i), .int (nI v)])).length) Slot.unset).toArray = ls at hl ⊢
  have hl : lv_has ls 4 [(0, .ref (q 0)), (1, .int (nI i)), (2, .int (nI v))] := hl
  obtain ⟨hH, hDl, hB⟩ := id hR
  have hH1 := hH.1
  have hD1 := hDl.1
  have hB1 := hB.1
  refine lv_aload_n hx hb d_M_spoil_0 rfl (lv_at hl 0 rfl) ?_
  refine m_get hx hb hts hown hK hP 3 (by decide) tb_129 rfl d_M_spoil_1 ?_
  refine r_ne0 (tgt := 9) hx hb d_M_spoil_4 (by decide) (by omega) (fun hc => ?_) (fun hc => ?_)
  · have hp := ct_pl_lt i (n := dl.length) (by omega)
    have hx32 : dl.getD (ct_pl i dl.length) 0 ^^^ (v % 32) < 32 := ct_xor32 (hDl.lt hp) (by omega)
    refine lv_iload_n hx hb d_M_spoil_9 rfl (lv_at hl 1 rfl) ?_
    refine lv_ldc hx hb hown (hts _ tb_149) d_M_spoil_10 ?_
    refine r_as (y := nI 2147483647) (by decide) ?_
    refine lv_iand hx hb d_M_spoil_12 ?_
    refine r_as (y := nI (i % 2147483648)) (ct_aM _) ?_
    refine lv_aload_n hx hb d_M_spoil_13 rfl (lv_at hl 0 rfl) ?_
    refine m_get hx hb hts hown hK hP 3 (by decide) tb_129 rfl d_M_spoil_14 ?_
    refine lv_irem hx hb d_M_spoil_17 (nI_ne0 (by omega) (by omega)) ?_
    refine r_as (y := nI ((i % 2147483648) % dl.length)) (pk_rem (by omega) (by omega) (by omega)) ?_
    refine r_as (y := nI (ct_pl i dl.length)) (rfl) ?_
    refine lv_istore_n (lv' := [(3, .int (nI (ct_pl i dl.length))), (0, .ref (q 0)), (1, .int (nI i)), (2, .int (nI v))]) hx hb d_M_spoil_18 rfl hl (by decide) rfl (fun ls hl => ?_)
    refine lv_aload_n hx hb d_M_spoil_19 rfl (lv_at hl 1 rfl) ?_
    refine m_get hx hb hts hown hK hP 2 (by decide) tb_128 rfl d_M_spoil_20 ?_
    refine lv_iload_n hx hb d_M_spoil_23 rfl (lv_at hl 0 rfl) ?_
    refine lv_aload_n hx hb d_M_spoil_24 rfl (lv_at hl 1 rfl) ?_
    refine m_get hx hb hts hown hK hP 2 (by decide) tb_128 rfl d_M_spoil_25 ?_
    refine lv_iload_n hx hb d_M_spoil_28 rfl (lv_at hl 0 rfl) ?_
    refine r_iald (v := nI (dl.getD (ct_pl i dl.length) 0)) hx hb hK hP 2 1 rfl rfl (by omega) (by decide) (hDl.2.2 _ hp) d_M_spoil_29 ?_
    refine lv_iload_n hx hb d_M_spoil_30 rfl (lv_at hl 3 rfl) ?_
    refine lv_bipush (v := nI 31) hx hb d_M_spoil_31 (by decide) ?_
    refine lv_iand hx hb d_M_spoil_33 ?_
    refine r_as (y := nI (v % 32)) (ct_a31 _) ?_
    refine lv_ixor hx hb d_M_spoil_34 ?_
    refine r_as (y := nI ((dl.getD (ct_pl i dl.length) 0) ^^^ (v % 32))) (nx_xor _ _) ?_
    refine r_iast hx hb hK hP hD hS 2 1 rfl rfl (by omega) (by decide) d_M_spoil_35 (fun H locs hP hD hS => ?_)
    have hP : va_P D ct_cl (wM q kk fh (upd fd (ct_pl i dl.length) (nI ((dl.getD (ct_pl i dl.length) 0) ^^^ (v % 32)))) fb gl.length dl.length bl.length) H := hP
    have hD : va_D A (wM q kk fh (upd fd (ct_pl i dl.length) (nI ((dl.getD (ct_pl i dl.length) 0) ^^^ (v % 32)))) fb gl.length dl.length bl.length) := hD
    refine lv_iconst (v := nI 1) hx hb d_M_spoil_36 (by decide) ?_
    have el : (dl.set (ct_pl i dl.length) (dl.getD (ct_pl i dl.length) 0 ^^^ (v % 32))).length = dl.length := List.length_set
    have hP : va_P D ct_cl (wM q kk fh (upd fd (ct_pl i dl.length) (nI ((dl.getD (ct_pl i dl.length) 0) ^^^ (v % 32)))) fb gl.length ((dl.set (ct_pl i dl.length) (dl.getD (ct_pl i dl.length) 0 ^^^ (v % 32))).length) bl.length) H := by rw [el]; exact hP
    have hD : va_D A (wM q kk fh (upd fd (ct_pl i dl.length) (nI ((dl.getD (ct_pl i dl.length) 0) ^^^ (v % 32)))) fb gl.length ((dl.set (ct_pl i dl.length) (dl.getD (ct_pl i dl.length) 0 ^^^ (v % 32))).length) bl.length) := by rw [el]; exact hD
    exact W.zret (v := nI 1) hx hb hr rfl (fun t1 ht1 hW => ⟨⟨nI 1, (fh, upd fd (ct_pl i dl.length) (nI ((dl.getD (ct_pl i dl.length) 0) ^^^ (v % 32))), fb, gl, dl.set (ct_pl i dl.length) (dl.getD (ct_pl i dl.length) 0 ^^^ (v % 32)), bl), rfl, ⟨(if_neg hc).symm, rfl, (if_neg hc).symm, rfl, hH, hDl.set hx32 rfl hp, hB⟩, by rw [ht1]; exact hP, va_K.moved hW.alike hK, hD⟩, hS.F ht1⟩) hS.2.2 d_M_spoil_37
  · refine lv_iconst (v := nI 0) hx hb d_M_spoil_7 (by decide) ?_
    exact W.zret (v := nI 0) hx hb hr rfl (fun t1 ht1 hW => ⟨⟨nI 0, (fh, fd, fb, gl, dl, bl), rfl, ⟨(if_pos hc).symm, rfl, (if_pos hc).symm, rfl, hR⟩, by rw [ht1]; exact hP, va_K.moved hW.alike hK, hD⟩, hS.F ht1⟩) hS.2.2 d_M_spoil_8
set_option maxHeartbeats 4000000 in
set_option maxRecDepth 100000 in
/-- at(i) -/
theorem c_M_at (l : Launch) (D : va_G) (q : Nat → Nat) (kk : Nat → ClassId) {fh fd fb : Nat → Int32} {gl dl bl : List Nat} (hR : RM fh fd fb gl dl bl) {i : Nat} : Met l y_M_at (ww y_M_at b_M_at 2 (some .int)) ({ frames := 0, cells := 0, slots := 0, locals := 0 } : Room) (va_Pc [.ref (q 0), .int (nI i)] (ct_PR D (wM q kk fh fd fb gl.length dl.length bl.length) (tM kk))) (vp_Si (fun r => r = ct_atA dl i)) 0 0 (fun _ => False) := by
  refine Met.ofW (cc := b_M_at) (maxL := 2) (ret := (some .int)) (by decide) rfl ?_
  intro p e s m args below meth co s₁ B hml hv0
  obtain ⟨rfl, hP, hK⟩ := hv0
  have hx := B.exec
  have hb := B.bytes
  have hr := B.returns
  have hts := fun w0 (h0 : w0 ∈ ct_tb) => atoms_spec (ws := ww y_M_at b_M_at 2 (some .int)) B.pre w0 (List.mem_cons_of_mem _ h0)
  have hown : s.vm.findClass R_M = some m.cls := findClass_of_methodNamed B.named
  have hlocks := B.notSynchronized
  have hl := lv_entry ([.ref (q 0), .int (nI i)]) (n := 2) (Nat.le_of_ble_eq_true rfl)
  rw [lg_entry_eq]
  generalize (lg_sl ([.ref (q 0), .int (nI i)]) ++ List.replicate (2 - (lg_sl ([.ref (q 0), .int (nI i)])).length) Slot.unset).toArray = ls at hl ⊢
  have hl : lv_has ls 2 [(0, .ref (q 0)), (1, .int (nI i))] := hl
  obtain ⟨hH, hDl, hB⟩ := id hR
  have hH1 := hH.1
  have hD1 := hDl.1
  have hB1 := hB.1
  refine lv_aload_n hx hb d_M_at_0 rfl (lv_at hl 0 rfl) ?_
  refine m_get hx hb hts hown hK hP 3 (by decide) tb_129 rfl d_M_at_1 ?_
  refine r_ne0 (tgt := 11) hx hb d_M_at_4 (by decide) (by omega) (fun hc => ?_) (fun hc => ?_)
  · have hp := ct_pl_lt i (n := dl.length) (by omega)
    refine lv_aload_n hx hb d_M_at_11 rfl (lv_at hl 0 rfl) ?_
    refine m_get hx hb hts hown hK hP 2 (by decide) tb_128 rfl d_M_at_12 ?_
    refine lv_iload_n hx hb d_M_at_15 rfl (lv_at hl 1 rfl) ?_
    refine lv_ldc hx hb hown (hts _ tb_149) d_M_at_16 ?_
    refine r_as (y := nI 2147483647) (by decide) ?_
    refine lv_iand hx hb d_M_at_18 ?_
    refine r_as (y := nI (i % 2147483648)) (ct_aM _) ?_
    refine lv_aload_n hx hb d_M_at_19 rfl (lv_at hl 0 rfl) ?_
    refine m_get hx hb hts hown hK hP 3 (by decide) tb_129 rfl d_M_at_20 ?_
    refine lv_irem hx hb d_M_at_23 (nI_ne0 (by omega) (by omega)) ?_
    refine r_as (y := nI ((i % 2147483648) % dl.length)) (pk_rem (by omega) (by omega) (by omega)) ?_
    refine r_as (y := nI (ct_pl i dl.length)) (rfl) ?_
    refine r_iald (v := nI (dl.getD (ct_pl i dl.length) 0)) hx hb hK hP 2 1 rfl rfl (by omega) (by decide) (hDl.2.2 _ hp) d_M_at_24 ?_
    exact W.iret (v := nI (dl.getD (ct_pl i dl.length) 0)) hx hb hr (fun t ht _ => ⟨nI (dl.getD (ct_pl i dl.length) 0), rfl, (if_neg hc).symm, ht⟩) (fun _ hq => by cases hq) d_M_at_25
  · refine lv_iconst (v := -1) hx hb d_M_at_7 (by decide) ?_
    refine lv_goto (tgt := 25) hx hb d_M_at_8 (by decide) ?_
    exact W.iret (v := -1) hx hb hr (fun t ht _ => ⟨-1, rfl, (if_pos hc).symm, ht⟩) (fun _ hq => by cases hq) d_M_at_25
set_option maxHeartbeats 4000000 in
set_option maxRecDepth 100000 in
/-- size() -/
theorem c_M_size (l : Launch) (D : va_G) (q : Nat → Nat) (kk : Nat → ClassId) {fh fd fb : Nat → Int32} {gl dl bl : List Nat} (hR : RM fh fd fb gl dl bl)  : Met l y_M_size (ww y_M_size b_M_size 1 (some .int)) ({ frames := 0, cells := 0, slots := 0, locals := 0 } : Room) (va_Pc [.ref (q 0)] (ct_PR D (wM q kk fh fd fb gl.length dl.length bl.length) (tM kk))) (vp_Si (fun r => r = nI dl.length)) 0 0 (fun _ => False) := by
  refine Met.ofW (cc := b_M_size) (maxL := 1) (ret := (some .int)) (by decide) rfl ?_
  intro p e s m args below meth co s₁ B hml hv0
  obtain ⟨rfl, hP, hK⟩ := hv0
  have hx := B.exec
  have hb := B.bytes
  have hr := B.returns
  have hts := fun w0 (h0 : w0 ∈ ct_tb) => atoms_spec (ws := ww y_M_size b_M_size 1 (some .int)) B.pre w0 (List.mem_cons_of_mem _ h0)
  have hown : s.vm.findClass R_M = some m.cls := findClass_of_methodNamed B.named
  have hlocks := B.notSynchronized
  have hl := lv_entry ([.ref (q 0)]) (n := 1) (Nat.le_of_ble_eq_true rfl)
  rw [lg_entry_eq]
  generalize (lg_sl ([.ref (q 0)]) ++ List.replicate (1 - (lg_sl ([.ref (q 0)])).length) Slot.unset).toArray = ls at hl ⊢
  have hl : lv_has ls 1 [(0, .ref (q 0))] := hl
  obtain ⟨hH, hDl, hB⟩ := id hR
  have hH1 := hH.1
  have hD1 := hDl.1
  have hB1 := hB.1
  refine lv_aload_n hx hb d_M_size_0 rfl (lv_at hl 0 rfl) ?_
  refine m_get hx hb hts hown hK hP 3 (by decide) tb_129 rfl d_M_size_1 ?_
  exact W.iret (v := nI dl.length) hx hb hr (fun t ht _ => ⟨nI dl.length, rfl, rfl, ht⟩) (fun _ hq => by cases hq) d_M_size_4
set_option maxHeartbeats 4000000 in
set_option maxRecDepth 100000 in
/-- octet(v) -/
theorem c_M_octet (l : Launch) (D : va_G) (q : Nat → Nat) (kk : Nat → ClassId) {fh fd fb : Nat → Int32} {gl dl bl : List Nat} (hR : RM fh fd fb gl dl bl) {v : Nat} (sz : Nat) : Met l y_M_octet (ww y_M_octet b_M_octet 2 (some .boolean)) ({ frames := 0, cells := 0, slots := 0, locals := 0 } : Room) (va_Pc [.ref (q 0), .int (nI v)] (ct_PW D (wM q kk fh fd fb gl.length dl.length bl.length) (tM kk) sz)) (va_Qi (pM (ct_octA bl) gl dl (ct_octL bl v)) (ct_BW D (tM kk) (wMu q kk) (va_A (wM q kk fh fd fb gl.length dl.length bl.length) sz)) (va_A (wM q kk fh fd fb gl.length dl.length bl.length) sz)) 0 0 (va_A (wM q kk fh fd fb gl.length dl.length bl.length) sz) := by
  refine Met.ofW (cc := b_M_octet) (maxL := 2) (ret := (some .boolean)) (by decide) rfl ?_
  intro p e s m args below meth co s₁ B hml hv0
  obtain ⟨rfl, hsz, hP, hK, hD0⟩ := hv0
  have hx := B.exec
  have hb := B.bytes
  have hr := B.returns
  have hts := fun w0 (h0 : w0 ∈ ct_tb) => atoms_spec (ws := ww y_M_octet b_M_octet 2 (some .boolean)) B.pre w0 (List.mem_cons_of_mem _ h0)
  have hown : s.vm.findClass R_M = some m.cls := findClass_of_methodNamed B.named
  have hlocks := B.notSynchronized
  subst hsz
  have hD := hD0.self (sz := s.heap.size)
  generalize hAe : va_A (wM q kk fh fd fb gl.length dl.length bl.length) s.heap.size = A at hD ⊢
  have hA : ∀ q : Nat, s.heap.size ≤ q → A q := fun q h => by rw [← hAe]; exact Or.inr h
  have hS : va_S A s.heap s.heap [] := va_S.rf
  have hl := lv_entry ([.ref (q 0), .int (nI v)]) (n := 2) (Nat.le_of_ble_eq_true rfl)
  rw [lg_entry_eq]
  generalize (lg_sl ([.ref (q 0), .int (nI v)]) ++ List.replicate (2 - (lg_sl ([.ref (q 0), .int (nI v)])).length) Slot.unset).toArray = ls at hl ⊢
  have hl : lv_has ls 2 [(0, .ref (q 0)), (1, .int (nI v))] := hl
  obtain ⟨hH, hDl, hB⟩ := id hR
  have hH1 := hH.1
  have hD1 := hDl.1
  have hB1 := hB.1
  refine lv_aload_n hx hb d_M_octet_0 rfl (lv_at hl 0 rfl) ?_
  refine m_get hx hb hts hown hK hP 5 (by decide) tb_131 rfl d_M_octet_1 ?_
  refine lv_bipush (v := nI 40) hx hb d_M_octet_4 (by decide) ?_
  refine r_ne (tgt := 11) hx hb d_M_octet_6 (by decide) (by omega) (by omega) (fun hc => ?_) (fun hc => ?_)
  · refine lv_aload_n hx hb d_M_octet_11 rfl (lv_at hl 0 rfl) ?_
    refine m_get hx hb hts hown hK hP 4 (by decide) tb_130 rfl d_M_octet_12 ?_
    refine lv_aload_n hx hb d_M_octet_15 rfl (lv_at hl 0 rfl) ?_
    refine m_get hx hb hts hown hK hP 5 (by decide) tb_131 rfl d_M_octet_16 ?_
    refine lv_iload_n hx hb d_M_octet_19 rfl (lv_at hl 1 rfl) ?_
    refine lv_sipush (v := nI 255) hx hb d_M_octet_20 (by decide) ?_
    refine lv_iand hx hb d_M_octet_23 ?_
    refine r_as (y := nI (v % 256)) (ct_a255 _) ?_
    refine r_iast hx hb hK hP hD hS 3 2 rfl rfl (by omega) (by decide) d_M_octet_24 (fun H locs hP hD hS => ?_)
    have hP : va_P D ct_cl (wM q kk fh fd (upd fb bl.length (nI (v % 256))) gl.length dl.length bl.length) H := hP
    have hD : va_D A (wM q kk fh fd (upd fb bl.length (nI (v % 256))) gl.length dl.length bl.length) := hD
    refine lv_aload_n hx hb d_M_octet_25 rfl (lv_at hl 0 rfl) ?_
    refine lv_aload_n hx hb d_M_octet_26 rfl (lv_at hl 0 rfl) ?_
    refine m_get hx hb hts hown hK hP 5 (by decide) tb_131 rfl d_M_octet_27 ?_
    refine lv_iconst (v := nI 1) hx hb d_M_octet_30 (by decide) ?_
    refine lv_iadd hx hb d_M_octet_31 ?_
    refine r_as (y := nI (bl.length + 1)) (nI_add _ _) ?_
    refine m_put hx hb hts hown hK hP hD hS 5 (by decide) tb_131 rfl (by decide +kernel) (Nat.le_of_ble_eq_true rfl) d_M_octet_32 (fun H locs hP hD hS => ?_)
    have hP : va_P D ct_cl (wM q kk fh fd (upd fb bl.length (nI (v % 256))) gl.length dl.length (bl.length + 1)) H := hP
    have hD : va_D A (wM q kk fh fd (upd fb bl.length (nI (v % 256))) gl.length dl.length (bl.length + 1)) := hD
    refine lv_iconst (v := nI 1) hx hb d_M_octet_35 (by decide) ?_
    have el : (bl ++ [v % 256]).length = bl.length + 1 := ct_l1 _ _
    have hP : va_P D ct_cl (wM q kk fh fd (upd fb bl.length (nI (v % 256))) gl.length dl.length ((bl ++ [v % 256]).length)) H := by rw [el]; exact hP
    have hD : va_D A (wM q kk fh fd (upd fb bl.length (nI (v % 256))) gl.length dl.length ((bl ++ [v % 256]).length)) := by rw [el]; exact hD
    exact W.zret (v := nI 1) hx hb hr rfl (fun t1 ht1 hW => ⟨⟨nI 1, (fh, fd, upd fb bl.length (nI (v % 256)), gl, dl, bl ++ [v % 256]), rfl, ⟨(if_neg hc).symm, rfl, rfl, (if_neg hc).symm, hH, hDl, hB.push (by omega) (by omega) rfl⟩, by rw [ht1]; exact hP, va_K.moved hW.alike hK, hD⟩, hS.F ht1⟩) hS.2.2 d_M_octet_36
  · refine lv_iconst (v := nI 0) hx hb d_M_octet_9 (by decide) ?_
    exact W.zret (v := nI 0) hx hb hr rfl (fun t1 ht1 hW => ⟨⟨nI 0, (fh, fd, fb, gl, dl, bl), rfl, ⟨(if_pos hc).symm, rfl, rfl, (if_pos hc).symm, hR⟩, by rw [ht1]; exact hP, va_K.moved hW.alike hK, hD⟩, hS.F ht1⟩) hS.2.2 d_M_octet_10
set_option maxHeartbeats 4000000 in
set_option maxRecDepth 100000 in
/-- byteAt(i) -/
theorem c_M_byteAt (l : Launch) (D : va_G) (q : Nat → Nat) (kk : Nat → ClassId) {fh fd fb : Nat → Int32} {gl dl bl : List Nat} (hR : RM fh fd fb gl dl bl) {i : Nat} : Met l y_M_byteAt (ww y_M_byteAt b_M_byteAt 2 (some .int)) ({ frames := 0, cells := 0, slots := 0, locals := 0 } : Room) (va_Pc [.ref (q 0), .int (nI i)] (ct_PR D (wM q kk fh fd fb gl.length dl.length bl.length) (tM kk))) (vp_Si (fun r => r = ct_byA bl i)) 0 0 (fun _ => False) := by
  refine Met.ofW (cc := b_M_byteAt) (maxL := 2) (ret := (some .int)) (by decide) rfl ?_
  intro p e s m args below meth co s₁ B hml hv0
  obtain ⟨rfl, hP, hK⟩ := hv0
  have hx := B.exec
  have hb := B.bytes
  have hr := B.returns
  have hts := fun w0 (h0 : w0 ∈ ct_tb) => atoms_spec (ws := ww y_M_byteAt b_M_byteAt 2 (some .int)) B.pre w0 (List.mem_cons_of_mem _ h0)
  have hown : s.vm.findClass R_M = some m.cls := findClass_of_methodNamed B.named
  have hlocks := B.notSynchronized
  have hl := lv_entry ([.ref (q 0), .int (nI i)]) (n := 2) (Nat.le_of_ble_eq_true rfl)
  rw [lg_entry_eq]
  generalize (lg_sl ([.ref (q 0), .int (nI i)]) ++ List.replicate (2 - (lg_sl ([.ref (q 0), .int (nI i)])).length) Slot.unset).toArray = ls at hl ⊢
  have hl : lv_has ls 2 [(0, .ref (q 0)), (1, .int (nI i))] := hl
  obtain ⟨hH, hDl, hB⟩ := id hR
  have hH1 := hH.1
  have hD1 := hDl.1
  have hB1 := hB.1
  refine lv_aload_n hx hb d_M_byteAt_0 rfl (lv_at hl 0 rfl) ?_
  refine m_get hx hb hts hown hK hP 5 (by decide) tb_131 rfl d_M_byteAt_1 ?_
  refine r_ne0 (tgt := 11) hx hb d_M_byteAt_4 (by decide) (by omega) (fun hc => ?_) (fun hc => ?_)
  · have hp := ct_pl_lt i (n := bl.length) (by omega)
    refine lv_aload_n hx hb d_M_byteAt_11 rfl (lv_at hl 0 rfl) ?_
    refine m_get hx hb hts hown hK hP 4 (by decide) tb_130 rfl d_M_byteAt_12 ?_
    refine lv_iload_n hx hb d_M_byteAt_15 rfl (lv_at hl 1 rfl) ?_
    refine lv_ldc hx hb hown (hts _ tb_149) d_M_byteAt_16 ?_
    refine r_as (y := nI 2147483647) (by decide) ?_
    refine lv_iand hx hb d_M_byteAt_18 ?_
    refine r_as (y := nI (i % 2147483648)) (ct_aM _) ?_
    refine lv_aload_n hx hb d_M_byteAt_19 rfl (lv_at hl 0 rfl) ?_
    refine m_get hx hb hts hown hK hP 5 (by decide) tb_131 rfl d_M_byteAt_20 ?_
    refine lv_irem hx hb d_M_byteAt_23 (nI_ne0 (by omega) (by omega)) ?_
    refine r_as (y := nI ((i % 2147483648) % bl.length)) (pk_rem (by omega) (by omega) (by omega)) ?_
    refine r_as (y := nI (ct_pl i bl.length)) (rfl) ?_
    refine r_iald (v := nI (bl.getD (ct_pl i bl.length) 0)) hx hb hK hP 3 2 rfl rfl (by omega) (by decide) (hB.2.2 _ hp) d_M_byteAt_24 ?_
    exact W.iret (v := nI (bl.getD (ct_pl i bl.length) 0)) hx hb hr (fun t ht _ => ⟨nI (bl.getD (ct_pl i bl.length) 0), rfl, (if_neg hc).symm, ht⟩) (fun _ hq => by cases hq) d_M_byteAt_25
  · refine lv_iconst (v := -1) hx hb d_M_byteAt_7 (by decide) ?_
    refine lv_goto (tgt := 25) hx hb d_M_byteAt_8 (by decide) ?_
    exact W.iret (v := -1) hx hb hr (fun t ht _ => ⟨-1, rfl, (if_pos hc).symm, ht⟩) (fun _ hq => by cases hq) d_M_byteAt_25
set_option maxHeartbeats 4000000 in
set_option maxRecDepth 100000 in
/-- seal(kind) -/
theorem c_M_seal (l : Launch) (D : va_G) (q : Nat → Nat) (kk : Nat → ClassId) {fh fd fb : Nat → Int32} {gl dl bl : List Nat} (hR : RM fh fd fb gl dl bl) {v : Nat} (sz : Nat) : Met l y_M_seal (ww y_M_seal b_M_seal 4 (some .boolean)) ({ frames := 2, cells := 0, slots := 0, locals := 46 } : Room) (va_Pc [.ref (q 0), .int (nI v)] (ct_PW D (wM q kk fh fd fb gl.length dl.length bl.length) (tM kk) sz)) (va_Qi (pM (ct_sealA dl) gl (ct_sealL gl dl v) bl) (ct_BW D (tM kk) (wMu q kk) (va_A (wM q kk fh fd fb gl.length dl.length bl.length) sz)) (va_A (wM q kk fh fd fb gl.length dl.length bl.length) sz)) 0 0 (va_A (wM q kk fh fd fb gl.length dl.length bl.length) sz) := by
  refine Met.ofW (cc := b_M_seal) (maxL := 4) (ret := (some .boolean)) (by decide) rfl ?_
  intro p e s m args below meth co s₁ B hml hv0
  obtain ⟨rfl, hsz, hP, hK, hD0⟩ := hv0
  have hx := B.exec
  have hb := B.bytes
  have hr := B.returns
  have hts := fun w0 (h0 : w0 ∈ ct_tb) => atoms_spec (ws := ww y_M_seal b_M_seal 4 (some .boolean)) B.pre w0 (List.mem_cons_of_mem _ h0)
  have hown : s.vm.findClass R_M = some m.cls := findClass_of_methodNamed B.named
  have hlocks := B.notSynchronized
  subst hsz
  have hD := hD0.self (sz := s.heap.size)
  generalize hAe : va_A (wM q kk fh fd fb gl.length dl.length bl.length) s.heap.size = A at hD ⊢
  have hA : ∀ q : Nat, s.heap.size ≤ q → A q := fun q h => by rw [← hAe]; exact Or.inr h
  have hS : va_S A s.heap s.heap [] := va_S.rf
  have hl := lv_entry ([.ref (q 0), .int (nI v)]) (n := 4) (Nat.le_of_ble_eq_true rfl)
  rw [lg_entry_eq]
  generalize (lg_sl ([.ref (q 0), .int (nI v)]) ++ List.replicate (4 - (lg_sl ([.ref (q 0), .int (nI v)])).length) Slot.unset).toArray = ls at hl ⊢
  have hl : lv_has ls 4 [(0, .ref (q 0)), (1, .int (nI v))] := hl
  obtain ⟨hH, hDl, hB⟩ := id hR
  have hH1 := hH.1
  have hD1 := hDl.1
  have hB1 := hB.1
  refine lv_aload_n hx hb d_M_seal_0 rfl (lv_at hl 0 rfl) ?_
  refine m_get hx hb hts hown hK hP 3 (by decide) tb_129 rfl d_M_seal_1 ?_
  refine lv_bipush (v := nI 6) hx hb d_M_seal_4 (by decide) ?_
  refine lv_iadd hx hb d_M_seal_6 ?_
  refine r_as (y := nI (dl.length + 6)) (nI_add _ _) ?_
  refine lv_bipush (v := nI 64) hx hb d_M_seal_7 (by decide) ?_
  refine r_le (tgt := 14) hx hb d_M_seal_9 (by decide) (by omega) (by omega) (fun hc => ?_) (fun hc => ?_)
  · refine lv_aload_n hx hb d_M_seal_14 rfl (lv_at hl 0 rfl) ?_
    refine lv_bipush (v := nI 6) hx hb d_M_seal_15 (by decide) ?_
    refine k_M_run hx hb hml hown hts hK (rest := []) hP hR (by decide) hl.1 (Nat.le_of_ble_eq_true rfl) ⟨Nat.le_of_ble_eq_true rfl, Nat.le_of_ble_eq_true rfl⟩ d_M_seal_17 ?_
    have hlt := ct_sum_lt gl hDl.2.1
    refine lv_iload_n hx hb d_M_seal_20 rfl (lv_at hl 1 rfl) ?_
    refine lv_iconst (v := nI 1) hx hb d_M_seal_21 (by decide) ?_
    refine lv_iand hx hb d_M_seal_22 ?_
    refine r_as (y := nI (v % 2)) (ct_a1 _) ?_
    refine r_dia (g2 := F0 m 32 ls (.int (nI (ct_kx v)) :: [.int (nI (ct_run (ct_sum gl dl) (List.replicate 6 0)))])) (fun K => ?_) ?_
    · refine r_ne0 (tgt := 30) hx hb d_M_seal_23 (by decide) (by omega) (fun hc3 => ?_) (fun hc3 => ?_)
      · refine lv_ldc hx hb hown (hts _ tb_175) d_M_seal_30 ?_
        refine r_as (y := nI 734539939) (by decide) ?_
        rw [ct_kx, if_neg hc3] at K
        exact K
      · refine lv_iconst (v := nI 1) hx hb d_M_seal_26 (by decide) ?_
        refine lv_goto (tgt := 32) hx hb d_M_seal_27 (by decide) ?_
        rw [ct_kx, if_pos hc3] at K
        exact K
    refine lv_ixor hx hb d_M_seal_32 ?_
    refine r_as (y := nI ((ct_run (ct_sum gl dl) (List.replicate 6 0)) ^^^ (ct_kx v))) (nx_xor _ _) ?_
    refine r_as (y := nI (ct_sc gl dl v)) (rfl) ?_
    refine lv_istore_n (lv' := [(2, .int (nI (ct_sc gl dl v))), (0, .ref (q 0)), (1, .int (nI v))]) hx hb d_M_seal_33 rfl hl (by decide) rfl (fun ls hl => ?_)
    refine lv_iconst (v := nI 0) hx hb d_M_seal_34 (by decide) ?_
    refine lv_istore_n (lv' := [(3, .int (nI 0)), (2, .int (nI (ct_sc gl dl v))), (0, .ref (q 0)), (1, .int (nI v))]) hx hb d_M_seal_35 rfl hl (by decide) rfl (fun ls hl => ?_)
    have hsc := ct_sc_lt gl hDl.2.1 v
    refine r_loop (fun k ls H locs => ∃ (fd : Nat → Int32), LA nI fd (dl ++ (List.range k).map (ct_sealF gl dl v)) 64 32 ∧ va_P D ct_cl (wM q kk fh fd fb gl.length (dl ++ (List.range k).map (ct_sealF gl dl v)).length bl.length) H ∧ va_D A (wM q kk fh fd fb gl.length (dl ++ (List.range k).map (ct_sealF gl dl v)).length bl.length) ∧ va_S A s.heap H locs ∧ lv_has ls 4 [(0, .ref (q 0)), (2, .int (nI (ct_sc gl dl v))), (3, .int (nI k))]) 6 (k0 := 0) (Nat.zero_le _) ⟨fd, by rw [List.range_zero, List.map_nil, List.append_nil]; exact hDl, by rw [List.range_zero, List.map_nil, List.append_nil]; exact hP, by rw [List.range_zero, List.map_nil, List.append_nil]; exact hD, hS, lv_sub hl [2, 1, 0] rfl⟩ (fun k H locs ls hk hI hnext => ?_)
    obtain ⟨fd, hDk, hP, hD, hS, hl⟩ := hI
    refine lv_iload_n hx hb d_M_seal_36 rfl (lv_at hl 2 rfl) ?_
    refine lv_bipush (v := nI 6) hx hb d_M_seal_37 (by decide) ?_
    refine r_ge (tgt := 77) hx hb d_M_seal_39 (by decide) (by omega) (by decide) (fun hc2 => ?_) (fun hc2 => ?_)
    · have ek : k = 6 := by omega
      subst ek
      refine lv_iconst (v := nI 1) hx hb d_M_seal_77 (by decide) ?_
      exact W.zret (v := nI 1) hx hb hr rfl (fun t1 ht1 hW => ⟨⟨nI 1, (fh, fd, fb, gl, dl ++ (List.range 6).map (ct_sealF gl dl v), bl), rfl, ⟨(if_neg (by omega)).symm, rfl, (if_neg (by omega)).symm, rfl, hH, hDk, hB⟩, by rw [ht1]; exact hP, va_K.moved hW.alike hK, hD⟩, hS.F ht1⟩) hS.2.2 d_M_seal_78
    · have hlen : (dl ++ (List.range k).map (ct_sealF gl dl v)).length = dl.length + k := by rw [List.length_append, ct_lr]
      refine lv_aload_n hx hb d_M_seal_42 rfl (lv_at hl 0 rfl) ?_
      refine m_get hx hb hts hown hK hP 2 (by decide) tb_128 rfl d_M_seal_43 ?_
      refine lv_aload_n hx hb d_M_seal_46 rfl (lv_at hl 0 rfl) ?_
      refine m_get hx hb hts hown hK hP 3 (by decide) tb_129 rfl d_M_seal_47 ?_
      refine lv_iload_n hx hb d_M_seal_50 rfl (lv_at hl 1 rfl) ?_
      refine lv_iconst (v := nI 5) hx hb d_M_seal_51 (by decide) ?_
      refine lv_iconst (v := nI 5) hx hb d_M_seal_52 (by decide) ?_
      refine lv_iload_n hx hb d_M_seal_53 rfl (lv_at hl 2 rfl) ?_
      refine lv_isub hx hb d_M_seal_54 ?_
      refine r_as (y := nI (5 - k)) (pk_sub (by omega)) ?_
      refine lv_imul hx hb d_M_seal_55 ?_
      refine r_as (y := nI (25 - 5 * k)) ((pk_mul _ _).trans (congrArg nI (by omega))) ?_
      refine lv_ishr hx hb d_M_seal_56 ?_
      refine r_as (y := nI ((ct_sc gl dl v) / 2 ^ (25 - 5 * k))) (ct_shr (by omega) (by omega)) ?_
      refine lv_bipush (v := nI 31) hx hb d_M_seal_57 (by decide) ?_
      refine lv_iand hx hb d_M_seal_59 ?_
      refine r_as (y := nI (((ct_sc gl dl v) / 2 ^ (25 - 5 * k)) % 32)) (ct_a31 _) ?_
      refine r_as (y := nI (ct_sealF gl dl v k)) (rfl) ?_
      have hsf : ct_sealF gl dl v k < 32 := Nat.mod_lt _ (by decide)
      refine r_iast hx hb hK hP hD hS 2 1 rfl rfl (by omega) (by decide) d_M_seal_60 (fun H locs hP hD hS => ?_)
      have hP : va_P D ct_cl (wM q kk fh (upd fd ((dl ++ (List.range k).map (ct_sealF gl dl v)).length) (nI (ct_sealF gl dl v k))) fb gl.length ((dl ++ (List.range k).map (ct_sealF gl dl v)).length) bl.length) H := hP
      have hD : va_D A (wM q kk fh (upd fd ((dl ++ (List.range k).map (ct_sealF gl dl v)).length) (nI (ct_sealF gl dl v k))) fb gl.length ((dl ++ (List.range k).map (ct_sealF gl dl v)).length) bl.length) := hD
      refine lv_aload_n hx hb d_M_seal_61 rfl (lv_at hl 0 rfl) ?_
      refine lv_aload_n hx hb d_M_seal_62 rfl (lv_at hl 0 rfl) ?_
      refine m_get hx hb hts hown hK hP 3 (by decide) tb_129 rfl d_M_seal_63 ?_
      refine lv_iconst (v := nI 1) hx hb d_M_seal_66 (by decide) ?_
      refine lv_iadd hx hb d_M_seal_67 ?_
      refine r_as (y := nI (((dl ++ (List.range k).map (ct_sealF gl dl v)).length) + 1)) (nI_add _ _) ?_
      refine m_put hx hb hts hown hK hP hD hS 3 (by decide) tb_129 rfl (by decide +kernel) (Nat.le_of_ble_eq_true rfl) d_M_seal_68 (fun H locs hP hD hS => ?_)
      have hP : va_P D ct_cl (wM q kk fh (upd fd ((dl ++ (List.range k).map (ct_sealF gl dl v)).length) (nI (ct_sealF gl dl v k))) fb gl.length (((dl ++ (List.range k).map (ct_sealF gl dl v)).length) + 1) bl.length) H := hP
      have hD : va_D A (wM q kk fh (upd fd ((dl ++ (List.range k).map (ct_sealF gl dl v)).length) (nI (ct_sealF gl dl v k))) fb gl.length (((dl ++ (List.range k).map (ct_sealF gl dl v)).length) + 1) bl.length) := hD
      have ed : dl ++ (List.range (k + 1)).map (ct_sealF gl dl v) = (dl ++ (List.range k).map (ct_sealF gl dl v)) ++ [ct_sealF gl dl v k] := by rw [ct_rs, ← List.append_assoc]
      have hDk2 := hDk.push (by omega) hsf rfl
      have el : ((dl ++ (List.range k).map (ct_sealF gl dl v)) ++ [ct_sealF gl dl v k]).length = ((dl ++ (List.range k).map (ct_sealF gl dl v)).length) + 1 := ct_l1 _ _
      have hP : va_P D ct_cl (wM q kk fh (upd fd ((dl ++ (List.range k).map (ct_sealF gl dl v)).length) (nI (ct_sealF gl dl v k))) fb gl.length (((dl ++ (List.range k).map (ct_sealF gl dl v)) ++ [ct_sealF gl dl v k]).length) bl.length) H := by rw [el]; exact hP
      have hD : va_D A (wM q kk fh (upd fd ((dl ++ (List.range k).map (ct_sealF gl dl v)).length) (nI (ct_sealF gl dl v k))) fb gl.length (((dl ++ (List.range k).map (ct_sealF gl dl v)) ++ [ct_sealF gl dl v k]).length) bl.length) := by rw [el]; exact hD
      refine lv_iinc (v := nI (k + 1)) (lv' := [(3, .int (nI (k + 1))), (0, .ref (q 0)), (2, .int (nI (ct_sc gl dl v)))]) hx hb d_M_seal_71 hl (k := 2) rfl (nI_add _ 1) (by decide) rfl (fun ls hl => ?_)
      refine lv_goto (tgt := 36) hx hb d_M_seal_74 (by decide) ?_
      exact hnext hc2 _ _ _ ⟨_, by rw [ed]; exact hDk2, by rw [ed]; exact hP, by rw [ed]; exact hD, hS, lv_sub hl [1, 2, 0] rfl⟩
  · refine lv_iconst (v := nI 0) hx hb d_M_seal_12 (by decide) ?_
    exact W.zret (v := nI 0) hx hb hr rfl (fun t1 ht1 hW => ⟨⟨nI 0, (fh, fd, fb, gl, dl, bl), rfl, ⟨(if_pos hc).symm, rfl, (if_pos hc).symm, rfl, hR⟩, by rw [ht1]; exact hP, va_K.moved hW.alike hK, hD⟩, hS.F ht1⟩) hS.2.2 d_M_seal_13
end
section
/-! a list of digits as one number; its bits -/
theorem cv_acc (B : Nat) : ∀ (l : List Nat) (a : Nat), l.foldl (fun a d => a * B + d) a = a * B ^ l.length + l.foldl (fun a d => a * B + d) 0
  | [], a => by simp
  | d :: l, a => by
    simp only [List.foldl_cons, List.length_cons]
    rw [cv_acc B l (a * B + d), cv_acc B l (0 * B + d), Nat.pow_succ]
    rw [Nat.zero_mul, Nat.zero_add, Nat.add_mul, Nat.mul_assoc, Nat.mul_comm B, Nat.add_assoc]
theorem cv_app (B : Nat) (l1 l2 : List Nat) : ct_val B (l1 ++ l2) = ct_val B l1 * B ^ l2.length + ct_val B l2 := by
  unfold ct_val
  rw [List.foldl_append, cv_acc]
theorem cv_snoc (B : Nat) (l : List Nat) (x : Nat) : ct_val B (l ++ [x]) = ct_val B l * B + x := by
  unfold ct_val
  rw [List.foldl_append]; rfl
theorem cv_lt {B : Nat} : ∀ (l : List Nat), (∀ x ∈ l, x < B) → ct_val B l < B ^ l.length
  | [], _ => by simp [ct_val]
  | d :: l, h => by
    have h1 := cv_lt l (fun x hx => h x (List.mem_cons_of_mem _ hx))
    have h2 := h d List.mem_cons_self
    have e : ct_val B (d :: l) = d * B ^ l.length + ct_val B l := by
      have := cv_app B [d] l
      rw [List.singleton_append] at this
      rw [this]
      simp [ct_val]
    rw [e, List.length_cons, Nat.pow_succ]
    calc d * B ^ l.length + ct_val B l < d * B ^ l.length + B ^ l.length := Nat.add_lt_add_left h1 _
      _ = (d + 1) * B ^ l.length := (Nat.succ_mul _ _).symm
      _ ≤ B * B ^ l.length := Nat.mul_le_mul_right _ h2
      _ = B ^ l.length * B := Nat.mul_comm _ _
theorem cv_take {B : Nat} (hB : 0 < B) {l : List Nat} (h : ∀ x ∈ l, x < B) (k : Nat) : ct_val B (l.take k) = ct_val B l / B ^ (l.length - k) := by
  have e := cv_app B (l.take k) (l.drop k)
  rw [List.take_append_drop, List.length_drop] at e
  have hlt := cv_lt (l.drop k) (fun x hx => h x (List.mem_of_mem_drop hx))
  rw [List.length_drop] at hlt
  rw [e, Nat.mul_comm, Nat.mul_add_div (Nat.pow_pos hB), Nat.div_eq_of_lt hlt, Nat.add_zero]
theorem cv_dig {B : Nat} (hB : 0 < B) {l : List Nat} (h : ∀ x ∈ l, x < B) {k : Nat} (hk : k < l.length) : ct_val B l / B ^ (l.length - (k + 1)) % B = l.getD k 0 := by
  rw [← cv_take hB h (k + 1), ct_take l 0 hk, cv_snoc, Nat.mul_comm, Nat.mul_add_mod]
  exact Nat.mod_eq_of_lt (by
    have e : l.getD k 0 = l[k] := by simp [hk]
    rw [e]
    exact h _ (List.getElem_mem hk))
theorem cv_div (x a b : Nat) : x / 2 ^ a / 2 ^ b = x / 2 ^ (a + b) := by rw [Nat.div_div_eq_div_mul, Nat.pow_add]
/-- a bit more of a number -/
theorem cv_bit (y k : Nat) : y % 2 ^ (k + 1) = 2 * (y / 2 % 2 ^ k) + y % 2 := by
  rw [Nat.pow_succ, Nat.mul_comm, Nat.mod_mul, Nat.add_comm]
theorem cv_256 (m : Nat) : 256 ^ m = 2 ^ (8 * m) := by rw [Nat.pow_mul]
theorem cv_32 (m : Nat) : 32 ^ m = 2 ^ (5 * m) := by rw [Nat.pow_mul]
theorem cv_m256 (y : Nat) : ∀ t, t < 8 → y % 256 / 2 ^ t % 2 = y / 2 ^ t % 2
  | 0, _ => by simp
  | 1, _ => by show y % 256 / 2 % 2 = y / 2 % 2; omega
  | 2, _ => by show y % 256 / 4 % 2 = y / 4 % 2; omega
  | 3, _ => by show y % 256 / 8 % 2 = y / 8 % 2; omega
  | 4, _ => by show y % 256 / 16 % 2 = y / 16 % 2; omega
  | 5, _ => by show y % 256 / 32 % 2 = y / 32 % 2; omega
  | 6, _ => by show y % 256 / 64 % 2 = y / 64 % 2; omega
  | 7, _ => by show y % 256 / 128 % 2 = y / 128 % 2; omega
  | n + 8, h => absurd h (by omega)
theorem cv_m32 (y : Nat) : ∀ t, t < 5 → y % 32 / 2 ^ t % 2 = y / 2 ^ t % 2
  | 0, _ => by simp
  | 1, _ => by show y % 32 / 2 % 2 = y / 2 % 2; omega
  | 2, _ => by show y % 32 / 4 % 2 = y / 4 % 2; omega
  | 3, _ => by show y % 32 / 8 % 2 = y / 8 % 2; omega
  | 4, _ => by show y % 32 / 16 % 2 = y / 16 % 2; omega
  | n + 5, h => absurd h (by omega)
theorem cv_b8 {l : List Nat} (h : ∀ x ∈ l, x < 256) {p : Nat} (hp : p < 8 * l.length) : ct_val 256 l / 2 ^ (8 * l.length - 1 - p) % 2 = l.getD (p / 8) 0 / 2 ^ (7 - p % 8) % 2 := by
  have hk : p / 8 < l.length := by omega
  rw [← cv_dig (by decide) h hk, cv_256, cv_m256 _ _ (by omega), cv_div]
  congr 3
  omega
theorem cv_b5 {l : List Nat} (h : ∀ x ∈ l, x < 32) {p : Nat} (hp : p < 5 * l.length) : ct_val 32 l / 2 ^ (5 * l.length - 1 - p) % 2 = l.getD (p / 5) 0 / 2 ^ (4 - p % 5) % 2 := by
  have hk : p / 5 < l.length := by omega
  rw [← cv_dig (by decide) h hk, cv_32, cv_m32 _ _ (by omega), cv_div]
  congr 3
  omega
/-! spread -/
theorem cv_4096a (x : Nat) : ∀ t, t ≤ 7 → x % 4096 / 2 ^ t % 32 = x / 2 ^ t % 32
  | 0, _ => by simp only [Nat.pow_zero, Nat.div_one]; omega
  | 1, _ => by show x % 4096 / 2 % 32 = x / 2 % 32; omega
  | 2, _ => by show x % 4096 / 4 % 32 = x / 4 % 32; omega
  | 3, _ => by show x % 4096 / 8 % 32 = x / 8 % 32; omega
  | 4, _ => by show x % 4096 / 16 % 32 = x / 16 % 32; omega
  | 5, _ => by show x % 4096 / 32 % 32 = x / 32 % 32; omega
  | 6, _ => by show x % 4096 / 64 % 32 = x / 64 % 32; omega
  | 7, _ => by show x % 4096 / 128 % 32 = x / 128 % 32; omega
  | n + 8, h => absurd h (by omega)
theorem cv_4096b (x : Nat) : ∀ t, t ≤ 4 → x % 4096 / 2 ^ t % 256 = x / 2 ^ t % 256
  | 0, _ => by simp only [Nat.pow_zero, Nat.div_one]; omega
  | 1, _ => by show x % 4096 / 2 % 256 = x / 2 % 256; omega
  | 2, _ => by show x % 4096 / 4 % 256 = x / 4 % 256; omega
  | 3, _ => by show x % 4096 / 8 % 256 = x / 8 % 256; omega
  | 4, _ => by show x % 4096 / 16 % 256 = x / 16 % 256; omega
  | n + 5, h => absurd h (by omega)
theorem cv_16 (x m : Nat) : x * 16 / 2 ^ (4 + m) = x / 2 ^ m := by
  rw [Nat.pow_add, show (2 ^ 4 : Nat) = 16 from rfl, Nat.mul_comm 16, Nat.mul_div_mul_right _ _ (by decide)]
theorem ct_sprF_lt (bl : List Nat) (j : Nat) : ct_sprF bl j < 32 := Nat.mod_lt _ (by decide)
theorem ct_gatF_lt (dl : List Nat) (j : Nat) : ct_gatF dl j < 256 := Nat.mod_lt _ (by decide)
/-- a whole number of five bits out of the waiting ones -/
theorem cs_out {bl : List Nat} (h : ∀ x ∈ bl, x < 256) {k a : Nat} (hk : k < bl.length) (h1 : 5 ≤ 8 * (k + 1) - 5 * a) (h2 : 8 * (k + 1) ≤ 5 * a + 12) : ct_val 256 (bl.take (k + 1)) % 4096 / 2 ^ (8 * (k + 1) - 5 * a - 5) % 32 = ct_sprF bl a := by
  rw [cv_4096a _ _ (by omega), cv_take (by decide) h, cv_256, cv_div]
  unfold ct_sprF
  rw [show 8 * bl.length - 1 - 5 * a = 4 + (8 * (bl.length - (k + 1)) + (8 * (k + 1) - 5 * a - 5)) by omega, cv_16]
/-- the last ones, filled up -/
theorem cs_last (bl : List Nat) {a : Nat} (h1 : 1 ≤ 8 * bl.length - 5 * a) (h2 : 8 * bl.length - 5 * a ≤ 4) : ct_val 256 bl % 4096 * 2 ^ (5 - (8 * bl.length - 5 * a)) % 32 = ct_sprF bl a := by
  unfold ct_sprF
  rw [show 8 * bl.length - 1 - 5 * a = 8 * bl.length - 5 * a - 1 by omega]
  generalize 8 * bl.length - 5 * a = b at h1 h2
  generalize ct_val 256 bl = v
  match b, h1, h2 with
  | 1, _, _ => show v % 4096 * 16 % 32 = v * 16 / 1 % 32; omega
  | 2, _, _ => show v % 4096 * 8 % 32 = v * 16 / 2 % 32; omega
  | 3, _, _ => show v % 4096 * 4 % 32 = v * 16 / 4 % 32; omega
  | 4, _, _ => show v % 4096 * 2 % 32 = v * 16 / 8 % 32; omega
  | n + 5, _, h => exact absurd h (by omega)
theorem cs_w {bl : List Nat} {k : Nat} (hk : k < bl.length) : (ct_val 256 (bl.take k) % 4096 * 256 + bl.getD k 0) % 4096 = ct_val 256 (bl.take (k + 1)) % 4096 := by
  rw [ct_take bl 0 hk, cv_snoc]
  omega
/-- the reference's number, bit by bit -/
def cs_P (bl : List Nat) (i k : Nat) : Nat := ct_val 256 bl * 16 / 2 ^ (8 * bl.length + 4 - 5 * i - k) % 2 ^ k
theorem cs_P0 (bl : List Nat) (i : Nat) : cs_P bl i 0 = 0 := by simp [cs_P, Nat.mod_one]
theorem cs_P5 (bl : List Nat) (i : Nat) : cs_P bl i 5 = ct_sprF bl i := by
  unfold cs_P ct_sprF
  rw [show 8 * bl.length + 4 - 5 * i - 5 = 8 * bl.length - 1 - 5 * i by omega]
theorem cs_P_lt (bl : List Nat) (i : Nat) {k : Nat} (hk : k ≤ 5) : cs_P bl i k < 32 := Nat.lt_of_lt_of_le (Nat.mod_lt _ (Nat.pow_pos (by decide))) (Nat.pow_le_pow_right (by decide) hk)
theorem cs_Ps {bl : List Nat} (i k : Nat) (hb : 5 * i + k < 8 * bl.length + 4) : cs_P bl i (k + 1) = 2 * cs_P bl i k + ct_val 256 bl * 16 / 2 ^ (8 * bl.length + 3 - (5 * i + k)) % 2 := by
  unfold cs_P
  rw [cv_bit, show 8 * bl.length + 4 - 5 * i - (k + 1) = 8 * bl.length + 3 - (5 * i + k) by omega]
  rw [show ∀ y, y / 2 = y / 2 ^ 1 from fun y => by rw [Nat.pow_one], cv_div, show 8 * bl.length + 3 - (5 * i + k) + 1 = 8 * bl.length + 4 - 5 * i - k by omega]
theorem cs_in {bl : List Nat} (h : ∀ x ∈ bl, x < 256) (i k : Nat) (hp : 5 * i + k < 8 * bl.length) : 2 * cs_P bl i k + bl.getD ((5 * i + k) / 8) 0 / 2 ^ (7 - (5 * i + k) % 8) % 2 = cs_P bl i (k + 1) := by
  rw [cs_Ps i k (by omega), ← cv_b8 h hp, show 8 * bl.length + 3 - (5 * i + k) = 4 + (8 * bl.length - 1 - (5 * i + k)) by omega, cv_16]
theorem cs_ot {bl : List Nat} (i k : Nat) (hp : 8 * bl.length ≤ 5 * i + k) (hb : 5 * i + k < 8 * bl.length + 4) : 2 * cs_P bl i k + 0 = cs_P bl i (k + 1) := by
  rw [cs_Ps i k hb]
  congr 1
  have : 8 * bl.length + 3 - (5 * i + k) ≤ 3 := by omega
  generalize 8 * bl.length + 3 - (5 * i + k) = t at this
  generalize ct_val 256 bl = v
  match t, this with
  | 0, _ => show 0 = v * 16 / 1 % 2; omega
  | 1, _ => show 0 = v * 16 / 2 % 2; omega
  | 2, _ => show 0 = v * 16 / 4 % 2; omega
  | 3, _ => show 0 = v * 16 / 8 % 2; omega
  | n + 4, h => exact absurd h (by omega)
/-! gather -/
theorem cg_out {dl : List Nat} (h : ∀ x ∈ dl, x < 32) {k a : Nat} (hk : k < dl.length) (h1 : 8 ≤ 5 * (k + 1) - 8 * a) (h2 : 5 * (k + 1) ≤ 8 * a + 12) : ct_val 32 (dl.take (k + 1)) % 4096 / 2 ^ (5 * (k + 1) - 8 * a - 8) % 256 = ct_gatF dl a := by
  rw [cv_4096b _ _ (by omega), cv_take (by decide) h, cv_32, cv_div]
  unfold ct_gatF
  rw [show 5 * dl.length - 8 * (a + 1) = 5 * (dl.length - (k + 1)) + (5 * (k + 1) - 8 * a - 8) by omega]
theorem cg_w {dl : List Nat} {k : Nat} (hk : k < dl.length) : (ct_val 32 (dl.take k) % 4096 * 32 + dl.getD k 0) % 4096 = ct_val 32 (dl.take (k + 1)) % 4096 := by
  rw [ct_take dl 0 hk, cv_snoc]
  omega
theorem cg_low {dl : List Nat} (hn : 0 < dl.length) : ∀ t, t ≤ 4 → dl.getD (dl.length - 1) 0 % 2 ^ t = ct_val 32 dl % 2 ^ t := by
  have e : ct_val 32 dl = ct_val 32 (dl.take (dl.length - 1)) * 32 + dl.getD (dl.length - 1) 0 := by
    have h1 := ct_take dl 0 (show dl.length - 1 < dl.length by omega)
    rw [show dl.length - 1 + 1 = dl.length by omega, List.take_length] at h1
    rw [← cv_snoc, ← h1]
  intro t ht
  rw [e]
  generalize dl.getD (dl.length - 1) 0 = d
  generalize ct_val 32 (dl.take (dl.length - 1)) = v
  match t, ht with
  | 0, _ => show d % 1 = (v * 32 + d) % 1; omega
  | 1, _ => show d % 2 = (v * 32 + d) % 2; omega
  | 2, _ => show d % 4 = (v * 32 + d) % 4; omega
  | 3, _ => show d % 8 = (v * 32 + d) % 8; omega
  | 4, _ => show d % 16 = (v * 32 + d) % 16; omega
  | n + 5, h => exact absurd h (by omega)
theorem cg_ok {dl : List Nat} (h1 : 5 * dl.length % 8 ≤ 4) (h2 : ct_val 32 dl % 2 ^ (5 * dl.length % 8) = 0) : ct_gok dl = true := by simp [ct_gok, h1, h2]
theorem cg_no1 {dl : List Nat} (h1 : 4 < 5 * dl.length % 8) : ¬ ct_gok dl = true := by simp [ct_gok]; omega
theorem cg_no2 {dl : List Nat} (h2 : ct_val 32 dl % 2 ^ (5 * dl.length % 8) ≠ 0) : ¬ ct_gok dl = true := by simp [ct_gok, h2]
def cg_P (dl : List Nat) (i k : Nat) : Nat := ct_val 32 dl / 2 ^ (5 * dl.length - 8 * i - k) % 2 ^ k
theorem cg_P0 (dl : List Nat) (i : Nat) : cg_P dl i 0 = 0 := by simp [cg_P, Nat.mod_one]
theorem cg_P8 (dl : List Nat) (i : Nat) : cg_P dl i 8 = ct_gatF dl i := by
  unfold cg_P ct_gatF
  rw [show 5 * dl.length - 8 * i - 8 = 5 * dl.length - 8 * (i + 1) by omega]
theorem cg_P_lt (dl : List Nat) (i : Nat) {k : Nat} (hk : k ≤ 8) : cg_P dl i k < 256 := Nat.lt_of_lt_of_le (Nat.mod_lt _ (Nat.pow_pos (by decide))) (Nat.pow_le_pow_right (by decide) hk)
theorem cg_in {dl : List Nat} (h : ∀ x ∈ dl, x < 32) (i k : Nat) (hp : 8 * i + k < 5 * dl.length) : 2 * cg_P dl i k + dl.getD ((8 * i + k) / 5) 0 / 2 ^ (4 - (8 * i + k) % 5) % 2 = cg_P dl i (k + 1) := by
  rw [← cv_b5 h hp]
  unfold cg_P
  rw [cv_bit, show 5 * dl.length - 8 * i - (k + 1) = 5 * dl.length - 1 - (8 * i + k) by omega]
  rw [show ∀ y, y / 2 = y / 2 ^ 1 from fun y => by rw [Nat.pow_one], cv_div, show 5 * dl.length - 1 - (8 * i + k) + 1 = 5 * dl.length - 8 * i - k by omega]
/-- the rest's bits, one by one: p of them seen -/
def cg_Z (dl : List Nat) (p : Nat) : Prop := ct_val 32 dl / 2 ^ (5 * dl.length - p) % 2 ^ (p - 8 * (5 * dl.length / 8)) = 0
theorem cg_Z0 (dl : List Nat) : cg_Z dl (8 * (5 * dl.length / 8)) := by
  unfold cg_Z
  rw [Nat.sub_self]
  exact Nat.mod_one _
theorem cg_Zs {dl : List Nat} (h : ∀ x ∈ dl, x < 32) {p : Nat} (h1 : 8 * (5 * dl.length / 8) ≤ p) (hp : p < 5 * dl.length) (hz : cg_Z dl p) (hb : dl.getD (p / 5) 0 / 2 ^ (4 - p % 5) % 2 = 0) : cg_Z dl (p + 1) := by
  unfold cg_Z at hz ⊢
  rw [show p + 1 - 8 * (5 * dl.length / 8) = (p - 8 * (5 * dl.length / 8)) + 1 by omega, cv_bit, show 5 * dl.length - (p + 1) = 5 * dl.length - 1 - p by omega, cv_b5 h hp, hb]
  rw [show ∀ y, y / 2 = y / 2 ^ 1 from fun y => by rw [Nat.pow_one], cv_div, show 5 * dl.length - 1 - p + 1 = 5 * dl.length - p by omega, hz]
theorem cg_Ze {dl : List Nat} (h : cg_Z dl (5 * dl.length)) : ct_val 32 dl % 2 ^ (5 * dl.length % 8) = 0 := by
  unfold cg_Z at h
  rw [Nat.sub_self, Nat.pow_zero, Nat.div_one, show 5 * dl.length - 8 * (5 * dl.length / 8) = 5 * dl.length % 8 by omega] at h
  exact h
theorem cg_Zn {dl : List Nat} (h : ∀ x ∈ dl, x < 32) {p : Nat} (h1 : 8 * (5 * dl.length / 8) ≤ p) (hp : p < 5 * dl.length) (hb : dl.getD (p / 5) 0 / 2 ^ (4 - p % 5) % 2 ≠ 0) : ct_val 32 dl % 2 ^ (5 * dl.length % 8) ≠ 0 := by
  intro hz
  apply hb
  rw [← cv_b5 h hp]
  obtain ⟨t, ht⟩ := Nat.dvd_of_mod_eq_zero hz
  have e : 5 * dl.length % 8 = (5 * dl.length - 1 - p) + ((p - 8 * (5 * dl.length / 8)) + 1) := by omega
  rw [e, Nat.pow_add, Nat.mul_assoc] at ht
  rw [ht, Nat.mul_div_cancel_left _ (Nat.pow_pos (by decide)), Nat.pow_succ, Nat.mul_assoc, Nat.mul_comm _ (2 * t), Nat.mul_assoc]
  exact Nat.mul_mod_right _ _
/-! machine words of them -/
theorem ct_or8 (w : Nat) {b : Nat} (hb : b < 256) : nI (w * 256) ||| nI b = nI (w * 256 + b) := by
  rw [nx_or, show w * 256 = w <<< 8 from (Nat.shiftLeft_eq w 8).symm, Nat.shiftLeft_add_eq_or_of_lt (i := 8) hb]
theorem ct_or5 (w : Nat) {b : Nat} (hb : b < 32) : nI (w * 32) ||| nI b = nI (w * 32 + b) := by
  rw [nx_or, show w * 32 = w <<< 5 from (Nat.shiftLeft_eq w 5).symm, Nat.shiftLeft_add_eq_or_of_lt (i := 5) hb]
theorem ct_m5 {n : Nat} (h : 5 ≤ n) : nI n + Int32.ofInt (-5) = nI (n - 5) := by
  have e : nI n = nI (n - 5) + nI 5 := by rw [nI_add, Nat.sub_add_cancel h]
  rw [e, Int32.add_assoc, show nI 5 + Int32.ofInt (-5) = 0 by decide, Int32.add_zero]
theorem ct_m8 {n : Nat} (h : 8 ≤ n) : nI n + Int32.ofInt (-8) = nI (n - 8) := by
  have e : nI n = nI (n - 8) + nI 8 := by rw [nI_add, Nat.sub_add_cancel h]
  rw [e, Int32.add_assoc, show nI 8 + Int32.ofInt (-8) = 0 by decide, Int32.add_zero]
theorem ct_pw {w t : Nat} (hw : w < 4096) (ht : t ≤ 5) : w * 2 ^ t < 2 ^ 32 := by
  have h1 : 2 ^ t ≤ 2 ^ 5 := Nat.pow_le_pow_right (by decide) ht
  have h2 : w * 2 ^ t ≤ 4096 * 2 ^ 5 := Nat.mul_le_mul (by omega) h1
  have h3 : (4096 : Nat) * 2 ^ 5 < 2 ^ 32 := by decide
  omega
end
section
set_option maxHeartbeats 4000000 in
set_option maxRecDepth 100000 in
/-- spread() -/
theorem c_X_spread (l : Launch) (D : va_G) (q : Nat → Nat) (kk : Nat → ClassId) {tb fh fd fb fs : Nat → Int32} {kn : Int32} {gl dl bl : List Nat} (hR : RX tb fh fd fb fs kn gl dl bl)  (sz : Nat) : Met l y_X_spread (ww y_X_spread b_X_spread 5 (some .int)) ({ frames := 1, cells := 0, slots := 0, locals := 21 } : Room) (va_Pc [.ref (q 0)] (ct_PW D (wX q kk tb fh fd fb fs gl.length dl.length bl.length kn) (tX kk) sz)) (va_Qi (pX tb (ct_sprA bl) gl (ct_sprL dl bl) bl) (ct_BW D (tX kk) (wXu q kk tb) (va_A (wX q kk tb fh fd fb fs gl.length dl.length bl.length kn) sz)) (va_A (wX q kk tb fh fd fb fs gl.length dl.length bl.length kn) sz)) 0 0 (va_A (wX q kk tb fh fd fb fs gl.length dl.length bl.length kn) sz) := by
  refine Met.ofW (cc := b_X_spread) (maxL := 5) (ret := (some .int)) (by decide) rfl ?_
  intro p e s m args below meth co s₁ B hml hv0
  obtain ⟨rfl, hsz, hP, hK, hD0⟩ := hv0
  have hx := B.exec
  have hb := B.bytes
  have hr := B.returns
  have hts := fun w0 (h0 : w0 ∈ ct_tb) => atoms_spec (ws := ww y_X_spread b_X_spread 5 (some .int)) B.pre w0 (List.mem_cons_of_mem _ h0)
  have hown : s.vm.findClass R_X = some m.cls := findClass_of_methodNamed B.named
  have hlocks := B.notSynchronized
  subst hsz
  have hD := hD0.self (sz := s.heap.size)
  generalize hAe : va_A (wX q kk tb fh fd fb fs gl.length dl.length bl.length kn) s.heap.size = A at hD ⊢
  have hA : ∀ q : Nat, s.heap.size ≤ q → A q := fun q h => by rw [← hAe]; exact Or.inr h
  have hS : va_S A s.heap s.heap [] := va_S.rf
  have hl := lv_entry ([.ref (q 0)]) (n := 5) (Nat.le_of_ble_eq_true rfl)
  rw [lg_entry_eq]
  generalize (lg_sl ([.ref (q 0)]) ++ List.replicate (5 - (lg_sl ([.ref (q 0)])).length) Slot.unset).toArray = ls at hl ⊢
  have hl : lv_has ls 5 [(0, .ref (q 0))] := hl
  obtain ⟨ht, hH, hDl, hB, hKN⟩ := id hR
  have hH1 := hH.1
  have hD1 := hDl.1
  have hB1 := hB.1
  refine lv_bipush (v := nI 8) hx hb d_X_spread_0 (by decide) ?_
  refine lv_aload_n hx hb d_X_spread_2 rfl (lv_at hl 0 rfl) ?_
  refine x_get hx hb hts hown hK hP 6 (by decide) tb_23 rfl d_X_spread_3 ?_
  refine lv_imul hx hb d_X_spread_6 ?_
  refine r_as (y := nI (8 * bl.length)) (pk_mul _ _) ?_
  refine lv_iconst (v := nI 4) hx hb d_X_spread_7 (by decide) ?_
  refine lv_iadd hx hb d_X_spread_8 ?_
  refine r_as (y := nI ((8 * bl.length) + 4)) (nI_add _ _) ?_
  refine lv_iconst (v := nI 5) hx hb d_X_spread_9 (by decide) ?_
  refine lv_idiv hx hb d_X_spread_10 (nI_ne0 (by omega) (by omega)) ?_
  refine r_as (y := nI (((8 * bl.length) + 4) / 5)) (pk_div (by omega) (by omega) (by omega)) ?_
  refine lv_istore_n (lv' := [(1, .int (nI (((8 * bl.length) + 4) / 5))), (0, .ref (q 0))]) hx hb d_X_spread_11 rfl hl (by decide) rfl (fun ls hl => ?_)
  refine lv_iload_n hx hb d_X_spread_12 rfl (lv_at hl 0 rfl) ?_
  refine lv_bipush (v := nI 58) hx hb d_X_spread_13 (by decide) ?_
  refine r_le (tgt := 20) hx hb d_X_spread_15 (by decide) (by omega) (by omega) (fun hc => ?_) (fun hc => ?_)
  · refine lv_aload_n hx hb d_X_spread_20 rfl (lv_at hl 1 rfl) ?_
    refine lv_iconst (v := nI 0) hx hb d_X_spread_21 (by decide) ?_
    refine x_put hx hb hts hown hK hP hD hS 5 (by decide) tb_22 rfl (by decide +kernel) (Nat.le_of_ble_eq_true rfl) d_X_spread_22 (fun H locs hP hD hS => ?_)
    have hP : va_P D ct_cl (wX q kk tb fh fd fb fs gl.length 0 bl.length kn) H := hP
    have hD : va_D A (wX q kk tb fh fd fb fs gl.length 0 bl.length kn) := hD
    refine lv_aload_n hx hb d_X_spread_25 rfl (lv_at hl 1 rfl) ?_
    refine lv_aload_n hx hb d_X_spread_26 rfl (lv_at hl 1 rfl) ?_
    refine x_get hx hb hts hown hK hP 8 (by decide) tb_25 rfl d_X_spread_27 ?_
    refine lv_iconst (v := nI 0) hx hb d_X_spread_30 (by decide) ?_
    refine va_mmin hx hb (hml.trans hl.1.symm) hown (hts _ tb_93) (hts _ tb_94) (hts _ tb_3) (hts _ tb_95) (Nat.le_of_ble_eq_true rfl) (Nat.le_of_ble_eq_true rfl) (Nat.zero_le _) (Nat.zero_le _) d_X_spread_31 ?_
    refine x_put hx hb hts hown hK hP hD hS 8 (by decide) tb_25 rfl (by decide +kernel) (Nat.le_of_ble_eq_true rfl) d_X_spread_34 (fun H locs hP hD hS => ?_)
    have hP : va_P D ct_cl (wX q kk tb fh fd fb fs gl.length 0 bl.length (if nI 0 < kn then nI 0 else kn)) H := hP
    have hD : va_D A (wX q kk tb fh fd fb fs gl.length 0 bl.length (if nI 0 < kn then nI 0 else kn)) := hD
    refine lv_iconst (v := nI 0) hx hb d_X_spread_37 (by decide) ?_
    refine lv_istore_n (lv' := [(2, .int (nI 0)), (1, .int (nI (((8 * bl.length) + 4) / 5))), (0, .ref (q 0))]) hx hb d_X_spread_38 rfl hl (by decide) rfl (fun ls hl => ?_)
    refine lv_iconst (v := nI 0) hx hb d_X_spread_39 (by decide) ?_
    refine lv_istore_n (lv' := [(3, .int (nI 0)), (2, .int (nI 0)), (1, .int (nI (((8 * bl.length) + 4) / 5))), (0, .ref (q 0))]) hx hb d_X_spread_40 rfl hl (by decide) rfl (fun ls hl => ?_)
    refine lv_iconst (v := nI 0) hx hb d_X_spread_41 (by decide) ?_
    refine lv_istore (lv' := [(4, .int (nI 0)), (3, .int (nI 0)), (2, .int (nI 0)), (1, .int (nI (((8 * bl.length) + 4) / 5))), (0, .ref (q 0))]) hx hb d_X_spread_42 hl (by decide) rfl (fun ls hl => ?_)
    have hR : RX tb fh fd fb fs (if nI 0 < kn then nI 0 else kn) gl [] bl := ⟨ht, hH, LA.nil, hB, hKN.zero hD1⟩
    refine r_loop (fun k ls H locs => ∃ (a bt : Nat), ∃ (fh fd fb fs : Nat → Int32) (kn : Int32), (8 * k = 5 * a + bt ∧ bt ≤ 4) ∧ RX tb fh fd fb fs kn gl ((List.range a).map (ct_sprF bl)) bl ∧ va_P D ct_cl (wX q kk tb fh fd fb fs gl.length ((List.range a).map (ct_sprF bl)).length bl.length kn) H ∧ va_D A (wX q kk tb fh fd fb fs gl.length ((List.range a).map (ct_sprF bl)).length bl.length kn) ∧ va_S A s.heap H locs ∧ lv_has ls 5 [(0, .ref (q 0)), (2, .int (nI (ct_val 256 (bl.take k) % 4096))), (3, .int (nI bt)), (4, .int (nI k))]) bl.length (k0 := 0) (Nat.zero_le _) ⟨0, 0, fh, fd, fb, fs, _, ⟨rfl, Nat.zero_le _⟩, hR, hP, hD, hS, lv_sub hl [4, 2, 1, 0] rfl⟩ (fun k H locs ls hk hI hnext => ?_)
    obtain ⟨a, bt, fh, fd, fb, fs, kn, ⟨hab, hbt⟩, hR, hP, hD, hS, hl⟩ := hI
    have hB := hR.2.2.2.1
    refine lv_iload hx hb d_X_spread_44 (lv_at hl 3 rfl) ?_
    refine lv_aload_n hx hb d_X_spread_46 rfl (lv_at hl 0 rfl) ?_
    refine x_get hx hb hts hown hK hP 6 (by decide) tb_23 rfl d_X_spread_47 ?_
    refine r_ge (tgt := 103) hx hb d_X_spread_50 (by decide) (by omega) (by omega) (fun hk1 => ?_) (fun hk1 => ?_)
    · have ek : k = bl.length := by omega
      subst ek
      rw [List.take_length] at hl
      refine lv_iload_n hx hb d_X_spread_103 rfl (lv_at hl 2 rfl) ?_
      refine r_le0 (tgt := 116) hx hb d_X_spread_104 (by decide) (by omega) (fun hb0 => ?_) (fun hb0 => ?_)
      · have ea : (8 * bl.length + 4) / 5 = a := by omega
        have es : ((List.range a).map (ct_sprF bl)) = ct_spr bl := by rw [ct_spr, ea]
        refine lv_aload_n hx hb d_X_spread_116 rfl (lv_at hl 0 rfl) ?_
        refine x_get hx hb hts hown hK hP 5 (by decide) tb_22 rfl d_X_spread_117 ?_
        refine r_as (y := nI ((8 * bl.length + 4) / 5)) (by rw [ct_lr, ea]) ?_
        exact W.iret (v := nI ((8 * bl.length + 4) / 5)) hx hb hr (fun t1 ht1 hW => ⟨⟨nI ((8 * bl.length + 4) / 5), (fh, fd, fb, fs, kn, gl, ((List.range a).map (ct_sprF bl)), bl), rfl, ⟨(if_neg (by omega)).symm, rfl, es.trans (if_neg (by omega)).symm, rfl, hR⟩, by rw [ht1]; exact hP, va_K.moved hW.alike hK, hD⟩, hS.F ht1⟩) hS.2.2 d_X_spread_120
      · have ebt : bt = 8 * bl.length - 5 * a := by omega
        refine lv_aload_n hx hb d_X_spread_107 rfl (lv_at hl 0 rfl) ?_
        refine lv_iload_n hx hb d_X_spread_108 rfl (lv_at hl 1 rfl) ?_
        refine lv_iconst (v := nI 5) hx hb d_X_spread_109 (by decide) ?_
        refine lv_iload_n hx hb d_X_spread_110 rfl (lv_at hl 2 rfl) ?_
        refine lv_isub hx hb d_X_spread_111 ?_
        refine r_as (y := nI (5 - bt)) (pk_sub (by omega)) ?_
        refine lv_ishl hx hb d_X_spread_112 ?_
        refine r_as (y := nI ((ct_val 256 bl % 4096) * 2 ^ (5 - bt))) (ct_shl (ct_pw (Nat.mod_lt _ (by decide)) (by omega)) (by omega)) ?_
        refine k_X_add hx hb hml hown hts hK (rest := []) hP hD hS hA hR (by rw [ct_lr]; omega) hl.1 (Nat.le_of_ble_eq_true rfl) ⟨Nat.le_of_ble_eq_true rfl, Nat.le_of_ble_eq_true rfl⟩ d_X_spread_113 (fun fh fd fb fs kn H locs hR hP hD hS => ?_)
        have ea : (8 * bl.length + 4) / 5 = a + 1 := by omega
        have ed : ((List.range (a + 1)).map (ct_sprF bl)) = (((List.range a).map (ct_sprF bl)) ++ [((ct_val 256 bl % 4096) * 2 ^ (5 - bt)) % 32]) := by rw [ct_rs, ebt, cs_last bl (by omega) (by omega)]
        rw [← ed] at hR hP hD
        have es : ((List.range (a + 1)).map (ct_sprF bl)) = ct_spr bl := by rw [ct_spr, ea]
        refine lv_aload_n hx hb d_X_spread_116 rfl (lv_at hl 0 rfl) ?_
        refine x_get hx hb hts hown hK hP 5 (by decide) tb_22 rfl d_X_spread_117 ?_
        refine r_as (y := nI ((8 * bl.length + 4) / 5)) (by rw [ct_lr, ea]) ?_
        exact W.iret (v := nI ((8 * bl.length + 4) / 5)) hx hb hr (fun t1 ht1 hW => ⟨⟨nI ((8 * bl.length + 4) / 5), (fh, fd, fb, fs, kn, gl, ((List.range (a + 1)).map (ct_sprF bl)), bl), rfl, ⟨(if_neg (by omega)).symm, rfl, es.trans (if_neg (by omega)).symm, rfl, hR⟩, by rw [ht1]; exact hP, va_K.moved hW.alike hK, hD⟩, hS.F ht1⟩) hS.2.2 d_X_spread_120
    · refine lv_iload_n hx hb d_X_spread_53 rfl (lv_at hl 1 rfl) ?_
      refine lv_bipush (v := nI 8) hx hb d_X_spread_54 (by decide) ?_
      refine lv_ishl hx hb d_X_spread_56 ?_
      refine r_as (y := nI ((ct_val 256 (bl.take k) % 4096) * 256)) (ct_shl (by omega) (by decide)) ?_
      refine lv_aload_n hx hb d_X_spread_57 rfl (lv_at hl 0 rfl) ?_
      refine x_get hx hb hts hown hK hP 3 (by decide) tb_20 rfl d_X_spread_58 ?_
      refine lv_iload hx hb d_X_spread_61 (lv_at hl 3 rfl) ?_
      refine r_bald (v := ct_sx (bl.getD k 0)) hx hb hK hP 4 3 rfl rfl (by omega) (by decide) (hB.2.2 k hk1) d_X_spread_63 ?_
      refine lv_sipush (v := nI 255) hx hb d_X_spread_64 (by decide) ?_
      refine lv_iand hx hb d_X_spread_67 ?_
      refine r_as (y := nI (bl.getD k 0)) (ct_sx255 _ (hB.lt hk1)) ?_
      refine lv_ior hx hb d_X_spread_68 ?_
      refine r_as (y := nI ((ct_val 256 (bl.take k) % 4096) * 256 + bl.getD k 0)) (ct_or8 _ (hB.lt hk1)) ?_
      refine lv_sipush (v := nI 4095) hx hb d_X_spread_69 (by decide) ?_
      refine lv_iand hx hb d_X_spread_72 ?_
      refine r_as (y := nI (((ct_val 256 (bl.take k) % 4096) * 256 + bl.getD k 0) % 4096)) (ct_a4095 _) ?_
      refine r_as (y := nI (ct_val 256 (bl.take (k + 1)) % 4096)) (congrArg nI (cs_w hk1)) ?_
      refine lv_istore_n (lv' := [(2, .int (nI (ct_val 256 (bl.take (k + 1)) % 4096))), (0, .ref (q 0)), (3, .int (nI bt)), (4, .int (nI k))]) hx hb d_X_spread_73 rfl hl (by decide) rfl (fun ls hl => ?_)
      refine lv_iinc (v := nI (8 * (k + 1) - 5 * a)) (lv' := [(3, .int (nI (8 * (k + 1) - 5 * a))), (2, .int (nI (ct_val 256 (bl.take (k + 1)) % 4096))), (0, .ref (q 0)), (4, .int (nI k))]) hx hb d_X_spread_74 hl (k := 2) rfl ((nI_add _ 8).trans (congrArg nI (by omega))) (by decide) rfl (fun ls hl => ?_)
      refine r_loop (fun a2 ls H locs => ∃ (fh fd fb fs : Nat → Int32) (kn : Int32), (5 * a2 ≤ 8 * (k + 1) ∧ 8 * (k + 1) ≤ 5 * a2 + 12) ∧ RX tb fh fd fb fs kn gl ((List.range a2).map (ct_sprF bl)) bl ∧ va_P D ct_cl (wX q kk tb fh fd fb fs gl.length ((List.range a2).map (ct_sprF bl)).length bl.length kn) H ∧ va_D A (wX q kk tb fh fd fb fs gl.length ((List.range a2).map (ct_sprF bl)).length bl.length kn) ∧ va_S A s.heap H locs ∧ lv_has ls 5 [(0, .ref (q 0)), (2, .int (nI (ct_val 256 (bl.take (k + 1)) % 4096))), (3, .int (nI (8 * (k + 1) - 5 * a2))), (4, .int (nI k))]) (8 * (k + 1) / 5) (k0 := a) (by omega) ⟨fh, fd, fb, fs, kn, ⟨by omega, by omega⟩, hR, hP, hD, hS, lv_sub hl [2, 1, 0, 3] rfl⟩ (fun a2 H locs ls ha hI hnext2 => ?_)
      obtain ⟨fh, fd, fb, fs, kn, ⟨h51, h52⟩, hR, hP, hD, hS, hl⟩ := hI
      refine lv_iload_n hx hb d_X_spread_77 rfl (lv_at hl 2 rfl) ?_
      refine lv_iconst (v := nI 5) hx hb d_X_spread_78 (by decide) ?_
      refine r_lt (tgt := 97) hx hb d_X_spread_79 (by decide) (by omega) (by decide) (fun h5 => ?_) (fun h5 => ?_)
      · refine lv_iinc (v := nI (k + 1)) (lv' := [(4, .int (nI (k + 1))), (0, .ref (q 0)), (2, .int (nI (ct_val 256 (bl.take (k + 1)) % 4096))), (3, .int (nI (8 * (k + 1) - 5 * a2)))]) hx hb d_X_spread_97 hl (k := 3) rfl (nI_add _ 1) (by decide) rfl (fun ls hl => ?_)
        refine lv_goto (tgt := 44) hx hb d_X_spread_100 (by decide) ?_
        exact hnext hk1 _ _ _ ⟨a2, 8 * (k + 1) - 5 * a2, fh, fd, fb, fs, kn, ⟨by omega, by omega⟩, hR, hP, hD, hS, lv_sub hl [1, 2, 3, 0] rfl⟩
      · refine lv_aload_n hx hb d_X_spread_82 rfl (lv_at hl 0 rfl) ?_
        refine lv_iload_n hx hb d_X_spread_83 rfl (lv_at hl 1 rfl) ?_
        refine lv_iload_n hx hb d_X_spread_84 rfl (lv_at hl 2 rfl) ?_
        refine lv_iconst (v := nI 5) hx hb d_X_spread_85 (by decide) ?_
        refine lv_isub hx hb d_X_spread_86 ?_
        refine r_as (y := nI ((8 * (k + 1) - 5 * a2) - 5)) (pk_sub (h5)) ?_
        refine lv_ishr hx hb d_X_spread_87 ?_
        refine r_as (y := nI ((ct_val 256 (bl.take (k + 1)) % 4096) / 2 ^ ((8 * (k + 1) - 5 * a2) - 5))) (ct_shr (by omega) (by omega)) ?_
        refine k_X_add hx hb hml hown hts hK (rest := []) hP hD hS hA hR (by rw [ct_lr]; omega) hl.1 (Nat.le_of_ble_eq_true rfl) ⟨Nat.le_of_ble_eq_true rfl, Nat.le_of_ble_eq_true rfl⟩ d_X_spread_88 (fun fh fd fb fs kn H locs hR hP hD hS => ?_)
        have ed : ((List.range (a2 + 1)).map (ct_sprF bl)) = (((List.range a2).map (ct_sprF bl)) ++ [((ct_val 256 (bl.take (k + 1)) % 4096) / 2 ^ ((8 * (k + 1) - 5 * a2) - 5)) % 32]) := by rw [ct_rs, cs_out hB.2.1 hk1 h5 h52]
        refine lv_iinc (v := nI (8 * (k + 1) - 5 * (a2 + 1))) (lv' := [(3, .int (nI (8 * (k + 1) - 5 * (a2 + 1)))), (0, .ref (q 0)), (2, .int (nI (ct_val 256 (bl.take (k + 1)) % 4096))), (4, .int (nI k))]) hx hb d_X_spread_91 hl (k := 2) rfl ((ct_m5 h5).trans (congrArg nI (by omega))) (by decide) rfl (fun ls hl => ?_)
        refine lv_goto (tgt := 77) hx hb d_X_spread_94 (by decide) ?_
        exact hnext2 (by omega) _ _ _ ⟨fh, fd, fb, fs, kn, ⟨by omega, by omega⟩, by rw [ed]; exact hR, by rw [ed]; exact hP, by rw [ed]; exact hD, hS, lv_sub hl [1, 2, 0, 3] rfl⟩
  · refine lv_iconst (v := -1) hx hb d_X_spread_18 (by decide) ?_
    exact W.iret (v := -1) hx hb hr (fun t1 ht1 hW => ⟨⟨-1, (fh, fd, fb, fs, kn, gl, dl, bl), rfl, ⟨(if_pos hc).symm, rfl, (if_pos hc).symm, rfl, hR⟩, by rw [ht1]; exact hP, va_K.moved hW.alike hK, hD⟩, hS.F ht1⟩) hS.2.2 d_X_spread_19
set_option maxHeartbeats 4000000 in
set_option maxRecDepth 100000 in
/-- gather() -/
theorem c_X_gather (l : Launch) (D : va_G) (q : Nat → Nat) (kk : Nat → ClassId) {tb fh fd fb fs : Nat → Int32} {kn : Int32} {gl dl bl : List Nat} (hR : RX tb fh fd fb fs kn gl dl bl)  (sz : Nat) : Met l y_X_gather (ww y_X_gather b_X_gather 6 (some .int)) ({ frames := 0, cells := 0, slots := 0, locals := 0 } : Room) (va_Pc [.ref (q 0)] (ct_PW D (wX q kk tb fh fd fb fs gl.length dl.length bl.length kn) (tX kk) sz)) (va_Qi (pX tb (ct_gatA dl) gl dl (ct_gatL dl bl)) (ct_BW D (tX kk) (wXu q kk tb) (va_A (wX q kk tb fh fd fb fs gl.length dl.length bl.length kn) sz)) (va_A (wX q kk tb fh fd fb fs gl.length dl.length bl.length kn) sz)) 0 0 (va_A (wX q kk tb fh fd fb fs gl.length dl.length bl.length kn) sz) := by
  refine Met.ofW (cc := b_X_gather) (maxL := 6) (ret := (some .int)) (by decide) rfl ?_
  intro p e s m args below meth co s₁ B hml hv0
  obtain ⟨rfl, hsz, hP, hK, hD0⟩ := hv0
  have hx := B.exec
  have hb := B.bytes
  have hr := B.returns
  have hts := fun w0 (h0 : w0 ∈ ct_tb) => atoms_spec (ws := ww y_X_gather b_X_gather 6 (some .int)) B.pre w0 (List.mem_cons_of_mem _ h0)
  have hown : s.vm.findClass R_X = some m.cls := findClass_of_methodNamed B.named
  have hlocks := B.notSynchronized
  subst hsz
  have hD := hD0.self (sz := s.heap.size)
  generalize hAe : va_A (wX q kk tb fh fd fb fs gl.length dl.length bl.length kn) s.heap.size = A at hD ⊢
  have hA : ∀ q : Nat, s.heap.size ≤ q → A q := fun q h => by rw [← hAe]; exact Or.inr h
  have hS : va_S A s.heap s.heap [] := va_S.rf
  have hl := lv_entry ([.ref (q 0)]) (n := 6) (Nat.le_of_ble_eq_true rfl)
  rw [lg_entry_eq]
  generalize (lg_sl ([.ref (q 0)]) ++ List.replicate (6 - (lg_sl ([.ref (q 0)])).length) Slot.unset).toArray = ls at hl ⊢
  have hl : lv_has ls 6 [(0, .ref (q 0))] := hl
  obtain ⟨ht, hH, hDl, hB, hKN⟩ := id hR
  have hH1 := hH.1
  have hD1 := hDl.1
  have hB1 := hB.1
  refine lv_iconst (v := nI 5) hx hb d_X_gather_0 (by decide) ?_
  refine lv_aload_n hx hb d_X_gather_1 rfl (lv_at hl 0 rfl) ?_
  refine x_get hx hb hts hown hK hP 5 (by decide) tb_22 rfl d_X_gather_2 ?_
  refine lv_imul hx hb d_X_gather_5 ?_
  refine r_as (y := nI (5 * dl.length)) (pk_mul _ _) ?_
  refine lv_bipush (v := nI 8) hx hb d_X_gather_6 (by decide) ?_
  refine lv_idiv hx hb d_X_gather_8 (nI_ne0 (by omega) (by omega)) ?_
  refine r_as (y := nI ((5 * dl.length) / 8)) (pk_div (by omega) (by omega) (by omega)) ?_
  refine lv_istore_n (lv' := [(1, .int (nI ((5 * dl.length) / 8))), (0, .ref (q 0))]) hx hb d_X_gather_9 rfl hl (by decide) rfl (fun ls hl => ?_)
  refine lv_iconst (v := nI 5) hx hb d_X_gather_10 (by decide) ?_
  refine lv_aload_n hx hb d_X_gather_11 rfl (lv_at hl 1 rfl) ?_
  refine x_get hx hb hts hown hK hP 5 (by decide) tb_22 rfl d_X_gather_12 ?_
  refine lv_imul hx hb d_X_gather_15 ?_
  refine r_as (y := nI (5 * dl.length)) (pk_mul _ _) ?_
  refine lv_bipush (v := nI 8) hx hb d_X_gather_16 (by decide) ?_
  refine lv_irem hx hb d_X_gather_18 (nI_ne0 (by omega) (by omega)) ?_
  refine r_as (y := nI ((5 * dl.length) % 8)) (pk_rem (by omega) (by omega) (by omega)) ?_
  refine lv_istore_n (lv' := [(2, .int (nI ((5 * dl.length) % 8))), (1, .int (nI ((5 * dl.length) / 8))), (0, .ref (q 0))]) hx hb d_X_gather_19 rfl hl (by decide) rfl (fun ls hl => ?_)
  refine lv_iload_n hx hb d_X_gather_20 rfl (lv_at hl 1 rfl) ?_
  refine lv_bipush (v := nI 40) hx hb d_X_gather_21 (by decide) ?_
  refine r_gt (tgt := 55) hx hb d_X_gather_23 (by decide) (by omega) (by decide) (fun hc => ?_) (fun hc => ?_)
  · exact absurd hc (by omega)
  · refine lv_iload_n hx hb d_X_gather_26 rfl (lv_at hl 0 rfl) ?_
    refine lv_iconst (v := nI 4) hx hb d_X_gather_27 (by decide) ?_
    refine r_gt (tgt := 55) hx hb d_X_gather_28 (by decide) (by omega) (by decide) (fun hc1 => ?_) (fun hc1 => ?_)
    · refine lv_iconst (v := -1) hx hb d_X_gather_55 (by decide) ?_
      exact W.iret (v := -1) hx hb hr (fun t1 ht1 hW => ⟨⟨-1, (fh, fd, fb, fs, kn, gl, dl, bl), rfl, ⟨(if_neg (cg_no1 hc1)).symm, rfl, rfl, (if_neg (cg_no1 hc1)).symm, hR⟩, by rw [ht1]; exact hP, va_K.moved hW.alike hK, hD⟩, hS.F ht1⟩) hS.2.2 d_X_gather_56
    · refine r_cut 57 (fun ls H2 locs2 => s.heap = H2 ∧ [] = locs2 ∧ lv_has ls 6 [(0, .ref (q 0))] ∧ ct_gok dl = true) (fun K => ?_) (fun H2 locs2 ls hI => ?_)
      · refine lv_iload_n hx hb d_X_gather_31 rfl (lv_at hl 0 rfl) ?_
        refine r_le0 (tgt := 57) hx hb d_X_gather_32 (by decide) (by omega) (fun hc2 => ?_) (fun hc2 => ?_)
        · exact K _ _ _ ⟨rfl, rfl, lv_sub hl [2] rfl, cg_ok hc1 (by rw [hc2]; exact Nat.mod_one _)⟩
        · have hpos : 0 < dl.length := by omega
          refine lv_aload_n hx hb d_X_gather_35 rfl (lv_at hl 2 rfl) ?_
          refine x_get hx hb hts hown hK hP 2 (by decide) tb_19 rfl d_X_gather_36 ?_
          refine lv_aload_n hx hb d_X_gather_39 rfl (lv_at hl 2 rfl) ?_
          refine x_get hx hb hts hown hK hP 5 (by decide) tb_22 rfl d_X_gather_40 ?_
          refine lv_iconst (v := nI 1) hx hb d_X_gather_43 (by decide) ?_
          refine lv_isub hx hb d_X_gather_44 ?_
          refine r_as (y := nI (dl.length - 1)) (pk_sub (by omega)) ?_
          refine r_bald (v := nI (dl.getD (dl.length - 1) 0)) hx hb hK hP 3 2 rfl rfl (by omega) (by decide) (hDl.2.2 _ (by omega)) d_X_gather_45 ?_
          refine lv_iconst (v := nI 1) hx hb d_X_gather_46 (by decide) ?_
          refine lv_iload_n hx hb d_X_gather_47 rfl (lv_at hl 0 rfl) ?_
          refine lv_ishl hx hb d_X_gather_48 ?_
          refine r_as (y := nI (1 * 2 ^ ((5 * dl.length) % 8))) (ct_shl (ct_pw (by decide) (by omega)) (by omega)) ?_
          refine lv_iconst (v := nI 1) hx hb d_X_gather_49 (by decide) ?_
          refine lv_isub hx hb d_X_gather_50 ?_
          refine r_as (y := nI ((1 * 2 ^ ((5 * dl.length) % 8)) - 1)) (pk_sub (by have := Nat.pow_pos (n := 5 * dl.length % 8) (show 0 < 2 by decide); omega)) ?_
          refine lv_iand hx hb d_X_gather_51 ?_
          refine r_as (y := nI (dl.getD (dl.length - 1) 0 % 2 ^ (5 * dl.length % 8))) (by rw [Nat.one_mul]; exact ct_mask _ _) ?_
          have hd32 := hDl.lt (show dl.length - 1 < dl.length by omega)
          refine r_eq0 (tgt := 57) hx hb d_X_gather_52 (by decide) (by have := Nat.mod_le (dl.getD (dl.length - 1) 0) (2 ^ (5 * dl.length % 8)); omega) (fun hc3 => ?_) (fun hc3 => ?_)
          · rw [cg_low hpos _ hc1] at hc3
            exact K _ _ _ ⟨rfl, rfl, lv_sub hl [2] rfl, cg_ok hc1 hc3⟩
          · rw [cg_low hpos _ hc1] at hc3
            refine lv_iconst (v := -1) hx hb d_X_gather_55 (by decide) ?_
            exact W.iret (v := -1) hx hb hr (fun t1 ht1 hW => ⟨⟨-1, (fh, fd, fb, fs, kn, gl, dl, bl), rfl, ⟨(if_neg (cg_no2 hc3)).symm, rfl, rfl, (if_neg (cg_no2 hc3)).symm, hR⟩, by rw [ht1]; exact hP, va_K.moved hW.alike hK, hD⟩, hS.F ht1⟩) hS.2.2 d_X_gather_56
      · obtain ⟨rfl, rfl, hl, hok⟩ := hI
        refine lv_iconst (v := nI 0) hx hb d_X_gather_57 (by decide) ?_
        refine lv_istore_n (lv' := [(3, .int (nI 0)), (0, .ref (q 0))]) hx hb d_X_gather_58 rfl hl (by decide) rfl (fun ls hl => ?_)
        refine lv_iconst (v := nI 0) hx hb d_X_gather_59 (by decide) ?_
        refine lv_istore (lv' := [(4, .int (nI 0)), (3, .int (nI 0)), (0, .ref (q 0))]) hx hb d_X_gather_60 hl (by decide) rfl (fun ls hl => ?_)
        refine lv_aload_n hx hb d_X_gather_62 rfl (lv_at hl 2 rfl) ?_
        refine lv_iconst (v := nI 0) hx hb d_X_gather_63 (by decide) ?_
        refine x_put hx hb hts hown hK hP hD hS 6 (by decide) tb_23 rfl (by decide +kernel) (Nat.le_of_ble_eq_true rfl) d_X_gather_64 (fun H locs hP hD hS => ?_)
        have hP : va_P D ct_cl (wX q kk tb fh fd fb fs gl.length dl.length 0 kn) H := hP
        have hD : va_D A (wX q kk tb fh fd fb fs gl.length dl.length 0 kn) := hD
        refine lv_iconst (v := nI 0) hx hb d_X_gather_67 (by decide) ?_
        refine lv_istore (lv' := [(5, .int (nI 0)), (4, .int (nI 0)), (3, .int (nI 0)), (0, .ref (q 0))]) hx hb d_X_gather_68 hl (by decide) rfl (fun ls hl => ?_)
        refine r_loop (fun k ls H locs => ∃ (a bt : Nat) (fb : Nat → Int32), (5 * k = 8 * a + bt ∧ bt ≤ 7) ∧ LA ct_sx fb ((List.range a).map (ct_gatF dl)) 40 256 ∧ va_P D ct_cl (wX q kk tb fh fd fb fs gl.length dl.length ((List.range a).map (ct_gatF dl)).length kn) H ∧ va_D A (wX q kk tb fh fd fb fs gl.length dl.length ((List.range a).map (ct_gatF dl)).length kn) ∧ va_S A s.heap H locs ∧ lv_has ls 6 [(0, .ref (q 0)), (3, .int (nI (ct_val 32 (dl.take k) % 4096))), (4, .int (nI bt)), (5, .int (nI k))]) dl.length (k0 := 0) (Nat.zero_le _) ⟨0, 0, fb, ⟨rfl, Nat.zero_le _⟩, LA.nil, hP, hD, hS, lv_sub hl [3, 2, 1, 0] rfl⟩ (fun k H locs ls hk hI hnext => ?_)
        obtain ⟨a, bt, fb, ⟨hab, hbt⟩, hBa, hP, hD, hS, hl⟩ := hI
        refine lv_iload hx hb d_X_gather_70 (lv_at hl 3 rfl) ?_
        refine lv_aload_n hx hb d_X_gather_72 rfl (lv_at hl 0 rfl) ?_
        refine x_get hx hb hts hown hK hP 5 (by decide) tb_22 rfl d_X_gather_73 ?_
        refine r_ge (tgt := 138) hx hb d_X_gather_76 (by decide) (by omega) (by omega) (fun hk1 => ?_) (fun hk1 => ?_)
        · have ek : k = dl.length := by omega
          subst ek
          have ea : 5 * dl.length / 8 = a := by omega
          have es : ((List.range a).map (ct_gatF dl)) = ct_gat dl := by rw [ct_gat, ea]
          refine lv_aload_n hx hb d_X_gather_138 rfl (lv_at hl 0 rfl) ?_
          refine x_get hx hb hts hown hK hP 6 (by decide) tb_23 rfl d_X_gather_139 ?_
          refine r_as (y := nI (5 * dl.length / 8)) (by rw [ct_lr, ea]) ?_
          exact W.iret (v := nI (5 * dl.length / 8)) hx hb hr (fun t1 ht1 hW => ⟨⟨nI (5 * dl.length / 8), (fh, fd, fb, fs, kn, gl, dl, ((List.range a).map (ct_gatF dl))), rfl, ⟨(if_pos hok).symm, rfl, rfl, es.trans (if_pos hok).symm, ht, hH, hDl, hBa, hKN⟩, by rw [ht1]; exact hP, va_K.moved hW.alike hK, hD⟩, hS.F ht1⟩) hS.2.2 d_X_gather_142
        · refine lv_iload_n hx hb d_X_gather_79 rfl (lv_at hl 1 rfl) ?_
          refine lv_iconst (v := nI 5) hx hb d_X_gather_80 (by decide) ?_
          refine lv_ishl hx hb d_X_gather_81 ?_
          refine r_as (y := nI ((ct_val 32 (dl.take k) % 4096) * 32)) (ct_shl (by omega) (by decide)) ?_
          refine lv_aload_n hx hb d_X_gather_82 rfl (lv_at hl 0 rfl) ?_
          refine x_get hx hb hts hown hK hP 2 (by decide) tb_19 rfl d_X_gather_83 ?_
          refine lv_iload hx hb d_X_gather_86 (lv_at hl 3 rfl) ?_
          refine r_bald (v := nI (dl.getD k 0)) hx hb hK hP 3 2 rfl rfl (by omega) (by decide) (hDl.2.2 k hk1) d_X_gather_88 ?_
          refine lv_ior hx hb d_X_gather_89 ?_
          refine r_as (y := nI ((ct_val 32 (dl.take k) % 4096) * 32 + dl.getD k 0)) (ct_or5 _ (hDl.lt hk1)) ?_
          refine lv_sipush (v := nI 4095) hx hb d_X_gather_90 (by decide) ?_
          refine lv_iand hx hb d_X_gather_93 ?_
          refine r_as (y := nI (((ct_val 32 (dl.take k) % 4096) * 32 + dl.getD k 0) % 4096)) (ct_a4095 _) ?_
          refine r_as (y := nI (ct_val 32 (dl.take (k + 1)) % 4096)) (congrArg nI (cg_w hk1)) ?_
          refine lv_istore_n (lv' := [(3, .int (nI (ct_val 32 (dl.take (k + 1)) % 4096))), (0, .ref (q 0)), (4, .int (nI bt)), (5, .int (nI k))]) hx hb d_X_gather_94 rfl hl (by decide) rfl (fun ls hl => ?_)
          refine lv_iinc (v := nI (5 * (k + 1) - 8 * a)) (lv' := [(4, .int (nI (5 * (k + 1) - 8 * a))), (3, .int (nI (ct_val 32 (dl.take (k + 1)) % 4096))), (0, .ref (q 0)), (5, .int (nI k))]) hx hb d_X_gather_95 hl (k := 2) rfl ((nI_add _ 5).trans (congrArg nI (by omega))) (by decide) rfl (fun ls hl => ?_)
          refine lv_iload hx hb d_X_gather_98 (lv_at hl 0 rfl) ?_
          refine lv_bipush (v := nI 8) hx hb d_X_gather_100 (by decide) ?_
          refine r_ge (tgt := 108) hx hb d_X_gather_102 (by decide) (by omega) (by decide) (fun h8 => ?_) (fun h8 => ?_)
          · have hla : ((List.range a).map (ct_gatF dl)).length = a := ct_lr _ _
            have hgo := cg_out hDl.2.1 hk1 h8 (by omega)
            refine lv_iinc (v := nI (5 * (k + 1) - 8 * a - 8)) (lv' := [(4, .int (nI (5 * (k + 1) - 8 * a - 8))), (3, .int (nI (ct_val 32 (dl.take (k + 1)) % 4096))), (0, .ref (q 0)), (5, .int (nI k))]) hx hb d_X_gather_108 hl (k := 0) rfl (ct_m8 h8) (by decide) rfl (fun ls hl => ?_)
            refine lv_aload_n hx hb d_X_gather_111 rfl (lv_at hl 2 rfl) ?_
            refine x_get hx hb hts hown hK hP 3 (by decide) tb_20 rfl d_X_gather_112 ?_
            refine lv_aload_n hx hb d_X_gather_115 rfl (lv_at hl 2 rfl) ?_
            refine lv_dup hx hb d_X_gather_116 rfl ?_
            refine x_get hx hb hts hown hK hP 6 (by decide) tb_23 rfl d_X_gather_117 ?_
            refine lv_dup_x1 hx hb d_X_gather_120 rfl rfl ?_
            refine lv_iconst (v := nI 1) hx hb d_X_gather_121 (by decide) ?_
            refine lv_iadd hx hb d_X_gather_122 ?_
            refine r_as (y := nI ((((List.range a).map (ct_gatF dl)).length) + 1)) (nI_add _ _) ?_
            refine x_put hx hb hts hown hK hP hD hS 6 (by decide) tb_23 rfl (by decide +kernel) (Nat.le_of_ble_eq_true rfl) d_X_gather_123 (fun H locs hP hD hS => ?_)
            have hP : va_P D ct_cl (wX q kk tb fh fd fb fs gl.length dl.length ((((List.range a).map (ct_gatF dl)).length) + 1) kn) H := hP
            have hD : va_D A (wX q kk tb fh fd fb fs gl.length dl.length ((((List.range a).map (ct_gatF dl)).length) + 1) kn) := hD
            refine lv_iload_n hx hb d_X_gather_126 rfl (lv_at hl 1 rfl) ?_
            refine lv_iload hx hb d_X_gather_127 (lv_at hl 0 rfl) ?_
            refine lv_ishr hx hb d_X_gather_129 ?_
            refine r_as (y := nI ((ct_val 32 (dl.take (k + 1)) % 4096) / 2 ^ (5 * (k + 1) - 8 * a - 8))) (ct_shr (by omega) (by omega)) ?_
            refine lv_i2b (v := ct_sx (ct_gatF dl a)) hx hb d_X_gather_130 ((ct_i2b _).trans (congrArg ct_sx hgo)) ?_
            refine r_bast (y := ct_sx (ct_gatF dl a)) hx hb hK hP hD hS 4 3 rfl rfl (by omega) (by decide) (ct_nbx _) d_X_gather_131 (fun H locs hP hD hS => ?_)
            have hP : va_P D ct_cl (wX q kk tb fh fd (upd fb (((List.range a).map (ct_gatF dl)).length) (ct_sx (ct_gatF dl a))) fs gl.length dl.length ((((List.range a).map (ct_gatF dl)).length) + 1) kn) H := hP
            have hD : va_D A (wX q kk tb fh fd (upd fb (((List.range a).map (ct_gatF dl)).length) (ct_sx (ct_gatF dl a))) fs gl.length dl.length ((((List.range a).map (ct_gatF dl)).length) + 1) kn) := hD
            have hBa2 := hBa.push (by omega) (ct_gatF_lt dl a) rfl
            have ed : ((List.range (a + 1)).map (ct_gatF dl)) = ((List.range a).map (ct_gatF dl)) ++ [ct_gatF dl a] := ct_rs _ _
            have el : (((List.range a).map (ct_gatF dl)) ++ [ct_gatF dl a]).length = (((List.range a).map (ct_gatF dl)).length) + 1 := ct_l1 _ _
            have hP : va_P D ct_cl (wX q kk tb fh fd (upd fb (((List.range a).map (ct_gatF dl)).length) (ct_sx (ct_gatF dl a))) fs gl.length dl.length ((((List.range a).map (ct_gatF dl)) ++ [ct_gatF dl a]).length) kn) H := by rw [el]; exact hP
            have hD : va_D A (wX q kk tb fh fd (upd fb (((List.range a).map (ct_gatF dl)).length) (ct_sx (ct_gatF dl a))) fs gl.length dl.length ((((List.range a).map (ct_gatF dl)) ++ [ct_gatF dl a]).length) kn) := by rw [el]; exact hD
            refine lv_iinc (v := nI (k + 1)) (lv' := [(5, .int (nI (k + 1))), (4, .int (nI (5 * (k + 1) - 8 * a - 8))), (3, .int (nI (ct_val 32 (dl.take (k + 1)) % 4096))), (0, .ref (q 0))]) hx hb d_X_gather_132 hl (k := 3) rfl (nI_add _ 1) (by decide) rfl (fun ls hl => ?_)
            refine lv_goto (tgt := 70) hx hb d_X_gather_135 (by decide) ?_
            exact hnext hk1 _ _ _ ⟨a + 1, 5 * (k + 1) - 8 * a - 8, _, ⟨by omega, by omega⟩, by rw [ed]; exact hBa2, by rw [ed]; exact hP, by rw [ed]; exact hD, hS, lv_sub hl [3, 2, 1, 0] rfl⟩
          · refine lv_goto (tgt := 132) hx hb d_X_gather_105 (by decide) ?_
            refine lv_iinc (v := nI (k + 1)) (lv' := [(5, .int (nI (k + 1))), (4, .int (nI (5 * (k + 1) - 8 * a))), (3, .int (nI (ct_val 32 (dl.take (k + 1)) % 4096))), (0, .ref (q 0))]) hx hb d_X_gather_132 hl (k := 3) rfl (nI_add _ 1) (by decide) rfl (fun ls hl => ?_)
            refine lv_goto (tgt := 70) hx hb d_X_gather_135 (by decide) ?_
            exact hnext hk1 _ _ _ ⟨a, 5 * (k + 1) - 8 * a, fb, ⟨by omega, by omega⟩, hBa, hP, hD, hS, lv_sub hl [3, 2, 1, 0] rfl⟩
set_option maxHeartbeats 4000000 in
set_option maxRecDepth 100000 in
/-- spread() -/
theorem c_M_spread (l : Launch) (D : va_G) (q : Nat → Nat) (kk : Nat → ClassId) {fh fd fb : Nat → Int32} {gl dl bl : List Nat} (hR : RM fh fd fb gl dl bl)  (sz : Nat) : Met l y_M_spread (ww y_M_spread b_M_spread 7 (some .int)) ({ frames := 0, cells := 0, slots := 0, locals := 0 } : Room) (va_Pc [.ref (q 0)] (ct_PW D (wM q kk fh fd fb gl.length dl.length bl.length) (tM kk) sz)) (va_Qi (pM (ct_sprA bl) gl (ct_sprL dl bl) bl) (ct_BW D (tM kk) (wMu q kk) (va_A (wM q kk fh fd fb gl.length dl.length bl.length) sz)) (va_A (wM q kk fh fd fb gl.length dl.length bl.length) sz)) 0 0 (va_A (wM q kk fh fd fb gl.length dl.length bl.length) sz) := by
  refine Met.ofW (cc := b_M_spread) (maxL := 7) (ret := (some .int)) (by decide) rfl ?_
  intro p e s m args below meth co s₁ B hml hv0
  obtain ⟨rfl, hsz, hP, hK, hD0⟩ := hv0
  have hx := B.exec
  have hb := B.bytes
  have hr := B.returns
  have hts := fun w0 (h0 : w0 ∈ ct_tb) => atoms_spec (ws := ww y_M_spread b_M_spread 7 (some .int)) B.pre w0 (List.mem_cons_of_mem _ h0)
  have hown : s.vm.findClass R_M = some m.cls := findClass_of_methodNamed B.named
  have hlocks := B.notSynchronized
  subst hsz
  have hD := hD0.self (sz := s.heap.size)
  generalize hAe : va_A (wM q kk fh fd fb gl.length dl.length bl.length) s.heap.size = A at hD ⊢
  have hA : ∀ q : Nat, s.heap.size ≤ q → A q := fun q h => by rw [← hAe]; exact Or.inr h
  have hS : va_S A s.heap s.heap [] := va_S.rf
  have hl := lv_entry ([.ref (q 0)]) (n := 7) (Nat.le_of_ble_eq_true rfl)
  rw [lg_entry_eq]
  generalize (lg_sl ([.ref (q 0)]) ++ List.replicate (7 - (lg_sl ([.ref (q 0)])).length) Slot.unset).toArray = ls at hl ⊢
  have hl : lv_has ls 7 [(0, .ref (q 0))] := hl
  obtain ⟨hH, hDl, hB⟩ := id hR
  have hH1 := hH.1
  have hD1 := hDl.1
  have hB1 := hB.1
  refine lv_bipush (v := nI 8) hx hb d_M_spread_0 (by decide) ?_
  refine lv_aload_n hx hb d_M_spread_2 rfl (lv_at hl 0 rfl) ?_
  refine m_get hx hb hts hown hK hP 5 (by decide) tb_131 rfl d_M_spread_3 ?_
  refine lv_imul hx hb d_M_spread_6 ?_
  refine r_as (y := nI (8 * bl.length)) (pk_mul _ _) ?_
  refine lv_istore_n (lv' := [(1, .int (nI (8 * bl.length))), (0, .ref (q 0))]) hx hb d_M_spread_7 rfl hl (by decide) rfl (fun ls hl => ?_)
  refine lv_iload_n hx hb d_M_spread_8 rfl (lv_at hl 0 rfl) ?_
  refine lv_iconst (v := nI 4) hx hb d_M_spread_9 (by decide) ?_
  refine lv_iadd hx hb d_M_spread_10 ?_
  refine r_as (y := nI ((8 * bl.length) + 4)) (nI_add _ _) ?_
  refine lv_iconst (v := nI 5) hx hb d_M_spread_11 (by decide) ?_
  refine lv_idiv hx hb d_M_spread_12 (nI_ne0 (by omega) (by omega)) ?_
  refine r_as (y := nI (((8 * bl.length) + 4) / 5)) (pk_div (by omega) (by omega) (by omega)) ?_
  refine lv_istore_n (lv' := [(2, .int (nI (((8 * bl.length) + 4) / 5))), (1, .int (nI (8 * bl.length))), (0, .ref (q 0))]) hx hb d_M_spread_13 rfl hl (by decide) rfl (fun ls hl => ?_)
  refine lv_iload_n hx hb d_M_spread_14 rfl (lv_at hl 0 rfl) ?_
  refine lv_bipush (v := nI 58) hx hb d_M_spread_15 (by decide) ?_
  refine r_le (tgt := 22) hx hb d_M_spread_17 (by decide) (by omega) (by decide) (fun hc => ?_) (fun hc => ?_)
  · refine lv_iconst (v := nI 0) hx hb d_M_spread_22 (by decide) ?_
    refine lv_istore_n (lv' := [(3, .int (nI 0)), (2, .int (nI (((8 * bl.length) + 4) / 5))), (1, .int (nI (8 * bl.length))), (0, .ref (q 0))]) hx hb d_M_spread_23 rfl hl (by decide) rfl (fun ls hl => ?_)
    refine r_loop (fun i ls H locs => ∃ (fd : Nat → Int32), (∀ j, j < i → fd j = nI (ct_sprF bl j)) ∧ va_P D ct_cl (wM q kk fh fd fb gl.length dl.length bl.length) H ∧ va_D A (wM q kk fh fd fb gl.length dl.length bl.length) ∧ va_S A s.heap H locs ∧ lv_has ls 7 [(0, .ref (q 0)), (1, .int (nI (8 * bl.length))), (2, .int (nI ((8 * bl.length + 4) / 5))), (3, .int (nI i))]) ((8 * bl.length + 4) / 5) (k0 := 0) (Nat.zero_le _) ⟨fd, fun j hj => absurd hj (Nat.not_lt_zero j), hP, hD, hS, lv_sub hl [3, 2, 1, 0] rfl⟩ (fun i H locs ls hi hI hnext => ?_)
    obtain ⟨fd, hfd, hP, hD, hS, hl⟩ := hI
    refine lv_iload_n hx hb d_M_spread_24 rfl (lv_at hl 3 rfl) ?_
    refine lv_iload_n hx hb d_M_spread_25 rfl (lv_at hl 2 rfl) ?_
    refine r_ge (tgt := 107) hx hb d_M_spread_26 (by decide) (by omega) (by omega) (fun hi1 => ?_) (fun hi1 => ?_)
    · have ei : i = (8 * bl.length + 4) / 5 := by omega
      subst ei
      refine lv_aload_n hx hb d_M_spread_107 rfl (lv_at hl 0 rfl) ?_
      refine lv_iload_n hx hb d_M_spread_108 rfl (lv_at hl 2 rfl) ?_
      refine m_put hx hb hts hown hK hP hD hS 3 (by decide) tb_129 rfl (by decide +kernel) (Nat.le_of_ble_eq_true rfl) d_M_spread_109 (fun H locs hP hD hS => ?_)
      have hP : va_P D ct_cl (wM q kk fh fd fb gl.length ((8 * bl.length + 4) / 5) bl.length) H := hP
      have hD : va_D A (wM q kk fh fd fb gl.length ((8 * bl.length + 4) / 5) bl.length) := hD
      refine lv_iload_n hx hb d_M_spread_112 rfl (lv_at hl 2 rfl) ?_
      have el : (ct_spr bl).length = (8 * bl.length + 4) / 5 := ct_lr _ _
      have hP : va_P D ct_cl (wM q kk fh fd fb gl.length ((ct_spr bl).length) bl.length) H := by rw [el]; exact hP
      have hD : va_D A (wM q kk fh fd fb gl.length ((ct_spr bl).length) bl.length) := by rw [el]; exact hD
      exact W.iret (v := nI ((8 * bl.length + 4) / 5)) hx hb hr (fun t1 ht1 hW => ⟨⟨nI ((8 * bl.length + 4) / 5), (fh, fd, fb, gl, ct_spr bl, bl), rfl, ⟨(if_neg (by omega)).symm, rfl, (if_neg (by omega)).symm, rfl, hH, LA.of (by rw [ct_spr, ct_lr]; omega) (fun y hy => by obtain ⟨j, -, rfl⟩ := List.mem_map.mp hy; exact ct_sprF_lt bl j) (fun j hj => by rw [ct_spr, ct_lr] at hj; rw [ct_spr, ct_gr _ hj]; exact hfd j hj), hB⟩, by rw [ht1]; exact hP, va_K.moved hW.alike hK, hD⟩, hS.F ht1⟩) hS.2.2 d_M_spread_113
    · refine lv_iconst (v := nI 0) hx hb d_M_spread_29 (by decide) ?_
      refine lv_istore (lv' := [(4, .int (nI 0)), (0, .ref (q 0)), (1, .int (nI (8 * bl.length))), (2, .int (nI ((8 * bl.length + 4) / 5))), (3, .int (nI i))]) hx hb d_M_spread_30 hl (by decide) rfl (fun ls hl => ?_)
      refine lv_iconst (v := nI 0) hx hb d_M_spread_32 (by decide) ?_
      refine lv_istore (lv' := [(5, .int (nI 0)), (4, .int (nI 0)), (0, .ref (q 0)), (1, .int (nI (8 * bl.length))), (2, .int (nI ((8 * bl.length + 4) / 5))), (3, .int (nI i))]) hx hb d_M_spread_33 hl (by decide) rfl (fun ls hl => ?_)
      refine r_loop (fun k ls H2 locs2 => H = H2 ∧ locs = locs2 ∧ lv_has ls 7 [(0, .ref (q 0)), (1, .int (nI (8 * bl.length))), (2, .int (nI ((8 * bl.length + 4) / 5))), (3, .int (nI i)), (4, .int (nI (cs_P bl i k))), (5, .int (nI k))]) 5 (k0 := 0) (Nat.zero_le _) ⟨rfl, rfl, by rw [cs_P0]; exact lv_sub hl [2, 3, 4, 5, 1, 0] rfl⟩ (fun k H2 locs2 ls hk hI hnext2 => ?_)
      obtain ⟨rfl, rfl, hl⟩ := hI
      refine lv_iload hx hb d_M_spread_35 (lv_at hl 5 rfl) ?_
      refine lv_iconst (v := nI 5) hx hb d_M_spread_37 (by decide) ?_
      refine r_ge (tgt := 93) hx hb d_M_spread_38 (by decide) (by omega) (by decide) (fun hk1 => ?_) (fun hk1 => ?_)
      · have ek : k = 5 := by omega
        subst ek
        rw [cs_P5] at hl
        refine lv_aload_n hx hb d_M_spread_93 rfl (lv_at hl 0 rfl) ?_
        refine m_get hx hb hts hown hK hP 2 (by decide) tb_128 rfl d_M_spread_94 ?_
        refine lv_iload_n hx hb d_M_spread_97 rfl (lv_at hl 3 rfl) ?_
        refine lv_iload hx hb d_M_spread_98 (lv_at hl 4 rfl) ?_
        refine r_iast hx hb hK hP hD hS 2 1 rfl rfl (by omega) (by decide) d_M_spread_100 (fun H locs hP hD hS => ?_)
        have hP : va_P D ct_cl (wM q kk fh (upd fd i (nI (ct_sprF bl i))) fb gl.length dl.length bl.length) H := hP
        have hD : va_D A (wM q kk fh (upd fd i (nI (ct_sprF bl i))) fb gl.length dl.length bl.length) := hD
        refine lv_iinc (v := nI (i + 1)) (lv' := [(3, .int (nI (i + 1))), (0, .ref (q 0)), (1, .int (nI (8 * bl.length))), (2, .int (nI ((8 * bl.length + 4) / 5))), (4, .int (nI (ct_sprF bl i))), (5, .int (nI 5))]) hx hb d_M_spread_101 hl (k := 3) rfl (nI_add _ 1) (by decide) rfl (fun ls hl => ?_)
        refine lv_goto (tgt := 24) hx hb d_M_spread_104 (by decide) ?_
        refine hnext hi1 _ _ _ ⟨_, fun j hj => ?_, hP, hD, hS, lv_sub hl [1, 2, 3, 0] rfl⟩
        by_cases ej : j = i
        · rw [ej, pk_us]
        · rw [pk_un ej]
          exact hfd j (by omega)
      · refine lv_iconst (v := nI 5) hx hb d_M_spread_41 (by decide) ?_
        refine lv_iload_n hx hb d_M_spread_42 rfl (lv_at hl 3 rfl) ?_
        refine lv_imul hx hb d_M_spread_43 ?_
        refine r_as (y := nI (5 * i)) (pk_mul _ _) ?_
        refine lv_iload hx hb d_M_spread_44 (lv_at hl 5 rfl) ?_
        refine lv_iadd hx hb d_M_spread_46 ?_
        refine r_as (y := nI ((5 * i) + k)) (nI_add _ _) ?_
        refine lv_istore (lv' := [(6, .int (nI ((5 * i) + k))), (0, .ref (q 0)), (1, .int (nI (8 * bl.length))), (2, .int (nI ((8 * bl.length + 4) / 5))), (3, .int (nI i)), (4, .int (nI (cs_P bl i k))), (5, .int (nI k))]) hx hb d_M_spread_47 hl (by decide) rfl (fun ls hl => ?_)
        refine lv_iconst (v := nI 2) hx hb d_M_spread_49 (by decide) ?_
        refine lv_iload hx hb d_M_spread_50 (lv_at hl 5 rfl) ?_
        refine lv_imul hx hb d_M_spread_52 ?_
        refine r_as (y := nI (2 * (cs_P bl i k))) (pk_mul _ _) ?_
        refine lv_iload hx hb d_M_spread_53 (lv_at hl 0 rfl) ?_
        refine lv_iload_n hx hb d_M_spread_55 rfl (lv_at hl 2 rfl) ?_
        refine r_ge (tgt := 83) hx hb d_M_spread_56 (by decide) (by omega) (by omega) (fun hp => ?_) (fun hp => ?_)
        · refine lv_iconst (v := nI 0) hx hb d_M_spread_83 (by decide) ?_
          refine lv_iadd hx hb d_M_spread_84 ?_
          refine r_as (y := nI (cs_P bl i (k + 1))) ((nI_add _ _).trans (congrArg nI (cs_ot i k hp (by omega)))) ?_
          refine lv_istore (lv' := [(4, .int (nI (cs_P bl i (k + 1)))), (6, .int (nI ((5 * i) + k))), (0, .ref (q 0)), (1, .int (nI (8 * bl.length))), (2, .int (nI ((8 * bl.length + 4) / 5))), (3, .int (nI i)), (5, .int (nI k))]) hx hb d_M_spread_85 hl (by decide) rfl (fun ls hl => ?_)
          refine lv_iinc (v := nI (k + 1)) (lv' := [(5, .int (nI (k + 1))), (4, .int (nI (cs_P bl i (k + 1)))), (6, .int (nI ((5 * i) + k))), (0, .ref (q 0)), (1, .int (nI (8 * bl.length))), (2, .int (nI ((8 * bl.length + 4) / 5))), (3, .int (nI i))]) hx hb d_M_spread_87 hl (k := 6) rfl (nI_add _ 1) (by decide) rfl (fun ls hl => ?_)
          refine lv_goto (tgt := 35) hx hb d_M_spread_90 (by decide) ?_
          exact hnext2 hk1 _ _ _ ⟨rfl, rfl, lv_sub hl [3, 4, 5, 6, 1, 0] rfl⟩
        · refine lv_aload_n hx hb d_M_spread_59 rfl (lv_at hl 1 rfl) ?_
          refine m_get hx hb hts hown hK hP 4 (by decide) tb_130 rfl d_M_spread_60 ?_
          refine lv_iload hx hb d_M_spread_63 (lv_at hl 0 rfl) ?_
          refine lv_bipush (v := nI 8) hx hb d_M_spread_65 (by decide) ?_
          refine lv_idiv hx hb d_M_spread_67 (nI_ne0 (by omega) (by omega)) ?_
          refine r_as (y := nI (((5 * i) + k) / 8)) (pk_div (by omega) (by omega) (by omega)) ?_
          refine r_iald (v := nI (bl.getD ((5 * i + k) / 8) 0)) hx hb hK hP 3 2 rfl rfl (by omega) (by decide) (hB.2.2 _ (by omega)) d_M_spread_68 ?_
          refine lv_bipush (v := nI 7) hx hb d_M_spread_69 (by decide) ?_
          refine lv_iload hx hb d_M_spread_71 (lv_at hl 0 rfl) ?_
          refine lv_bipush (v := nI 8) hx hb d_M_spread_73 (by decide) ?_
          refine lv_irem hx hb d_M_spread_75 (nI_ne0 (by omega) (by omega)) ?_
          refine r_as (y := nI (((5 * i) + k) % 8)) (pk_rem (by omega) (by omega) (by omega)) ?_
          refine lv_isub hx hb d_M_spread_76 ?_
          refine r_as (y := nI (7 - (((5 * i) + k) % 8))) (pk_sub (by omega)) ?_
          refine lv_ishr hx hb d_M_spread_77 ?_
          refine r_as (y := nI ((bl.getD ((5 * i + k) / 8) 0) / 2 ^ (7 - (((5 * i) + k) % 8)))) (ct_shr (by have := hB.lt (show (5 * i + k) / 8 < bl.length by omega); omega) (by omega)) ?_
          refine lv_iconst (v := nI 1) hx hb d_M_spread_78 (by decide) ?_
          refine lv_iand hx hb d_M_spread_79 ?_
          refine r_as (y := nI (((bl.getD ((5 * i + k) / 8) 0) / 2 ^ (7 - (((5 * i) + k) % 8))) % 2)) (ct_a1 _) ?_
          refine lv_goto (tgt := 84) hx hb d_M_spread_80 (by decide) ?_
          refine lv_iadd hx hb d_M_spread_84 ?_
          refine r_as (y := nI (cs_P bl i (k + 1))) ((nI_add _ _).trans (congrArg nI (cs_in hB.2.1 i k hp))) ?_
          refine lv_istore (lv' := [(4, .int (nI (cs_P bl i (k + 1)))), (6, .int (nI ((5 * i) + k))), (0, .ref (q 0)), (1, .int (nI (8 * bl.length))), (2, .int (nI ((8 * bl.length + 4) / 5))), (3, .int (nI i)), (5, .int (nI k))]) hx hb d_M_spread_85 hl (by decide) rfl (fun ls hl => ?_)
          refine lv_iinc (v := nI (k + 1)) (lv' := [(5, .int (nI (k + 1))), (4, .int (nI (cs_P bl i (k + 1)))), (6, .int (nI ((5 * i) + k))), (0, .ref (q 0)), (1, .int (nI (8 * bl.length))), (2, .int (nI ((8 * bl.length + 4) / 5))), (3, .int (nI i))]) hx hb d_M_spread_87 hl (k := 6) rfl (nI_add _ 1) (by decide) rfl (fun ls hl => ?_)
          refine lv_goto (tgt := 35) hx hb d_M_spread_90 (by decide) ?_
          exact hnext2 hk1 _ _ _ ⟨rfl, rfl, lv_sub hl [3, 4, 5, 6, 1, 0] rfl⟩
  · refine lv_iconst (v := -1) hx hb d_M_spread_20 (by decide) ?_
    exact W.iret (v := -1) hx hb hr (fun t1 ht1 hW => ⟨⟨-1, (fh, fd, fb, gl, dl, bl), rfl, ⟨(if_pos hc).symm, rfl, (if_pos hc).symm, rfl, hR⟩, by rw [ht1]; exact hP, va_K.moved hW.alike hK, hD⟩, hS.F ht1⟩) hS.2.2 d_M_spread_21
set_option maxHeartbeats 4000000 in
set_option maxRecDepth 100000 in
/-- gather() -/
theorem c_M_gather (l : Launch) (D : va_G) (q : Nat → Nat) (kk : Nat → ClassId) {fh fd fb : Nat → Int32} {gl dl bl : List Nat} (hR : RM fh fd fb gl dl bl)  (sz : Nat) : Met l y_M_gather (ww y_M_gather b_M_gather 8 (some .int)) ({ frames := 0, cells := 0, slots := 0, locals := 0 } : Room) (va_Pc [.ref (q 0)] (ct_PW D (wM q kk fh fd fb gl.length dl.length bl.length) (tM kk) sz)) (va_Qi (pM (ct_gatA dl) gl dl (ct_gatL dl bl)) (ct_BW D (tM kk) (wMu q kk) (va_A (wM q kk fh fd fb gl.length dl.length bl.length) sz)) (va_A (wM q kk fh fd fb gl.length dl.length bl.length) sz)) 0 0 (va_A (wM q kk fh fd fb gl.length dl.length bl.length) sz) := by
  refine Met.ofW (cc := b_M_gather) (maxL := 8) (ret := (some .int)) (by decide) rfl ?_
  intro p e s m args below meth co s₁ B hml hv0
  obtain ⟨rfl, hsz, hP, hK, hD0⟩ := hv0
  have hx := B.exec
  have hb := B.bytes
  have hr := B.returns
  have hts := fun w0 (h0 : w0 ∈ ct_tb) => atoms_spec (ws := ww y_M_gather b_M_gather 8 (some .int)) B.pre w0 (List.mem_cons_of_mem _ h0)
  have hown : s.vm.findClass R_M = some m.cls := findClass_of_methodNamed B.named
  have hlocks := B.notSynchronized
  subst hsz
  have hD := hD0.self (sz := s.heap.size)
  generalize hAe : va_A (wM q kk fh fd fb gl.length dl.length bl.length) s.heap.size = A at hD ⊢
  have hA : ∀ q : Nat, s.heap.size ≤ q → A q := fun q h => by rw [← hAe]; exact Or.inr h
  have hS : va_S A s.heap s.heap [] := va_S.rf
  have hl := lv_entry ([.ref (q 0)]) (n := 8) (Nat.le_of_ble_eq_true rfl)
  rw [lg_entry_eq]
  generalize (lg_sl ([.ref (q 0)]) ++ List.replicate (8 - (lg_sl ([.ref (q 0)])).length) Slot.unset).toArray = ls at hl ⊢
  have hl : lv_has ls 8 [(0, .ref (q 0))] := hl
  obtain ⟨hH, hDl, hB⟩ := id hR
  have hH1 := hH.1
  have hD1 := hDl.1
  have hB1 := hB.1
  refine lv_iconst (v := nI 5) hx hb d_M_gather_0 (by decide) ?_
  refine lv_aload_n hx hb d_M_gather_1 rfl (lv_at hl 0 rfl) ?_
  refine m_get hx hb hts hown hK hP 3 (by decide) tb_129 rfl d_M_gather_2 ?_
  refine lv_imul hx hb d_M_gather_5 ?_
  refine r_as (y := nI (5 * dl.length)) (pk_mul _ _) ?_
  refine lv_istore_n (lv' := [(1, .int (nI (5 * dl.length))), (0, .ref (q 0))]) hx hb d_M_gather_6 rfl hl (by decide) rfl (fun ls hl => ?_)
  refine lv_iload_n hx hb d_M_gather_7 rfl (lv_at hl 0 rfl) ?_
  refine lv_bipush (v := nI 8) hx hb d_M_gather_8 (by decide) ?_
  refine lv_idiv hx hb d_M_gather_10 (nI_ne0 (by omega) (by omega)) ?_
  refine r_as (y := nI ((5 * dl.length) / 8)) (pk_div (by omega) (by omega) (by omega)) ?_
  refine lv_istore_n (lv' := [(2, .int (nI ((5 * dl.length) / 8))), (1, .int (nI (5 * dl.length))), (0, .ref (q 0))]) hx hb d_M_gather_11 rfl hl (by decide) rfl (fun ls hl => ?_)
  refine lv_iload_n hx hb d_M_gather_12 rfl (lv_at hl 1 rfl) ?_
  refine lv_bipush (v := nI 8) hx hb d_M_gather_13 (by decide) ?_
  refine lv_iload_n hx hb d_M_gather_15 rfl (lv_at hl 0 rfl) ?_
  refine lv_imul hx hb d_M_gather_16 ?_
  refine r_as (y := nI (8 * ((5 * dl.length) / 8))) (pk_mul _ _) ?_
  refine lv_isub hx hb d_M_gather_17 ?_
  refine r_as (y := nI ((5 * dl.length) - (8 * ((5 * dl.length) / 8)))) (pk_sub (by omega)) ?_
  refine lv_istore_n (lv' := [(3, .int (nI ((5 * dl.length) - (8 * ((5 * dl.length) / 8))))), (2, .int (nI ((5 * dl.length) / 8))), (1, .int (nI (5 * dl.length))), (0, .ref (q 0))]) hx hb d_M_gather_18 rfl hl (by decide) rfl (fun ls hl => ?_)
  refine lv_bipush (v := nI 8) hx hb d_M_gather_19 (by decide) ?_
  refine lv_iload_n hx hb d_M_gather_21 rfl (lv_at hl 1 rfl) ?_
  refine lv_imul hx hb d_M_gather_22 ?_
  refine r_as (y := nI (8 * ((5 * dl.length) / 8))) (pk_mul _ _) ?_
  refine lv_istore (lv' := [(4, .int (nI (8 * ((5 * dl.length) / 8)))), (3, .int (nI ((5 * dl.length) - (8 * ((5 * dl.length) / 8))))), (2, .int (nI ((5 * dl.length) / 8))), (1, .int (nI (5 * dl.length))), (0, .ref (q 0))]) hx hb d_M_gather_23 hl (by decide) rfl (fun ls hl => ?_)
  refine r_loop (fun pp ls H2 locs2 => s.heap = H2 ∧ [] = locs2 ∧ 8 * (5 * dl.length / 8) ≤ pp ∧ cg_Z dl pp ∧ lv_has ls 8 [(0, .ref (q 0)), (1, .int (nI (5 * dl.length))), (2, .int (nI (5 * dl.length / 8))), (3, .int (nI (5 * dl.length - 8 * (5 * dl.length / 8)))), (4, .int (nI pp))]) (5 * dl.length) (k0 := 8 * (5 * dl.length / 8)) (by omega) ⟨rfl, rfl, Nat.le_refl _, cg_Z0 dl, lv_sub hl [4, 3, 2, 1, 0] rfl⟩ (fun pp H2 locs2 ls hpp hI hnext => ?_)
  obtain ⟨rfl, rfl, hp8, hz, hl⟩ := hI
  refine lv_iload hx hb d_M_gather_25 (lv_at hl 4 rfl) ?_
  refine lv_iload_n hx hb d_M_gather_27 rfl (lv_at hl 1 rfl) ?_
  refine r_ge (tgt := 60) hx hb d_M_gather_28 (by decide) (by omega) (by omega) (fun hp => ?_) (fun hp => ?_)
  · have ep : pp = 5 * dl.length := by omega
    subst ep
    have hz0 := cg_Ze hz
    refine lv_iload_n hx hb d_M_gather_60 rfl (lv_at hl 3 rfl) ?_
    refine lv_iconst (v := nI 4) hx hb d_M_gather_61 (by decide) ?_
    refine r_gt (tgt := 71) hx hb d_M_gather_62 (by decide) (by omega) (by decide) (fun hc1 => ?_) (fun hc1 => ?_)
    · have hno := cg_no1 (dl := dl) (by omega)
      refine lv_iconst (v := -1) hx hb d_M_gather_71 (by decide) ?_
      exact W.iret (v := -1) hx hb hr (fun t1 ht1 hW => ⟨⟨-1, (fh, fd, fb, gl, dl, bl), rfl, ⟨(if_neg hno).symm, rfl, rfl, (if_neg hno).symm, hR⟩, by rw [ht1]; exact hP, va_K.moved hW.alike hK, hD⟩, hS.F ht1⟩) hS.2.2 d_M_gather_72
    · refine lv_iload_n hx hb d_M_gather_65 rfl (lv_at hl 2 rfl) ?_
      refine lv_bipush (v := nI 40) hx hb d_M_gather_66 (by decide) ?_
      refine r_le (tgt := 73) hx hb d_M_gather_68 (by decide) (by omega) (by decide) (fun hc2 => ?_) (fun hc2 => ?_)
      · have hok := cg_ok (dl := dl) (by omega) hz0
        refine lv_iconst (v := nI 0) hx hb d_M_gather_73 (by decide) ?_
        refine lv_istore (lv' := [(4, .int (nI 0)), (0, .ref (q 0)), (1, .int (nI (5 * dl.length))), (2, .int (nI (5 * dl.length / 8))), (3, .int (nI (5 * dl.length - 8 * (5 * dl.length / 8))))]) hx hb d_M_gather_74 hl (by decide) rfl (fun ls hl => ?_)
        refine r_loop (fun i ls H locs => ∃ (fb : Nat → Int32), (∀ j, j < i → fb j = nI (ct_gatF dl j)) ∧ va_P D ct_cl (wM q kk fh fd fb gl.length dl.length bl.length) H ∧ va_D A (wM q kk fh fd fb gl.length dl.length bl.length) ∧ va_S A s.heap H locs ∧ lv_has ls 8 [(0, .ref (q 0)), (2, .int (nI (5 * dl.length / 8))), (4, .int (nI i))]) (5 * dl.length / 8) (k0 := 0) (Nat.zero_le _) ⟨fb, fun j hj => absurd hj (Nat.not_lt_zero j), hP, hD, hS, lv_sub hl [1, 3, 0] rfl⟩ (fun i H locs ls hi hI hnext3 => ?_)
        obtain ⟨fb, hfb, hP, hD, hS, hl⟩ := hI
        refine lv_iload hx hb d_M_gather_76 (lv_at hl 2 rfl) ?_
        refine lv_iload_n hx hb d_M_gather_78 rfl (lv_at hl 1 rfl) ?_
        refine r_ge (tgt := 151) hx hb d_M_gather_79 (by decide) (by omega) (by omega) (fun hi1 => ?_) (fun hi1 => ?_)
        · have ei : i = 5 * dl.length / 8 := by omega
          subst ei
          refine lv_aload_n hx hb d_M_gather_151 rfl (lv_at hl 0 rfl) ?_
          refine lv_iload_n hx hb d_M_gather_152 rfl (lv_at hl 1 rfl) ?_
          refine m_put hx hb hts hown hK hP hD hS 5 (by decide) tb_131 rfl (by decide +kernel) (Nat.le_of_ble_eq_true rfl) d_M_gather_153 (fun H locs hP hD hS => ?_)
          have hP : va_P D ct_cl (wM q kk fh fd fb gl.length dl.length (5 * dl.length / 8)) H := hP
          have hD : va_D A (wM q kk fh fd fb gl.length dl.length (5 * dl.length / 8)) := hD
          refine lv_iload_n hx hb d_M_gather_156 rfl (lv_at hl 1 rfl) ?_
          have el : (ct_gat dl).length = 5 * dl.length / 8 := ct_lr _ _
          have hP : va_P D ct_cl (wM q kk fh fd fb gl.length dl.length ((ct_gat dl).length)) H := by rw [el]; exact hP
          have hD : va_D A (wM q kk fh fd fb gl.length dl.length ((ct_gat dl).length)) := by rw [el]; exact hD
          exact W.iret (v := nI (5 * dl.length / 8)) hx hb hr (fun t1 ht1 hW => ⟨⟨nI (5 * dl.length / 8), (fh, fd, fb, gl, dl, ct_gat dl), rfl, ⟨(if_pos hok).symm, rfl, rfl, (if_pos hok).symm, hH, hDl, LA.of (by rw [ct_gat, ct_lr]; omega) (fun y hy => by obtain ⟨j, -, rfl⟩ := List.mem_map.mp hy; exact ct_gatF_lt dl j) (fun j hj => by rw [ct_gat, ct_lr] at hj; rw [ct_gat, ct_gr _ hj]; exact hfb j hj)⟩, by rw [ht1]; exact hP, va_K.moved hW.alike hK, hD⟩, hS.F ht1⟩) hS.2.2 d_M_gather_157
        · refine lv_iconst (v := nI 0) hx hb d_M_gather_82 (by decide) ?_
          refine lv_istore (lv' := [(5, .int (nI 0)), (0, .ref (q 0)), (2, .int (nI (5 * dl.length / 8))), (4, .int (nI i))]) hx hb d_M_gather_83 hl (by decide) rfl (fun ls hl => ?_)
          refine lv_iconst (v := nI 0) hx hb d_M_gather_85 (by decide) ?_
          refine lv_istore (lv' := [(6, .int (nI 0)), (5, .int (nI 0)), (0, .ref (q 0)), (2, .int (nI (5 * dl.length / 8))), (4, .int (nI i))]) hx hb d_M_gather_86 hl (by decide) rfl (fun ls hl => ?_)
          refine r_loop (fun k ls H2 locs2 => H = H2 ∧ locs = locs2 ∧ lv_has ls 8 [(0, .ref (q 0)), (2, .int (nI (5 * dl.length / 8))), (4, .int (nI i)), (5, .int (nI (cg_P dl i k))), (6, .int (nI k))]) 8 (k0 := 0) (Nat.zero_le _) ⟨rfl, rfl, by rw [cg_P0]; exact lv_sub hl [2, 3, 4, 1, 0] rfl⟩ (fun k H2 locs2 ls hk hI hnext4 => ?_)
          obtain ⟨rfl, rfl, hl⟩ := hI
          refine lv_iload hx hb d_M_gather_88 (lv_at hl 4 rfl) ?_
          refine lv_bipush (v := nI 8) hx hb d_M_gather_90 (by decide) ?_
          refine r_ge (tgt := 136) hx hb d_M_gather_92 (by decide) (by omega) (by decide) (fun hk1 => ?_) (fun hk1 => ?_)
          · have ek : k = 8 := by omega
            subst ek
            rw [cg_P8] at hl
            refine lv_aload_n hx hb d_M_gather_136 rfl (lv_at hl 0 rfl) ?_
            refine m_get hx hb hts hown hK hP 4 (by decide) tb_130 rfl d_M_gather_137 ?_
            refine lv_iload hx hb d_M_gather_140 (lv_at hl 2 rfl) ?_
            refine lv_iload hx hb d_M_gather_142 (lv_at hl 3 rfl) ?_
            refine r_iast hx hb hK hP hD hS 3 2 rfl rfl (by omega) (by decide) d_M_gather_144 (fun H locs hP hD hS => ?_)
            have hP : va_P D ct_cl (wM q kk fh fd (upd fb i (nI (ct_gatF dl i))) gl.length dl.length bl.length) H := hP
            have hD : va_D A (wM q kk fh fd (upd fb i (nI (ct_gatF dl i))) gl.length dl.length bl.length) := hD
            refine lv_iinc (v := nI (i + 1)) (lv' := [(4, .int (nI (i + 1))), (0, .ref (q 0)), (2, .int (nI (5 * dl.length / 8))), (5, .int (nI (ct_gatF dl i))), (6, .int (nI 8))]) hx hb d_M_gather_145 hl (k := 2) rfl (nI_add _ 1) (by decide) rfl (fun ls hl => ?_)
            refine lv_goto (tgt := 76) hx hb d_M_gather_148 (by decide) ?_
            refine hnext3 hi1 _ _ _ ⟨_, fun j hj => ?_, hP, hD, hS, lv_sub hl [1, 2, 0] rfl⟩
            by_cases ej : j = i
            · rw [ej, pk_us]
            · rw [pk_un ej]
              exact hfb j (by omega)
          · have hp5 : 8 * i + k < 5 * dl.length := by omega
            refine lv_bipush (v := nI 8) hx hb d_M_gather_95 (by decide) ?_
            refine lv_iload hx hb d_M_gather_97 (lv_at hl 2 rfl) ?_
            refine lv_imul hx hb d_M_gather_99 ?_
            refine r_as (y := nI (8 * i)) (pk_mul _ _) ?_
            refine lv_iload hx hb d_M_gather_100 (lv_at hl 4 rfl) ?_
            refine lv_iadd hx hb d_M_gather_102 ?_
            refine r_as (y := nI ((8 * i) + k)) (nI_add _ _) ?_
            refine lv_istore (lv' := [(7, .int (nI ((8 * i) + k))), (0, .ref (q 0)), (2, .int (nI (5 * dl.length / 8))), (4, .int (nI i)), (5, .int (nI (cg_P dl i k))), (6, .int (nI k))]) hx hb d_M_gather_103 hl (by decide) rfl (fun ls hl => ?_)
            refine lv_iconst (v := nI 2) hx hb d_M_gather_105 (by decide) ?_
            refine lv_iload hx hb d_M_gather_106 (lv_at hl 4 rfl) ?_
            refine lv_imul hx hb d_M_gather_108 ?_
            refine r_as (y := nI (2 * (cg_P dl i k))) (pk_mul _ _) ?_
            refine lv_aload_n hx hb d_M_gather_109 rfl (lv_at hl 1 rfl) ?_
            refine m_get hx hb hts hown hK hP 2 (by decide) tb_128 rfl d_M_gather_110 ?_
            refine lv_iload hx hb d_M_gather_113 (lv_at hl 0 rfl) ?_
            refine lv_iconst (v := nI 5) hx hb d_M_gather_115 (by decide) ?_
            refine lv_idiv hx hb d_M_gather_116 (nI_ne0 (by omega) (by omega)) ?_
            refine r_as (y := nI (((8 * i) + k) / 5)) (pk_div (by omega) (by omega) (by omega)) ?_
            refine r_iald (v := nI (dl.getD ((8 * i + k) / 5) 0)) hx hb hK hP 2 1 rfl rfl (by omega) (by decide) (hDl.2.2 _ (by omega)) d_M_gather_117 ?_
            refine lv_iconst (v := nI 4) hx hb d_M_gather_118 (by decide) ?_
            refine lv_iload hx hb d_M_gather_119 (lv_at hl 0 rfl) ?_
            refine lv_iconst (v := nI 5) hx hb d_M_gather_121 (by decide) ?_
            refine lv_irem hx hb d_M_gather_122 (nI_ne0 (by omega) (by omega)) ?_
            refine r_as (y := nI (((8 * i) + k) % 5)) (pk_rem (by omega) (by omega) (by omega)) ?_
            refine lv_isub hx hb d_M_gather_123 ?_
            refine r_as (y := nI (4 - (((8 * i) + k) % 5))) (pk_sub (by omega)) ?_
            refine lv_ishr hx hb d_M_gather_124 ?_
            refine r_as (y := nI ((dl.getD ((8 * i + k) / 5) 0) / 2 ^ (4 - (((8 * i) + k) % 5)))) (ct_shr (by have := hDl.lt (show (8 * i + k) / 5 < dl.length by omega); omega) (by omega)) ?_
            refine lv_iconst (v := nI 1) hx hb d_M_gather_125 (by decide) ?_
            refine lv_iand hx hb d_M_gather_126 ?_
            refine r_as (y := nI (((dl.getD ((8 * i + k) / 5) 0) / 2 ^ (4 - (((8 * i) + k) % 5))) % 2)) (ct_a1 _) ?_
            refine lv_iadd hx hb d_M_gather_127 ?_
            refine r_as (y := nI (cg_P dl i (k + 1))) ((nI_add _ _).trans (congrArg nI (cg_in hDl.2.1 i k hp5))) ?_
            refine lv_istore (lv' := [(5, .int (nI (cg_P dl i (k + 1)))), (7, .int (nI ((8 * i) + k))), (0, .ref (q 0)), (2, .int (nI (5 * dl.length / 8))), (4, .int (nI i)), (6, .int (nI k))]) hx hb d_M_gather_128 hl (by decide) rfl (fun ls hl => ?_)
            refine lv_iinc (v := nI (k + 1)) (lv' := [(6, .int (nI (k + 1))), (5, .int (nI (cg_P dl i (k + 1)))), (7, .int (nI ((8 * i) + k))), (0, .ref (q 0)), (2, .int (nI (5 * dl.length / 8))), (4, .int (nI i))]) hx hb d_M_gather_130 hl (k := 5) rfl (nI_add _ 1) (by decide) rfl (fun ls hl => ?_)
            refine lv_goto (tgt := 88) hx hb d_M_gather_133 (by decide) ?_
            exact hnext4 hk1 _ _ _ ⟨rfl, rfl, lv_sub hl [3, 4, 5, 1, 0] rfl⟩
      · exact absurd hc2 (by omega)
  · refine lv_aload_n hx hb d_M_gather_31 rfl (lv_at hl 0 rfl) ?_
    refine m_get hx hb hts hown hK hP 2 (by decide) tb_128 rfl d_M_gather_32 ?_
    refine lv_iload hx hb d_M_gather_35 (lv_at hl 4 rfl) ?_
    refine lv_iconst (v := nI 5) hx hb d_M_gather_37 (by decide) ?_
    refine lv_idiv hx hb d_M_gather_38 (nI_ne0 (by omega) (by omega)) ?_
    refine r_as (y := nI (pp / 5)) (pk_div (by omega) (by omega) (by omega)) ?_
    refine r_iald (v := nI (dl.getD (pp / 5) 0)) hx hb hK hP 2 1 rfl rfl (by omega) (by decide) (hDl.2.2 _ (by omega)) d_M_gather_39 ?_
    refine lv_iconst (v := nI 4) hx hb d_M_gather_40 (by decide) ?_
    refine lv_iload hx hb d_M_gather_41 (lv_at hl 4 rfl) ?_
    refine lv_iconst (v := nI 5) hx hb d_M_gather_43 (by decide) ?_
    refine lv_irem hx hb d_M_gather_44 (nI_ne0 (by omega) (by omega)) ?_
    refine r_as (y := nI (pp % 5)) (pk_rem (by omega) (by omega) (by omega)) ?_
    refine lv_isub hx hb d_M_gather_45 ?_
    refine r_as (y := nI (4 - (pp % 5))) (pk_sub (by omega)) ?_
    refine lv_ishr hx hb d_M_gather_46 ?_
    refine r_as (y := nI ((dl.getD (pp / 5) 0) / 2 ^ (4 - (pp % 5)))) (ct_shr (by have := hDl.lt (show pp / 5 < dl.length by omega); omega) (by omega)) ?_
    refine lv_iconst (v := nI 1) hx hb d_M_gather_47 (by decide) ?_
    refine lv_iand hx hb d_M_gather_48 ?_
    refine r_as (y := nI (((dl.getD (pp / 5) 0) / 2 ^ (4 - (pp % 5))) % 2)) (ct_a1 _) ?_
    refine r_eq0 (tgt := 54) hx hb d_M_gather_49 (by decide) (by omega) (fun hb0 => ?_) (fun hb0 => ?_)
    · refine lv_iinc (v := nI (pp + 1)) (lv' := [(4, .int (nI (pp + 1))), (0, .ref (q 0)), (1, .int (nI (5 * dl.length))), (2, .int (nI (5 * dl.length / 8))), (3, .int (nI (5 * dl.length - 8 * (5 * dl.length / 8))))]) hx hb d_M_gather_54 hl (k := 4) rfl (nI_add _ 1) (by decide) rfl (fun ls hl => ?_)
      refine lv_goto (tgt := 25) hx hb d_M_gather_57 (by decide) ?_
      exact hnext hp _ _ _ ⟨rfl, rfl, by omega, cg_Zs hDl.2.1 hp8 hp hz hb0, lv_sub hl [1, 2, 3, 4, 0] rfl⟩
    · have hno := cg_no2 (cg_Zn hDl.2.1 hp8 hp hb0)
      refine lv_iconst (v := -1) hx hb d_M_gather_52 (by decide) ?_
      exact W.iret (v := -1) hx hb hr (fun t1 ht1 hW => ⟨⟨-1, (fh, fd, fb, gl, dl, bl), rfl, ⟨(if_neg hno).symm, rfl, rfl, (if_neg hno).symm, hR⟩, by rw [ht1]; exact hP, va_K.moved hW.alike hK, hD⟩, hS.F ht1⟩) hS.2.2 d_M_gather_53
end
section
/-! the two constructors -/
def ct_z : Nat → Int32 := fun _ => 0
def ct_TB (tb : Nat → Int32) (k : Nat) : Prop := ∀ j, j < 32 → (j < k ∨ j = 4 ∨ j = 8 ∨ j = 16) → tb j = nI (ct_T j)
theorem ct_TB3 : ct_TB (upd (upd (upd (upd (upd ct_z 1 (nI 996825010)) 2 (nI 642813549)) 4 (nI 513874426)) 8 (nI 1027748829)) 16 (nI 705979059)) 3 := by
  unfold ct_TB
  decide +kernel
theorem ct_tw : ∀ k, k < 32 → 3 ≤ k → k &&& (k - 1) = 0 → k = 4 ∨ k = 8 ∨ k = 16 := by decide +kernel
theorem ct_t1 : ∀ k, k < 32 → 3 ≤ k → k &&& (k - 1) < k := by decide +kernel
theorem ct_t2 : ∀ k, k < 32 → 3 ≤ k → k ^^^ (k &&& (k - 1)) < 32 ∧ (k ^^^ (k &&& (k - 1)) < k ∨ k ^^^ (k &&& (k - 1)) = 4 ∨ k ^^^ (k &&& (k - 1)) = 8 ∨ k ^^^ (k &&& (k - 1)) = 16) := by decide +kernel
theorem ct_t3 : ∀ k, k < 32 → 3 ≤ k → ct_T (k &&& (k - 1)) ^^^ ct_T (k ^^^ (k &&& (k - 1))) = ct_T k := by decide +kernel
abbrev XI : Type := (Nat → Nat) × (Nat → ClassId) × (Nat → Int32) × XU
abbrev MI : Type := (Nat → Nat) × (Nat → ClassId) × MU
def pXI (o : Nat) (u : XI) : Prop := match u with
  | (q, _, tb, v) => q 0 = o ∧ pX tb (nI 0) [] [] [] (nI 0) v
def pMI (o : Nat) (u : MI) : Prop := match u with
  | (q, _, v) => q 0 = o ∧ pM (nI 0) [] [] [] (nI 0) v
def bXI (D : va_G) (A : Nat → Prop) (u : XI) (t : State) : Prop := match u with
  | (q, kk, tb, v) => va_P D ct_cl (wXu q kk tb v) t.heap ∧ va_K D ct_cl (tX kk) t ∧ va_D A (wXu q kk tb v)
def bMI (D : va_G) (A : Nat → Prop) (u : MI) (t : State) : Prop := match u with
  | (q, kk, v) => va_P D ct_cl (wMu q kk v) t.heap ∧ va_K D ct_cl (tM kk) t ∧ va_D A (wMu q kk v)
set_option maxHeartbeats 4000000 in
set_option maxRecDepth 100000 in
/-- CheckedText(): five arrays, the table filled -/
theorem c_X_init (l : Launch) (D : va_G) (o sz : Nat) : Met l y_X_init (ww y_X_init b_X_init 3 none) ({ frames := 1, cells := 5, slots := 209, locals := 12 } : Room) (va_Pc [.ref o] (ct_PW D [(o, .inr (0, [.null, .null, .null, .null, .int 0, .int 0, .int 0, .null, .int 0]))] [] sz)) (va_Qv (pXI o) (bXI D (va_A [(o, .inr (0, [.null, .null, .null, .null, .int 0, .int 0, .int 0, .null, .int 0]))] sz)) (va_A [(o, .inr (0, [.null, .null, .null, .null, .int 0, .int 0, .int 0, .null, .int 0]))] sz)) 5 209 (va_A [(o, .inr (0, [.null, .null, .null, .null, .int 0, .int 0, .int 0, .null, .int 0]))] sz) := by
  refine Met.ofW (cc := b_X_init) (maxL := 3) (ret := none) (by decide) rfl ?_
  intro p e s m args below meth co s₁ B hml hv0
  obtain ⟨rfl, hsz, hP, hK, hD0⟩ := hv0
  have hx := B.exec
  have hb := B.bytes
  have hr := B.returns
  have hts := fun w0 (h0 : w0 ∈ ct_tb) => atoms_spec (ws := ww y_X_init b_X_init 3 none) B.pre w0 (List.mem_cons_of_mem _ h0)
  have hown : s.vm.findClass R_X = some m.cls := findClass_of_methodNamed B.named
  have hlocks := B.notSynchronized
  have hin : meth.name = "<init>" := (name_of_methodNamed B.named B.method).1
  subst hsz
  have hD := hD0.self (sz := s.heap.size)
  generalize hAe : va_A ([(o, .inr (0, [.null, .null, .null, .null, .int 0, .int 0, .int 0, .null, .int 0]))]) s.heap.size = A at hD ⊢
  have hA : ∀ q : Nat, s.heap.size ≤ q → A q := fun q h => by rw [← hAe]; exact Or.inr h
  have hS : va_S A s.heap s.heap [] := va_S.rf
  have hl := lv_entry ([.ref o]) (n := 3) (Nat.le_of_ble_eq_true rfl)
  rw [lg_entry_eq]
  generalize (lg_sl ([.ref o]) ++ List.replicate (3 - (lg_sl ([.ref o])).length) Slot.unset).toArray = ls at hl ⊢
  have hl : lv_has ls 3 [(0, .ref o)] := hl
  have hP : va_P D ct_cl [(o, .inr (0, [.null, .null, .null, .null, .int 0, .int 0, .int 0, .null, .int 0]))] s.heap := hP
  have hD : va_D A [(o, .inr (0, [.null, .null, .null, .null, .int 0, .int 0, .int 0, .null, .int 0]))] := hD
  have hK : va_K D ct_cl [] s := hK
  refine lv_aload_n hx hb d_X_init_0 rfl (lv_at hl 0 rfl) ?_
  refine W.objInit hx hb hown (hts _ tb_9) (hts _ tb_10) (hts _ tb_11) rfl (by rw [hml]; exact hl.1) rfl d_X_init_1 (Nat.le_of_ble_eq_true rfl) (Nat.le_of_ble_eq_true rfl) ?_
  refine W.eq (g2 := F0 m 4 ls []) rfl ?_
  refine lv_aload_n hx hb d_X_init_4 rfl (lv_at hl 0 rfl) ?_
  refine lv_bipush (v := nI 32) hx hb d_X_init_5 (by decide) ?_
  refine va_newa (atype := .int) (ty := .int) (a0 := (32, .inl ct_z)) (N' := 32) hx hb (hts _ tb_45) rfl hK hP hD hS hA (fun _ => rfl) (by decide) (by decide) (by decide) (Nat.le_of_ble_eq_true rfl) (Nat.le_of_ble_eq_true rfl) d_X_init_7 (fun q1 k1 H hK hP hD hS => ?_)
  have hP : va_P D ct_cl [(o, .inr (0, [.null, .null, .null, .null, .int 0, .int 0, .int 0, .null, .int 0])), (q1, .inl (k1, 32, .inl ct_z))] H := hP
  have hD : va_D A [(o, .inr (0, [.null, .null, .null, .null, .int 0, .int 0, .int 0, .null, .int 0])), (q1, .inl (k1, 32, .inl ct_z))] := hD
  have hK : va_K D ct_cl [(k1, .int)] s := hK
  refine W.widen (k := 1) (n := 32) (by decide) (by decide) ?_
  refine va_putF (D := D) (ci := 0) (v := .ref q1) (ty := .array .int) (C := R_X) (T := F_X) (N := 9) hx hb hts i_X t_X t_X_ok n_X hown hK hP hD hS 0 rfl rfl 0 (by decide) (hts _ tb_17) (fun _ h9 => h9) rfl hin rfl (by decide +kernel) rfl rfl (Nat.le_of_ble_eq_true rfl) d_X_init_9 (fun H locs hP hD hS => ?_)
  have hP : va_P D ct_cl [(o, .inr (0, [.ref q1, .null, .null, .null, .int 0, .int 0, .int 0, .null, .int 0])), (q1, .inl (k1, 32, .inl ct_z))] H := hP
  have hD : va_D A [(o, .inr (0, [.ref q1, .null, .null, .null, .int 0, .int 0, .int 0, .null, .int 0])), (q1, .inl (k1, 32, .inl ct_z))] := hD
  refine lv_aload_n hx hb d_X_init_12 rfl (lv_at hl 0 rfl) ?_
  refine lv_bipush (v := nI 8) hx hb d_X_init_13 (by decide) ?_
  refine va_newa (atype := .byte) (ty := .byte) (a0 := (8, .inl ct_z)) (N' := 8) hx hb (hts _ tb_46) rfl hK hP hD hS hA (fun _ => rfl) (by decide) (by decide) (by decide) (Nat.le_of_ble_eq_true rfl) (Nat.le_of_ble_eq_true rfl) d_X_init_15 (fun q2 k2 H hK hP hD hS => ?_)
  have hP : va_P D ct_cl [(o, .inr (0, [.ref q1, .null, .null, .null, .int 0, .int 0, .int 0, .null, .int 0])), (q1, .inl (k1, 32, .inl ct_z)), (q2, .inl (k2, 8, .inl ct_z))] H := hP
  have hD : va_D A [(o, .inr (0, [.ref q1, .null, .null, .null, .int 0, .int 0, .int 0, .null, .int 0])), (q1, .inl (k1, 32, .inl ct_z)), (q2, .inl (k2, 8, .inl ct_z))] := hD
  have hK : va_K D ct_cl [(k1, .int), (k2, .byte)] s := hK
  refine W.widen (k := 2) (n := 40) (by decide) (by decide) ?_
  refine va_putF (D := D) (ci := 0) (v := .ref q2) (ty := .array .byte) (C := R_X) (T := F_X) (N := 9) hx hb hts i_X t_X t_X_ok n_X hown hK hP hD hS 0 rfl rfl 1 (by decide) (hts _ tb_18) (fun _ h9 => h9) rfl hin rfl (by decide +kernel) rfl rfl (Nat.le_of_ble_eq_true rfl) d_X_init_17 (fun H locs hP hD hS => ?_)
  have hP : va_P D ct_cl [(o, .inr (0, [.ref q1, .ref q2, .null, .null, .int 0, .int 0, .int 0, .null, .int 0])), (q1, .inl (k1, 32, .inl ct_z)), (q2, .inl (k2, 8, .inl ct_z))] H := hP
  have hD : va_D A [(o, .inr (0, [.ref q1, .ref q2, .null, .null, .int 0, .int 0, .int 0, .null, .int 0])), (q1, .inl (k1, 32, .inl ct_z)), (q2, .inl (k2, 8, .inl ct_z))] := hD
  refine lv_aload_n hx hb d_X_init_20 rfl (lv_at hl 0 rfl) ?_
  refine lv_bipush (v := nI 64) hx hb d_X_init_21 (by decide) ?_
  refine va_newa (atype := .byte) (ty := .byte) (a0 := (64, .inl ct_z)) (N' := 64) hx hb (hts _ tb_46) rfl hK hP hD hS hA (fun _ => rfl) (by decide) (by decide) (by decide) (Nat.le_of_ble_eq_true rfl) (Nat.le_of_ble_eq_true rfl) d_X_init_23 (fun q3 k3 H hK hP hD hS => ?_)
  have hP : va_P D ct_cl [(o, .inr (0, [.ref q1, .ref q2, .null, .null, .int 0, .int 0, .int 0, .null, .int 0])), (q1, .inl (k1, 32, .inl ct_z)), (q2, .inl (k2, 8, .inl ct_z)), (q3, .inl (k3, 64, .inl ct_z))] H := hP
  have hD : va_D A [(o, .inr (0, [.ref q1, .ref q2, .null, .null, .int 0, .int 0, .int 0, .null, .int 0])), (q1, .inl (k1, 32, .inl ct_z)), (q2, .inl (k2, 8, .inl ct_z)), (q3, .inl (k3, 64, .inl ct_z))] := hD
  have hK : va_K D ct_cl [(k1, .int), (k2, .byte), (k3, .byte)] s := hK
  refine W.widen (k := 3) (n := 104) (by decide) (by decide) ?_
  refine va_putF (D := D) (ci := 0) (v := .ref q3) (ty := .array .byte) (C := R_X) (T := F_X) (N := 9) hx hb hts i_X t_X t_X_ok n_X hown hK hP hD hS 0 rfl rfl 2 (by decide) (hts _ tb_19) (fun _ h9 => h9) rfl hin rfl (by decide +kernel) rfl rfl (Nat.le_of_ble_eq_true rfl) d_X_init_25 (fun H locs hP hD hS => ?_)
  have hP : va_P D ct_cl [(o, .inr (0, [.ref q1, .ref q2, .ref q3, .null, .int 0, .int 0, .int 0, .null, .int 0])), (q1, .inl (k1, 32, .inl ct_z)), (q2, .inl (k2, 8, .inl ct_z)), (q3, .inl (k3, 64, .inl ct_z))] H := hP
  have hD : va_D A [(o, .inr (0, [.ref q1, .ref q2, .ref q3, .null, .int 0, .int 0, .int 0, .null, .int 0])), (q1, .inl (k1, 32, .inl ct_z)), (q2, .inl (k2, 8, .inl ct_z)), (q3, .inl (k3, 64, .inl ct_z))] := hD
  refine lv_aload_n hx hb d_X_init_28 rfl (lv_at hl 0 rfl) ?_
  refine lv_bipush (v := nI 40) hx hb d_X_init_29 (by decide) ?_
  refine va_newa (atype := .byte) (ty := .byte) (a0 := (40, .inl ct_z)) (N' := 40) hx hb (hts _ tb_46) rfl hK hP hD hS hA (fun _ => rfl) (by decide) (by decide) (by decide) (Nat.le_of_ble_eq_true rfl) (Nat.le_of_ble_eq_true rfl) d_X_init_31 (fun q4 k4 H hK hP hD hS => ?_)
  have hP : va_P D ct_cl [(o, .inr (0, [.ref q1, .ref q2, .ref q3, .null, .int 0, .int 0, .int 0, .null, .int 0])), (q1, .inl (k1, 32, .inl ct_z)), (q2, .inl (k2, 8, .inl ct_z)), (q3, .inl (k3, 64, .inl ct_z)), (q4, .inl (k4, 40, .inl ct_z))] H := hP
  have hD : va_D A [(o, .inr (0, [.ref q1, .ref q2, .ref q3, .null, .int 0, .int 0, .int 0, .null, .int 0])), (q1, .inl (k1, 32, .inl ct_z)), (q2, .inl (k2, 8, .inl ct_z)), (q3, .inl (k3, 64, .inl ct_z)), (q4, .inl (k4, 40, .inl ct_z))] := hD
  have hK : va_K D ct_cl [(k1, .int), (k2, .byte), (k3, .byte), (k4, .byte)] s := hK
  refine W.widen (k := 4) (n := 144) (by decide) (by decide) ?_
  refine va_putF (D := D) (ci := 0) (v := .ref q4) (ty := .array .byte) (C := R_X) (T := F_X) (N := 9) hx hb hts i_X t_X t_X_ok n_X hown hK hP hD hS 0 rfl rfl 3 (by decide) (hts _ tb_20) (fun _ h9 => h9) rfl hin rfl (by decide +kernel) rfl rfl (Nat.le_of_ble_eq_true rfl) d_X_init_33 (fun H locs hP hD hS => ?_)
  have hP : va_P D ct_cl [(o, .inr (0, [.ref q1, .ref q2, .ref q3, .ref q4, .int 0, .int 0, .int 0, .null, .int 0])), (q1, .inl (k1, 32, .inl ct_z)), (q2, .inl (k2, 8, .inl ct_z)), (q3, .inl (k3, 64, .inl ct_z)), (q4, .inl (k4, 40, .inl ct_z))] H := hP
  have hD : va_D A [(o, .inr (0, [.ref q1, .ref q2, .ref q3, .ref q4, .int 0, .int 0, .int 0, .null, .int 0])), (q1, .inl (k1, 32, .inl ct_z)), (q2, .inl (k2, 8, .inl ct_z)), (q3, .inl (k3, 64, .inl ct_z)), (q4, .inl (k4, 40, .inl ct_z))] := hD
  refine lv_aload_n hx hb d_X_init_36 rfl (lv_at hl 0 rfl) ?_
  refine lv_bipush (v := nI 65) hx hb d_X_init_37 (by decide) ?_
  refine va_newa (atype := .int) (ty := .int) (a0 := (65, .inl ct_z)) (N' := 65) hx hb (hts _ tb_45) rfl hK hP hD hS hA (fun _ => rfl) (by decide) (by decide) (by decide) (Nat.le_of_ble_eq_true rfl) (Nat.le_of_ble_eq_true rfl) d_X_init_39 (fun q5 k5 H hK hP hD hS => ?_)
  have hP : va_P D ct_cl [(o, .inr (0, [.ref q1, .ref q2, .ref q3, .ref q4, .int 0, .int 0, .int 0, .null, .int 0])), (q1, .inl (k1, 32, .inl ct_z)), (q2, .inl (k2, 8, .inl ct_z)), (q3, .inl (k3, 64, .inl ct_z)), (q4, .inl (k4, 40, .inl ct_z)), (q5, .inl (k5, 65, .inl ct_z))] H := hP
  have hD : va_D A [(o, .inr (0, [.ref q1, .ref q2, .ref q3, .ref q4, .int 0, .int 0, .int 0, .null, .int 0])), (q1, .inl (k1, 32, .inl ct_z)), (q2, .inl (k2, 8, .inl ct_z)), (q3, .inl (k3, 64, .inl ct_z)), (q4, .inl (k4, 40, .inl ct_z)), (q5, .inl (k5, 65, .inl ct_z))] := hD
  have hK : va_K D ct_cl [(k1, .int), (k2, .byte), (k3, .byte), (k4, .byte), (k5, .int)] s := hK
  refine W.widen (k := 5) (n := 209) (by decide) (by decide) ?_
  refine va_putF (D := D) (ci := 0) (v := .ref q5) (ty := .array .int) (C := R_X) (T := F_X) (N := 9) hx hb hts i_X t_X t_X_ok n_X hown hK hP hD hS 0 rfl rfl 7 (by decide) (hts _ tb_24) (fun _ h9 => h9) rfl hin rfl (by decide +kernel) rfl rfl (Nat.le_of_ble_eq_true rfl) d_X_init_41 (fun H locs hP hD hS => ?_)
  have hP : va_P D ct_cl [(o, .inr (0, [.ref q1, .ref q2, .ref q3, .ref q4, .int 0, .int 0, .int 0, .ref q5, .int 0])), (q1, .inl (k1, 32, .inl ct_z)), (q2, .inl (k2, 8, .inl ct_z)), (q3, .inl (k3, 64, .inl ct_z)), (q4, .inl (k4, 40, .inl ct_z)), (q5, .inl (k5, 65, .inl ct_z))] H := hP
  have hD : va_D A [(o, .inr (0, [.ref q1, .ref q2, .ref q3, .ref q4, .int 0, .int 0, .int 0, .ref q5, .int 0])), (q1, .inl (k1, 32, .inl ct_z)), (q2, .inl (k2, 8, .inl ct_z)), (q3, .inl (k3, 64, .inl ct_z)), (q4, .inl (k4, 40, .inl ct_z)), (q5, .inl (k5, 65, .inl ct_z))] := hD
  obtain ⟨q, e0, e1, e2, e3, e4, e5⟩ : ∃ q : Nat → Nat, q 0 = o ∧ q 1 = q1 ∧ q 2 = q2 ∧ q 3 = q3 ∧ q 4 = q4 ∧ q 5 = q5 := ⟨fun i => [o, q1, q2, q3, q4, q5].getD i 0, rfl, rfl, rfl, rfl, rfl, rfl⟩
  obtain ⟨kk, c1, c2, c3, c4, c5⟩ : ∃ kk : Nat → ClassId, kk 1 = k1 ∧ kk 2 = k2 ∧ kk 3 = k3 ∧ kk 4 = k4 ∧ kk 5 = k5 := ⟨fun i => [k1, k1, k2, k3, k4, k5].getD i k1, rfl, rfl, rfl, rfl, rfl⟩
  subst e0 e1 e2 e3 e4 e5 c1 c2 c3 c4 c5
  have hP : va_P D ct_cl (wX q kk ct_z ct_z ct_z ct_z ct_z 0 0 0 0) H := hP
  have hD : va_D A (wX q kk ct_z ct_z ct_z ct_z ct_z 0 0 0 0) := hD
  have hK : va_K D ct_cl (tX kk) s := hK
  have hl : lv_has ls 3 [(0, .ref (q 0))] := hl
  refine lv_aload_n hx hb d_X_init_44 rfl (lv_at hl 0 rfl) ?_
  refine lv_iconst (v := -1) hx hb d_X_init_45 (by decide) ?_
  refine x_put hx hb hts hown hK hP hD hS 8 (by decide) tb_25 rfl (by decide +kernel) (Nat.le_of_ble_eq_true rfl) d_X_init_46 (fun H locs hP hD hS => ?_)
  have hP : va_P D ct_cl (wX q kk ct_z ct_z ct_z ct_z ct_z 0 0 0 (-1)) H := hP
  have hD : va_D A (wX q kk ct_z ct_z ct_z ct_z ct_z 0 0 0 (-1)) := hD
  refine lv_aload_n hx hb d_X_init_49 rfl (lv_at hl 0 rfl) ?_
  refine x_get hx hb hts hown hK hP 0 (by decide) tb_17 rfl d_X_init_50 ?_
  refine lv_iconst (v := nI 1) hx hb d_X_init_53 (by decide) ?_
  refine lv_ldc hx hb hown (hts _ tb_12) d_X_init_54 ?_
  refine r_as (y := nI 996825010) (by decide) ?_
  refine r_iast hx hb hK hP hD hS 1 0 rfl rfl (by decide) (by decide) d_X_init_56 (fun H locs hP hD hS => ?_)
  have hP : va_P D ct_cl (wX q kk (upd ct_z 1 (nI 996825010)) ct_z ct_z ct_z ct_z 0 0 0 (-1)) H := hP
  have hD : va_D A (wX q kk (upd ct_z 1 (nI 996825010)) ct_z ct_z ct_z ct_z 0 0 0 (-1)) := hD
  refine lv_aload_n hx hb d_X_init_57 rfl (lv_at hl 0 rfl) ?_
  refine x_get hx hb hts hown hK hP 0 (by decide) tb_17 rfl d_X_init_58 ?_
  refine lv_iconst (v := nI 2) hx hb d_X_init_61 (by decide) ?_
  refine lv_ldc hx hb hown (hts _ tb_13) d_X_init_62 ?_
  refine r_as (y := nI 642813549) (by decide) ?_
  refine r_iast hx hb hK hP hD hS 1 0 rfl rfl (by decide) (by decide) d_X_init_64 (fun H locs hP hD hS => ?_)
  have hP : va_P D ct_cl (wX q kk (upd (upd ct_z 1 (nI 996825010)) 2 (nI 642813549)) ct_z ct_z ct_z ct_z 0 0 0 (-1)) H := hP
  have hD : va_D A (wX q kk (upd (upd ct_z 1 (nI 996825010)) 2 (nI 642813549)) ct_z ct_z ct_z ct_z 0 0 0 (-1)) := hD
  refine lv_aload_n hx hb d_X_init_65 rfl (lv_at hl 0 rfl) ?_
  refine x_get hx hb hts hown hK hP 0 (by decide) tb_17 rfl d_X_init_66 ?_
  refine lv_iconst (v := nI 4) hx hb d_X_init_69 (by decide) ?_
  refine lv_ldc hx hb hown (hts _ tb_14) d_X_init_70 ?_
  refine r_as (y := nI 513874426) (by decide) ?_
  refine r_iast hx hb hK hP hD hS 1 0 rfl rfl (by decide) (by decide) d_X_init_72 (fun H locs hP hD hS => ?_)
  have hP : va_P D ct_cl (wX q kk (upd (upd (upd ct_z 1 (nI 996825010)) 2 (nI 642813549)) 4 (nI 513874426)) ct_z ct_z ct_z ct_z 0 0 0 (-1)) H := hP
  have hD : va_D A (wX q kk (upd (upd (upd ct_z 1 (nI 996825010)) 2 (nI 642813549)) 4 (nI 513874426)) ct_z ct_z ct_z ct_z 0 0 0 (-1)) := hD
  refine lv_aload_n hx hb d_X_init_73 rfl (lv_at hl 0 rfl) ?_
  refine x_get hx hb hts hown hK hP 0 (by decide) tb_17 rfl d_X_init_74 ?_
  refine lv_bipush (v := nI 8) hx hb d_X_init_77 (by decide) ?_
  refine lv_ldc hx hb hown (hts _ tb_15) d_X_init_79 ?_
  refine r_as (y := nI 1027748829) (by decide) ?_
  refine r_iast hx hb hK hP hD hS 1 0 rfl rfl (by decide) (by decide) d_X_init_81 (fun H locs hP hD hS => ?_)
  have hP : va_P D ct_cl (wX q kk (upd (upd (upd (upd ct_z 1 (nI 996825010)) 2 (nI 642813549)) 4 (nI 513874426)) 8 (nI 1027748829)) ct_z ct_z ct_z ct_z 0 0 0 (-1)) H := hP
  have hD : va_D A (wX q kk (upd (upd (upd (upd ct_z 1 (nI 996825010)) 2 (nI 642813549)) 4 (nI 513874426)) 8 (nI 1027748829)) ct_z ct_z ct_z ct_z 0 0 0 (-1)) := hD
  refine lv_aload_n hx hb d_X_init_82 rfl (lv_at hl 0 rfl) ?_
  refine x_get hx hb hts hown hK hP 0 (by decide) tb_17 rfl d_X_init_83 ?_
  refine lv_bipush (v := nI 16) hx hb d_X_init_86 (by decide) ?_
  refine lv_ldc hx hb hown (hts _ tb_16) d_X_init_88 ?_
  refine r_as (y := nI 705979059) (by decide) ?_
  refine r_iast hx hb hK hP hD hS 1 0 rfl rfl (by decide) (by decide) d_X_init_90 (fun H locs hP hD hS => ?_)
  have hP : va_P D ct_cl (wX q kk (upd (upd (upd (upd (upd ct_z 1 (nI 996825010)) 2 (nI 642813549)) 4 (nI 513874426)) 8 (nI 1027748829)) 16 (nI 705979059)) ct_z ct_z ct_z ct_z 0 0 0 (-1)) H := hP
  have hD : va_D A (wX q kk (upd (upd (upd (upd (upd ct_z 1 (nI 996825010)) 2 (nI 642813549)) 4 (nI 513874426)) 8 (nI 1027748829)) 16 (nI 705979059)) ct_z ct_z ct_z ct_z 0 0 0 (-1)) := hD
  refine lv_iconst (v := nI 3) hx hb d_X_init_91 (by decide) ?_
  refine lv_istore_n (lv' := [(1, .int (nI 3)), (0, .ref (q 0))]) hx hb d_X_init_92 rfl hl (by decide) rfl (fun ls hl => ?_)
  refine r_loop (fun k ls H locs => 3 ≤ k ∧ ∃ (tb : Nat → Int32), ct_TB tb k ∧ va_P D ct_cl (wX q kk tb ct_z ct_z ct_z ct_z 0 0 0 (-1)) H ∧ va_D A (wX q kk tb ct_z ct_z ct_z ct_z 0 0 0 (-1)) ∧ va_S A s.heap H locs ∧ lv_has ls 3 [(0, .ref (q 0)), (1, .int (nI k))]) 32 (k0 := 3) (by decide) ⟨Nat.le_refl _, _, ct_TB3, hP, hD, hS, lv_sub hl [1, 0] rfl⟩ (fun k H locs ls hk hI hnext => ?_)
  obtain ⟨hk3, tb, hT, hP, hD, hS, hl⟩ := hI
  refine lv_iload_n hx hb d_X_init_93 rfl (lv_at hl 1 rfl) ?_
  refine lv_bipush (v := nI 32) hx hb d_X_init_94 (by decide) ?_
  refine r_ge (tgt := 136) hx hb d_X_init_96 (by decide) (by omega) (by decide) (fun hc => ?_) (fun hc => ?_)
  · have ek : k = 32 := by omega
    subst ek
    exact W.vret hx hb hr (fun t1 ht1 hW => ⟨⟨(q, kk, tb, (ct_z, ct_z, ct_z, ct_z, -1, [], [], [])), rfl, ⟨rfl, rfl, rfl, rfl, rfl, fun j hj => hT j hj (Or.inl hj), LA.nil, LA.nil, LA.nil, KN.no⟩, by rw [ht1]; exact hP, va_K.moved hW.alike hK, hD⟩, hS.F ht1⟩) hS.2.2 d_X_init_136
  · have ht1 := ct_t1 k hc hk3
    refine lv_iload_n hx hb d_X_init_99 rfl (lv_at hl 1 rfl) ?_
    refine lv_iload_n hx hb d_X_init_100 rfl (lv_at hl 1 rfl) ?_
    refine lv_iconst (v := nI 1) hx hb d_X_init_101 (by decide) ?_
    refine lv_isub hx hb d_X_init_102 ?_
    refine r_as (y := nI (k - 1)) (pk_sub (by omega)) ?_
    refine lv_iand hx hb d_X_init_103 ?_
    refine r_as (y := nI (k &&& (k - 1))) (nx_and _ _) ?_
    refine lv_istore_n (lv' := [(2, .int (nI (k &&& (k - 1)))), (0, .ref (q 0)), (1, .int (nI k))]) hx hb d_X_init_104 rfl hl (by decide) rfl (fun ls hl => ?_)
    refine lv_iload_n hx hb d_X_init_105 rfl (lv_at hl 0 rfl) ?_
    refine r_eq0 (tgt := 130) hx hb d_X_init_106 (by decide) (by omega) (fun h0 => ?_) (fun h0 => ?_)
    · have h3 := ct_tw k hc hk3 h0
      refine lv_iinc (v := nI (k + 1)) (lv' := [(1, .int (nI (k + 1))), (2, .int (nI (k &&& (k - 1)))), (0, .ref (q 0))]) hx hb d_X_init_130 hl (k := 2) rfl (nI_add _ 1) (by decide) rfl (fun ls hl => ?_)
      refine lv_goto (tgt := 93) hx hb d_X_init_133 (by decide) ?_
      exact hnext hc _ _ _ ⟨by omega, tb, fun j hj h => hT j hj (by omega), hP, hD, hS, lv_sub hl [2, 0] rfl⟩
    · have ht2 := ct_t2 k hc hk3
      refine lv_aload_n hx hb d_X_init_109 rfl (lv_at hl 1 rfl) ?_
      refine x_get hx hb hts hown hK hP 0 (by decide) tb_17 rfl d_X_init_110 ?_
      refine lv_iload_n hx hb d_X_init_113 rfl (lv_at hl 2 rfl) ?_
      refine lv_aload_n hx hb d_X_init_114 rfl (lv_at hl 1 rfl) ?_
      refine x_get hx hb hts hown hK hP 0 (by decide) tb_17 rfl d_X_init_115 ?_
      refine lv_iload_n hx hb d_X_init_118 rfl (lv_at hl 0 rfl) ?_
      refine r_iald (v := nI (ct_T (k &&& (k - 1)))) hx hb hK hP 1 0 rfl rfl (by omega) (by decide) (hT _ (by omega) (Or.inl ht1)) d_X_init_119 ?_
      refine lv_aload_n hx hb d_X_init_120 rfl (lv_at hl 1 rfl) ?_
      refine x_get hx hb hts hown hK hP 0 (by decide) tb_17 rfl d_X_init_121 ?_
      refine lv_iload_n hx hb d_X_init_124 rfl (lv_at hl 2 rfl) ?_
      refine lv_iload_n hx hb d_X_init_125 rfl (lv_at hl 0 rfl) ?_
      refine lv_ixor hx hb d_X_init_126 ?_
      refine r_as (y := nI (k ^^^ (k &&& (k - 1)))) (nx_xor _ _) ?_
      refine r_iald (v := nI (ct_T (k ^^^ (k &&& (k - 1))))) hx hb hK hP 1 0 rfl rfl (ht2.1) (by decide) (hT _ ht2.1 ht2.2) d_X_init_127 ?_
      refine lv_ixor hx hb d_X_init_128 ?_
      refine r_as (y := nI (ct_T k)) ((nx_xor _ _).trans (congrArg nI (ct_t3 k hc hk3))) ?_
      refine r_iast hx hb hK hP hD hS 1 0 rfl rfl (hc) (by decide) d_X_init_129 (fun H locs hP hD hS => ?_)
      have hP : va_P D ct_cl (wX q kk (upd tb k (nI (ct_T k))) ct_z ct_z ct_z ct_z 0 0 0 (-1)) H := hP
      have hD : va_D A (wX q kk (upd tb k (nI (ct_T k))) ct_z ct_z ct_z ct_z 0 0 0 (-1)) := hD
      refine lv_iinc (v := nI (k + 1)) (lv' := [(1, .int (nI (k + 1))), (2, .int (nI (k &&& (k - 1)))), (0, .ref (q 0))]) hx hb d_X_init_130 hl (k := 2) rfl (nI_add _ 1) (by decide) rfl (fun ls hl => ?_)
      refine lv_goto (tgt := 93) hx hb d_X_init_133 (by decide) ?_
      refine hnext hc _ _ _ ⟨by omega, _, fun j hj h => ?_, hP, hD, hS, lv_sub hl [2, 0] rfl⟩
      by_cases ej : j = k
      · rw [ej, pk_us]
      · rw [pk_un ej]
        exact hT j hj (by omega)
set_option maxHeartbeats 4000000 in
set_option maxRecDepth 100000 in
/-- CheckedTextModel(): three arrays -/
theorem c_M_init (l : Launch) (D : va_G) (o sz : Nat) : Met l y_M_init (ww y_M_init b_M_init 1 none) ({ frames := 1, cells := 3, slots := 112, locals := 12 } : Room) (va_Pc [.ref o] (ct_PW D [(o, .inr (1, [.null, .int 0, .null, .int 0, .null, .int 0]))] [] sz)) (va_Qv (pMI o) (bMI D (va_A [(o, .inr (1, [.null, .int 0, .null, .int 0, .null, .int 0]))] sz)) (va_A [(o, .inr (1, [.null, .int 0, .null, .int 0, .null, .int 0]))] sz)) 3 112 (va_A [(o, .inr (1, [.null, .int 0, .null, .int 0, .null, .int 0]))] sz) := by
  refine Met.ofW (cc := b_M_init) (maxL := 1) (ret := none) (by decide) rfl ?_
  intro p e s m args below meth co s₁ B hml hv0
  obtain ⟨rfl, hsz, hP, hK, hD0⟩ := hv0
  have hx := B.exec
  have hb := B.bytes
  have hr := B.returns
  have hts := fun w0 (h0 : w0 ∈ ct_tb) => atoms_spec (ws := ww y_M_init b_M_init 1 none) B.pre w0 (List.mem_cons_of_mem _ h0)
  have hown : s.vm.findClass R_M = some m.cls := findClass_of_methodNamed B.named
  have hlocks := B.notSynchronized
  have hin : meth.name = "<init>" := (name_of_methodNamed B.named B.method).1
  subst hsz
  have hD := hD0.self (sz := s.heap.size)
  generalize hAe : va_A ([(o, .inr (1, [.null, .int 0, .null, .int 0, .null, .int 0]))]) s.heap.size = A at hD ⊢
  have hA : ∀ q : Nat, s.heap.size ≤ q → A q := fun q h => by rw [← hAe]; exact Or.inr h
  have hS : va_S A s.heap s.heap [] := va_S.rf
  have hl := lv_entry ([.ref o]) (n := 1) (Nat.le_of_ble_eq_true rfl)
  rw [lg_entry_eq]
  generalize (lg_sl ([.ref o]) ++ List.replicate (1 - (lg_sl ([.ref o])).length) Slot.unset).toArray = ls at hl ⊢
  have hl : lv_has ls 1 [(0, .ref o)] := hl
  have hP : va_P D ct_cl [(o, .inr (1, [.null, .int 0, .null, .int 0, .null, .int 0]))] s.heap := hP
  have hD : va_D A [(o, .inr (1, [.null, .int 0, .null, .int 0, .null, .int 0]))] := hD
  have hK : va_K D ct_cl [] s := hK
  refine lv_aload_n hx hb d_M_init_0 rfl (lv_at hl 0 rfl) ?_
  refine W.objInit hx hb hown (hts _ tb_125) (hts _ tb_10) (hts _ tb_11) rfl (by rw [hml]; exact hl.1) rfl d_M_init_1 (Nat.le_of_ble_eq_true rfl) (Nat.le_of_ble_eq_true rfl) ?_
  refine W.eq (g2 := F0 m 4 ls []) rfl ?_
  refine lv_aload_n hx hb d_M_init_4 rfl (lv_at hl 0 rfl) ?_
  refine lv_bipush (v := nI 8) hx hb d_M_init_5 (by decide) ?_
  refine va_newa (atype := .int) (ty := .int) (a0 := (8, .inl ct_z)) (N' := 8) hx hb (hts _ tb_45) rfl hK hP hD hS hA (fun _ => rfl) (by decide) (by decide) (by decide) (Nat.le_of_ble_eq_true rfl) (Nat.le_of_ble_eq_true rfl) d_M_init_7 (fun q1 k1 H hK hP hD hS => ?_)
  have hP : va_P D ct_cl [(o, .inr (1, [.null, .int 0, .null, .int 0, .null, .int 0])), (q1, .inl (k1, 8, .inl ct_z))] H := hP
  have hD : va_D A [(o, .inr (1, [.null, .int 0, .null, .int 0, .null, .int 0])), (q1, .inl (k1, 8, .inl ct_z))] := hD
  have hK : va_K D ct_cl [(k1, .int)] s := hK
  refine W.widen (k := 1) (n := 8) (by decide) (by decide) ?_
  refine va_putF (D := D) (ci := 1) (v := .ref q1) (ty := .array .int) (C := R_M) (T := F_M) (N := 6) hx hb hts i_M t_M t_M_ok n_M hown hK hP hD hS 0 rfl rfl 0 (by decide) (hts _ tb_126) (fun _ h9 => h9) rfl hin rfl (by decide +kernel) rfl rfl (Nat.le_of_ble_eq_true rfl) d_M_init_9 (fun H locs hP hD hS => ?_)
  have hP : va_P D ct_cl [(o, .inr (1, [.ref q1, .int 0, .null, .int 0, .null, .int 0])), (q1, .inl (k1, 8, .inl ct_z))] H := hP
  have hD : va_D A [(o, .inr (1, [.ref q1, .int 0, .null, .int 0, .null, .int 0])), (q1, .inl (k1, 8, .inl ct_z))] := hD
  refine lv_aload_n hx hb d_M_init_12 rfl (lv_at hl 0 rfl) ?_
  refine lv_bipush (v := nI 64) hx hb d_M_init_13 (by decide) ?_
  refine va_newa (atype := .int) (ty := .int) (a0 := (64, .inl ct_z)) (N' := 64) hx hb (hts _ tb_45) rfl hK hP hD hS hA (fun _ => rfl) (by decide) (by decide) (by decide) (Nat.le_of_ble_eq_true rfl) (Nat.le_of_ble_eq_true rfl) d_M_init_15 (fun q2 k2 H hK hP hD hS => ?_)
  have hP : va_P D ct_cl [(o, .inr (1, [.ref q1, .int 0, .null, .int 0, .null, .int 0])), (q1, .inl (k1, 8, .inl ct_z)), (q2, .inl (k2, 64, .inl ct_z))] H := hP
  have hD : va_D A [(o, .inr (1, [.ref q1, .int 0, .null, .int 0, .null, .int 0])), (q1, .inl (k1, 8, .inl ct_z)), (q2, .inl (k2, 64, .inl ct_z))] := hD
  have hK : va_K D ct_cl [(k1, .int), (k2, .int)] s := hK
  refine W.widen (k := 2) (n := 72) (by decide) (by decide) ?_
  refine va_putF (D := D) (ci := 1) (v := .ref q2) (ty := .array .int) (C := R_M) (T := F_M) (N := 6) hx hb hts i_M t_M t_M_ok n_M hown hK hP hD hS 0 rfl rfl 2 (by decide) (hts _ tb_128) (fun _ h9 => h9) rfl hin rfl (by decide +kernel) rfl rfl (Nat.le_of_ble_eq_true rfl) d_M_init_17 (fun H locs hP hD hS => ?_)
  have hP : va_P D ct_cl [(o, .inr (1, [.ref q1, .int 0, .ref q2, .int 0, .null, .int 0])), (q1, .inl (k1, 8, .inl ct_z)), (q2, .inl (k2, 64, .inl ct_z))] H := hP
  have hD : va_D A [(o, .inr (1, [.ref q1, .int 0, .ref q2, .int 0, .null, .int 0])), (q1, .inl (k1, 8, .inl ct_z)), (q2, .inl (k2, 64, .inl ct_z))] := hD
  refine lv_aload_n hx hb d_M_init_20 rfl (lv_at hl 0 rfl) ?_
  refine lv_bipush (v := nI 40) hx hb d_M_init_21 (by decide) ?_
  refine va_newa (atype := .int) (ty := .int) (a0 := (40, .inl ct_z)) (N' := 40) hx hb (hts _ tb_45) rfl hK hP hD hS hA (fun _ => rfl) (by decide) (by decide) (by decide) (Nat.le_of_ble_eq_true rfl) (Nat.le_of_ble_eq_true rfl) d_M_init_23 (fun q3 k3 H hK hP hD hS => ?_)
  have hP : va_P D ct_cl [(o, .inr (1, [.ref q1, .int 0, .ref q2, .int 0, .null, .int 0])), (q1, .inl (k1, 8, .inl ct_z)), (q2, .inl (k2, 64, .inl ct_z)), (q3, .inl (k3, 40, .inl ct_z))] H := hP
  have hD : va_D A [(o, .inr (1, [.ref q1, .int 0, .ref q2, .int 0, .null, .int 0])), (q1, .inl (k1, 8, .inl ct_z)), (q2, .inl (k2, 64, .inl ct_z)), (q3, .inl (k3, 40, .inl ct_z))] := hD
  have hK : va_K D ct_cl [(k1, .int), (k2, .int), (k3, .int)] s := hK
  refine W.widen (k := 3) (n := 112) (by decide) (by decide) ?_
  refine va_putF (D := D) (ci := 1) (v := .ref q3) (ty := .array .int) (C := R_M) (T := F_M) (N := 6) hx hb hts i_M t_M t_M_ok n_M hown hK hP hD hS 0 rfl rfl 4 (by decide) (hts _ tb_130) (fun _ h9 => h9) rfl hin rfl (by decide +kernel) rfl rfl (Nat.le_of_ble_eq_true rfl) d_M_init_25 (fun H locs hP hD hS => ?_)
  have hP : va_P D ct_cl [(o, .inr (1, [.ref q1, .int 0, .ref q2, .int 0, .ref q3, .int 0])), (q1, .inl (k1, 8, .inl ct_z)), (q2, .inl (k2, 64, .inl ct_z)), (q3, .inl (k3, 40, .inl ct_z))] H := hP
  have hD : va_D A [(o, .inr (1, [.ref q1, .int 0, .ref q2, .int 0, .ref q3, .int 0])), (q1, .inl (k1, 8, .inl ct_z)), (q2, .inl (k2, 64, .inl ct_z)), (q3, .inl (k3, 40, .inl ct_z))] := hD
  obtain ⟨q, e0, e1, e2, e3⟩ : ∃ q : Nat → Nat, q 0 = o ∧ q 1 = q1 ∧ q 2 = q2 ∧ q 3 = q3 := ⟨fun i => [o, q1, q2, q3].getD i 0, rfl, rfl, rfl, rfl⟩
  obtain ⟨kk, c1, c2, c3⟩ : ∃ kk : Nat → ClassId, kk 1 = k1 ∧ kk 2 = k2 ∧ kk 3 = k3 := ⟨fun i => [k1, k1, k2, k3].getD i k1, rfl, rfl, rfl⟩
  subst e0 e1 e2 e3 c1 c2 c3
  have hP : va_P D ct_cl (wM q kk ct_z ct_z ct_z 0 0 0) H := hP
  have hD : va_D A (wM q kk ct_z ct_z ct_z 0 0 0) := hD
  have hK : va_K D ct_cl (tM kk) s := hK
  exact W.vret hx hb hr (fun t1 ht1 hW => ⟨⟨(q, kk, (ct_z, ct_z, ct_z, [], [], [])), rfl, ⟨rfl, rfl, rfl, rfl, rfl, LA.nil, LA.nil, LA.nil⟩, by rw [ht1]; exact hP, va_K.moved hW.alike hK, hD⟩, hS.F ht1⟩) hS.2.2 d_M_init_28
end
section
/-! the law's loop -/
def ct_xn (xs : Nat → Int32) (i : Nat) : Nat := (xs i).toBitVec.toNat
theorem ct_xn_eq (xs : Nat → Int32) (i : Nat) : xs i = nI (ct_xn xs i) := by
  apply Int32.toBitVec_inj.1
  show (xs i).toBitVec = BitVec.ofNat 32 (xs i).toBitVec.toNat
  simp
theorem r_sld {p : Program} {l : Launch} {e : Env} {R : Room} {s : State} {m : MethodId} {args : Array Value} {below : List Frame} {meth : Method} {c : Code} {H : Heap} {locs : List Loc} {cells slots : Nat} {Q : State → Prop} {cc : ByteArray} {pc : Nat} {ls : Array Slot} {rest : List Value} {A : Nat → Prop} {H0 : Heap} {b L : Nat} {xs : Nat → Int32} (hx : p.tables.exec = Jvm.exec) (hb : c.code = cc) (hX : va_X b L xs s H0) (hbl : b < H0.size) (hbA : ¬ A b) (hS : va_S A H0 H locs) {i : Nat} (hi : i < L) (hL : L < 2 ^ 31) (hd : decode cc pc = .ok (.iaload, 1))
    (kk : W p l e R s m args below meth c H locs cells slots Q (F0 m (pc + 1) ls (.int (nI (ct_xn xs i)) :: rest))) : W p l e R s m args below meth c H locs cells slots Q (F0 m pc ls (.int (nI i) :: .ref b :: rest)) :=
  va_sld hx hb hX hbl hbA hS (vp_in_nI hi hL) hd (by rw [nI_clamp (Nat.lt_trans hi hL), ct_xn_eq xs i]; exact kk)
set_option maxHeartbeats 4000000 in
set_option maxRecDepth 100000 in
/-- from the head of the loop, with the two objects of one picture, the law comes to its end -/
theorem law_loop {p : Program} {l : Launch} {e : Env} {s : State} {m : MethodId} {below : List Frame} {meth : Method} {c : Code} {D : va_G} {b L : Nat} {xs : Nat → Int32} (hL : L ≤ 2560) (C0 : lw_At p s m meth c b L xs) {A : Nat → Prop} (hA : ∀ q : Nat, s.heap.size ≤ q → A q) (hAs : ∀ q : Nat, A q → s.heap.size ≤ q) (hbA0 : ¬ A b) {qx qm : Nat → Nat} {kx km : Nat → ClassId} (hKx : va_K D ct_cl (tX kx) s) (hKm : va_K D ct_cl (tM km) s) {tb : Nat → Int32} {H : Heap} {locs : List Loc} {ls : Array Slot} (hI0 : ∃ (fh fd fb fs : Nat → Int32) (kn : Int32) (gh gd gb : Nat → Int32) (gl dl bl : List Nat), RX tb fh fd fb fs kn gl dl bl ∧ RM gh gd gb gl dl bl ∧ va_P D ct_cl (wX qx kx tb fh fd fb fs gl.length dl.length bl.length kn ++ wM qm km gh gd gb gl.length dl.length bl.length) H ∧ va_D A (wX qx kx tb fh fd fb fs gl.length dl.length bl.length kn ++ wM qm km gh gd gb gl.length dl.length bl.length) ∧ va_S A s.heap H locs ∧ lv_has ls 4 [(0, .ref b), (1, .ref (qx 0)), (2, .ref (qm 0)), (3, .int (nI (5 * 0)))]) : W p l e room_1 s m #[Value.ref b] below meth c H locs 10 336 (lw_Z below #[Value.ref b] s) (F0 m 18 ls []) := by
  obtain ⟨hx, hb, hr, hml, hown, hts0, hX, hbl, hlocks, hgv⟩ := C0
  have hts : ∀ w ∈ ct_tb, w.before #[Value.ref b] s = true := fun w hw => hts0 w (List.mem_filter.mp hw).1
  have hbA : ¬ A b := hbA0
  refine r_loop (fun j ls H locs => ∃ (fh fd fb fs : Nat → Int32) (kn : Int32) (gh gd gb : Nat → Int32) (gl dl bl : List Nat), RX tb fh fd fb fs kn gl dl bl ∧ RM gh gd gb gl dl bl ∧ va_P D ct_cl (wX qx kx tb fh fd fb fs gl.length dl.length bl.length kn ++ wM qm km gh gd gb gl.length dl.length bl.length) H ∧ va_D A (wX qx kx tb fh fd fb fs gl.length dl.length bl.length kn ++ wM qm km gh gd gb gl.length dl.length bl.length) ∧ va_S A s.heap H locs ∧ lv_has ls 4 [(0, .ref b), (1, .ref (qx 0)), (2, .ref (qm 0)), (3, .int (nI (5 * j)))]) (L / 5) (k0 := 0) (Nat.zero_le _) hI0 (fun j H locs ls hj hI hnext => ?_)
  obtain ⟨fh, fd, fb, fs, kn, gh, gd, gb, gl, dl, bl, hRx, hRm, hP, hD, hS, hl⟩ := hI
  refine lv_iload_n hx hb d_law_18 rfl (lv_at hl 3 rfl) ?_
  refine lv_aload_n hx hb d_law_19 rfl (lv_at hl 0 rfl) ?_
  refine va_slen hx hb hX hbl hbA hS d_law_20 ?_
  refine lv_iconst (v := nI 5) hx hb d_law_21 (by decide) ?_
  refine lv_isub hx hb d_law_22 ?_
  refine lv_icmp_gt (tgt := 366) hx hb d_law_23 (by decide) (fun hc => ?_) (fun hc => ?_)
  · refine lv_iconst (v := 1) hx hb d_law_366 (by decide) ?_
    refine va_forget (fun q hq => hAs _ (hS.2.2 q hq)) ?_
    exact lw_ret hx hb hr hlocks d_law_367
  · have hjL : 5 * j + 5 ≤ L := by
      have h1 := pk_sub_toInt (a := L) (b := 5) (by omega) (by decide)
      have h2 : ¬ ((nI L - nI 5).toInt < (nI (5 * j)).toInt) := fun z => hc (Int32.lt_iff_toInt_lt.mpr z)
      rw [h1, nI_toInt (by omega)] at h2
      omega
    refine lv_aload_n hx hb d_law_26 rfl (lv_at hl 0 rfl) ?_
    refine lv_iload_n hx hb d_law_27 rfl (lv_at hl 3 rfl) ?_
    refine r_sld hx hb hX hbl hbA hS (by omega) (by omega) d_law_28 ?_
    refine lv_bipush (v := nI 15) hx hb d_law_29 (by decide) ?_
    refine lv_iand hx hb d_law_31 ?_
    refine r_as (y := nI ((ct_xn xs (5 * j)) % 16)) (ct_a15 _) ?_
    obtain ⟨op, eop⟩ : ∃ z, z = ct_xn xs (5 * j) % 16 := ⟨_, rfl⟩
    rw [← eop]
    refine r_cut 360 (fun ls H locs => ∃ (fh fd fb fs : Nat → Int32) (kn : Int32) (gh gd gb : Nat → Int32) (gl dl bl : List Nat), RX tb fh fd fb fs kn gl dl bl ∧ RM gh gd gb gl dl bl ∧ va_P D ct_cl (wX qx kx tb fh fd fb fs gl.length dl.length bl.length kn ++ wM qm km gh gd gb gl.length dl.length bl.length) H ∧ va_D A (wX qx kx tb fh fd fb fs gl.length dl.length bl.length kn ++ wM qm km gh gd gb gl.length dl.length bl.length) ∧ va_S A s.heap H locs ∧ lv_has ls 4 [(0, .ref b), (1, .ref (qx 0)), (2, .ref (qm 0)), (3, .int (nI (5 * j)))]) (fun K => ?_) (fun H locs ls hI => ?_)
    · rcases (show op = 0 ∨ op = 1 ∨ op = 2 ∨ op = 3 ∨ op = 4 ∨ op = 5 ∨ op = 6 ∨ op = 7 ∨ op = 8 ∨ op = 9 ∨ op = 10 ∨ op = 11 ∨ 12 ≤ op by omega) with ho | ho | ho | ho | ho | ho | ho | ho | ho | ho | ho | ho | ho
      · subst ho
        refine lv_tableIn (off := 64) (tgt := 96) hx hb d_law_32 (by decide) (by decide) (by decide) (by decide) ?_
        refine lv_aload_n hx hb d_law_96 rfl (lv_at hl 1 rfl) ?_
        refine lv_aload_n hx hb d_law_97 rfl (lv_at hl 0 rfl) ?_
        refine lv_iload_n hx hb d_law_98 rfl (lv_at hl 3 rfl) ?_
        refine lv_iconst (v := nI 1) hx hb d_law_99 (by decide) ?_
        refine lv_iadd hx hb d_law_100 ?_
        refine r_as (y := nI ((5 * j) + 1)) (nI_add _ _) ?_
        refine r_sld hx hb hX hbl hbA hS (by omega) (by omega) d_law_101 ?_
        refine ct_callW (As := [.int (nI (ct_xn xs ((5 * j) + 1)))]) (rest := []) (B := wXu qx kx tb) (wc := wX qx kx tb fh fd fb fs gl.length dl.length bl.length kn) (wr := wM qm km gh gd gb gl.length dl.length bl.length) ⟨hx, hb, hml, hown, hts⟩ (c_X_head l D qx kx hRx H.size) ok_law_X_head dc_X_head ⟨Nat.le_of_ble_eq_true rfl, Nat.le_of_ble_eq_true rfl⟩ rfl rfl hKx hP hD hS hA rfl rfl rfl hl.1 (Nat.le_of_ble_eq_true rfl) d_law_102 ⟨Nat.le_of_ble_eq_true rfl, Nat.le_of_ble_eq_true rfl⟩ (fun rX u H locs hw hP hD hS => ?_)
        obtain ⟨fh, fd, fb, fs, kn, gl2, dl2, bl2⟩ := u
        obtain ⟨hwX, e2, e3, e4, hRx⟩ := hw
        replace e2 := e2.symm
        replace e3 := e3.symm
        replace e4 := e4.symm
        subst e2 e3 e4
        have hP : va_P D ct_cl (wX qx kx tb fh fd fb fs (ct_headL gl (ct_xn xs (5 * j + 1))).length dl.length bl.length kn ++ wM qm km gh gd gb gl.length dl.length bl.length) H := hP
        have hD : va_D A (wX qx kx tb fh fd fb fs (ct_headL gl (ct_xn xs (5 * j + 1))).length dl.length bl.length kn ++ wM qm km gh gd gb gl.length dl.length bl.length) := hD
        refine lv_aload_n hx hb d_law_105 rfl (lv_at hl 2 rfl) ?_
        refine lv_aload_n hx hb d_law_106 rfl (lv_at hl 0 rfl) ?_
        refine lv_iload_n hx hb d_law_107 rfl (lv_at hl 3 rfl) ?_
        refine lv_iconst (v := nI 1) hx hb d_law_108 (by decide) ?_
        refine lv_iadd hx hb d_law_109 ?_
        refine r_as (y := nI ((5 * j) + 1)) (nI_add _ _) ?_
        refine r_sld hx hb hX hbl hbA hS (by omega) (by omega) d_law_110 ?_
        obtain ⟨hP, hD⟩ := ct_comm hP hD
        refine ct_callW (As := [.int (nI (ct_xn xs ((5 * j) + 1)))]) (rest := [.int rX]) (B := wMu qm km) (wc := wM qm km gh gd gb gl.length dl.length bl.length) (wr := wX qx kx tb fh fd fb fs (ct_headL gl (ct_xn xs (5 * j + 1))).length dl.length bl.length kn) ⟨hx, hb, hml, hown, hts⟩ (c_M_head l D qm km hRm H.size) ok_law_M_head dc_M_head ⟨Nat.le_of_ble_eq_true rfl, Nat.le_of_ble_eq_true rfl⟩ rfl rfl hKm hP hD hS hA rfl rfl rfl hl.1 (Nat.le_of_ble_eq_true rfl) d_law_111 ⟨Nat.le_of_ble_eq_true rfl, Nat.le_of_ble_eq_true rfl⟩ (fun rM u H locs hw hP hD hS => ?_)
        obtain ⟨gh, gd, gb, gl2, dl2, bl2⟩ := u
        obtain ⟨hwM, e2, e3, e4, hRm⟩ := hw
        replace e2 := e2.symm
        replace e3 := e3.symm
        replace e4 := e4.symm
        subst e2 e3 e4
        have hP : va_P D ct_cl (wM qm km gh gd gb (ct_headL gl (ct_xn xs (5 * j + 1))).length dl.length bl.length ++ wX qx kx tb fh fd fb fs (ct_headL gl (ct_xn xs (5 * j + 1))).length dl.length bl.length kn) H := hP
        have hD : va_D A (wM qm km gh gd gb (ct_headL gl (ct_xn xs (5 * j + 1))).length dl.length bl.length ++ wX qx kx tb fh fd fb fs (ct_headL gl (ct_xn xs (5 * j + 1))).length dl.length bl.length kn) := hD
        obtain ⟨hP, hD⟩ := ct_comm hP hD
        refine lv_icmp_eq (tgt := 360) hx hb d_law_114 (by decide) (fun _ => ?_) (fun hne => ?_)
        · exact K _ _ _ ⟨fh, fd, fb, fs, kn, gh, gd, gb, ct_headL gl (ct_xn xs (5 * j + 1)), dl, bl, hRx, hRm, hP, hD, hS, hl⟩
        · exact absurd (hwX.trans hwM.symm) hne
      · subst ho
        refine lv_tableIn (off := 87) (tgt := 119) hx hb d_law_32 (by decide) (by decide) (by decide) (by decide) ?_
        refine lv_aload_n hx hb d_law_119 rfl (lv_at hl 1 rfl) ?_
        refine lv_aload_n hx hb d_law_120 rfl (lv_at hl 0 rfl) ?_
        refine lv_iload_n hx hb d_law_121 rfl (lv_at hl 3 rfl) ?_
        refine lv_iconst (v := nI 1) hx hb d_law_122 (by decide) ?_
        refine lv_iadd hx hb d_law_123 ?_
        refine r_as (y := nI ((5 * j) + 1)) (nI_add _ _) ?_
        refine r_sld hx hb hX hbl hbA hS (by omega) (by omega) d_law_124 ?_
        refine lv_aload_n hx hb d_law_125 rfl (lv_at hl 0 rfl) ?_
        refine lv_iload_n hx hb d_law_126 rfl (lv_at hl 3 rfl) ?_
        refine lv_iconst (v := nI 2) hx hb d_law_127 (by decide) ?_
        refine lv_iadd hx hb d_law_128 ?_
        refine r_as (y := nI ((5 * j) + 2)) (nI_add _ _) ?_
        refine r_sld hx hb hX hbl hbA hS (by omega) (by omega) d_law_129 ?_
        refine lv_aload_n hx hb d_law_130 rfl (lv_at hl 0 rfl) ?_
        refine lv_iload_n hx hb d_law_131 rfl (lv_at hl 3 rfl) ?_
        refine lv_iconst (v := nI 3) hx hb d_law_132 (by decide) ?_
        refine lv_iadd hx hb d_law_133 ?_
        refine r_as (y := nI ((5 * j) + 3)) (nI_add _ _) ?_
        refine r_sld hx hb hX hbl hbA hS (by omega) (by omega) d_law_134 ?_
        refine lv_aload_n hx hb d_law_135 rfl (lv_at hl 0 rfl) ?_
        refine lv_iload_n hx hb d_law_136 rfl (lv_at hl 3 rfl) ?_
        refine lv_iconst (v := nI 4) hx hb d_law_137 (by decide) ?_
        refine lv_iadd hx hb d_law_138 ?_
        refine r_as (y := nI ((5 * j) + 4)) (nI_add _ _) ?_
        refine r_sld hx hb hX hbl hbA hS (by omega) (by omega) d_law_139 ?_
        refine ct_callW (As := [.int (nI (ct_xn xs ((5 * j) + 1))), .int (nI (ct_xn xs ((5 * j) + 2))), .int (nI (ct_xn xs ((5 * j) + 3))), .int (nI (ct_xn xs ((5 * j) + 4)))]) (rest := []) (B := wXu qx kx tb) (wc := wX qx kx tb fh fd fb fs gl.length dl.length bl.length kn) (wr := wM qm km gh gd gb gl.length dl.length bl.length) ⟨hx, hb, hml, hown, hts⟩ (c_X_put l D qx kx hRx H.size) ok_law_X_put dc_X_put ⟨Nat.le_of_ble_eq_true rfl, Nat.le_of_ble_eq_true rfl⟩ rfl rfl hKx hP hD hS hA rfl rfl rfl hl.1 (Nat.le_of_ble_eq_true rfl) d_law_140 ⟨Nat.le_of_ble_eq_true rfl, Nat.le_of_ble_eq_true rfl⟩ (fun rX u H locs hw hP hD hS => ?_)
        obtain ⟨fh, fd, fb, fs, kn, gl2, dl2, bl2⟩ := u
        obtain ⟨hwX, e2, e3, e4, hRx⟩ := hw
        replace e2 := e2.symm
        replace e3 := e3.symm
        replace e4 := e4.symm
        subst e2 e3 e4
        have hP : va_P D ct_cl (wX qx kx tb fh fd fb fs gl.length (ct_putL dl (ct_xn xs (5 * j + 1)) (ct_xn xs (5 * j + 2)) (ct_xn xs (5 * j + 3)) (ct_xn xs (5 * j + 4))).length bl.length kn ++ wM qm km gh gd gb gl.length dl.length bl.length) H := hP
        have hD : va_D A (wX qx kx tb fh fd fb fs gl.length (ct_putL dl (ct_xn xs (5 * j + 1)) (ct_xn xs (5 * j + 2)) (ct_xn xs (5 * j + 3)) (ct_xn xs (5 * j + 4))).length bl.length kn ++ wM qm km gh gd gb gl.length dl.length bl.length) := hD
        refine lv_aload_n hx hb d_law_143 rfl (lv_at hl 2 rfl) ?_
        refine lv_aload_n hx hb d_law_144 rfl (lv_at hl 0 rfl) ?_
        refine lv_iload_n hx hb d_law_145 rfl (lv_at hl 3 rfl) ?_
        refine lv_iconst (v := nI 1) hx hb d_law_146 (by decide) ?_
        refine lv_iadd hx hb d_law_147 ?_
        refine r_as (y := nI ((5 * j) + 1)) (nI_add _ _) ?_
        refine r_sld hx hb hX hbl hbA hS (by omega) (by omega) d_law_148 ?_
        refine lv_aload_n hx hb d_law_149 rfl (lv_at hl 0 rfl) ?_
        refine lv_iload_n hx hb d_law_150 rfl (lv_at hl 3 rfl) ?_
        refine lv_iconst (v := nI 2) hx hb d_law_151 (by decide) ?_
        refine lv_iadd hx hb d_law_152 ?_
        refine r_as (y := nI ((5 * j) + 2)) (nI_add _ _) ?_
        refine r_sld hx hb hX hbl hbA hS (by omega) (by omega) d_law_153 ?_
        refine lv_aload_n hx hb d_law_154 rfl (lv_at hl 0 rfl) ?_
        refine lv_iload_n hx hb d_law_155 rfl (lv_at hl 3 rfl) ?_
        refine lv_iconst (v := nI 3) hx hb d_law_156 (by decide) ?_
        refine lv_iadd hx hb d_law_157 ?_
        refine r_as (y := nI ((5 * j) + 3)) (nI_add _ _) ?_
        refine r_sld hx hb hX hbl hbA hS (by omega) (by omega) d_law_158 ?_
        refine lv_aload_n hx hb d_law_159 rfl (lv_at hl 0 rfl) ?_
        refine lv_iload_n hx hb d_law_160 rfl (lv_at hl 3 rfl) ?_
        refine lv_iconst (v := nI 4) hx hb d_law_161 (by decide) ?_
        refine lv_iadd hx hb d_law_162 ?_
        refine r_as (y := nI ((5 * j) + 4)) (nI_add _ _) ?_
        refine r_sld hx hb hX hbl hbA hS (by omega) (by omega) d_law_163 ?_
        obtain ⟨hP, hD⟩ := ct_comm hP hD
        refine ct_callW (As := [.int (nI (ct_xn xs ((5 * j) + 1))), .int (nI (ct_xn xs ((5 * j) + 2))), .int (nI (ct_xn xs ((5 * j) + 3))), .int (nI (ct_xn xs ((5 * j) + 4)))]) (rest := [.int rX]) (B := wMu qm km) (wc := wM qm km gh gd gb gl.length dl.length bl.length) (wr := wX qx kx tb fh fd fb fs gl.length (ct_putL dl (ct_xn xs (5 * j + 1)) (ct_xn xs (5 * j + 2)) (ct_xn xs (5 * j + 3)) (ct_xn xs (5 * j + 4))).length bl.length kn) ⟨hx, hb, hml, hown, hts⟩ (c_M_put l D qm km hRm H.size) ok_law_M_put dc_M_put ⟨Nat.le_of_ble_eq_true rfl, Nat.le_of_ble_eq_true rfl⟩ rfl rfl hKm hP hD hS hA rfl rfl rfl hl.1 (Nat.le_of_ble_eq_true rfl) d_law_164 ⟨Nat.le_of_ble_eq_true rfl, Nat.le_of_ble_eq_true rfl⟩ (fun rM u H locs hw hP hD hS => ?_)
        obtain ⟨gh, gd, gb, gl2, dl2, bl2⟩ := u
        obtain ⟨hwM, e2, e3, e4, hRm⟩ := hw
        replace e2 := e2.symm
        replace e3 := e3.symm
        replace e4 := e4.symm
        subst e2 e3 e4
        have hP : va_P D ct_cl (wM qm km gh gd gb gl.length (ct_putL dl (ct_xn xs (5 * j + 1)) (ct_xn xs (5 * j + 2)) (ct_xn xs (5 * j + 3)) (ct_xn xs (5 * j + 4))).length bl.length ++ wX qx kx tb fh fd fb fs gl.length (ct_putL dl (ct_xn xs (5 * j + 1)) (ct_xn xs (5 * j + 2)) (ct_xn xs (5 * j + 3)) (ct_xn xs (5 * j + 4))).length bl.length kn) H := hP
        have hD : va_D A (wM qm km gh gd gb gl.length (ct_putL dl (ct_xn xs (5 * j + 1)) (ct_xn xs (5 * j + 2)) (ct_xn xs (5 * j + 3)) (ct_xn xs (5 * j + 4))).length bl.length ++ wX qx kx tb fh fd fb fs gl.length (ct_putL dl (ct_xn xs (5 * j + 1)) (ct_xn xs (5 * j + 2)) (ct_xn xs (5 * j + 3)) (ct_xn xs (5 * j + 4))).length bl.length kn) := hD
        obtain ⟨hP, hD⟩ := ct_comm hP hD
        refine lv_icmp_eq (tgt := 360) hx hb d_law_167 (by decide) (fun _ => ?_) (fun hne => ?_)
        · exact K _ _ _ ⟨fh, fd, fb, fs, kn, gh, gd, gb, gl, ct_putL dl (ct_xn xs (5 * j + 1)) (ct_xn xs (5 * j + 2)) (ct_xn xs (5 * j + 3)) (ct_xn xs (5 * j + 4)), bl, hRx, hRm, hP, hD, hS, hl⟩
        · exact absurd (hwX.trans hwM.symm) hne
      · subst ho
        refine lv_tableIn (off := 140) (tgt := 172) hx hb d_law_32 (by decide) (by decide) (by decide) (by decide) ?_
        refine lv_aload_n hx hb d_law_172 rfl (lv_at hl 1 rfl) ?_
        refine ct_callV (As := []) (rest := []) (B := wXu qx kx tb) (wc := wX qx kx tb fh fd fb fs gl.length dl.length bl.length kn) (wr := wM qm km gh gd gb gl.length dl.length bl.length) ⟨hx, hb, hml, hown, hts⟩ (c_X_wipe l D qx kx hRx H.size) ok_law_X_wipe dc_X_wipe ⟨Nat.le_of_ble_eq_true rfl, Nat.le_of_ble_eq_true rfl⟩ rfl rfl hKx hP hD hS hA rfl rfl rfl hl.1 (Nat.le_of_ble_eq_true rfl) d_law_173 ⟨Nat.le_of_ble_eq_true rfl, Nat.le_of_ble_eq_true rfl⟩ (fun u H locs hw hP hD hS => ?_)
        obtain ⟨fh, fd, fb, fs, kn, gl2, dl2, bl2⟩ := u
        obtain ⟨-, e2, e3, e4, hRx⟩ := hw
        replace e2 := e2.symm
        replace e3 := e3.symm
        replace e4 := e4.symm
        subst e2 e3 e4
        have hP : va_P D ct_cl (wX qx kx tb fh fd fb fs ([] : List Nat).length ([] : List Nat).length bl.length kn ++ wM qm km gh gd gb gl.length dl.length bl.length) H := hP
        have hD : va_D A (wX qx kx tb fh fd fb fs ([] : List Nat).length ([] : List Nat).length bl.length kn ++ wM qm km gh gd gb gl.length dl.length bl.length) := hD
        refine lv_aload_n hx hb d_law_176 rfl (lv_at hl 2 rfl) ?_
        obtain ⟨hP, hD⟩ := ct_comm hP hD
        refine ct_callV (As := []) (rest := []) (B := wMu qm km) (wc := wM qm km gh gd gb gl.length dl.length bl.length) (wr := wX qx kx tb fh fd fb fs ([] : List Nat).length ([] : List Nat).length bl.length kn) ⟨hx, hb, hml, hown, hts⟩ (c_M_wipe l D qm km hRm H.size) ok_law_M_wipe dc_M_wipe ⟨Nat.le_of_ble_eq_true rfl, Nat.le_of_ble_eq_true rfl⟩ rfl rfl hKm hP hD hS hA rfl rfl rfl hl.1 (Nat.le_of_ble_eq_true rfl) d_law_177 ⟨Nat.le_of_ble_eq_true rfl, Nat.le_of_ble_eq_true rfl⟩ (fun u H locs hw hP hD hS => ?_)
        obtain ⟨gh, gd, gb, gl2, dl2, bl2⟩ := u
        obtain ⟨-, e2, e3, e4, hRm⟩ := hw
        replace e2 := e2.symm
        replace e3 := e3.symm
        replace e4 := e4.symm
        subst e2 e3 e4
        have hP : va_P D ct_cl (wM qm km gh gd gb ([] : List Nat).length ([] : List Nat).length bl.length ++ wX qx kx tb fh fd fb fs ([] : List Nat).length ([] : List Nat).length bl.length kn) H := hP
        have hD : va_D A (wM qm km gh gd gb ([] : List Nat).length ([] : List Nat).length bl.length ++ wX qx kx tb fh fd fb fs ([] : List Nat).length ([] : List Nat).length bl.length kn) := hD
        obtain ⟨hP, hD⟩ := ct_comm hP hD
        refine lv_goto (tgt := 360) hx hb d_law_180 (by decide) ?_
        exact K _ _ _ ⟨fh, fd, fb, fs, kn, gh, gd, gb, ([] : List Nat), ([] : List Nat), bl, hRx, hRm, hP, hD, hS, hl⟩
      · subst ho
        refine lv_tableIn (off := 151) (tgt := 183) hx hb d_law_32 (by decide) (by decide) (by decide) (by decide) ?_
        refine lv_aload_n hx hb d_law_183 rfl (lv_at hl 1 rfl) ?_
        refine lv_aload_n hx hb d_law_184 rfl (lv_at hl 0 rfl) ?_
        refine lv_iload_n hx hb d_law_185 rfl (lv_at hl 3 rfl) ?_
        refine lv_iconst (v := nI 1) hx hb d_law_186 (by decide) ?_
        refine lv_iadd hx hb d_law_187 ?_
        refine r_as (y := nI ((5 * j) + 1)) (nI_add _ _) ?_
        refine r_sld hx hb hX hbl hbA hS (by omega) (by omega) d_law_188 ?_
        refine ct_callW (As := [.int (nI (ct_xn xs ((5 * j) + 1)))]) (rest := []) (B := wXu qx kx tb) (wc := wX qx kx tb fh fd fb fs gl.length dl.length bl.length kn) (wr := wM qm km gh gd gb gl.length dl.length bl.length) ⟨hx, hb, hml, hown, hts⟩ (c_X_seal l D qx kx hRx H.size) ok_law_X_seal dc_X_seal ⟨Nat.le_of_ble_eq_true rfl, Nat.le_of_ble_eq_true rfl⟩ rfl rfl hKx hP hD hS hA rfl rfl rfl hl.1 (Nat.le_of_ble_eq_true rfl) d_law_189 ⟨Nat.le_of_ble_eq_true rfl, Nat.le_of_ble_eq_true rfl⟩ (fun rX u H locs hw hP hD hS => ?_)
        obtain ⟨fh, fd, fb, fs, kn, gl2, dl2, bl2⟩ := u
        obtain ⟨hwX, e2, e3, e4, hRx⟩ := hw
        replace e2 := e2.symm
        replace e3 := e3.symm
        replace e4 := e4.symm
        subst e2 e3 e4
        have hP : va_P D ct_cl (wX qx kx tb fh fd fb fs gl.length (ct_sealL gl dl (ct_xn xs (5 * j + 1))).length bl.length kn ++ wM qm km gh gd gb gl.length dl.length bl.length) H := hP
        have hD : va_D A (wX qx kx tb fh fd fb fs gl.length (ct_sealL gl dl (ct_xn xs (5 * j + 1))).length bl.length kn ++ wM qm km gh gd gb gl.length dl.length bl.length) := hD
        refine lv_aload_n hx hb d_law_192 rfl (lv_at hl 2 rfl) ?_
        refine lv_aload_n hx hb d_law_193 rfl (lv_at hl 0 rfl) ?_
        refine lv_iload_n hx hb d_law_194 rfl (lv_at hl 3 rfl) ?_
        refine lv_iconst (v := nI 1) hx hb d_law_195 (by decide) ?_
        refine lv_iadd hx hb d_law_196 ?_
        refine r_as (y := nI ((5 * j) + 1)) (nI_add _ _) ?_
        refine r_sld hx hb hX hbl hbA hS (by omega) (by omega) d_law_197 ?_
        obtain ⟨hP, hD⟩ := ct_comm hP hD
        refine ct_callW (As := [.int (nI (ct_xn xs ((5 * j) + 1)))]) (rest := [.int rX]) (B := wMu qm km) (wc := wM qm km gh gd gb gl.length dl.length bl.length) (wr := wX qx kx tb fh fd fb fs gl.length (ct_sealL gl dl (ct_xn xs (5 * j + 1))).length bl.length kn) ⟨hx, hb, hml, hown, hts⟩ (c_M_seal l D qm km hRm H.size) ok_law_M_seal dc_M_seal ⟨Nat.le_of_ble_eq_true rfl, Nat.le_of_ble_eq_true rfl⟩ rfl rfl hKm hP hD hS hA rfl rfl rfl hl.1 (Nat.le_of_ble_eq_true rfl) d_law_198 ⟨Nat.le_of_ble_eq_true rfl, Nat.le_of_ble_eq_true rfl⟩ (fun rM u H locs hw hP hD hS => ?_)
        obtain ⟨gh, gd, gb, gl2, dl2, bl2⟩ := u
        obtain ⟨hwM, e2, e3, e4, hRm⟩ := hw
        replace e2 := e2.symm
        replace e3 := e3.symm
        replace e4 := e4.symm
        subst e2 e3 e4
        have hP : va_P D ct_cl (wM qm km gh gd gb gl.length (ct_sealL gl dl (ct_xn xs (5 * j + 1))).length bl.length ++ wX qx kx tb fh fd fb fs gl.length (ct_sealL gl dl (ct_xn xs (5 * j + 1))).length bl.length kn) H := hP
        have hD : va_D A (wM qm km gh gd gb gl.length (ct_sealL gl dl (ct_xn xs (5 * j + 1))).length bl.length ++ wX qx kx tb fh fd fb fs gl.length (ct_sealL gl dl (ct_xn xs (5 * j + 1))).length bl.length kn) := hD
        obtain ⟨hP, hD⟩ := ct_comm hP hD
        refine lv_icmp_eq (tgt := 360) hx hb d_law_201 (by decide) (fun _ => ?_) (fun hne => ?_)
        · exact K _ _ _ ⟨fh, fd, fb, fs, kn, gh, gd, gb, gl, ct_sealL gl dl (ct_xn xs (5 * j + 1)), bl, hRx, hRm, hP, hD, hS, hl⟩
        · exact absurd (hwX.trans hwM.symm) hne
      · subst ho
        refine lv_tableIn (off := 174) (tgt := 206) hx hb d_law_32 (by decide) (by decide) (by decide) (by decide) ?_
        refine lv_aload_n hx hb d_law_206 rfl (lv_at hl 1 rfl) ?_
        refine ct_callW (As := []) (rest := []) (B := wXu qx kx tb) (wc := wX qx kx tb fh fd fb fs gl.length dl.length bl.length kn) (wr := wM qm km gh gd gb gl.length dl.length bl.length) ⟨hx, hb, hml, hown, hts⟩ (c_X_check l D qx kx hRx H.size) ok_law_X_check dc_X_check ⟨Nat.le_of_ble_eq_true rfl, Nat.le_of_ble_eq_true rfl⟩ rfl rfl hKx hP hD hS hA rfl rfl rfl hl.1 (Nat.le_of_ble_eq_true rfl) d_law_207 ⟨Nat.le_of_ble_eq_true rfl, Nat.le_of_ble_eq_true rfl⟩ (fun rX u H locs hw hP hD hS => ?_)
        obtain ⟨fh, fd, fb, fs, kn, gl2, dl2, bl2⟩ := u
        obtain ⟨hwX, e2, e3, e4, hRx⟩ := hw
        replace e2 := e2.symm
        replace e3 := e3.symm
        replace e4 := e4.symm
        subst e2 e3 e4
        have hP : va_P D ct_cl (wX qx kx tb fh fd fb fs gl.length dl.length bl.length kn ++ wM qm km gh gd gb gl.length dl.length bl.length) H := hP
        have hD : va_D A (wX qx kx tb fh fd fb fs gl.length dl.length bl.length kn ++ wM qm km gh gd gb gl.length dl.length bl.length) := hD
        refine lv_aload_n hx hb d_law_210 rfl (lv_at hl 2 rfl) ?_
        refine ct_callR (As := []) (rest := [.int rX]) (wc := wM qm km gh gd gb gl.length dl.length bl.length) ⟨hx, hb, hml, hown, hts⟩ (c_M_check l D qm km hRm) ok_law_M_check dc_M_check ⟨Nat.le_of_ble_eq_true rfl, Nat.le_of_ble_eq_true rfl⟩ rfl rfl hKm (ct_PRr hP) rfl rfl rfl hl.1 (Nat.le_of_ble_eq_true rfl) d_law_211 ⟨Nat.le_of_ble_eq_true rfl, Nat.le_of_ble_eq_true rfl⟩ (fun rM hwM => ?_)
        refine lv_icmp_eq (tgt := 360) hx hb d_law_214 (by decide) (fun _ => ?_) (fun hne => ?_)
        · exact K _ _ _ ⟨fh, fd, fb, fs, kn, gh, gd, gb, gl, dl, bl, hRx, hRm, hP, hD, hS, hl⟩
        · exact absurd (hwX.trans hwM.symm) hne
      · subst ho
        refine lv_tableIn (off := 187) (tgt := 219) hx hb d_law_32 (by decide) (by decide) (by decide) (by decide) ?_
        refine lv_aload_n hx hb d_law_219 rfl (lv_at hl 1 rfl) ?_
        refine lv_aload_n hx hb d_law_220 rfl (lv_at hl 0 rfl) ?_
        refine lv_iload_n hx hb d_law_221 rfl (lv_at hl 3 rfl) ?_
        refine lv_iconst (v := nI 1) hx hb d_law_222 (by decide) ?_
        refine lv_iadd hx hb d_law_223 ?_
        refine r_as (y := nI ((5 * j) + 1)) (nI_add _ _) ?_
        refine r_sld hx hb hX hbl hbA hS (by omega) (by omega) d_law_224 ?_
        refine lv_aload_n hx hb d_law_225 rfl (lv_at hl 0 rfl) ?_
        refine lv_iload_n hx hb d_law_226 rfl (lv_at hl 3 rfl) ?_
        refine lv_iconst (v := nI 2) hx hb d_law_227 (by decide) ?_
        refine lv_iadd hx hb d_law_228 ?_
        refine r_as (y := nI ((5 * j) + 2)) (nI_add _ _) ?_
        refine r_sld hx hb hX hbl hbA hS (by omega) (by omega) d_law_229 ?_
        refine ct_callW (As := [.int (nI (ct_xn xs ((5 * j) + 1))), .int (nI (ct_xn xs ((5 * j) + 2)))]) (rest := []) (B := wXu qx kx tb) (wc := wX qx kx tb fh fd fb fs gl.length dl.length bl.length kn) (wr := wM qm km gh gd gb gl.length dl.length bl.length) ⟨hx, hb, hml, hown, hts⟩ (c_X_spoil l D qx kx hRx H.size) ok_law_X_spoil dc_X_spoil ⟨Nat.le_of_ble_eq_true rfl, Nat.le_of_ble_eq_true rfl⟩ rfl rfl hKx hP hD hS hA rfl rfl rfl hl.1 (Nat.le_of_ble_eq_true rfl) d_law_230 ⟨Nat.le_of_ble_eq_true rfl, Nat.le_of_ble_eq_true rfl⟩ (fun rX u H locs hw hP hD hS => ?_)
        obtain ⟨fh, fd, fb, fs, kn, gl2, dl2, bl2⟩ := u
        obtain ⟨hwX, e2, e3, e4, hRx⟩ := hw
        replace e2 := e2.symm
        replace e3 := e3.symm
        replace e4 := e4.symm
        subst e2 e3 e4
        have hP : va_P D ct_cl (wX qx kx tb fh fd fb fs gl.length (ct_spoilL dl (ct_xn xs (5 * j + 1)) (ct_xn xs (5 * j + 2))).length bl.length kn ++ wM qm km gh gd gb gl.length dl.length bl.length) H := hP
        have hD : va_D A (wX qx kx tb fh fd fb fs gl.length (ct_spoilL dl (ct_xn xs (5 * j + 1)) (ct_xn xs (5 * j + 2))).length bl.length kn ++ wM qm km gh gd gb gl.length dl.length bl.length) := hD
        refine lv_aload_n hx hb d_law_233 rfl (lv_at hl 2 rfl) ?_
        refine lv_aload_n hx hb d_law_234 rfl (lv_at hl 0 rfl) ?_
        refine lv_iload_n hx hb d_law_235 rfl (lv_at hl 3 rfl) ?_
        refine lv_iconst (v := nI 1) hx hb d_law_236 (by decide) ?_
        refine lv_iadd hx hb d_law_237 ?_
        refine r_as (y := nI ((5 * j) + 1)) (nI_add _ _) ?_
        refine r_sld hx hb hX hbl hbA hS (by omega) (by omega) d_law_238 ?_
        refine lv_aload_n hx hb d_law_239 rfl (lv_at hl 0 rfl) ?_
        refine lv_iload_n hx hb d_law_240 rfl (lv_at hl 3 rfl) ?_
        refine lv_iconst (v := nI 2) hx hb d_law_241 (by decide) ?_
        refine lv_iadd hx hb d_law_242 ?_
        refine r_as (y := nI ((5 * j) + 2)) (nI_add _ _) ?_
        refine r_sld hx hb hX hbl hbA hS (by omega) (by omega) d_law_243 ?_
        obtain ⟨hP, hD⟩ := ct_comm hP hD
        refine ct_callW (As := [.int (nI (ct_xn xs ((5 * j) + 1))), .int (nI (ct_xn xs ((5 * j) + 2)))]) (rest := [.int rX]) (B := wMu qm km) (wc := wM qm km gh gd gb gl.length dl.length bl.length) (wr := wX qx kx tb fh fd fb fs gl.length (ct_spoilL dl (ct_xn xs (5 * j + 1)) (ct_xn xs (5 * j + 2))).length bl.length kn) ⟨hx, hb, hml, hown, hts⟩ (c_M_spoil l D qm km hRm H.size) ok_law_M_spoil dc_M_spoil ⟨Nat.le_of_ble_eq_true rfl, Nat.le_of_ble_eq_true rfl⟩ rfl rfl hKm hP hD hS hA rfl rfl rfl hl.1 (Nat.le_of_ble_eq_true rfl) d_law_244 ⟨Nat.le_of_ble_eq_true rfl, Nat.le_of_ble_eq_true rfl⟩ (fun rM u H locs hw hP hD hS => ?_)
        obtain ⟨gh, gd, gb, gl2, dl2, bl2⟩ := u
        obtain ⟨hwM, e2, e3, e4, hRm⟩ := hw
        replace e2 := e2.symm
        replace e3 := e3.symm
        replace e4 := e4.symm
        subst e2 e3 e4
        have hP : va_P D ct_cl (wM qm km gh gd gb gl.length (ct_spoilL dl (ct_xn xs (5 * j + 1)) (ct_xn xs (5 * j + 2))).length bl.length ++ wX qx kx tb fh fd fb fs gl.length (ct_spoilL dl (ct_xn xs (5 * j + 1)) (ct_xn xs (5 * j + 2))).length bl.length kn) H := hP
        have hD : va_D A (wM qm km gh gd gb gl.length (ct_spoilL dl (ct_xn xs (5 * j + 1)) (ct_xn xs (5 * j + 2))).length bl.length ++ wX qx kx tb fh fd fb fs gl.length (ct_spoilL dl (ct_xn xs (5 * j + 1)) (ct_xn xs (5 * j + 2))).length bl.length kn) := hD
        obtain ⟨hP, hD⟩ := ct_comm hP hD
        refine lv_icmp_eq (tgt := 360) hx hb d_law_247 (by decide) (fun _ => ?_) (fun hne => ?_)
        · exact K _ _ _ ⟨fh, fd, fb, fs, kn, gh, gd, gb, gl, ct_spoilL dl (ct_xn xs (5 * j + 1)) (ct_xn xs (5 * j + 2)), bl, hRx, hRm, hP, hD, hS, hl⟩
        · exact absurd (hwX.trans hwM.symm) hne
      · subst ho
        refine lv_tableIn (off := 220) (tgt := 252) hx hb d_law_32 (by decide) (by decide) (by decide) (by decide) ?_
        refine lv_aload_n hx hb d_law_252 rfl (lv_at hl 1 rfl) ?_
        refine lv_aload_n hx hb d_law_253 rfl (lv_at hl 0 rfl) ?_
        refine lv_iload_n hx hb d_law_254 rfl (lv_at hl 3 rfl) ?_
        refine lv_iconst (v := nI 1) hx hb d_law_255 (by decide) ?_
        refine lv_iadd hx hb d_law_256 ?_
        refine r_as (y := nI ((5 * j) + 1)) (nI_add _ _) ?_
        refine r_sld hx hb hX hbl hbA hS (by omega) (by omega) d_law_257 ?_
        refine ct_callR (As := [.int (nI (ct_xn xs ((5 * j) + 1)))]) (rest := []) (wc := wX qx kx tb fh fd fb fs gl.length dl.length bl.length kn) ⟨hx, hb, hml, hown, hts⟩ (c_X_at l D qx kx hRx) ok_law_X_at dc_X_at ⟨Nat.le_of_ble_eq_true rfl, Nat.le_of_ble_eq_true rfl⟩ rfl rfl hKx (ct_PL hP) rfl rfl rfl hl.1 (Nat.le_of_ble_eq_true rfl) d_law_258 ⟨Nat.le_of_ble_eq_true rfl, Nat.le_of_ble_eq_true rfl⟩ (fun rX hwX => ?_)
        refine lv_aload_n hx hb d_law_261 rfl (lv_at hl 2 rfl) ?_
        refine lv_aload_n hx hb d_law_262 rfl (lv_at hl 0 rfl) ?_
        refine lv_iload_n hx hb d_law_263 rfl (lv_at hl 3 rfl) ?_
        refine lv_iconst (v := nI 1) hx hb d_law_264 (by decide) ?_
        refine lv_iadd hx hb d_law_265 ?_
        refine r_as (y := nI ((5 * j) + 1)) (nI_add _ _) ?_
        refine r_sld hx hb hX hbl hbA hS (by omega) (by omega) d_law_266 ?_
        refine ct_callR (As := [.int (nI (ct_xn xs ((5 * j) + 1)))]) (rest := [.int rX]) (wc := wM qm km gh gd gb gl.length dl.length bl.length) ⟨hx, hb, hml, hown, hts⟩ (c_M_at l D qm km hRm) ok_law_M_at dc_M_at ⟨Nat.le_of_ble_eq_true rfl, Nat.le_of_ble_eq_true rfl⟩ rfl rfl hKm (ct_PRr hP) rfl rfl rfl hl.1 (Nat.le_of_ble_eq_true rfl) d_law_267 ⟨Nat.le_of_ble_eq_true rfl, Nat.le_of_ble_eq_true rfl⟩ (fun rM hwM => ?_)
        refine lv_icmp_eq (tgt := 360) hx hb d_law_270 (by decide) (fun _ => ?_) (fun hne => ?_)
        · exact K _ _ _ ⟨fh, fd, fb, fs, kn, gh, gd, gb, gl, dl, bl, hRx, hRm, hP, hD, hS, hl⟩
        · exact absurd (hwX.trans hwM.symm) hne
      · subst ho
        refine lv_tableIn (off := 243) (tgt := 275) hx hb d_law_32 (by decide) (by decide) (by decide) (by decide) ?_
        refine lv_aload_n hx hb d_law_275 rfl (lv_at hl 1 rfl) ?_
        refine ct_callR (As := []) (rest := []) (wc := wX qx kx tb fh fd fb fs gl.length dl.length bl.length kn) ⟨hx, hb, hml, hown, hts⟩ (c_X_size l D qx kx hRx) ok_law_X_size dc_X_size ⟨Nat.le_of_ble_eq_true rfl, Nat.le_of_ble_eq_true rfl⟩ rfl rfl hKx (ct_PL hP) rfl rfl rfl hl.1 (Nat.le_of_ble_eq_true rfl) d_law_276 ⟨Nat.le_of_ble_eq_true rfl, Nat.le_of_ble_eq_true rfl⟩ (fun rX hwX => ?_)
        refine lv_aload_n hx hb d_law_279 rfl (lv_at hl 2 rfl) ?_
        refine ct_callR (As := []) (rest := [.int rX]) (wc := wM qm km gh gd gb gl.length dl.length bl.length) ⟨hx, hb, hml, hown, hts⟩ (c_M_size l D qm km hRm) ok_law_M_size dc_M_size ⟨Nat.le_of_ble_eq_true rfl, Nat.le_of_ble_eq_true rfl⟩ rfl rfl hKm (ct_PRr hP) rfl rfl rfl hl.1 (Nat.le_of_ble_eq_true rfl) d_law_280 ⟨Nat.le_of_ble_eq_true rfl, Nat.le_of_ble_eq_true rfl⟩ (fun rM hwM => ?_)
        refine lv_icmp_eq (tgt := 360) hx hb d_law_283 (by decide) (fun _ => ?_) (fun hne => ?_)
        · exact K _ _ _ ⟨fh, fd, fb, fs, kn, gh, gd, gb, gl, dl, bl, hRx, hRm, hP, hD, hS, hl⟩
        · exact absurd (hwX.trans hwM.symm) hne
      · subst ho
        refine lv_tableIn (off := 256) (tgt := 288) hx hb d_law_32 (by decide) (by decide) (by decide) (by decide) ?_
        refine lv_aload_n hx hb d_law_288 rfl (lv_at hl 1 rfl) ?_
        refine lv_aload_n hx hb d_law_289 rfl (lv_at hl 0 rfl) ?_
        refine lv_iload_n hx hb d_law_290 rfl (lv_at hl 3 rfl) ?_
        refine lv_iconst (v := nI 1) hx hb d_law_291 (by decide) ?_
        refine lv_iadd hx hb d_law_292 ?_
        refine r_as (y := nI ((5 * j) + 1)) (nI_add _ _) ?_
        refine r_sld hx hb hX hbl hbA hS (by omega) (by omega) d_law_293 ?_
        refine ct_callW (As := [.int (nI (ct_xn xs ((5 * j) + 1)))]) (rest := []) (B := wXu qx kx tb) (wc := wX qx kx tb fh fd fb fs gl.length dl.length bl.length kn) (wr := wM qm km gh gd gb gl.length dl.length bl.length) ⟨hx, hb, hml, hown, hts⟩ (c_X_octet l D qx kx hRx H.size) ok_law_X_octet dc_X_octet ⟨Nat.le_of_ble_eq_true rfl, Nat.le_of_ble_eq_true rfl⟩ rfl rfl hKx hP hD hS hA rfl rfl rfl hl.1 (Nat.le_of_ble_eq_true rfl) d_law_294 ⟨Nat.le_of_ble_eq_true rfl, Nat.le_of_ble_eq_true rfl⟩ (fun rX u H locs hw hP hD hS => ?_)
        obtain ⟨fh, fd, fb, fs, kn, gl2, dl2, bl2⟩ := u
        obtain ⟨hwX, e2, e3, e4, hRx⟩ := hw
        replace e2 := e2.symm
        replace e3 := e3.symm
        replace e4 := e4.symm
        subst e2 e3 e4
        have hP : va_P D ct_cl (wX qx kx tb fh fd fb fs gl.length dl.length (ct_octL bl (ct_xn xs (5 * j + 1))).length kn ++ wM qm km gh gd gb gl.length dl.length bl.length) H := hP
        have hD : va_D A (wX qx kx tb fh fd fb fs gl.length dl.length (ct_octL bl (ct_xn xs (5 * j + 1))).length kn ++ wM qm km gh gd gb gl.length dl.length bl.length) := hD
        refine lv_aload_n hx hb d_law_297 rfl (lv_at hl 2 rfl) ?_
        refine lv_aload_n hx hb d_law_298 rfl (lv_at hl 0 rfl) ?_
        refine lv_iload_n hx hb d_law_299 rfl (lv_at hl 3 rfl) ?_
        refine lv_iconst (v := nI 1) hx hb d_law_300 (by decide) ?_
        refine lv_iadd hx hb d_law_301 ?_
        refine r_as (y := nI ((5 * j) + 1)) (nI_add _ _) ?_
        refine r_sld hx hb hX hbl hbA hS (by omega) (by omega) d_law_302 ?_
        obtain ⟨hP, hD⟩ := ct_comm hP hD
        refine ct_callW (As := [.int (nI (ct_xn xs ((5 * j) + 1)))]) (rest := [.int rX]) (B := wMu qm km) (wc := wM qm km gh gd gb gl.length dl.length bl.length) (wr := wX qx kx tb fh fd fb fs gl.length dl.length (ct_octL bl (ct_xn xs (5 * j + 1))).length kn) ⟨hx, hb, hml, hown, hts⟩ (c_M_octet l D qm km hRm H.size) ok_law_M_octet dc_M_octet ⟨Nat.le_of_ble_eq_true rfl, Nat.le_of_ble_eq_true rfl⟩ rfl rfl hKm hP hD hS hA rfl rfl rfl hl.1 (Nat.le_of_ble_eq_true rfl) d_law_303 ⟨Nat.le_of_ble_eq_true rfl, Nat.le_of_ble_eq_true rfl⟩ (fun rM u H locs hw hP hD hS => ?_)
        obtain ⟨gh, gd, gb, gl2, dl2, bl2⟩ := u
        obtain ⟨hwM, e2, e3, e4, hRm⟩ := hw
        replace e2 := e2.symm
        replace e3 := e3.symm
        replace e4 := e4.symm
        subst e2 e3 e4
        have hP : va_P D ct_cl (wM qm km gh gd gb gl.length dl.length (ct_octL bl (ct_xn xs (5 * j + 1))).length ++ wX qx kx tb fh fd fb fs gl.length dl.length (ct_octL bl (ct_xn xs (5 * j + 1))).length kn) H := hP
        have hD : va_D A (wM qm km gh gd gb gl.length dl.length (ct_octL bl (ct_xn xs (5 * j + 1))).length ++ wX qx kx tb fh fd fb fs gl.length dl.length (ct_octL bl (ct_xn xs (5 * j + 1))).length kn) := hD
        obtain ⟨hP, hD⟩ := ct_comm hP hD
        refine lv_icmp_eq (tgt := 360) hx hb d_law_306 (by decide) (fun _ => ?_) (fun hne => ?_)
        · exact K _ _ _ ⟨fh, fd, fb, fs, kn, gh, gd, gb, gl, dl, ct_octL bl (ct_xn xs (5 * j + 1)), hRx, hRm, hP, hD, hS, hl⟩
        · exact absurd (hwX.trans hwM.symm) hne
      · subst ho
        refine lv_tableIn (off := 279) (tgt := 311) hx hb d_law_32 (by decide) (by decide) (by decide) (by decide) ?_
        refine lv_aload_n hx hb d_law_311 rfl (lv_at hl 1 rfl) ?_
        refine ct_callW (As := []) (rest := []) (B := wXu qx kx tb) (wc := wX qx kx tb fh fd fb fs gl.length dl.length bl.length kn) (wr := wM qm km gh gd gb gl.length dl.length bl.length) ⟨hx, hb, hml, hown, hts⟩ (c_X_spread l D qx kx hRx H.size) ok_law_X_spread dc_X_spread ⟨Nat.le_of_ble_eq_true rfl, Nat.le_of_ble_eq_true rfl⟩ rfl rfl hKx hP hD hS hA rfl rfl rfl hl.1 (Nat.le_of_ble_eq_true rfl) d_law_312 ⟨Nat.le_of_ble_eq_true rfl, Nat.le_of_ble_eq_true rfl⟩ (fun rX u H locs hw hP hD hS => ?_)
        obtain ⟨fh, fd, fb, fs, kn, gl2, dl2, bl2⟩ := u
        obtain ⟨hwX, e2, e3, e4, hRx⟩ := hw
        replace e2 := e2.symm
        replace e3 := e3.symm
        replace e4 := e4.symm
        subst e2 e3 e4
        have hP : va_P D ct_cl (wX qx kx tb fh fd fb fs gl.length (ct_sprL dl bl).length bl.length kn ++ wM qm km gh gd gb gl.length dl.length bl.length) H := hP
        have hD : va_D A (wX qx kx tb fh fd fb fs gl.length (ct_sprL dl bl).length bl.length kn ++ wM qm km gh gd gb gl.length dl.length bl.length) := hD
        refine lv_aload_n hx hb d_law_315 rfl (lv_at hl 2 rfl) ?_
        obtain ⟨hP, hD⟩ := ct_comm hP hD
        refine ct_callW (As := []) (rest := [.int rX]) (B := wMu qm km) (wc := wM qm km gh gd gb gl.length dl.length bl.length) (wr := wX qx kx tb fh fd fb fs gl.length (ct_sprL dl bl).length bl.length kn) ⟨hx, hb, hml, hown, hts⟩ (c_M_spread l D qm km hRm H.size) ok_law_M_spread dc_M_spread ⟨Nat.le_of_ble_eq_true rfl, Nat.le_of_ble_eq_true rfl⟩ rfl rfl hKm hP hD hS hA rfl rfl rfl hl.1 (Nat.le_of_ble_eq_true rfl) d_law_316 ⟨Nat.le_of_ble_eq_true rfl, Nat.le_of_ble_eq_true rfl⟩ (fun rM u H locs hw hP hD hS => ?_)
        obtain ⟨gh, gd, gb, gl2, dl2, bl2⟩ := u
        obtain ⟨hwM, e2, e3, e4, hRm⟩ := hw
        replace e2 := e2.symm
        replace e3 := e3.symm
        replace e4 := e4.symm
        subst e2 e3 e4
        have hP : va_P D ct_cl (wM qm km gh gd gb gl.length (ct_sprL dl bl).length bl.length ++ wX qx kx tb fh fd fb fs gl.length (ct_sprL dl bl).length bl.length kn) H := hP
        have hD : va_D A (wM qm km gh gd gb gl.length (ct_sprL dl bl).length bl.length ++ wX qx kx tb fh fd fb fs gl.length (ct_sprL dl bl).length bl.length kn) := hD
        obtain ⟨hP, hD⟩ := ct_comm hP hD
        refine lv_icmp_eq (tgt := 360) hx hb d_law_319 (by decide) (fun _ => ?_) (fun hne => ?_)
        · exact K _ _ _ ⟨fh, fd, fb, fs, kn, gh, gd, gb, gl, ct_sprL dl bl, bl, hRx, hRm, hP, hD, hS, hl⟩
        · exact absurd (hwX.trans hwM.symm) hne
      · subst ho
        refine lv_tableIn (off := 292) (tgt := 324) hx hb d_law_32 (by decide) (by decide) (by decide) (by decide) ?_
        refine lv_aload_n hx hb d_law_324 rfl (lv_at hl 1 rfl) ?_
        refine ct_callW (As := []) (rest := []) (B := wXu qx kx tb) (wc := wX qx kx tb fh fd fb fs gl.length dl.length bl.length kn) (wr := wM qm km gh gd gb gl.length dl.length bl.length) ⟨hx, hb, hml, hown, hts⟩ (c_X_gather l D qx kx hRx H.size) ok_law_X_gather dc_X_gather ⟨Nat.le_of_ble_eq_true rfl, Nat.le_of_ble_eq_true rfl⟩ rfl rfl hKx hP hD hS hA rfl rfl rfl hl.1 (Nat.le_of_ble_eq_true rfl) d_law_325 ⟨Nat.le_of_ble_eq_true rfl, Nat.le_of_ble_eq_true rfl⟩ (fun rX u H locs hw hP hD hS => ?_)
        obtain ⟨fh, fd, fb, fs, kn, gl2, dl2, bl2⟩ := u
        obtain ⟨hwX, e2, e3, e4, hRx⟩ := hw
        replace e2 := e2.symm
        replace e3 := e3.symm
        replace e4 := e4.symm
        subst e2 e3 e4
        have hP : va_P D ct_cl (wX qx kx tb fh fd fb fs gl.length dl.length (ct_gatL dl bl).length kn ++ wM qm km gh gd gb gl.length dl.length bl.length) H := hP
        have hD : va_D A (wX qx kx tb fh fd fb fs gl.length dl.length (ct_gatL dl bl).length kn ++ wM qm km gh gd gb gl.length dl.length bl.length) := hD
        refine lv_aload_n hx hb d_law_328 rfl (lv_at hl 2 rfl) ?_
        obtain ⟨hP, hD⟩ := ct_comm hP hD
        refine ct_callW (As := []) (rest := [.int rX]) (B := wMu qm km) (wc := wM qm km gh gd gb gl.length dl.length bl.length) (wr := wX qx kx tb fh fd fb fs gl.length dl.length (ct_gatL dl bl).length kn) ⟨hx, hb, hml, hown, hts⟩ (c_M_gather l D qm km hRm H.size) ok_law_M_gather dc_M_gather ⟨Nat.le_of_ble_eq_true rfl, Nat.le_of_ble_eq_true rfl⟩ rfl rfl hKm hP hD hS hA rfl rfl rfl hl.1 (Nat.le_of_ble_eq_true rfl) d_law_329 ⟨Nat.le_of_ble_eq_true rfl, Nat.le_of_ble_eq_true rfl⟩ (fun rM u H locs hw hP hD hS => ?_)
        obtain ⟨gh, gd, gb, gl2, dl2, bl2⟩ := u
        obtain ⟨hwM, e2, e3, e4, hRm⟩ := hw
        replace e2 := e2.symm
        replace e3 := e3.symm
        replace e4 := e4.symm
        subst e2 e3 e4
        have hP : va_P D ct_cl (wM qm km gh gd gb gl.length dl.length (ct_gatL dl bl).length ++ wX qx kx tb fh fd fb fs gl.length dl.length (ct_gatL dl bl).length kn) H := hP
        have hD : va_D A (wM qm km gh gd gb gl.length dl.length (ct_gatL dl bl).length ++ wX qx kx tb fh fd fb fs gl.length dl.length (ct_gatL dl bl).length kn) := hD
        obtain ⟨hP, hD⟩ := ct_comm hP hD
        refine lv_icmp_eq (tgt := 360) hx hb d_law_332 (by decide) (fun _ => ?_) (fun hne => ?_)
        · exact K _ _ _ ⟨fh, fd, fb, fs, kn, gh, gd, gb, gl, dl, ct_gatL dl bl, hRx, hRm, hP, hD, hS, hl⟩
        · exact absurd (hwX.trans hwM.symm) hne
      · subst ho
        refine lv_tableIn (off := 305) (tgt := 337) hx hb d_law_32 (by decide) (by decide) (by decide) (by decide) ?_
        refine lv_aload_n hx hb d_law_337 rfl (lv_at hl 1 rfl) ?_
        refine lv_aload_n hx hb d_law_338 rfl (lv_at hl 0 rfl) ?_
        refine lv_iload_n hx hb d_law_339 rfl (lv_at hl 3 rfl) ?_
        refine lv_iconst (v := nI 1) hx hb d_law_340 (by decide) ?_
        refine lv_iadd hx hb d_law_341 ?_
        refine r_as (y := nI ((5 * j) + 1)) (nI_add _ _) ?_
        refine r_sld hx hb hX hbl hbA hS (by omega) (by omega) d_law_342 ?_
        refine ct_callR (As := [.int (nI (ct_xn xs ((5 * j) + 1)))]) (rest := []) (wc := wX qx kx tb fh fd fb fs gl.length dl.length bl.length kn) ⟨hx, hb, hml, hown, hts⟩ (c_X_byteAt l D qx kx hRx) ok_law_X_byteAt dc_X_byteAt ⟨Nat.le_of_ble_eq_true rfl, Nat.le_of_ble_eq_true rfl⟩ rfl rfl hKx (ct_PL hP) rfl rfl rfl hl.1 (Nat.le_of_ble_eq_true rfl) d_law_343 ⟨Nat.le_of_ble_eq_true rfl, Nat.le_of_ble_eq_true rfl⟩ (fun rX hwX => ?_)
        refine lv_aload_n hx hb d_law_346 rfl (lv_at hl 2 rfl) ?_
        refine lv_aload_n hx hb d_law_347 rfl (lv_at hl 0 rfl) ?_
        refine lv_iload_n hx hb d_law_348 rfl (lv_at hl 3 rfl) ?_
        refine lv_iconst (v := nI 1) hx hb d_law_349 (by decide) ?_
        refine lv_iadd hx hb d_law_350 ?_
        refine r_as (y := nI ((5 * j) + 1)) (nI_add _ _) ?_
        refine r_sld hx hb hX hbl hbA hS (by omega) (by omega) d_law_351 ?_
        refine ct_callR (As := [.int (nI (ct_xn xs ((5 * j) + 1)))]) (rest := [.int rX]) (wc := wM qm km gh gd gb gl.length dl.length bl.length) ⟨hx, hb, hml, hown, hts⟩ (c_M_byteAt l D qm km hRm) ok_law_M_byteAt dc_M_byteAt ⟨Nat.le_of_ble_eq_true rfl, Nat.le_of_ble_eq_true rfl⟩ rfl rfl hKm (ct_PRr hP) rfl rfl rfl hl.1 (Nat.le_of_ble_eq_true rfl) d_law_352 ⟨Nat.le_of_ble_eq_true rfl, Nat.le_of_ble_eq_true rfl⟩ (fun rM hwM => ?_)
        refine lv_icmp_eq (tgt := 360) hx hb d_law_355 (by decide) (fun _ => ?_) (fun hne => ?_)
        · exact K _ _ _ ⟨fh, fd, fb, fs, kn, gh, gd, gb, gl, dl, bl, hRx, hRm, hP, hD, hS, hl⟩
        · exact absurd (hwX.trans hwM.symm) hne
      · have hop : op < 16 := by omega
        refine lv_tableOut (tgt := 360) hx hb d_law_32 (Or.inr (by rw [nI_toInt (by omega)]; omega)) (by decide) ?_
        exact K _ _ _ ⟨fh, fd, fb, fs, kn, gh, gd, gb, gl, dl, bl, hRx, hRm, hP, hD, hS, hl⟩
    · obtain ⟨fh, fd, fb, fs, kn, gh, gd, gb, gl, dl, bl, hRx, hRm, hP, hD, hS, hl⟩ := hI
      refine lv_iinc (v := nI (5 * (j + 1))) (lv' := [(3, .int (nI (5 * (j + 1)))), (0, .ref b), (1, .ref (qx 0)), (2, .ref (qm 0))]) hx hb d_law_360 hl (k := 3) rfl (nI_add _ 5) (by decide) rfl (fun ls hl => ?_)
      refine lv_goto (tgt := 18) hx hb d_law_363 (by decide) ?_
      exact hnext (by omega) _ _ _ ⟨fh, fd, fb, fs, kn, gh, gd, gb, gl, dl, bl, hRx, hRm, hP, hD, hS, lv_sub hl [1, 2, 3, 0] rfl⟩
end
section
set_option maxHeartbeats 4000000 in
set_option maxRecDepth 100000 in
/-- THE LAW, from its entry -/
theorem whole_start {p : Program} {e : Env} {s : State} {m : MethodId} {below : List Frame} {meth : Method} {c : Code} (l : Launch) {b L : Nat} {xs : Nat → Int32} (hL : L ≤ 2560) (C0 : lw_At p s m meth c b L xs) : W p l e room_1 s m #[Value.ref b] below meth c s.heap [] 0 0 (lw_Z below #[Value.ref b] s) (entryFrame m ([Value.ref b] : List Value).toArray 4) := by
  obtain ⟨hx, hb, hr, hml, hown, hts0, hX, hbl, hlocks, hgv⟩ := id C0
  have hts : ∀ w ∈ ct_tb, w.before #[Value.ref b] s = true := fun w hw => hts0 w (List.mem_filter.mp hw).1
  obtain ⟨A, hAe⟩ : ∃ A : Nat → Prop, A = fun q : Nat => s.heap.size ≤ q := ⟨_, rfl⟩
  have hA : ∀ q : Nat, s.heap.size ≤ q → A q := fun q h => by rw [hAe]; exact h
  have hAs : ∀ q : Nat, A q → s.heap.size ≤ q := fun q h => by rw [hAe] at h; exact h
  have hbA : ¬ A b := fun h => Nat.not_le.mpr hbl (hAs b h)
  obtain ⟨c0, iS0, hKn0⟩ := u_known (C := R_X) (T := F_X) (N := 9) (n := 9) hts i_X (hts _ tb_5)
  obtain ⟨c1, iS1, hKn1⟩ := u_known (C := R_M) (T := F_M) (N := 6) (n := 6) hts i_M (hts _ tb_121)
  obtain ⟨D, hKc⟩ : ∃ D : va_G, ∀ (k : Nat) (q : vw_C), ct_cl[k]? = some q → u_Kn s q.1 q.2.1 q.2.2 (D.1 k) (D.2 k) := by
    refine ⟨(fun k => if k = 0 then c0 else c1, fun k => if k = 0 then iS0 else iS1), ?_⟩
    intro k q hq
    match k, hq with
    | 0, hq => cases hq; exact hKn0
    | 1, hq => cases hq; exact hKn1
    | k + 2, hq => simp [ct_cl] at hq
  have hS : va_S A s.heap s.heap [] := va_S.rf
  have hK : va_K D ct_cl [] s := ⟨hKc, fun k q h => by simp at h⟩
  have hP : va_P D ct_cl [] s.heap := fun k q h => by simp at h
  have hD : va_D A [] := ⟨fun i j p q h => by simp at h, fun k q h => by simp at h⟩
  have hl := lv_entry ([.ref b]) (n := 4) (Nat.le_of_ble_eq_true rfl)
  rw [lg_entry_eq]
  generalize (lg_sl ([.ref b]) ++ List.replicate (4 - (lg_sl ([.ref b])).length) Slot.unset).toArray = ls at hl ⊢
  have hl : lv_has ls 4 [(0, .ref b)] := hl
  refine va_new (ci := 0) (fs := [.null, .null, .null, .null, .int 0, .int 0, .int 0, .null, .int 0]) (C := R_X) (T := F_X) (N := 9) hx hb hts i_X t_X t_X_ok hown (hts _ tb_4) (hts _ tb_5) (hts _ tb_1) hK hP hD hS hA rfl (fun j hj => by rcases (show j = 0 ∨ j = 1 ∨ j = 2 ∨ j = 3 ∨ j = 4 ∨ j = 5 ∨ j = 6 ∨ j = 7 ∨ j = 8 by omega) with rfl | rfl | rfl | rfl | rfl | rfl | rfl | rfl | rfl <;> rfl) (Nat.le_of_ble_eq_true rfl) (Nat.le_of_ble_eq_true rfl) d_law_0 (fun ox H hP hD hS => ?_)
  have hP : va_P D ct_cl ([(ox, .inr (0, [.null, .null, .null, .null, .int 0, .int 0, .int 0, .null, .int 0]))] ++ []) H := hP
  have hD : va_D A ([(ox, .inr (0, [.null, .null, .null, .null, .int 0, .int 0, .int 0, .null, .int 0]))] ++ []) := hD
  refine W.widen (k := 1) (n := 9) (by decide) (by decide) ?_
  refine lv_dup hx hb d_law_3 rfl ?_
  have hFc := ct_free hD hS hA
  refine va_callv (va_runI (As := []) (rest := [.ref ox]) ⟨hx, hb, hml, hown, hts⟩ (c_X_init l D ox H.size) (cwI 0 hts (ct_goodI tb_8) rfl rfl rfl (hts _ tb_1) (hts _ tb_6) (hts _ tb_7) rfl (by decide +kernel) ⟨Nat.le_of_ble_eq_true rfl, Nat.le_of_ble_eq_true rfl⟩) ⟨ct_fbW _ _ _ _ _, fun U hU hW => ⟨rfl, by rw [hU], by rw [hU]; exact ct_PL hP, va_K.moved hW.alike hK, (ct_DL hD).weaken (fun _ _ _ _ => trivial)⟩⟩ rfl rfl hl.1 rfl (lv_room (Nat.le_of_ble_eq_true rfl)) d_law_4 ⟨Nat.le_of_ble_eq_true rfl, Nat.le_of_ble_eq_true rfl⟩) hS (fun q _ h => hFc q h) hFc (fun u t H1 locs ht hvm hw hB hz1 hk1 hS => ?_)
  obtain ⟨qx, kx, tb, fh, fd, fb, fs, kn, gl, dl, bl⟩ := u
  obtain ⟨hP1, hKx, hD1⟩ := hB
  rw [ht] at hP1
  have hKx := va_K.moved hvm.symm hKx
  obtain ⟨hP, hD⟩ := ct_join hP hD hk1 hFc hP1 hD1
  obtain ⟨eo, -, e2, e3, e4, hRx⟩ := hw
  subst eo e2 e3 e4
  generalize H1 = H at hP hS ⊢
  have hP : va_P D ct_cl (wX qx kx tb fh fd fb fs 0 0 0 kn) H := hP
  have hD : va_D A (wX qx kx tb fh fd fb fs 0 0 0 kn) := hD
  refine W.widen (k := 6) (n := 218) (by decide) (by decide) ?_
  refine lv_astore_n (lv' := [(1, .ref (qx 0)), (0, .ref b)]) hx hb d_law_7 rfl hl (by decide) rfl (fun ls hl => ?_)
  refine va_new (ci := 1) (fs := [.null, .int 0, .null, .int 0, .null, .int 0]) (C := R_M) (T := F_M) (N := 6) hx hb hts i_M t_M t_M_ok hown (hts _ tb_120) (hts _ tb_121) (hts _ tb_2) hKx hP hD hS hA rfl (fun j hj => by rcases (show j = 0 ∨ j = 1 ∨ j = 2 ∨ j = 3 ∨ j = 4 ∨ j = 5 by omega) with rfl | rfl | rfl | rfl | rfl | rfl <;> rfl) (Nat.le_of_ble_eq_true rfl) (Nat.le_of_ble_eq_true rfl) d_law_8 (fun om H hP hD hS => ?_)
  obtain ⟨hP, hD⟩ := ct_comm hP hD
  refine W.widen (k := 7) (n := 224) (by decide) (by decide) ?_
  refine lv_dup hx hb d_law_11 rfl ?_
  have hFc := ct_free hD hS hA
  refine va_callv (va_runI (As := []) (rest := [.ref om]) ⟨hx, hb, hml, hown, hts⟩ (c_M_init l D om H.size) (cwI 0 hts (ct_goodI tb_124) rfl rfl rfl (hts _ tb_2) (hts _ tb_122) (hts _ tb_123) rfl (by decide +kernel) ⟨Nat.le_of_ble_eq_true rfl, Nat.le_of_ble_eq_true rfl⟩) ⟨ct_fbW _ _ _ _ _, fun U hU hW => ⟨rfl, by rw [hU], by rw [hU]; exact ct_PL hP, va_K.moved hW.alike hK, (ct_DL hD).weaken (fun _ _ _ _ => trivial)⟩⟩ rfl rfl hl.1 rfl (lv_room (Nat.le_of_ble_eq_true rfl)) d_law_12 ⟨Nat.le_of_ble_eq_true rfl, Nat.le_of_ble_eq_true rfl⟩) hS (fun q _ h => hFc q h) hFc (fun u t H1 locs ht hvm hw hB hz1 hk1 hS => ?_)
  obtain ⟨qm, km, gh, gd, gb, gl, dl, bl⟩ := u
  obtain ⟨hP1, hKm, hD1⟩ := hB
  rw [ht] at hP1
  have hKm := va_K.moved hvm.symm hKm
  obtain ⟨hP, hD⟩ := ct_join hP hD hk1 hFc hP1 hD1
  obtain ⟨eo, -, e2, e3, e4, hRm⟩ := hw
  subst eo e2 e3 e4
  obtain ⟨hP, hD⟩ := ct_comm hP hD
  refine W.widen (k := 10) (n := 336) (by decide) (by decide) ?_
  refine lv_astore_n (lv' := [(2, .ref (qm 0)), (1, .ref (qx 0)), (0, .ref b)]) hx hb d_law_15 rfl hl (by decide) rfl (fun ls hl => ?_)
  refine lv_iconst (v := nI 0) hx hb d_law_16 (by decide) ?_
  refine lv_istore_n (lv' := [(3, .int (nI 0)), (2, .ref (qm 0)), (1, .ref (qx 0)), (0, .ref b)]) hx hb d_law_17 rfl hl (by decide) rfl (fun ls hl => ?_)
  exact law_loop hL C0 hA hAs hbA hKx hKm ⟨fh, fd, fb, fs, kn, gh, gd, gb, [], [], [], hRx, hRm, hP, hD, hS, lv_sub hl [3, 2, 1, 0] rfl⟩
set_option maxHeartbeats 4000000 in
theorem lw_walk (l : Launch) (b : Addr) (xs : List Int32) : MetFree l x (headSpec (Jvm.Cond.code x code maxLocals ret :: tables_1) room_1) (lw_P b xs) (fun _ _ _ _ _ => True) lw_Q := by
  refine MetFree.of_bodyS (code := code) (maxLocals := maxLocals) (ret := ret) (by decide) ?_ ?_
  · intro args s m h hn
    obtain ⟨meth, c, h1, h2, h3, h4, h5, h6, -, -⟩ := Cond.code_spec hn (atoms_spec (ws := Jvm.Cond.code x code maxLocals ret :: tables_1) h _ List.mem_cons_self)
    exact ⟨meth, c, h1, h2, h3, h4, h5, h6⟩
  · intro p e s m args below meth c s₁ B hml0 hP _
    obtain ⟨rfl, hx, hbd, hgv⟩ := hP
    obtain ⟨scr, harrAt, hlist, hof, hsmall⟩ := hx
    obtain ⟨hcb, hkn, -, -⟩ := State.arrayAt?_spec harrAt
    have hown : s.vm.findClass R_law = some m.cls := findClass_of_methodNamed B.named
    have hts0 : ∀ c ∈ (Jvm.Cond.code x code maxLocals ret :: tables_1), c.before #[Value.ref b] s = true := atoms_spec (ws := Jvm.Cond.code x code maxLocals ret :: tables_1) B.pre
    have hts : ∀ w ∈ lw_tbl, w.before #[Value.ref b] s = true := k2_hts_sels lw_privs (fun w hw => hts0 w (List.mem_cons_of_mem _ hw)) lw_privs_ok
    have hml : c.maxLocals = 4 := B.maxLocals_eq (hts0 _ List.mem_cons_self)
    have X₀ : Stand p l e room_1 s m #[Value.ref b] below meth c s₁ [] 0 0 := Stand.of_body B
    have hh0 : s₁.heap = s.heap := by rw [B.state]; rfl
    have hsz : scr.slots.size = xs.length := by rw [← Array.length_toList, hlist, List.length_map]
    have hval : ∀ j : Nat, j < xs.length → scr.slots[j]? = some (.int (xs.getD j 0)) := fun j hj => by
      rw [← Array.getElem?_toList, hlist]
      simp [hj]
    have hbl : b < s.heap.size := (Array.getElem?_eq_some_iff.mp hcb).1
    have hX : va_X b xs.length (fun j => xs.getD j 0) s s.heap := ⟨scr, hcb, hof, hkn, hsz, hval⟩
    have K : W p l e room_1 s m #[Value.ref b] below meth c s₁.heap [] 0 0 (lw_Z below #[Value.ref b] s) (entryFrame m ([Value.ref b] : List Value).toArray 4) := by
      rw [hh0]
      exact whole_start l hbd ⟨B.exec, B.bytes, B.returns, hml, hown, hts, hX, hbl, B.notSynchronized, hgv⟩
    obtain ⟨t, a1, o, b1, b2, b3⟩ := K s₁ rfl X₀
    exact ⟨t, o, a1, b1, b2, b3⟩
theorem lw_pre_spec {args : Array Value} {s : State} (h : (Jvm.Cond.and given_1 narrow_1).before args s = true) (hr : rest_1_c.before args s = true) : ∃ (b : Addr) (xs : List Int32), lw_P b xs args s := by
  have hs := flat_of_before _ h
  have hq := flat_of_before _ hr
  have hc : (Cond.count 1).before args s = true := hs _ (by decide +kernel)
  have harr : (Cond.arrayOf (.arg 0) .int).before args s = true := hs _ (by decide +kernel)
  have hle : (Cond.le (.length (.arg 0)) (.int 2560)).before args s = true := hs _ (by decide +kernel)
  have hlen : (Cond.isInt (.length (.arg 0))).before args s = true := hq _ (by decide +kernel)
  have hall : (Cond.all (.arg 0) (.isInt (.elem (.arg 0) (.index 0)))).before args s = true := hq _ (by decide +kernel)
  obtain ⟨b, xs, hb, hx⟩ := State.ints_of_pre rfl harr hlen hall
  have hsm : xs.length < 2 ^ 31 := hx.choose_spec.2.2.2
  have hev : (Term.length (.arg 0)).eval args s none [] s = some (.int xs.length.toInt32) := hx.length_eval hb
  have hv := Cond.le_ints hev (show (Term.int 2560).eval args s none [] s = some (.int 2560) from rfl)
  have hd : xs.length.toInt32 ≤ 2560 := by
    simpa [Cond.before, Cond.holds, hv] using hle
  have hN : xs.length ≤ 2560 := (Int32.ofNat_le_ofNat hsm (by decide)).mp (show Int32.ofNat xs.length ≤ Int32.ofNat 2560 from hd)
  exact ⟨b, xs, Cond.one_arg hc (show args[0]? = some (.ref b) from hb), hx, hN, h⟩
theorem lw_comes (l : Launch) : Comes l x (Jvm.Cond.code x code maxLocals ret :: tables_1) room_1 (fun tb e args s => Calls_1 tb e args s ∧ rest_1 tb e args s ∧ Pre_1 tb e args s)
    (fun _ _ args s o t => lw_Q args s o t) := by
  intro p e ha hc hk s m args below hf hfit hheap happ hpre
  obtain ⟨b, xs, hP⟩ := lw_pre_spec hpre.2.2 hpre.2.1
  obtain ⟨k, o, h1, h2, h3, hQ⟩ := lw_walk l b xs p e ha hc hk s m args below hf ((Spec.applies_iff_loose hf).mp happ).1 hP trivial
  exact ⟨k, o, h1, h2, h3, hQ⟩
theorem lw_frame {s t : State} {o : Outcome} {args : Array Value} (h : Framed s o t [] 10 336) :
    Framed s o t (fieldLocs frame_1_writes args s ++ arrayLocs frame_1_arrays args s ++ staticLocs frame_1_statics s) 10 336 := h
theorem lw_limb (L : Cond) (hL : ∀ (args : Array Value) (s t : State), L.after args s (.returned (some (.int 1))) t = true) :
    ArmFor flags0 classFile x code maxLocals ret World_1 tables_1 room_1 Calls_1 rest_1 Pre_1
      (fun tb e a s o t => postC L tb e a s o t ∧ Framed s o t (fieldLocs frame_1_writes a s ++ arrayLocs frame_1_arrays a s ++ staticLocs frame_1_statics s) 10 336) := by
  intro l _ _ _ p e ha hc hk s m args below hf hfit hheap happ hpre
  obtain ⟨k, o, h1, h2, h3, rfl, hF⟩ := lw_comes l p e ha hc hk s m args below hf hfit hheap happ hpre
  exact ⟨k, _, h1, h2, h3, hL args s _, lw_frame hF⟩
theorem i_vc : Claimed_1_1 ∧ Claimed_1_2 := ⟨lw_limb limb_1_1 (fun args s t => by simp [limb_1_1, Cond.after, Cond.holds, Cond.value]), lw_limb limb_1_2 (fun args s t => Cond.after_iff.mpr (by
  first | (rw [show limb_1_2 = Cond.eq .result (.int 1) from rfl, Cond.eq_ints (x := 1) (y := 1) rfl rfl]; simp; done) | (simp [limb_1_2, Cond.value, Term.eval]; done)))⟩
end
