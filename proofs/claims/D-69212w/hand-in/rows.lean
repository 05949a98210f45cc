section
-- ===== PART A: goes FIRST, ahead of the names: the tables' words, and 'selects' of the private methods out of them =====
/-- a private method of a class that the tables say can be made, by its rows of tables_1 -/
def lw_okq (q : MethodName × Nat) : Prop := (q.1.cls ≠ "java/lang/invoke/MethodHandle" ∧ q.1.cls ≠ "java/lang/invoke/VarHandle") ∧ Cond.instantiable q.1.cls q.2 ∈ tables_1 ∧ Cond.privateMethod q.1 ∈ tables_1 ∧ Cond.instanceMethod q.1 ∈ tables_1
theorem lw_p0 : lw_okq (⟨"LockerRows", "isBox", "(I)Z"⟩, 10) := ⟨⟨by decide +kernel, by decide +kernel⟩, List.mem_of_getElem? (i := 8) (by decide +kernel), List.mem_of_getElem? (i := 126) (by decide +kernel), List.mem_of_getElem? (i := 127) (by decide +kernel)⟩
theorem lw_p1 : lw_okq (⟨"LockerRows", "isTime", "(J)Z"⟩, 10) := ⟨⟨by decide +kernel, by decide +kernel⟩, List.mem_of_getElem? (i := 8) (by decide +kernel), List.mem_of_getElem? (i := 131) (by decide +kernel), List.mem_of_getElem? (i := 132) (by decide +kernel)⟩
theorem lw_p2 : lw_okq (⟨"LockerRows", "pass", "(J)V"⟩, 10) := ⟨⟨by decide +kernel, by decide +kernel⟩, List.mem_of_getElem? (i := 8) (by decide +kernel), List.mem_of_getElem? (i := 135) (by decide +kernel), List.mem_of_getElem? (i := 136) (by decide +kernel)⟩
theorem lw_p3 : lw_okq (⟨"LockerRows", "find", "(I)I"⟩, 10) := ⟨⟨by decide +kernel, by decide +kernel⟩, List.mem_of_getElem? (i := 8) (by decide +kernel), List.mem_of_getElem? (i := 155) (by decide +kernel), List.mem_of_getElem? (i := 156) (by decide +kernel)⟩
theorem lw_p4 : lw_okq (⟨"LockerRows", "draw", "()I"⟩, 10) := ⟨⟨by decide +kernel, by decide +kernel⟩, List.mem_of_getElem? (i := 8) (by decide +kernel), List.mem_of_getElem? (i := 164) (by decide +kernel), List.mem_of_getElem? (i := 165) (by decide +kernel)⟩
theorem lw_p5 : lw_okq (⟨"LockerRows", "boxOf", "(I)I"⟩, 10) := ⟨⟨by decide +kernel, by decide +kernel⟩, List.mem_of_getElem? (i := 8) (by decide +kernel), List.mem_of_getElem? (i := 168) (by decide +kernel), List.mem_of_getElem? (i := 169) (by decide +kernel)⟩
theorem lw_p6 : lw_okq (⟨"LockerRowsModel", "isBox", "(I)Z"⟩, 18) := ⟨⟨by decide +kernel, by decide +kernel⟩, List.mem_of_getElem? (i := 224) (by decide +kernel), List.mem_of_getElem? (i := 309) (by decide +kernel), List.mem_of_getElem? (i := 310) (by decide +kernel)⟩
theorem lw_p7 : lw_okq (⟨"LockerRowsModel", "isNoTime", "(J)Z"⟩, 18) := ⟨⟨by decide +kernel, by decide +kernel⟩, List.mem_of_getElem? (i := 224) (by decide +kernel), List.mem_of_getElem? (i := 314) (by decide +kernel), List.mem_of_getElem? (i := 315) (by decide +kernel)⟩
theorem lw_p8 : lw_okq (⟨"LockerRowsModel", "pass", "(J)V"⟩, 18) := ⟨⟨by decide +kernel, by decide +kernel⟩, List.mem_of_getElem? (i := 224) (by decide +kernel), List.mem_of_getElem? (i := 318) (by decide +kernel), List.mem_of_getElem? (i := 319) (by decide +kernel)⟩
theorem lw_p9 : lw_okq (⟨"LockerRowsModel", "isCode", "(I)Z"⟩, 18) := ⟨⟨by decide +kernel, by decide +kernel⟩, List.mem_of_getElem? (i := 224) (by decide +kernel), List.mem_of_getElem? (i := 328) (by decide +kernel), List.mem_of_getElem? (i := 329) (by decide +kernel)⟩
theorem lw_p10 : lw_okq (⟨"LockerRowsModel", "out", "(I)I"⟩, 18) := ⟨⟨by decide +kernel, by decide +kernel⟩, List.mem_of_getElem? (i := 224) (by decide +kernel), List.mem_of_getElem? (i := 336) (by decide +kernel), List.mem_of_getElem? (i := 337) (by decide +kernel)⟩
theorem lw_p11 : lw_okq (⟨"LockerRowsModel", "open", "(II)V"⟩, 18) := ⟨⟨by decide +kernel, by decide +kernel⟩, List.mem_of_getElem? (i := 224) (by decide +kernel), List.mem_of_getElem? (i := 340) (by decide +kernel), List.mem_of_getElem? (i := 341) (by decide +kernel)⟩
def lw_privs_1 : List (MethodName × Nat) := [(⟨"LockerRows", "isBox", "(I)Z"⟩, 10), (⟨"LockerRows", "isTime", "(J)Z"⟩, 10), (⟨"LockerRows", "pass", "(J)V"⟩, 10), (⟨"LockerRows", "find", "(I)I"⟩, 10), (⟨"LockerRows", "draw", "()I"⟩, 10), (⟨"LockerRows", "boxOf", "(I)I"⟩, 10), (⟨"LockerRowsModel", "isBox", "(I)Z"⟩, 18), (⟨"LockerRowsModel", "isNoTime", "(J)Z"⟩, 18), (⟨"LockerRowsModel", "pass", "(J)V"⟩, 18), (⟨"LockerRowsModel", "isCode", "(I)Z"⟩, 18), (⟨"LockerRowsModel", "out", "(I)I"⟩, 18), (⟨"LockerRowsModel", "open", "(II)V"⟩, 18)]
theorem lw_r1 : ∀ q ∈ lw_privs_1, lw_okq q := List.forall_mem_cons.mpr ⟨lw_p0, List.forall_mem_cons.mpr ⟨lw_p1, List.forall_mem_cons.mpr ⟨lw_p2, List.forall_mem_cons.mpr ⟨lw_p3, List.forall_mem_cons.mpr ⟨lw_p4, List.forall_mem_cons.mpr ⟨lw_p5, List.forall_mem_cons.mpr ⟨lw_p6, List.forall_mem_cons.mpr ⟨lw_p7, List.forall_mem_cons.mpr ⟨lw_p8, List.forall_mem_cons.mpr ⟨lw_p9, List.forall_mem_cons.mpr ⟨lw_p10, List.forall_mem_cons.mpr ⟨lw_p11, fun _ h => absurd h List.not_mem_nil⟩⟩⟩⟩⟩⟩⟩⟩⟩⟩⟩⟩
def lw_privs : List (MethodName × Nat) := lw_privs_1
def lw_tbl : List Cond := k2_sels lw_privs ++ tables_1
theorem lw_privs_ok : ∀ q ∈ lw_privs, lw_okq q := lw_r1
-- ===== end of PART A; then your names; then what follows =====
/-! THE CLAIM OUT OF ONE WALK OF THE LAW'S BODY. Your part is whole_start (and what it stands on); all else here is the same for every law, but numbers. -/
def R_law : String := "LockerRowsLaw"
def lw_P (b : Addr) (xs : List Int32) (args : Array Value) (s : State) : Prop := args = #[.ref b] ∧ s.IntsAt b xs ∧ xs.length ≤ 2560 ∧ (Jvm.Cond.and given_1 narrow_1).before args s = true
def lw_Q (_ : Array Value) (s : State) (o : Outcome) (t : State) : Prop := o = .returned (some (.int 1)) ∧ Framed s o t [] 600000 7302250
def lw_Z (below : List Frame) (a : Array Value) (s : State) : State → Prop := fun t => ∃ o, t.status = .running ∧ Ended t below o ∧ lw_Q a s o t
/-- the law's own end, with 1 on the stack, nothing written that was there before, its room as the claim has it -/
theorem lw_ret {p : Program} {l : Launch} {e : Env} {s : State} {m : MethodId} {below : List Frame} {meth : Method} {c : Code} {b : Nat} (hx : p.tables.exec = Jvm.exec) (hb : c.code = code) (hr : meth.sig.returnType = ret) (hlocks : meth.locks = false) {pc : Nat} {H : Heap} {ls : Array Slot} (hdg : decode code pc = .ok (.ireturn, 1)) : W p l e room_1 s m #[Value.ref b] below meth c H [] 600000 7302250 (lw_Z below #[Value.ref b] s) (F0 m pc ls [.int 1]) := by
  intro T hT X
  obtain ⟨fs, hret, hrun, hended, hW, hframe⟩ := X.leave (v := some (.int 1)) (hlocks := hlocks) (fun h => by rw [hr] at h; cases h)
  have hmeth' : T.vm.method? m = some meth := X.method'
  refine ⟨T.setFrames fs, ?_, .returned (some (.int 1)), hrun, hended, rfl, ⟨_, rfl⟩, hW, hframe⟩
  jvm_step X.here [X.here.top, hx, hb, hdg, hmeth', hr, ret, narrow_b1]
  (try refine ⟨rfl, ?_⟩); (try refine ⟨rfl, ?_⟩)
  first | (intro acts; rw [hret _ acts rfl rfl rfl]) | rw [hret _ _ rfl rfl rfl]
  exact Steps.refl _
/-- what holds at the law's entry: the machine, the code, the tables' words (any of lw_tbl by 'hts w (by decide +kernel)'), the script of L ints xs at the cell b, what the Statement gives of the start (any of its parts by flat_of_before) -/
def lw_At (p : Program) (s : State) (m : MethodId) (meth : Method) (c : Code) (b L : Nat) (xs : Nat → Int32) : Prop :=
  p.tables.exec = Jvm.exec ∧ c.code = code ∧ meth.sig.returnType = ret ∧ c.maxLocals = 4 ∧ s.vm.findClass R_law = some m.cls ∧ (∀ w ∈ lw_tbl, w.before #[Value.ref b] s = true) ∧ va_X b L xs s s.heap ∧ b < s.heap.size ∧ meth.locks = false ∧ (Jvm.Cond.and given_1 narrow_1).before #[Value.ref b] s = true
end
section
/-! names, tables and words: printed by gen/names.py -/
abbrev R_X : String := "LockerRows"
abbrev R_B : String := "LockerRows$Box"
abbrev R_M : String := "LockerRowsModel"
abbrev R_D : String := "LockerRows$Door"
def F_X : u_T := fun k => match k with
  | 0 => ("LockerRows", "boxes", "[LLockerRows$Box;", true)
  | 1 => ("LockerRows", "count", "I", false)
  | 2 => ("LockerRows", "tape", "[I", true)
  | 3 => ("LockerRows", "tapeSize", "I", false)
  | 4 => ("LockerRows", "now", "J", false)
  | 5 => ("LockerRows", "alarms", "I", false)
  | 6 => ("LockerRows", "wrong", "I", false)
  | 7 => ("LockerRows", "waits", "J", false)
  | 8 => ("LockerRows", "freed", "[I", true)
  | _ => ("LockerRows", "freedCount", "I", false)
def t_X : Nat → FieldType := fun k => match k with
  | 0 => .array (.object "LockerRows$Box")
  | 1 => .int
  | 2 => .array (.int)
  | 3 => .int
  | 4 => .long
  | 5 => .int
  | 6 => .int
  | 7 => .long
  | 8 => .array (.int)
  | _ => .int
theorem n_X : ∀ a, a < 10 → ∀ b, b < 10 → a ≠ b → (F_X a).2.1 ≠ (F_X b).2.1 := by decide +kernel
theorem t_X_ok : ∀ k, k < 10 → parseFieldDescriptor (F_X k).2.2.1 = some (t_X k) := by decide +kernel
def F_B : u_T := fun k => match k with
  | 0 => ("LockerRows$Box", "size", "I", true)
  | 1 => ("LockerRows$Box", "door", "LLockerRows$Door;", false)
  | 2 => ("LockerRows$Box", "since", "J", false)
  | 3 => ("LockerRows$Box", "told", "Z", false)
  | 4 => ("LockerRows$Box", "until", "J", false)
  | 5 => ("LockerRows$Box", "item", "I", false)
  | 6 => ("LockerRows$Box", "lies", "Z", false)
  | 7 => ("LockerRows$Box", "lain", "J", false)
  | 8 => ("LockerRows$Box", "late", "Z", false)
  | _ => ("LockerRows$Box", "code", "I", false)
def t_B : Nat → FieldType := fun k => match k with
  | 0 => .int
  | 1 => .object "LockerRows$Door"
  | 2 => .long
  | 3 => .boolean
  | 4 => .long
  | 5 => .int
  | 6 => .boolean
  | 7 => .long
  | 8 => .boolean
  | _ => .int
theorem n_B : ∀ a, a < 10 → ∀ b, b < 10 → a ≠ b → (F_B a).2.1 ≠ (F_B b).2.1 := by decide +kernel
theorem t_B_ok : ∀ k, k < 10 → parseFieldDescriptor (F_B k).2.2.1 = some (t_B k) := by decide +kernel
def F_M : u_T := fun k => match k with
  | 0 => ("LockerRowsModel", "boxes", "I", false)
  | 1 => ("LockerRowsModel", "sizes", "[I", true)
  | 2 => ("LockerRowsModel", "doors", "[I", true)
  | 3 => ("LockerRowsModel", "since", "[J", true)
  | 4 => ("LockerRowsModel", "told", "[Z", true)
  | 5 => ("LockerRowsModel", "items", "[I", true)
  | 6 => ("LockerRowsModel", "codes", "[I", true)
  | 7 => ("LockerRowsModel", "lies", "[J", true)
  | 8 => ("LockerRowsModel", "late", "[Z", true)
  | 9 => ("LockerRowsModel", "kept", "[J", true)
  | 10 => ("LockerRowsModel", "time", "J", false)
  | 11 => ("LockerRowsModel", "alarms", "I", false)
  | 12 => ("LockerRowsModel", "wrong", "I", false)
  | 13 => ("LockerRowsModel", "waits", "J", false)
  | 14 => ("LockerRowsModel", "taped", "I", false)
  | 15 => ("LockerRowsModel", "tape", "[I", true)
  | 16 => ("LockerRowsModel", "freed", "I", false)
  | _ => ("LockerRowsModel", "free", "[I", true)
def t_M : Nat → FieldType := fun k => match k with
  | 0 => .int
  | 1 => .array (.int)
  | 2 => .array (.int)
  | 3 => .array (.long)
  | 4 => .array (.boolean)
  | 5 => .array (.int)
  | 6 => .array (.int)
  | 7 => .array (.long)
  | 8 => .array (.boolean)
  | 9 => .array (.long)
  | 10 => .long
  | 11 => .int
  | 12 => .int
  | 13 => .long
  | 14 => .int
  | 15 => .array (.int)
  | 16 => .int
  | _ => .array (.int)
theorem n_M : ∀ a, a < 18 → ∀ b, b < 18 → a ≠ b → (F_M a).2.1 ≠ (F_M b).2.1 := by decide +kernel
theorem t_M_ok : ∀ k, k < 18 → parseFieldDescriptor (F_M k).2.2.1 = some (t_M k) := by decide +kernel
abbrev classes : List vw_C := [(R_X, F_X, 10), (R_B, F_B, 10), (R_M, F_M, 18)]
/-- the words of the tables that hold in every later state too -/
def wG : List Cond := lw_tbl.filter goodWord
theorem kwm {w : Cond} (i : Nat) (h : lw_tbl[i]? = some w) (hg : goodWord w = true) : w ∈ wG := List.mem_filter.mpr ⟨List.mem_of_getElem? h, hg⟩
set_option maxRecDepth 20000 in
theorem i_X : ∀ w ∈ u_ws R_X F_X 10, w ∈ wG := by decide +kernel
set_option maxRecDepth 20000 in
theorem i_B : ∀ w ∈ u_ws R_B F_B 10, w ∈ wG := by decide +kernel
set_option maxRecDepth 20000 in
theorem i_M : ∀ w ∈ u_ws R_M F_M 18, w ∈ wG := by decide +kernel
abbrev b_X_init : ByteArray := prog_1_method_1_code
abbrev y_X_init : MethodName := ⟨"LockerRows", "<init>", "()V"⟩
abbrev b_X_box : ByteArray := prog_1_method_6_code
abbrev y_X_box : MethodName := ⟨"LockerRows", "box", "(I)I"⟩
abbrev b_X_isIn : ByteArray := prog_1_method_2_code
abbrev y_X_isIn : MethodName := ⟨"LockerRows", "isIn", "(JJJ)Z"⟩
abbrev b_B_init : ByteArray := prog_2_method_1_code
abbrev y_B_init : MethodName := ⟨"LockerRows$Box", "<init>", "(I)V"⟩
abbrev b_X_tape : ByteArray := prog_1_method_7_code
abbrev y_X_tape : MethodName := ⟨"LockerRows", "tape", "(I)I"⟩
abbrev b_X_reserve : ByteArray := prog_1_method_8_code
abbrev y_X_reserve : MethodName := ⟨"LockerRows", "reserve", "(IJ)I"⟩
abbrev b_B_isFree : ByteArray := prog_2_method_3_code
abbrev y_B_isFree : MethodName := ⟨"LockerRows$Box", "isFree", "()Z"⟩
abbrev b_B_isKept : ByteArray := prog_2_method_2_code
abbrev y_B_isKept : MethodName := ⟨"LockerRows$Box", "isKept", "()Z"⟩
abbrev b_X_put : ByteArray := prog_1_method_10_code
abbrev y_X_put : MethodName := ⟨"LockerRows", "put", "(IIJ)I"⟩
abbrev b_X_isBox : ByteArray := prog_1_method_3_code
abbrev y_X_isBox : MethodName := ⟨"LockerRows", "isBox", "(I)Z"⟩
abbrev b_X_isTime : ByteArray := prog_1_method_4_code
abbrev y_X_isTime : MethodName := ⟨"LockerRows", "isTime", "(J)Z"⟩
abbrev b_X_pass : ByteArray := prog_1_method_5_code
abbrev y_X_pass : MethodName := ⟨"LockerRows", "pass", "(J)V"⟩
abbrev b_B_pass : ByteArray := prog_2_method_6_code
abbrev y_B_pass : MethodName := ⟨"LockerRows$Box", "pass", "(J)I"⟩
abbrev b_D_isPassable : ByteArray := prog_3_method_4_code
abbrev y_D_isPassable : MethodName := ⟨"LockerRows$Door", "isPassable", "()Z"⟩
abbrev b_X_find : ByteArray := prog_1_method_9_code
abbrev y_X_find : MethodName := ⟨"LockerRows", "find", "(I)I"⟩
abbrev b_X_close : ByteArray := prog_1_method_13_code
abbrev y_X_close : MethodName := ⟨"LockerRows", "close", "(IJ)I"⟩
abbrev b_X_draw : ByteArray := prog_1_method_12_code
abbrev y_X_draw : MethodName := ⟨"LockerRows", "draw", "()I"⟩
abbrev b_X_boxOf : ByteArray := prog_1_method_11_code
abbrev y_X_boxOf : MethodName := ⟨"LockerRows", "boxOf", "(I)I"⟩
abbrev b_X_type : ByteArray := prog_1_method_14_code
abbrev y_X_type : MethodName := ⟨"LockerRows", "type", "(IJ)I"⟩
abbrev b_B_empty : ByteArray := prog_2_method_5_code
abbrev y_B_empty : MethodName := ⟨"LockerRows$Box", "empty", "()V"⟩
abbrev b_B_open : ByteArray := prog_2_method_4_code
abbrev y_B_open : MethodName := ⟨"LockerRows$Box", "open", "(LLockerRows$Door;J)V"⟩
abbrev b_X_code : ByteArray := prog_1_method_15_code
abbrev y_X_code : MethodName := ⟨"LockerRows", "code", "(I)I"⟩
abbrev b_X_door : ByteArray := prog_1_method_16_code
abbrev y_X_door : MethodName := ⟨"LockerRows", "door", "(IIJ)I"⟩
abbrev b_E_ordinal : ByteArray := prog_6_method_2_code
abbrev y_E_ordinal : MethodName := ⟨"java/lang/Enum", "ordinal", "()I"⟩
abbrev b_X_tick : ByteArray := prog_1_method_17_code
abbrev y_X_tick : MethodName := ⟨"LockerRows", "tick", "(J)I"⟩
abbrev b_X_take : ByteArray := prog_1_method_18_code
abbrev y_X_take : MethodName := ⟨"LockerRows", "take", "(II)I"⟩
abbrev b_X_item : ByteArray := prog_1_method_19_code
abbrev y_X_item : MethodName := ⟨"LockerRows", "item", "(I)I"⟩
abbrev b_X_freed : ByteArray := prog_1_method_20_code
abbrev y_X_freed : MethodName := ⟨"LockerRows", "freed", "(I)I"⟩
abbrev b_M_init : ByteArray := prog_5_method_1_code
abbrev y_M_init : MethodName := ⟨"LockerRowsModel", "<init>", "()V"⟩
abbrev b_M_box : ByteArray := prog_5_method_4_code
abbrev y_M_box : MethodName := ⟨"LockerRowsModel", "box", "(I)I"⟩
abbrev b_M_within : ByteArray := prog_5_method_2_code
abbrev y_M_within : MethodName := ⟨"LockerRowsModel", "within", "(JJJ)Z"⟩
abbrev b_M_tape : ByteArray := prog_5_method_5_code
abbrev y_M_tape : MethodName := ⟨"LockerRowsModel", "tape", "(I)I"⟩
abbrev b_M_reserve : ByteArray := prog_5_method_8_code
abbrev y_M_reserve : MethodName := ⟨"LockerRowsModel", "reserve", "(IJ)I"⟩
abbrev b_M_put : ByteArray := prog_5_method_9_code
abbrev y_M_put : MethodName := ⟨"LockerRowsModel", "put", "(IIJ)I"⟩
abbrev b_M_isBox : ByteArray := prog_5_method_3_code
abbrev y_M_isBox : MethodName := ⟨"LockerRowsModel", "isBox", "(I)Z"⟩
abbrev b_M_isNoTime : ByteArray := prog_5_method_6_code
abbrev y_M_isNoTime : MethodName := ⟨"LockerRowsModel", "isNoTime", "(J)Z"⟩
abbrev b_M_pass : ByteArray := prog_5_method_7_code
abbrev y_M_pass : MethodName := ⟨"LockerRowsModel", "pass", "(J)V"⟩
abbrev b_M_close : ByteArray := prog_5_method_11_code
abbrev y_M_close : MethodName := ⟨"LockerRowsModel", "close", "(IJ)I"⟩
abbrev b_M_isCode : ByteArray := prog_5_method_10_code
abbrev y_M_isCode : MethodName := ⟨"LockerRowsModel", "isCode", "(I)Z"⟩
abbrev b_M_type : ByteArray := prog_5_method_14_code
abbrev y_M_type : MethodName := ⟨"LockerRowsModel", "type", "(IJ)I"⟩
abbrev b_M_out : ByteArray := prog_5_method_13_code
abbrev y_M_out : MethodName := ⟨"LockerRowsModel", "out", "(I)I"⟩
abbrev b_M_open : ByteArray := prog_5_method_12_code
abbrev y_M_open : MethodName := ⟨"LockerRowsModel", "open", "(II)V"⟩
abbrev b_M_code : ByteArray := prog_5_method_15_code
abbrev y_M_code : MethodName := ⟨"LockerRowsModel", "code", "(I)I"⟩
abbrev b_M_door : ByteArray := prog_5_method_16_code
abbrev y_M_door : MethodName := ⟨"LockerRowsModel", "door", "(IIJ)I"⟩
abbrev b_M_tick : ByteArray := prog_5_method_17_code
abbrev y_M_tick : MethodName := ⟨"LockerRowsModel", "tick", "(J)I"⟩
abbrev b_M_take : ByteArray := prog_5_method_18_code
abbrev y_M_take : MethodName := ⟨"LockerRowsModel", "take", "(II)I"⟩
abbrev b_M_item : ByteArray := prog_5_method_19_code
abbrev y_M_item : MethodName := ⟨"LockerRowsModel", "item", "(I)I"⟩
abbrev b_M_freed : ByteArray := prog_5_method_20_code
abbrev y_M_freed : MethodName := ⟨"LockerRowsModel", "freed", "(I)I"⟩
set_option maxRecDepth 20000 in
theorem kw_0 : (Cond.initialized "LockerRowsLaw") ∈ wG := kwm 12 (by decide +kernel) rfl
set_option maxRecDepth 20000 in
theorem kw_1 : (Cond.initialized "LockerRows") ∈ wG := kwm 13 (by decide +kernel) rfl
set_option maxRecDepth 20000 in
theorem kw_2 : (Cond.initialized "LockerRowsModel") ∈ wG := kwm 14 (by decide +kernel) rfl
set_option maxRecDepth 20000 in
theorem kw_3 : (Cond.initialized "LockerRows$Box") ∈ wG := kwm 15 (by decide +kernel) rfl
set_option maxRecDepth 20000 in
theorem kw_4 : (Cond.initialized "java/lang/Enum") ∈ wG := kwm 16 (by decide +kernel) rfl
set_option maxRecDepth 20000 in
theorem kw_5 : (Cond.initialized "LockerRows$Door") ∈ wG := kwm 17 (by decide +kernel) rfl
set_option maxRecDepth 20000 in
theorem kw_6 : (Cond.initialized "java/lang/System") ∈ wG := kwm 18 (by decide +kernel) rfl
set_option maxRecDepth 20000 in
theorem kw_7 : (Cond.classLink "LockerRowsLaw" 7 "LockerRows") ∈ wG := kwm 19 (by decide +kernel) rfl
set_option maxRecDepth 20000 in
theorem kw_8 : (Cond.instantiable "LockerRows" 10) ∈ wG := kwm 20 (by decide +kernel) rfl
set_option maxRecDepth 20000 in
theorem kw_9 : (Cond.methodLink "LockerRowsLaw" 9 (⟨"LockerRows", "<init>", "()V"⟩ : MethodName)) ∈ wG := kwm 21 (by decide +kernel) rfl
set_option maxRecDepth 20000 in
theorem kw_10 : (Cond.instanceMethod (⟨"LockerRows", "<init>", "()V"⟩ : MethodName)) ∈ wG := kwm 22 (by decide +kernel) rfl
set_option maxRecDepth 20000 in
theorem kw_11 : (Cond.code (⟨"LockerRows", "<init>", "()V"⟩ : MethodName) prog_1_method_1_code 1 none) ∈ wG := kwm 23 (rfl) rfl
set_option maxRecDepth 20000 in
theorem kw_12 : (Cond.methodLink "LockerRows" 1 (⟨"java/lang/Object", "<init>", "()V"⟩ : MethodName)) ∈ wG := kwm 24 (by decide +kernel) rfl
set_option maxRecDepth 20000 in
theorem kw_13 : (Cond.instanceMethod (⟨"java/lang/Object", "<init>", "()V"⟩ : MethodName)) ∈ wG := kwm 25 (by decide +kernel) rfl
set_option maxRecDepth 20000 in
theorem kw_14 : (Cond.code (⟨"java/lang/Object", "<init>", "()V"⟩ : MethodName) object_method_1_code 1 none) ∈ wG := kwm 26 (rfl) rfl
set_option maxRecDepth 20000 in
theorem kw_15 : (Cond.classLink "LockerRows" 7 "LockerRows$Box") ∈ wG := kwm 27 (by decide +kernel) rfl
set_option maxRecDepth 20000 in
theorem kw_17 : (Cond.fieldLink "LockerRows" 9 "LockerRows" "boxes" "[LLockerRows$Box;") ∈ wG := kwm 29 (by decide +kernel) rfl
set_option maxRecDepth 20000 in
theorem kw_18 : (Cond.fieldLink "LockerRows" 22 "LockerRows" "count" "I") ∈ wG := kwm 30 (by decide +kernel) rfl
set_option maxRecDepth 20000 in
theorem kw_19 : (Cond.fieldLink "LockerRows" 15 "LockerRows" "tape" "[I") ∈ wG := kwm 31 (by decide +kernel) rfl
set_option maxRecDepth 20000 in
theorem kw_20 : (Cond.fieldLink "LockerRows" 60 "LockerRows" "tapeSize" "I") ∈ wG := kwm 32 (by decide +kernel) rfl
set_option maxRecDepth 20000 in
theorem kw_21 : (Cond.fieldLink "LockerRows" 30 "LockerRows" "now" "J") ∈ wG := kwm 33 (by decide +kernel) rfl
set_option maxRecDepth 20000 in
theorem kw_22 : (Cond.fieldLink "LockerRows" 46 "LockerRows" "alarms" "I") ∈ wG := kwm 34 (by decide +kernel) rfl
set_option maxRecDepth 20000 in
theorem kw_23 : (Cond.fieldLink "LockerRows" 127 "LockerRows" "wrong" "I") ∈ wG := kwm 35 (by decide +kernel) rfl
set_option maxRecDepth 20000 in
theorem kw_24 : (Cond.fieldLink "LockerRows" 124 "LockerRows" "waits" "J") ∈ wG := kwm 36 (by decide +kernel) rfl
set_option maxRecDepth 20000 in
theorem kw_25 : (Cond.fieldLink "LockerRows" 19 "LockerRows" "freed" "[I") ∈ wG := kwm 37 (by decide +kernel) rfl
set_option maxRecDepth 20000 in
theorem kw_26 : (Cond.fieldLink "LockerRows" 43 "LockerRows" "freedCount" "I") ∈ wG := kwm 38 (by decide +kernel) rfl
set_option maxRecDepth 20000 in
theorem kw_48 : (Cond.arrayClass .int) ∈ wG := kwm 60 (by decide +kernel) rfl
set_option maxRecDepth 20000 in
theorem kw_49 : (Cond.methodLink "LockerRowsLaw" 13 (⟨"LockerRows", "box", "(I)I"⟩ : MethodName)) ∈ wG := kwm 61 (by decide +kernel) rfl
set_option maxRecDepth 20000 in
theorem kw_50 : (Cond.instanceMethod (⟨"LockerRows", "box", "(I)I"⟩ : MethodName)) ∈ wG := kwm 62 (by decide +kernel) rfl
set_option maxRecDepth 20000 in
theorem kw_51 : (Cond.selects "LockerRows" (⟨"LockerRows", "box", "(I)I"⟩ : MethodName) (⟨"LockerRows", "box", "(I)I"⟩ : MethodName)) ∈ wG := kwm 63 (by decide +kernel) rfl
set_option maxRecDepth 20000 in
theorem kw_52 : (Cond.code (⟨"LockerRows", "box", "(I)I"⟩ : MethodName) prog_1_method_6_code 2 (some .int)) ∈ wG := kwm 64 (rfl) rfl
set_option maxRecDepth 20000 in
theorem kw_53 : (Cond.constantLong "LockerRows" 53 (5 : Int64)) ∈ wG := kwm 65 (by decide +kernel) rfl
set_option maxRecDepth 20000 in
theorem kw_54 : (Cond.methodLink "LockerRows" 26 (⟨"LockerRows", "isIn", "(JJJ)Z"⟩ : MethodName)) ∈ wG := kwm 66 (by decide +kernel) rfl
set_option maxRecDepth 20000 in
theorem kw_55 : (Cond.static (⟨"LockerRows", "isIn", "(JJJ)Z"⟩ : MethodName)) ∈ wG := kwm 67 (by decide +kernel) rfl
set_option maxRecDepth 20000 in
theorem kw_56 : (Cond.code (⟨"LockerRows", "isIn", "(JJJ)Z"⟩ : MethodName) prog_1_method_2_code 6 (some .boolean)) ∈ wG := kwm 68 (rfl) rfl
set_option maxRecDepth 20000 in
theorem kw_57 : (Cond.instantiable "LockerRows$Box" 10) ∈ wG := kwm 69 (by decide +kernel) rfl
set_option maxRecDepth 20000 in
theorem kw_58 : (Cond.methodLink "LockerRows" 55 (⟨"LockerRows$Box", "<init>", "(I)V"⟩ : MethodName)) ∈ wG := kwm 70 (by decide +kernel) rfl
set_option maxRecDepth 20000 in
theorem kw_59 : (Cond.instanceMethod (⟨"LockerRows$Box", "<init>", "(I)V"⟩ : MethodName)) ∈ wG := kwm 71 (by decide +kernel) rfl
set_option maxRecDepth 20000 in
theorem kw_60 : (Cond.code (⟨"LockerRows$Box", "<init>", "(I)V"⟩ : MethodName) prog_2_method_1_code 2 none) ∈ wG := kwm 72 (rfl) rfl
set_option maxRecDepth 20000 in
theorem kw_61 : (Cond.methodLink "LockerRows$Box" 3 (⟨"java/lang/Object", "<init>", "()V"⟩ : MethodName)) ∈ wG := kwm 73 (by decide +kernel) rfl
set_option maxRecDepth 20000 in
theorem kw_62 : (Cond.fieldLink "LockerRows$Box" 9 "LockerRows$Door" "SHUT" "LLockerRows$Door;") ∈ wG := kwm 74 (by decide +kernel) rfl
set_option maxRecDepth 20000 in
theorem kw_64 : (Cond.fieldLink "LockerRows$Box" 24 "LockerRows$Box" "size" "I") ∈ wG := kwm 76 (by decide +kernel) rfl
set_option maxRecDepth 20000 in
theorem kw_66 : (Cond.fieldLink "LockerRows$Box" 15 "LockerRows$Box" "door" "LLockerRows$Door;") ∈ wG := kwm 78 (by decide +kernel) rfl
set_option maxRecDepth 20000 in
theorem kw_68 : (Cond.fieldLink "LockerRows$Box" 38 "LockerRows$Box" "since" "J") ∈ wG := kwm 80 (by decide +kernel) rfl
set_option maxRecDepth 20000 in
theorem kw_69 : (Cond.fieldLink "LockerRows$Box" 41 "LockerRows$Box" "told" "Z") ∈ wG := kwm 81 (by decide +kernel) rfl
set_option maxRecDepth 20000 in
theorem kw_70 : (Cond.fieldLink "LockerRows$Box" 27 "LockerRows$Box" "until" "J") ∈ wG := kwm 82 (by decide +kernel) rfl
set_option maxRecDepth 20000 in
theorem kw_72 : (Cond.fieldLink "LockerRows$Box" 31 "LockerRows$Box" "item" "I") ∈ wG := kwm 84 (by decide +kernel) rfl
set_option maxRecDepth 20000 in
theorem kw_74 : (Cond.fieldLink "LockerRows$Box" 45 "LockerRows$Box" "lies" "Z") ∈ wG := kwm 86 (by decide +kernel) rfl
set_option maxRecDepth 20000 in
theorem kw_76 : (Cond.fieldLink "LockerRows$Box" 56 "LockerRows$Box" "lain" "J") ∈ wG := kwm 88 (by decide +kernel) rfl
set_option maxRecDepth 20000 in
theorem kw_78 : (Cond.fieldLink "LockerRows$Box" 48 "LockerRows$Box" "late" "Z") ∈ wG := kwm 90 (by decide +kernel) rfl
set_option maxRecDepth 20000 in
theorem kw_80 : (Cond.fieldLink "LockerRows$Box" 20 "LockerRows$Box" "code" "I") ∈ wG := kwm 92 (by decide +kernel) rfl
set_option maxRecDepth 20000 in
theorem kw_103 : (Cond.methodLink "LockerRowsLaw" 18 (⟨"LockerRows", "tape", "(I)I"⟩ : MethodName)) ∈ wG := kwm 115 (by decide +kernel) rfl
set_option maxRecDepth 20000 in
theorem kw_104 : (Cond.instanceMethod (⟨"LockerRows", "tape", "(I)I"⟩ : MethodName)) ∈ wG := kwm 116 (by decide +kernel) rfl
set_option maxRecDepth 20000 in
theorem kw_105 : (Cond.selects "LockerRows" (⟨"LockerRows", "tape", "(I)I"⟩ : MethodName) (⟨"LockerRows", "tape", "(I)I"⟩ : MethodName)) ∈ wG := kwm 117 (by decide +kernel) rfl
set_option maxRecDepth 20000 in
theorem kw_106 : (Cond.code (⟨"LockerRows", "tape", "(I)I"⟩ : MethodName) prog_1_method_7_code 2 (some .int)) ∈ wG := kwm 118 (rfl) rfl
set_option maxRecDepth 20000 in
theorem kw_107 : (Cond.constantLong "LockerRows" 58 (999999 : Int64)) ∈ wG := kwm 119 (by decide +kernel) rfl
set_option maxRecDepth 20000 in
theorem kw_108 : (Cond.methodLink "LockerRowsLaw" 24 (⟨"LockerRows", "reserve", "(IJ)I"⟩ : MethodName)) ∈ wG := kwm 120 (by decide +kernel) rfl
set_option maxRecDepth 20000 in
theorem kw_109 : (Cond.instanceMethod (⟨"LockerRows", "reserve", "(IJ)I"⟩ : MethodName)) ∈ wG := kwm 121 (by decide +kernel) rfl
set_option maxRecDepth 20000 in
theorem kw_110 : (Cond.selects "LockerRows" (⟨"LockerRows", "reserve", "(IJ)I"⟩ : MethodName) (⟨"LockerRows", "reserve", "(IJ)I"⟩ : MethodName)) ∈ wG := kwm 122 (by decide +kernel) rfl
set_option maxRecDepth 20000 in
theorem kw_111 : (Cond.code (⟨"LockerRows", "reserve", "(IJ)I"⟩ : MethodName) prog_1_method_8_code 7 (some .int)) ∈ wG := kwm 123 (rfl) rfl
set_option maxRecDepth 20000 in
theorem kw_112 : (Cond.constantLong "LockerRows" 34 (2000000000 : Int64)) ∈ wG := kwm 124 (by decide +kernel) rfl
set_option maxRecDepth 20000 in
theorem kw_113 : (Cond.methodLink "LockerRows" 63 (⟨"LockerRows$Box", "isFree", "()Z"⟩ : MethodName)) ∈ wG := kwm 125 (by decide +kernel) rfl
set_option maxRecDepth 20000 in
theorem kw_114 : (Cond.instanceMethod (⟨"LockerRows$Box", "isFree", "()Z"⟩ : MethodName)) ∈ wG := kwm 126 (by decide +kernel) rfl
set_option maxRecDepth 20000 in
theorem kw_115 : (Cond.selects "LockerRows$Box" (⟨"LockerRows$Box", "isFree", "()Z"⟩ : MethodName) (⟨"LockerRows$Box", "isFree", "()Z"⟩ : MethodName)) ∈ wG := kwm 127 (by decide +kernel) rfl
set_option maxRecDepth 20000 in
theorem kw_116 : (Cond.code (⟨"LockerRows$Box", "isFree", "()Z"⟩ : MethodName) prog_2_method_3_code 1 (some .boolean)) ∈ wG := kwm 128 (rfl) rfl
set_option maxRecDepth 20000 in
theorem kw_117 : (Cond.methodLink "LockerRows$Box" 34 (⟨"LockerRows$Box", "isKept", "()Z"⟩ : MethodName)) ∈ wG := kwm 129 (by decide +kernel) rfl
set_option maxRecDepth 20000 in
theorem kw_118 : (Cond.instanceMethod (⟨"LockerRows$Box", "isKept", "()Z"⟩ : MethodName)) ∈ wG := kwm 130 (by decide +kernel) rfl
set_option maxRecDepth 20000 in
theorem kw_119 : (Cond.selects "LockerRows$Box" (⟨"LockerRows$Box", "isKept", "()Z"⟩ : MethodName) (⟨"LockerRows$Box", "isKept", "()Z"⟩ : MethodName)) ∈ wG := kwm 131 (by decide +kernel) rfl
set_option maxRecDepth 20000 in
theorem kw_120 : (Cond.code (⟨"LockerRows$Box", "isKept", "()Z"⟩ : MethodName) prog_2_method_2_code 1 (some .boolean)) ∈ wG := kwm 132 (rfl) rfl
set_option maxRecDepth 20000 in
theorem kw_121 : (Cond.methodLink "LockerRowsLaw" 29 (⟨"LockerRows", "put", "(IIJ)I"⟩ : MethodName)) ∈ wG := kwm 133 (by decide +kernel) rfl
set_option maxRecDepth 20000 in
theorem kw_122 : (Cond.instanceMethod (⟨"LockerRows", "put", "(IIJ)I"⟩ : MethodName)) ∈ wG := kwm 134 (by decide +kernel) rfl
set_option maxRecDepth 20000 in
theorem kw_123 : (Cond.selects "LockerRows" (⟨"LockerRows", "put", "(IIJ)I"⟩ : MethodName) (⟨"LockerRows", "put", "(IIJ)I"⟩ : MethodName)) ∈ wG := kwm 135 (by decide +kernel) rfl
set_option maxRecDepth 20000 in
theorem kw_124 : (Cond.code (⟨"LockerRows", "put", "(IIJ)I"⟩ : MethodName) prog_1_method_10_code 6 (some .int)) ∈ wG := kwm 136 (rfl) rfl
set_option maxRecDepth 20000 in
theorem kw_125 : (Cond.methodLink "LockerRows" 72 (⟨"LockerRows", "isBox", "(I)Z"⟩ : MethodName)) ∈ wG := kwm 137 (by decide +kernel) rfl
set_option maxRecDepth 20000 in
theorem kw_127 : (Cond.instanceMethod (⟨"LockerRows", "isBox", "(I)Z"⟩ : MethodName)) ∈ wG := kwm 139 (by decide +kernel) rfl
set_option maxRecDepth 20000 in
theorem kw_128 : (Cond.code (⟨"LockerRows", "isBox", "(I)Z"⟩ : MethodName) prog_1_method_3_code 2 (some .boolean)) ∈ wG := kwm 140 (rfl) rfl
set_option maxRecDepth 20000 in
theorem kw_129 : (Cond.constantLong "LockerRows" 76 (9999 : Int64)) ∈ wG := kwm 141 (by decide +kernel) rfl
set_option maxRecDepth 20000 in
theorem kw_130 : (Cond.methodLink "LockerRows" 78 (⟨"LockerRows", "isTime", "(J)Z"⟩ : MethodName)) ∈ wG := kwm 142 (by decide +kernel) rfl
set_option maxRecDepth 20000 in
theorem kw_132 : (Cond.instanceMethod (⟨"LockerRows", "isTime", "(J)Z"⟩ : MethodName)) ∈ wG := kwm 144 (by decide +kernel) rfl
set_option maxRecDepth 20000 in
theorem kw_133 : (Cond.code (⟨"LockerRows", "isTime", "(J)Z"⟩ : MethodName) prog_1_method_4_code 3 (some .boolean)) ∈ wG := kwm 145 (rfl) rfl
set_option maxRecDepth 20000 in
theorem kw_134 : (Cond.methodLink "LockerRows" 82 (⟨"LockerRows", "pass", "(J)V"⟩ : MethodName)) ∈ wG := kwm 146 (by decide +kernel) rfl
set_option maxRecDepth 20000 in
theorem kw_136 : (Cond.instanceMethod (⟨"LockerRows", "pass", "(J)V"⟩ : MethodName)) ∈ wG := kwm 148 (by decide +kernel) rfl
set_option maxRecDepth 20000 in
theorem kw_137 : (Cond.code (⟨"LockerRows", "pass", "(J)V"⟩ : MethodName) prog_1_method_5_code 5 none) ∈ wG := kwm 149 (rfl) rfl
set_option maxRecDepth 20000 in
theorem kw_138 : (Cond.methodLink "LockerRows" 36 (⟨"LockerRows$Box", "isKept", "()Z"⟩ : MethodName)) ∈ wG := kwm 150 (by decide +kernel) rfl
set_option maxRecDepth 20000 in
theorem kw_139 : (Cond.methodLink "LockerRows" 49 (⟨"LockerRows$Box", "pass", "(J)I"⟩ : MethodName)) ∈ wG := kwm 151 (by decide +kernel) rfl
set_option maxRecDepth 20000 in
theorem kw_140 : (Cond.instanceMethod (⟨"LockerRows$Box", "pass", "(J)I"⟩ : MethodName)) ∈ wG := kwm 152 (by decide +kernel) rfl
set_option maxRecDepth 20000 in
theorem kw_141 : (Cond.selects "LockerRows$Box" (⟨"LockerRows$Box", "pass", "(J)I"⟩ : MethodName) (⟨"LockerRows$Box", "pass", "(J)I"⟩ : MethodName)) ∈ wG := kwm 153 (by decide +kernel) rfl
set_option maxRecDepth 20000 in
theorem kw_142 : (Cond.code (⟨"LockerRows$Box", "pass", "(J)I"⟩ : MethodName) prog_2_method_6_code 4 (some .int)) ∈ wG := kwm 154 (rfl) rfl
set_option maxRecDepth 20000 in
theorem kw_143 : (Cond.methodLink "LockerRows$Box" 51 (⟨"LockerRows$Door", "isPassable", "()Z"⟩ : MethodName)) ∈ wG := kwm 155 (by decide +kernel) rfl
set_option maxRecDepth 20000 in
theorem kw_144 : (Cond.instanceMethod (⟨"LockerRows$Door", "isPassable", "()Z"⟩ : MethodName)) ∈ wG := kwm 156 (by decide +kernel) rfl
set_option maxRecDepth 20000 in
theorem kw_145 : (Cond.selects "LockerRows$Door" (⟨"LockerRows$Door", "isPassable", "()Z"⟩ : MethodName) (⟨"LockerRows$Door", "isPassable", "()Z"⟩ : MethodName)) ∈ wG := kwm 157 (by decide +kernel) rfl
set_option maxRecDepth 20000 in
theorem kw_146 : (Cond.code (⟨"LockerRows$Door", "isPassable", "()Z"⟩ : MethodName) prog_3_method_4_code 1 (some .boolean)) ∈ wG := kwm 158 (rfl) rfl
set_option maxRecDepth 20000 in
theorem kw_147 : (Cond.fieldLink "LockerRows$Door" 7 "LockerRows$Door" "OPEN" "LLockerRows$Door;") ∈ wG := kwm 159 (by decide +kernel) rfl
set_option maxRecDepth 20000 in
theorem kw_149 : (Cond.fieldLink "LockerRows$Door" 10 "LockerRows$Door" "FORCED" "LLockerRows$Door;") ∈ wG := kwm 161 (by decide +kernel) rfl
set_option maxRecDepth 20000 in
theorem kw_151 : (Cond.constantLong "LockerRows$Box" 54 (120 : Int64)) ∈ wG := kwm 163 (by decide +kernel) rfl
set_option maxRecDepth 20000 in
theorem kw_152 : (Cond.constantLong "LockerRows$Box" 59 (604800 : Int64)) ∈ wG := kwm 164 (by decide +kernel) rfl
set_option maxRecDepth 20000 in
theorem kw_153 : (Cond.fieldLink "LockerRows" 89 "LockerRows$Door" "OPEN" "LLockerRows$Door;") ∈ wG := kwm 165 (by decide +kernel) rfl
set_option maxRecDepth 20000 in
theorem kw_154 : (Cond.methodLink "LockerRows" 94 (⟨"LockerRows", "find", "(I)I"⟩ : MethodName)) ∈ wG := kwm 166 (by decide +kernel) rfl
set_option maxRecDepth 20000 in
theorem kw_156 : (Cond.instanceMethod (⟨"LockerRows", "find", "(I)I"⟩ : MethodName)) ∈ wG := kwm 168 (by decide +kernel) rfl
set_option maxRecDepth 20000 in
theorem kw_157 : (Cond.code (⟨"LockerRows", "find", "(I)I"⟩ : MethodName) prog_1_method_9_code 3 (some .int)) ∈ wG := kwm 169 (rfl) rfl
set_option maxRecDepth 20000 in
theorem kw_158 : (Cond.methodLink "LockerRowsLaw" 34 (⟨"LockerRows", "close", "(IJ)I"⟩ : MethodName)) ∈ wG := kwm 170 (by decide +kernel) rfl
set_option maxRecDepth 20000 in
theorem kw_159 : (Cond.instanceMethod (⟨"LockerRows", "close", "(IJ)I"⟩ : MethodName)) ∈ wG := kwm 171 (by decide +kernel) rfl
set_option maxRecDepth 20000 in
theorem kw_160 : (Cond.selects "LockerRows" (⟨"LockerRows", "close", "(IJ)I"⟩ : MethodName) (⟨"LockerRows", "close", "(IJ)I"⟩ : MethodName)) ∈ wG := kwm 172 (by decide +kernel) rfl
set_option maxRecDepth 20000 in
theorem kw_161 : (Cond.code (⟨"LockerRows", "close", "(IJ)I"⟩ : MethodName) prog_1_method_13_code 6 (some .int)) ∈ wG := kwm 173 (rfl) rfl
set_option maxRecDepth 20000 in
theorem kw_162 : (Cond.fieldLink "LockerRows" 114 "LockerRows$Door" "SHUT" "LLockerRows$Door;") ∈ wG := kwm 174 (by decide +kernel) rfl
set_option maxRecDepth 20000 in
theorem kw_163 : (Cond.methodLink "LockerRows" 117 (⟨"LockerRows", "draw", "()I"⟩ : MethodName)) ∈ wG := kwm 175 (by decide +kernel) rfl
set_option maxRecDepth 20000 in
theorem kw_165 : (Cond.instanceMethod (⟨"LockerRows", "draw", "()I"⟩ : MethodName)) ∈ wG := kwm 177 (by decide +kernel) rfl
set_option maxRecDepth 20000 in
theorem kw_166 : (Cond.code (⟨"LockerRows", "draw", "()I"⟩ : MethodName) prog_1_method_12_code 3 (some .int)) ∈ wG := kwm 178 (rfl) rfl
set_option maxRecDepth 20000 in
theorem kw_167 : (Cond.methodLink "LockerRows" 101 (⟨"LockerRows", "boxOf", "(I)I"⟩ : MethodName)) ∈ wG := kwm 179 (by decide +kernel) rfl
set_option maxRecDepth 20000 in
theorem kw_169 : (Cond.instanceMethod (⟨"LockerRows", "boxOf", "(I)I"⟩ : MethodName)) ∈ wG := kwm 181 (by decide +kernel) rfl
set_option maxRecDepth 20000 in
theorem kw_170 : (Cond.code (⟨"LockerRows", "boxOf", "(I)I"⟩ : MethodName) prog_1_method_11_code 3 (some .int)) ∈ wG := kwm 182 (rfl) rfl
set_option maxRecDepth 20000 in
theorem kw_171 : (Cond.methodLink "LockerRows" 104 (⟨"java/lang/System", "arraycopy", "(Ljava/lang/Object;ILjava/lang/Object;II)V"⟩ : MethodName)) ∈ wG := kwm 183 (by decide +kernel) rfl
set_option maxRecDepth 20000 in
theorem kw_172 : (Cond.static (⟨"java/lang/System", "arraycopy", "(Ljava/lang/Object;ILjava/lang/Object;II)V"⟩ : MethodName)) ∈ wG := kwm 184 (by decide +kernel) rfl
set_option maxRecDepth 20000 in
theorem kw_173 : (Cond.native (⟨"java/lang/System", "arraycopy", "(Ljava/lang/Object;ILjava/lang/Object;II)V"⟩ : MethodName)) ∈ wG := kwm 185 (by decide +kernel) rfl
set_option maxRecDepth 20000 in
theorem kw_174 : (Cond.methodLink "LockerRowsLaw" 38 (⟨"LockerRows", "type", "(IJ)I"⟩ : MethodName)) ∈ wG := kwm 186 (by decide +kernel) rfl
set_option maxRecDepth 20000 in
theorem kw_175 : (Cond.instanceMethod (⟨"LockerRows", "type", "(IJ)I"⟩ : MethodName)) ∈ wG := kwm 187 (by decide +kernel) rfl
set_option maxRecDepth 20000 in
theorem kw_176 : (Cond.selects "LockerRows" (⟨"LockerRows", "type", "(IJ)I"⟩ : MethodName) (⟨"LockerRows", "type", "(IJ)I"⟩ : MethodName)) ∈ wG := kwm 188 (by decide +kernel) rfl
set_option maxRecDepth 20000 in
theorem kw_177 : (Cond.code (⟨"LockerRows", "type", "(IJ)I"⟩ : MethodName) prog_1_method_14_code 5 (some .int)) ∈ wG := kwm 189 (rfl) rfl
set_option maxRecDepth 20000 in
theorem kw_178 : (Cond.constantLong "LockerRows" 130 (300 : Int64)) ∈ wG := kwm 190 (by decide +kernel) rfl
set_option maxRecDepth 20000 in
theorem kw_179 : (Cond.methodLink "LockerRows" 132 (⟨"LockerRows$Box", "empty", "()V"⟩ : MethodName)) ∈ wG := kwm 191 (by decide +kernel) rfl
set_option maxRecDepth 20000 in
theorem kw_180 : (Cond.instanceMethod (⟨"LockerRows$Box", "empty", "()V"⟩ : MethodName)) ∈ wG := kwm 192 (by decide +kernel) rfl
set_option maxRecDepth 20000 in
theorem kw_181 : (Cond.selects "LockerRows$Box" (⟨"LockerRows$Box", "empty", "()V"⟩ : MethodName) (⟨"LockerRows$Box", "empty", "()V"⟩ : MethodName)) ∈ wG := kwm 193 (by decide +kernel) rfl
set_option maxRecDepth 20000 in
theorem kw_182 : (Cond.code (⟨"LockerRows$Box", "empty", "()V"⟩ : MethodName) prog_2_method_5_code 1 none) ∈ wG := kwm 194 (rfl) rfl
set_option maxRecDepth 20000 in
theorem kw_183 : (Cond.methodLink "LockerRows" 135 (⟨"LockerRows$Box", "open", "(LLockerRows$Door;J)V"⟩ : MethodName)) ∈ wG := kwm 195 (by decide +kernel) rfl
set_option maxRecDepth 20000 in
theorem kw_184 : (Cond.instanceMethod (⟨"LockerRows$Box", "open", "(LLockerRows$Door;J)V"⟩ : MethodName)) ∈ wG := kwm 196 (by decide +kernel) rfl
set_option maxRecDepth 20000 in
theorem kw_185 : (Cond.selects "LockerRows$Box" (⟨"LockerRows$Box", "open", "(LLockerRows$Door;J)V"⟩ : MethodName) (⟨"LockerRows$Box", "open", "(LLockerRows$Door;J)V"⟩ : MethodName)) ∈ wG := kwm 197 (by decide +kernel) rfl
set_option maxRecDepth 20000 in
theorem kw_186 : (Cond.code (⟨"LockerRows$Box", "open", "(LLockerRows$Door;J)V"⟩ : MethodName) prog_2_method_4_code 4 none) ∈ wG := kwm 198 (rfl) rfl
set_option maxRecDepth 20000 in
theorem kw_187 : (Cond.methodLink "LockerRowsLaw" 42 (⟨"LockerRows", "code", "(I)I"⟩ : MethodName)) ∈ wG := kwm 199 (by decide +kernel) rfl
set_option maxRecDepth 20000 in
theorem kw_188 : (Cond.instanceMethod (⟨"LockerRows", "code", "(I)I"⟩ : MethodName)) ∈ wG := kwm 200 (by decide +kernel) rfl
set_option maxRecDepth 20000 in
theorem kw_189 : (Cond.selects "LockerRows" (⟨"LockerRows", "code", "(I)I"⟩ : MethodName) (⟨"LockerRows", "code", "(I)I"⟩ : MethodName)) ∈ wG := kwm 201 (by decide +kernel) rfl
set_option maxRecDepth 20000 in
theorem kw_190 : (Cond.code (⟨"LockerRows", "code", "(I)I"⟩ : MethodName) prog_1_method_15_code 3 (some .int)) ∈ wG := kwm 202 (rfl) rfl
set_option maxRecDepth 20000 in
theorem kw_191 : (Cond.methodLink "LockerRowsLaw" 46 (⟨"LockerRows", "door", "(IIJ)I"⟩ : MethodName)) ∈ wG := kwm 203 (by decide +kernel) rfl
set_option maxRecDepth 20000 in
theorem kw_192 : (Cond.instanceMethod (⟨"LockerRows", "door", "(IIJ)I"⟩ : MethodName)) ∈ wG := kwm 204 (by decide +kernel) rfl
set_option maxRecDepth 20000 in
theorem kw_193 : (Cond.selects "LockerRows" (⟨"LockerRows", "door", "(IIJ)I"⟩ : MethodName) (⟨"LockerRows", "door", "(IIJ)I"⟩ : MethodName)) ∈ wG := kwm 205 (by decide +kernel) rfl
set_option maxRecDepth 20000 in
theorem kw_194 : (Cond.code (⟨"LockerRows", "door", "(IIJ)I"⟩ : MethodName) prog_1_method_16_code 7 (some .int)) ∈ wG := kwm 206 (rfl) rfl
set_option maxRecDepth 20000 in
theorem kw_195 : (Cond.constantLong "LockerRows" 139 (4 : Int64)) ∈ wG := kwm 207 (by decide +kernel) rfl
set_option maxRecDepth 20000 in
theorem kw_196 : (Cond.fieldLink "LockerRows" 141 "LockerRows$Door" "FORCED" "LLockerRows$Door;") ∈ wG := kwm 208 (by decide +kernel) rfl
set_option maxRecDepth 20000 in
theorem kw_197 : (Cond.fieldLink "LockerRows" 144 "LockerRows$Door" "OUT" "LLockerRows$Door;") ∈ wG := kwm 209 (by decide +kernel) rfl
set_option maxRecDepth 20000 in
theorem kw_199 : (Cond.methodLink "LockerRows" 147 (⟨"LockerRows$Door", "ordinal", "()I"⟩ : MethodName)) ∈ wG := kwm 211 (by decide +kernel) rfl
set_option maxRecDepth 20000 in
theorem kw_200 : (Cond.sameMethod "LockerRows$Door" "java/lang/Enum" "ordinal" "()I") ∈ wG := kwm 212 (by decide +kernel) rfl
set_option maxRecDepth 20000 in
theorem kw_202 : (Cond.selects "LockerRows$Door" (⟨"LockerRows$Door", "ordinal", "()I"⟩ : MethodName) (⟨"java/lang/Enum", "ordinal", "()I"⟩ : MethodName)) ∈ wG := kwm 214 (by decide +kernel) rfl
set_option maxRecDepth 20000 in
theorem kw_203 : (Cond.instanceMethod (⟨"java/lang/Enum", "ordinal", "()I"⟩ : MethodName)) ∈ wG := kwm 215 (by decide +kernel) rfl
set_option maxRecDepth 20000 in
theorem kw_204 : (Cond.code (⟨"java/lang/Enum", "ordinal", "()I"⟩ : MethodName) prog_6_method_2_code 1 (some .int)) ∈ wG := kwm 216 (rfl) rfl
set_option maxRecDepth 20000 in
theorem kw_205 : (Cond.methodLink "LockerRowsLaw" 50 (⟨"LockerRows", "tick", "(J)I"⟩ : MethodName)) ∈ wG := kwm 217 (by decide +kernel) rfl
set_option maxRecDepth 20000 in
theorem kw_206 : (Cond.instanceMethod (⟨"LockerRows", "tick", "(J)I"⟩ : MethodName)) ∈ wG := kwm 218 (by decide +kernel) rfl
set_option maxRecDepth 20000 in
theorem kw_207 : (Cond.selects "LockerRows" (⟨"LockerRows", "tick", "(J)I"⟩ : MethodName) (⟨"LockerRows", "tick", "(J)I"⟩ : MethodName)) ∈ wG := kwm 219 (by decide +kernel) rfl
set_option maxRecDepth 20000 in
theorem kw_208 : (Cond.code (⟨"LockerRows", "tick", "(J)I"⟩ : MethodName) prog_1_method_17_code 4 (some .int)) ∈ wG := kwm 220 (rfl) rfl
set_option maxRecDepth 20000 in
theorem kw_209 : (Cond.methodLink "LockerRowsLaw" 55 (⟨"LockerRows", "take", "(II)I"⟩ : MethodName)) ∈ wG := kwm 221 (by decide +kernel) rfl
set_option maxRecDepth 20000 in
theorem kw_210 : (Cond.instanceMethod (⟨"LockerRows", "take", "(II)I"⟩ : MethodName)) ∈ wG := kwm 222 (by decide +kernel) rfl
set_option maxRecDepth 20000 in
theorem kw_211 : (Cond.selects "LockerRows" (⟨"LockerRows", "take", "(II)I"⟩ : MethodName) (⟨"LockerRows", "take", "(II)I"⟩ : MethodName)) ∈ wG := kwm 223 (by decide +kernel) rfl
set_option maxRecDepth 20000 in
theorem kw_212 : (Cond.code (⟨"LockerRows", "take", "(II)I"⟩ : MethodName) prog_1_method_18_code 5 (some .int)) ∈ wG := kwm 224 (rfl) rfl
set_option maxRecDepth 20000 in
theorem kw_213 : (Cond.constantLong "LockerRows" 150 (9 : Int64)) ∈ wG := kwm 225 (by decide +kernel) rfl
set_option maxRecDepth 20000 in
theorem kw_214 : (Cond.methodLink "LockerRows" 152 (⟨"LockerRows$Door", "isPassable", "()Z"⟩ : MethodName)) ∈ wG := kwm 226 (by decide +kernel) rfl
set_option maxRecDepth 20000 in
theorem kw_215 : (Cond.methodLink "LockerRowsLaw" 60 (⟨"LockerRows", "item", "(I)I"⟩ : MethodName)) ∈ wG := kwm 227 (by decide +kernel) rfl
set_option maxRecDepth 20000 in
theorem kw_216 : (Cond.instanceMethod (⟨"LockerRows", "item", "(I)I"⟩ : MethodName)) ∈ wG := kwm 228 (by decide +kernel) rfl
set_option maxRecDepth 20000 in
theorem kw_217 : (Cond.selects "LockerRows" (⟨"LockerRows", "item", "(I)I"⟩ : MethodName) (⟨"LockerRows", "item", "(I)I"⟩ : MethodName)) ∈ wG := kwm 229 (by decide +kernel) rfl
set_option maxRecDepth 20000 in
theorem kw_218 : (Cond.code (⟨"LockerRows", "item", "(I)I"⟩ : MethodName) prog_1_method_19_code 3 (some .int)) ∈ wG := kwm 230 (rfl) rfl
set_option maxRecDepth 20000 in
theorem kw_219 : (Cond.methodLink "LockerRowsLaw" 64 (⟨"LockerRows", "freed", "(I)I"⟩ : MethodName)) ∈ wG := kwm 231 (by decide +kernel) rfl
set_option maxRecDepth 20000 in
theorem kw_220 : (Cond.instanceMethod (⟨"LockerRows", "freed", "(I)I"⟩ : MethodName)) ∈ wG := kwm 232 (by decide +kernel) rfl
set_option maxRecDepth 20000 in
theorem kw_221 : (Cond.selects "LockerRows" (⟨"LockerRows", "freed", "(I)I"⟩ : MethodName) (⟨"LockerRows", "freed", "(I)I"⟩ : MethodName)) ∈ wG := kwm 233 (by decide +kernel) rfl
set_option maxRecDepth 20000 in
theorem kw_222 : (Cond.code (⟨"LockerRows", "freed", "(I)I"⟩ : MethodName) prog_1_method_20_code 2 (some .int)) ∈ wG := kwm 234 (rfl) rfl
set_option maxRecDepth 20000 in
theorem kw_223 : (Cond.classLink "LockerRowsLaw" 10 "LockerRowsModel") ∈ wG := kwm 235 (by decide +kernel) rfl
set_option maxRecDepth 20000 in
theorem kw_224 : (Cond.instantiable "LockerRowsModel" 18) ∈ wG := kwm 236 (by decide +kernel) rfl
set_option maxRecDepth 20000 in
theorem kw_225 : (Cond.methodLink "LockerRowsLaw" 12 (⟨"LockerRowsModel", "<init>", "()V"⟩ : MethodName)) ∈ wG := kwm 237 (by decide +kernel) rfl
set_option maxRecDepth 20000 in
theorem kw_226 : (Cond.instanceMethod (⟨"LockerRowsModel", "<init>", "()V"⟩ : MethodName)) ∈ wG := kwm 238 (by decide +kernel) rfl
set_option maxRecDepth 20000 in
theorem kw_227 : (Cond.code (⟨"LockerRowsModel", "<init>", "()V"⟩ : MethodName) prog_5_method_1_code 1 none) ∈ wG := kwm 239 (rfl) rfl
set_option maxRecDepth 20000 in
theorem kw_228 : (Cond.methodLink "LockerRowsModel" 1 (⟨"java/lang/Object", "<init>", "()V"⟩ : MethodName)) ∈ wG := kwm 240 (by decide +kernel) rfl
set_option maxRecDepth 20000 in
theorem kw_229 : (Cond.fieldLink "LockerRowsModel" 45 "LockerRowsModel" "boxes" "I") ∈ wG := kwm 241 (by decide +kernel) rfl
set_option maxRecDepth 20000 in
theorem kw_230 : (Cond.fieldLink "LockerRowsModel" 7 "LockerRowsModel" "sizes" "[I") ∈ wG := kwm 242 (by decide +kernel) rfl
set_option maxRecDepth 20000 in
theorem kw_231 : (Cond.fieldLink "LockerRowsModel" 13 "LockerRowsModel" "doors" "[I") ∈ wG := kwm 243 (by decide +kernel) rfl
set_option maxRecDepth 20000 in
theorem kw_232 : (Cond.fieldLink "LockerRowsModel" 16 "LockerRowsModel" "since" "[J") ∈ wG := kwm 244 (by decide +kernel) rfl
set_option maxRecDepth 20000 in
theorem kw_233 : (Cond.fieldLink "LockerRowsModel" 20 "LockerRowsModel" "told" "[Z") ∈ wG := kwm 245 (by decide +kernel) rfl
set_option maxRecDepth 20000 in
theorem kw_234 : (Cond.fieldLink "LockerRowsModel" 24 "LockerRowsModel" "items" "[I") ∈ wG := kwm 246 (by decide +kernel) rfl
set_option maxRecDepth 20000 in
theorem kw_235 : (Cond.fieldLink "LockerRowsModel" 27 "LockerRowsModel" "codes" "[I") ∈ wG := kwm 247 (by decide +kernel) rfl
set_option maxRecDepth 20000 in
theorem kw_236 : (Cond.fieldLink "LockerRowsModel" 30 "LockerRowsModel" "lies" "[J") ∈ wG := kwm 248 (by decide +kernel) rfl
set_option maxRecDepth 20000 in
theorem kw_237 : (Cond.fieldLink "LockerRowsModel" 33 "LockerRowsModel" "late" "[Z") ∈ wG := kwm 249 (by decide +kernel) rfl
set_option maxRecDepth 20000 in
theorem kw_238 : (Cond.fieldLink "LockerRowsModel" 36 "LockerRowsModel" "kept" "[J") ∈ wG := kwm 250 (by decide +kernel) rfl
set_option maxRecDepth 20000 in
theorem kw_239 : (Cond.fieldLink "LockerRowsModel" 60 "LockerRowsModel" "time" "J") ∈ wG := kwm 251 (by decide +kernel) rfl
set_option maxRecDepth 20000 in
theorem kw_240 : (Cond.fieldLink "LockerRowsModel" 71 "LockerRowsModel" "alarms" "I") ∈ wG := kwm 252 (by decide +kernel) rfl
set_option maxRecDepth 20000 in
theorem kw_241 : (Cond.fieldLink "LockerRowsModel" 104 "LockerRowsModel" "wrong" "I") ∈ wG := kwm 253 (by decide +kernel) rfl
set_option maxRecDepth 20000 in
theorem kw_242 : (Cond.fieldLink "LockerRowsModel" 93 "LockerRowsModel" "waits" "J") ∈ wG := kwm 254 (by decide +kernel) rfl
set_option maxRecDepth 20000 in
theorem kw_243 : (Cond.fieldLink "LockerRowsModel" 57 "LockerRowsModel" "taped" "I") ∈ wG := kwm 255 (by decide +kernel) rfl
set_option maxRecDepth 20000 in
theorem kw_244 : (Cond.fieldLink "LockerRowsModel" 39 "LockerRowsModel" "tape" "[I") ∈ wG := kwm 256 (by decide +kernel) rfl
set_option maxRecDepth 20000 in
theorem kw_245 : (Cond.fieldLink "LockerRowsModel" 66 "LockerRowsModel" "freed" "I") ∈ wG := kwm 257 (by decide +kernel) rfl
set_option maxRecDepth 20000 in
theorem kw_246 : (Cond.fieldLink "LockerRowsModel" 42 "LockerRowsModel" "free" "[I") ∈ wG := kwm 258 (by decide +kernel) rfl
set_option maxRecDepth 20000 in
theorem kw_284 : (Cond.arrayClass .long) ∈ wG := kwm 296 (by decide +kernel) rfl
set_option maxRecDepth 20000 in
theorem kw_285 : (Cond.arrayClass .boolean) ∈ wG := kwm 297 (by decide +kernel) rfl
set_option maxRecDepth 20000 in
theorem kw_286 : (Cond.methodLink "LockerRowsLaw" 17 (⟨"LockerRowsModel", "box", "(I)I"⟩ : MethodName)) ∈ wG := kwm 298 (by decide +kernel) rfl
set_option maxRecDepth 20000 in
theorem kw_287 : (Cond.instanceMethod (⟨"LockerRowsModel", "box", "(I)I"⟩ : MethodName)) ∈ wG := kwm 299 (by decide +kernel) rfl
set_option maxRecDepth 20000 in
theorem kw_288 : (Cond.selects "LockerRowsModel" (⟨"LockerRowsModel", "box", "(I)I"⟩ : MethodName) (⟨"LockerRowsModel", "box", "(I)I"⟩ : MethodName)) ∈ wG := kwm 300 (by decide +kernel) rfl
set_option maxRecDepth 20000 in
theorem kw_289 : (Cond.code (⟨"LockerRowsModel", "box", "(I)I"⟩ : MethodName) prog_5_method_4_code 2 (some .int)) ∈ wG := kwm 301 (rfl) rfl
set_option maxRecDepth 20000 in
theorem kw_290 : (Cond.constantLong "LockerRowsModel" 53 (5 : Int64)) ∈ wG := kwm 302 (by decide +kernel) rfl
set_option maxRecDepth 20000 in
theorem kw_291 : (Cond.methodLink "LockerRowsModel" 49 (⟨"LockerRowsModel", "within", "(JJJ)Z"⟩ : MethodName)) ∈ wG := kwm 303 (by decide +kernel) rfl
set_option maxRecDepth 20000 in
theorem kw_292 : (Cond.static (⟨"LockerRowsModel", "within", "(JJJ)Z"⟩ : MethodName)) ∈ wG := kwm 304 (by decide +kernel) rfl
set_option maxRecDepth 20000 in
theorem kw_293 : (Cond.code (⟨"LockerRowsModel", "within", "(JJJ)Z"⟩ : MethodName) prog_5_method_2_code 6 (some .boolean)) ∈ wG := kwm 305 (rfl) rfl
set_option maxRecDepth 20000 in
theorem kw_294 : (Cond.methodLink "LockerRowsLaw" 21 (⟨"LockerRowsModel", "tape", "(I)I"⟩ : MethodName)) ∈ wG := kwm 306 (by decide +kernel) rfl
set_option maxRecDepth 20000 in
theorem kw_295 : (Cond.instanceMethod (⟨"LockerRowsModel", "tape", "(I)I"⟩ : MethodName)) ∈ wG := kwm 307 (by decide +kernel) rfl
set_option maxRecDepth 20000 in
theorem kw_296 : (Cond.selects "LockerRowsModel" (⟨"LockerRowsModel", "tape", "(I)I"⟩ : MethodName) (⟨"LockerRowsModel", "tape", "(I)I"⟩ : MethodName)) ∈ wG := kwm 308 (by decide +kernel) rfl
set_option maxRecDepth 20000 in
theorem kw_297 : (Cond.code (⟨"LockerRowsModel", "tape", "(I)I"⟩ : MethodName) prog_5_method_5_code 2 (some .int)) ∈ wG := kwm 309 (rfl) rfl
set_option maxRecDepth 20000 in
theorem kw_298 : (Cond.constantLong "LockerRowsModel" 55 (999999 : Int64)) ∈ wG := kwm 310 (by decide +kernel) rfl
set_option maxRecDepth 20000 in
theorem kw_299 : (Cond.methodLink "LockerRowsLaw" 28 (⟨"LockerRowsModel", "reserve", "(IJ)I"⟩ : MethodName)) ∈ wG := kwm 311 (by decide +kernel) rfl
set_option maxRecDepth 20000 in
theorem kw_300 : (Cond.instanceMethod (⟨"LockerRowsModel", "reserve", "(IJ)I"⟩ : MethodName)) ∈ wG := kwm 312 (by decide +kernel) rfl
set_option maxRecDepth 20000 in
theorem kw_301 : (Cond.selects "LockerRowsModel" (⟨"LockerRowsModel", "reserve", "(IJ)I"⟩ : MethodName) (⟨"LockerRowsModel", "reserve", "(IJ)I"⟩ : MethodName)) ∈ wG := kwm 313 (by decide +kernel) rfl
set_option maxRecDepth 20000 in
theorem kw_302 : (Cond.code (⟨"LockerRowsModel", "reserve", "(IJ)I"⟩ : MethodName) prog_5_method_8_code 7 (some .int)) ∈ wG := kwm 314 (rfl) rfl
set_option maxRecDepth 20000 in
theorem kw_303 : (Cond.constantLong "LockerRowsModel" 64 (2000000000 : Int64)) ∈ wG := kwm 315 (by decide +kernel) rfl
set_option maxRecDepth 20000 in
theorem kw_304 : (Cond.methodLink "LockerRowsLaw" 33 (⟨"LockerRowsModel", "put", "(IIJ)I"⟩ : MethodName)) ∈ wG := kwm 316 (by decide +kernel) rfl
set_option maxRecDepth 20000 in
theorem kw_305 : (Cond.instanceMethod (⟨"LockerRowsModel", "put", "(IIJ)I"⟩ : MethodName)) ∈ wG := kwm 317 (by decide +kernel) rfl
set_option maxRecDepth 20000 in
theorem kw_306 : (Cond.selects "LockerRowsModel" (⟨"LockerRowsModel", "put", "(IIJ)I"⟩ : MethodName) (⟨"LockerRowsModel", "put", "(IIJ)I"⟩ : MethodName)) ∈ wG := kwm 318 (by decide +kernel) rfl
set_option maxRecDepth 20000 in
theorem kw_307 : (Cond.code (⟨"LockerRowsModel", "put", "(IIJ)I"⟩ : MethodName) prog_5_method_9_code 7 (some .int)) ∈ wG := kwm 319 (rfl) rfl
set_option maxRecDepth 20000 in
theorem kw_308 : (Cond.methodLink "LockerRowsModel" 76 (⟨"LockerRowsModel", "isBox", "(I)Z"⟩ : MethodName)) ∈ wG := kwm 320 (by decide +kernel) rfl
set_option maxRecDepth 20000 in
theorem kw_310 : (Cond.instanceMethod (⟨"LockerRowsModel", "isBox", "(I)Z"⟩ : MethodName)) ∈ wG := kwm 322 (by decide +kernel) rfl
set_option maxRecDepth 20000 in
theorem kw_311 : (Cond.code (⟨"LockerRowsModel", "isBox", "(I)Z"⟩ : MethodName) prog_5_method_3_code 2 (some .boolean)) ∈ wG := kwm 323 (rfl) rfl
set_option maxRecDepth 20000 in
theorem kw_312 : (Cond.constantLong "LockerRowsModel" 80 (9999 : Int64)) ∈ wG := kwm 324 (by decide +kernel) rfl
set_option maxRecDepth 20000 in
theorem kw_313 : (Cond.methodLink "LockerRowsModel" 82 (⟨"LockerRowsModel", "isNoTime", "(J)Z"⟩ : MethodName)) ∈ wG := kwm 325 (by decide +kernel) rfl
set_option maxRecDepth 20000 in
theorem kw_315 : (Cond.instanceMethod (⟨"LockerRowsModel", "isNoTime", "(J)Z"⟩ : MethodName)) ∈ wG := kwm 327 (by decide +kernel) rfl
set_option maxRecDepth 20000 in
theorem kw_316 : (Cond.code (⟨"LockerRowsModel", "isNoTime", "(J)Z"⟩ : MethodName) prog_5_method_6_code 3 (some .boolean)) ∈ wG := kwm 328 (rfl) rfl
set_option maxRecDepth 20000 in
theorem kw_317 : (Cond.methodLink "LockerRowsModel" 86 (⟨"LockerRowsModel", "pass", "(J)V"⟩ : MethodName)) ∈ wG := kwm 329 (by decide +kernel) rfl
set_option maxRecDepth 20000 in
theorem kw_319 : (Cond.instanceMethod (⟨"LockerRowsModel", "pass", "(J)V"⟩ : MethodName)) ∈ wG := kwm 331 (by decide +kernel) rfl
set_option maxRecDepth 20000 in
theorem kw_320 : (Cond.code (⟨"LockerRowsModel", "pass", "(J)V"⟩ : MethodName) prog_5_method_7_code 5 none) ∈ wG := kwm 332 (rfl) rfl
set_option maxRecDepth 20000 in
theorem kw_321 : (Cond.constantLong "LockerRowsModel" 69 (120 : Int64)) ∈ wG := kwm 333 (by decide +kernel) rfl
set_option maxRecDepth 20000 in
theorem kw_322 : (Cond.constantLong "LockerRowsModel" 74 (604800 : Int64)) ∈ wG := kwm 334 (by decide +kernel) rfl
set_option maxRecDepth 20000 in
theorem kw_323 : (Cond.methodLink "LockerRowsLaw" 37 (⟨"LockerRowsModel", "close", "(IJ)I"⟩ : MethodName)) ∈ wG := kwm 335 (by decide +kernel) rfl
set_option maxRecDepth 20000 in
theorem kw_324 : (Cond.instanceMethod (⟨"LockerRowsModel", "close", "(IJ)I"⟩ : MethodName)) ∈ wG := kwm 336 (by decide +kernel) rfl
set_option maxRecDepth 20000 in
theorem kw_325 : (Cond.selects "LockerRowsModel" (⟨"LockerRowsModel", "close", "(IJ)I"⟩ : MethodName) (⟨"LockerRowsModel", "close", "(IJ)I"⟩ : MethodName)) ∈ wG := kwm 337 (by decide +kernel) rfl
set_option maxRecDepth 20000 in
theorem kw_326 : (Cond.code (⟨"LockerRowsModel", "close", "(IJ)I"⟩ : MethodName) prog_5_method_11_code 7 (some .int)) ∈ wG := kwm 338 (rfl) rfl
set_option maxRecDepth 20000 in
theorem kw_327 : (Cond.methodLink "LockerRowsModel" 90 (⟨"LockerRowsModel", "isCode", "(I)Z"⟩ : MethodName)) ∈ wG := kwm 339 (by decide +kernel) rfl
set_option maxRecDepth 20000 in
theorem kw_329 : (Cond.instanceMethod (⟨"LockerRowsModel", "isCode", "(I)Z"⟩ : MethodName)) ∈ wG := kwm 341 (by decide +kernel) rfl
set_option maxRecDepth 20000 in
theorem kw_330 : (Cond.code (⟨"LockerRowsModel", "isCode", "(I)Z"⟩ : MethodName) prog_5_method_10_code 3 (some .boolean)) ∈ wG := kwm 342 (rfl) rfl
set_option maxRecDepth 20000 in
theorem kw_331 : (Cond.methodLink "LockerRowsLaw" 41 (⟨"LockerRowsModel", "type", "(IJ)I"⟩ : MethodName)) ∈ wG := kwm 343 (by decide +kernel) rfl
set_option maxRecDepth 20000 in
theorem kw_332 : (Cond.instanceMethod (⟨"LockerRowsModel", "type", "(IJ)I"⟩ : MethodName)) ∈ wG := kwm 344 (by decide +kernel) rfl
set_option maxRecDepth 20000 in
theorem kw_333 : (Cond.selects "LockerRowsModel" (⟨"LockerRowsModel", "type", "(IJ)I"⟩ : MethodName) (⟨"LockerRowsModel", "type", "(IJ)I"⟩ : MethodName)) ∈ wG := kwm 345 (by decide +kernel) rfl
set_option maxRecDepth 20000 in
theorem kw_334 : (Cond.code (⟨"LockerRowsModel", "type", "(IJ)I"⟩ : MethodName) prog_5_method_14_code 5 (some .int)) ∈ wG := kwm 346 (rfl) rfl
set_option maxRecDepth 20000 in
theorem kw_335 : (Cond.methodLink "LockerRowsModel" 96 (⟨"LockerRowsModel", "out", "(I)I"⟩ : MethodName)) ∈ wG := kwm 347 (by decide +kernel) rfl
set_option maxRecDepth 20000 in
theorem kw_337 : (Cond.instanceMethod (⟨"LockerRowsModel", "out", "(I)I"⟩ : MethodName)) ∈ wG := kwm 349 (by decide +kernel) rfl
set_option maxRecDepth 20000 in
theorem kw_338 : (Cond.code (⟨"LockerRowsModel", "out", "(I)I"⟩ : MethodName) prog_5_method_13_code 3 (some .int)) ∈ wG := kwm 350 (rfl) rfl
set_option maxRecDepth 20000 in
theorem kw_339 : (Cond.methodLink "LockerRowsModel" 100 (⟨"LockerRowsModel", "open", "(II)V"⟩ : MethodName)) ∈ wG := kwm 351 (by decide +kernel) rfl
set_option maxRecDepth 20000 in
theorem kw_341 : (Cond.instanceMethod (⟨"LockerRowsModel", "open", "(II)V"⟩ : MethodName)) ∈ wG := kwm 353 (by decide +kernel) rfl
set_option maxRecDepth 20000 in
theorem kw_342 : (Cond.code (⟨"LockerRowsModel", "open", "(II)V"⟩ : MethodName) prog_5_method_12_code 3 none) ∈ wG := kwm 354 (rfl) rfl
set_option maxRecDepth 20000 in
theorem kw_343 : (Cond.constantLong "LockerRowsModel" 107 (300 : Int64)) ∈ wG := kwm 355 (by decide +kernel) rfl
set_option maxRecDepth 20000 in
theorem kw_344 : (Cond.methodLink "LockerRowsLaw" 45 (⟨"LockerRowsModel", "code", "(I)I"⟩ : MethodName)) ∈ wG := kwm 356 (by decide +kernel) rfl
set_option maxRecDepth 20000 in
theorem kw_345 : (Cond.instanceMethod (⟨"LockerRowsModel", "code", "(I)I"⟩ : MethodName)) ∈ wG := kwm 357 (by decide +kernel) rfl
set_option maxRecDepth 20000 in
theorem kw_346 : (Cond.selects "LockerRowsModel" (⟨"LockerRowsModel", "code", "(I)I"⟩ : MethodName) (⟨"LockerRowsModel", "code", "(I)I"⟩ : MethodName)) ∈ wG := kwm 358 (by decide +kernel) rfl
set_option maxRecDepth 20000 in
theorem kw_347 : (Cond.code (⟨"LockerRowsModel", "code", "(I)I"⟩ : MethodName) prog_5_method_15_code 3 (some .int)) ∈ wG := kwm 359 (rfl) rfl
set_option maxRecDepth 20000 in
theorem kw_348 : (Cond.methodLink "LockerRowsLaw" 49 (⟨"LockerRowsModel", "door", "(IIJ)I"⟩ : MethodName)) ∈ wG := kwm 360 (by decide +kernel) rfl
set_option maxRecDepth 20000 in
theorem kw_349 : (Cond.instanceMethod (⟨"LockerRowsModel", "door", "(IIJ)I"⟩ : MethodName)) ∈ wG := kwm 361 (by decide +kernel) rfl
set_option maxRecDepth 20000 in
theorem kw_350 : (Cond.selects "LockerRowsModel" (⟨"LockerRowsModel", "door", "(IIJ)I"⟩ : MethodName) (⟨"LockerRowsModel", "door", "(IIJ)I"⟩ : MethodName)) ∈ wG := kwm 362 (by decide +kernel) rfl
set_option maxRecDepth 20000 in
theorem kw_351 : (Cond.code (⟨"LockerRowsModel", "door", "(IIJ)I"⟩ : MethodName) prog_5_method_16_code 7 (some .int)) ∈ wG := kwm 363 (rfl) rfl
set_option maxRecDepth 20000 in
theorem kw_352 : (Cond.constantLong "LockerRowsModel" 109 (4 : Int64)) ∈ wG := kwm 364 (by decide +kernel) rfl
set_option maxRecDepth 20000 in
theorem kw_353 : (Cond.methodLink "LockerRowsLaw" 54 (⟨"LockerRowsModel", "tick", "(J)I"⟩ : MethodName)) ∈ wG := kwm 365 (by decide +kernel) rfl
set_option maxRecDepth 20000 in
theorem kw_354 : (Cond.instanceMethod (⟨"LockerRowsModel", "tick", "(J)I"⟩ : MethodName)) ∈ wG := kwm 366 (by decide +kernel) rfl
set_option maxRecDepth 20000 in
theorem kw_355 : (Cond.selects "LockerRowsModel" (⟨"LockerRowsModel", "tick", "(J)I"⟩ : MethodName) (⟨"LockerRowsModel", "tick", "(J)I"⟩ : MethodName)) ∈ wG := kwm 367 (by decide +kernel) rfl
set_option maxRecDepth 20000 in
theorem kw_356 : (Cond.code (⟨"LockerRowsModel", "tick", "(J)I"⟩ : MethodName) prog_5_method_17_code 4 (some .int)) ∈ wG := kwm 368 (rfl) rfl
set_option maxRecDepth 20000 in
theorem kw_357 : (Cond.methodLink "LockerRowsLaw" 59 (⟨"LockerRowsModel", "take", "(II)I"⟩ : MethodName)) ∈ wG := kwm 369 (by decide +kernel) rfl
set_option maxRecDepth 20000 in
theorem kw_358 : (Cond.instanceMethod (⟨"LockerRowsModel", "take", "(II)I"⟩ : MethodName)) ∈ wG := kwm 370 (by decide +kernel) rfl
set_option maxRecDepth 20000 in
theorem kw_359 : (Cond.selects "LockerRowsModel" (⟨"LockerRowsModel", "take", "(II)I"⟩ : MethodName) (⟨"LockerRowsModel", "take", "(II)I"⟩ : MethodName)) ∈ wG := kwm 371 (by decide +kernel) rfl
set_option maxRecDepth 20000 in
theorem kw_360 : (Cond.code (⟨"LockerRowsModel", "take", "(II)I"⟩ : MethodName) prog_5_method_18_code 3 (some .int)) ∈ wG := kwm 372 (rfl) rfl
set_option maxRecDepth 20000 in
theorem kw_361 : (Cond.constantLong "LockerRowsModel" 111 (9 : Int64)) ∈ wG := kwm 373 (by decide +kernel) rfl
set_option maxRecDepth 20000 in
theorem kw_362 : (Cond.methodLink "LockerRowsLaw" 63 (⟨"LockerRowsModel", "item", "(I)I"⟩ : MethodName)) ∈ wG := kwm 374 (by decide +kernel) rfl
set_option maxRecDepth 20000 in
theorem kw_363 : (Cond.instanceMethod (⟨"LockerRowsModel", "item", "(I)I"⟩ : MethodName)) ∈ wG := kwm 375 (by decide +kernel) rfl
set_option maxRecDepth 20000 in
theorem kw_364 : (Cond.selects "LockerRowsModel" (⟨"LockerRowsModel", "item", "(I)I"⟩ : MethodName) (⟨"LockerRowsModel", "item", "(I)I"⟩ : MethodName)) ∈ wG := kwm 376 (by decide +kernel) rfl
set_option maxRecDepth 20000 in
theorem kw_365 : (Cond.code (⟨"LockerRowsModel", "item", "(I)I"⟩ : MethodName) prog_5_method_19_code 2 (some .int)) ∈ wG := kwm 377 (rfl) rfl
set_option maxRecDepth 20000 in
theorem kw_366 : (Cond.methodLink "LockerRowsLaw" 67 (⟨"LockerRowsModel", "freed", "(I)I"⟩ : MethodName)) ∈ wG := kwm 378 (by decide +kernel) rfl
set_option maxRecDepth 20000 in
theorem kw_367 : (Cond.instanceMethod (⟨"LockerRowsModel", "freed", "(I)I"⟩ : MethodName)) ∈ wG := kwm 379 (by decide +kernel) rfl
set_option maxRecDepth 20000 in
theorem kw_368 : (Cond.selects "LockerRowsModel" (⟨"LockerRowsModel", "freed", "(I)I"⟩ : MethodName) (⟨"LockerRowsModel", "freed", "(I)I"⟩ : MethodName)) ∈ wG := kwm 380 (by decide +kernel) rfl
set_option maxRecDepth 20000 in
theorem kw_369 : (Cond.code (⟨"LockerRowsModel", "freed", "(I)I"⟩ : MethodName) prog_5_method_20_code 2 (some .int)) ∈ wG := kwm 381 (rfl) rfl
set_option maxRecDepth 20000 in
theorem kw_370 : (Cond.constantLong "LockerRowsLaw" 22 (4294967295 : Int64)) ∈ wG := kwm 382 (by decide +kernel) rfl
set_option maxRecDepth 20000 in
theorem kw_371 : (Cond.fieldLink "java/lang/Enum" 7 "java/lang/Enum" "ordinal" "I") ∈ wG := kwm 383 (by decide +kernel) rfl
set_option maxRecDepth 20000 in
theorem ks_X_isBox : Cond.selects y_X_isBox.cls y_X_isBox y_X_isBox ∈ wG := kwm 0 (by decide +kernel) rfl
set_option maxRecDepth 20000 in
theorem ks_X_isTime : Cond.selects y_X_isTime.cls y_X_isTime y_X_isTime ∈ wG := kwm 1 (by decide +kernel) rfl
set_option maxRecDepth 20000 in
theorem ks_X_pass : Cond.selects y_X_pass.cls y_X_pass y_X_pass ∈ wG := kwm 2 (by decide +kernel) rfl
set_option maxRecDepth 20000 in
theorem ks_X_find : Cond.selects y_X_find.cls y_X_find y_X_find ∈ wG := kwm 3 (by decide +kernel) rfl
set_option maxRecDepth 20000 in
theorem ks_X_draw : Cond.selects y_X_draw.cls y_X_draw y_X_draw ∈ wG := kwm 4 (by decide +kernel) rfl
set_option maxRecDepth 20000 in
theorem ks_X_boxOf : Cond.selects y_X_boxOf.cls y_X_boxOf y_X_boxOf ∈ wG := kwm 5 (by decide +kernel) rfl
set_option maxRecDepth 20000 in
theorem ks_M_isBox : Cond.selects y_M_isBox.cls y_M_isBox y_M_isBox ∈ wG := kwm 6 (by decide +kernel) rfl
set_option maxRecDepth 20000 in
theorem ks_M_isNoTime : Cond.selects y_M_isNoTime.cls y_M_isNoTime y_M_isNoTime ∈ wG := kwm 7 (by decide +kernel) rfl
set_option maxRecDepth 20000 in
theorem ks_M_pass : Cond.selects y_M_pass.cls y_M_pass y_M_pass ∈ wG := kwm 8 (by decide +kernel) rfl
set_option maxRecDepth 20000 in
theorem ks_M_isCode : Cond.selects y_M_isCode.cls y_M_isCode y_M_isCode ∈ wG := kwm 9 (by decide +kernel) rfl
set_option maxRecDepth 20000 in
theorem ks_M_out : Cond.selects y_M_out.cls y_M_out y_M_out ∈ wG := kwm 10 (by decide +kernel) rfl
set_option maxRecDepth 20000 in
theorem ks_M_open : Cond.selects y_M_open.cls y_M_open y_M_open ∈ wG := kwm 11 (by decide +kernel) rfl
end
section
/-! what a call of a method asks of the words: printed by gen/names.py -/
def MI (y : MethodName) (b : ByteArray) (nL : Nat) (ret : Option FieldType) (n : Nat) : Prop := Cond.code y b nL ret ∈ wG ∧ Cond.initialized y.cls ∈ wG ∧ (y.cls ≠ "java/lang/invoke/MethodHandle" ∧ y.cls ≠ "java/lang/invoke/VarHandle" ∧ (parseMethodDescriptor y.desc).map (fun d => d.parameters.length) = some n) ∧ plainFor y = true
def MV (y : MethodName) : Prop := Cond.instanceMethod y ∈ wG ∧ Cond.selects y.cls y y ∈ wG
theorem mi_X_init : MI y_X_init b_X_init 1 (none) 0 := ⟨kw_11, kw_1, ⟨by decide +kernel, by decide +kernel, by decide +kernel⟩, by decide +kernel⟩
theorem mi_X_box : MI y_X_box b_X_box 2 (some .int) 1 := ⟨kw_52, kw_1, ⟨by decide +kernel, by decide +kernel, by decide +kernel⟩, by decide +kernel⟩
theorem mv_X_box : MV y_X_box := ⟨kw_50, kw_51⟩
theorem mi_X_isIn : MI y_X_isIn b_X_isIn 6 (some .boolean) 3 := ⟨kw_56, kw_1, ⟨by decide +kernel, by decide +kernel, by decide +kernel⟩, by decide +kernel⟩
theorem mi_B_init : MI y_B_init b_B_init 2 (none) 1 := ⟨kw_60, kw_3, ⟨by decide +kernel, by decide +kernel, by decide +kernel⟩, by decide +kernel⟩
theorem mi_X_tape : MI y_X_tape b_X_tape 2 (some .int) 1 := ⟨kw_106, kw_1, ⟨by decide +kernel, by decide +kernel, by decide +kernel⟩, by decide +kernel⟩
theorem mv_X_tape : MV y_X_tape := ⟨kw_104, kw_105⟩
theorem mi_X_reserve : MI y_X_reserve b_X_reserve 7 (some .int) 2 := ⟨kw_111, kw_1, ⟨by decide +kernel, by decide +kernel, by decide +kernel⟩, by decide +kernel⟩
theorem mv_X_reserve : MV y_X_reserve := ⟨kw_109, kw_110⟩
theorem mi_B_isFree : MI y_B_isFree b_B_isFree 1 (some .boolean) 0 := ⟨kw_116, kw_3, ⟨by decide +kernel, by decide +kernel, by decide +kernel⟩, by decide +kernel⟩
theorem mv_B_isFree : MV y_B_isFree := ⟨kw_114, kw_115⟩
theorem mi_B_isKept : MI y_B_isKept b_B_isKept 1 (some .boolean) 0 := ⟨kw_120, kw_3, ⟨by decide +kernel, by decide +kernel, by decide +kernel⟩, by decide +kernel⟩
theorem mv_B_isKept : MV y_B_isKept := ⟨kw_118, kw_119⟩
theorem mi_X_put : MI y_X_put b_X_put 6 (some .int) 3 := ⟨kw_124, kw_1, ⟨by decide +kernel, by decide +kernel, by decide +kernel⟩, by decide +kernel⟩
theorem mv_X_put : MV y_X_put := ⟨kw_122, kw_123⟩
theorem mi_X_isBox : MI y_X_isBox b_X_isBox 2 (some .boolean) 1 := ⟨kw_128, kw_1, ⟨by decide +kernel, by decide +kernel, by decide +kernel⟩, by decide +kernel⟩
theorem mv_X_isBox : MV y_X_isBox := ⟨kw_127, ks_X_isBox⟩
theorem mi_X_isTime : MI y_X_isTime b_X_isTime 3 (some .boolean) 1 := ⟨kw_133, kw_1, ⟨by decide +kernel, by decide +kernel, by decide +kernel⟩, by decide +kernel⟩
theorem mv_X_isTime : MV y_X_isTime := ⟨kw_132, ks_X_isTime⟩
theorem mi_X_pass : MI y_X_pass b_X_pass 5 (none) 1 := ⟨kw_137, kw_1, ⟨by decide +kernel, by decide +kernel, by decide +kernel⟩, by decide +kernel⟩
theorem mv_X_pass : MV y_X_pass := ⟨kw_136, ks_X_pass⟩
theorem mi_B_pass : MI y_B_pass b_B_pass 4 (some .int) 1 := ⟨kw_142, kw_3, ⟨by decide +kernel, by decide +kernel, by decide +kernel⟩, by decide +kernel⟩
theorem mv_B_pass : MV y_B_pass := ⟨kw_140, kw_141⟩
theorem mi_D_isPassable : MI y_D_isPassable b_D_isPassable 1 (some .boolean) 0 := ⟨kw_146, kw_5, ⟨by decide +kernel, by decide +kernel, by decide +kernel⟩, by decide +kernel⟩
theorem mv_D_isPassable : MV y_D_isPassable := ⟨kw_144, kw_145⟩
theorem mi_X_find : MI y_X_find b_X_find 3 (some .int) 1 := ⟨kw_157, kw_1, ⟨by decide +kernel, by decide +kernel, by decide +kernel⟩, by decide +kernel⟩
theorem mv_X_find : MV y_X_find := ⟨kw_156, ks_X_find⟩
theorem mi_X_close : MI y_X_close b_X_close 6 (some .int) 2 := ⟨kw_161, kw_1, ⟨by decide +kernel, by decide +kernel, by decide +kernel⟩, by decide +kernel⟩
theorem mv_X_close : MV y_X_close := ⟨kw_159, kw_160⟩
theorem mi_X_draw : MI y_X_draw b_X_draw 3 (some .int) 0 := ⟨kw_166, kw_1, ⟨by decide +kernel, by decide +kernel, by decide +kernel⟩, by decide +kernel⟩
theorem mv_X_draw : MV y_X_draw := ⟨kw_165, ks_X_draw⟩
theorem mi_X_boxOf : MI y_X_boxOf b_X_boxOf 3 (some .int) 1 := ⟨kw_170, kw_1, ⟨by decide +kernel, by decide +kernel, by decide +kernel⟩, by decide +kernel⟩
theorem mv_X_boxOf : MV y_X_boxOf := ⟨kw_169, ks_X_boxOf⟩
theorem mi_X_type : MI y_X_type b_X_type 5 (some .int) 2 := ⟨kw_177, kw_1, ⟨by decide +kernel, by decide +kernel, by decide +kernel⟩, by decide +kernel⟩
theorem mv_X_type : MV y_X_type := ⟨kw_175, kw_176⟩
theorem mi_B_empty : MI y_B_empty b_B_empty 1 (none) 0 := ⟨kw_182, kw_3, ⟨by decide +kernel, by decide +kernel, by decide +kernel⟩, by decide +kernel⟩
theorem mv_B_empty : MV y_B_empty := ⟨kw_180, kw_181⟩
theorem mi_B_open : MI y_B_open b_B_open 4 (none) 2 := ⟨kw_186, kw_3, ⟨by decide +kernel, by decide +kernel, by decide +kernel⟩, by decide +kernel⟩
theorem mv_B_open : MV y_B_open := ⟨kw_184, kw_185⟩
theorem mi_X_code : MI y_X_code b_X_code 3 (some .int) 1 := ⟨kw_190, kw_1, ⟨by decide +kernel, by decide +kernel, by decide +kernel⟩, by decide +kernel⟩
theorem mv_X_code : MV y_X_code := ⟨kw_188, kw_189⟩
theorem mi_X_door : MI y_X_door b_X_door 7 (some .int) 3 := ⟨kw_194, kw_1, ⟨by decide +kernel, by decide +kernel, by decide +kernel⟩, by decide +kernel⟩
theorem mv_X_door : MV y_X_door := ⟨kw_192, kw_193⟩
theorem mi_E_ordinal : MI y_E_ordinal b_E_ordinal 1 (some .int) 0 := ⟨kw_204, kw_4, ⟨by decide +kernel, by decide +kernel, by decide +kernel⟩, by decide +kernel⟩
theorem mi_X_tick : MI y_X_tick b_X_tick 4 (some .int) 1 := ⟨kw_208, kw_1, ⟨by decide +kernel, by decide +kernel, by decide +kernel⟩, by decide +kernel⟩
theorem mv_X_tick : MV y_X_tick := ⟨kw_206, kw_207⟩
theorem mi_X_take : MI y_X_take b_X_take 5 (some .int) 2 := ⟨kw_212, kw_1, ⟨by decide +kernel, by decide +kernel, by decide +kernel⟩, by decide +kernel⟩
theorem mv_X_take : MV y_X_take := ⟨kw_210, kw_211⟩
theorem mi_X_item : MI y_X_item b_X_item 3 (some .int) 1 := ⟨kw_218, kw_1, ⟨by decide +kernel, by decide +kernel, by decide +kernel⟩, by decide +kernel⟩
theorem mv_X_item : MV y_X_item := ⟨kw_216, kw_217⟩
theorem mi_X_freed : MI y_X_freed b_X_freed 2 (some .int) 1 := ⟨kw_222, kw_1, ⟨by decide +kernel, by decide +kernel, by decide +kernel⟩, by decide +kernel⟩
theorem mv_X_freed : MV y_X_freed := ⟨kw_220, kw_221⟩
theorem mi_M_init : MI y_M_init b_M_init 1 (none) 0 := ⟨kw_227, kw_2, ⟨by decide +kernel, by decide +kernel, by decide +kernel⟩, by decide +kernel⟩
theorem mi_M_box : MI y_M_box b_M_box 2 (some .int) 1 := ⟨kw_289, kw_2, ⟨by decide +kernel, by decide +kernel, by decide +kernel⟩, by decide +kernel⟩
theorem mv_M_box : MV y_M_box := ⟨kw_287, kw_288⟩
theorem mi_M_within : MI y_M_within b_M_within 6 (some .boolean) 3 := ⟨kw_293, kw_2, ⟨by decide +kernel, by decide +kernel, by decide +kernel⟩, by decide +kernel⟩
theorem mi_M_tape : MI y_M_tape b_M_tape 2 (some .int) 1 := ⟨kw_297, kw_2, ⟨by decide +kernel, by decide +kernel, by decide +kernel⟩, by decide +kernel⟩
theorem mv_M_tape : MV y_M_tape := ⟨kw_295, kw_296⟩
theorem mi_M_reserve : MI y_M_reserve b_M_reserve 7 (some .int) 2 := ⟨kw_302, kw_2, ⟨by decide +kernel, by decide +kernel, by decide +kernel⟩, by decide +kernel⟩
theorem mv_M_reserve : MV y_M_reserve := ⟨kw_300, kw_301⟩
theorem mi_M_put : MI y_M_put b_M_put 7 (some .int) 3 := ⟨kw_307, kw_2, ⟨by decide +kernel, by decide +kernel, by decide +kernel⟩, by decide +kernel⟩
theorem mv_M_put : MV y_M_put := ⟨kw_305, kw_306⟩
theorem mi_M_isBox : MI y_M_isBox b_M_isBox 2 (some .boolean) 1 := ⟨kw_311, kw_2, ⟨by decide +kernel, by decide +kernel, by decide +kernel⟩, by decide +kernel⟩
theorem mv_M_isBox : MV y_M_isBox := ⟨kw_310, ks_M_isBox⟩
theorem mi_M_isNoTime : MI y_M_isNoTime b_M_isNoTime 3 (some .boolean) 1 := ⟨kw_316, kw_2, ⟨by decide +kernel, by decide +kernel, by decide +kernel⟩, by decide +kernel⟩
theorem mv_M_isNoTime : MV y_M_isNoTime := ⟨kw_315, ks_M_isNoTime⟩
theorem mi_M_pass : MI y_M_pass b_M_pass 5 (none) 1 := ⟨kw_320, kw_2, ⟨by decide +kernel, by decide +kernel, by decide +kernel⟩, by decide +kernel⟩
theorem mv_M_pass : MV y_M_pass := ⟨kw_319, ks_M_pass⟩
theorem mi_M_close : MI y_M_close b_M_close 7 (some .int) 2 := ⟨kw_326, kw_2, ⟨by decide +kernel, by decide +kernel, by decide +kernel⟩, by decide +kernel⟩
theorem mv_M_close : MV y_M_close := ⟨kw_324, kw_325⟩
theorem mi_M_isCode : MI y_M_isCode b_M_isCode 3 (some .boolean) 1 := ⟨kw_330, kw_2, ⟨by decide +kernel, by decide +kernel, by decide +kernel⟩, by decide +kernel⟩
theorem mv_M_isCode : MV y_M_isCode := ⟨kw_329, ks_M_isCode⟩
theorem mi_M_type : MI y_M_type b_M_type 5 (some .int) 2 := ⟨kw_334, kw_2, ⟨by decide +kernel, by decide +kernel, by decide +kernel⟩, by decide +kernel⟩
theorem mv_M_type : MV y_M_type := ⟨kw_332, kw_333⟩
theorem mi_M_out : MI y_M_out b_M_out 3 (some .int) 1 := ⟨kw_338, kw_2, ⟨by decide +kernel, by decide +kernel, by decide +kernel⟩, by decide +kernel⟩
theorem mv_M_out : MV y_M_out := ⟨kw_337, ks_M_out⟩
theorem mi_M_open : MI y_M_open b_M_open 3 (none) 2 := ⟨kw_342, kw_2, ⟨by decide +kernel, by decide +kernel, by decide +kernel⟩, by decide +kernel⟩
theorem mv_M_open : MV y_M_open := ⟨kw_341, ks_M_open⟩
theorem mi_M_code : MI y_M_code b_M_code 3 (some .int) 1 := ⟨kw_347, kw_2, ⟨by decide +kernel, by decide +kernel, by decide +kernel⟩, by decide +kernel⟩
theorem mv_M_code : MV y_M_code := ⟨kw_345, kw_346⟩
theorem mi_M_door : MI y_M_door b_M_door 7 (some .int) 3 := ⟨kw_351, kw_2, ⟨by decide +kernel, by decide +kernel, by decide +kernel⟩, by decide +kernel⟩
theorem mv_M_door : MV y_M_door := ⟨kw_349, kw_350⟩
theorem mi_M_tick : MI y_M_tick b_M_tick 4 (some .int) 1 := ⟨kw_356, kw_2, ⟨by decide +kernel, by decide +kernel, by decide +kernel⟩, by decide +kernel⟩
theorem mv_M_tick : MV y_M_tick := ⟨kw_354, kw_355⟩
theorem mi_M_take : MI y_M_take b_M_take 3 (some .int) 2 := ⟨kw_360, kw_2, ⟨by decide +kernel, by decide +kernel, by decide +kernel⟩, by decide +kernel⟩
theorem mv_M_take : MV y_M_take := ⟨kw_358, kw_359⟩
theorem mi_M_item : MI y_M_item b_M_item 2 (some .int) 1 := ⟨kw_365, kw_2, ⟨by decide +kernel, by decide +kernel, by decide +kernel⟩, by decide +kernel⟩
theorem mv_M_item : MV y_M_item := ⟨kw_363, kw_364⟩
theorem mi_M_freed : MI y_M_freed b_M_freed 2 (some .int) 1 := ⟨kw_369, kw_2, ⟨by decide +kernel, by decide +kernel, by decide +kernel⟩, by decide +kernel⟩
theorem mv_M_freed : MV y_M_freed := ⟨kw_367, kw_368⟩
end
section
/-! decode rows: printed by gen/names.py -/
theorem de_X_init_0 : decode b_X_init 0 = .ok (.aload_n 0, 1) := by decide +kernel
theorem de_X_init_1 : decode b_X_init 1 = .ok (.invokespecial 1, 3) := by decide +kernel
theorem de_X_init_4 : decode b_X_init 4 = .ok (.aload_n 0, 1) := by decide +kernel
theorem de_X_init_5 : decode b_X_init 5 = .ok (.bipush 61, 2) := by decide +kernel
theorem de_X_init_7 : decode b_X_init 7 = .ok (.anewarray 7, 3) := by decide +kernel
theorem de_X_init_10 : decode b_X_init 10 = .ok (.putfield 9, 3) := by decide +kernel
theorem de_X_init_13 : decode b_X_init 13 = .ok (.aload_n 0, 1) := by decide +kernel
theorem de_X_init_14 : decode b_X_init 14 = .ok (.sipush 200, 3) := by decide +kernel
theorem de_X_init_17 : decode b_X_init 17 = .ok (.newarray .int, 2) := by decide +kernel
theorem de_X_init_19 : decode b_X_init 19 = .ok (.putfield 15, 3) := by decide +kernel
theorem de_X_init_22 : decode b_X_init 22 = .ok (.aload_n 0, 1) := by decide +kernel
theorem de_X_init_23 : decode b_X_init 23 = .ok (.bipush 100, 2) := by decide +kernel
theorem de_X_init_25 : decode b_X_init 25 = .ok (.newarray .int, 2) := by decide +kernel
theorem de_X_init_27 : decode b_X_init 27 = .ok (.putfield 19, 3) := by decide +kernel
theorem de_X_init_30 : decode b_X_init 30 = .ok (.return_, 1) := by decide +kernel
theorem de_X_box_0 : decode b_X_box 0 = .ok (.iload_n 1, 1) := by decide +kernel
theorem de_X_box_1 : decode b_X_box 1 = .ok (.i2l, 1) := by decide +kernel
theorem de_X_box_2 : decode b_X_box 2 = .ok (.lconst 1, 1) := by decide +kernel
theorem de_X_box_3 : decode b_X_box 3 = .ok (.ldc2_w 53, 3) := by decide +kernel
theorem de_X_box_6 : decode b_X_box 6 = .ok (.invokestatic 26, 3) := by decide +kernel
theorem de_X_box_9 : decode b_X_box 9 = .ok (.ifCond .ne 6, 3) := by decide +kernel
theorem de_X_box_12 : decode b_X_box 12 = .ok (.bipush (-12), 2) := by decide +kernel
theorem de_X_box_14 : decode b_X_box 14 = .ok (.ireturn, 1) := by decide +kernel
theorem de_X_box_15 : decode b_X_box 15 = .ok (.aload_n 0, 1) := by decide +kernel
theorem de_X_box_16 : decode b_X_box 16 = .ok (.getfield 22, 3) := by decide +kernel
theorem de_X_box_19 : decode b_X_box 19 = .ok (.bipush 60, 2) := by decide +kernel
theorem de_X_box_21 : decode b_X_box 21 = .ok (.if_icmp .ne 6, 3) := by decide +kernel
theorem de_X_box_24 : decode b_X_box 24 = .ok (.bipush (-14), 2) := by decide +kernel
theorem de_X_box_26 : decode b_X_box 26 = .ok (.ireturn, 1) := by decide +kernel
theorem de_X_box_27 : decode b_X_box 27 = .ok (.aload_n 0, 1) := by decide +kernel
theorem de_X_box_28 : decode b_X_box 28 = .ok (.dup, 1) := by decide +kernel
theorem de_X_box_29 : decode b_X_box 29 = .ok (.getfield 22, 3) := by decide +kernel
theorem de_X_box_32 : decode b_X_box 32 = .ok (.iconst 1, 1) := by decide +kernel
theorem de_X_box_33 : decode b_X_box 33 = .ok (.iadd, 1) := by decide +kernel
theorem de_X_box_34 : decode b_X_box 34 = .ok (.putfield 22, 3) := by decide +kernel
theorem de_X_box_37 : decode b_X_box 37 = .ok (.aload_n 0, 1) := by decide +kernel
theorem de_X_box_38 : decode b_X_box 38 = .ok (.getfield 9, 3) := by decide +kernel
theorem de_X_box_41 : decode b_X_box 41 = .ok (.aload_n 0, 1) := by decide +kernel
theorem de_X_box_42 : decode b_X_box 42 = .ok (.getfield 22, 3) := by decide +kernel
theorem de_X_box_45 : decode b_X_box 45 = .ok (.new 7, 3) := by decide +kernel
theorem de_X_box_48 : decode b_X_box 48 = .ok (.dup, 1) := by decide +kernel
theorem de_X_box_49 : decode b_X_box 49 = .ok (.iload_n 1, 1) := by decide +kernel
theorem de_X_box_50 : decode b_X_box 50 = .ok (.invokespecial 55, 3) := by decide +kernel
theorem de_X_box_53 : decode b_X_box 53 = .ok (.aastore, 1) := by decide +kernel
theorem de_X_box_54 : decode b_X_box 54 = .ok (.aload_n 0, 1) := by decide +kernel
theorem de_X_box_55 : decode b_X_box 55 = .ok (.getfield 22, 3) := by decide +kernel
theorem de_X_box_58 : decode b_X_box 58 = .ok (.ireturn, 1) := by decide +kernel
theorem de_X_isIn_0 : decode b_X_isIn 0 = .ok (.lload_n 0, 1) := by decide +kernel
theorem de_X_isIn_1 : decode b_X_isIn 1 = .ok (.lload_n 2, 1) := by decide +kernel
theorem de_X_isIn_2 : decode b_X_isIn 2 = .ok (.lcmp, 1) := by decide +kernel
theorem de_X_isIn_3 : decode b_X_isIn 3 = .ok (.ifCond .lt 14, 3) := by decide +kernel
theorem de_X_isIn_6 : decode b_X_isIn 6 = .ok (.lload_n 0, 1) := by decide +kernel
theorem de_X_isIn_7 : decode b_X_isIn 7 = .ok (.lload 4, 2) := by decide +kernel
theorem de_X_isIn_9 : decode b_X_isIn 9 = .ok (.lcmp, 1) := by decide +kernel
theorem de_X_isIn_10 : decode b_X_isIn 10 = .ok (.ifCond .gt 7, 3) := by decide +kernel
theorem de_X_isIn_13 : decode b_X_isIn 13 = .ok (.iconst 1, 1) := by decide +kernel
theorem de_X_isIn_14 : decode b_X_isIn 14 = .ok (.goto 4, 3) := by decide +kernel
theorem de_X_isIn_17 : decode b_X_isIn 17 = .ok (.iconst 0, 1) := by decide +kernel
theorem de_X_isIn_18 : decode b_X_isIn 18 = .ok (.ireturn, 1) := by decide +kernel
theorem de_B_init_0 : decode b_B_init 0 = .ok (.aload_n 0, 1) := by decide +kernel
theorem de_B_init_1 : decode b_B_init 1 = .ok (.invokespecial 3, 3) := by decide +kernel
theorem de_B_init_4 : decode b_B_init 4 = .ok (.aload_n 0, 1) := by decide +kernel
theorem de_B_init_5 : decode b_B_init 5 = .ok (.getstatic 9, 3) := by decide +kernel
theorem de_B_init_8 : decode b_B_init 8 = .ok (.putfield 15, 3) := by decide +kernel
theorem de_B_init_11 : decode b_B_init 11 = .ok (.aload_n 0, 1) := by decide +kernel
theorem de_B_init_12 : decode b_B_init 12 = .ok (.iconst (-1), 1) := by decide +kernel
theorem de_B_init_13 : decode b_B_init 13 = .ok (.putfield 20, 3) := by decide +kernel
theorem de_B_init_16 : decode b_B_init 16 = .ok (.aload_n 0, 1) := by decide +kernel
theorem de_B_init_17 : decode b_B_init 17 = .ok (.iload_n 1, 1) := by decide +kernel
theorem de_B_init_18 : decode b_B_init 18 = .ok (.putfield 24, 3) := by decide +kernel
theorem de_B_init_21 : decode b_B_init 21 = .ok (.return_, 1) := by decide +kernel
theorem de_X_tape_0 : decode b_X_tape 0 = .ok (.iload_n 1, 1) := by decide +kernel
theorem de_X_tape_1 : decode b_X_tape 1 = .ok (.i2l, 1) := by decide +kernel
theorem de_X_tape_2 : decode b_X_tape 2 = .ok (.lconst 0, 1) := by decide +kernel
theorem de_X_tape_3 : decode b_X_tape 3 = .ok (.ldc2_w 58, 3) := by decide +kernel
theorem de_X_tape_6 : decode b_X_tape 6 = .ok (.invokestatic 26, 3) := by decide +kernel
theorem de_X_tape_9 : decode b_X_tape 9 = .ok (.ifCond .ne 6, 3) := by decide +kernel
theorem de_X_tape_12 : decode b_X_tape 12 = .ok (.bipush (-12), 2) := by decide +kernel
theorem de_X_tape_14 : decode b_X_tape 14 = .ok (.ireturn, 1) := by decide +kernel
theorem de_X_tape_15 : decode b_X_tape 15 = .ok (.aload_n 0, 1) := by decide +kernel
theorem de_X_tape_16 : decode b_X_tape 16 = .ok (.getfield 60, 3) := by decide +kernel
theorem de_X_tape_19 : decode b_X_tape 19 = .ok (.sipush 200, 3) := by decide +kernel
theorem de_X_tape_22 : decode b_X_tape 22 = .ok (.if_icmp .ne 6, 3) := by decide +kernel
theorem de_X_tape_25 : decode b_X_tape 25 = .ok (.bipush (-14), 2) := by decide +kernel
theorem de_X_tape_27 : decode b_X_tape 27 = .ok (.ireturn, 1) := by decide +kernel
theorem de_X_tape_28 : decode b_X_tape 28 = .ok (.aload_n 0, 1) := by decide +kernel
theorem de_X_tape_29 : decode b_X_tape 29 = .ok (.getfield 15, 3) := by decide +kernel
theorem de_X_tape_32 : decode b_X_tape 32 = .ok (.aload_n 0, 1) := by decide +kernel
theorem de_X_tape_33 : decode b_X_tape 33 = .ok (.dup, 1) := by decide +kernel
theorem de_X_tape_34 : decode b_X_tape 34 = .ok (.getfield 60, 3) := by decide +kernel
theorem de_X_tape_37 : decode b_X_tape 37 = .ok (.dup_x1, 1) := by decide +kernel
theorem de_X_tape_38 : decode b_X_tape 38 = .ok (.iconst 1, 1) := by decide +kernel
theorem de_X_tape_39 : decode b_X_tape 39 = .ok (.iadd, 1) := by decide +kernel
theorem de_X_tape_40 : decode b_X_tape 40 = .ok (.putfield 60, 3) := by decide +kernel
theorem de_X_tape_43 : decode b_X_tape 43 = .ok (.iload_n 1, 1) := by decide +kernel
theorem de_X_tape_44 : decode b_X_tape 44 = .ok (.iastore, 1) := by decide +kernel
theorem de_X_tape_45 : decode b_X_tape 45 = .ok (.aload_n 0, 1) := by decide +kernel
theorem de_X_tape_46 : decode b_X_tape 46 = .ok (.getfield 60, 3) := by decide +kernel
theorem de_X_tape_49 : decode b_X_tape 49 = .ok (.ireturn, 1) := by decide +kernel
theorem de_X_reserve_0 : decode b_X_reserve 0 = .ok (.iload_n 1, 1) := by decide +kernel
theorem de_X_reserve_1 : decode b_X_reserve 1 = .ok (.i2l, 1) := by decide +kernel
theorem de_X_reserve_2 : decode b_X_reserve 2 = .ok (.lconst 1, 1) := by decide +kernel
theorem de_X_reserve_3 : decode b_X_reserve 3 = .ok (.ldc2_w 53, 3) := by decide +kernel
theorem de_X_reserve_6 : decode b_X_reserve 6 = .ok (.invokestatic 26, 3) := by decide +kernel
theorem de_X_reserve_9 : decode b_X_reserve 9 = .ok (.ifCond .eq 19, 3) := by decide +kernel
theorem de_X_reserve_12 : decode b_X_reserve 12 = .ok (.lload_n 2, 1) := by decide +kernel
theorem de_X_reserve_13 : decode b_X_reserve 13 = .ok (.aload_n 0, 1) := by decide +kernel
theorem de_X_reserve_14 : decode b_X_reserve 14 = .ok (.getfield 30, 3) := by decide +kernel
theorem de_X_reserve_17 : decode b_X_reserve 17 = .ok (.lconst 1, 1) := by decide +kernel
theorem de_X_reserve_18 : decode b_X_reserve 18 = .ok (.ladd, 1) := by decide +kernel
theorem de_X_reserve_19 : decode b_X_reserve 19 = .ok (.ldc2_w 34, 3) := by decide +kernel
theorem de_X_reserve_22 : decode b_X_reserve 22 = .ok (.invokestatic 26, 3) := by decide +kernel
theorem de_X_reserve_25 : decode b_X_reserve 25 = .ok (.ifCond .ne 6, 3) := by decide +kernel
theorem de_X_reserve_28 : decode b_X_reserve 28 = .ok (.bipush (-12), 2) := by decide +kernel
theorem de_X_reserve_30 : decode b_X_reserve 30 = .ok (.ireturn, 1) := by decide +kernel
theorem de_X_reserve_31 : decode b_X_reserve 31 = .ok (.iconst 0, 1) := by decide +kernel
theorem de_X_reserve_32 : decode b_X_reserve 32 = .ok (.istore 4, 2) := by decide +kernel
theorem de_X_reserve_34 : decode b_X_reserve 34 = .ok (.iconst 1, 1) := by decide +kernel
theorem de_X_reserve_35 : decode b_X_reserve 35 = .ok (.istore 5, 2) := by decide +kernel
theorem de_X_reserve_37 : decode b_X_reserve 37 = .ok (.iload 5, 2) := by decide +kernel
theorem de_X_reserve_39 : decode b_X_reserve 39 = .ok (.aload_n 0, 1) := by decide +kernel
theorem de_X_reserve_40 : decode b_X_reserve 40 = .ok (.getfield 22, 3) := by decide +kernel
theorem de_X_reserve_43 : decode b_X_reserve 43 = .ok (.if_icmp .gt 85, 3) := by decide +kernel
theorem de_X_reserve_46 : decode b_X_reserve 46 = .ok (.aload_n 0, 1) := by decide +kernel
theorem de_X_reserve_47 : decode b_X_reserve 47 = .ok (.getfield 9, 3) := by decide +kernel
theorem de_X_reserve_50 : decode b_X_reserve 50 = .ok (.iload 5, 2) := by decide +kernel
theorem de_X_reserve_52 : decode b_X_reserve 52 = .ok (.aaload, 1) := by decide +kernel
theorem de_X_reserve_53 : decode b_X_reserve 53 = .ok (.invokevirtual 63, 3) := by decide +kernel
theorem de_X_reserve_56 : decode b_X_reserve 56 = .ok (.ifCond .eq 21, 3) := by decide +kernel
theorem de_X_reserve_59 : decode b_X_reserve 59 = .ok (.aload_n 0, 1) := by decide +kernel
theorem de_X_reserve_60 : decode b_X_reserve 60 = .ok (.getfield 9, 3) := by decide +kernel
theorem de_X_reserve_63 : decode b_X_reserve 63 = .ok (.iload 5, 2) := by decide +kernel
theorem de_X_reserve_65 : decode b_X_reserve 65 = .ok (.aaload, 1) := by decide +kernel
theorem de_X_reserve_66 : decode b_X_reserve 66 = .ok (.getfield 66, 3) := by decide +kernel
theorem de_X_reserve_69 : decode b_X_reserve 69 = .ok (.iload_n 1, 1) := by decide +kernel
theorem de_X_reserve_70 : decode b_X_reserve 70 = .ok (.if_icmp .lt 7, 3) := by decide +kernel
theorem de_X_reserve_73 : decode b_X_reserve 73 = .ok (.iconst 1, 1) := by decide +kernel
theorem de_X_reserve_74 : decode b_X_reserve 74 = .ok (.goto 4, 3) := by decide +kernel
theorem de_X_reserve_77 : decode b_X_reserve 77 = .ok (.iconst 0, 1) := by decide +kernel
theorem de_X_reserve_78 : decode b_X_reserve 78 = .ok (.istore 6, 2) := by decide +kernel
theorem de_X_reserve_80 : decode b_X_reserve 80 = .ok (.iload 6, 2) := by decide +kernel
theorem de_X_reserve_82 : decode b_X_reserve 82 = .ok (.ifCond .eq 36, 3) := by decide +kernel
theorem de_X_reserve_85 : decode b_X_reserve 85 = .ok (.iload 4, 2) := by decide +kernel
theorem de_X_reserve_87 : decode b_X_reserve 87 = .ok (.ifCond .eq 26, 3) := by decide +kernel
theorem de_X_reserve_90 : decode b_X_reserve 90 = .ok (.aload_n 0, 1) := by decide +kernel
theorem de_X_reserve_91 : decode b_X_reserve 91 = .ok (.getfield 9, 3) := by decide +kernel
theorem de_X_reserve_94 : decode b_X_reserve 94 = .ok (.iload 5, 2) := by decide +kernel
theorem de_X_reserve_96 : decode b_X_reserve 96 = .ok (.aaload, 1) := by decide +kernel
theorem de_X_reserve_97 : decode b_X_reserve 97 = .ok (.getfield 66, 3) := by decide +kernel
theorem de_X_reserve_100 : decode b_X_reserve 100 = .ok (.aload_n 0, 1) := by decide +kernel
theorem de_X_reserve_101 : decode b_X_reserve 101 = .ok (.getfield 9, 3) := by decide +kernel
theorem de_X_reserve_104 : decode b_X_reserve 104 = .ok (.iload 4, 2) := by decide +kernel
theorem de_X_reserve_106 : decode b_X_reserve 106 = .ok (.aaload, 1) := by decide +kernel
theorem de_X_reserve_107 : decode b_X_reserve 107 = .ok (.getfield 66, 3) := by decide +kernel
theorem de_X_reserve_110 : decode b_X_reserve 110 = .ok (.if_icmp .ge 8, 3) := by decide +kernel
theorem de_X_reserve_113 : decode b_X_reserve 113 = .ok (.iload 5, 2) := by decide +kernel
theorem de_X_reserve_115 : decode b_X_reserve 115 = .ok (.goto 5, 3) := by decide +kernel
theorem de_X_reserve_118 : decode b_X_reserve 118 = .ok (.iload 4, 2) := by decide +kernel
theorem de_X_reserve_120 : decode b_X_reserve 120 = .ok (.istore 4, 2) := by decide +kernel
theorem de_X_reserve_122 : decode b_X_reserve 122 = .ok (.iinc 5 1, 3) := by decide +kernel
theorem de_X_reserve_125 : decode b_X_reserve 125 = .ok (.goto (-88), 3) := by decide +kernel
theorem de_X_reserve_128 : decode b_X_reserve 128 = .ok (.iload 4, 2) := by decide +kernel
theorem de_X_reserve_130 : decode b_X_reserve 130 = .ok (.ifCond .le 14, 3) := by decide +kernel
theorem de_X_reserve_133 : decode b_X_reserve 133 = .ok (.aload_n 0, 1) := by decide +kernel
theorem de_X_reserve_134 : decode b_X_reserve 134 = .ok (.getfield 9, 3) := by decide +kernel
theorem de_X_reserve_137 : decode b_X_reserve 137 = .ok (.iload 4, 2) := by decide +kernel
theorem de_X_reserve_139 : decode b_X_reserve 139 = .ok (.aaload, 1) := by decide +kernel
theorem de_X_reserve_140 : decode b_X_reserve 140 = .ok (.lload_n 2, 1) := by decide +kernel
theorem de_X_reserve_141 : decode b_X_reserve 141 = .ok (.putfield 40, 3) := by decide +kernel
theorem de_X_reserve_144 : decode b_X_reserve 144 = .ok (.iload 4, 2) := by decide +kernel
theorem de_X_reserve_146 : decode b_X_reserve 146 = .ok (.ireturn, 1) := by decide +kernel
theorem de_B_isFree_0 : decode b_B_isFree 0 = .ok (.aload_n 0, 1) := by decide +kernel
theorem de_B_isFree_1 : decode b_B_isFree 1 = .ok (.getfield 15, 3) := by decide +kernel
theorem de_B_isFree_4 : decode b_B_isFree 4 = .ok (.getstatic 9, 3) := by decide +kernel
theorem de_B_isFree_7 : decode b_B_isFree 7 = .ok (.if_acmp .ne 21, 3) := by decide +kernel
theorem de_B_isFree_10 : decode b_B_isFree 10 = .ok (.aload_n 0, 1) := by decide +kernel
theorem de_B_isFree_11 : decode b_B_isFree 11 = .ok (.getfield 31, 3) := by decide +kernel
theorem de_B_isFree_14 : decode b_B_isFree 14 = .ok (.ifCond .ne 14, 3) := by decide +kernel
theorem de_B_isFree_17 : decode b_B_isFree 17 = .ok (.aload_n 0, 1) := by decide +kernel
theorem de_B_isFree_18 : decode b_B_isFree 18 = .ok (.invokevirtual 34, 3) := by decide +kernel
theorem de_B_isFree_21 : decode b_B_isFree 21 = .ok (.ifCond .ne 7, 3) := by decide +kernel
theorem de_B_isFree_24 : decode b_B_isFree 24 = .ok (.iconst 1, 1) := by decide +kernel
theorem de_B_isFree_25 : decode b_B_isFree 25 = .ok (.goto 4, 3) := by decide +kernel
theorem de_B_isFree_28 : decode b_B_isFree 28 = .ok (.iconst 0, 1) := by decide +kernel
theorem de_B_isFree_29 : decode b_B_isFree 29 = .ok (.ireturn, 1) := by decide +kernel
theorem de_B_isKept_0 : decode b_B_isKept 0 = .ok (.aload_n 0, 1) := by decide +kernel
theorem de_B_isKept_1 : decode b_B_isKept 1 = .ok (.getfield 27, 3) := by decide +kernel
theorem de_B_isKept_4 : decode b_B_isKept 4 = .ok (.lconst 0, 1) := by decide +kernel
theorem de_B_isKept_5 : decode b_B_isKept 5 = .ok (.lcmp, 1) := by decide +kernel
theorem de_B_isKept_6 : decode b_B_isKept 6 = .ok (.ifCond .le 7, 3) := by decide +kernel
theorem de_B_isKept_9 : decode b_B_isKept 9 = .ok (.iconst 1, 1) := by decide +kernel
theorem de_B_isKept_10 : decode b_B_isKept 10 = .ok (.goto 4, 3) := by decide +kernel
theorem de_B_isKept_13 : decode b_B_isKept 13 = .ok (.iconst 0, 1) := by decide +kernel
theorem de_B_isKept_14 : decode b_B_isKept 14 = .ok (.ireturn, 1) := by decide +kernel
theorem de_X_put_0 : decode b_X_put 0 = .ok (.aload_n 0, 1) := by decide +kernel
theorem de_X_put_1 : decode b_X_put 1 = .ok (.iload_n 1, 1) := by decide +kernel
theorem de_X_put_2 : decode b_X_put 2 = .ok (.invokevirtual 72, 3) := by decide +kernel
theorem de_X_put_5 : decode b_X_put 5 = .ok (.ifCond .ne 6, 3) := by decide +kernel
theorem de_X_put_8 : decode b_X_put 8 = .ok (.bipush (-11), 2) := by decide +kernel
theorem de_X_put_10 : decode b_X_put 10 = .ok (.ireturn, 1) := by decide +kernel
theorem de_X_put_11 : decode b_X_put 11 = .ok (.iload_n 2, 1) := by decide +kernel
theorem de_X_put_12 : decode b_X_put 12 = .ok (.i2l, 1) := by decide +kernel
theorem de_X_put_13 : decode b_X_put 13 = .ok (.lconst 1, 1) := by decide +kernel
theorem de_X_put_14 : decode b_X_put 14 = .ok (.ldc2_w 76, 3) := by decide +kernel
theorem de_X_put_17 : decode b_X_put 17 = .ok (.invokestatic 26, 3) := by decide +kernel
theorem de_X_put_20 : decode b_X_put 20 = .ok (.ifCond .eq 11, 3) := by decide +kernel
theorem de_X_put_23 : decode b_X_put 23 = .ok (.aload_n 0, 1) := by decide +kernel
theorem de_X_put_24 : decode b_X_put 24 = .ok (.lload_n 3, 1) := by decide +kernel
theorem de_X_put_25 : decode b_X_put 25 = .ok (.invokevirtual 78, 3) := by decide +kernel
theorem de_X_put_28 : decode b_X_put 28 = .ok (.ifCond .ne 6, 3) := by decide +kernel
theorem de_X_put_31 : decode b_X_put 31 = .ok (.bipush (-12), 2) := by decide +kernel
theorem de_X_put_33 : decode b_X_put 33 = .ok (.ireturn, 1) := by decide +kernel
theorem de_X_put_34 : decode b_X_put 34 = .ok (.aload_n 0, 1) := by decide +kernel
theorem de_X_put_35 : decode b_X_put 35 = .ok (.lload_n 3, 1) := by decide +kernel
theorem de_X_put_36 : decode b_X_put 36 = .ok (.invokevirtual 82, 3) := by decide +kernel
theorem de_X_put_39 : decode b_X_put 39 = .ok (.aload_n 0, 1) := by decide +kernel
theorem de_X_put_40 : decode b_X_put 40 = .ok (.getfield 9, 3) := by decide +kernel
theorem de_X_put_43 : decode b_X_put 43 = .ok (.iload_n 1, 1) := by decide +kernel
theorem de_X_put_44 : decode b_X_put 44 = .ok (.aaload, 1) := by decide +kernel
theorem de_X_put_45 : decode b_X_put 45 = .ok (.astore 5, 2) := by decide +kernel
theorem de_X_put_47 : decode b_X_put 47 = .ok (.aload 5, 2) := by decide +kernel
theorem de_X_put_49 : decode b_X_put 49 = .ok (.getfield 85, 3) := by decide +kernel
theorem de_X_put_52 : decode b_X_put 52 = .ok (.getstatic 89, 3) := by decide +kernel
theorem de_X_put_55 : decode b_X_put 55 = .ok (.if_acmp .ne 19, 3) := by decide +kernel
theorem de_X_put_58 : decode b_X_put 58 = .ok (.aload 5, 2) := by decide +kernel
theorem de_X_put_60 : decode b_X_put 60 = .ok (.getfield 69, 3) := by decide +kernel
theorem de_X_put_63 : decode b_X_put 63 = .ok (.ifCond .ne 11, 3) := by decide +kernel
theorem de_X_put_66 : decode b_X_put 66 = .ok (.aload_n 0, 1) := by decide +kernel
theorem de_X_put_67 : decode b_X_put 67 = .ok (.iload_n 2, 1) := by decide +kernel
theorem de_X_put_68 : decode b_X_put 68 = .ok (.invokevirtual 94, 3) := by decide +kernel
theorem de_X_put_71 : decode b_X_put 71 = .ok (.ifCond .eq 5, 3) := by decide +kernel
theorem de_X_put_74 : decode b_X_put 74 = .ok (.iconst 0, 1) := by decide +kernel
theorem de_X_put_75 : decode b_X_put 75 = .ok (.ireturn, 1) := by decide +kernel
theorem de_X_put_76 : decode b_X_put 76 = .ok (.aload 5, 2) := by decide +kernel
theorem de_X_put_78 : decode b_X_put 78 = .ok (.iload_n 2, 1) := by decide +kernel
theorem de_X_put_79 : decode b_X_put 79 = .ok (.putfield 69, 3) := by decide +kernel
theorem de_X_put_82 : decode b_X_put 82 = .ok (.aload 5, 2) := by decide +kernel
theorem de_X_put_84 : decode b_X_put 84 = .ok (.lconst 0, 1) := by decide +kernel
theorem de_X_put_85 : decode b_X_put 85 = .ok (.putfield 40, 3) := by decide +kernel
theorem de_X_put_88 : decode b_X_put 88 = .ok (.iconst 1, 1) := by decide +kernel
theorem de_X_put_89 : decode b_X_put 89 = .ok (.ireturn, 1) := by decide +kernel
theorem de_X_isBox_0 : decode b_X_isBox 0 = .ok (.iload_n 1, 1) := by decide +kernel
theorem de_X_isBox_1 : decode b_X_isBox 1 = .ok (.i2l, 1) := by decide +kernel
theorem de_X_isBox_2 : decode b_X_isBox 2 = .ok (.lconst 1, 1) := by decide +kernel
theorem de_X_isBox_3 : decode b_X_isBox 3 = .ok (.aload_n 0, 1) := by decide +kernel
theorem de_X_isBox_4 : decode b_X_isBox 4 = .ok (.getfield 22, 3) := by decide +kernel
theorem de_X_isBox_7 : decode b_X_isBox 7 = .ok (.i2l, 1) := by decide +kernel
theorem de_X_isBox_8 : decode b_X_isBox 8 = .ok (.invokestatic 26, 3) := by decide +kernel
theorem de_X_isBox_11 : decode b_X_isBox 11 = .ok (.ireturn, 1) := by decide +kernel
theorem de_X_isTime_0 : decode b_X_isTime 0 = .ok (.lload_n 1, 1) := by decide +kernel
theorem de_X_isTime_1 : decode b_X_isTime 1 = .ok (.aload_n 0, 1) := by decide +kernel
theorem de_X_isTime_2 : decode b_X_isTime 2 = .ok (.getfield 30, 3) := by decide +kernel
theorem de_X_isTime_5 : decode b_X_isTime 5 = .ok (.ldc2_w 34, 3) := by decide +kernel
theorem de_X_isTime_8 : decode b_X_isTime 8 = .ok (.invokestatic 26, 3) := by decide +kernel
theorem de_X_isTime_11 : decode b_X_isTime 11 = .ok (.ireturn, 1) := by decide +kernel
theorem de_X_pass_0 : decode b_X_pass 0 = .ok (.aload_n 0, 1) := by decide +kernel
theorem de_X_pass_1 : decode b_X_pass 1 = .ok (.lload_n 1, 1) := by decide +kernel
theorem de_X_pass_2 : decode b_X_pass 2 = .ok (.putfield 30, 3) := by decide +kernel
theorem de_X_pass_5 : decode b_X_pass 5 = .ok (.iconst 1, 1) := by decide +kernel
theorem de_X_pass_6 : decode b_X_pass 6 = .ok (.istore_n 3, 1) := by decide +kernel
theorem de_X_pass_7 : decode b_X_pass 7 = .ok (.iload_n 3, 1) := by decide +kernel
theorem de_X_pass_8 : decode b_X_pass 8 = .ok (.aload_n 0, 1) := by decide +kernel
theorem de_X_pass_9 : decode b_X_pass 9 = .ok (.getfield 22, 3) := by decide +kernel
theorem de_X_pass_12 : decode b_X_pass 12 = .ok (.if_icmp .gt 85, 3) := by decide +kernel
theorem de_X_pass_15 : decode b_X_pass 15 = .ok (.aload_n 0, 1) := by decide +kernel
theorem de_X_pass_16 : decode b_X_pass 16 = .ok (.getfield 9, 3) := by decide +kernel
theorem de_X_pass_19 : decode b_X_pass 19 = .ok (.iload_n 3, 1) := by decide +kernel
theorem de_X_pass_20 : decode b_X_pass 20 = .ok (.aaload, 1) := by decide +kernel
theorem de_X_pass_21 : decode b_X_pass 21 = .ok (.astore 4, 2) := by decide +kernel
theorem de_X_pass_23 : decode b_X_pass 23 = .ok (.aload 4, 2) := by decide +kernel
theorem de_X_pass_25 : decode b_X_pass 25 = .ok (.invokevirtual 36, 3) := by decide +kernel
theorem de_X_pass_28 : decode b_X_pass 28 = .ok (.ifCond .eq 48, 3) := by decide +kernel
theorem de_X_pass_31 : decode b_X_pass 31 = .ok (.aload 4, 2) := by decide +kernel
theorem de_X_pass_33 : decode b_X_pass 33 = .ok (.getfield 40, 3) := by decide +kernel
theorem de_X_pass_36 : decode b_X_pass 36 = .ok (.lload_n 1, 1) := by decide +kernel
theorem de_X_pass_37 : decode b_X_pass 37 = .ok (.lcmp, 1) := by decide +kernel
theorem de_X_pass_38 : decode b_X_pass 38 = .ok (.ifCond .gt 38, 3) := by decide +kernel
theorem de_X_pass_41 : decode b_X_pass 41 = .ok (.aload 4, 2) := by decide +kernel
theorem de_X_pass_43 : decode b_X_pass 43 = .ok (.lconst 0, 1) := by decide +kernel
theorem de_X_pass_44 : decode b_X_pass 44 = .ok (.putfield 40, 3) := by decide +kernel
theorem de_X_pass_47 : decode b_X_pass 47 = .ok (.aload_n 0, 1) := by decide +kernel
theorem de_X_pass_48 : decode b_X_pass 48 = .ok (.getfield 43, 3) := by decide +kernel
theorem de_X_pass_51 : decode b_X_pass 51 = .ok (.aload_n 0, 1) := by decide +kernel
theorem de_X_pass_52 : decode b_X_pass 52 = .ok (.getfield 19, 3) := by decide +kernel
theorem de_X_pass_55 : decode b_X_pass 55 = .ok (.arraylength, 1) := by decide +kernel
theorem de_X_pass_56 : decode b_X_pass 56 = .ok (.if_icmp .ge 20, 3) := by decide +kernel
theorem de_X_pass_59 : decode b_X_pass 59 = .ok (.aload_n 0, 1) := by decide +kernel
theorem de_X_pass_60 : decode b_X_pass 60 = .ok (.getfield 19, 3) := by decide +kernel
theorem de_X_pass_63 : decode b_X_pass 63 = .ok (.aload_n 0, 1) := by decide +kernel
theorem de_X_pass_64 : decode b_X_pass 64 = .ok (.dup, 1) := by decide +kernel
theorem de_X_pass_65 : decode b_X_pass 65 = .ok (.getfield 43, 3) := by decide +kernel
theorem de_X_pass_68 : decode b_X_pass 68 = .ok (.dup_x1, 1) := by decide +kernel
theorem de_X_pass_69 : decode b_X_pass 69 = .ok (.iconst 1, 1) := by decide +kernel
theorem de_X_pass_70 : decode b_X_pass 70 = .ok (.iadd, 1) := by decide +kernel
theorem de_X_pass_71 : decode b_X_pass 71 = .ok (.putfield 43, 3) := by decide +kernel
theorem de_X_pass_74 : decode b_X_pass 74 = .ok (.iload_n 3, 1) := by decide +kernel
theorem de_X_pass_75 : decode b_X_pass 75 = .ok (.iastore, 1) := by decide +kernel
theorem de_X_pass_76 : decode b_X_pass 76 = .ok (.aload_n 0, 1) := by decide +kernel
theorem de_X_pass_77 : decode b_X_pass 77 = .ok (.dup, 1) := by decide +kernel
theorem de_X_pass_78 : decode b_X_pass 78 = .ok (.getfield 46, 3) := by decide +kernel
theorem de_X_pass_81 : decode b_X_pass 81 = .ok (.aload 4, 2) := by decide +kernel
theorem de_X_pass_83 : decode b_X_pass 83 = .ok (.lload_n 1, 1) := by decide +kernel
theorem de_X_pass_84 : decode b_X_pass 84 = .ok (.invokevirtual 49, 3) := by decide +kernel
theorem de_X_pass_87 : decode b_X_pass 87 = .ok (.iadd, 1) := by decide +kernel
theorem de_X_pass_88 : decode b_X_pass 88 = .ok (.putfield 46, 3) := by decide +kernel
theorem de_X_pass_91 : decode b_X_pass 91 = .ok (.iinc 3 1, 3) := by decide +kernel
theorem de_X_pass_94 : decode b_X_pass 94 = .ok (.goto (-87), 3) := by decide +kernel
theorem de_X_pass_97 : decode b_X_pass 97 = .ok (.return_, 1) := by decide +kernel
theorem de_B_pass_0 : decode b_B_pass 0 = .ok (.iconst 0, 1) := by decide +kernel
theorem de_B_pass_1 : decode b_B_pass 1 = .ok (.istore_n 3, 1) := by decide +kernel
theorem de_B_pass_2 : decode b_B_pass 2 = .ok (.aload_n 0, 1) := by decide +kernel
theorem de_B_pass_3 : decode b_B_pass 3 = .ok (.getfield 15, 3) := by decide +kernel
theorem de_B_pass_6 : decode b_B_pass 6 = .ok (.invokevirtual 51, 3) := by decide +kernel
theorem de_B_pass_9 : decode b_B_pass 9 = .ok (.ifCond .eq 31, 3) := by decide +kernel
theorem de_B_pass_12 : decode b_B_pass 12 = .ok (.aload_n 0, 1) := by decide +kernel
theorem de_B_pass_13 : decode b_B_pass 13 = .ok (.getfield 41, 3) := by decide +kernel
theorem de_B_pass_16 : decode b_B_pass 16 = .ok (.ifCond .ne 24, 3) := by decide +kernel
theorem de_B_pass_19 : decode b_B_pass 19 = .ok (.lload_n 1, 1) := by decide +kernel
theorem de_B_pass_20 : decode b_B_pass 20 = .ok (.aload_n 0, 1) := by decide +kernel
theorem de_B_pass_21 : decode b_B_pass 21 = .ok (.getfield 38, 3) := by decide +kernel
theorem de_B_pass_24 : decode b_B_pass 24 = .ok (.lsub, 1) := by decide +kernel
theorem de_B_pass_25 : decode b_B_pass 25 = .ok (.ldc2_w 54, 3) := by decide +kernel
theorem de_B_pass_28 : decode b_B_pass 28 = .ok (.lcmp, 1) := by decide +kernel
theorem de_B_pass_29 : decode b_B_pass 29 = .ok (.ifCond .lt 11, 3) := by decide +kernel
theorem de_B_pass_32 : decode b_B_pass 32 = .ok (.aload_n 0, 1) := by decide +kernel
theorem de_B_pass_33 : decode b_B_pass 33 = .ok (.iconst 1, 1) := by decide +kernel
theorem de_B_pass_34 : decode b_B_pass 34 = .ok (.putfield 41, 3) := by decide +kernel
theorem de_B_pass_37 : decode b_B_pass 37 = .ok (.iinc 3 1, 3) := by decide +kernel
theorem de_B_pass_40 : decode b_B_pass 40 = .ok (.aload_n 0, 1) := by decide +kernel
theorem de_B_pass_41 : decode b_B_pass 41 = .ok (.getfield 45, 3) := by decide +kernel
theorem de_B_pass_44 : decode b_B_pass 44 = .ok (.ifCond .eq 31, 3) := by decide +kernel
theorem de_B_pass_47 : decode b_B_pass 47 = .ok (.aload_n 0, 1) := by decide +kernel
theorem de_B_pass_48 : decode b_B_pass 48 = .ok (.getfield 48, 3) := by decide +kernel
theorem de_B_pass_51 : decode b_B_pass 51 = .ok (.ifCond .ne 24, 3) := by decide +kernel
theorem de_B_pass_54 : decode b_B_pass 54 = .ok (.lload_n 1, 1) := by decide +kernel
theorem de_B_pass_55 : decode b_B_pass 55 = .ok (.aload_n 0, 1) := by decide +kernel
theorem de_B_pass_56 : decode b_B_pass 56 = .ok (.getfield 56, 3) := by decide +kernel
theorem de_B_pass_59 : decode b_B_pass 59 = .ok (.lsub, 1) := by decide +kernel
theorem de_B_pass_60 : decode b_B_pass 60 = .ok (.ldc2_w 59, 3) := by decide +kernel
theorem de_B_pass_63 : decode b_B_pass 63 = .ok (.lcmp, 1) := by decide +kernel
theorem de_B_pass_64 : decode b_B_pass 64 = .ok (.ifCond .lt 11, 3) := by decide +kernel
theorem de_B_pass_67 : decode b_B_pass 67 = .ok (.aload_n 0, 1) := by decide +kernel
theorem de_B_pass_68 : decode b_B_pass 68 = .ok (.iconst 1, 1) := by decide +kernel
theorem de_B_pass_69 : decode b_B_pass 69 = .ok (.putfield 48, 3) := by decide +kernel
theorem de_B_pass_72 : decode b_B_pass 72 = .ok (.iinc 3 1, 3) := by decide +kernel
theorem de_B_pass_75 : decode b_B_pass 75 = .ok (.iload_n 3, 1) := by decide +kernel
theorem de_B_pass_76 : decode b_B_pass 76 = .ok (.ireturn, 1) := by decide +kernel
theorem de_D_isPassable_0 : decode b_D_isPassable 0 = .ok (.aload_n 0, 1) := by decide +kernel
theorem de_D_isPassable_1 : decode b_D_isPassable 1 = .ok (.getstatic 7, 3) := by decide +kernel
theorem de_D_isPassable_4 : decode b_D_isPassable 4 = .ok (.if_acmp .eq 10, 3) := by decide +kernel
theorem de_D_isPassable_7 : decode b_D_isPassable 7 = .ok (.aload_n 0, 1) := by decide +kernel
theorem de_D_isPassable_8 : decode b_D_isPassable 8 = .ok (.getstatic 10, 3) := by decide +kernel
theorem de_D_isPassable_11 : decode b_D_isPassable 11 = .ok (.if_acmp .ne 7, 3) := by decide +kernel
theorem de_D_isPassable_14 : decode b_D_isPassable 14 = .ok (.iconst 1, 1) := by decide +kernel
theorem de_D_isPassable_15 : decode b_D_isPassable 15 = .ok (.goto 4, 3) := by decide +kernel
theorem de_D_isPassable_18 : decode b_D_isPassable 18 = .ok (.iconst 0, 1) := by decide +kernel
theorem de_D_isPassable_19 : decode b_D_isPassable 19 = .ok (.ireturn, 1) := by decide +kernel
theorem de_X_find_0 : decode b_X_find 0 = .ok (.aload_n 0, 1) := by decide +kernel
theorem de_X_find_1 : decode b_X_find 1 = .ok (.getfield 22, 3) := by decide +kernel
theorem de_X_find_4 : decode b_X_find 4 = .ok (.istore_n 2, 1) := by decide +kernel
theorem de_X_find_5 : decode b_X_find 5 = .ok (.iload_n 2, 1) := by decide +kernel
theorem de_X_find_6 : decode b_X_find 6 = .ok (.ifCond .le 22, 3) := by decide +kernel
theorem de_X_find_9 : decode b_X_find 9 = .ok (.aload_n 0, 1) := by decide +kernel
theorem de_X_find_10 : decode b_X_find 10 = .ok (.getfield 9, 3) := by decide +kernel
theorem de_X_find_13 : decode b_X_find 13 = .ok (.iload_n 2, 1) := by decide +kernel
theorem de_X_find_14 : decode b_X_find 14 = .ok (.aaload, 1) := by decide +kernel
theorem de_X_find_15 : decode b_X_find 15 = .ok (.getfield 69, 3) := by decide +kernel
theorem de_X_find_18 : decode b_X_find 18 = .ok (.iload_n 1, 1) := by decide +kernel
theorem de_X_find_19 : decode b_X_find 19 = .ok (.if_icmp .eq 9, 3) := by decide +kernel
theorem de_X_find_22 : decode b_X_find 22 = .ok (.iinc 2 (-1), 3) := by decide +kernel
theorem de_X_find_25 : decode b_X_find 25 = .ok (.goto (-20), 3) := by decide +kernel
theorem de_X_find_28 : decode b_X_find 28 = .ok (.iload_n 2, 1) := by decide +kernel
theorem de_X_find_29 : decode b_X_find 29 = .ok (.ireturn, 1) := by decide +kernel
theorem de_X_close_0 : decode b_X_close 0 = .ok (.aload_n 0, 1) := by decide +kernel
theorem de_X_close_1 : decode b_X_close 1 = .ok (.iload_n 1, 1) := by decide +kernel
theorem de_X_close_2 : decode b_X_close 2 = .ok (.invokevirtual 72, 3) := by decide +kernel
theorem de_X_close_5 : decode b_X_close 5 = .ok (.ifCond .ne 6, 3) := by decide +kernel
theorem de_X_close_8 : decode b_X_close 8 = .ok (.bipush (-11), 2) := by decide +kernel
theorem de_X_close_10 : decode b_X_close 10 = .ok (.ireturn, 1) := by decide +kernel
theorem de_X_close_11 : decode b_X_close 11 = .ok (.aload_n 0, 1) := by decide +kernel
theorem de_X_close_12 : decode b_X_close 12 = .ok (.lload_n 2, 1) := by decide +kernel
theorem de_X_close_13 : decode b_X_close 13 = .ok (.invokevirtual 78, 3) := by decide +kernel
theorem de_X_close_16 : decode b_X_close 16 = .ok (.ifCond .ne 6, 3) := by decide +kernel
theorem de_X_close_19 : decode b_X_close 19 = .ok (.bipush (-12), 2) := by decide +kernel
theorem de_X_close_21 : decode b_X_close 21 = .ok (.ireturn, 1) := by decide +kernel
theorem de_X_close_22 : decode b_X_close 22 = .ok (.aload_n 0, 1) := by decide +kernel
theorem de_X_close_23 : decode b_X_close 23 = .ok (.lload_n 2, 1) := by decide +kernel
theorem de_X_close_24 : decode b_X_close 24 = .ok (.invokevirtual 82, 3) := by decide +kernel
theorem de_X_close_27 : decode b_X_close 27 = .ok (.aload_n 0, 1) := by decide +kernel
theorem de_X_close_28 : decode b_X_close 28 = .ok (.getfield 9, 3) := by decide +kernel
theorem de_X_close_31 : decode b_X_close 31 = .ok (.iload_n 1, 1) := by decide +kernel
theorem de_X_close_32 : decode b_X_close 32 = .ok (.aaload, 1) := by decide +kernel
theorem de_X_close_33 : decode b_X_close 33 = .ok (.astore 4, 2) := by decide +kernel
theorem de_X_close_35 : decode b_X_close 35 = .ok (.aload 4, 2) := by decide +kernel
theorem de_X_close_37 : decode b_X_close 37 = .ok (.getfield 85, 3) := by decide +kernel
theorem de_X_close_40 : decode b_X_close 40 = .ok (.getstatic 89, 3) := by decide +kernel
theorem de_X_close_43 : decode b_X_close 43 = .ok (.if_acmp .eq 6, 3) := by decide +kernel
theorem de_X_close_46 : decode b_X_close 46 = .ok (.bipush (-13), 2) := by decide +kernel
theorem de_X_close_48 : decode b_X_close 48 = .ok (.ireturn, 1) := by decide +kernel
theorem de_X_close_49 : decode b_X_close 49 = .ok (.aload 4, 2) := by decide +kernel
theorem de_X_close_51 : decode b_X_close 51 = .ok (.getfield 69, 3) := by decide +kernel
theorem de_X_close_54 : decode b_X_close 54 = .ok (.ifCond .eq 11, 3) := by decide +kernel
theorem de_X_close_57 : decode b_X_close 57 = .ok (.aload 4, 2) := by decide +kernel
theorem de_X_close_59 : decode b_X_close 59 = .ok (.getfield 110, 3) := by decide +kernel
theorem de_X_close_62 : decode b_X_close 62 = .ok (.ifCond .eq 13, 3) := by decide +kernel
theorem de_X_close_65 : decode b_X_close 65 = .ok (.aload 4, 2) := by decide +kernel
theorem de_X_close_67 : decode b_X_close 67 = .ok (.getstatic 114, 3) := by decide +kernel
theorem de_X_close_70 : decode b_X_close 70 = .ok (.putfield 85, 3) := by decide +kernel
theorem de_X_close_73 : decode b_X_close 73 = .ok (.iconst (-1), 1) := by decide +kernel
theorem de_X_close_74 : decode b_X_close 74 = .ok (.ireturn, 1) := by decide +kernel
theorem de_X_close_75 : decode b_X_close 75 = .ok (.aload_n 0, 1) := by decide +kernel
theorem de_X_close_76 : decode b_X_close 76 = .ok (.invokevirtual 117, 3) := by decide +kernel
theorem de_X_close_79 : decode b_X_close 79 = .ok (.istore 5, 2) := by decide +kernel
theorem de_X_close_81 : decode b_X_close 81 = .ok (.iload 5, 2) := by decide +kernel
theorem de_X_close_83 : decode b_X_close 83 = .ok (.iconst (-1), 1) := by decide +kernel
theorem de_X_close_84 : decode b_X_close 84 = .ok (.if_icmp .ne 6, 3) := by decide +kernel
theorem de_X_close_87 : decode b_X_close 87 = .ok (.bipush (-14), 2) := by decide +kernel
theorem de_X_close_89 : decode b_X_close 89 = .ok (.ireturn, 1) := by decide +kernel
theorem de_X_close_90 : decode b_X_close 90 = .ok (.aload 4, 2) := by decide +kernel
theorem de_X_close_92 : decode b_X_close 92 = .ok (.getstatic 114, 3) := by decide +kernel
theorem de_X_close_95 : decode b_X_close 95 = .ok (.putfield 85, 3) := by decide +kernel
theorem de_X_close_98 : decode b_X_close 98 = .ok (.aload 4, 2) := by decide +kernel
theorem de_X_close_100 : decode b_X_close 100 = .ok (.iload 5, 2) := by decide +kernel
theorem de_X_close_102 : decode b_X_close 102 = .ok (.putfield 98, 3) := by decide +kernel
theorem de_X_close_105 : decode b_X_close 105 = .ok (.aload 4, 2) := by decide +kernel
theorem de_X_close_107 : decode b_X_close 107 = .ok (.iconst 1, 1) := by decide +kernel
theorem de_X_close_108 : decode b_X_close 108 = .ok (.putfield 110, 3) := by decide +kernel
theorem de_X_close_111 : decode b_X_close 111 = .ok (.aload 4, 2) := by decide +kernel
theorem de_X_close_113 : decode b_X_close 113 = .ok (.lload_n 2, 1) := by decide +kernel
theorem de_X_close_114 : decode b_X_close 114 = .ok (.putfield 121, 3) := by decide +kernel
theorem de_X_close_117 : decode b_X_close 117 = .ok (.iload 5, 2) := by decide +kernel
theorem de_X_close_119 : decode b_X_close 119 = .ok (.ireturn, 1) := by decide +kernel
theorem de_X_draw_0 : decode b_X_draw 0 = .ok (.iconst 0, 1) := by decide +kernel
theorem de_X_draw_1 : decode b_X_draw 1 = .ok (.istore_n 1, 1) := by decide +kernel
theorem de_X_draw_2 : decode b_X_draw 2 = .ok (.iload_n 1, 1) := by decide +kernel
theorem de_X_draw_3 : decode b_X_draw 3 = .ok (.aload_n 0, 1) := by decide +kernel
theorem de_X_draw_4 : decode b_X_draw 4 = .ok (.getfield 60, 3) := by decide +kernel
theorem de_X_draw_7 : decode b_X_draw 7 = .ok (.if_icmp .ge 22, 3) := by decide +kernel
theorem de_X_draw_10 : decode b_X_draw 10 = .ok (.aload_n 0, 1) := by decide +kernel
theorem de_X_draw_11 : decode b_X_draw 11 = .ok (.aload_n 0, 1) := by decide +kernel
theorem de_X_draw_12 : decode b_X_draw 12 = .ok (.getfield 15, 3) := by decide +kernel
theorem de_X_draw_15 : decode b_X_draw 15 = .ok (.iload_n 1, 1) := by decide +kernel
theorem de_X_draw_16 : decode b_X_draw 16 = .ok (.iaload, 1) := by decide +kernel
theorem de_X_draw_17 : decode b_X_draw 17 = .ok (.invokevirtual 101, 3) := by decide +kernel
theorem de_X_draw_20 : decode b_X_draw 20 = .ok (.ifCond .eq 9, 3) := by decide +kernel
theorem de_X_draw_23 : decode b_X_draw 23 = .ok (.iinc 1 1, 3) := by decide +kernel
theorem de_X_draw_26 : decode b_X_draw 26 = .ok (.goto (-24), 3) := by decide +kernel
theorem de_X_draw_29 : decode b_X_draw 29 = .ok (.iload_n 1, 1) := by decide +kernel
theorem de_X_draw_30 : decode b_X_draw 30 = .ok (.aload_n 0, 1) := by decide +kernel
theorem de_X_draw_31 : decode b_X_draw 31 = .ok (.getfield 60, 3) := by decide +kernel
theorem de_X_draw_34 : decode b_X_draw 34 = .ok (.if_icmp .ne 5, 3) := by decide +kernel
theorem de_X_draw_37 : decode b_X_draw 37 = .ok (.iconst (-1), 1) := by decide +kernel
theorem de_X_draw_38 : decode b_X_draw 38 = .ok (.ireturn, 1) := by decide +kernel
theorem de_X_draw_39 : decode b_X_draw 39 = .ok (.aload_n 0, 1) := by decide +kernel
theorem de_X_draw_40 : decode b_X_draw 40 = .ok (.getfield 15, 3) := by decide +kernel
theorem de_X_draw_43 : decode b_X_draw 43 = .ok (.iload_n 1, 1) := by decide +kernel
theorem de_X_draw_44 : decode b_X_draw 44 = .ok (.iaload, 1) := by decide +kernel
theorem de_X_draw_45 : decode b_X_draw 45 = .ok (.istore_n 2, 1) := by decide +kernel
theorem de_X_draw_46 : decode b_X_draw 46 = .ok (.aload_n 0, 1) := by decide +kernel
theorem de_X_draw_47 : decode b_X_draw 47 = .ok (.dup, 1) := by decide +kernel
theorem de_X_draw_48 : decode b_X_draw 48 = .ok (.getfield 60, 3) := by decide +kernel
theorem de_X_draw_51 : decode b_X_draw 51 = .ok (.iload_n 1, 1) := by decide +kernel
theorem de_X_draw_52 : decode b_X_draw 52 = .ok (.iconst 1, 1) := by decide +kernel
theorem de_X_draw_53 : decode b_X_draw 53 = .ok (.iadd, 1) := by decide +kernel
theorem de_X_draw_54 : decode b_X_draw 54 = .ok (.isub, 1) := by decide +kernel
theorem de_X_draw_55 : decode b_X_draw 55 = .ok (.putfield 60, 3) := by decide +kernel
theorem de_X_draw_58 : decode b_X_draw 58 = .ok (.aload_n 0, 1) := by decide +kernel
theorem de_X_draw_59 : decode b_X_draw 59 = .ok (.getfield 15, 3) := by decide +kernel
theorem de_X_draw_62 : decode b_X_draw 62 = .ok (.iload_n 1, 1) := by decide +kernel
theorem de_X_draw_63 : decode b_X_draw 63 = .ok (.iconst 1, 1) := by decide +kernel
theorem de_X_draw_64 : decode b_X_draw 64 = .ok (.iadd, 1) := by decide +kernel
theorem de_X_draw_65 : decode b_X_draw 65 = .ok (.aload_n 0, 1) := by decide +kernel
theorem de_X_draw_66 : decode b_X_draw 66 = .ok (.getfield 15, 3) := by decide +kernel
theorem de_X_draw_69 : decode b_X_draw 69 = .ok (.iconst 0, 1) := by decide +kernel
theorem de_X_draw_70 : decode b_X_draw 70 = .ok (.aload_n 0, 1) := by decide +kernel
theorem de_X_draw_71 : decode b_X_draw 71 = .ok (.getfield 60, 3) := by decide +kernel
theorem de_X_draw_74 : decode b_X_draw 74 = .ok (.invokestatic 104, 3) := by decide +kernel
theorem de_X_draw_77 : decode b_X_draw 77 = .ok (.iload_n 2, 1) := by decide +kernel
theorem de_X_draw_78 : decode b_X_draw 78 = .ok (.ireturn, 1) := by decide +kernel
theorem de_X_boxOf_0 : decode b_X_boxOf 0 = .ok (.aload_n 0, 1) := by decide +kernel
theorem de_X_boxOf_1 : decode b_X_boxOf 1 = .ok (.getfield 22, 3) := by decide +kernel
theorem de_X_boxOf_4 : decode b_X_boxOf 4 = .ok (.istore_n 2, 1) := by decide +kernel
theorem de_X_boxOf_5 : decode b_X_boxOf 5 = .ok (.iload_n 2, 1) := by decide +kernel
theorem de_X_boxOf_6 : decode b_X_boxOf 6 = .ok (.ifCond .le 22, 3) := by decide +kernel
theorem de_X_boxOf_9 : decode b_X_boxOf 9 = .ok (.aload_n 0, 1) := by decide +kernel
theorem de_X_boxOf_10 : decode b_X_boxOf 10 = .ok (.getfield 9, 3) := by decide +kernel
theorem de_X_boxOf_13 : decode b_X_boxOf 13 = .ok (.iload_n 2, 1) := by decide +kernel
theorem de_X_boxOf_14 : decode b_X_boxOf 14 = .ok (.aaload, 1) := by decide +kernel
theorem de_X_boxOf_15 : decode b_X_boxOf 15 = .ok (.getfield 98, 3) := by decide +kernel
theorem de_X_boxOf_18 : decode b_X_boxOf 18 = .ok (.iload_n 1, 1) := by decide +kernel
theorem de_X_boxOf_19 : decode b_X_boxOf 19 = .ok (.if_icmp .eq 9, 3) := by decide +kernel
theorem de_X_boxOf_22 : decode b_X_boxOf 22 = .ok (.iinc 2 (-1), 3) := by decide +kernel
theorem de_X_boxOf_25 : decode b_X_boxOf 25 = .ok (.goto (-20), 3) := by decide +kernel
theorem de_X_boxOf_28 : decode b_X_boxOf 28 = .ok (.iload_n 2, 1) := by decide +kernel
theorem de_X_boxOf_29 : decode b_X_boxOf 29 = .ok (.ireturn, 1) := by decide +kernel
theorem de_X_type_0 : decode b_X_type 0 = .ok (.iload_n 1, 1) := by decide +kernel
theorem de_X_type_1 : decode b_X_type 1 = .ok (.i2l, 1) := by decide +kernel
theorem de_X_type_2 : decode b_X_type 2 = .ok (.lconst 0, 1) := by decide +kernel
theorem de_X_type_3 : decode b_X_type 3 = .ok (.ldc2_w 58, 3) := by decide +kernel
theorem de_X_type_6 : decode b_X_type 6 = .ok (.invokestatic 26, 3) := by decide +kernel
theorem de_X_type_9 : decode b_X_type 9 = .ok (.ifCond .eq 11, 3) := by decide +kernel
theorem de_X_type_12 : decode b_X_type 12 = .ok (.aload_n 0, 1) := by decide +kernel
theorem de_X_type_13 : decode b_X_type 13 = .ok (.lload_n 2, 1) := by decide +kernel
theorem de_X_type_14 : decode b_X_type 14 = .ok (.invokevirtual 78, 3) := by decide +kernel
theorem de_X_type_17 : decode b_X_type 17 = .ok (.ifCond .ne 6, 3) := by decide +kernel
theorem de_X_type_20 : decode b_X_type 20 = .ok (.bipush (-12), 2) := by decide +kernel
theorem de_X_type_22 : decode b_X_type 22 = .ok (.ireturn, 1) := by decide +kernel
theorem de_X_type_23 : decode b_X_type 23 = .ok (.aload_n 0, 1) := by decide +kernel
theorem de_X_type_24 : decode b_X_type 24 = .ok (.lload_n 2, 1) := by decide +kernel
theorem de_X_type_25 : decode b_X_type 25 = .ok (.invokevirtual 82, 3) := by decide +kernel
theorem de_X_type_28 : decode b_X_type 28 = .ok (.lload_n 2, 1) := by decide +kernel
theorem de_X_type_29 : decode b_X_type 29 = .ok (.aload_n 0, 1) := by decide +kernel
theorem de_X_type_30 : decode b_X_type 30 = .ok (.getfield 124, 3) := by decide +kernel
theorem de_X_type_33 : decode b_X_type 33 = .ok (.lcmp, 1) := by decide +kernel
theorem de_X_type_34 : decode b_X_type 34 = .ok (.ifCond .ge 5, 3) := by decide +kernel
theorem de_X_type_37 : decode b_X_type 37 = .ok (.iconst (-1), 1) := by decide +kernel
theorem de_X_type_38 : decode b_X_type 38 = .ok (.ireturn, 1) := by decide +kernel
theorem de_X_type_39 : decode b_X_type 39 = .ok (.aload_n 0, 1) := by decide +kernel
theorem de_X_type_40 : decode b_X_type 40 = .ok (.iload_n 1, 1) := by decide +kernel
theorem de_X_type_41 : decode b_X_type 41 = .ok (.invokevirtual 101, 3) := by decide +kernel
theorem de_X_type_44 : decode b_X_type 44 = .ok (.istore 4, 2) := by decide +kernel
theorem de_X_type_46 : decode b_X_type 46 = .ok (.iload 4, 2) := by decide +kernel
theorem de_X_type_48 : decode b_X_type 48 = .ok (.ifCond .eq 19, 3) := by decide +kernel
theorem de_X_type_51 : decode b_X_type 51 = .ok (.aload_n 0, 1) := by decide +kernel
theorem de_X_type_52 : decode b_X_type 52 = .ok (.getfield 9, 3) := by decide +kernel
theorem de_X_type_55 : decode b_X_type 55 = .ok (.iload 4, 2) := by decide +kernel
theorem de_X_type_57 : decode b_X_type 57 = .ok (.aaload, 1) := by decide +kernel
theorem de_X_type_58 : decode b_X_type 58 = .ok (.getfield 85, 3) := by decide +kernel
theorem de_X_type_61 : decode b_X_type 61 = .ok (.getstatic 114, 3) := by decide +kernel
theorem de_X_type_64 : decode b_X_type 64 = .ok (.if_acmp .eq 40, 3) := by decide +kernel
theorem de_X_type_67 : decode b_X_type 67 = .ok (.aload_n 0, 1) := by decide +kernel
theorem de_X_type_68 : decode b_X_type 68 = .ok (.dup, 1) := by decide +kernel
theorem de_X_type_69 : decode b_X_type 69 = .ok (.getfield 127, 3) := by decide +kernel
theorem de_X_type_72 : decode b_X_type 72 = .ok (.iconst 1, 1) := by decide +kernel
theorem de_X_type_73 : decode b_X_type 73 = .ok (.iadd, 1) := by decide +kernel
theorem de_X_type_74 : decode b_X_type 74 = .ok (.putfield 127, 3) := by decide +kernel
theorem de_X_type_77 : decode b_X_type 77 = .ok (.aload_n 0, 1) := by decide +kernel
theorem de_X_type_78 : decode b_X_type 78 = .ok (.aload_n 0, 1) := by decide +kernel
theorem de_X_type_79 : decode b_X_type 79 = .ok (.getfield 127, 3) := by decide +kernel
theorem de_X_type_82 : decode b_X_type 82 = .ok (.iconst 3, 1) := by decide +kernel
theorem de_X_type_83 : decode b_X_type 83 = .ok (.irem, 1) := by decide +kernel
theorem de_X_type_84 : decode b_X_type 84 = .ok (.ifCond .ne 11, 3) := by decide +kernel
theorem de_X_type_87 : decode b_X_type 87 = .ok (.lload_n 2, 1) := by decide +kernel
theorem de_X_type_88 : decode b_X_type 88 = .ok (.ldc2_w 130, 3) := by decide +kernel
theorem de_X_type_91 : decode b_X_type 91 = .ok (.ladd, 1) := by decide +kernel
theorem de_X_type_92 : decode b_X_type 92 = .ok (.goto 7, 3) := by decide +kernel
theorem de_X_type_95 : decode b_X_type 95 = .ok (.aload_n 0, 1) := by decide +kernel
theorem de_X_type_96 : decode b_X_type 96 = .ok (.getfield 124, 3) := by decide +kernel
theorem de_X_type_99 : decode b_X_type 99 = .ok (.putfield 124, 3) := by decide +kernel
theorem de_X_type_102 : decode b_X_type 102 = .ok (.iconst 0, 1) := by decide +kernel
theorem de_X_type_103 : decode b_X_type 103 = .ok (.ireturn, 1) := by decide +kernel
theorem de_X_type_104 : decode b_X_type 104 = .ok (.aload_n 0, 1) := by decide +kernel
theorem de_X_type_105 : decode b_X_type 105 = .ok (.iconst 0, 1) := by decide +kernel
theorem de_X_type_106 : decode b_X_type 106 = .ok (.putfield 127, 3) := by decide +kernel
theorem de_X_type_109 : decode b_X_type 109 = .ok (.aload_n 0, 1) := by decide +kernel
theorem de_X_type_110 : decode b_X_type 110 = .ok (.getfield 9, 3) := by decide +kernel
theorem de_X_type_113 : decode b_X_type 113 = .ok (.iload 4, 2) := by decide +kernel
theorem de_X_type_115 : decode b_X_type 115 = .ok (.aaload, 1) := by decide +kernel
theorem de_X_type_116 : decode b_X_type 116 = .ok (.invokevirtual 132, 3) := by decide +kernel
theorem de_X_type_119 : decode b_X_type 119 = .ok (.aload_n 0, 1) := by decide +kernel
theorem de_X_type_120 : decode b_X_type 120 = .ok (.getfield 9, 3) := by decide +kernel
theorem de_X_type_123 : decode b_X_type 123 = .ok (.iload 4, 2) := by decide +kernel
theorem de_X_type_125 : decode b_X_type 125 = .ok (.aaload, 1) := by decide +kernel
theorem de_X_type_126 : decode b_X_type 126 = .ok (.getstatic 89, 3) := by decide +kernel
theorem de_X_type_129 : decode b_X_type 129 = .ok (.lload_n 2, 1) := by decide +kernel
theorem de_X_type_130 : decode b_X_type 130 = .ok (.invokevirtual 135, 3) := by decide +kernel
theorem de_X_type_133 : decode b_X_type 133 = .ok (.iload 4, 2) := by decide +kernel
theorem de_X_type_135 : decode b_X_type 135 = .ok (.ireturn, 1) := by decide +kernel
theorem de_B_empty_0 : decode b_B_empty 0 = .ok (.aload_n 0, 1) := by decide +kernel
theorem de_B_empty_1 : decode b_B_empty 1 = .ok (.iconst 0, 1) := by decide +kernel
theorem de_B_empty_2 : decode b_B_empty 2 = .ok (.putfield 31, 3) := by decide +kernel
theorem de_B_empty_5 : decode b_B_empty 5 = .ok (.aload_n 0, 1) := by decide +kernel
theorem de_B_empty_6 : decode b_B_empty 6 = .ok (.iconst 0, 1) := by decide +kernel
theorem de_B_empty_7 : decode b_B_empty 7 = .ok (.putfield 45, 3) := by decide +kernel
theorem de_B_empty_10 : decode b_B_empty 10 = .ok (.aload_n 0, 1) := by decide +kernel
theorem de_B_empty_11 : decode b_B_empty 11 = .ok (.iconst 0, 1) := by decide +kernel
theorem de_B_empty_12 : decode b_B_empty 12 = .ok (.putfield 48, 3) := by decide +kernel
theorem de_B_empty_15 : decode b_B_empty 15 = .ok (.aload_n 0, 1) := by decide +kernel
theorem de_B_empty_16 : decode b_B_empty 16 = .ok (.iconst (-1), 1) := by decide +kernel
theorem de_B_empty_17 : decode b_B_empty 17 = .ok (.putfield 20, 3) := by decide +kernel
theorem de_B_empty_20 : decode b_B_empty 20 = .ok (.return_, 1) := by decide +kernel
theorem de_B_open_0 : decode b_B_open 0 = .ok (.aload_n 0, 1) := by decide +kernel
theorem de_B_open_1 : decode b_B_open 1 = .ok (.aload_n 1, 1) := by decide +kernel
theorem de_B_open_2 : decode b_B_open 2 = .ok (.putfield 15, 3) := by decide +kernel
theorem de_B_open_5 : decode b_B_open 5 = .ok (.aload_n 0, 1) := by decide +kernel
theorem de_B_open_6 : decode b_B_open 6 = .ok (.lload_n 2, 1) := by decide +kernel
theorem de_B_open_7 : decode b_B_open 7 = .ok (.putfield 38, 3) := by decide +kernel
theorem de_B_open_10 : decode b_B_open 10 = .ok (.aload_n 0, 1) := by decide +kernel
theorem de_B_open_11 : decode b_B_open 11 = .ok (.iconst 0, 1) := by decide +kernel
theorem de_B_open_12 : decode b_B_open 12 = .ok (.putfield 41, 3) := by decide +kernel
theorem de_B_open_15 : decode b_B_open 15 = .ok (.return_, 1) := by decide +kernel
theorem de_X_code_0 : decode b_X_code 0 = .ok (.iload_n 1, 1) := by decide +kernel
theorem de_X_code_1 : decode b_X_code 1 = .ok (.i2l, 1) := by decide +kernel
theorem de_X_code_2 : decode b_X_code 2 = .ok (.lconst 1, 1) := by decide +kernel
theorem de_X_code_3 : decode b_X_code 3 = .ok (.ldc2_w 76, 3) := by decide +kernel
theorem de_X_code_6 : decode b_X_code 6 = .ok (.invokestatic 26, 3) := by decide +kernel
theorem de_X_code_9 : decode b_X_code 9 = .ok (.ifCond .ne 6, 3) := by decide +kernel
theorem de_X_code_12 : decode b_X_code 12 = .ok (.bipush (-12), 2) := by decide +kernel
theorem de_X_code_14 : decode b_X_code 14 = .ok (.ireturn, 1) := by decide +kernel
theorem de_X_code_15 : decode b_X_code 15 = .ok (.aload_n 0, 1) := by decide +kernel
theorem de_X_code_16 : decode b_X_code 16 = .ok (.iload_n 1, 1) := by decide +kernel
theorem de_X_code_17 : decode b_X_code 17 = .ok (.invokevirtual 94, 3) := by decide +kernel
theorem de_X_code_20 : decode b_X_code 20 = .ok (.istore_n 2, 1) := by decide +kernel
theorem de_X_code_21 : decode b_X_code 21 = .ok (.iload_n 2, 1) := by decide +kernel
theorem de_X_code_22 : decode b_X_code 22 = .ok (.ifCond .ne 7, 3) := by decide +kernel
theorem de_X_code_25 : decode b_X_code 25 = .ok (.iconst (-1), 1) := by decide +kernel
theorem de_X_code_26 : decode b_X_code 26 = .ok (.goto 12, 3) := by decide +kernel
theorem de_X_code_29 : decode b_X_code 29 = .ok (.aload_n 0, 1) := by decide +kernel
theorem de_X_code_30 : decode b_X_code 30 = .ok (.getfield 9, 3) := by decide +kernel
theorem de_X_code_33 : decode b_X_code 33 = .ok (.iload_n 2, 1) := by decide +kernel
theorem de_X_code_34 : decode b_X_code 34 = .ok (.aaload, 1) := by decide +kernel
theorem de_X_code_35 : decode b_X_code 35 = .ok (.getfield 98, 3) := by decide +kernel
theorem de_X_code_38 : decode b_X_code 38 = .ok (.ireturn, 1) := by decide +kernel
theorem de_X_door_0 : decode b_X_door 0 = .ok (.aload_n 0, 1) := by decide +kernel
theorem de_X_door_1 : decode b_X_door 1 = .ok (.iload_n 1, 1) := by decide +kernel
theorem de_X_door_2 : decode b_X_door 2 = .ok (.invokevirtual 72, 3) := by decide +kernel
theorem de_X_door_5 : decode b_X_door 5 = .ok (.ifCond .ne 6, 3) := by decide +kernel
theorem de_X_door_8 : decode b_X_door 8 = .ok (.bipush (-11), 2) := by decide +kernel
theorem de_X_door_10 : decode b_X_door 10 = .ok (.ireturn, 1) := by decide +kernel
theorem de_X_door_11 : decode b_X_door 11 = .ok (.iload_n 2, 1) := by decide +kernel
theorem de_X_door_12 : decode b_X_door 12 = .ok (.i2l, 1) := by decide +kernel
theorem de_X_door_13 : decode b_X_door 13 = .ok (.lconst 0, 1) := by decide +kernel
theorem de_X_door_14 : decode b_X_door 14 = .ok (.ldc2_w 139, 3) := by decide +kernel
theorem de_X_door_17 : decode b_X_door 17 = .ok (.invokestatic 26, 3) := by decide +kernel
theorem de_X_door_20 : decode b_X_door 20 = .ok (.ifCond .eq 11, 3) := by decide +kernel
theorem de_X_door_23 : decode b_X_door 23 = .ok (.aload_n 0, 1) := by decide +kernel
theorem de_X_door_24 : decode b_X_door 24 = .ok (.lload_n 3, 1) := by decide +kernel
theorem de_X_door_25 : decode b_X_door 25 = .ok (.invokevirtual 78, 3) := by decide +kernel
theorem de_X_door_28 : decode b_X_door 28 = .ok (.ifCond .ne 6, 3) := by decide +kernel
theorem de_X_door_31 : decode b_X_door 31 = .ok (.bipush (-12), 2) := by decide +kernel
theorem de_X_door_33 : decode b_X_door 33 = .ok (.ireturn, 1) := by decide +kernel
theorem de_X_door_34 : decode b_X_door 34 = .ok (.aload_n 0, 1) := by decide +kernel
theorem de_X_door_35 : decode b_X_door 35 = .ok (.lload_n 3, 1) := by decide +kernel
theorem de_X_door_36 : decode b_X_door 36 = .ok (.invokevirtual 82, 3) := by decide +kernel
theorem de_X_door_39 : decode b_X_door 39 = .ok (.aload_n 0, 1) := by decide +kernel
theorem de_X_door_40 : decode b_X_door 40 = .ok (.getfield 9, 3) := by decide +kernel
theorem de_X_door_43 : decode b_X_door 43 = .ok (.iload_n 1, 1) := by decide +kernel
theorem de_X_door_44 : decode b_X_door 44 = .ok (.aaload, 1) := by decide +kernel
theorem de_X_door_45 : decode b_X_door 45 = .ok (.astore 5, 2) := by decide +kernel
theorem de_X_door_47 : decode b_X_door 47 = .ok (.iload_n 2, 1) := by decide +kernel
theorem de_X_door_48 : decode b_X_door 48 = .ok (.tableswitch 116 0 3 #[32, 53, 85, 106], 32) := by decide +kernel
theorem de_X_door_80 : decode b_X_door 80 = .ok (.aload 5, 2) := by decide +kernel
theorem de_X_door_82 : decode b_X_door 82 = .ok (.getfield 85, 3) := by decide +kernel
theorem de_X_door_85 : decode b_X_door 85 = .ok (.getstatic 114, 3) := by decide +kernel
theorem de_X_door_88 : decode b_X_door 88 = .ok (.if_acmp .ne 7, 3) := by decide +kernel
theorem de_X_door_91 : decode b_X_door 91 = .ok (.iconst 1, 1) := by decide +kernel
theorem de_X_door_92 : decode b_X_door 92 = .ok (.goto 4, 3) := by decide +kernel
theorem de_X_door_95 : decode b_X_door 95 = .ok (.iconst 0, 1) := by decide +kernel
theorem de_X_door_96 : decode b_X_door 96 = .ok (.istore 6, 2) := by decide +kernel
theorem de_X_door_98 : decode b_X_door 98 = .ok (.goto 84, 3) := by decide +kernel
theorem de_X_door_101 : decode b_X_door 101 = .ok (.aload 5, 2) := by decide +kernel
theorem de_X_door_103 : decode b_X_door 103 = .ok (.getfield 85, 3) := by decide +kernel
theorem de_X_door_106 : decode b_X_door 106 = .ok (.getstatic 114, 3) := by decide +kernel
theorem de_X_door_109 : decode b_X_door 109 = .ok (.if_acmp .eq 14, 3) := by decide +kernel
theorem de_X_door_112 : decode b_X_door 112 = .ok (.aload 5, 2) := by decide +kernel
theorem de_X_door_114 : decode b_X_door 114 = .ok (.getfield 85, 3) := by decide +kernel
theorem de_X_door_117 : decode b_X_door 117 = .ok (.getstatic 89, 3) := by decide +kernel
theorem de_X_door_120 : decode b_X_door 120 = .ok (.if_acmp .ne 7, 3) := by decide +kernel
theorem de_X_door_123 : decode b_X_door 123 = .ok (.iconst 1, 1) := by decide +kernel
theorem de_X_door_124 : decode b_X_door 124 = .ok (.goto 4, 3) := by decide +kernel
theorem de_X_door_127 : decode b_X_door 127 = .ok (.iconst 0, 1) := by decide +kernel
theorem de_X_door_128 : decode b_X_door 128 = .ok (.istore 6, 2) := by decide +kernel
theorem de_X_door_130 : decode b_X_door 130 = .ok (.goto 52, 3) := by decide +kernel
theorem de_X_door_133 : decode b_X_door 133 = .ok (.aload 5, 2) := by decide +kernel
theorem de_X_door_135 : decode b_X_door 135 = .ok (.getfield 85, 3) := by decide +kernel
theorem de_X_door_138 : decode b_X_door 138 = .ok (.getstatic 141, 3) := by decide +kernel
theorem de_X_door_141 : decode b_X_door 141 = .ok (.if_acmp .ne 7, 3) := by decide +kernel
theorem de_X_door_144 : decode b_X_door 144 = .ok (.iconst 1, 1) := by decide +kernel
theorem de_X_door_145 : decode b_X_door 145 = .ok (.goto 4, 3) := by decide +kernel
theorem de_X_door_148 : decode b_X_door 148 = .ok (.iconst 0, 1) := by decide +kernel
theorem de_X_door_149 : decode b_X_door 149 = .ok (.istore 6, 2) := by decide +kernel
theorem de_X_door_151 : decode b_X_door 151 = .ok (.goto 31, 3) := by decide +kernel
theorem de_X_door_154 : decode b_X_door 154 = .ok (.aload 5, 2) := by decide +kernel
theorem de_X_door_156 : decode b_X_door 156 = .ok (.invokevirtual 63, 3) := by decide +kernel
theorem de_X_door_159 : decode b_X_door 159 = .ok (.istore 6, 2) := by decide +kernel
theorem de_X_door_161 : decode b_X_door 161 = .ok (.goto 21, 3) := by decide +kernel
theorem de_X_door_164 : decode b_X_door 164 = .ok (.aload 5, 2) := by decide +kernel
theorem de_X_door_166 : decode b_X_door 166 = .ok (.getfield 85, 3) := by decide +kernel
theorem de_X_door_169 : decode b_X_door 169 = .ok (.getstatic 144, 3) := by decide +kernel
theorem de_X_door_172 : decode b_X_door 172 = .ok (.if_acmp .ne 7, 3) := by decide +kernel
theorem de_X_door_175 : decode b_X_door 175 = .ok (.iconst 1, 1) := by decide +kernel
theorem de_X_door_176 : decode b_X_door 176 = .ok (.goto 4, 3) := by decide +kernel
theorem de_X_door_179 : decode b_X_door 179 = .ok (.iconst 0, 1) := by decide +kernel
theorem de_X_door_180 : decode b_X_door 180 = .ok (.istore 6, 2) := by decide +kernel
theorem de_X_door_182 : decode b_X_door 182 = .ok (.iload 6, 2) := by decide +kernel
theorem de_X_door_184 : decode b_X_door 184 = .ok (.ifCond .ne 6, 3) := by decide +kernel
theorem de_X_door_187 : decode b_X_door 187 = .ok (.bipush (-13), 2) := by decide +kernel
theorem de_X_door_189 : decode b_X_door 189 = .ok (.ireturn, 1) := by decide +kernel
theorem de_X_door_190 : decode b_X_door 190 = .ok (.iload_n 2, 1) := by decide +kernel
theorem de_X_door_191 : decode b_X_door 191 = .ok (.iconst 2, 1) := by decide +kernel
theorem de_X_door_192 : decode b_X_door 192 = .ok (.if_icmp .ge 25, 3) := by decide +kernel
theorem de_X_door_195 : decode b_X_door 195 = .ok (.aload 5, 2) := by decide +kernel
theorem de_X_door_197 : decode b_X_door 197 = .ok (.iload_n 2, 1) := by decide +kernel
theorem de_X_door_198 : decode b_X_door 198 = .ok (.ifCond .ne 9, 3) := by decide +kernel
theorem de_X_door_201 : decode b_X_door 201 = .ok (.getstatic 89, 3) := by decide +kernel
theorem de_X_door_204 : decode b_X_door 204 = .ok (.goto 6, 3) := by decide +kernel
theorem de_X_door_207 : decode b_X_door 207 = .ok (.getstatic 141, 3) := by decide +kernel
theorem de_X_door_210 : decode b_X_door 210 = .ok (.lload_n 3, 1) := by decide +kernel
theorem de_X_door_211 : decode b_X_door 211 = .ok (.invokevirtual 135, 3) := by decide +kernel
theorem de_X_door_214 : decode b_X_door 214 = .ok (.goto 22, 3) := by decide +kernel
theorem de_X_door_217 : decode b_X_door 217 = .ok (.aload 5, 2) := by decide +kernel
theorem de_X_door_219 : decode b_X_door 219 = .ok (.iload_n 2, 1) := by decide +kernel
theorem de_X_door_220 : decode b_X_door 220 = .ok (.iconst 3, 1) := by decide +kernel
theorem de_X_door_221 : decode b_X_door 221 = .ok (.if_icmp .ne 9, 3) := by decide +kernel
theorem de_X_door_224 : decode b_X_door 224 = .ok (.getstatic 144, 3) := by decide +kernel
theorem de_X_door_227 : decode b_X_door 227 = .ok (.goto 6, 3) := by decide +kernel
theorem de_X_door_230 : decode b_X_door 230 = .ok (.getstatic 114, 3) := by decide +kernel
theorem de_X_door_233 : decode b_X_door 233 = .ok (.putfield 85, 3) := by decide +kernel
theorem de_X_door_236 : decode b_X_door 236 = .ok (.aload 5, 2) := by decide +kernel
theorem de_X_door_238 : decode b_X_door 238 = .ok (.getfield 85, 3) := by decide +kernel
theorem de_X_door_241 : decode b_X_door 241 = .ok (.invokevirtual 147, 3) := by decide +kernel
theorem de_X_door_244 : decode b_X_door 244 = .ok (.ireturn, 1) := by decide +kernel
theorem de_E_ordinal_0 : decode b_E_ordinal 0 = .ok (.aload_n 0, 1) := by decide +kernel
theorem de_E_ordinal_1 : decode b_E_ordinal 1 = .ok (.getfield 7, 3) := by decide +kernel
theorem de_E_ordinal_4 : decode b_E_ordinal 4 = .ok (.ireturn, 1) := by decide +kernel
theorem de_X_tick_0 : decode b_X_tick 0 = .ok (.aload_n 0, 1) := by decide +kernel
theorem de_X_tick_1 : decode b_X_tick 1 = .ok (.lload_n 1, 1) := by decide +kernel
theorem de_X_tick_2 : decode b_X_tick 2 = .ok (.invokevirtual 78, 3) := by decide +kernel
theorem de_X_tick_5 : decode b_X_tick 5 = .ok (.ifCond .ne 6, 3) := by decide +kernel
theorem de_X_tick_8 : decode b_X_tick 8 = .ok (.bipush (-12), 2) := by decide +kernel
theorem de_X_tick_10 : decode b_X_tick 10 = .ok (.ireturn, 1) := by decide +kernel
theorem de_X_tick_11 : decode b_X_tick 11 = .ok (.aload_n 0, 1) := by decide +kernel
theorem de_X_tick_12 : decode b_X_tick 12 = .ok (.lload_n 1, 1) := by decide +kernel
theorem de_X_tick_13 : decode b_X_tick 13 = .ok (.invokevirtual 82, 3) := by decide +kernel
theorem de_X_tick_16 : decode b_X_tick 16 = .ok (.aload_n 0, 1) := by decide +kernel
theorem de_X_tick_17 : decode b_X_tick 17 = .ok (.getfield 46, 3) := by decide +kernel
theorem de_X_tick_20 : decode b_X_tick 20 = .ok (.istore_n 3, 1) := by decide +kernel
theorem de_X_tick_21 : decode b_X_tick 21 = .ok (.aload_n 0, 1) := by decide +kernel
theorem de_X_tick_22 : decode b_X_tick 22 = .ok (.iconst 0, 1) := by decide +kernel
theorem de_X_tick_23 : decode b_X_tick 23 = .ok (.putfield 46, 3) := by decide +kernel
theorem de_X_tick_26 : decode b_X_tick 26 = .ok (.iload_n 3, 1) := by decide +kernel
theorem de_X_tick_27 : decode b_X_tick 27 = .ok (.ireturn, 1) := by decide +kernel
theorem de_X_take_0 : decode b_X_take 0 = .ok (.aload_n 0, 1) := by decide +kernel
theorem de_X_take_1 : decode b_X_take 1 = .ok (.iload_n 1, 1) := by decide +kernel
theorem de_X_take_2 : decode b_X_take 2 = .ok (.invokevirtual 72, 3) := by decide +kernel
theorem de_X_take_5 : decode b_X_take 5 = .ok (.ifCond .ne 6, 3) := by decide +kernel
theorem de_X_take_8 : decode b_X_take 8 = .ok (.bipush (-11), 2) := by decide +kernel
theorem de_X_take_10 : decode b_X_take 10 = .ok (.ireturn, 1) := by decide +kernel
theorem de_X_take_11 : decode b_X_take 11 = .ok (.iload_n 2, 1) := by decide +kernel
theorem de_X_take_12 : decode b_X_take 12 = .ok (.i2l, 1) := by decide +kernel
theorem de_X_take_13 : decode b_X_take 13 = .ok (.lconst 0, 1) := by decide +kernel
theorem de_X_take_14 : decode b_X_take 14 = .ok (.ldc2_w 150, 3) := by decide +kernel
theorem de_X_take_17 : decode b_X_take 17 = .ok (.invokestatic 26, 3) := by decide +kernel
theorem de_X_take_20 : decode b_X_take 20 = .ok (.ifCond .ne 6, 3) := by decide +kernel
theorem de_X_take_23 : decode b_X_take 23 = .ok (.bipush (-12), 2) := by decide +kernel
theorem de_X_take_25 : decode b_X_take 25 = .ok (.ireturn, 1) := by decide +kernel
theorem de_X_take_26 : decode b_X_take 26 = .ok (.aload_n 0, 1) := by decide +kernel
theorem de_X_take_27 : decode b_X_take 27 = .ok (.getfield 9, 3) := by decide +kernel
theorem de_X_take_30 : decode b_X_take 30 = .ok (.iload_n 1, 1) := by decide +kernel
theorem de_X_take_31 : decode b_X_take 31 = .ok (.aaload, 1) := by decide +kernel
theorem de_X_take_32 : decode b_X_take 32 = .ok (.astore_n 3, 1) := by decide +kernel
theorem de_X_take_33 : decode b_X_take 33 = .ok (.aload_n 3, 1) := by decide +kernel
theorem de_X_take_34 : decode b_X_take 34 = .ok (.getfield 85, 3) := by decide +kernel
theorem de_X_take_37 : decode b_X_take 37 = .ok (.invokevirtual 152, 3) := by decide +kernel
theorem de_X_take_40 : decode b_X_take 40 = .ok (.ifCond .eq 10, 3) := by decide +kernel
theorem de_X_take_43 : decode b_X_take 43 = .ok (.aload_n 3, 1) := by decide +kernel
theorem de_X_take_44 : decode b_X_take 44 = .ok (.getfield 69, 3) := by decide +kernel
theorem de_X_take_47 : decode b_X_take 47 = .ok (.goto 4, 3) := by decide +kernel
theorem de_X_take_50 : decode b_X_take 50 = .ok (.iconst 0, 1) := by decide +kernel
theorem de_X_take_51 : decode b_X_take 51 = .ok (.istore 4, 2) := by decide +kernel
theorem de_X_take_53 : decode b_X_take 53 = .ok (.iload 4, 2) := by decide +kernel
theorem de_X_take_55 : decode b_X_take 55 = .ok (.ifCond .eq 7, 3) := by decide +kernel
theorem de_X_take_58 : decode b_X_take 58 = .ok (.aload_n 3, 1) := by decide +kernel
theorem de_X_take_59 : decode b_X_take 59 = .ok (.invokevirtual 132, 3) := by decide +kernel
theorem de_X_take_62 : decode b_X_take 62 = .ok (.iload 4, 2) := by decide +kernel
theorem de_X_take_64 : decode b_X_take 64 = .ok (.ireturn, 1) := by decide +kernel
theorem de_X_item_0 : decode b_X_item 0 = .ok (.aload_n 0, 1) := by decide +kernel
theorem de_X_item_1 : decode b_X_item 1 = .ok (.iload_n 1, 1) := by decide +kernel
theorem de_X_item_2 : decode b_X_item 2 = .ok (.invokevirtual 72, 3) := by decide +kernel
theorem de_X_item_5 : decode b_X_item 5 = .ok (.ifCond .ne 6, 3) := by decide +kernel
theorem de_X_item_8 : decode b_X_item 8 = .ok (.bipush (-11), 2) := by decide +kernel
theorem de_X_item_10 : decode b_X_item 10 = .ok (.ireturn, 1) := by decide +kernel
theorem de_X_item_11 : decode b_X_item 11 = .ok (.aload_n 0, 1) := by decide +kernel
theorem de_X_item_12 : decode b_X_item 12 = .ok (.getfield 9, 3) := by decide +kernel
theorem de_X_item_15 : decode b_X_item 15 = .ok (.iload_n 1, 1) := by decide +kernel
theorem de_X_item_16 : decode b_X_item 16 = .ok (.aaload, 1) := by decide +kernel
theorem de_X_item_17 : decode b_X_item 17 = .ok (.astore_n 2, 1) := by decide +kernel
theorem de_X_item_18 : decode b_X_item 18 = .ok (.aload_n 2, 1) := by decide +kernel
theorem de_X_item_19 : decode b_X_item 19 = .ok (.getfield 155, 3) := by decide +kernel
theorem de_X_item_22 : decode b_X_item 22 = .ok (.ifCond .eq 11, 3) := by decide +kernel
theorem de_X_item_25 : decode b_X_item 25 = .ok (.aload_n 2, 1) := by decide +kernel
theorem de_X_item_26 : decode b_X_item 26 = .ok (.getfield 69, 3) := by decide +kernel
theorem de_X_item_29 : decode b_X_item 29 = .ok (.ineg, 1) := by decide +kernel
theorem de_X_item_30 : decode b_X_item 30 = .ok (.goto 7, 3) := by decide +kernel
theorem de_X_item_33 : decode b_X_item 33 = .ok (.aload_n 2, 1) := by decide +kernel
theorem de_X_item_34 : decode b_X_item 34 = .ok (.getfield 69, 3) := by decide +kernel
theorem de_X_item_37 : decode b_X_item 37 = .ok (.ireturn, 1) := by decide +kernel
theorem de_X_freed_0 : decode b_X_freed 0 = .ok (.iload_n 1, 1) := by decide +kernel
theorem de_X_freed_1 : decode b_X_freed 1 = .ok (.ifCond .lt 20, 3) := by decide +kernel
theorem de_X_freed_4 : decode b_X_freed 4 = .ok (.iload_n 1, 1) := by decide +kernel
theorem de_X_freed_5 : decode b_X_freed 5 = .ok (.aload_n 0, 1) := by decide +kernel
theorem de_X_freed_6 : decode b_X_freed 6 = .ok (.getfield 43, 3) := by decide +kernel
theorem de_X_freed_9 : decode b_X_freed 9 = .ok (.if_icmp .ge 12, 3) := by decide +kernel
theorem de_X_freed_12 : decode b_X_freed 12 = .ok (.aload_n 0, 1) := by decide +kernel
theorem de_X_freed_13 : decode b_X_freed 13 = .ok (.getfield 19, 3) := by decide +kernel
theorem de_X_freed_16 : decode b_X_freed 16 = .ok (.iload_n 1, 1) := by decide +kernel
theorem de_X_freed_17 : decode b_X_freed 17 = .ok (.iaload, 1) := by decide +kernel
theorem de_X_freed_18 : decode b_X_freed 18 = .ok (.goto 4, 3) := by decide +kernel
theorem de_X_freed_21 : decode b_X_freed 21 = .ok (.iconst 0, 1) := by decide +kernel
theorem de_X_freed_22 : decode b_X_freed 22 = .ok (.ireturn, 1) := by decide +kernel
end
section
/-! decode rows: printed by gen/names.py -/
theorem de_M_init_0 : decode b_M_init 0 = .ok (.aload_n 0, 1) := by decide +kernel
theorem de_M_init_1 : decode b_M_init 1 = .ok (.invokespecial 1, 3) := by decide +kernel
theorem de_M_init_4 : decode b_M_init 4 = .ok (.aload_n 0, 1) := by decide +kernel
theorem de_M_init_5 : decode b_M_init 5 = .ok (.bipush 61, 2) := by decide +kernel
theorem de_M_init_7 : decode b_M_init 7 = .ok (.newarray .int, 2) := by decide +kernel
theorem de_M_init_9 : decode b_M_init 9 = .ok (.putfield 7, 3) := by decide +kernel
theorem de_M_init_12 : decode b_M_init 12 = .ok (.aload_n 0, 1) := by decide +kernel
theorem de_M_init_13 : decode b_M_init 13 = .ok (.bipush 61, 2) := by decide +kernel
theorem de_M_init_15 : decode b_M_init 15 = .ok (.newarray .int, 2) := by decide +kernel
theorem de_M_init_17 : decode b_M_init 17 = .ok (.putfield 13, 3) := by decide +kernel
theorem de_M_init_20 : decode b_M_init 20 = .ok (.aload_n 0, 1) := by decide +kernel
theorem de_M_init_21 : decode b_M_init 21 = .ok (.bipush 61, 2) := by decide +kernel
theorem de_M_init_23 : decode b_M_init 23 = .ok (.newarray .long, 2) := by decide +kernel
theorem de_M_init_25 : decode b_M_init 25 = .ok (.putfield 16, 3) := by decide +kernel
theorem de_M_init_28 : decode b_M_init 28 = .ok (.aload_n 0, 1) := by decide +kernel
theorem de_M_init_29 : decode b_M_init 29 = .ok (.bipush 61, 2) := by decide +kernel
theorem de_M_init_31 : decode b_M_init 31 = .ok (.newarray .boolean, 2) := by decide +kernel
theorem de_M_init_33 : decode b_M_init 33 = .ok (.putfield 20, 3) := by decide +kernel
theorem de_M_init_36 : decode b_M_init 36 = .ok (.aload_n 0, 1) := by decide +kernel
theorem de_M_init_37 : decode b_M_init 37 = .ok (.bipush 61, 2) := by decide +kernel
theorem de_M_init_39 : decode b_M_init 39 = .ok (.newarray .int, 2) := by decide +kernel
theorem de_M_init_41 : decode b_M_init 41 = .ok (.putfield 24, 3) := by decide +kernel
theorem de_M_init_44 : decode b_M_init 44 = .ok (.aload_n 0, 1) := by decide +kernel
theorem de_M_init_45 : decode b_M_init 45 = .ok (.bipush 61, 2) := by decide +kernel
theorem de_M_init_47 : decode b_M_init 47 = .ok (.newarray .int, 2) := by decide +kernel
theorem de_M_init_49 : decode b_M_init 49 = .ok (.putfield 27, 3) := by decide +kernel
theorem de_M_init_52 : decode b_M_init 52 = .ok (.aload_n 0, 1) := by decide +kernel
theorem de_M_init_53 : decode b_M_init 53 = .ok (.bipush 61, 2) := by decide +kernel
theorem de_M_init_55 : decode b_M_init 55 = .ok (.newarray .long, 2) := by decide +kernel
theorem de_M_init_57 : decode b_M_init 57 = .ok (.putfield 30, 3) := by decide +kernel
theorem de_M_init_60 : decode b_M_init 60 = .ok (.aload_n 0, 1) := by decide +kernel
theorem de_M_init_61 : decode b_M_init 61 = .ok (.bipush 61, 2) := by decide +kernel
theorem de_M_init_63 : decode b_M_init 63 = .ok (.newarray .boolean, 2) := by decide +kernel
theorem de_M_init_65 : decode b_M_init 65 = .ok (.putfield 33, 3) := by decide +kernel
theorem de_M_init_68 : decode b_M_init 68 = .ok (.aload_n 0, 1) := by decide +kernel
theorem de_M_init_69 : decode b_M_init 69 = .ok (.bipush 61, 2) := by decide +kernel
theorem de_M_init_71 : decode b_M_init 71 = .ok (.newarray .long, 2) := by decide +kernel
theorem de_M_init_73 : decode b_M_init 73 = .ok (.putfield 36, 3) := by decide +kernel
theorem de_M_init_76 : decode b_M_init 76 = .ok (.aload_n 0, 1) := by decide +kernel
theorem de_M_init_77 : decode b_M_init 77 = .ok (.sipush 200, 3) := by decide +kernel
theorem de_M_init_80 : decode b_M_init 80 = .ok (.newarray .int, 2) := by decide +kernel
theorem de_M_init_82 : decode b_M_init 82 = .ok (.putfield 39, 3) := by decide +kernel
theorem de_M_init_85 : decode b_M_init 85 = .ok (.aload_n 0, 1) := by decide +kernel
theorem de_M_init_86 : decode b_M_init 86 = .ok (.bipush 100, 2) := by decide +kernel
theorem de_M_init_88 : decode b_M_init 88 = .ok (.newarray .int, 2) := by decide +kernel
theorem de_M_init_90 : decode b_M_init 90 = .ok (.putfield 42, 3) := by decide +kernel
theorem de_M_init_93 : decode b_M_init 93 = .ok (.aload_n 0, 1) := by decide +kernel
theorem de_M_init_94 : decode b_M_init 94 = .ok (.iconst 0, 1) := by decide +kernel
theorem de_M_init_95 : decode b_M_init 95 = .ok (.putfield 45, 3) := by decide +kernel
theorem de_M_init_98 : decode b_M_init 98 = .ok (.return_, 1) := by decide +kernel
theorem de_M_box_0 : decode b_M_box 0 = .ok (.iload_n 1, 1) := by decide +kernel
theorem de_M_box_1 : decode b_M_box 1 = .ok (.i2l, 1) := by decide +kernel
theorem de_M_box_2 : decode b_M_box 2 = .ok (.lconst 1, 1) := by decide +kernel
theorem de_M_box_3 : decode b_M_box 3 = .ok (.ldc2_w 53, 3) := by decide +kernel
theorem de_M_box_6 : decode b_M_box 6 = .ok (.invokestatic 49, 3) := by decide +kernel
theorem de_M_box_9 : decode b_M_box 9 = .ok (.ifCond .ne 6, 3) := by decide +kernel
theorem de_M_box_12 : decode b_M_box 12 = .ok (.bipush (-12), 2) := by decide +kernel
theorem de_M_box_14 : decode b_M_box 14 = .ok (.ireturn, 1) := by decide +kernel
theorem de_M_box_15 : decode b_M_box 15 = .ok (.aload_n 0, 1) := by decide +kernel
theorem de_M_box_16 : decode b_M_box 16 = .ok (.getfield 45, 3) := by decide +kernel
theorem de_M_box_19 : decode b_M_box 19 = .ok (.bipush 60, 2) := by decide +kernel
theorem de_M_box_21 : decode b_M_box 21 = .ok (.if_icmp .ne 6, 3) := by decide +kernel
theorem de_M_box_24 : decode b_M_box 24 = .ok (.bipush (-14), 2) := by decide +kernel
theorem de_M_box_26 : decode b_M_box 26 = .ok (.ireturn, 1) := by decide +kernel
theorem de_M_box_27 : decode b_M_box 27 = .ok (.aload_n 0, 1) := by decide +kernel
theorem de_M_box_28 : decode b_M_box 28 = .ok (.dup, 1) := by decide +kernel
theorem de_M_box_29 : decode b_M_box 29 = .ok (.getfield 45, 3) := by decide +kernel
theorem de_M_box_32 : decode b_M_box 32 = .ok (.iconst 1, 1) := by decide +kernel
theorem de_M_box_33 : decode b_M_box 33 = .ok (.iadd, 1) := by decide +kernel
theorem de_M_box_34 : decode b_M_box 34 = .ok (.putfield 45, 3) := by decide +kernel
theorem de_M_box_37 : decode b_M_box 37 = .ok (.aload_n 0, 1) := by decide +kernel
theorem de_M_box_38 : decode b_M_box 38 = .ok (.getfield 7, 3) := by decide +kernel
theorem de_M_box_41 : decode b_M_box 41 = .ok (.aload_n 0, 1) := by decide +kernel
theorem de_M_box_42 : decode b_M_box 42 = .ok (.getfield 45, 3) := by decide +kernel
theorem de_M_box_45 : decode b_M_box 45 = .ok (.iload_n 1, 1) := by decide +kernel
theorem de_M_box_46 : decode b_M_box 46 = .ok (.iastore, 1) := by decide +kernel
theorem de_M_box_47 : decode b_M_box 47 = .ok (.aload_n 0, 1) := by decide +kernel
theorem de_M_box_48 : decode b_M_box 48 = .ok (.getfield 27, 3) := by decide +kernel
theorem de_M_box_51 : decode b_M_box 51 = .ok (.aload_n 0, 1) := by decide +kernel
theorem de_M_box_52 : decode b_M_box 52 = .ok (.getfield 45, 3) := by decide +kernel
theorem de_M_box_55 : decode b_M_box 55 = .ok (.iconst (-1), 1) := by decide +kernel
theorem de_M_box_56 : decode b_M_box 56 = .ok (.iastore, 1) := by decide +kernel
theorem de_M_box_57 : decode b_M_box 57 = .ok (.aload_n 0, 1) := by decide +kernel
theorem de_M_box_58 : decode b_M_box 58 = .ok (.getfield 45, 3) := by decide +kernel
theorem de_M_box_61 : decode b_M_box 61 = .ok (.ireturn, 1) := by decide +kernel
theorem de_M_within_0 : decode b_M_within 0 = .ok (.lload_n 0, 1) := by decide +kernel
theorem de_M_within_1 : decode b_M_within 1 = .ok (.lload_n 2, 1) := by decide +kernel
theorem de_M_within_2 : decode b_M_within 2 = .ok (.lcmp, 1) := by decide +kernel
theorem de_M_within_3 : decode b_M_within 3 = .ok (.ifCond .lt 14, 3) := by decide +kernel
theorem de_M_within_6 : decode b_M_within 6 = .ok (.lload_n 0, 1) := by decide +kernel
theorem de_M_within_7 : decode b_M_within 7 = .ok (.lload 4, 2) := by decide +kernel
theorem de_M_within_9 : decode b_M_within 9 = .ok (.lcmp, 1) := by decide +kernel
theorem de_M_within_10 : decode b_M_within 10 = .ok (.ifCond .gt 7, 3) := by decide +kernel
theorem de_M_within_13 : decode b_M_within 13 = .ok (.iconst 1, 1) := by decide +kernel
theorem de_M_within_14 : decode b_M_within 14 = .ok (.goto 4, 3) := by decide +kernel
theorem de_M_within_17 : decode b_M_within 17 = .ok (.iconst 0, 1) := by decide +kernel
theorem de_M_within_18 : decode b_M_within 18 = .ok (.ireturn, 1) := by decide +kernel
theorem de_M_tape_0 : decode b_M_tape 0 = .ok (.iload_n 1, 1) := by decide +kernel
theorem de_M_tape_1 : decode b_M_tape 1 = .ok (.i2l, 1) := by decide +kernel
theorem de_M_tape_2 : decode b_M_tape 2 = .ok (.lconst 0, 1) := by decide +kernel
theorem de_M_tape_3 : decode b_M_tape 3 = .ok (.ldc2_w 55, 3) := by decide +kernel
theorem de_M_tape_6 : decode b_M_tape 6 = .ok (.invokestatic 49, 3) := by decide +kernel
theorem de_M_tape_9 : decode b_M_tape 9 = .ok (.ifCond .ne 6, 3) := by decide +kernel
theorem de_M_tape_12 : decode b_M_tape 12 = .ok (.bipush (-12), 2) := by decide +kernel
theorem de_M_tape_14 : decode b_M_tape 14 = .ok (.ireturn, 1) := by decide +kernel
theorem de_M_tape_15 : decode b_M_tape 15 = .ok (.aload_n 0, 1) := by decide +kernel
theorem de_M_tape_16 : decode b_M_tape 16 = .ok (.getfield 57, 3) := by decide +kernel
theorem de_M_tape_19 : decode b_M_tape 19 = .ok (.sipush 200, 3) := by decide +kernel
theorem de_M_tape_22 : decode b_M_tape 22 = .ok (.if_icmp .ne 6, 3) := by decide +kernel
theorem de_M_tape_25 : decode b_M_tape 25 = .ok (.bipush (-14), 2) := by decide +kernel
theorem de_M_tape_27 : decode b_M_tape 27 = .ok (.ireturn, 1) := by decide +kernel
theorem de_M_tape_28 : decode b_M_tape 28 = .ok (.aload_n 0, 1) := by decide +kernel
theorem de_M_tape_29 : decode b_M_tape 29 = .ok (.getfield 39, 3) := by decide +kernel
theorem de_M_tape_32 : decode b_M_tape 32 = .ok (.aload_n 0, 1) := by decide +kernel
theorem de_M_tape_33 : decode b_M_tape 33 = .ok (.getfield 57, 3) := by decide +kernel
theorem de_M_tape_36 : decode b_M_tape 36 = .ok (.iload_n 1, 1) := by decide +kernel
theorem de_M_tape_37 : decode b_M_tape 37 = .ok (.iastore, 1) := by decide +kernel
theorem de_M_tape_38 : decode b_M_tape 38 = .ok (.aload_n 0, 1) := by decide +kernel
theorem de_M_tape_39 : decode b_M_tape 39 = .ok (.dup, 1) := by decide +kernel
theorem de_M_tape_40 : decode b_M_tape 40 = .ok (.getfield 57, 3) := by decide +kernel
theorem de_M_tape_43 : decode b_M_tape 43 = .ok (.iconst 1, 1) := by decide +kernel
theorem de_M_tape_44 : decode b_M_tape 44 = .ok (.iadd, 1) := by decide +kernel
theorem de_M_tape_45 : decode b_M_tape 45 = .ok (.putfield 57, 3) := by decide +kernel
theorem de_M_tape_48 : decode b_M_tape 48 = .ok (.aload_n 0, 1) := by decide +kernel
theorem de_M_tape_49 : decode b_M_tape 49 = .ok (.getfield 57, 3) := by decide +kernel
theorem de_M_tape_52 : decode b_M_tape 52 = .ok (.ireturn, 1) := by decide +kernel
theorem de_M_reserve_0 : decode b_M_reserve 0 = .ok (.iload_n 1, 1) := by decide +kernel
theorem de_M_reserve_1 : decode b_M_reserve 1 = .ok (.i2l, 1) := by decide +kernel
theorem de_M_reserve_2 : decode b_M_reserve 2 = .ok (.lconst 1, 1) := by decide +kernel
theorem de_M_reserve_3 : decode b_M_reserve 3 = .ok (.ldc2_w 53, 3) := by decide +kernel
theorem de_M_reserve_6 : decode b_M_reserve 6 = .ok (.invokestatic 49, 3) := by decide +kernel
theorem de_M_reserve_9 : decode b_M_reserve 9 = .ok (.ifCond .eq 20, 3) := by decide +kernel
theorem de_M_reserve_12 : decode b_M_reserve 12 = .ok (.lload_n 2, 1) := by decide +kernel
theorem de_M_reserve_13 : decode b_M_reserve 13 = .ok (.aload_n 0, 1) := by decide +kernel
theorem de_M_reserve_14 : decode b_M_reserve 14 = .ok (.getfield 60, 3) := by decide +kernel
theorem de_M_reserve_17 : decode b_M_reserve 17 = .ok (.lcmp, 1) := by decide +kernel
theorem de_M_reserve_18 : decode b_M_reserve 18 = .ok (.ifCond .le 11, 3) := by decide +kernel
theorem de_M_reserve_21 : decode b_M_reserve 21 = .ok (.lload_n 2, 1) := by decide +kernel
theorem de_M_reserve_22 : decode b_M_reserve 22 = .ok (.ldc2_w 64, 3) := by decide +kernel
theorem de_M_reserve_25 : decode b_M_reserve 25 = .ok (.lcmp, 1) := by decide +kernel
theorem de_M_reserve_26 : decode b_M_reserve 26 = .ok (.ifCond .le 6, 3) := by decide +kernel
theorem de_M_reserve_29 : decode b_M_reserve 29 = .ok (.bipush (-12), 2) := by decide +kernel
theorem de_M_reserve_31 : decode b_M_reserve 31 = .ok (.ireturn, 1) := by decide +kernel
theorem de_M_reserve_32 : decode b_M_reserve 32 = .ok (.iconst 0, 1) := by decide +kernel
theorem de_M_reserve_33 : decode b_M_reserve 33 = .ok (.istore 4, 2) := by decide +kernel
theorem de_M_reserve_35 : decode b_M_reserve 35 = .ok (.iconst 1, 1) := by decide +kernel
theorem de_M_reserve_36 : decode b_M_reserve 36 = .ok (.istore 5, 2) := by decide +kernel
theorem de_M_reserve_38 : decode b_M_reserve 38 = .ok (.iload 5, 2) := by decide +kernel
theorem de_M_reserve_40 : decode b_M_reserve 40 = .ok (.aload_n 0, 1) := by decide +kernel
theorem de_M_reserve_41 : decode b_M_reserve 41 = .ok (.getfield 45, 3) := by decide +kernel
theorem de_M_reserve_44 : decode b_M_reserve 44 = .ok (.if_icmp .gt 95, 3) := by decide +kernel
theorem de_M_reserve_47 : decode b_M_reserve 47 = .ok (.aload_n 0, 1) := by decide +kernel
theorem de_M_reserve_48 : decode b_M_reserve 48 = .ok (.getfield 13, 3) := by decide +kernel
theorem de_M_reserve_51 : decode b_M_reserve 51 = .ok (.iload 5, 2) := by decide +kernel
theorem de_M_reserve_53 : decode b_M_reserve 53 = .ok (.iaload, 1) := by decide +kernel
theorem de_M_reserve_54 : decode b_M_reserve 54 = .ok (.ifCond .ne 40, 3) := by decide +kernel
theorem de_M_reserve_57 : decode b_M_reserve 57 = .ok (.aload_n 0, 1) := by decide +kernel
theorem de_M_reserve_58 : decode b_M_reserve 58 = .ok (.getfield 24, 3) := by decide +kernel
theorem de_M_reserve_61 : decode b_M_reserve 61 = .ok (.iload 5, 2) := by decide +kernel
theorem de_M_reserve_63 : decode b_M_reserve 63 = .ok (.iaload, 1) := by decide +kernel
theorem de_M_reserve_64 : decode b_M_reserve 64 = .ok (.ifCond .ne 30, 3) := by decide +kernel
theorem de_M_reserve_67 : decode b_M_reserve 67 = .ok (.aload_n 0, 1) := by decide +kernel
theorem de_M_reserve_68 : decode b_M_reserve 68 = .ok (.getfield 36, 3) := by decide +kernel
theorem de_M_reserve_71 : decode b_M_reserve 71 = .ok (.iload 5, 2) := by decide +kernel
theorem de_M_reserve_73 : decode b_M_reserve 73 = .ok (.laload, 1) := by decide +kernel
theorem de_M_reserve_74 : decode b_M_reserve 74 = .ok (.lconst 0, 1) := by decide +kernel
theorem de_M_reserve_75 : decode b_M_reserve 75 = .ok (.lcmp, 1) := by decide +kernel
theorem de_M_reserve_76 : decode b_M_reserve 76 = .ok (.ifCond .ne 18, 3) := by decide +kernel
theorem de_M_reserve_79 : decode b_M_reserve 79 = .ok (.aload_n 0, 1) := by decide +kernel
theorem de_M_reserve_80 : decode b_M_reserve 80 = .ok (.getfield 7, 3) := by decide +kernel
theorem de_M_reserve_83 : decode b_M_reserve 83 = .ok (.iload 5, 2) := by decide +kernel
theorem de_M_reserve_85 : decode b_M_reserve 85 = .ok (.iaload, 1) := by decide +kernel
theorem de_M_reserve_86 : decode b_M_reserve 86 = .ok (.iload_n 1, 1) := by decide +kernel
theorem de_M_reserve_87 : decode b_M_reserve 87 = .ok (.if_icmp .lt 7, 3) := by decide +kernel
theorem de_M_reserve_90 : decode b_M_reserve 90 = .ok (.iconst 1, 1) := by decide +kernel
theorem de_M_reserve_91 : decode b_M_reserve 91 = .ok (.goto 4, 3) := by decide +kernel
theorem de_M_reserve_94 : decode b_M_reserve 94 = .ok (.iconst 0, 1) := by decide +kernel
theorem de_M_reserve_95 : decode b_M_reserve 95 = .ok (.istore 6, 2) := by decide +kernel
theorem de_M_reserve_97 : decode b_M_reserve 97 = .ok (.iload 6, 2) := by decide +kernel
theorem de_M_reserve_99 : decode b_M_reserve 99 = .ok (.ifCond .eq 30, 3) := by decide +kernel
theorem de_M_reserve_102 : decode b_M_reserve 102 = .ok (.iload 4, 2) := by decide +kernel
theorem de_M_reserve_104 : decode b_M_reserve 104 = .ok (.ifCond .eq 20, 3) := by decide +kernel
theorem de_M_reserve_107 : decode b_M_reserve 107 = .ok (.aload_n 0, 1) := by decide +kernel
theorem de_M_reserve_108 : decode b_M_reserve 108 = .ok (.getfield 7, 3) := by decide +kernel
theorem de_M_reserve_111 : decode b_M_reserve 111 = .ok (.iload 5, 2) := by decide +kernel
theorem de_M_reserve_113 : decode b_M_reserve 113 = .ok (.iaload, 1) := by decide +kernel
theorem de_M_reserve_114 : decode b_M_reserve 114 = .ok (.aload_n 0, 1) := by decide +kernel
theorem de_M_reserve_115 : decode b_M_reserve 115 = .ok (.getfield 7, 3) := by decide +kernel
theorem de_M_reserve_118 : decode b_M_reserve 118 = .ok (.iload 4, 2) := by decide +kernel
theorem de_M_reserve_120 : decode b_M_reserve 120 = .ok (.iaload, 1) := by decide +kernel
theorem de_M_reserve_121 : decode b_M_reserve 121 = .ok (.if_icmp .ge 8, 3) := by decide +kernel
theorem de_M_reserve_124 : decode b_M_reserve 124 = .ok (.iload 5, 2) := by decide +kernel
theorem de_M_reserve_126 : decode b_M_reserve 126 = .ok (.goto 5, 3) := by decide +kernel
theorem de_M_reserve_129 : decode b_M_reserve 129 = .ok (.iload 4, 2) := by decide +kernel
theorem de_M_reserve_131 : decode b_M_reserve 131 = .ok (.istore 4, 2) := by decide +kernel
theorem de_M_reserve_133 : decode b_M_reserve 133 = .ok (.iinc 5 1, 3) := by decide +kernel
theorem de_M_reserve_136 : decode b_M_reserve 136 = .ok (.goto (-98), 3) := by decide +kernel
theorem de_M_reserve_139 : decode b_M_reserve 139 = .ok (.iload 4, 2) := by decide +kernel
theorem de_M_reserve_141 : decode b_M_reserve 141 = .ok (.ifCond .le 11, 3) := by decide +kernel
theorem de_M_reserve_144 : decode b_M_reserve 144 = .ok (.aload_n 0, 1) := by decide +kernel
theorem de_M_reserve_145 : decode b_M_reserve 145 = .ok (.getfield 36, 3) := by decide +kernel
theorem de_M_reserve_148 : decode b_M_reserve 148 = .ok (.iload 4, 2) := by decide +kernel
theorem de_M_reserve_150 : decode b_M_reserve 150 = .ok (.lload_n 2, 1) := by decide +kernel
theorem de_M_reserve_151 : decode b_M_reserve 151 = .ok (.lastore, 1) := by decide +kernel
theorem de_M_reserve_152 : decode b_M_reserve 152 = .ok (.iload 4, 2) := by decide +kernel
theorem de_M_reserve_154 : decode b_M_reserve 154 = .ok (.ireturn, 1) := by decide +kernel
theorem de_M_put_0 : decode b_M_put 0 = .ok (.aload_n 0, 1) := by decide +kernel
theorem de_M_put_1 : decode b_M_put 1 = .ok (.iload_n 1, 1) := by decide +kernel
theorem de_M_put_2 : decode b_M_put 2 = .ok (.invokevirtual 76, 3) := by decide +kernel
theorem de_M_put_5 : decode b_M_put 5 = .ok (.ifCond .ne 6, 3) := by decide +kernel
theorem de_M_put_8 : decode b_M_put 8 = .ok (.bipush (-11), 2) := by decide +kernel
theorem de_M_put_10 : decode b_M_put 10 = .ok (.ireturn, 1) := by decide +kernel
theorem de_M_put_11 : decode b_M_put 11 = .ok (.iload_n 2, 1) := by decide +kernel
theorem de_M_put_12 : decode b_M_put 12 = .ok (.i2l, 1) := by decide +kernel
theorem de_M_put_13 : decode b_M_put 13 = .ok (.lconst 1, 1) := by decide +kernel
theorem de_M_put_14 : decode b_M_put 14 = .ok (.ldc2_w 80, 3) := by decide +kernel
theorem de_M_put_17 : decode b_M_put 17 = .ok (.invokestatic 49, 3) := by decide +kernel
theorem de_M_put_20 : decode b_M_put 20 = .ok (.ifCond .eq 11, 3) := by decide +kernel
theorem de_M_put_23 : decode b_M_put 23 = .ok (.aload_n 0, 1) := by decide +kernel
theorem de_M_put_24 : decode b_M_put 24 = .ok (.lload_n 3, 1) := by decide +kernel
theorem de_M_put_25 : decode b_M_put 25 = .ok (.invokevirtual 82, 3) := by decide +kernel
theorem de_M_put_28 : decode b_M_put 28 = .ok (.ifCond .eq 6, 3) := by decide +kernel
theorem de_M_put_31 : decode b_M_put 31 = .ok (.bipush (-12), 2) := by decide +kernel
theorem de_M_put_33 : decode b_M_put 33 = .ok (.ireturn, 1) := by decide +kernel
theorem de_M_put_34 : decode b_M_put 34 = .ok (.aload_n 0, 1) := by decide +kernel
theorem de_M_put_35 : decode b_M_put 35 = .ok (.lload_n 3, 1) := by decide +kernel
theorem de_M_put_36 : decode b_M_put 36 = .ok (.invokevirtual 86, 3) := by decide +kernel
theorem de_M_put_39 : decode b_M_put 39 = .ok (.iconst 0, 1) := by decide +kernel
theorem de_M_put_40 : decode b_M_put 40 = .ok (.istore 5, 2) := by decide +kernel
theorem de_M_put_42 : decode b_M_put 42 = .ok (.iconst 1, 1) := by decide +kernel
theorem de_M_put_43 : decode b_M_put 43 = .ok (.istore 6, 2) := by decide +kernel
theorem de_M_put_45 : decode b_M_put 45 = .ok (.iload 6, 2) := by decide +kernel
theorem de_M_put_47 : decode b_M_put 47 = .ok (.aload_n 0, 1) := by decide +kernel
theorem de_M_put_48 : decode b_M_put 48 = .ok (.getfield 45, 3) := by decide +kernel
theorem de_M_put_51 : decode b_M_put 51 = .ok (.if_icmp .gt 32, 3) := by decide +kernel
theorem de_M_put_54 : decode b_M_put 54 = .ok (.iload 5, 2) := by decide +kernel
theorem de_M_put_56 : decode b_M_put 56 = .ok (.ifCond .ne 14, 3) := by decide +kernel
theorem de_M_put_59 : decode b_M_put 59 = .ok (.aload_n 0, 1) := by decide +kernel
theorem de_M_put_60 : decode b_M_put 60 = .ok (.getfield 24, 3) := by decide +kernel
theorem de_M_put_63 : decode b_M_put 63 = .ok (.iload 6, 2) := by decide +kernel
theorem de_M_put_65 : decode b_M_put 65 = .ok (.iaload, 1) := by decide +kernel
theorem de_M_put_66 : decode b_M_put 66 = .ok (.iload_n 2, 1) := by decide +kernel
theorem de_M_put_67 : decode b_M_put 67 = .ok (.if_icmp .ne 7, 3) := by decide +kernel
theorem de_M_put_70 : decode b_M_put 70 = .ok (.iconst 1, 1) := by decide +kernel
theorem de_M_put_71 : decode b_M_put 71 = .ok (.goto 4, 3) := by decide +kernel
theorem de_M_put_74 : decode b_M_put 74 = .ok (.iconst 0, 1) := by decide +kernel
theorem de_M_put_75 : decode b_M_put 75 = .ok (.istore 5, 2) := by decide +kernel
theorem de_M_put_77 : decode b_M_put 77 = .ok (.iinc 6 1, 3) := by decide +kernel
theorem de_M_put_80 : decode b_M_put 80 = .ok (.goto (-35), 3) := by decide +kernel
theorem de_M_put_83 : decode b_M_put 83 = .ok (.aload_n 0, 1) := by decide +kernel
theorem de_M_put_84 : decode b_M_put 84 = .ok (.getfield 13, 3) := by decide +kernel
theorem de_M_put_87 : decode b_M_put 87 = .ok (.iload_n 1, 1) := by decide +kernel
theorem de_M_put_88 : decode b_M_put 88 = .ok (.iaload, 1) := by decide +kernel
theorem de_M_put_89 : decode b_M_put 89 = .ok (.iconst 1, 1) := by decide +kernel
theorem de_M_put_90 : decode b_M_put 90 = .ok (.if_icmp .ne 17, 3) := by decide +kernel
theorem de_M_put_93 : decode b_M_put 93 = .ok (.aload_n 0, 1) := by decide +kernel
theorem de_M_put_94 : decode b_M_put 94 = .ok (.getfield 24, 3) := by decide +kernel
theorem de_M_put_97 : decode b_M_put 97 = .ok (.iload_n 1, 1) := by decide +kernel
theorem de_M_put_98 : decode b_M_put 98 = .ok (.iaload, 1) := by decide +kernel
theorem de_M_put_99 : decode b_M_put 99 = .ok (.ifCond .gt 8, 3) := by decide +kernel
theorem de_M_put_102 : decode b_M_put 102 = .ok (.iload 5, 2) := by decide +kernel
theorem de_M_put_104 : decode b_M_put 104 = .ok (.ifCond .eq 5, 3) := by decide +kernel
theorem de_M_put_107 : decode b_M_put 107 = .ok (.iconst 0, 1) := by decide +kernel
theorem de_M_put_108 : decode b_M_put 108 = .ok (.ireturn, 1) := by decide +kernel
theorem de_M_put_109 : decode b_M_put 109 = .ok (.aload_n 0, 1) := by decide +kernel
theorem de_M_put_110 : decode b_M_put 110 = .ok (.getfield 24, 3) := by decide +kernel
theorem de_M_put_113 : decode b_M_put 113 = .ok (.iload_n 1, 1) := by decide +kernel
theorem de_M_put_114 : decode b_M_put 114 = .ok (.iload_n 2, 1) := by decide +kernel
theorem de_M_put_115 : decode b_M_put 115 = .ok (.iastore, 1) := by decide +kernel
theorem de_M_put_116 : decode b_M_put 116 = .ok (.aload_n 0, 1) := by decide +kernel
theorem de_M_put_117 : decode b_M_put 117 = .ok (.getfield 36, 3) := by decide +kernel
theorem de_M_put_120 : decode b_M_put 120 = .ok (.iload_n 1, 1) := by decide +kernel
theorem de_M_put_121 : decode b_M_put 121 = .ok (.lconst 0, 1) := by decide +kernel
theorem de_M_put_122 : decode b_M_put 122 = .ok (.lastore, 1) := by decide +kernel
theorem de_M_put_123 : decode b_M_put 123 = .ok (.iconst 1, 1) := by decide +kernel
theorem de_M_put_124 : decode b_M_put 124 = .ok (.ireturn, 1) := by decide +kernel
theorem de_M_isBox_0 : decode b_M_isBox 0 = .ok (.iload_n 1, 1) := by decide +kernel
theorem de_M_isBox_1 : decode b_M_isBox 1 = .ok (.i2l, 1) := by decide +kernel
theorem de_M_isBox_2 : decode b_M_isBox 2 = .ok (.lconst 1, 1) := by decide +kernel
theorem de_M_isBox_3 : decode b_M_isBox 3 = .ok (.aload_n 0, 1) := by decide +kernel
theorem de_M_isBox_4 : decode b_M_isBox 4 = .ok (.getfield 45, 3) := by decide +kernel
theorem de_M_isBox_7 : decode b_M_isBox 7 = .ok (.i2l, 1) := by decide +kernel
theorem de_M_isBox_8 : decode b_M_isBox 8 = .ok (.invokestatic 49, 3) := by decide +kernel
theorem de_M_isBox_11 : decode b_M_isBox 11 = .ok (.ireturn, 1) := by decide +kernel
theorem de_M_isNoTime_0 : decode b_M_isNoTime 0 = .ok (.lload_n 1, 1) := by decide +kernel
theorem de_M_isNoTime_1 : decode b_M_isNoTime 1 = .ok (.aload_n 0, 1) := by decide +kernel
theorem de_M_isNoTime_2 : decode b_M_isNoTime 2 = .ok (.getfield 60, 3) := by decide +kernel
theorem de_M_isNoTime_5 : decode b_M_isNoTime 5 = .ok (.lcmp, 1) := by decide +kernel
theorem de_M_isNoTime_6 : decode b_M_isNoTime 6 = .ok (.ifCond .lt 11, 3) := by decide +kernel
theorem de_M_isNoTime_9 : decode b_M_isNoTime 9 = .ok (.lload_n 1, 1) := by decide +kernel
theorem de_M_isNoTime_10 : decode b_M_isNoTime 10 = .ok (.ldc2_w 64, 3) := by decide +kernel
theorem de_M_isNoTime_13 : decode b_M_isNoTime 13 = .ok (.lcmp, 1) := by decide +kernel
theorem de_M_isNoTime_14 : decode b_M_isNoTime 14 = .ok (.ifCond .le 7, 3) := by decide +kernel
theorem de_M_isNoTime_17 : decode b_M_isNoTime 17 = .ok (.iconst 1, 1) := by decide +kernel
theorem de_M_isNoTime_18 : decode b_M_isNoTime 18 = .ok (.goto 4, 3) := by decide +kernel
theorem de_M_isNoTime_21 : decode b_M_isNoTime 21 = .ok (.iconst 0, 1) := by decide +kernel
theorem de_M_isNoTime_22 : decode b_M_isNoTime 22 = .ok (.ireturn, 1) := by decide +kernel
theorem de_M_pass_0 : decode b_M_pass 0 = .ok (.aload_n 0, 1) := by decide +kernel
theorem de_M_pass_1 : decode b_M_pass 1 = .ok (.lload_n 1, 1) := by decide +kernel
theorem de_M_pass_2 : decode b_M_pass 2 = .ok (.putfield 60, 3) := by decide +kernel
theorem de_M_pass_5 : decode b_M_pass 5 = .ok (.iconst 1, 1) := by decide +kernel
theorem de_M_pass_6 : decode b_M_pass 6 = .ok (.istore_n 3, 1) := by decide +kernel
theorem de_M_pass_7 : decode b_M_pass 7 = .ok (.iload_n 3, 1) := by decide +kernel
theorem de_M_pass_8 : decode b_M_pass 8 = .ok (.aload_n 0, 1) := by decide +kernel
theorem de_M_pass_9 : decode b_M_pass 9 = .ok (.getfield 45, 3) := by decide +kernel
theorem de_M_pass_12 : decode b_M_pass 12 = .ok (.if_icmp .gt 190, 3) := by decide +kernel
theorem de_M_pass_15 : decode b_M_pass 15 = .ok (.aload_n 0, 1) := by decide +kernel
theorem de_M_pass_16 : decode b_M_pass 16 = .ok (.getfield 36, 3) := by decide +kernel
theorem de_M_pass_19 : decode b_M_pass 19 = .ok (.iload_n 3, 1) := by decide +kernel
theorem de_M_pass_20 : decode b_M_pass 20 = .ok (.laload, 1) := by decide +kernel
theorem de_M_pass_21 : decode b_M_pass 21 = .ok (.lconst 0, 1) := by decide +kernel
theorem de_M_pass_22 : decode b_M_pass 22 = .ok (.lcmp, 1) := by decide +kernel
theorem de_M_pass_23 : decode b_M_pass 23 = .ok (.ifCond .le 50, 3) := by decide +kernel
theorem de_M_pass_26 : decode b_M_pass 26 = .ok (.aload_n 0, 1) := by decide +kernel
theorem de_M_pass_27 : decode b_M_pass 27 = .ok (.getfield 36, 3) := by decide +kernel
theorem de_M_pass_30 : decode b_M_pass 30 = .ok (.iload_n 3, 1) := by decide +kernel
theorem de_M_pass_31 : decode b_M_pass 31 = .ok (.laload, 1) := by decide +kernel
theorem de_M_pass_32 : decode b_M_pass 32 = .ok (.lload_n 1, 1) := by decide +kernel
theorem de_M_pass_33 : decode b_M_pass 33 = .ok (.lcmp, 1) := by decide +kernel
theorem de_M_pass_34 : decode b_M_pass 34 = .ok (.ifCond .gt 39, 3) := by decide +kernel
theorem de_M_pass_37 : decode b_M_pass 37 = .ok (.aload_n 0, 1) := by decide +kernel
theorem de_M_pass_38 : decode b_M_pass 38 = .ok (.getfield 36, 3) := by decide +kernel
theorem de_M_pass_41 : decode b_M_pass 41 = .ok (.iload_n 3, 1) := by decide +kernel
theorem de_M_pass_42 : decode b_M_pass 42 = .ok (.lconst 0, 1) := by decide +kernel
theorem de_M_pass_43 : decode b_M_pass 43 = .ok (.lastore, 1) := by decide +kernel
theorem de_M_pass_44 : decode b_M_pass 44 = .ok (.aload_n 0, 1) := by decide +kernel
theorem de_M_pass_45 : decode b_M_pass 45 = .ok (.getfield 66, 3) := by decide +kernel
theorem de_M_pass_48 : decode b_M_pass 48 = .ok (.bipush 100, 2) := by decide +kernel
theorem de_M_pass_50 : decode b_M_pass 50 = .ok (.if_icmp .ge 23, 3) := by decide +kernel
theorem de_M_pass_53 : decode b_M_pass 53 = .ok (.aload_n 0, 1) := by decide +kernel
theorem de_M_pass_54 : decode b_M_pass 54 = .ok (.getfield 42, 3) := by decide +kernel
theorem de_M_pass_57 : decode b_M_pass 57 = .ok (.aload_n 0, 1) := by decide +kernel
theorem de_M_pass_58 : decode b_M_pass 58 = .ok (.getfield 66, 3) := by decide +kernel
theorem de_M_pass_61 : decode b_M_pass 61 = .ok (.iload_n 3, 1) := by decide +kernel
theorem de_M_pass_62 : decode b_M_pass 62 = .ok (.iastore, 1) := by decide +kernel
theorem de_M_pass_63 : decode b_M_pass 63 = .ok (.aload_n 0, 1) := by decide +kernel
theorem de_M_pass_64 : decode b_M_pass 64 = .ok (.dup, 1) := by decide +kernel
theorem de_M_pass_65 : decode b_M_pass 65 = .ok (.getfield 66, 3) := by decide +kernel
theorem de_M_pass_68 : decode b_M_pass 68 = .ok (.iconst 1, 1) := by decide +kernel
theorem de_M_pass_69 : decode b_M_pass 69 = .ok (.iadd, 1) := by decide +kernel
theorem de_M_pass_70 : decode b_M_pass 70 = .ok (.putfield 66, 3) := by decide +kernel
theorem de_M_pass_73 : decode b_M_pass 73 = .ok (.aload_n 0, 1) := by decide +kernel
theorem de_M_pass_74 : decode b_M_pass 74 = .ok (.getfield 13, 3) := by decide +kernel
theorem de_M_pass_77 : decode b_M_pass 77 = .ok (.iload_n 3, 1) := by decide +kernel
theorem de_M_pass_78 : decode b_M_pass 78 = .ok (.iaload, 1) := by decide +kernel
theorem de_M_pass_79 : decode b_M_pass 79 = .ok (.iconst 1, 1) := by decide +kernel
theorem de_M_pass_80 : decode b_M_pass 80 = .ok (.if_icmp .eq 13, 3) := by decide +kernel
theorem de_M_pass_83 : decode b_M_pass 83 = .ok (.aload_n 0, 1) := by decide +kernel
theorem de_M_pass_84 : decode b_M_pass 84 = .ok (.getfield 13, 3) := by decide +kernel
theorem de_M_pass_87 : decode b_M_pass 87 = .ok (.iload_n 3, 1) := by decide +kernel
theorem de_M_pass_88 : decode b_M_pass 88 = .ok (.iaload, 1) := by decide +kernel
theorem de_M_pass_89 : decode b_M_pass 89 = .ok (.iconst 2, 1) := by decide +kernel
theorem de_M_pass_90 : decode b_M_pass 90 = .ok (.if_icmp .ne 7, 3) := by decide +kernel
theorem de_M_pass_93 : decode b_M_pass 93 = .ok (.iconst 1, 1) := by decide +kernel
theorem de_M_pass_94 : decode b_M_pass 94 = .ok (.goto 4, 3) := by decide +kernel
theorem de_M_pass_97 : decode b_M_pass 97 = .ok (.iconst 0, 1) := by decide +kernel
theorem de_M_pass_98 : decode b_M_pass 98 = .ok (.istore 4, 2) := by decide +kernel
theorem de_M_pass_100 : decode b_M_pass 100 = .ok (.iload 4, 2) := by decide +kernel
theorem de_M_pass_102 : decode b_M_pass 102 = .ok (.ifCond .eq 44, 3) := by decide +kernel
theorem de_M_pass_105 : decode b_M_pass 105 = .ok (.aload_n 0, 1) := by decide +kernel
theorem de_M_pass_106 : decode b_M_pass 106 = .ok (.getfield 20, 3) := by decide +kernel
theorem de_M_pass_109 : decode b_M_pass 109 = .ok (.iload_n 3, 1) := by decide +kernel
theorem de_M_pass_110 : decode b_M_pass 110 = .ok (.baload, 1) := by decide +kernel
theorem de_M_pass_111 : decode b_M_pass 111 = .ok (.ifCond .ne 35, 3) := by decide +kernel
theorem de_M_pass_114 : decode b_M_pass 114 = .ok (.lload_n 1, 1) := by decide +kernel
theorem de_M_pass_115 : decode b_M_pass 115 = .ok (.aload_n 0, 1) := by decide +kernel
theorem de_M_pass_116 : decode b_M_pass 116 = .ok (.getfield 16, 3) := by decide +kernel
theorem de_M_pass_119 : decode b_M_pass 119 = .ok (.iload_n 3, 1) := by decide +kernel
theorem de_M_pass_120 : decode b_M_pass 120 = .ok (.laload, 1) := by decide +kernel
theorem de_M_pass_121 : decode b_M_pass 121 = .ok (.lsub, 1) := by decide +kernel
theorem de_M_pass_122 : decode b_M_pass 122 = .ok (.ldc2_w 69, 3) := by decide +kernel
theorem de_M_pass_125 : decode b_M_pass 125 = .ok (.lcmp, 1) := by decide +kernel
theorem de_M_pass_126 : decode b_M_pass 126 = .ok (.ifCond .lt 20, 3) := by decide +kernel
theorem de_M_pass_129 : decode b_M_pass 129 = .ok (.aload_n 0, 1) := by decide +kernel
theorem de_M_pass_130 : decode b_M_pass 130 = .ok (.getfield 20, 3) := by decide +kernel
theorem de_M_pass_133 : decode b_M_pass 133 = .ok (.iload_n 3, 1) := by decide +kernel
theorem de_M_pass_134 : decode b_M_pass 134 = .ok (.iconst 1, 1) := by decide +kernel
theorem de_M_pass_135 : decode b_M_pass 135 = .ok (.bastore, 1) := by decide +kernel
theorem de_M_pass_136 : decode b_M_pass 136 = .ok (.aload_n 0, 1) := by decide +kernel
theorem de_M_pass_137 : decode b_M_pass 137 = .ok (.dup, 1) := by decide +kernel
theorem de_M_pass_138 : decode b_M_pass 138 = .ok (.getfield 71, 3) := by decide +kernel
theorem de_M_pass_141 : decode b_M_pass 141 = .ok (.iconst 1, 1) := by decide +kernel
theorem de_M_pass_142 : decode b_M_pass 142 = .ok (.iadd, 1) := by decide +kernel
theorem de_M_pass_143 : decode b_M_pass 143 = .ok (.putfield 71, 3) := by decide +kernel
theorem de_M_pass_146 : decode b_M_pass 146 = .ok (.aload_n 0, 1) := by decide +kernel
theorem de_M_pass_147 : decode b_M_pass 147 = .ok (.getfield 27, 3) := by decide +kernel
theorem de_M_pass_150 : decode b_M_pass 150 = .ok (.iload_n 3, 1) := by decide +kernel
theorem de_M_pass_151 : decode b_M_pass 151 = .ok (.iaload, 1) := by decide +kernel
theorem de_M_pass_152 : decode b_M_pass 152 = .ok (.ifCond .lt 44, 3) := by decide +kernel
theorem de_M_pass_155 : decode b_M_pass 155 = .ok (.aload_n 0, 1) := by decide +kernel
theorem de_M_pass_156 : decode b_M_pass 156 = .ok (.getfield 33, 3) := by decide +kernel
theorem de_M_pass_159 : decode b_M_pass 159 = .ok (.iload_n 3, 1) := by decide +kernel
theorem de_M_pass_160 : decode b_M_pass 160 = .ok (.baload, 1) := by decide +kernel
theorem de_M_pass_161 : decode b_M_pass 161 = .ok (.ifCond .ne 35, 3) := by decide +kernel
theorem de_M_pass_164 : decode b_M_pass 164 = .ok (.lload_n 1, 1) := by decide +kernel
theorem de_M_pass_165 : decode b_M_pass 165 = .ok (.aload_n 0, 1) := by decide +kernel
theorem de_M_pass_166 : decode b_M_pass 166 = .ok (.getfield 30, 3) := by decide +kernel
theorem de_M_pass_169 : decode b_M_pass 169 = .ok (.iload_n 3, 1) := by decide +kernel
theorem de_M_pass_170 : decode b_M_pass 170 = .ok (.laload, 1) := by decide +kernel
theorem de_M_pass_171 : decode b_M_pass 171 = .ok (.lsub, 1) := by decide +kernel
theorem de_M_pass_172 : decode b_M_pass 172 = .ok (.ldc2_w 74, 3) := by decide +kernel
theorem de_M_pass_175 : decode b_M_pass 175 = .ok (.lcmp, 1) := by decide +kernel
theorem de_M_pass_176 : decode b_M_pass 176 = .ok (.ifCond .lt 20, 3) := by decide +kernel
theorem de_M_pass_179 : decode b_M_pass 179 = .ok (.aload_n 0, 1) := by decide +kernel
theorem de_M_pass_180 : decode b_M_pass 180 = .ok (.getfield 33, 3) := by decide +kernel
theorem de_M_pass_183 : decode b_M_pass 183 = .ok (.iload_n 3, 1) := by decide +kernel
theorem de_M_pass_184 : decode b_M_pass 184 = .ok (.iconst 1, 1) := by decide +kernel
theorem de_M_pass_185 : decode b_M_pass 185 = .ok (.bastore, 1) := by decide +kernel
theorem de_M_pass_186 : decode b_M_pass 186 = .ok (.aload_n 0, 1) := by decide +kernel
theorem de_M_pass_187 : decode b_M_pass 187 = .ok (.dup, 1) := by decide +kernel
theorem de_M_pass_188 : decode b_M_pass 188 = .ok (.getfield 71, 3) := by decide +kernel
theorem de_M_pass_191 : decode b_M_pass 191 = .ok (.iconst 1, 1) := by decide +kernel
theorem de_M_pass_192 : decode b_M_pass 192 = .ok (.iadd, 1) := by decide +kernel
theorem de_M_pass_193 : decode b_M_pass 193 = .ok (.putfield 71, 3) := by decide +kernel
theorem de_M_pass_196 : decode b_M_pass 196 = .ok (.iinc 3 1, 3) := by decide +kernel
theorem de_M_pass_199 : decode b_M_pass 199 = .ok (.goto (-192), 3) := by decide +kernel
theorem de_M_pass_202 : decode b_M_pass 202 = .ok (.return_, 1) := by decide +kernel
theorem de_M_close_0 : decode b_M_close 0 = .ok (.aload_n 0, 1) := by decide +kernel
theorem de_M_close_1 : decode b_M_close 1 = .ok (.iload_n 1, 1) := by decide +kernel
theorem de_M_close_2 : decode b_M_close 2 = .ok (.invokevirtual 76, 3) := by decide +kernel
theorem de_M_close_5 : decode b_M_close 5 = .ok (.ifCond .ne 6, 3) := by decide +kernel
theorem de_M_close_8 : decode b_M_close 8 = .ok (.bipush (-11), 2) := by decide +kernel
theorem de_M_close_10 : decode b_M_close 10 = .ok (.ireturn, 1) := by decide +kernel
theorem de_M_close_11 : decode b_M_close 11 = .ok (.aload_n 0, 1) := by decide +kernel
theorem de_M_close_12 : decode b_M_close 12 = .ok (.lload_n 2, 1) := by decide +kernel
theorem de_M_close_13 : decode b_M_close 13 = .ok (.invokevirtual 82, 3) := by decide +kernel
theorem de_M_close_16 : decode b_M_close 16 = .ok (.ifCond .eq 6, 3) := by decide +kernel
theorem de_M_close_19 : decode b_M_close 19 = .ok (.bipush (-12), 2) := by decide +kernel
theorem de_M_close_21 : decode b_M_close 21 = .ok (.ireturn, 1) := by decide +kernel
theorem de_M_close_22 : decode b_M_close 22 = .ok (.aload_n 0, 1) := by decide +kernel
theorem de_M_close_23 : decode b_M_close 23 = .ok (.lload_n 2, 1) := by decide +kernel
theorem de_M_close_24 : decode b_M_close 24 = .ok (.invokevirtual 86, 3) := by decide +kernel
theorem de_M_close_27 : decode b_M_close 27 = .ok (.aload_n 0, 1) := by decide +kernel
theorem de_M_close_28 : decode b_M_close 28 = .ok (.getfield 13, 3) := by decide +kernel
theorem de_M_close_31 : decode b_M_close 31 = .ok (.iload_n 1, 1) := by decide +kernel
theorem de_M_close_32 : decode b_M_close 32 = .ok (.iaload, 1) := by decide +kernel
theorem de_M_close_33 : decode b_M_close 33 = .ok (.iconst 1, 1) := by decide +kernel
theorem de_M_close_34 : decode b_M_close 34 = .ok (.if_icmp .eq 6, 3) := by decide +kernel
theorem de_M_close_37 : decode b_M_close 37 = .ok (.bipush (-13), 2) := by decide +kernel
theorem de_M_close_39 : decode b_M_close 39 = .ok (.ireturn, 1) := by decide +kernel
theorem de_M_close_40 : decode b_M_close 40 = .ok (.aload_n 0, 1) := by decide +kernel
theorem de_M_close_41 : decode b_M_close 41 = .ok (.getfield 24, 3) := by decide +kernel
theorem de_M_close_44 : decode b_M_close 44 = .ok (.iload_n 1, 1) := by decide +kernel
theorem de_M_close_45 : decode b_M_close 45 = .ok (.iaload, 1) := by decide +kernel
theorem de_M_close_46 : decode b_M_close 46 = .ok (.ifCond .le 16, 3) := by decide +kernel
theorem de_M_close_49 : decode b_M_close 49 = .ok (.aload_n 0, 1) := by decide +kernel
theorem de_M_close_50 : decode b_M_close 50 = .ok (.getfield 27, 3) := by decide +kernel
theorem de_M_close_53 : decode b_M_close 53 = .ok (.iload_n 1, 1) := by decide +kernel
theorem de_M_close_54 : decode b_M_close 54 = .ok (.iaload, 1) := by decide +kernel
theorem de_M_close_55 : decode b_M_close 55 = .ok (.ifCond .ge 7, 3) := by decide +kernel
theorem de_M_close_58 : decode b_M_close 58 = .ok (.iconst 1, 1) := by decide +kernel
theorem de_M_close_59 : decode b_M_close 59 = .ok (.goto 4, 3) := by decide +kernel
theorem de_M_close_62 : decode b_M_close 62 = .ok (.iconst 0, 1) := by decide +kernel
theorem de_M_close_63 : decode b_M_close 63 = .ok (.istore 4, 2) := by decide +kernel
theorem de_M_close_65 : decode b_M_close 65 = .ok (.iconst 0, 1) := by decide +kernel
theorem de_M_close_66 : decode b_M_close 66 = .ok (.istore 5, 2) := by decide +kernel
theorem de_M_close_68 : decode b_M_close 68 = .ok (.iload 4, 2) := by decide +kernel
theorem de_M_close_70 : decode b_M_close 70 = .ok (.ifCond .eq 32, 3) := by decide +kernel
theorem de_M_close_73 : decode b_M_close 73 = .ok (.iload 5, 2) := by decide +kernel
theorem de_M_close_75 : decode b_M_close 75 = .ok (.aload_n 0, 1) := by decide +kernel
theorem de_M_close_76 : decode b_M_close 76 = .ok (.getfield 57, 3) := by decide +kernel
theorem de_M_close_79 : decode b_M_close 79 = .ok (.if_icmp .ge 23, 3) := by decide +kernel
theorem de_M_close_82 : decode b_M_close 82 = .ok (.aload_n 0, 1) := by decide +kernel
theorem de_M_close_83 : decode b_M_close 83 = .ok (.aload_n 0, 1) := by decide +kernel
theorem de_M_close_84 : decode b_M_close 84 = .ok (.getfield 39, 3) := by decide +kernel
theorem de_M_close_87 : decode b_M_close 87 = .ok (.iload 5, 2) := by decide +kernel
theorem de_M_close_89 : decode b_M_close 89 = .ok (.iaload, 1) := by decide +kernel
theorem de_M_close_90 : decode b_M_close 90 = .ok (.invokevirtual 90, 3) := by decide +kernel
theorem de_M_close_93 : decode b_M_close 93 = .ok (.ifCond .eq 9, 3) := by decide +kernel
theorem de_M_close_96 : decode b_M_close 96 = .ok (.iinc 5 1, 3) := by decide +kernel
theorem de_M_close_99 : decode b_M_close 99 = .ok (.goto (-31), 3) := by decide +kernel
theorem de_M_close_102 : decode b_M_close 102 = .ok (.iload 4, 2) := by decide +kernel
theorem de_M_close_104 : decode b_M_close 104 = .ok (.ifCond .eq 15, 3) := by decide +kernel
theorem de_M_close_107 : decode b_M_close 107 = .ok (.iload 5, 2) := by decide +kernel
theorem de_M_close_109 : decode b_M_close 109 = .ok (.aload_n 0, 1) := by decide +kernel
theorem de_M_close_110 : decode b_M_close 110 = .ok (.getfield 57, 3) := by decide +kernel
theorem de_M_close_113 : decode b_M_close 113 = .ok (.if_icmp .ne 6, 3) := by decide +kernel
theorem de_M_close_116 : decode b_M_close 116 = .ok (.bipush (-14), 2) := by decide +kernel
theorem de_M_close_118 : decode b_M_close 118 = .ok (.ireturn, 1) := by decide +kernel
theorem de_M_close_119 : decode b_M_close 119 = .ok (.aload_n 0, 1) := by decide +kernel
theorem de_M_close_120 : decode b_M_close 120 = .ok (.getfield 13, 3) := by decide +kernel
theorem de_M_close_123 : decode b_M_close 123 = .ok (.iload_n 1, 1) := by decide +kernel
theorem de_M_close_124 : decode b_M_close 124 = .ok (.iconst 0, 1) := by decide +kernel
theorem de_M_close_125 : decode b_M_close 125 = .ok (.iastore, 1) := by decide +kernel
theorem de_M_close_126 : decode b_M_close 126 = .ok (.iload 4, 2) := by decide +kernel
theorem de_M_close_128 : decode b_M_close 128 = .ok (.ifCond .ne 5, 3) := by decide +kernel
theorem de_M_close_131 : decode b_M_close 131 = .ok (.iconst (-1), 1) := by decide +kernel
theorem de_M_close_132 : decode b_M_close 132 = .ok (.ireturn, 1) := by decide +kernel
theorem de_M_close_133 : decode b_M_close 133 = .ok (.aload_n 0, 1) := by decide +kernel
theorem de_M_close_134 : decode b_M_close 134 = .ok (.getfield 27, 3) := by decide +kernel
theorem de_M_close_137 : decode b_M_close 137 = .ok (.iload_n 1, 1) := by decide +kernel
theorem de_M_close_138 : decode b_M_close 138 = .ok (.aload_n 0, 1) := by decide +kernel
theorem de_M_close_139 : decode b_M_close 139 = .ok (.getfield 39, 3) := by decide +kernel
theorem de_M_close_142 : decode b_M_close 142 = .ok (.iload 5, 2) := by decide +kernel
theorem de_M_close_144 : decode b_M_close 144 = .ok (.iaload, 1) := by decide +kernel
theorem de_M_close_145 : decode b_M_close 145 = .ok (.iastore, 1) := by decide +kernel
theorem de_M_close_146 : decode b_M_close 146 = .ok (.aload_n 0, 1) := by decide +kernel
theorem de_M_close_147 : decode b_M_close 147 = .ok (.getfield 30, 3) := by decide +kernel
theorem de_M_close_150 : decode b_M_close 150 = .ok (.iload_n 1, 1) := by decide +kernel
theorem de_M_close_151 : decode b_M_close 151 = .ok (.lload_n 2, 1) := by decide +kernel
theorem de_M_close_152 : decode b_M_close 152 = .ok (.lastore, 1) := by decide +kernel
theorem de_M_close_153 : decode b_M_close 153 = .ok (.aload_n 0, 1) := by decide +kernel
theorem de_M_close_154 : decode b_M_close 154 = .ok (.getfield 33, 3) := by decide +kernel
theorem de_M_close_157 : decode b_M_close 157 = .ok (.iload_n 1, 1) := by decide +kernel
theorem de_M_close_158 : decode b_M_close 158 = .ok (.iconst 0, 1) := by decide +kernel
theorem de_M_close_159 : decode b_M_close 159 = .ok (.bastore, 1) := by decide +kernel
theorem de_M_close_160 : decode b_M_close 160 = .ok (.aload_n 0, 1) := by decide +kernel
theorem de_M_close_161 : decode b_M_close 161 = .ok (.aload_n 0, 1) := by decide +kernel
theorem de_M_close_162 : decode b_M_close 162 = .ok (.getfield 57, 3) := by decide +kernel
theorem de_M_close_165 : decode b_M_close 165 = .ok (.iload 5, 2) := by decide +kernel
theorem de_M_close_167 : decode b_M_close 167 = .ok (.isub, 1) := by decide +kernel
theorem de_M_close_168 : decode b_M_close 168 = .ok (.iconst 1, 1) := by decide +kernel
theorem de_M_close_169 : decode b_M_close 169 = .ok (.isub, 1) := by decide +kernel
theorem de_M_close_170 : decode b_M_close 170 = .ok (.putfield 57, 3) := by decide +kernel
theorem de_M_close_173 : decode b_M_close 173 = .ok (.iconst 0, 1) := by decide +kernel
theorem de_M_close_174 : decode b_M_close 174 = .ok (.istore 6, 2) := by decide +kernel
theorem de_M_close_176 : decode b_M_close 176 = .ok (.iload 6, 2) := by decide +kernel
theorem de_M_close_178 : decode b_M_close 178 = .ok (.aload_n 0, 1) := by decide +kernel
theorem de_M_close_179 : decode b_M_close 179 = .ok (.getfield 57, 3) := by decide +kernel
theorem de_M_close_182 : decode b_M_close 182 = .ok (.if_icmp .ge 28, 3) := by decide +kernel
theorem de_M_close_185 : decode b_M_close 185 = .ok (.aload_n 0, 1) := by decide +kernel
theorem de_M_close_186 : decode b_M_close 186 = .ok (.getfield 39, 3) := by decide +kernel
theorem de_M_close_189 : decode b_M_close 189 = .ok (.iload 6, 2) := by decide +kernel
theorem de_M_close_191 : decode b_M_close 191 = .ok (.aload_n 0, 1) := by decide +kernel
theorem de_M_close_192 : decode b_M_close 192 = .ok (.getfield 39, 3) := by decide +kernel
theorem de_M_close_195 : decode b_M_close 195 = .ok (.iload 6, 2) := by decide +kernel
theorem de_M_close_197 : decode b_M_close 197 = .ok (.iload 5, 2) := by decide +kernel
theorem de_M_close_199 : decode b_M_close 199 = .ok (.iadd, 1) := by decide +kernel
theorem de_M_close_200 : decode b_M_close 200 = .ok (.iconst 1, 1) := by decide +kernel
theorem de_M_close_201 : decode b_M_close 201 = .ok (.iadd, 1) := by decide +kernel
theorem de_M_close_202 : decode b_M_close 202 = .ok (.iaload, 1) := by decide +kernel
theorem de_M_close_203 : decode b_M_close 203 = .ok (.iastore, 1) := by decide +kernel
theorem de_M_close_204 : decode b_M_close 204 = .ok (.iinc 6 1, 3) := by decide +kernel
theorem de_M_close_207 : decode b_M_close 207 = .ok (.goto (-31), 3) := by decide +kernel
theorem de_M_close_210 : decode b_M_close 210 = .ok (.aload_n 0, 1) := by decide +kernel
theorem de_M_close_211 : decode b_M_close 211 = .ok (.getfield 27, 3) := by decide +kernel
theorem de_M_close_214 : decode b_M_close 214 = .ok (.iload_n 1, 1) := by decide +kernel
theorem de_M_close_215 : decode b_M_close 215 = .ok (.iaload, 1) := by decide +kernel
theorem de_M_close_216 : decode b_M_close 216 = .ok (.ireturn, 1) := by decide +kernel
theorem de_M_isCode_0 : decode b_M_isCode 0 = .ok (.iconst 1, 1) := by decide +kernel
theorem de_M_isCode_1 : decode b_M_isCode 1 = .ok (.istore_n 2, 1) := by decide +kernel
theorem de_M_isCode_2 : decode b_M_isCode 2 = .ok (.iload_n 2, 1) := by decide +kernel
theorem de_M_isCode_3 : decode b_M_isCode 3 = .ok (.aload_n 0, 1) := by decide +kernel
theorem de_M_isCode_4 : decode b_M_isCode 4 = .ok (.getfield 45, 3) := by decide +kernel
theorem de_M_isCode_7 : decode b_M_isCode 7 = .ok (.if_icmp .gt 21, 3) := by decide +kernel
theorem de_M_isCode_10 : decode b_M_isCode 10 = .ok (.aload_n 0, 1) := by decide +kernel
theorem de_M_isCode_11 : decode b_M_isCode 11 = .ok (.getfield 27, 3) := by decide +kernel
theorem de_M_isCode_14 : decode b_M_isCode 14 = .ok (.iload_n 2, 1) := by decide +kernel
theorem de_M_isCode_15 : decode b_M_isCode 15 = .ok (.iaload, 1) := by decide +kernel
theorem de_M_isCode_16 : decode b_M_isCode 16 = .ok (.iload_n 1, 1) := by decide +kernel
theorem de_M_isCode_17 : decode b_M_isCode 17 = .ok (.if_icmp .ne 5, 3) := by decide +kernel
theorem de_M_isCode_20 : decode b_M_isCode 20 = .ok (.iconst 1, 1) := by decide +kernel
theorem de_M_isCode_21 : decode b_M_isCode 21 = .ok (.ireturn, 1) := by decide +kernel
theorem de_M_isCode_22 : decode b_M_isCode 22 = .ok (.iinc 2 1, 3) := by decide +kernel
theorem de_M_isCode_25 : decode b_M_isCode 25 = .ok (.goto (-23), 3) := by decide +kernel
theorem de_M_isCode_28 : decode b_M_isCode 28 = .ok (.iconst 0, 1) := by decide +kernel
theorem de_M_isCode_29 : decode b_M_isCode 29 = .ok (.ireturn, 1) := by decide +kernel
theorem de_M_type_0 : decode b_M_type 0 = .ok (.iload_n 1, 1) := by decide +kernel
theorem de_M_type_1 : decode b_M_type 1 = .ok (.i2l, 1) := by decide +kernel
theorem de_M_type_2 : decode b_M_type 2 = .ok (.lconst 0, 1) := by decide +kernel
theorem de_M_type_3 : decode b_M_type 3 = .ok (.ldc2_w 55, 3) := by decide +kernel
theorem de_M_type_6 : decode b_M_type 6 = .ok (.invokestatic 49, 3) := by decide +kernel
theorem de_M_type_9 : decode b_M_type 9 = .ok (.ifCond .eq 11, 3) := by decide +kernel
theorem de_M_type_12 : decode b_M_type 12 = .ok (.aload_n 0, 1) := by decide +kernel
theorem de_M_type_13 : decode b_M_type 13 = .ok (.lload_n 2, 1) := by decide +kernel
theorem de_M_type_14 : decode b_M_type 14 = .ok (.invokevirtual 82, 3) := by decide +kernel
theorem de_M_type_17 : decode b_M_type 17 = .ok (.ifCond .eq 6, 3) := by decide +kernel
theorem de_M_type_20 : decode b_M_type 20 = .ok (.bipush (-12), 2) := by decide +kernel
theorem de_M_type_22 : decode b_M_type 22 = .ok (.ireturn, 1) := by decide +kernel
theorem de_M_type_23 : decode b_M_type 23 = .ok (.aload_n 0, 1) := by decide +kernel
theorem de_M_type_24 : decode b_M_type 24 = .ok (.lload_n 2, 1) := by decide +kernel
theorem de_M_type_25 : decode b_M_type 25 = .ok (.invokevirtual 86, 3) := by decide +kernel
theorem de_M_type_28 : decode b_M_type 28 = .ok (.lload_n 2, 1) := by decide +kernel
theorem de_M_type_29 : decode b_M_type 29 = .ok (.aload_n 0, 1) := by decide +kernel
theorem de_M_type_30 : decode b_M_type 30 = .ok (.getfield 93, 3) := by decide +kernel
theorem de_M_type_33 : decode b_M_type 33 = .ok (.lcmp, 1) := by decide +kernel
theorem de_M_type_34 : decode b_M_type 34 = .ok (.ifCond .ge 5, 3) := by decide +kernel
theorem de_M_type_37 : decode b_M_type 37 = .ok (.iconst (-1), 1) := by decide +kernel
theorem de_M_type_38 : decode b_M_type 38 = .ok (.ireturn, 1) := by decide +kernel
theorem de_M_type_39 : decode b_M_type 39 = .ok (.iconst 1, 1) := by decide +kernel
theorem de_M_type_40 : decode b_M_type 40 = .ok (.istore 4, 2) := by decide +kernel
theorem de_M_type_42 : decode b_M_type 42 = .ok (.iload 4, 2) := by decide +kernel
theorem de_M_type_44 : decode b_M_type 44 = .ok (.aload_n 0, 1) := by decide +kernel
theorem de_M_type_45 : decode b_M_type 45 = .ok (.getfield 45, 3) := by decide +kernel
theorem de_M_type_48 : decode b_M_type 48 = .ok (.if_icmp .gt 52, 3) := by decide +kernel
theorem de_M_type_51 : decode b_M_type 51 = .ok (.aload_n 0, 1) := by decide +kernel
theorem de_M_type_52 : decode b_M_type 52 = .ok (.getfield 27, 3) := by decide +kernel
theorem de_M_type_55 : decode b_M_type 55 = .ok (.iload 4, 2) := by decide +kernel
theorem de_M_type_57 : decode b_M_type 57 = .ok (.iaload, 1) := by decide +kernel
theorem de_M_type_58 : decode b_M_type 58 = .ok (.iload_n 1, 1) := by decide +kernel
theorem de_M_type_59 : decode b_M_type 59 = .ok (.if_icmp .ne 35, 3) := by decide +kernel
theorem de_M_type_62 : decode b_M_type 62 = .ok (.aload_n 0, 1) := by decide +kernel
theorem de_M_type_63 : decode b_M_type 63 = .ok (.getfield 13, 3) := by decide +kernel
theorem de_M_type_66 : decode b_M_type 66 = .ok (.iload 4, 2) := by decide +kernel
theorem de_M_type_68 : decode b_M_type 68 = .ok (.iaload, 1) := by decide +kernel
theorem de_M_type_69 : decode b_M_type 69 = .ok (.ifCond .ne 25, 3) := by decide +kernel
theorem de_M_type_72 : decode b_M_type 72 = .ok (.aload_n 0, 1) := by decide +kernel
theorem de_M_type_73 : decode b_M_type 73 = .ok (.iload 4, 2) := by decide +kernel
theorem de_M_type_75 : decode b_M_type 75 = .ok (.invokevirtual 96, 3) := by decide +kernel
theorem de_M_type_78 : decode b_M_type 78 = .ok (.pop, 1) := by decide +kernel
theorem de_M_type_79 : decode b_M_type 79 = .ok (.aload_n 0, 1) := by decide +kernel
theorem de_M_type_80 : decode b_M_type 80 = .ok (.iload 4, 2) := by decide +kernel
theorem de_M_type_82 : decode b_M_type 82 = .ok (.iconst 1, 1) := by decide +kernel
theorem de_M_type_83 : decode b_M_type 83 = .ok (.invokevirtual 100, 3) := by decide +kernel
theorem de_M_type_86 : decode b_M_type 86 = .ok (.aload_n 0, 1) := by decide +kernel
theorem de_M_type_87 : decode b_M_type 87 = .ok (.iconst 0, 1) := by decide +kernel
theorem de_M_type_88 : decode b_M_type 88 = .ok (.putfield 104, 3) := by decide +kernel
theorem de_M_type_91 : decode b_M_type 91 = .ok (.iload 4, 2) := by decide +kernel
theorem de_M_type_93 : decode b_M_type 93 = .ok (.ireturn, 1) := by decide +kernel
theorem de_M_type_94 : decode b_M_type 94 = .ok (.iinc 4 1, 3) := by decide +kernel
theorem de_M_type_97 : decode b_M_type 97 = .ok (.goto (-55), 3) := by decide +kernel
theorem de_M_type_100 : decode b_M_type 100 = .ok (.aload_n 0, 1) := by decide +kernel
theorem de_M_type_101 : decode b_M_type 101 = .ok (.dup, 1) := by decide +kernel
theorem de_M_type_102 : decode b_M_type 102 = .ok (.getfield 104, 3) := by decide +kernel
theorem de_M_type_105 : decode b_M_type 105 = .ok (.iconst 1, 1) := by decide +kernel
theorem de_M_type_106 : decode b_M_type 106 = .ok (.iadd, 1) := by decide +kernel
theorem de_M_type_107 : decode b_M_type 107 = .ok (.putfield 104, 3) := by decide +kernel
theorem de_M_type_110 : decode b_M_type 110 = .ok (.aload_n 0, 1) := by decide +kernel
theorem de_M_type_111 : decode b_M_type 111 = .ok (.getfield 104, 3) := by decide +kernel
theorem de_M_type_114 : decode b_M_type 114 = .ok (.iconst 3, 1) := by decide +kernel
theorem de_M_type_115 : decode b_M_type 115 = .ok (.if_icmp .ne 17, 3) := by decide +kernel
theorem de_M_type_118 : decode b_M_type 118 = .ok (.aload_n 0, 1) := by decide +kernel
theorem de_M_type_119 : decode b_M_type 119 = .ok (.iconst 0, 1) := by decide +kernel
theorem de_M_type_120 : decode b_M_type 120 = .ok (.putfield 104, 3) := by decide +kernel
theorem de_M_type_123 : decode b_M_type 123 = .ok (.aload_n 0, 1) := by decide +kernel
theorem de_M_type_124 : decode b_M_type 124 = .ok (.lload_n 2, 1) := by decide +kernel
theorem de_M_type_125 : decode b_M_type 125 = .ok (.ldc2_w 107, 3) := by decide +kernel
theorem de_M_type_128 : decode b_M_type 128 = .ok (.ladd, 1) := by decide +kernel
theorem de_M_type_129 : decode b_M_type 129 = .ok (.putfield 93, 3) := by decide +kernel
theorem de_M_type_132 : decode b_M_type 132 = .ok (.iconst 0, 1) := by decide +kernel
theorem de_M_type_133 : decode b_M_type 133 = .ok (.ireturn, 1) := by decide +kernel
theorem de_M_out_0 : decode b_M_out 0 = .ok (.aload_n 0, 1) := by decide +kernel
theorem de_M_out_1 : decode b_M_out 1 = .ok (.getfield 24, 3) := by decide +kernel
theorem de_M_out_4 : decode b_M_out 4 = .ok (.iload_n 1, 1) := by decide +kernel
theorem de_M_out_5 : decode b_M_out 5 = .ok (.iaload, 1) := by decide +kernel
theorem de_M_out_6 : decode b_M_out 6 = .ok (.istore_n 2, 1) := by decide +kernel
theorem de_M_out_7 : decode b_M_out 7 = .ok (.aload_n 0, 1) := by decide +kernel
theorem de_M_out_8 : decode b_M_out 8 = .ok (.getfield 24, 3) := by decide +kernel
theorem de_M_out_11 : decode b_M_out 11 = .ok (.iload_n 1, 1) := by decide +kernel
theorem de_M_out_12 : decode b_M_out 12 = .ok (.iconst 0, 1) := by decide +kernel
theorem de_M_out_13 : decode b_M_out 13 = .ok (.iastore, 1) := by decide +kernel
theorem de_M_out_14 : decode b_M_out 14 = .ok (.aload_n 0, 1) := by decide +kernel
theorem de_M_out_15 : decode b_M_out 15 = .ok (.getfield 27, 3) := by decide +kernel
theorem de_M_out_18 : decode b_M_out 18 = .ok (.iload_n 1, 1) := by decide +kernel
theorem de_M_out_19 : decode b_M_out 19 = .ok (.iconst (-1), 1) := by decide +kernel
theorem de_M_out_20 : decode b_M_out 20 = .ok (.iastore, 1) := by decide +kernel
theorem de_M_out_21 : decode b_M_out 21 = .ok (.aload_n 0, 1) := by decide +kernel
theorem de_M_out_22 : decode b_M_out 22 = .ok (.getfield 33, 3) := by decide +kernel
theorem de_M_out_25 : decode b_M_out 25 = .ok (.iload_n 1, 1) := by decide +kernel
theorem de_M_out_26 : decode b_M_out 26 = .ok (.iconst 0, 1) := by decide +kernel
theorem de_M_out_27 : decode b_M_out 27 = .ok (.bastore, 1) := by decide +kernel
theorem de_M_out_28 : decode b_M_out 28 = .ok (.iload_n 2, 1) := by decide +kernel
theorem de_M_out_29 : decode b_M_out 29 = .ok (.ireturn, 1) := by decide +kernel
theorem de_M_open_0 : decode b_M_open 0 = .ok (.aload_n 0, 1) := by decide +kernel
theorem de_M_open_1 : decode b_M_open 1 = .ok (.getfield 13, 3) := by decide +kernel
theorem de_M_open_4 : decode b_M_open 4 = .ok (.iload_n 1, 1) := by decide +kernel
theorem de_M_open_5 : decode b_M_open 5 = .ok (.iload_n 2, 1) := by decide +kernel
theorem de_M_open_6 : decode b_M_open 6 = .ok (.iastore, 1) := by decide +kernel
theorem de_M_open_7 : decode b_M_open 7 = .ok (.aload_n 0, 1) := by decide +kernel
theorem de_M_open_8 : decode b_M_open 8 = .ok (.getfield 16, 3) := by decide +kernel
theorem de_M_open_11 : decode b_M_open 11 = .ok (.iload_n 1, 1) := by decide +kernel
theorem de_M_open_12 : decode b_M_open 12 = .ok (.aload_n 0, 1) := by decide +kernel
theorem de_M_open_13 : decode b_M_open 13 = .ok (.getfield 60, 3) := by decide +kernel
theorem de_M_open_16 : decode b_M_open 16 = .ok (.lastore, 1) := by decide +kernel
theorem de_M_open_17 : decode b_M_open 17 = .ok (.aload_n 0, 1) := by decide +kernel
theorem de_M_open_18 : decode b_M_open 18 = .ok (.getfield 20, 3) := by decide +kernel
theorem de_M_open_21 : decode b_M_open 21 = .ok (.iload_n 1, 1) := by decide +kernel
theorem de_M_open_22 : decode b_M_open 22 = .ok (.iconst 0, 1) := by decide +kernel
theorem de_M_open_23 : decode b_M_open 23 = .ok (.bastore, 1) := by decide +kernel
theorem de_M_open_24 : decode b_M_open 24 = .ok (.return_, 1) := by decide +kernel
theorem de_M_code_0 : decode b_M_code 0 = .ok (.iload_n 1, 1) := by decide +kernel
theorem de_M_code_1 : decode b_M_code 1 = .ok (.i2l, 1) := by decide +kernel
theorem de_M_code_2 : decode b_M_code 2 = .ok (.lconst 1, 1) := by decide +kernel
theorem de_M_code_3 : decode b_M_code 3 = .ok (.ldc2_w 80, 3) := by decide +kernel
theorem de_M_code_6 : decode b_M_code 6 = .ok (.invokestatic 49, 3) := by decide +kernel
theorem de_M_code_9 : decode b_M_code 9 = .ok (.ifCond .ne 6, 3) := by decide +kernel
theorem de_M_code_12 : decode b_M_code 12 = .ok (.bipush (-12), 2) := by decide +kernel
theorem de_M_code_14 : decode b_M_code 14 = .ok (.ireturn, 1) := by decide +kernel
theorem de_M_code_15 : decode b_M_code 15 = .ok (.iconst 1, 1) := by decide +kernel
theorem de_M_code_16 : decode b_M_code 16 = .ok (.istore_n 2, 1) := by decide +kernel
theorem de_M_code_17 : decode b_M_code 17 = .ok (.iload_n 2, 1) := by decide +kernel
theorem de_M_code_18 : decode b_M_code 18 = .ok (.aload_n 0, 1) := by decide +kernel
theorem de_M_code_19 : decode b_M_code 19 = .ok (.getfield 45, 3) := by decide +kernel
theorem de_M_code_22 : decode b_M_code 22 = .ok (.if_icmp .gt 26, 3) := by decide +kernel
theorem de_M_code_25 : decode b_M_code 25 = .ok (.aload_n 0, 1) := by decide +kernel
theorem de_M_code_26 : decode b_M_code 26 = .ok (.getfield 24, 3) := by decide +kernel
theorem de_M_code_29 : decode b_M_code 29 = .ok (.iload_n 2, 1) := by decide +kernel
theorem de_M_code_30 : decode b_M_code 30 = .ok (.iaload, 1) := by decide +kernel
theorem de_M_code_31 : decode b_M_code 31 = .ok (.iload_n 1, 1) := by decide +kernel
theorem de_M_code_32 : decode b_M_code 32 = .ok (.if_icmp .ne 10, 3) := by decide +kernel
theorem de_M_code_35 : decode b_M_code 35 = .ok (.aload_n 0, 1) := by decide +kernel
theorem de_M_code_36 : decode b_M_code 36 = .ok (.getfield 27, 3) := by decide +kernel
theorem de_M_code_39 : decode b_M_code 39 = .ok (.iload_n 2, 1) := by decide +kernel
theorem de_M_code_40 : decode b_M_code 40 = .ok (.iaload, 1) := by decide +kernel
theorem de_M_code_41 : decode b_M_code 41 = .ok (.ireturn, 1) := by decide +kernel
theorem de_M_code_42 : decode b_M_code 42 = .ok (.iinc 2 1, 3) := by decide +kernel
theorem de_M_code_45 : decode b_M_code 45 = .ok (.goto (-28), 3) := by decide +kernel
theorem de_M_code_48 : decode b_M_code 48 = .ok (.iconst (-1), 1) := by decide +kernel
theorem de_M_code_49 : decode b_M_code 49 = .ok (.ireturn, 1) := by decide +kernel
theorem de_M_door_0 : decode b_M_door 0 = .ok (.aload_n 0, 1) := by decide +kernel
theorem de_M_door_1 : decode b_M_door 1 = .ok (.iload_n 1, 1) := by decide +kernel
theorem de_M_door_2 : decode b_M_door 2 = .ok (.invokevirtual 76, 3) := by decide +kernel
theorem de_M_door_5 : decode b_M_door 5 = .ok (.ifCond .ne 6, 3) := by decide +kernel
theorem de_M_door_8 : decode b_M_door 8 = .ok (.bipush (-11), 2) := by decide +kernel
theorem de_M_door_10 : decode b_M_door 10 = .ok (.ireturn, 1) := by decide +kernel
theorem de_M_door_11 : decode b_M_door 11 = .ok (.iload_n 2, 1) := by decide +kernel
theorem de_M_door_12 : decode b_M_door 12 = .ok (.i2l, 1) := by decide +kernel
theorem de_M_door_13 : decode b_M_door 13 = .ok (.lconst 0, 1) := by decide +kernel
theorem de_M_door_14 : decode b_M_door 14 = .ok (.ldc2_w 109, 3) := by decide +kernel
theorem de_M_door_17 : decode b_M_door 17 = .ok (.invokestatic 49, 3) := by decide +kernel
theorem de_M_door_20 : decode b_M_door 20 = .ok (.ifCond .eq 11, 3) := by decide +kernel
theorem de_M_door_23 : decode b_M_door 23 = .ok (.aload_n 0, 1) := by decide +kernel
theorem de_M_door_24 : decode b_M_door 24 = .ok (.lload_n 3, 1) := by decide +kernel
theorem de_M_door_25 : decode b_M_door 25 = .ok (.invokevirtual 82, 3) := by decide +kernel
theorem de_M_door_28 : decode b_M_door 28 = .ok (.ifCond .eq 6, 3) := by decide +kernel
theorem de_M_door_31 : decode b_M_door 31 = .ok (.bipush (-12), 2) := by decide +kernel
theorem de_M_door_33 : decode b_M_door 33 = .ok (.ireturn, 1) := by decide +kernel
theorem de_M_door_34 : decode b_M_door 34 = .ok (.aload_n 0, 1) := by decide +kernel
theorem de_M_door_35 : decode b_M_door 35 = .ok (.lload_n 3, 1) := by decide +kernel
theorem de_M_door_36 : decode b_M_door 36 = .ok (.invokevirtual 86, 3) := by decide +kernel
theorem de_M_door_39 : decode b_M_door 39 = .ok (.aload_n 0, 1) := by decide +kernel
theorem de_M_door_40 : decode b_M_door 40 = .ok (.getfield 13, 3) := by decide +kernel
theorem de_M_door_43 : decode b_M_door 43 = .ok (.iload_n 1, 1) := by decide +kernel
theorem de_M_door_44 : decode b_M_door 44 = .ok (.iaload, 1) := by decide +kernel
theorem de_M_door_45 : decode b_M_door 45 = .ok (.istore 5, 2) := by decide +kernel
theorem de_M_door_47 : decode b_M_door 47 = .ok (.iload_n 2, 1) := by decide +kernel
theorem de_M_door_48 : decode b_M_door 48 = .ok (.ifCond .ne 16, 3) := by decide +kernel
theorem de_M_door_51 : decode b_M_door 51 = .ok (.iload 5, 2) := by decide +kernel
theorem de_M_door_53 : decode b_M_door 53 = .ok (.ifCond .ne 7, 3) := by decide +kernel
theorem de_M_door_56 : decode b_M_door 56 = .ok (.iconst 1, 1) := by decide +kernel
theorem de_M_door_57 : decode b_M_door 57 = .ok (.goto 99, 3) := by decide +kernel
theorem de_M_door_60 : decode b_M_door 60 = .ok (.iconst 0, 1) := by decide +kernel
theorem de_M_door_61 : decode b_M_door 61 = .ok (.goto 95, 3) := by decide +kernel
theorem de_M_door_64 : decode b_M_door 64 = .ok (.iload_n 2, 1) := by decide +kernel
theorem de_M_door_65 : decode b_M_door 65 = .ok (.iconst 1, 1) := by decide +kernel
theorem de_M_door_66 : decode b_M_door 66 = .ok (.if_icmp .ne 22, 3) := by decide +kernel
theorem de_M_door_69 : decode b_M_door 69 = .ok (.iload 5, 2) := by decide +kernel
theorem de_M_door_71 : decode b_M_door 71 = .ok (.ifCond .eq 9, 3) := by decide +kernel
theorem de_M_door_74 : decode b_M_door 74 = .ok (.iload 5, 2) := by decide +kernel
theorem de_M_door_76 : decode b_M_door 76 = .ok (.iconst 1, 1) := by decide +kernel
theorem de_M_door_77 : decode b_M_door 77 = .ok (.if_icmp .ne 7, 3) := by decide +kernel
theorem de_M_door_80 : decode b_M_door 80 = .ok (.iconst 1, 1) := by decide +kernel
theorem de_M_door_81 : decode b_M_door 81 = .ok (.goto 75, 3) := by decide +kernel
theorem de_M_door_84 : decode b_M_door 84 = .ok (.iconst 0, 1) := by decide +kernel
theorem de_M_door_85 : decode b_M_door 85 = .ok (.goto 71, 3) := by decide +kernel
theorem de_M_door_88 : decode b_M_door 88 = .ok (.iload_n 2, 1) := by decide +kernel
theorem de_M_door_89 : decode b_M_door 89 = .ok (.iconst 2, 1) := by decide +kernel
theorem de_M_door_90 : decode b_M_door 90 = .ok (.if_icmp .ne 17, 3) := by decide +kernel
theorem de_M_door_93 : decode b_M_door 93 = .ok (.iload 5, 2) := by decide +kernel
theorem de_M_door_95 : decode b_M_door 95 = .ok (.iconst 2, 1) := by decide +kernel
theorem de_M_door_96 : decode b_M_door 96 = .ok (.if_icmp .ne 7, 3) := by decide +kernel
theorem de_M_door_99 : decode b_M_door 99 = .ok (.iconst 1, 1) := by decide +kernel
theorem de_M_door_100 : decode b_M_door 100 = .ok (.goto 56, 3) := by decide +kernel
theorem de_M_door_103 : decode b_M_door 103 = .ok (.iconst 0, 1) := by decide +kernel
theorem de_M_door_104 : decode b_M_door 104 = .ok (.goto 52, 3) := by decide +kernel
theorem de_M_door_107 : decode b_M_door 107 = .ok (.iload_n 2, 1) := by decide +kernel
theorem de_M_door_108 : decode b_M_door 108 = .ok (.iconst 3, 1) := by decide +kernel
theorem de_M_door_109 : decode b_M_door 109 = .ok (.if_icmp .ne 36, 3) := by decide +kernel
theorem de_M_door_112 : decode b_M_door 112 = .ok (.iload 5, 2) := by decide +kernel
theorem de_M_door_114 : decode b_M_door 114 = .ok (.ifCond .ne 27, 3) := by decide +kernel
theorem de_M_door_117 : decode b_M_door 117 = .ok (.aload_n 0, 1) := by decide +kernel
theorem de_M_door_118 : decode b_M_door 118 = .ok (.getfield 24, 3) := by decide +kernel
theorem de_M_door_121 : decode b_M_door 121 = .ok (.iload_n 1, 1) := by decide +kernel
theorem de_M_door_122 : decode b_M_door 122 = .ok (.iaload, 1) := by decide +kernel
theorem de_M_door_123 : decode b_M_door 123 = .ok (.ifCond .ne 18, 3) := by decide +kernel
theorem de_M_door_126 : decode b_M_door 126 = .ok (.aload_n 0, 1) := by decide +kernel
theorem de_M_door_127 : decode b_M_door 127 = .ok (.getfield 36, 3) := by decide +kernel
theorem de_M_door_130 : decode b_M_door 130 = .ok (.iload_n 1, 1) := by decide +kernel
theorem de_M_door_131 : decode b_M_door 131 = .ok (.laload, 1) := by decide +kernel
theorem de_M_door_132 : decode b_M_door 132 = .ok (.lconst 0, 1) := by decide +kernel
theorem de_M_door_133 : decode b_M_door 133 = .ok (.lcmp, 1) := by decide +kernel
theorem de_M_door_134 : decode b_M_door 134 = .ok (.ifCond .ne 7, 3) := by decide +kernel
theorem de_M_door_137 : decode b_M_door 137 = .ok (.iconst 1, 1) := by decide +kernel
theorem de_M_door_138 : decode b_M_door 138 = .ok (.goto 18, 3) := by decide +kernel
theorem de_M_door_141 : decode b_M_door 141 = .ok (.iconst 0, 1) := by decide +kernel
theorem de_M_door_142 : decode b_M_door 142 = .ok (.goto 14, 3) := by decide +kernel
theorem de_M_door_145 : decode b_M_door 145 = .ok (.iload 5, 2) := by decide +kernel
theorem de_M_door_147 : decode b_M_door 147 = .ok (.iconst 3, 1) := by decide +kernel
theorem de_M_door_148 : decode b_M_door 148 = .ok (.if_icmp .ne 7, 3) := by decide +kernel
theorem de_M_door_151 : decode b_M_door 151 = .ok (.iconst 1, 1) := by decide +kernel
theorem de_M_door_152 : decode b_M_door 152 = .ok (.goto 4, 3) := by decide +kernel
theorem de_M_door_155 : decode b_M_door 155 = .ok (.iconst 0, 1) := by decide +kernel
theorem de_M_door_156 : decode b_M_door 156 = .ok (.istore 6, 2) := by decide +kernel
theorem de_M_door_158 : decode b_M_door 158 = .ok (.iload 6, 2) := by decide +kernel
theorem de_M_door_160 : decode b_M_door 160 = .ok (.ifCond .ne 6, 3) := by decide +kernel
theorem de_M_door_163 : decode b_M_door 163 = .ok (.bipush (-13), 2) := by decide +kernel
theorem de_M_door_165 : decode b_M_door 165 = .ok (.ireturn, 1) := by decide +kernel
theorem de_M_door_166 : decode b_M_door 166 = .ok (.iload_n 2, 1) := by decide +kernel
theorem de_M_door_167 : decode b_M_door 167 = .ok (.iconst 2, 1) := by decide +kernel
theorem de_M_door_168 : decode b_M_door 168 = .ok (.if_icmp .ge 20, 3) := by decide +kernel
theorem de_M_door_171 : decode b_M_door 171 = .ok (.aload_n 0, 1) := by decide +kernel
theorem de_M_door_172 : decode b_M_door 172 = .ok (.iload_n 1, 1) := by decide +kernel
theorem de_M_door_173 : decode b_M_door 173 = .ok (.iload_n 2, 1) := by decide +kernel
theorem de_M_door_174 : decode b_M_door 174 = .ok (.ifCond .ne 7, 3) := by decide +kernel
theorem de_M_door_177 : decode b_M_door 177 = .ok (.iconst 1, 1) := by decide +kernel
theorem de_M_door_178 : decode b_M_door 178 = .ok (.goto 4, 3) := by decide +kernel
theorem de_M_door_181 : decode b_M_door 181 = .ok (.iconst 2, 1) := by decide +kernel
theorem de_M_door_182 : decode b_M_door 182 = .ok (.invokevirtual 100, 3) := by decide +kernel
theorem de_M_door_185 : decode b_M_door 185 = .ok (.goto 19, 3) := by decide +kernel
theorem de_M_door_188 : decode b_M_door 188 = .ok (.aload_n 0, 1) := by decide +kernel
theorem de_M_door_189 : decode b_M_door 189 = .ok (.getfield 13, 3) := by decide +kernel
theorem de_M_door_192 : decode b_M_door 192 = .ok (.iload_n 1, 1) := by decide +kernel
theorem de_M_door_193 : decode b_M_door 193 = .ok (.iload_n 2, 1) := by decide +kernel
theorem de_M_door_194 : decode b_M_door 194 = .ok (.iconst 3, 1) := by decide +kernel
theorem de_M_door_195 : decode b_M_door 195 = .ok (.if_icmp .ne 7, 3) := by decide +kernel
theorem de_M_door_198 : decode b_M_door 198 = .ok (.iconst 3, 1) := by decide +kernel
theorem de_M_door_199 : decode b_M_door 199 = .ok (.goto 4, 3) := by decide +kernel
theorem de_M_door_202 : decode b_M_door 202 = .ok (.iconst 0, 1) := by decide +kernel
theorem de_M_door_203 : decode b_M_door 203 = .ok (.iastore, 1) := by decide +kernel
theorem de_M_door_204 : decode b_M_door 204 = .ok (.aload_n 0, 1) := by decide +kernel
theorem de_M_door_205 : decode b_M_door 205 = .ok (.getfield 13, 3) := by decide +kernel
theorem de_M_door_208 : decode b_M_door 208 = .ok (.iload_n 1, 1) := by decide +kernel
theorem de_M_door_209 : decode b_M_door 209 = .ok (.iaload, 1) := by decide +kernel
theorem de_M_door_210 : decode b_M_door 210 = .ok (.ireturn, 1) := by decide +kernel
theorem de_M_tick_0 : decode b_M_tick 0 = .ok (.aload_n 0, 1) := by decide +kernel
theorem de_M_tick_1 : decode b_M_tick 1 = .ok (.lload_n 1, 1) := by decide +kernel
theorem de_M_tick_2 : decode b_M_tick 2 = .ok (.invokevirtual 82, 3) := by decide +kernel
theorem de_M_tick_5 : decode b_M_tick 5 = .ok (.ifCond .eq 6, 3) := by decide +kernel
theorem de_M_tick_8 : decode b_M_tick 8 = .ok (.bipush (-12), 2) := by decide +kernel
theorem de_M_tick_10 : decode b_M_tick 10 = .ok (.ireturn, 1) := by decide +kernel
theorem de_M_tick_11 : decode b_M_tick 11 = .ok (.aload_n 0, 1) := by decide +kernel
theorem de_M_tick_12 : decode b_M_tick 12 = .ok (.lload_n 1, 1) := by decide +kernel
theorem de_M_tick_13 : decode b_M_tick 13 = .ok (.invokevirtual 86, 3) := by decide +kernel
theorem de_M_tick_16 : decode b_M_tick 16 = .ok (.aload_n 0, 1) := by decide +kernel
theorem de_M_tick_17 : decode b_M_tick 17 = .ok (.getfield 71, 3) := by decide +kernel
theorem de_M_tick_20 : decode b_M_tick 20 = .ok (.istore_n 3, 1) := by decide +kernel
theorem de_M_tick_21 : decode b_M_tick 21 = .ok (.aload_n 0, 1) := by decide +kernel
theorem de_M_tick_22 : decode b_M_tick 22 = .ok (.iconst 0, 1) := by decide +kernel
theorem de_M_tick_23 : decode b_M_tick 23 = .ok (.putfield 71, 3) := by decide +kernel
theorem de_M_tick_26 : decode b_M_tick 26 = .ok (.iload_n 3, 1) := by decide +kernel
theorem de_M_tick_27 : decode b_M_tick 27 = .ok (.ireturn, 1) := by decide +kernel
theorem de_M_take_0 : decode b_M_take 0 = .ok (.aload_n 0, 1) := by decide +kernel
theorem de_M_take_1 : decode b_M_take 1 = .ok (.iload_n 1, 1) := by decide +kernel
theorem de_M_take_2 : decode b_M_take 2 = .ok (.invokevirtual 76, 3) := by decide +kernel
theorem de_M_take_5 : decode b_M_take 5 = .ok (.ifCond .ne 6, 3) := by decide +kernel
theorem de_M_take_8 : decode b_M_take 8 = .ok (.bipush (-11), 2) := by decide +kernel
theorem de_M_take_10 : decode b_M_take 10 = .ok (.ireturn, 1) := by decide +kernel
theorem de_M_take_11 : decode b_M_take 11 = .ok (.iload_n 2, 1) := by decide +kernel
theorem de_M_take_12 : decode b_M_take 12 = .ok (.i2l, 1) := by decide +kernel
theorem de_M_take_13 : decode b_M_take 13 = .ok (.lconst 0, 1) := by decide +kernel
theorem de_M_take_14 : decode b_M_take 14 = .ok (.ldc2_w 111, 3) := by decide +kernel
theorem de_M_take_17 : decode b_M_take 17 = .ok (.invokestatic 49, 3) := by decide +kernel
theorem de_M_take_20 : decode b_M_take 20 = .ok (.ifCond .ne 6, 3) := by decide +kernel
theorem de_M_take_23 : decode b_M_take 23 = .ok (.bipush (-12), 2) := by decide +kernel
theorem de_M_take_25 : decode b_M_take 25 = .ok (.ireturn, 1) := by decide +kernel
theorem de_M_take_26 : decode b_M_take 26 = .ok (.aload_n 0, 1) := by decide +kernel
theorem de_M_take_27 : decode b_M_take 27 = .ok (.getfield 13, 3) := by decide +kernel
theorem de_M_take_30 : decode b_M_take 30 = .ok (.iload_n 1, 1) := by decide +kernel
theorem de_M_take_31 : decode b_M_take 31 = .ok (.iaload, 1) := by decide +kernel
theorem de_M_take_32 : decode b_M_take 32 = .ok (.iconst 1, 1) := by decide +kernel
theorem de_M_take_33 : decode b_M_take 33 = .ok (.if_icmp .eq 13, 3) := by decide +kernel
theorem de_M_take_36 : decode b_M_take 36 = .ok (.aload_n 0, 1) := by decide +kernel
theorem de_M_take_37 : decode b_M_take 37 = .ok (.getfield 13, 3) := by decide +kernel
theorem de_M_take_40 : decode b_M_take 40 = .ok (.iload_n 1, 1) := by decide +kernel
theorem de_M_take_41 : decode b_M_take 41 = .ok (.iaload, 1) := by decide +kernel
theorem de_M_take_42 : decode b_M_take 42 = .ok (.iconst 2, 1) := by decide +kernel
theorem de_M_take_43 : decode b_M_take 43 = .ok (.if_icmp .ne 11, 3) := by decide +kernel
theorem de_M_take_46 : decode b_M_take 46 = .ok (.aload_n 0, 1) := by decide +kernel
theorem de_M_take_47 : decode b_M_take 47 = .ok (.iload_n 1, 1) := by decide +kernel
theorem de_M_take_48 : decode b_M_take 48 = .ok (.invokevirtual 96, 3) := by decide +kernel
theorem de_M_take_51 : decode b_M_take 51 = .ok (.goto 4, 3) := by decide +kernel
theorem de_M_take_54 : decode b_M_take 54 = .ok (.iconst 0, 1) := by decide +kernel
theorem de_M_take_55 : decode b_M_take 55 = .ok (.ireturn, 1) := by decide +kernel
theorem de_M_item_0 : decode b_M_item 0 = .ok (.aload_n 0, 1) := by decide +kernel
theorem de_M_item_1 : decode b_M_item 1 = .ok (.iload_n 1, 1) := by decide +kernel
theorem de_M_item_2 : decode b_M_item 2 = .ok (.invokevirtual 76, 3) := by decide +kernel
theorem de_M_item_5 : decode b_M_item 5 = .ok (.ifCond .ne 8, 3) := by decide +kernel
theorem de_M_item_8 : decode b_M_item 8 = .ok (.bipush (-11), 2) := by decide +kernel
theorem de_M_item_10 : decode b_M_item 10 = .ok (.goto 28, 3) := by decide +kernel
theorem de_M_item_13 : decode b_M_item 13 = .ok (.aload_n 0, 1) := by decide +kernel
theorem de_M_item_14 : decode b_M_item 14 = .ok (.getfield 33, 3) := by decide +kernel
theorem de_M_item_17 : decode b_M_item 17 = .ok (.iload_n 1, 1) := by decide +kernel
theorem de_M_item_18 : decode b_M_item 18 = .ok (.baload, 1) := by decide +kernel
theorem de_M_item_19 : decode b_M_item 19 = .ok (.ifCond .eq 13, 3) := by decide +kernel
theorem de_M_item_22 : decode b_M_item 22 = .ok (.aload_n 0, 1) := by decide +kernel
theorem de_M_item_23 : decode b_M_item 23 = .ok (.getfield 24, 3) := by decide +kernel
theorem de_M_item_26 : decode b_M_item 26 = .ok (.iload_n 1, 1) := by decide +kernel
theorem de_M_item_27 : decode b_M_item 27 = .ok (.iaload, 1) := by decide +kernel
theorem de_M_item_28 : decode b_M_item 28 = .ok (.ineg, 1) := by decide +kernel
theorem de_M_item_29 : decode b_M_item 29 = .ok (.goto 9, 3) := by decide +kernel
theorem de_M_item_32 : decode b_M_item 32 = .ok (.aload_n 0, 1) := by decide +kernel
theorem de_M_item_33 : decode b_M_item 33 = .ok (.getfield 24, 3) := by decide +kernel
theorem de_M_item_36 : decode b_M_item 36 = .ok (.iload_n 1, 1) := by decide +kernel
theorem de_M_item_37 : decode b_M_item 37 = .ok (.iaload, 1) := by decide +kernel
theorem de_M_item_38 : decode b_M_item 38 = .ok (.ireturn, 1) := by decide +kernel
theorem de_M_freed_0 : decode b_M_freed 0 = .ok (.iload_n 1, 1) := by decide +kernel
theorem de_M_freed_1 : decode b_M_freed 1 = .ok (.i2l, 1) := by decide +kernel
theorem de_M_freed_2 : decode b_M_freed 2 = .ok (.lconst 0, 1) := by decide +kernel
theorem de_M_freed_3 : decode b_M_freed 3 = .ok (.aload_n 0, 1) := by decide +kernel
theorem de_M_freed_4 : decode b_M_freed 4 = .ok (.getfield 66, 3) := by decide +kernel
theorem de_M_freed_7 : decode b_M_freed 7 = .ok (.iconst 1, 1) := by decide +kernel
theorem de_M_freed_8 : decode b_M_freed 8 = .ok (.isub, 1) := by decide +kernel
theorem de_M_freed_9 : decode b_M_freed 9 = .ok (.i2l, 1) := by decide +kernel
theorem de_M_freed_10 : decode b_M_freed 10 = .ok (.invokestatic 49, 3) := by decide +kernel
theorem de_M_freed_13 : decode b_M_freed 13 = .ok (.ifCond .eq 12, 3) := by decide +kernel
theorem de_M_freed_16 : decode b_M_freed 16 = .ok (.aload_n 0, 1) := by decide +kernel
theorem de_M_freed_17 : decode b_M_freed 17 = .ok (.getfield 42, 3) := by decide +kernel
theorem de_M_freed_20 : decode b_M_freed 20 = .ok (.iload_n 1, 1) := by decide +kernel
theorem de_M_freed_21 : decode b_M_freed 21 = .ok (.iaload, 1) := by decide +kernel
theorem de_M_freed_22 : decode b_M_freed 22 = .ok (.goto 4, 3) := by decide +kernel
theorem de_M_freed_25 : decode b_M_freed 25 = .ok (.iconst 0, 1) := by decide +kernel
theorem de_M_freed_26 : decode b_M_freed 26 = .ok (.ireturn, 1) := by decide +kernel
end
section
/-! decode rows: printed by gen/names.py -/
theorem de_L_law_0 : decode code 0 = .ok (.new 7, 3) := by decide +kernel
theorem de_L_law_3 : decode code 3 = .ok (.dup, 1) := by decide +kernel
theorem de_L_law_4 : decode code 4 = .ok (.invokespecial 9, 3) := by decide +kernel
theorem de_L_law_7 : decode code 7 = .ok (.astore_n 1, 1) := by decide +kernel
theorem de_L_law_8 : decode code 8 = .ok (.new 10, 3) := by decide +kernel
theorem de_L_law_11 : decode code 11 = .ok (.dup, 1) := by decide +kernel
theorem de_L_law_12 : decode code 12 = .ok (.invokespecial 12, 3) := by decide +kernel
theorem de_L_law_15 : decode code 15 = .ok (.astore_n 2, 1) := by decide +kernel
theorem de_L_law_16 : decode code 16 = .ok (.iconst 0, 1) := by decide +kernel
theorem de_L_law_17 : decode code 17 = .ok (.istore_n 3, 1) := by decide +kernel
theorem de_L_law_18 : decode code 18 = .ok (.iload_n 3, 1) := by decide +kernel
theorem de_L_law_19 : decode code 19 = .ok (.aload_n 0, 1) := by decide +kernel
theorem de_L_law_20 : decode code 20 = .ok (.arraylength, 1) := by decide +kernel
theorem de_L_law_21 : decode code 21 = .ok (.iconst 5, 1) := by decide +kernel
theorem de_L_law_22 : decode code 22 = .ok (.isub, 1) := by decide +kernel
theorem de_L_law_23 : decode code 23 = .ok (.if_icmp .gt 615, 3) := by decide +kernel
theorem de_L_law_26 : decode code 26 = .ok (.aload_n 0, 1) := by decide +kernel
theorem de_L_law_27 : decode code 27 = .ok (.iload_n 3, 1) := by decide +kernel
theorem de_L_law_28 : decode code 28 = .ok (.iaload, 1) := by decide +kernel
theorem de_L_law_29 : decode code 29 = .ok (.bipush 15, 2) := by decide +kernel
theorem de_L_law_31 : decode code 31 = .ok (.iand, 1) := by decide +kernel
theorem de_L_law_32 : decode code 32 = .ok (.tableswitch 600 0 11 #[64, 87, 110, 173, 246, 309, 372, 395, 468, 521, 554, 577], 64) := by decide +kernel
theorem de_L_law_96 : decode code 96 = .ok (.aload_n 1, 1) := by decide +kernel
theorem de_L_law_97 : decode code 97 = .ok (.aload_n 0, 1) := by decide +kernel
theorem de_L_law_98 : decode code 98 = .ok (.iload_n 3, 1) := by decide +kernel
theorem de_L_law_99 : decode code 99 = .ok (.iconst 1, 1) := by decide +kernel
theorem de_L_law_100 : decode code 100 = .ok (.iadd, 1) := by decide +kernel
theorem de_L_law_101 : decode code 101 = .ok (.iaload, 1) := by decide +kernel
theorem de_L_law_102 : decode code 102 = .ok (.invokevirtual 13, 3) := by decide +kernel
theorem de_L_law_105 : decode code 105 = .ok (.aload_n 2, 1) := by decide +kernel
theorem de_L_law_106 : decode code 106 = .ok (.aload_n 0, 1) := by decide +kernel
theorem de_L_law_107 : decode code 107 = .ok (.iload_n 3, 1) := by decide +kernel
theorem de_L_law_108 : decode code 108 = .ok (.iconst 1, 1) := by decide +kernel
theorem de_L_law_109 : decode code 109 = .ok (.iadd, 1) := by decide +kernel
theorem de_L_law_110 : decode code 110 = .ok (.iaload, 1) := by decide +kernel
theorem de_L_law_111 : decode code 111 = .ok (.invokevirtual 17, 3) := by decide +kernel
theorem de_L_law_114 : decode code 114 = .ok (.if_icmp .eq 518, 3) := by decide +kernel
theorem de_L_law_117 : decode code 117 = .ok (.iconst 0, 1) := by decide +kernel
theorem de_L_law_118 : decode code 118 = .ok (.ireturn, 1) := by decide +kernel
theorem de_L_law_119 : decode code 119 = .ok (.aload_n 1, 1) := by decide +kernel
theorem de_L_law_120 : decode code 120 = .ok (.aload_n 0, 1) := by decide +kernel
theorem de_L_law_121 : decode code 121 = .ok (.iload_n 3, 1) := by decide +kernel
theorem de_L_law_122 : decode code 122 = .ok (.iconst 1, 1) := by decide +kernel
theorem de_L_law_123 : decode code 123 = .ok (.iadd, 1) := by decide +kernel
theorem de_L_law_124 : decode code 124 = .ok (.iaload, 1) := by decide +kernel
theorem de_L_law_125 : decode code 125 = .ok (.invokevirtual 18, 3) := by decide +kernel
theorem de_L_law_128 : decode code 128 = .ok (.aload_n 2, 1) := by decide +kernel
theorem de_L_law_129 : decode code 129 = .ok (.aload_n 0, 1) := by decide +kernel
theorem de_L_law_130 : decode code 130 = .ok (.iload_n 3, 1) := by decide +kernel
theorem de_L_law_131 : decode code 131 = .ok (.iconst 1, 1) := by decide +kernel
theorem de_L_law_132 : decode code 132 = .ok (.iadd, 1) := by decide +kernel
theorem de_L_law_133 : decode code 133 = .ok (.iaload, 1) := by decide +kernel
theorem de_L_law_134 : decode code 134 = .ok (.invokevirtual 21, 3) := by decide +kernel
theorem de_L_law_137 : decode code 137 = .ok (.if_icmp .eq 495, 3) := by decide +kernel
theorem de_L_law_140 : decode code 140 = .ok (.iconst 0, 1) := by decide +kernel
theorem de_L_law_141 : decode code 141 = .ok (.ireturn, 1) := by decide +kernel
theorem de_L_law_142 : decode code 142 = .ok (.aload_n 1, 1) := by decide +kernel
theorem de_L_law_143 : decode code 143 = .ok (.aload_n 0, 1) := by decide +kernel
theorem de_L_law_144 : decode code 144 = .ok (.iload_n 3, 1) := by decide +kernel
theorem de_L_law_145 : decode code 145 = .ok (.iconst 1, 1) := by decide +kernel
theorem de_L_law_146 : decode code 146 = .ok (.iadd, 1) := by decide +kernel
theorem de_L_law_147 : decode code 147 = .ok (.iaload, 1) := by decide +kernel
theorem de_L_law_148 : decode code 148 = .ok (.aload_n 0, 1) := by decide +kernel
theorem de_L_law_149 : decode code 149 = .ok (.iload_n 3, 1) := by decide +kernel
theorem de_L_law_150 : decode code 150 = .ok (.iconst 2, 1) := by decide +kernel
theorem de_L_law_151 : decode code 151 = .ok (.iadd, 1) := by decide +kernel
theorem de_L_law_152 : decode code 152 = .ok (.iaload, 1) := by decide +kernel
theorem de_L_law_153 : decode code 153 = .ok (.i2l, 1) := by decide +kernel
theorem de_L_law_154 : decode code 154 = .ok (.bipush 32, 2) := by decide +kernel
theorem de_L_law_156 : decode code 156 = .ok (.lshl, 1) := by decide +kernel
theorem de_L_law_157 : decode code 157 = .ok (.aload_n 0, 1) := by decide +kernel
theorem de_L_law_158 : decode code 158 = .ok (.iload_n 3, 1) := by decide +kernel
theorem de_L_law_159 : decode code 159 = .ok (.iconst 3, 1) := by decide +kernel
theorem de_L_law_160 : decode code 160 = .ok (.iadd, 1) := by decide +kernel
theorem de_L_law_161 : decode code 161 = .ok (.iaload, 1) := by decide +kernel
theorem de_L_law_162 : decode code 162 = .ok (.i2l, 1) := by decide +kernel
theorem de_L_law_163 : decode code 163 = .ok (.ldc2_w 22, 3) := by decide +kernel
theorem de_L_law_166 : decode code 166 = .ok (.land, 1) := by decide +kernel
theorem de_L_law_167 : decode code 167 = .ok (.lor, 1) := by decide +kernel
theorem de_L_law_168 : decode code 168 = .ok (.invokevirtual 24, 3) := by decide +kernel
theorem de_L_law_171 : decode code 171 = .ok (.aload_n 2, 1) := by decide +kernel
theorem de_L_law_172 : decode code 172 = .ok (.aload_n 0, 1) := by decide +kernel
theorem de_L_law_173 : decode code 173 = .ok (.iload_n 3, 1) := by decide +kernel
theorem de_L_law_174 : decode code 174 = .ok (.iconst 1, 1) := by decide +kernel
theorem de_L_law_175 : decode code 175 = .ok (.iadd, 1) := by decide +kernel
theorem de_L_law_176 : decode code 176 = .ok (.iaload, 1) := by decide +kernel
theorem de_L_law_177 : decode code 177 = .ok (.aload_n 0, 1) := by decide +kernel
theorem de_L_law_178 : decode code 178 = .ok (.iload_n 3, 1) := by decide +kernel
theorem de_L_law_179 : decode code 179 = .ok (.iconst 2, 1) := by decide +kernel
theorem de_L_law_180 : decode code 180 = .ok (.iadd, 1) := by decide +kernel
theorem de_L_law_181 : decode code 181 = .ok (.iaload, 1) := by decide +kernel
theorem de_L_law_182 : decode code 182 = .ok (.i2l, 1) := by decide +kernel
theorem de_L_law_183 : decode code 183 = .ok (.bipush 32, 2) := by decide +kernel
theorem de_L_law_185 : decode code 185 = .ok (.lshl, 1) := by decide +kernel
theorem de_L_law_186 : decode code 186 = .ok (.aload_n 0, 1) := by decide +kernel
theorem de_L_law_187 : decode code 187 = .ok (.iload_n 3, 1) := by decide +kernel
theorem de_L_law_188 : decode code 188 = .ok (.iconst 3, 1) := by decide +kernel
theorem de_L_law_189 : decode code 189 = .ok (.iadd, 1) := by decide +kernel
theorem de_L_law_190 : decode code 190 = .ok (.iaload, 1) := by decide +kernel
theorem de_L_law_191 : decode code 191 = .ok (.i2l, 1) := by decide +kernel
theorem de_L_law_192 : decode code 192 = .ok (.ldc2_w 22, 3) := by decide +kernel
theorem de_L_law_195 : decode code 195 = .ok (.land, 1) := by decide +kernel
theorem de_L_law_196 : decode code 196 = .ok (.lor, 1) := by decide +kernel
theorem de_L_law_197 : decode code 197 = .ok (.invokevirtual 28, 3) := by decide +kernel
theorem de_L_law_200 : decode code 200 = .ok (.if_icmp .eq 432, 3) := by decide +kernel
theorem de_L_law_203 : decode code 203 = .ok (.iconst 0, 1) := by decide +kernel
theorem de_L_law_204 : decode code 204 = .ok (.ireturn, 1) := by decide +kernel
theorem de_L_law_205 : decode code 205 = .ok (.aload_n 1, 1) := by decide +kernel
theorem de_L_law_206 : decode code 206 = .ok (.aload_n 0, 1) := by decide +kernel
theorem de_L_law_207 : decode code 207 = .ok (.iload_n 3, 1) := by decide +kernel
theorem de_L_law_208 : decode code 208 = .ok (.iconst 1, 1) := by decide +kernel
theorem de_L_law_209 : decode code 209 = .ok (.iadd, 1) := by decide +kernel
theorem de_L_law_210 : decode code 210 = .ok (.iaload, 1) := by decide +kernel
theorem de_L_law_211 : decode code 211 = .ok (.aload_n 0, 1) := by decide +kernel
end
section
/-! decode rows: printed by gen/names.py -/
theorem de_L_law_212 : decode code 212 = .ok (.iload_n 3, 1) := by decide +kernel
theorem de_L_law_213 : decode code 213 = .ok (.iconst 2, 1) := by decide +kernel
theorem de_L_law_214 : decode code 214 = .ok (.iadd, 1) := by decide +kernel
theorem de_L_law_215 : decode code 215 = .ok (.iaload, 1) := by decide +kernel
theorem de_L_law_216 : decode code 216 = .ok (.aload_n 0, 1) := by decide +kernel
theorem de_L_law_217 : decode code 217 = .ok (.iload_n 3, 1) := by decide +kernel
theorem de_L_law_218 : decode code 218 = .ok (.iconst 3, 1) := by decide +kernel
theorem de_L_law_219 : decode code 219 = .ok (.iadd, 1) := by decide +kernel
theorem de_L_law_220 : decode code 220 = .ok (.iaload, 1) := by decide +kernel
theorem de_L_law_221 : decode code 221 = .ok (.i2l, 1) := by decide +kernel
theorem de_L_law_222 : decode code 222 = .ok (.bipush 32, 2) := by decide +kernel
theorem de_L_law_224 : decode code 224 = .ok (.lshl, 1) := by decide +kernel
theorem de_L_law_225 : decode code 225 = .ok (.aload_n 0, 1) := by decide +kernel
theorem de_L_law_226 : decode code 226 = .ok (.iload_n 3, 1) := by decide +kernel
theorem de_L_law_227 : decode code 227 = .ok (.iconst 4, 1) := by decide +kernel
theorem de_L_law_228 : decode code 228 = .ok (.iadd, 1) := by decide +kernel
theorem de_L_law_229 : decode code 229 = .ok (.iaload, 1) := by decide +kernel
theorem de_L_law_230 : decode code 230 = .ok (.i2l, 1) := by decide +kernel
theorem de_L_law_231 : decode code 231 = .ok (.ldc2_w 22, 3) := by decide +kernel
theorem de_L_law_234 : decode code 234 = .ok (.land, 1) := by decide +kernel
theorem de_L_law_235 : decode code 235 = .ok (.lor, 1) := by decide +kernel
theorem de_L_law_236 : decode code 236 = .ok (.invokevirtual 29, 3) := by decide +kernel
theorem de_L_law_239 : decode code 239 = .ok (.aload_n 2, 1) := by decide +kernel
theorem de_L_law_240 : decode code 240 = .ok (.aload_n 0, 1) := by decide +kernel
theorem de_L_law_241 : decode code 241 = .ok (.iload_n 3, 1) := by decide +kernel
theorem de_L_law_242 : decode code 242 = .ok (.iconst 1, 1) := by decide +kernel
theorem de_L_law_243 : decode code 243 = .ok (.iadd, 1) := by decide +kernel
theorem de_L_law_244 : decode code 244 = .ok (.iaload, 1) := by decide +kernel
theorem de_L_law_245 : decode code 245 = .ok (.aload_n 0, 1) := by decide +kernel
theorem de_L_law_246 : decode code 246 = .ok (.iload_n 3, 1) := by decide +kernel
theorem de_L_law_247 : decode code 247 = .ok (.iconst 2, 1) := by decide +kernel
theorem de_L_law_248 : decode code 248 = .ok (.iadd, 1) := by decide +kernel
theorem de_L_law_249 : decode code 249 = .ok (.iaload, 1) := by decide +kernel
theorem de_L_law_250 : decode code 250 = .ok (.aload_n 0, 1) := by decide +kernel
theorem de_L_law_251 : decode code 251 = .ok (.iload_n 3, 1) := by decide +kernel
theorem de_L_law_252 : decode code 252 = .ok (.iconst 3, 1) := by decide +kernel
theorem de_L_law_253 : decode code 253 = .ok (.iadd, 1) := by decide +kernel
theorem de_L_law_254 : decode code 254 = .ok (.iaload, 1) := by decide +kernel
theorem de_L_law_255 : decode code 255 = .ok (.i2l, 1) := by decide +kernel
theorem de_L_law_256 : decode code 256 = .ok (.bipush 32, 2) := by decide +kernel
theorem de_L_law_258 : decode code 258 = .ok (.lshl, 1) := by decide +kernel
theorem de_L_law_259 : decode code 259 = .ok (.aload_n 0, 1) := by decide +kernel
theorem de_L_law_260 : decode code 260 = .ok (.iload_n 3, 1) := by decide +kernel
theorem de_L_law_261 : decode code 261 = .ok (.iconst 4, 1) := by decide +kernel
theorem de_L_law_262 : decode code 262 = .ok (.iadd, 1) := by decide +kernel
theorem de_L_law_263 : decode code 263 = .ok (.iaload, 1) := by decide +kernel
theorem de_L_law_264 : decode code 264 = .ok (.i2l, 1) := by decide +kernel
theorem de_L_law_265 : decode code 265 = .ok (.ldc2_w 22, 3) := by decide +kernel
theorem de_L_law_268 : decode code 268 = .ok (.land, 1) := by decide +kernel
theorem de_L_law_269 : decode code 269 = .ok (.lor, 1) := by decide +kernel
theorem de_L_law_270 : decode code 270 = .ok (.invokevirtual 33, 3) := by decide +kernel
theorem de_L_law_273 : decode code 273 = .ok (.if_icmp .eq 359, 3) := by decide +kernel
theorem de_L_law_276 : decode code 276 = .ok (.iconst 0, 1) := by decide +kernel
theorem de_L_law_277 : decode code 277 = .ok (.ireturn, 1) := by decide +kernel
theorem de_L_law_278 : decode code 278 = .ok (.aload_n 1, 1) := by decide +kernel
theorem de_L_law_279 : decode code 279 = .ok (.aload_n 0, 1) := by decide +kernel
theorem de_L_law_280 : decode code 280 = .ok (.iload_n 3, 1) := by decide +kernel
theorem de_L_law_281 : decode code 281 = .ok (.iconst 1, 1) := by decide +kernel
theorem de_L_law_282 : decode code 282 = .ok (.iadd, 1) := by decide +kernel
theorem de_L_law_283 : decode code 283 = .ok (.iaload, 1) := by decide +kernel
theorem de_L_law_284 : decode code 284 = .ok (.aload_n 0, 1) := by decide +kernel
theorem de_L_law_285 : decode code 285 = .ok (.iload_n 3, 1) := by decide +kernel
theorem de_L_law_286 : decode code 286 = .ok (.iconst 2, 1) := by decide +kernel
theorem de_L_law_287 : decode code 287 = .ok (.iadd, 1) := by decide +kernel
theorem de_L_law_288 : decode code 288 = .ok (.iaload, 1) := by decide +kernel
theorem de_L_law_289 : decode code 289 = .ok (.i2l, 1) := by decide +kernel
theorem de_L_law_290 : decode code 290 = .ok (.bipush 32, 2) := by decide +kernel
theorem de_L_law_292 : decode code 292 = .ok (.lshl, 1) := by decide +kernel
theorem de_L_law_293 : decode code 293 = .ok (.aload_n 0, 1) := by decide +kernel
theorem de_L_law_294 : decode code 294 = .ok (.iload_n 3, 1) := by decide +kernel
theorem de_L_law_295 : decode code 295 = .ok (.iconst 3, 1) := by decide +kernel
theorem de_L_law_296 : decode code 296 = .ok (.iadd, 1) := by decide +kernel
theorem de_L_law_297 : decode code 297 = .ok (.iaload, 1) := by decide +kernel
theorem de_L_law_298 : decode code 298 = .ok (.i2l, 1) := by decide +kernel
theorem de_L_law_299 : decode code 299 = .ok (.ldc2_w 22, 3) := by decide +kernel
theorem de_L_law_302 : decode code 302 = .ok (.land, 1) := by decide +kernel
theorem de_L_law_303 : decode code 303 = .ok (.lor, 1) := by decide +kernel
theorem de_L_law_304 : decode code 304 = .ok (.invokevirtual 34, 3) := by decide +kernel
theorem de_L_law_307 : decode code 307 = .ok (.aload_n 2, 1) := by decide +kernel
theorem de_L_law_308 : decode code 308 = .ok (.aload_n 0, 1) := by decide +kernel
theorem de_L_law_309 : decode code 309 = .ok (.iload_n 3, 1) := by decide +kernel
theorem de_L_law_310 : decode code 310 = .ok (.iconst 1, 1) := by decide +kernel
theorem de_L_law_311 : decode code 311 = .ok (.iadd, 1) := by decide +kernel
theorem de_L_law_312 : decode code 312 = .ok (.iaload, 1) := by decide +kernel
theorem de_L_law_313 : decode code 313 = .ok (.aload_n 0, 1) := by decide +kernel
theorem de_L_law_314 : decode code 314 = .ok (.iload_n 3, 1) := by decide +kernel
theorem de_L_law_315 : decode code 315 = .ok (.iconst 2, 1) := by decide +kernel
theorem de_L_law_316 : decode code 316 = .ok (.iadd, 1) := by decide +kernel
theorem de_L_law_317 : decode code 317 = .ok (.iaload, 1) := by decide +kernel
theorem de_L_law_318 : decode code 318 = .ok (.i2l, 1) := by decide +kernel
theorem de_L_law_319 : decode code 319 = .ok (.bipush 32, 2) := by decide +kernel
theorem de_L_law_321 : decode code 321 = .ok (.lshl, 1) := by decide +kernel
theorem de_L_law_322 : decode code 322 = .ok (.aload_n 0, 1) := by decide +kernel
theorem de_L_law_323 : decode code 323 = .ok (.iload_n 3, 1) := by decide +kernel
theorem de_L_law_324 : decode code 324 = .ok (.iconst 3, 1) := by decide +kernel
theorem de_L_law_325 : decode code 325 = .ok (.iadd, 1) := by decide +kernel
theorem de_L_law_326 : decode code 326 = .ok (.iaload, 1) := by decide +kernel
theorem de_L_law_327 : decode code 327 = .ok (.i2l, 1) := by decide +kernel
theorem de_L_law_328 : decode code 328 = .ok (.ldc2_w 22, 3) := by decide +kernel
theorem de_L_law_331 : decode code 331 = .ok (.land, 1) := by decide +kernel
theorem de_L_law_332 : decode code 332 = .ok (.lor, 1) := by decide +kernel
theorem de_L_law_333 : decode code 333 = .ok (.invokevirtual 37, 3) := by decide +kernel
theorem de_L_law_336 : decode code 336 = .ok (.if_icmp .eq 296, 3) := by decide +kernel
theorem de_L_law_339 : decode code 339 = .ok (.iconst 0, 1) := by decide +kernel
theorem de_L_law_340 : decode code 340 = .ok (.ireturn, 1) := by decide +kernel
theorem de_L_law_341 : decode code 341 = .ok (.aload_n 1, 1) := by decide +kernel
theorem de_L_law_342 : decode code 342 = .ok (.aload_n 0, 1) := by decide +kernel
theorem de_L_law_343 : decode code 343 = .ok (.iload_n 3, 1) := by decide +kernel
theorem de_L_law_344 : decode code 344 = .ok (.iconst 1, 1) := by decide +kernel
theorem de_L_law_345 : decode code 345 = .ok (.iadd, 1) := by decide +kernel
theorem de_L_law_346 : decode code 346 = .ok (.iaload, 1) := by decide +kernel
theorem de_L_law_347 : decode code 347 = .ok (.aload_n 0, 1) := by decide +kernel
theorem de_L_law_348 : decode code 348 = .ok (.iload_n 3, 1) := by decide +kernel
theorem de_L_law_349 : decode code 349 = .ok (.iconst 2, 1) := by decide +kernel
end
section
/-! decode rows: printed by gen/names.py -/
theorem de_L_law_350 : decode code 350 = .ok (.iadd, 1) := by decide +kernel
theorem de_L_law_351 : decode code 351 = .ok (.iaload, 1) := by decide +kernel
theorem de_L_law_352 : decode code 352 = .ok (.i2l, 1) := by decide +kernel
theorem de_L_law_353 : decode code 353 = .ok (.bipush 32, 2) := by decide +kernel
theorem de_L_law_355 : decode code 355 = .ok (.lshl, 1) := by decide +kernel
theorem de_L_law_356 : decode code 356 = .ok (.aload_n 0, 1) := by decide +kernel
theorem de_L_law_357 : decode code 357 = .ok (.iload_n 3, 1) := by decide +kernel
theorem de_L_law_358 : decode code 358 = .ok (.iconst 3, 1) := by decide +kernel
theorem de_L_law_359 : decode code 359 = .ok (.iadd, 1) := by decide +kernel
theorem de_L_law_360 : decode code 360 = .ok (.iaload, 1) := by decide +kernel
theorem de_L_law_361 : decode code 361 = .ok (.i2l, 1) := by decide +kernel
theorem de_L_law_362 : decode code 362 = .ok (.ldc2_w 22, 3) := by decide +kernel
theorem de_L_law_365 : decode code 365 = .ok (.land, 1) := by decide +kernel
theorem de_L_law_366 : decode code 366 = .ok (.lor, 1) := by decide +kernel
theorem de_L_law_367 : decode code 367 = .ok (.invokevirtual 38, 3) := by decide +kernel
theorem de_L_law_370 : decode code 370 = .ok (.aload_n 2, 1) := by decide +kernel
theorem de_L_law_371 : decode code 371 = .ok (.aload_n 0, 1) := by decide +kernel
theorem de_L_law_372 : decode code 372 = .ok (.iload_n 3, 1) := by decide +kernel
theorem de_L_law_373 : decode code 373 = .ok (.iconst 1, 1) := by decide +kernel
theorem de_L_law_374 : decode code 374 = .ok (.iadd, 1) := by decide +kernel
theorem de_L_law_375 : decode code 375 = .ok (.iaload, 1) := by decide +kernel
theorem de_L_law_376 : decode code 376 = .ok (.aload_n 0, 1) := by decide +kernel
theorem de_L_law_377 : decode code 377 = .ok (.iload_n 3, 1) := by decide +kernel
theorem de_L_law_378 : decode code 378 = .ok (.iconst 2, 1) := by decide +kernel
theorem de_L_law_379 : decode code 379 = .ok (.iadd, 1) := by decide +kernel
theorem de_L_law_380 : decode code 380 = .ok (.iaload, 1) := by decide +kernel
theorem de_L_law_381 : decode code 381 = .ok (.i2l, 1) := by decide +kernel
theorem de_L_law_382 : decode code 382 = .ok (.bipush 32, 2) := by decide +kernel
theorem de_L_law_384 : decode code 384 = .ok (.lshl, 1) := by decide +kernel
theorem de_L_law_385 : decode code 385 = .ok (.aload_n 0, 1) := by decide +kernel
theorem de_L_law_386 : decode code 386 = .ok (.iload_n 3, 1) := by decide +kernel
theorem de_L_law_387 : decode code 387 = .ok (.iconst 3, 1) := by decide +kernel
theorem de_L_law_388 : decode code 388 = .ok (.iadd, 1) := by decide +kernel
theorem de_L_law_389 : decode code 389 = .ok (.iaload, 1) := by decide +kernel
theorem de_L_law_390 : decode code 390 = .ok (.i2l, 1) := by decide +kernel
theorem de_L_law_391 : decode code 391 = .ok (.ldc2_w 22, 3) := by decide +kernel
theorem de_L_law_394 : decode code 394 = .ok (.land, 1) := by decide +kernel
theorem de_L_law_395 : decode code 395 = .ok (.lor, 1) := by decide +kernel
theorem de_L_law_396 : decode code 396 = .ok (.invokevirtual 41, 3) := by decide +kernel
theorem de_L_law_399 : decode code 399 = .ok (.if_icmp .eq 233, 3) := by decide +kernel
theorem de_L_law_402 : decode code 402 = .ok (.iconst 0, 1) := by decide +kernel
theorem de_L_law_403 : decode code 403 = .ok (.ireturn, 1) := by decide +kernel
theorem de_L_law_404 : decode code 404 = .ok (.aload_n 1, 1) := by decide +kernel
theorem de_L_law_405 : decode code 405 = .ok (.aload_n 0, 1) := by decide +kernel
theorem de_L_law_406 : decode code 406 = .ok (.iload_n 3, 1) := by decide +kernel
theorem de_L_law_407 : decode code 407 = .ok (.iconst 1, 1) := by decide +kernel
theorem de_L_law_408 : decode code 408 = .ok (.iadd, 1) := by decide +kernel
theorem de_L_law_409 : decode code 409 = .ok (.iaload, 1) := by decide +kernel
theorem de_L_law_410 : decode code 410 = .ok (.invokevirtual 42, 3) := by decide +kernel
theorem de_L_law_413 : decode code 413 = .ok (.aload_n 2, 1) := by decide +kernel
theorem de_L_law_414 : decode code 414 = .ok (.aload_n 0, 1) := by decide +kernel
theorem de_L_law_415 : decode code 415 = .ok (.iload_n 3, 1) := by decide +kernel
theorem de_L_law_416 : decode code 416 = .ok (.iconst 1, 1) := by decide +kernel
theorem de_L_law_417 : decode code 417 = .ok (.iadd, 1) := by decide +kernel
theorem de_L_law_418 : decode code 418 = .ok (.iaload, 1) := by decide +kernel
theorem de_L_law_419 : decode code 419 = .ok (.invokevirtual 45, 3) := by decide +kernel
theorem de_L_law_422 : decode code 422 = .ok (.if_icmp .eq 210, 3) := by decide +kernel
theorem de_L_law_425 : decode code 425 = .ok (.iconst 0, 1) := by decide +kernel
theorem de_L_law_426 : decode code 426 = .ok (.ireturn, 1) := by decide +kernel
theorem de_L_law_427 : decode code 427 = .ok (.aload_n 1, 1) := by decide +kernel
theorem de_L_law_428 : decode code 428 = .ok (.aload_n 0, 1) := by decide +kernel
theorem de_L_law_429 : decode code 429 = .ok (.iload_n 3, 1) := by decide +kernel
theorem de_L_law_430 : decode code 430 = .ok (.iconst 1, 1) := by decide +kernel
theorem de_L_law_431 : decode code 431 = .ok (.iadd, 1) := by decide +kernel
theorem de_L_law_432 : decode code 432 = .ok (.iaload, 1) := by decide +kernel
theorem de_L_law_433 : decode code 433 = .ok (.aload_n 0, 1) := by decide +kernel
theorem de_L_law_434 : decode code 434 = .ok (.iload_n 3, 1) := by decide +kernel
theorem de_L_law_435 : decode code 435 = .ok (.iconst 2, 1) := by decide +kernel
theorem de_L_law_436 : decode code 436 = .ok (.iadd, 1) := by decide +kernel
theorem de_L_law_437 : decode code 437 = .ok (.iaload, 1) := by decide +kernel
theorem de_L_law_438 : decode code 438 = .ok (.aload_n 0, 1) := by decide +kernel
theorem de_L_law_439 : decode code 439 = .ok (.iload_n 3, 1) := by decide +kernel
theorem de_L_law_440 : decode code 440 = .ok (.iconst 3, 1) := by decide +kernel
theorem de_L_law_441 : decode code 441 = .ok (.iadd, 1) := by decide +kernel
theorem de_L_law_442 : decode code 442 = .ok (.iaload, 1) := by decide +kernel
theorem de_L_law_443 : decode code 443 = .ok (.i2l, 1) := by decide +kernel
theorem de_L_law_444 : decode code 444 = .ok (.bipush 32, 2) := by decide +kernel
theorem de_L_law_446 : decode code 446 = .ok (.lshl, 1) := by decide +kernel
theorem de_L_law_447 : decode code 447 = .ok (.aload_n 0, 1) := by decide +kernel
theorem de_L_law_448 : decode code 448 = .ok (.iload_n 3, 1) := by decide +kernel
theorem de_L_law_449 : decode code 449 = .ok (.iconst 4, 1) := by decide +kernel
theorem de_L_law_450 : decode code 450 = .ok (.iadd, 1) := by decide +kernel
theorem de_L_law_451 : decode code 451 = .ok (.iaload, 1) := by decide +kernel
theorem de_L_law_452 : decode code 452 = .ok (.i2l, 1) := by decide +kernel
theorem de_L_law_453 : decode code 453 = .ok (.ldc2_w 22, 3) := by decide +kernel
theorem de_L_law_456 : decode code 456 = .ok (.land, 1) := by decide +kernel
theorem de_L_law_457 : decode code 457 = .ok (.lor, 1) := by decide +kernel
theorem de_L_law_458 : decode code 458 = .ok (.invokevirtual 46, 3) := by decide +kernel
theorem de_L_law_461 : decode code 461 = .ok (.aload_n 2, 1) := by decide +kernel
theorem de_L_law_462 : decode code 462 = .ok (.aload_n 0, 1) := by decide +kernel
theorem de_L_law_463 : decode code 463 = .ok (.iload_n 3, 1) := by decide +kernel
theorem de_L_law_464 : decode code 464 = .ok (.iconst 1, 1) := by decide +kernel
theorem de_L_law_465 : decode code 465 = .ok (.iadd, 1) := by decide +kernel
theorem de_L_law_466 : decode code 466 = .ok (.iaload, 1) := by decide +kernel
theorem de_L_law_467 : decode code 467 = .ok (.aload_n 0, 1) := by decide +kernel
theorem de_L_law_468 : decode code 468 = .ok (.iload_n 3, 1) := by decide +kernel
theorem de_L_law_469 : decode code 469 = .ok (.iconst 2, 1) := by decide +kernel
theorem de_L_law_470 : decode code 470 = .ok (.iadd, 1) := by decide +kernel
theorem de_L_law_471 : decode code 471 = .ok (.iaload, 1) := by decide +kernel
theorem de_L_law_472 : decode code 472 = .ok (.aload_n 0, 1) := by decide +kernel
theorem de_L_law_473 : decode code 473 = .ok (.iload_n 3, 1) := by decide +kernel
theorem de_L_law_474 : decode code 474 = .ok (.iconst 3, 1) := by decide +kernel
theorem de_L_law_475 : decode code 475 = .ok (.iadd, 1) := by decide +kernel
theorem de_L_law_476 : decode code 476 = .ok (.iaload, 1) := by decide +kernel
theorem de_L_law_477 : decode code 477 = .ok (.i2l, 1) := by decide +kernel
theorem de_L_law_478 : decode code 478 = .ok (.bipush 32, 2) := by decide +kernel
theorem de_L_law_480 : decode code 480 = .ok (.lshl, 1) := by decide +kernel
theorem de_L_law_481 : decode code 481 = .ok (.aload_n 0, 1) := by decide +kernel
theorem de_L_law_482 : decode code 482 = .ok (.iload_n 3, 1) := by decide +kernel
theorem de_L_law_483 : decode code 483 = .ok (.iconst 4, 1) := by decide +kernel
theorem de_L_law_484 : decode code 484 = .ok (.iadd, 1) := by decide +kernel
theorem de_L_law_485 : decode code 485 = .ok (.iaload, 1) := by decide +kernel
theorem de_L_law_486 : decode code 486 = .ok (.i2l, 1) := by decide +kernel
theorem de_L_law_487 : decode code 487 = .ok (.ldc2_w 22, 3) := by decide +kernel
end
section
/-! decode rows: printed by gen/names.py -/
theorem de_L_law_490 : decode code 490 = .ok (.land, 1) := by decide +kernel
theorem de_L_law_491 : decode code 491 = .ok (.lor, 1) := by decide +kernel
theorem de_L_law_492 : decode code 492 = .ok (.invokevirtual 49, 3) := by decide +kernel
theorem de_L_law_495 : decode code 495 = .ok (.if_icmp .eq 137, 3) := by decide +kernel
theorem de_L_law_498 : decode code 498 = .ok (.iconst 0, 1) := by decide +kernel
theorem de_L_law_499 : decode code 499 = .ok (.ireturn, 1) := by decide +kernel
theorem de_L_law_500 : decode code 500 = .ok (.aload_n 1, 1) := by decide +kernel
theorem de_L_law_501 : decode code 501 = .ok (.aload_n 0, 1) := by decide +kernel
theorem de_L_law_502 : decode code 502 = .ok (.iload_n 3, 1) := by decide +kernel
theorem de_L_law_503 : decode code 503 = .ok (.iconst 1, 1) := by decide +kernel
theorem de_L_law_504 : decode code 504 = .ok (.iadd, 1) := by decide +kernel
theorem de_L_law_505 : decode code 505 = .ok (.iaload, 1) := by decide +kernel
theorem de_L_law_506 : decode code 506 = .ok (.i2l, 1) := by decide +kernel
theorem de_L_law_507 : decode code 507 = .ok (.bipush 32, 2) := by decide +kernel
theorem de_L_law_509 : decode code 509 = .ok (.lshl, 1) := by decide +kernel
theorem de_L_law_510 : decode code 510 = .ok (.aload_n 0, 1) := by decide +kernel
theorem de_L_law_511 : decode code 511 = .ok (.iload_n 3, 1) := by decide +kernel
theorem de_L_law_512 : decode code 512 = .ok (.iconst 2, 1) := by decide +kernel
theorem de_L_law_513 : decode code 513 = .ok (.iadd, 1) := by decide +kernel
theorem de_L_law_514 : decode code 514 = .ok (.iaload, 1) := by decide +kernel
theorem de_L_law_515 : decode code 515 = .ok (.i2l, 1) := by decide +kernel
theorem de_L_law_516 : decode code 516 = .ok (.ldc2_w 22, 3) := by decide +kernel
theorem de_L_law_519 : decode code 519 = .ok (.land, 1) := by decide +kernel
theorem de_L_law_520 : decode code 520 = .ok (.lor, 1) := by decide +kernel
theorem de_L_law_521 : decode code 521 = .ok (.invokevirtual 50, 3) := by decide +kernel
theorem de_L_law_524 : decode code 524 = .ok (.aload_n 2, 1) := by decide +kernel
theorem de_L_law_525 : decode code 525 = .ok (.aload_n 0, 1) := by decide +kernel
theorem de_L_law_526 : decode code 526 = .ok (.iload_n 3, 1) := by decide +kernel
theorem de_L_law_527 : decode code 527 = .ok (.iconst 1, 1) := by decide +kernel
theorem de_L_law_528 : decode code 528 = .ok (.iadd, 1) := by decide +kernel
theorem de_L_law_529 : decode code 529 = .ok (.iaload, 1) := by decide +kernel
theorem de_L_law_530 : decode code 530 = .ok (.i2l, 1) := by decide +kernel
theorem de_L_law_531 : decode code 531 = .ok (.bipush 32, 2) := by decide +kernel
theorem de_L_law_533 : decode code 533 = .ok (.lshl, 1) := by decide +kernel
theorem de_L_law_534 : decode code 534 = .ok (.aload_n 0, 1) := by decide +kernel
theorem de_L_law_535 : decode code 535 = .ok (.iload_n 3, 1) := by decide +kernel
theorem de_L_law_536 : decode code 536 = .ok (.iconst 2, 1) := by decide +kernel
theorem de_L_law_537 : decode code 537 = .ok (.iadd, 1) := by decide +kernel
theorem de_L_law_538 : decode code 538 = .ok (.iaload, 1) := by decide +kernel
theorem de_L_law_539 : decode code 539 = .ok (.i2l, 1) := by decide +kernel
theorem de_L_law_540 : decode code 540 = .ok (.ldc2_w 22, 3) := by decide +kernel
theorem de_L_law_543 : decode code 543 = .ok (.land, 1) := by decide +kernel
theorem de_L_law_544 : decode code 544 = .ok (.lor, 1) := by decide +kernel
theorem de_L_law_545 : decode code 545 = .ok (.invokevirtual 54, 3) := by decide +kernel
theorem de_L_law_548 : decode code 548 = .ok (.if_icmp .eq 84, 3) := by decide +kernel
theorem de_L_law_551 : decode code 551 = .ok (.iconst 0, 1) := by decide +kernel
theorem de_L_law_552 : decode code 552 = .ok (.ireturn, 1) := by decide +kernel
theorem de_L_law_553 : decode code 553 = .ok (.aload_n 1, 1) := by decide +kernel
theorem de_L_law_554 : decode code 554 = .ok (.aload_n 0, 1) := by decide +kernel
theorem de_L_law_555 : decode code 555 = .ok (.iload_n 3, 1) := by decide +kernel
theorem de_L_law_556 : decode code 556 = .ok (.iconst 1, 1) := by decide +kernel
theorem de_L_law_557 : decode code 557 = .ok (.iadd, 1) := by decide +kernel
theorem de_L_law_558 : decode code 558 = .ok (.iaload, 1) := by decide +kernel
theorem de_L_law_559 : decode code 559 = .ok (.aload_n 0, 1) := by decide +kernel
theorem de_L_law_560 : decode code 560 = .ok (.iload_n 3, 1) := by decide +kernel
theorem de_L_law_561 : decode code 561 = .ok (.iconst 2, 1) := by decide +kernel
theorem de_L_law_562 : decode code 562 = .ok (.iadd, 1) := by decide +kernel
theorem de_L_law_563 : decode code 563 = .ok (.iaload, 1) := by decide +kernel
theorem de_L_law_564 : decode code 564 = .ok (.invokevirtual 55, 3) := by decide +kernel
theorem de_L_law_567 : decode code 567 = .ok (.aload_n 2, 1) := by decide +kernel
theorem de_L_law_568 : decode code 568 = .ok (.aload_n 0, 1) := by decide +kernel
theorem de_L_law_569 : decode code 569 = .ok (.iload_n 3, 1) := by decide +kernel
theorem de_L_law_570 : decode code 570 = .ok (.iconst 1, 1) := by decide +kernel
theorem de_L_law_571 : decode code 571 = .ok (.iadd, 1) := by decide +kernel
theorem de_L_law_572 : decode code 572 = .ok (.iaload, 1) := by decide +kernel
theorem de_L_law_573 : decode code 573 = .ok (.aload_n 0, 1) := by decide +kernel
theorem de_L_law_574 : decode code 574 = .ok (.iload_n 3, 1) := by decide +kernel
theorem de_L_law_575 : decode code 575 = .ok (.iconst 2, 1) := by decide +kernel
theorem de_L_law_576 : decode code 576 = .ok (.iadd, 1) := by decide +kernel
theorem de_L_law_577 : decode code 577 = .ok (.iaload, 1) := by decide +kernel
theorem de_L_law_578 : decode code 578 = .ok (.invokevirtual 59, 3) := by decide +kernel
theorem de_L_law_581 : decode code 581 = .ok (.if_icmp .eq 51, 3) := by decide +kernel
theorem de_L_law_584 : decode code 584 = .ok (.iconst 0, 1) := by decide +kernel
theorem de_L_law_585 : decode code 585 = .ok (.ireturn, 1) := by decide +kernel
theorem de_L_law_586 : decode code 586 = .ok (.aload_n 1, 1) := by decide +kernel
theorem de_L_law_587 : decode code 587 = .ok (.aload_n 0, 1) := by decide +kernel
theorem de_L_law_588 : decode code 588 = .ok (.iload_n 3, 1) := by decide +kernel
theorem de_L_law_589 : decode code 589 = .ok (.iconst 1, 1) := by decide +kernel
theorem de_L_law_590 : decode code 590 = .ok (.iadd, 1) := by decide +kernel
theorem de_L_law_591 : decode code 591 = .ok (.iaload, 1) := by decide +kernel
theorem de_L_law_592 : decode code 592 = .ok (.invokevirtual 60, 3) := by decide +kernel
theorem de_L_law_595 : decode code 595 = .ok (.aload_n 2, 1) := by decide +kernel
theorem de_L_law_596 : decode code 596 = .ok (.aload_n 0, 1) := by decide +kernel
theorem de_L_law_597 : decode code 597 = .ok (.iload_n 3, 1) := by decide +kernel
theorem de_L_law_598 : decode code 598 = .ok (.iconst 1, 1) := by decide +kernel
theorem de_L_law_599 : decode code 599 = .ok (.iadd, 1) := by decide +kernel
theorem de_L_law_600 : decode code 600 = .ok (.iaload, 1) := by decide +kernel
theorem de_L_law_601 : decode code 601 = .ok (.invokevirtual 63, 3) := by decide +kernel
theorem de_L_law_604 : decode code 604 = .ok (.if_icmp .eq 28, 3) := by decide +kernel
theorem de_L_law_607 : decode code 607 = .ok (.iconst 0, 1) := by decide +kernel
theorem de_L_law_608 : decode code 608 = .ok (.ireturn, 1) := by decide +kernel
theorem de_L_law_609 : decode code 609 = .ok (.aload_n 1, 1) := by decide +kernel
theorem de_L_law_610 : decode code 610 = .ok (.aload_n 0, 1) := by decide +kernel
theorem de_L_law_611 : decode code 611 = .ok (.iload_n 3, 1) := by decide +kernel
theorem de_L_law_612 : decode code 612 = .ok (.iconst 1, 1) := by decide +kernel
theorem de_L_law_613 : decode code 613 = .ok (.iadd, 1) := by decide +kernel
theorem de_L_law_614 : decode code 614 = .ok (.iaload, 1) := by decide +kernel
theorem de_L_law_615 : decode code 615 = .ok (.invokevirtual 64, 3) := by decide +kernel
theorem de_L_law_618 : decode code 618 = .ok (.aload_n 2, 1) := by decide +kernel
theorem de_L_law_619 : decode code 619 = .ok (.aload_n 0, 1) := by decide +kernel
theorem de_L_law_620 : decode code 620 = .ok (.iload_n 3, 1) := by decide +kernel
theorem de_L_law_621 : decode code 621 = .ok (.iconst 1, 1) := by decide +kernel
theorem de_L_law_622 : decode code 622 = .ok (.iadd, 1) := by decide +kernel
theorem de_L_law_623 : decode code 623 = .ok (.iaload, 1) := by decide +kernel
theorem de_L_law_624 : decode code 624 = .ok (.invokevirtual 67, 3) := by decide +kernel
theorem de_L_law_627 : decode code 627 = .ok (.if_icmp .eq 5, 3) := by decide +kernel
theorem de_L_law_630 : decode code 630 = .ok (.iconst 0, 1) := by decide +kernel
theorem de_L_law_631 : decode code 631 = .ok (.ireturn, 1) := by decide +kernel
theorem de_L_law_632 : decode code 632 = .ok (.iinc 3 5, 3) := by decide +kernel
theorem de_L_law_635 : decode code 635 = .ok (.goto (-617), 3) := by decide +kernel
theorem de_L_law_638 : decode code 638 = .ok (.iconst 1, 1) := by decide +kernel
theorem de_L_law_639 : decode code 639 = .ok (.ireturn, 1) := by decide +kernel
end
section
/-! ===== base: indices, compares of longs, the enum, contracts of two shapes, calls ===== -/
def ix (i : Int32) (k n : Nat) : Prop := ¬ i < 0 ∧ i.toNatClampNeg = k ∧ k < n
theorem ix.inn {i : Int32} {k n : Nat} (h : ix i k n) : vp_in i n := by
  obtain ⟨h1, h2, h3⟩ := h
  intro q
  rcases q with q | q
  · exact h1 q
  · omega
theorem ix.cl {i : Int32} {k n : Nat} (h : ix i k n) : i.toNatClampNeg = k := h.2.1
theorem ix_nI {k n : Nat} (h : k < n) (hn : n < 2 ^ 31) : ix (nI k) k n := ⟨nI_pos (by omega), nI_clamp (by omega), h⟩
theorem ix.eq {i : Int32} {k n : Nat} (h : ix i k n) : i = nI k := by
  obtain ⟨j, hj, e⟩ := nI_of h.1
  have h2 := h.2.1
  rw [e, nI_clamp hj] at h2
  rw [e, h2]
section ZL
variable {p : Program} {l : Launch} {e : Env} {R : Room} {s : State} {m : MethodId} {args : Array Value} {below : List Frame} {meth : Method} {c : Code} {H : Heap} {locs : List Loc} {cells slots : Nat} {Q : State → Prop}
variable {cc : ByteArray} {pc : Nat} {ls : Array Slot} {rest : List Value}
theorem zl_lt (hx : p.tables.exec = Jvm.exec) (hb : c.code = cc) {x y : Int64} {off : Int} {tgt : Nat} (hd1 : decode cc pc = .ok (.lcmp, 1)) (hd2 : decode cc (pc + 1) = .ok (.ifCond .lt off, 3)) (ht : ((pc + 1 : Nat) : Int) + off = (tgt : Int))
    (kt : x < y → W p l e R s m args below meth c H locs cells slots Q (F0 m tgt ls rest)) (kf : ¬ x < y → W p l e R s m args below meth c H locs cells slots Q (F0 m (pc + 1 + 3) ls rest)) : W p l e R s m args below meth c H locs cells slots Q (F0 m pc ls (.long y :: .long x :: rest)) :=
  W.lcmp hx hb hd1 (lv_if_lt hx hb hd2 ht (fun h => kt ((lg_cmp_lt x y).mp h)) (fun h => kf (fun q => h ((lg_cmp_lt x y).mpr q))))
theorem zl_gt (hx : p.tables.exec = Jvm.exec) (hb : c.code = cc) {x y : Int64} {off : Int} {tgt : Nat} (hd1 : decode cc pc = .ok (.lcmp, 1)) (hd2 : decode cc (pc + 1) = .ok (.ifCond .gt off, 3)) (ht : ((pc + 1 : Nat) : Int) + off = (tgt : Int))
    (kt : y < x → W p l e R s m args below meth c H locs cells slots Q (F0 m tgt ls rest)) (kf : ¬ y < x → W p l e R s m args below meth c H locs cells slots Q (F0 m (pc + 1 + 3) ls rest)) : W p l e R s m args below meth c H locs cells slots Q (F0 m pc ls (.long y :: .long x :: rest)) :=
  W.lcmp hx hb hd1 (lv_if_gt hx hb hd2 ht (fun h => kt ((lg_cmp_gt x y).mp h)) (fun h => kf (fun q => h ((lg_cmp_gt x y).mpr q))))
theorem zl_le (hx : p.tables.exec = Jvm.exec) (hb : c.code = cc) {x y : Int64} {off : Int} {tgt : Nat} (hd1 : decode cc pc = .ok (.lcmp, 1)) (hd2 : decode cc (pc + 1) = .ok (.ifCond .le off, 3)) (ht : ((pc + 1 : Nat) : Int) + off = (tgt : Int))
    (kt : x ≤ y → W p l e R s m args below meth c H locs cells slots Q (F0 m tgt ls rest)) (kf : ¬ x ≤ y → W p l e R s m args below meth c H locs cells slots Q (F0 m (pc + 1 + 3) ls rest)) : W p l e R s m args below meth c H locs cells slots Q (F0 m pc ls (.long y :: .long x :: rest)) :=
  W.lcmp hx hb hd1 (lv_if_le hx hb hd2 ht (fun h => kt ((lg_cmp_le x y).mp h)) (fun h => kf (fun q => h ((lg_cmp_le x y).mpr q))))
theorem zl_ge (hx : p.tables.exec = Jvm.exec) (hb : c.code = cc) {x y : Int64} {off : Int} {tgt : Nat} (hd1 : decode cc pc = .ok (.lcmp, 1)) (hd2 : decode cc (pc + 1) = .ok (.ifCond .ge off, 3)) (ht : ((pc + 1 : Nat) : Int) + off = (tgt : Int))
    (kt : y ≤ x → W p l e R s m args below meth c H locs cells slots Q (F0 m tgt ls rest)) (kf : ¬ y ≤ x → W p l e R s m args below meth c H locs cells slots Q (F0 m (pc + 1 + 3) ls rest)) : W p l e R s m args below meth c H locs cells slots Q (F0 m pc ls (.long y :: .long x :: rest)) :=
  W.lcmp hx hb hd1 (lv_if_ge hx hb hd2 ht (fun h => kt ((lg_cmp_ge x y).mp h)) (fun h => kf (fun q => h ((lg_cmp_ge x y).mpr q))))
theorem zl_ne (hx : p.tables.exec = Jvm.exec) (hb : c.code = cc) {x y : Int64} {off : Int} {tgt : Nat} (hd1 : decode cc pc = .ok (.lcmp, 1)) (hd2 : decode cc (pc + 1) = .ok (.ifCond .ne off, 3)) (ht : ((pc + 1 : Nat) : Int) + off = (tgt : Int))
    (kt : ¬ x = y → W p l e R s m args below meth c H locs cells slots Q (F0 m tgt ls rest)) (kf : x = y → W p l e R s m args below meth c H locs cells slots Q (F0 m (pc + 1 + 3) ls rest)) : W p l e R s m args below meth c H locs cells slots Q (F0 m pc ls (.long y :: .long x :: rest)) :=
  W.lcmp hx hb hd1 (lv_if_ne hx hb hd2 ht (fun h => kt (fun q => h ((lg_cmp_eq x y).mpr q))) (fun h => kf ((lg_cmp_eq x y).mp h)))
/-- references, both known not to be null -/
theorem za_eq (hx : p.tables.exec = Jvm.exec) (hb : c.code = cc) {x y : Nat} {off : Int} {tgt : Nat} (hdg : decode cc pc = .ok (.if_acmp .eq off, 3)) (ht : (pc : Int) + off = (tgt : Int))
    (kt : x = y → W p l e R s m args below meth c H locs cells slots Q (F0 m tgt ls rest)) (kf : ¬ x = y → W p l e R s m args below meth c H locs cells slots Q (F0 m (pc + 3) ls rest)) : W p l e R s m args below meth c H locs cells slots Q (F0 m pc ls (.ref y :: .ref x :: rest)) :=
  lv_acmp_eq (rx := some x) (ry := some y) hx hb hdg ht (fun h => kt (Option.some.inj h)) (fun h => kf (fun q => h (congrArg some q)))
theorem za_ne (hx : p.tables.exec = Jvm.exec) (hb : c.code = cc) {x y : Nat} {off : Int} {tgt : Nat} (hdg : decode cc pc = .ok (.if_acmp .ne off, 3)) (ht : (pc : Int) + off = (tgt : Int))
    (kt : ¬ x = y → W p l e R s m args below meth c H locs cells slots Q (F0 m tgt ls rest)) (kf : x = y → W p l e R s m args below meth c H locs cells slots Q (F0 m (pc + 3) ls rest)) : W p l e R s m args below meth c H locs cells slots Q (F0 m pc ls (.ref y :: .ref x :: rest)) :=
  lv_acmp_ne (rx := some x) (ry := some y) hx hb hdg ht (fun h => kt (fun q => h (congrArg some q))) (fun h => kf (Option.some.inj h))
end ZL
/-! the enum's constants, the nest mate's links, the array class: what the component's methods ask of the state beside the words -/
def EN (ad : Nat → Nat) (A : Nat → Prop) (U : State) (H : Heap) : Prop := va_En R_D "LLockerRows$Door;" ["SHUT", "OPEN", "FORCED", "OUT"] [("java/lang/Enum", "ordinal", "I", [0, 1, 2, 3])] ad A U H
def nwQ : List (Nat × String × String) := [(66, "size", "I"), (85, "door", "LLockerRows$Door;"), (40, "until", "J"), (69, "item", "I"), (110, "lies", "Z"), (121, "lain", "J"), (155, "late", "Z"), (98, "code", "I")]
def NW (U : State) : Prop := ∀ q ∈ nwQ, va_Nw (.fieldLinkNest R_X q.1 R_B q.2.1 q.2.2 R_X) U
def CX (o : Option (Nat → Nat)) (A : Nat → Prop) (U : State) (H : Heap) : Prop := match o with
  | none => True
  | some ad => EN ad A U H ∧ NW U ∧ va_AO R_B U
theorem CX.call {o : Option (Nat → Nat)} {A B : Nat → Prop} {s U : State} {H : Heap} {locs : List Loc} (hC : CX o A s s.heap) (hS : va_S A s.heap H locs) (hAB : ∀ q, B q → A q) (hU : U.heap = H) (hW : s.WarmedH U.vm) : CX o B U U.heap := by
  cases o with
  | none => exact trivial
  | some ad =>
    obtain ⟨h1, h2, h3⟩ := hC
    refine ⟨?_, fun q hq => va_Nw.warmF hW (h2 q hq), va_AO.moved hW.alike h3⟩
    rw [hU]
    exact va_En.moved hW.alike (va_En.narrow (va_En.kept h1 hS.2.1) hAB)
theorem CX.blind {o : Option (Nat → Nat)} {A : Nat → Prop} {U : State} {g : JFrame} {mk : MethodId} {a : Array Value} (hC : CX o A U U.heap) : CX o A (U.calling g mk a) (U.calling g mk a).heap := by
  cases o with
  | none => exact trivial
  | some ad =>
    obtain ⟨h1, h2, h3⟩ := hC
    exact ⟨va_En.moved (u := U) (U := U.calling g mk a) (Vm.Alike.refl U.vm) h1, fun q hq => va_Nw.same rfl (u := U) (U := U.calling g mk a) rfl (h2 q hq), va_AO.moved (u := U) (U := U.calling g mk a) (Vm.Alike.refl U.vm) h3⟩
theorem CX.en {ad : Nat → Nat} {A : Nat → Prop} {U : State} {H : Heap} (h : CX (some ad) A U H) : EN ad A U H := h.1
theorem CX.nw {ad : Nat → Nat} {A : Nat → Prop} {U : State} {H : Heap} (h : CX (some ad) A U H) : NW U := h.2.1
theorem EN.inj {ad : Nat → Nat} {A : Nat → Prop} {U : State} {H : Heap} (h : EN ad A U H) {i j : Nat} (hi : i < 4) (hj : j < 4) : ad i = ad j ↔ i = j := ⟨fun e => h.2 i j hi hj e, fun e => by rw [e]⟩
/-- the world, apart, and what has moved since the method's start -/
def ST (D : va_G) (A : Nat → Prop) (ws : va_W) (H0 H : Heap) (locs : List Loc) : Prop := va_P D classes ws H ∧ va_D A ws ∧ va_S A H0 H locs
abbrev rmOf (lev mc ms : Nat) : Room := { frames := lev, cells := mc, slots := ms, locals := 40 * lev }
theorem gi {y : MethodName} {b : ByteArray} {nL : Nat} {ret : Option FieldType} (hc : Cond.code y b nL ret ∈ wG) : GoodIn wG (Cond.code y b nL ret :: wG) := by
  intro w hw
  have h : w ∈ wG := by
    rcases List.mem_cons.mp hw with rfl | h
    · exact hc
    · exact h
  exact ⟨h, good_of_word (List.mem_filter.mp h).2⟩
theorem cb_of {p : Program} {m : MethodId} {c : Code} {cc : ByteArray} {nL' : Nat} {s : State} {args : Array Value} {own : String} {R : Room} {y : MethodName} {b : ByteArray} {nL n index lev mc ms : Nat} {ret : Option FieldType} (C : CallFix p m c cc nL' s args wG own) (mi : MI y b nL ret n) (hlink : Cond.methodLink own index y ∈ wG) (hR : lev + 1 ≤ R.frames ∧ 8 + (nL + 11) + 40 * lev ≤ R.locals) : CallB R s args own index y b nL ret (Cond.code y b nL ret :: wG) (rmOf lev mc ms) mc ms n :=
  callB_of n C.2.2.2.2 (gi mi.1) rfl rfl rfl (C.2.2.2.2 _ mi.2.1) (C.2.2.2.2 _ hlink) mi.2.2.1 hR
/-! READ-ONLY methods that answer an int -/
def PR (D : va_G) (tys : List (ClassId × FieldType)) (ws : va_W) (o : Option (Nat → Nat)) (U : State) : Prop := va_P D classes ws U.heap ∧ va_K D classes tys U ∧ CX o (fun _ => False) U U.heap
def RO (l : Launch) (y : MethodName) (b : ByteArray) (nL : Nat) (ret : FieldType) (lev : Nat) (av : List Value) (Pre : State → Prop) (post : Int32 → Prop) : Prop :=
  Met l y (Cond.code y b nL (some ret) :: wG) (rmOf lev 0 0) (va_Pc av Pre) (vp_Si post) 0 0 (fun _ => False)
theorem RO.mk {l : Launch} {y : MethodName} {b : ByteArray} {nL n : Nat} {ret : FieldType} {lev : Nat} {av : List Value} {Pre : State → Prop} {post : Int32 → Prop} (mi : MI y b nL (some ret) n) (hlen : (lg_sl av).length ≤ nL)
    (body : ∀ (p : Program) (e : Env) (s : State) (m : MethodId) (below : List Frame) (meth : Method) (c : Code) (ls : Array Slot), CallFix p m c b nL s av.toArray wG y.cls → meth.sig.returnType = some ret → meth.locks = false → Pre s → lv_has ls nL (lv_args 0 av) →
      W p l e (rmOf lev 0 0) s m av.toArray below meth c s.heap [] 0 0 (MQ below (vp_Si post) av.toArray s 0 0 (fun _ => False)) (F0 m 0 ls [])) : RO l y b nL ret lev av Pre post := by
  refine va_MetF (cc := b) (maxL := nL) (ret := some ret) mi.2.2.2 rfl ?_
  intro p e s m args below meth c s₁ B hml hv
  obtain ⟨rfl, hp⟩ := hv
  have hts := atoms_spec (ws := Cond.code y b nL (some ret) :: wG) B.pre
  rw [lg_entry_eq]
  exact body p e s m below meth c _ ⟨B.exec, B.bytes, hml, findClass_of_methodNamed B.named, fun w hw => hts w (List.mem_cons_of_mem _ hw)⟩ B.returns B.notSynchronized hp (lv_entry av hlen)
section RC
variable {p : Program} {l : Launch} {e : Env} {R : Room} {s : State} {m : MethodId} {args : Array Value} {below : List Frame} {meth : Method} {c : Code} {H : Heap} {locs : List Loc} {cells slots : Nat} {Q : State → Prop}
variable {cc : ByteArray} {pc nL' : Nat} {ls : Array Slot} {rest : List Value} {own : String}
variable {y : MethodName} {b : ByteArray} {nL n index lev mc ms : Nat} {ret : FieldType} {av As : List Value} {Pre : State → Prop} {a : Nat}
theorem RO.fin {post : Int32 → Prop} {v : Int32} (hx : p.tables.exec = Jvm.exec) (hb : c.code = cc) (hr : meth.sig.returnType = some ret) (hlk : meth.locks = false) (hn : narrow ret (.int v) = .int v) (hp : post v) (hdg : decode cc pc = .ok (.ireturn, 1)) :
    W p l e R s m args below meth c s.heap [] cells slots (MQ below (vp_Si post) args s cells slots (fun _ => False)) (F0 m pc ls [.int v]) :=
  W.zret hx hb hr hn (fun t ht _ => ⟨v, rfl, hp, ht⟩) (fun q h => by cases h) hdg hlk
theorem RO.callV {post : Int32 → Prop} (hM : RO l y b nL ret lev (.ref a :: As) Pre post) (mi : MI y b nL (some ret) n) (mv : MV y) (C : CallFix p m c cc nL' s args wG own) (hlink : Cond.methodLink own index y ∈ wG) (hR : lev + 1 ≤ R.frames ∧ 8 + (nL + 11) + 40 * lev ≤ R.locals)
    (hbl : ∀ (U : State) (g : JFrame) (mk : MethodId) (a' : Array Value), Pre U → Pre (U.calling g mk a')) (hrecv : ∃ cell : Cell, H[a]? = some cell ∧ cell.vm.isStatics = false ∧ s.vm.findClass y.cls = some cell.cls) (hpre : ∀ U : State, U.heap = H → s.WarmedH U.vm → Pre U)
    (hls : ls.size = nL') (hn : As.length = n) (hsum : (rest.map fun v => v.category).sum ≤ 8) (hdg : decode cc pc = .ok (.invokevirtual index, 3)) (hcs : cells ≤ R.cells ∧ slots ≤ R.slots)
    (kk : ∀ r : Int32, post r → W p l e R s m args below meth c H locs cells slots Q (F0 m (pc + 3) ls (.int r :: rest))) : W p l e R s m args below meth c H locs cells slots Q (F0 m pc ls (As.reverse ++ .ref a :: rest)) :=
  vp_callSi (W.runV (As := As) (rest := rest) C hM ⟨cb_of C mi hlink hR, C.2.2.2.2 _ mv.1, C.2.2.2.2 _ mv.2⟩ ⟨fun a' U g mk q => ⟨q.1, hbl _ _ _ _ q.2⟩, hrecv, fun U hU hW => ⟨rfl, hpre U hU hW⟩⟩ rfl hn hls rfl (lv_room hsum) hdg hcs) kk
theorem RO.callS {post : Int32 → Prop} (hM : RO l y b nL ret lev As Pre post) (mi : MI y b nL (some ret) n) (ms0 : Cond.static y ∈ wG) (C : CallFix p m c cc nL' s args wG own) (hlink : Cond.methodLink own index y ∈ wG) (hR : lev + 1 ≤ R.frames ∧ 8 + (nL + 11) + 40 * lev ≤ R.locals)
    (hbl : ∀ (U : State) (g : JFrame) (mk : MethodId) (a' : Array Value), Pre U → Pre (U.calling g mk a')) (hpre : ∀ U : State, U.heap = H → s.WarmedH U.vm → Pre U)
    (hls : ls.size = nL') (hn : As.length = n) (hsum : (rest.map fun v => v.category).sum ≤ 8) (hdg : decode cc pc = .ok (.invokestatic index, 3)) (hcs : cells ≤ R.cells ∧ slots ≤ R.slots)
    (kk : ∀ r : Int32, post r → W p l e R s m args below meth c H locs cells slots Q (F0 m (pc + 3) ls (.int r :: rest))) : W p l e R s m args below meth c H locs cells slots Q (F0 m pc ls (As.reverse ++ rest)) :=
  vp_callSi (W.runS (As := As) (rest := rest) C hM ⟨cb_of C mi hlink hR, C.2.2.2.2 _ ms0⟩ ⟨fun a' U g mk q => ⟨q.1, hbl _ _ _ _ q.2⟩, fun U hU hW => ⟨rfl, hpre U hU hW⟩⟩ rfl hn hls rfl (lv_room hsum) hdg hcs) kk
variable {D : va_G} {tys : List (ClassId × FieldType)} {ws : va_W} {o : Option (Nat → Nat)} {A : Nat → Prop}
theorem PR.blind (U : State) (g : JFrame) (mk : MethodId) (a' : Array Value) (h : PR D tys ws o U) : PR D tys ws o (U.calling g mk a') :=
  ⟨h.1, va_K.moved (u := U) (U := U.calling g mk a') (Vm.Alike.refl U.vm) h.2.1, h.2.2.blind⟩
theorem PR.of (hP : va_P D classes ws H) (hK : va_K D classes tys s) (hC : CX o A s s.heap) (hS : va_S A s.heap H locs) : ∀ U : State, U.heap = H → s.WarmedH U.vm → PR D tys ws o U :=
  fun U hU hW => ⟨by rw [hU]; exact hP, va_K.moved hW.alike hK, hC.call hS (fun _ h => h.elim) hU hW⟩
/-- a call of a read-only method on an object of the world -/
theorem RO.callP {post : Int32 → Prop} (hM : RO l y b nL ret lev (.ref a :: As) (PR D tys ws o) post) (mi : MI y b nL (some ret) n) (mv : MV y) (C : CallFix p m c cc nL' s args wG own) (hlink : Cond.methodLink own index y ∈ wG) (hR : lev + 1 ≤ R.frames ∧ 8 + (nL + 11) + 40 * lev ≤ R.locals)
    (hP : va_P D classes ws H) (hK : va_K D classes tys s) (hC : CX o A s s.heap) (hS : va_S A s.heap H locs) {q0 ci : Nat} {T : u_T} {N : Nat} {fs : List Value} (he : ws[q0]? = some (a, .inr (ci, fs))) (hc : classes[ci]? = some (y.cls, T, N))
    (hls : ls.size = nL') (hn : As.length = n) (hsum : (rest.map fun v => v.category).sum ≤ 8) (hdg : decode cc pc = .ok (.invokevirtual index, 3)) (hcs : cells ≤ R.cells ∧ slots ≤ R.slots)
    (kk : ∀ r : Int32, post r → W p l e R s m args below meth c H locs cells slots Q (F0 m (pc + 3) ls (.int r :: rest))) : W p l e R s m args below meth c H locs cells slots Q (F0 m pc ls (As.reverse ++ .ref a :: rest)) :=
  hM.callV mi mv C hlink hR PR.blind (va_recv hK hP hc he) (PR.of hP hK hC hS) hls hn hsum hdg hcs kk
end RC
/-! methods that WRITE: the world behind is named -/
def PW (D : va_G) (tys : List (ClassId × FieldType)) (ws : va_W) (o : Option (Nat → Nat)) (sz : Nat) (U : State) : Prop := U.heap.size = sz ∧ va_P D classes ws U.heap ∧ va_K D classes tys U ∧ va_D (fun _ => True) ws ∧ CX o (va_A ws sz) U U.heap
def PB (D : va_G) (A : Nat → Prop) (w : va_W) (t : State) : Prop := va_P D classes w t.heap ∧ va_D A w
def MOi (l : Launch) (y : MethodName) (b : ByteArray) (nL lev mc ms : Nat) (av : List Value) (D : va_G) (tys : List (ClassId × FieldType)) (ws : va_W) (o : Option (Nat → Nat)) (post : Int32 → va_W → Prop) : Prop :=
  ∀ sz : Nat, Met l y (Cond.code y b nL (some .int) :: wG) (rmOf lev mc ms) (va_Pc av (PW D tys ws o sz)) (va_Qi post (PB D (va_A ws sz)) (va_A ws sz)) mc ms (va_A ws sz)
def MOv (l : Launch) (y : MethodName) (b : ByteArray) (nL lev mc ms : Nat) (av : List Value) (D : va_G) (tys : List (ClassId × FieldType)) (ws : va_W) (o : Option (Nat → Nat)) (post : va_W → Prop) : Prop :=
  ∀ sz : Nat, Met l y (Cond.code y b nL none :: wG) (rmOf lev mc ms) (va_Pc av (PW D tys ws o sz)) (va_Qv post (PB D (va_A ws sz)) (va_A ws sz)) mc ms (va_A ws sz)
theorem MOi.mk {l : Launch} {y : MethodName} {b : ByteArray} {nL n lev mc ms : Nat} {av : List Value} {D : va_G} {tys : List (ClassId × FieldType)} {ws : va_W} {o : Option (Nat → Nat)} {post : Int32 → va_W → Prop} (mi : MI y b nL (some .int) n) (hlen : (lg_sl av).length ≤ nL)
    (body : ∀ (p : Program) (e : Env) (s : State) (m : MethodId) (below : List Frame) (meth : Method) (c : Code) (ls : Array Slot) (A : Nat → Prop), CallFix p m c b nL s av.toArray wG y.cls → meth.sig.returnType = some .int → meth.locks = false → va_K D classes tys s → CX o A s s.heap → (∀ q : Nat, s.heap.size ≤ q → A q) → ST D A ws s.heap s.heap [] → lv_has ls nL (lv_args 0 av) →
      W p l e (rmOf lev mc ms) s m av.toArray below meth c s.heap [] 0 0 (MQ below (va_Qi post (PB D A) A) av.toArray s mc ms A) (F0 m 0 ls [])) : MOi l y b nL lev mc ms av D tys ws o post := by
  intro sz
  refine va_MetF (cc := b) (maxL := nL) (ret := some .int) mi.2.2.2 rfl ?_
  intro p e s m args below meth c s₁ B hml hv
  obtain ⟨rfl, hsz, hP, hK, hD, hC⟩ := hv
  subst hsz
  have hts := atoms_spec (ws := Cond.code y b nL (some .int) :: wG) B.pre
  rw [lg_entry_eq]
  exact body p e s m below meth c _ _ ⟨B.exec, B.bytes, hml, findClass_of_methodNamed B.named, fun w hw => hts w (List.mem_cons_of_mem _ hw)⟩ B.returns B.notSynchronized hK hC (fun q h => Or.inr h) ⟨hP, hD.self, va_S.rf⟩ (lv_entry av hlen)
theorem MOv.mk {l : Launch} {y : MethodName} {b : ByteArray} {nL n lev mc ms : Nat} {av : List Value} {D : va_G} {tys : List (ClassId × FieldType)} {ws : va_W} {o : Option (Nat → Nat)} {post : va_W → Prop} (mi : MI y b nL none n) (hlen : (lg_sl av).length ≤ nL)
    (body : ∀ (p : Program) (e : Env) (s : State) (m : MethodId) (below : List Frame) (meth : Method) (c : Code) (ls : Array Slot) (A : Nat → Prop), CallFix p m c b nL s av.toArray wG y.cls → meth.sig.returnType = none → meth.locks = false → (y.name = "<init>" → meth.name = "<init>") → va_K D classes tys s → CX o A s s.heap → (∀ q : Nat, s.heap.size ≤ q → A q) → ST D A ws s.heap s.heap [] → lv_has ls nL (lv_args 0 av) →
      W p l e (rmOf lev mc ms) s m av.toArray below meth c s.heap [] 0 0 (MQ below (va_Qv post (PB D A) A) av.toArray s mc ms A) (F0 m 0 ls [])) : MOv l y b nL lev mc ms av D tys ws o post := by
  intro sz
  refine va_MetF (cc := b) (maxL := nL) (ret := none) mi.2.2.2 rfl ?_
  intro p e s m args below meth c s₁ B hml hv
  obtain ⟨rfl, hsz, hP, hK, hD, hC⟩ := hv
  subst hsz
  have hts := atoms_spec (ws := Cond.code y b nL none :: wG) B.pre
  rw [lg_entry_eq]
  exact body p e s m below meth c _ _ ⟨B.exec, B.bytes, hml, findClass_of_methodNamed B.named, fun w hw => hts w (List.mem_cons_of_mem _ hw)⟩ B.returns B.notSynchronized (fun h => (name_of_methodNamed B.named B.method).1.trans h) hK hC (fun q h => Or.inr h) ⟨hP, hD.self, va_S.rf⟩ (lv_entry av hlen)
section MC
variable {p : Program} {l : Launch} {e : Env} {R : Room} {s : State} {m : MethodId} {args : Array Value} {below : List Frame} {meth : Method} {c : Code} {H : Heap} {locs : List Loc} {cells slots : Nat} {Q : State → Prop}
variable {cc : ByteArray} {pc nL' : Nat} {ls : Array Slot} {rest : List Value} {own : String}
variable {y : MethodName} {b : ByteArray} {nL n index lev mc ms : Nat} {av As : List Value} {a : Nat}
variable {D : va_G} {tys : List (ClassId × FieldType)} {ws : va_W} {o : Option (Nat → Nat)} {A : Nat → Prop}
theorem MOi.fin {post : Int32 → va_W → Prop} {v : Int32} (hx : p.tables.exec = Jvm.exec) (hb : c.code = cc) (hr : meth.sig.returnType = some .int) (hlk : meth.locks = false) (h : ST D A ws s.heap H locs) (hp : post v ws) (hdg : decode cc pc = .ok (.ireturn, 1)) :
    W p l e R s m args below meth c H locs cells slots (MQ below (va_Qi post (PB D A) A) args s cells slots A) (F0 m pc ls [.int v]) :=
  W.iret hx hb hr (fun t ht _ => ⟨⟨v, ws, rfl, hp, by rw [ht]; exact h.1, h.2.1⟩, h.2.2.F ht⟩) h.2.2.2.2 hdg hlk
theorem MOv.fin {post : va_W → Prop} (hx : p.tables.exec = Jvm.exec) (hb : c.code = cc) (hr : meth.sig.returnType = none) (hlk : meth.locks = false) (h : ST D A ws s.heap H locs) (hp : post ws) (hdg : decode cc pc = .ok (.return_, 1)) :
    W p l e R s m args below meth c H locs cells slots (MQ below (va_Qv post (PB D A) A) args s cells slots A) (F0 m pc ls []) :=
  W.vret hx hb hr (fun t ht _ => ⟨⟨ws, rfl, hp, by rw [ht]; exact h.1, h.2.1⟩, h.2.2.F ht⟩) h.2.2.2.2 hdg hlk
theorem PW.blind {sz : Nat} (U : State) (g : JFrame) (mk : MethodId) (a' : Array Value) (h : PW D tys ws o sz U) : PW D tys ws o sz (U.calling g mk a') :=
  ⟨h.1, h.2.1, va_K.moved (u := U) (U := U.calling g mk a') (Vm.Alike.refl U.vm) h.2.2.1, h.2.2.2.1, h.2.2.2.2.blind⟩
theorem sub_A (hD : va_D A ws) (hS : va_S A s.heap H locs) (hA : ∀ q : Nat, s.heap.size ≤ q → A q) : ∀ q, va_A ws H.size q → A q := by
  intro q h
  rcases h with ⟨k, e, h⟩ | h
  · exact hD.2 k _ h
  · exact hA q (Nat.le_trans hS.1 h)
theorem PW.of (hP : va_P D classes ws H) (hD : va_D A ws) (hK : va_K D classes tys s) (hC : CX o A s s.heap) (hS : va_S A s.heap H locs) (hA : ∀ q : Nat, s.heap.size ≤ q → A q) : ∀ U : State, U.heap = H → s.WarmedH U.vm → PW D tys ws o H.size U :=
  fun U hU hW => ⟨by rw [hU], by rw [hU]; exact hP, va_K.moved hW.alike hK, hD.weaken (fun _ _ _ _ => trivial), hC.call hS (sub_A hD hS hA) hU hW⟩
theorem MOi.core {post : Int32 → va_W → Prop} (hM : MOi l y b nL lev mc ms (.ref a :: As) D tys ws o post) (mi : MI y b nL (some .int) n) (mv : MV y) (C : CallFix p m c cc nL' s args wG own) (hlink : Cond.methodLink own index y ∈ wG) (hR : lev + 1 ≤ R.frames ∧ 8 + (nL + 11) + 40 * lev ≤ R.locals)
    (hP : va_P D classes ws H) (hD : va_D A ws) (hK : va_K D classes tys s) (hC : CX o A s s.heap) (hS : va_S A s.heap H locs) (hA : ∀ q : Nat, s.heap.size ≤ q → A q) {q0 ci : Nat} {T : u_T} {N : Nat} {fs : List Value} (he : ws[q0]? = some (a, .inr (ci, fs))) (hc : classes[ci]? = some (y.cls, T, N))
    (hls : ls.size = nL') (hn : As.length = n) (hsum : (rest.map fun v => v.category).sum ≤ 8) (hdg : decode cc pc = .ok (.invokevirtual index, 3)) (hcs : cells + mc ≤ R.cells ∧ slots + ms ≤ R.slots)
    (kk : ∀ (r : Int32) (w : va_W) (H1 : Heap) (locs1 : List Loc), post r w → va_P D classes w H1 → va_D (va_A ws H.size) w → (∀ q : Nat, q < H.size → ¬ va_A ws H.size q → H1[q]? = H[q]?) → va_S A s.heap H1 locs1 → W p l e R s m args below meth c H1 locs1 (cells + mc) (slots + ms) Q (F0 m (pc + 3) ls (.int r :: rest))) : W p l e R s m args below meth c H locs cells slots Q (F0 m pc ls (As.reverse ++ .ref a :: rest)) :=
  va_calli (va_runV (As := As) (rest := rest) C (hM H.size) ⟨cb_of C mi hlink hR, C.2.2.2.2 _ mv.1, C.2.2.2.2 _ mv.2⟩ ⟨fun a' U g mk q => ⟨q.1, PW.blind _ _ _ _ q.2⟩, va_recv hK hP hc he, fun U hU hW => ⟨rfl, PW.of hP hD hK hC hS hA U hU hW⟩⟩ rfl hn hls rfl (lv_room hsum) hdg hcs) hS (fun q _ h => sub_A hD hS hA q h) (sub_A hD hS hA)
    (fun r w t H1 locs1 ht _ hp hB _ hk hS1 => kk r w H1 locs1 hp (by rw [← ht]; exact hB.1) hB.2 hk hS1)
theorem MOv.core {post : va_W → Prop} (hM : MOv l y b nL lev mc ms (.ref a :: As) D tys ws o post) (mi : MI y b nL none n) (mv : MV y) (C : CallFix p m c cc nL' s args wG own) (hlink : Cond.methodLink own index y ∈ wG) (hR : lev + 1 ≤ R.frames ∧ 8 + (nL + 11) + 40 * lev ≤ R.locals)
    (hP : va_P D classes ws H) (hD : va_D A ws) (hK : va_K D classes tys s) (hC : CX o A s s.heap) (hS : va_S A s.heap H locs) (hA : ∀ q : Nat, s.heap.size ≤ q → A q) {q0 ci : Nat} {T : u_T} {N : Nat} {fs : List Value} (he : ws[q0]? = some (a, .inr (ci, fs))) (hc : classes[ci]? = some (y.cls, T, N))
    (hls : ls.size = nL') (hn : As.length = n) (hsum : (rest.map fun v => v.category).sum ≤ 8) (hdg : decode cc pc = .ok (.invokevirtual index, 3)) (hcs : cells + mc ≤ R.cells ∧ slots + ms ≤ R.slots)
    (kk : ∀ (w : va_W) (H1 : Heap) (locs1 : List Loc), post w → va_P D classes w H1 → va_D (va_A ws H.size) w → (∀ q : Nat, q < H.size → ¬ va_A ws H.size q → H1[q]? = H[q]?) → va_S A s.heap H1 locs1 → W p l e R s m args below meth c H1 locs1 (cells + mc) (slots + ms) Q (F0 m (pc + 3) ls rest)) : W p l e R s m args below meth c H locs cells slots Q (F0 m pc ls (As.reverse ++ .ref a :: rest)) :=
  va_callv (va_runV (As := As) (rest := rest) C (hM H.size) ⟨cb_of C mi hlink hR, C.2.2.2.2 _ mv.1, C.2.2.2.2 _ mv.2⟩ ⟨fun a' U g mk q => ⟨q.1, PW.blind _ _ _ _ q.2⟩, va_recv hK hP hc he, fun U hU hW => ⟨rfl, PW.of hP hD hK hC hS hA U hU hW⟩⟩ rfl hn hls rfl (lv_room hsum) hdg hcs) hS (fun q _ h => sub_A hD hS hA q h) (sub_A hD hS hA)
    (fun w t H1 locs1 ht _ hp hB _ hk hS1 => kk w H1 locs1 hp (by rw [← ht]; exact hB.1) hB.2 hk hS1)
theorem MOv.coreI {post : va_W → Prop} (hM : MOv l y b nL lev mc ms (.ref a :: As) D tys ws o post) (mi : MI y b nL none n) (hy : y.name = "<init>") (hi : Cond.instanceMethod y ∈ wG) (C : CallFix p m c cc nL' s args wG own) (hlink : Cond.methodLink own index y ∈ wG) (hR : lev + 1 ≤ R.frames ∧ 8 + (nL + 11) + 40 * lev ≤ R.locals)
    (hP : va_P D classes ws H) (hD : va_D A ws) (hK : va_K D classes tys s) (hC : CX o A s s.heap) (hS : va_S A s.heap H locs) (hA : ∀ q : Nat, s.heap.size ≤ q → A q)
    (hls : ls.size = nL') (hn : As.length = n) (hsum : (rest.map fun v => v.category).sum ≤ 8) (hdg : decode cc pc = .ok (.invokespecial index, 3)) (hcs : cells + mc ≤ R.cells ∧ slots + ms ≤ R.slots)
    (kk : ∀ (w : va_W) (H1 : Heap) (locs1 : List Loc), post w → va_P D classes w H1 → va_D (va_A ws H.size) w → (∀ q : Nat, q < H.size → ¬ va_A ws H.size q → H1[q]? = H[q]?) → va_S A s.heap H1 locs1 → W p l e R s m args below meth c H1 locs1 (cells + mc) (slots + ms) Q (F0 m (pc + 3) ls rest)) : W p l e R s m args below meth c H locs cells slots Q (F0 m pc ls (As.reverse ++ .ref a :: rest)) :=
  va_callv (va_runI (As := As) (rest := rest) C (hM H.size) ⟨cb_of C mi hlink hR, hy, C.2.2.2.2 _ hi⟩ ⟨fun a' U g mk q => ⟨q.1, PW.blind _ _ _ _ q.2⟩, fun U hU hW => ⟨rfl, PW.of hP hD hK hC hS hA U hU hW⟩⟩ rfl hn hls rfl (lv_room hsum) hdg hcs) hS (fun q _ h => sub_A hD hS hA q h) (sub_A hD hS hA)
    (fun w t H1 locs1 ht _ hp hB _ hk hS1 => kk w H1 locs1 hp (by rw [← ht]; exact hB.1) hB.2 hk hS1)
end MC
/-! joining what came back with the rest -/
theorem ST.all {D : va_G} {A : Nat → Prop} {ws w : va_W} {H0 H H1 : Heap} {locs locs1 : List Loc} (h : ST D A ws H0 H locs) (hF : ∀ q, va_A ws H.size q → A q) (hP1 : va_P D classes w H1) (hD1 : va_D (va_A ws H.size) w) (hS1 : va_S A H0 H1 locs1) : ST D A w H0 H1 locs1 :=
  ⟨hP1, hD1.weaken (fun _ q _ z => hF q.1 z), hS1⟩
theorem one_get {α : Type} {x q : α} {k : Nat} (h : [x][k]? = some q) : k = 0 ∧ q = x := by
  cases k with
  | zero => exact ⟨rfl, (Option.some.inj h).symm⟩
  | succ k => simp at h
theorem va_P.one {D : va_G} {cl : List vw_C} {ws : va_W} {H : Heap} {i : Nat} {q : Nat × va_E} (h : va_P D cl ws H) (hi : ws[i]? = some q) : va_P D cl [q] H := by
  intro k x hk
  obtain ⟨-, rfl⟩ := one_get hk
  exact h i x hi
theorem va_D.one {A : Nat → Prop} {ws : va_W} {i : Nat} {q : Nat × va_E} (h : va_D A ws) (hi : ws[i]? = some q) : va_D A [q] := by
  refine ⟨fun a b x y ha hb _ => ?_, fun k x hk => ?_⟩
  · rw [(one_get ha).1, (one_get hb).1]
  · obtain ⟨-, rfl⟩ := one_get hk
    exact h.2 i x hi
theorem ST.at {D : va_G} {A : Nat → Prop} {ws : va_W} {H0 H H1 : Heap} {locs locs1 : List Loc} {i a : Nat} {e e1 : va_E} (h : ST D A ws H0 H locs) (hi : ws[i]? = some (a, e)) (hk : ∀ q : Nat, q < H.size → ¬ va_A [(a, e)] H.size q → H1[q]? = H[q]?) (hP1 : va_P D classes [(a, e1)] H1) (hS1 : va_S A H0 H1 locs1) : ST D A (ws.set i (a, e1)) H0 H1 locs1 := by
  obtain ⟨hP, hD, hS⟩ := h
  refine ⟨?_, hD.set hi, hS1⟩
  have hl := (List.getElem?_eq_some_iff.mp hi).1
  intro k q hq
  by_cases hki : k = i
  · subst hki
    rw [List.getElem?_set_self hl] at hq
    cases hq
    exact hP1 0 _ rfl
  · rw [List.getElem?_set_ne (Ne.symm hki)] at hq
    refine (hP k q hq).kept (hk q.1 (hP k q hq).lt ?_)
    rintro (⟨j, x, hj⟩ | hj)
    · obtain ⟨-, hx⟩ := one_get hj
      have hx1 : q.1 = a := congrArg (fun z : Nat × va_E => z.1) hx
      exact hki (hD.1 k i q (a, e) hq hi hx1)
    · have := (hP k q hq).lt
      omega
/-! two worlds side by side -/
theorem va_P.left {D : va_G} {cl : List vw_C} {w1 w2 : va_W} {H : Heap} (h : va_P D cl (w1 ++ w2) H) : va_P D cl w1 H := fun k q hk => h k q (by rw [List.getElem?_append_left (List.getElem?_eq_some_iff.mp hk).1]; exact hk)
theorem va_P.right {D : va_G} {cl : List vw_C} {w1 w2 : va_W} {H : Heap} (h : va_P D cl (w1 ++ w2) H) : va_P D cl w2 H := fun k q hk => h (w1.length + k) q (by rw [List.getElem?_append_right (by omega), Nat.add_sub_cancel_left]; exact hk)
theorem va_D.left {A : Nat → Prop} {w1 w2 : va_W} (h : va_D A (w1 ++ w2)) : va_D A w1 :=
  h.by id (fun k q hk => by show (w1 ++ w2)[k]? = some q; rw [List.getElem?_append_left (List.getElem?_eq_some_iff.mp hk).1]; exact hk) (fun _ _ _ _ e => e)
theorem va_D.right {A : Nat → Prop} {w1 w2 : va_W} (h : va_D A (w1 ++ w2)) : va_D A w2 :=
  h.by (fun k => w1.length + k) (fun k q hk => by show (w1 ++ w2)[w1.length + k]? = some q; rw [List.getElem?_append_right (by omega), Nat.add_sub_cancel_left]; exact hk) (fun _ _ _ _ e => Nat.add_left_cancel e)
theorem va_D.apart {A : Nat → Prop} {w1 w2 : va_W} (h : va_D A (w1 ++ w2)) {i j : Nat} {x y : Nat × va_E} (hi : w1[i]? = some x) (hj : w2[j]? = some y) : x.1 ≠ y.1 := by
  intro e
  have l1 := (List.getElem?_eq_some_iff.mp hi).1
  have h1 : (w1 ++ w2)[i]? = some x := by rw [List.getElem?_append_left l1]; exact hi
  have h2 : (w1 ++ w2)[w1.length + j]? = some y := by rw [List.getElem?_append_right (by omega), Nat.add_sub_cancel_left]; exact hj
  have := h.1 _ _ _ _ h1 h2 e
  omega
theorem va_D.comm {A : Nat → Prop} {w1 w2 : va_W} (h : va_D A (w1 ++ w2)) : va_D A (w2 ++ w1) := va_D.app h.right h.left (fun i j x y hx hy e => h.apart hy hx e.symm)
theorem ST.comm {D : va_G} {A : Nat → Prop} {w1 w2 : va_W} {H0 H : Heap} {locs : List Loc} (h : ST D A (w1 ++ w2) H0 H locs) : ST D A (w2 ++ w1) H0 H locs := ⟨va_P.app h.1.right h.1.left, h.2.1.comm, h.2.2⟩
theorem ST.side {D : va_G} {A : Nat → Prop} {w1 w2 w : va_W} {H0 H H1 : Heap} {locs locs1 : List Loc} (h : ST D A (w1 ++ w2) H0 H locs) (hF : ∀ q, va_A w1 H.size q → A q) (hk : ∀ q : Nat, q < H.size → ¬ va_A w1 H.size q → H1[q]? = H[q]?) (hP1 : va_P D classes w H1) (hD1 : va_D (va_A w1 H.size) w) (hS1 : va_S A H0 H1 locs1) : ST D A (w ++ w2) H0 H1 locs1 := by
  obtain ⟨hP, hD, hS⟩ := h
  have ap : ∀ (k : Nat) (q : Nat × va_E), w2[k]? = some q → q.1 < H.size ∧ ¬ va_A w1 H.size q.1 := by
    intro k q hq
    have hl := (hP.right k q hq).lt
    refine ⟨hl, ?_⟩
    rintro (⟨j, x, hj⟩ | hj)
    · exact hD.apart hj hq rfl
    · omega
  refine ⟨va_P.app hP1 (fun k q hq => (hP.right k q hq).kept (hk q.1 (ap k q hq).1 (ap k q hq).2)), va_D.app (hD1.weaken (fun _ q _ z => hF q.1 z)) hD.right (fun i j x y hx hy e => ?_), hS1⟩
  exact (ap j y hy).2 (by rw [← e]; exact hD1.2 i x hx)
/-! the pool of boxes: numbered from 1 -/
def pl (n : Nat) (bx : Nat → Nat) (E : Nat → va_E) : va_W := (List.range n).map (fun i => (bx (i + 1), E (i + 1)))
theorem pl_at {n : Nat} {bx : Nat → Nat} {E : Nat → va_E} (i : Nat) : (pl n bx E)[i]? = if i < n then some (bx (i + 1), E (i + 1)) else none := by
  by_cases h : i < n
  · rw [if_pos h, pl, List.getElem?_map, List.getElem?_range h]; rfl
  · rw [if_neg h, List.getElem?_eq_none]; simp [pl]; omega
theorem pl_get {X : va_W} {n : Nat} {bx : Nat → Nat} {E : Nat → va_E} {k : Nat} (h1 : 1 ≤ k) (h2 : k ≤ n) : (X ++ pl n bx E)[X.length + (k - 1)]? = some (bx k, E k) := by
  rw [List.getElem?_append_right (by omega), Nat.add_sub_cancel_left, pl_at, if_pos (by omega)]
  rw [show k - 1 + 1 = k by omega]
theorem pl_set {X : va_W} {n : Nat} {bx : Nat → Nat} {E : Nat → va_E} {k : Nat} {e : va_E} (h1 : 1 ≤ k) (h2 : k ≤ n) : (X ++ pl n bx E).set (X.length + (k - 1)) (bx k, e) = X ++ pl n bx (va_up E k e) := by
  have hl : X.length + (k - 1) < (X ++ pl n bx E).length := (List.getElem?_eq_some_iff.mp (pl_get h1 h2)).1
  apply List.ext_getElem?
  intro j
  by_cases hj : j = X.length + (k - 1)
  · subst hj
    rw [List.getElem?_set_self hl, pl_get h1 h2, va_up_self]
  · rw [List.getElem?_set_ne (Ne.symm hj)]
    by_cases hx : j < X.length
    · rw [List.getElem?_append_left hx, List.getElem?_append_left hx]
    · rw [List.getElem?_append_right (by omega), List.getElem?_append_right (by omega), pl_at, pl_at]
      by_cases hn : j - X.length < n
      · rw [if_pos hn, if_pos hn, va_up_ne _ _ (by omega)]
      · rw [if_neg hn, if_neg hn]
theorem pl_push {n : Nat} {bx : Nat → Nat} {E : Nat → va_E} {a : Nat} {e : va_E} : pl n bx E ++ [(a, e)] = pl (n + 1) (va_up bx (n + 1) a) (va_up E (n + 1) e) := by
  apply List.ext_getElem?
  intro j
  rw [pl_at]
  by_cases hj : j < n
  · rw [List.getElem?_append_left (by simp [pl]; exact hj), pl_at, if_pos hj, if_pos (by omega), va_up_ne _ _ (by omega), va_up_ne _ _ (by omega)]
  · rw [List.getElem?_append_right (by simp [pl]; omega)]
    have e1 : (pl n bx E).length = n := by simp [pl]
    rw [e1]
    by_cases hn : j = n
    · subst hn
      rw [Nat.sub_self, if_pos (by omega), va_up_self, va_up_self]; rfl
    · rw [if_neg (by omega), List.getElem?_eq_none (by simp; omega)]
theorem pl_congr {n : Nat} {bx bx' : Nat → Nat} {E E' : Nat → va_E} (h : ∀ k, 1 ≤ k → k ≤ n → bx k = bx' k ∧ E k = E' k) : pl n bx E = pl n bx' E' := by
  unfold pl
  apply List.map_congr_left
  intro i hi
  have hi' := List.mem_range.mp hi
  obtain ⟨h1, h2⟩ := h (i + 1) (by omega) (by omega)
  rw [h1, h2]
end
section
/-! ===== the two worlds, and a row for each field and array: printed by gen/worlds.py ===== -/
abbrev tyX (cQ cI : ClassId) : List (ClassId × FieldType) := [(cQ, .object R_B), (cI, .int)]
abbrev tyM (cI cJ cZ : ClassId) : List (ClassId × FieldType) := [(cI, .int), (cJ, .long), (cZ, .boolean)]
def wX (g : Nat → Nat) (cQ cI : ClassId) (ct ts : Int32) (nw : Int64) (al wr : Int32) (wt : Int64) (fc : Int32) (fB : Nat → Option Nat) (fT fF : Nat → Int32) : va_W := [(g 0, .inr (0, [.ref (g 1), .int ct, .ref (g 2), .int ts, .long nw, .int al, .int wr, .long wt, .ref (g 3), .int fc])), (g 1, .inl (cQ, 61, .inr (.inr (.inr (.inr fB))))), (g 2, .inl (cI, 200, .inl fT)), (g 3, .inl (cI, 100, .inl fF))]
def bc (sz : Int32) (dr : Nat) (si : Int64) (td : Int32) (un : Int64) (it ly : Int32) (ln : Int64) (lt cd : Int32) : va_E := .inr (1, [.int sz, .ref dr, .long si, .int td, .long un, .int it, .int ly, .long ln, .int lt, .int cd])
def wM (q : Nat → Nat) (cI cJ cZ : ClassId) (bn : Int32) (sz dr : Nat → Int32) (si : Nat → Int64) (td it cd : Nat → Int32) (li : Nat → Int64) (lt : Nat → Int32) (kp : Nat → Int64) (tm : Int64) (al wr : Int32) (wa : Int64) (tn : Int32) (tp : Nat → Int32) (fn : Int32) (ff : Nat → Int32) : va_W := [(q 0, .inr (2, [.int bn, .ref (q 1), .ref (q 2), .ref (q 3), .ref (q 4), .ref (q 5), .ref (q 6), .ref (q 7), .ref (q 8), .ref (q 9), .long tm, .int al, .int wr, .long wa, .int tn, .ref (q 10), .int fn, .ref (q 11)])), (q 1, .inl (cI, 61, .inl sz)), (q 2, .inl (cI, 61, .inl dr)), (q 3, .inl (cJ, 61, .inr (.inl si))), (q 4, .inl (cZ, 61, .inl td)), (q 5, .inl (cI, 61, .inl it)), (q 6, .inl (cI, 61, .inl cd)), (q 7, .inl (cJ, 61, .inr (.inl li))), (q 8, .inl (cZ, 61, .inl lt)), (q 9, .inl (cJ, 61, .inr (.inl kp))), (q 10, .inl (cI, 200, .inl tp)), (q 11, .inl (cI, 100, .inl ff))]
section ROWS
variable {p : Program} {l : Launch} {e : Env} {R : Room} {s : State} {m : MethodId} {args : Array Value} {below : List Frame} {meth : Method} {c : Code} {H H0 : Heap} {locs : List Loc} {cells slots : Nat} {Q : State → Prop}
variable {cc : ByteArray} {pc nL : Nat} {ls : Array Slot} {rest : List Value} {own : String} {D : va_G} {tys : List (ClassId × FieldType)} {A : Nat → Prop} {ad : Nat → Nat}
variable {g : Nat → Nat} {cQ : ClassId} {ct ts : Int32} {nw : Int64} {al wr : Int32} {wt : Int64} {fc : Int32} {fB : Nat → Option Nat} {fT fF : Nat → Int32} {P X : va_W} {n : Nat} {bx : Nat → Nat} {E : Nat → va_E}
variable {bsz : Int32} {bdr : Nat} {bsi : Int64} {btd : Int32} {bun : Int64} {bit bly : Int32} {bln : Int64} {blt bcd : Int32}
variable {q : Nat → Nat} {cI cJ cZ : ClassId} {bn : Int32} {sz dr : Nat → Int32} {si : Nat → Int64} {td it cd : Nat → Int32} {li : Nat → Int64} {lt : Nat → Int32} {kp : Nat → Int64} {tm : Int64} {wa : Int64} {tn : Int32} {tp : Nat → Int32} {fn : Int32} {ff : Nat → Int32}
theorem gX_boxes (C : CallFix p m c cc nL s args wG R_X) (hK : va_K D classes tys s) (hP : va_P D classes (wX g cQ cI ct ts nw al wr wt fc fB fT fF ++ P) H) (hdg : decode cc pc = .ok (.getfield 9, 3)) (kk : W p l e R s m args below meth c H locs cells slots Q (F0 m (pc + 3) ls (.ref (g 1) :: rest))) : W p l e R s m args below meth c H locs cells slots Q (F0 m pc ls (.ref (g 0) :: rest)) :=
  va_get C.1 C.2.1 C.2.2.2.2 i_X C.2.2.2.1 hK hP 0 rfl rfl 0 (by decide) (C.2.2.2.2 _ kw_17) (fun _ z => z) rfl hdg kk
theorem gX_count (C : CallFix p m c cc nL s args wG R_X) (hK : va_K D classes tys s) (hP : va_P D classes (wX g cQ cI ct ts nw al wr wt fc fB fT fF ++ P) H) (hdg : decode cc pc = .ok (.getfield 22, 3)) (kk : W p l e R s m args below meth c H locs cells slots Q (F0 m (pc + 3) ls (.int ct :: rest))) : W p l e R s m args below meth c H locs cells slots Q (F0 m pc ls (.ref (g 0) :: rest)) :=
  va_get C.1 C.2.1 C.2.2.2.2 i_X C.2.2.2.1 hK hP 0 rfl rfl 1 (by decide) (C.2.2.2.2 _ kw_18) (fun _ z => z) rfl hdg kk
theorem pX_count (C : CallFix p m c cc nL s args wG R_X) (hK : va_K D classes tys s) (h : ST D A (wX g cQ cI ct ts nw al wr wt fc fB fT fF ++ P) H0 H locs) {v : Int32} (hdg : decode cc pc = .ok (.putfield 22, 3)) (kk : ∀ (H1 : Heap) (locs1 : List Loc), ST D A (wX g cQ cI v ts nw al wr wt fc fB fT fF ++ P) H0 H1 locs1 → W p l e R s m args below meth c H1 locs1 cells slots Q (F0 m (pc + 3) ls rest)) : W p l e R s m args below meth c H locs cells slots Q (F0 m pc ls (.int v :: .ref (g 0) :: rest)) :=
  va_put C.1 C.2.1 C.2.2.2.2 i_X t_X t_X_ok n_X C.2.2.2.1 hK h.1 h.2.1 h.2.2 0 rfl rfl 1 (by decide) (C.2.2.2.2 _ kw_18) (fun _ z => z) rfl (t_X_ok 1 (by decide)) rfl rfl (Nat.le_of_ble_eq_true rfl) hdg (fun H1 locs1 a b d => kk H1 locs1 ⟨a, b, d⟩)
theorem gX_tape (C : CallFix p m c cc nL s args wG R_X) (hK : va_K D classes tys s) (hP : va_P D classes (wX g cQ cI ct ts nw al wr wt fc fB fT fF ++ P) H) (hdg : decode cc pc = .ok (.getfield 15, 3)) (kk : W p l e R s m args below meth c H locs cells slots Q (F0 m (pc + 3) ls (.ref (g 2) :: rest))) : W p l e R s m args below meth c H locs cells slots Q (F0 m pc ls (.ref (g 0) :: rest)) :=
  va_get C.1 C.2.1 C.2.2.2.2 i_X C.2.2.2.1 hK hP 0 rfl rfl 2 (by decide) (C.2.2.2.2 _ kw_19) (fun _ z => z) rfl hdg kk
theorem gX_tapeSize (C : CallFix p m c cc nL s args wG R_X) (hK : va_K D classes tys s) (hP : va_P D classes (wX g cQ cI ct ts nw al wr wt fc fB fT fF ++ P) H) (hdg : decode cc pc = .ok (.getfield 60, 3)) (kk : W p l e R s m args below meth c H locs cells slots Q (F0 m (pc + 3) ls (.int ts :: rest))) : W p l e R s m args below meth c H locs cells slots Q (F0 m pc ls (.ref (g 0) :: rest)) :=
  va_get C.1 C.2.1 C.2.2.2.2 i_X C.2.2.2.1 hK hP 0 rfl rfl 3 (by decide) (C.2.2.2.2 _ kw_20) (fun _ z => z) rfl hdg kk
theorem pX_tapeSize (C : CallFix p m c cc nL s args wG R_X) (hK : va_K D classes tys s) (h : ST D A (wX g cQ cI ct ts nw al wr wt fc fB fT fF ++ P) H0 H locs) {v : Int32} (hdg : decode cc pc = .ok (.putfield 60, 3)) (kk : ∀ (H1 : Heap) (locs1 : List Loc), ST D A (wX g cQ cI ct v nw al wr wt fc fB fT fF ++ P) H0 H1 locs1 → W p l e R s m args below meth c H1 locs1 cells slots Q (F0 m (pc + 3) ls rest)) : W p l e R s m args below meth c H locs cells slots Q (F0 m pc ls (.int v :: .ref (g 0) :: rest)) :=
  va_put C.1 C.2.1 C.2.2.2.2 i_X t_X t_X_ok n_X C.2.2.2.1 hK h.1 h.2.1 h.2.2 0 rfl rfl 3 (by decide) (C.2.2.2.2 _ kw_20) (fun _ z => z) rfl (t_X_ok 3 (by decide)) rfl rfl (Nat.le_of_ble_eq_true rfl) hdg (fun H1 locs1 a b d => kk H1 locs1 ⟨a, b, d⟩)
theorem gX_now (C : CallFix p m c cc nL s args wG R_X) (hK : va_K D classes tys s) (hP : va_P D classes (wX g cQ cI ct ts nw al wr wt fc fB fT fF ++ P) H) (hdg : decode cc pc = .ok (.getfield 30, 3)) (kk : W p l e R s m args below meth c H locs cells slots Q (F0 m (pc + 3) ls (.long nw :: rest))) : W p l e R s m args below meth c H locs cells slots Q (F0 m pc ls (.ref (g 0) :: rest)) :=
  va_get C.1 C.2.1 C.2.2.2.2 i_X C.2.2.2.1 hK hP 0 rfl rfl 4 (by decide) (C.2.2.2.2 _ kw_21) (fun _ z => z) rfl hdg kk
theorem pX_now (C : CallFix p m c cc nL s args wG R_X) (hK : va_K D classes tys s) (h : ST D A (wX g cQ cI ct ts nw al wr wt fc fB fT fF ++ P) H0 H locs) {v : Int64} (hdg : decode cc pc = .ok (.putfield 30, 3)) (kk : ∀ (H1 : Heap) (locs1 : List Loc), ST D A (wX g cQ cI ct ts v al wr wt fc fB fT fF ++ P) H0 H1 locs1 → W p l e R s m args below meth c H1 locs1 cells slots Q (F0 m (pc + 3) ls rest)) : W p l e R s m args below meth c H locs cells slots Q (F0 m pc ls (.long v :: .ref (g 0) :: rest)) :=
  va_put C.1 C.2.1 C.2.2.2.2 i_X t_X t_X_ok n_X C.2.2.2.1 hK h.1 h.2.1 h.2.2 0 rfl rfl 4 (by decide) (C.2.2.2.2 _ kw_21) (fun _ z => z) rfl (t_X_ok 4 (by decide)) rfl rfl (Nat.le_of_ble_eq_true rfl) hdg (fun H1 locs1 a b d => kk H1 locs1 ⟨a, b, d⟩)
theorem gX_alarms (C : CallFix p m c cc nL s args wG R_X) (hK : va_K D classes tys s) (hP : va_P D classes (wX g cQ cI ct ts nw al wr wt fc fB fT fF ++ P) H) (hdg : decode cc pc = .ok (.getfield 46, 3)) (kk : W p l e R s m args below meth c H locs cells slots Q (F0 m (pc + 3) ls (.int al :: rest))) : W p l e R s m args below meth c H locs cells slots Q (F0 m pc ls (.ref (g 0) :: rest)) :=
  va_get C.1 C.2.1 C.2.2.2.2 i_X C.2.2.2.1 hK hP 0 rfl rfl 5 (by decide) (C.2.2.2.2 _ kw_22) (fun _ z => z) rfl hdg kk
theorem pX_alarms (C : CallFix p m c cc nL s args wG R_X) (hK : va_K D classes tys s) (h : ST D A (wX g cQ cI ct ts nw al wr wt fc fB fT fF ++ P) H0 H locs) {v : Int32} (hdg : decode cc pc = .ok (.putfield 46, 3)) (kk : ∀ (H1 : Heap) (locs1 : List Loc), ST D A (wX g cQ cI ct ts nw v wr wt fc fB fT fF ++ P) H0 H1 locs1 → W p l e R s m args below meth c H1 locs1 cells slots Q (F0 m (pc + 3) ls rest)) : W p l e R s m args below meth c H locs cells slots Q (F0 m pc ls (.int v :: .ref (g 0) :: rest)) :=
  va_put C.1 C.2.1 C.2.2.2.2 i_X t_X t_X_ok n_X C.2.2.2.1 hK h.1 h.2.1 h.2.2 0 rfl rfl 5 (by decide) (C.2.2.2.2 _ kw_22) (fun _ z => z) rfl (t_X_ok 5 (by decide)) rfl rfl (Nat.le_of_ble_eq_true rfl) hdg (fun H1 locs1 a b d => kk H1 locs1 ⟨a, b, d⟩)
theorem gX_wrong (C : CallFix p m c cc nL s args wG R_X) (hK : va_K D classes tys s) (hP : va_P D classes (wX g cQ cI ct ts nw al wr wt fc fB fT fF ++ P) H) (hdg : decode cc pc = .ok (.getfield 127, 3)) (kk : W p l e R s m args below meth c H locs cells slots Q (F0 m (pc + 3) ls (.int wr :: rest))) : W p l e R s m args below meth c H locs cells slots Q (F0 m pc ls (.ref (g 0) :: rest)) :=
  va_get C.1 C.2.1 C.2.2.2.2 i_X C.2.2.2.1 hK hP 0 rfl rfl 6 (by decide) (C.2.2.2.2 _ kw_23) (fun _ z => z) rfl hdg kk
theorem pX_wrong (C : CallFix p m c cc nL s args wG R_X) (hK : va_K D classes tys s) (h : ST D A (wX g cQ cI ct ts nw al wr wt fc fB fT fF ++ P) H0 H locs) {v : Int32} (hdg : decode cc pc = .ok (.putfield 127, 3)) (kk : ∀ (H1 : Heap) (locs1 : List Loc), ST D A (wX g cQ cI ct ts nw al v wt fc fB fT fF ++ P) H0 H1 locs1 → W p l e R s m args below meth c H1 locs1 cells slots Q (F0 m (pc + 3) ls rest)) : W p l e R s m args below meth c H locs cells slots Q (F0 m pc ls (.int v :: .ref (g 0) :: rest)) :=
  va_put C.1 C.2.1 C.2.2.2.2 i_X t_X t_X_ok n_X C.2.2.2.1 hK h.1 h.2.1 h.2.2 0 rfl rfl 6 (by decide) (C.2.2.2.2 _ kw_23) (fun _ z => z) rfl (t_X_ok 6 (by decide)) rfl rfl (Nat.le_of_ble_eq_true rfl) hdg (fun H1 locs1 a b d => kk H1 locs1 ⟨a, b, d⟩)
theorem gX_waits (C : CallFix p m c cc nL s args wG R_X) (hK : va_K D classes tys s) (hP : va_P D classes (wX g cQ cI ct ts nw al wr wt fc fB fT fF ++ P) H) (hdg : decode cc pc = .ok (.getfield 124, 3)) (kk : W p l e R s m args below meth c H locs cells slots Q (F0 m (pc + 3) ls (.long wt :: rest))) : W p l e R s m args below meth c H locs cells slots Q (F0 m pc ls (.ref (g 0) :: rest)) :=
  va_get C.1 C.2.1 C.2.2.2.2 i_X C.2.2.2.1 hK hP 0 rfl rfl 7 (by decide) (C.2.2.2.2 _ kw_24) (fun _ z => z) rfl hdg kk
theorem pX_waits (C : CallFix p m c cc nL s args wG R_X) (hK : va_K D classes tys s) (h : ST D A (wX g cQ cI ct ts nw al wr wt fc fB fT fF ++ P) H0 H locs) {v : Int64} (hdg : decode cc pc = .ok (.putfield 124, 3)) (kk : ∀ (H1 : Heap) (locs1 : List Loc), ST D A (wX g cQ cI ct ts nw al wr v fc fB fT fF ++ P) H0 H1 locs1 → W p l e R s m args below meth c H1 locs1 cells slots Q (F0 m (pc + 3) ls rest)) : W p l e R s m args below meth c H locs cells slots Q (F0 m pc ls (.long v :: .ref (g 0) :: rest)) :=
  va_put C.1 C.2.1 C.2.2.2.2 i_X t_X t_X_ok n_X C.2.2.2.1 hK h.1 h.2.1 h.2.2 0 rfl rfl 7 (by decide) (C.2.2.2.2 _ kw_24) (fun _ z => z) rfl (t_X_ok 7 (by decide)) rfl rfl (Nat.le_of_ble_eq_true rfl) hdg (fun H1 locs1 a b d => kk H1 locs1 ⟨a, b, d⟩)
theorem gX_freed (C : CallFix p m c cc nL s args wG R_X) (hK : va_K D classes tys s) (hP : va_P D classes (wX g cQ cI ct ts nw al wr wt fc fB fT fF ++ P) H) (hdg : decode cc pc = .ok (.getfield 19, 3)) (kk : W p l e R s m args below meth c H locs cells slots Q (F0 m (pc + 3) ls (.ref (g 3) :: rest))) : W p l e R s m args below meth c H locs cells slots Q (F0 m pc ls (.ref (g 0) :: rest)) :=
  va_get C.1 C.2.1 C.2.2.2.2 i_X C.2.2.2.1 hK hP 0 rfl rfl 8 (by decide) (C.2.2.2.2 _ kw_25) (fun _ z => z) rfl hdg kk
theorem gX_freedCount (C : CallFix p m c cc nL s args wG R_X) (hK : va_K D classes tys s) (hP : va_P D classes (wX g cQ cI ct ts nw al wr wt fc fB fT fF ++ P) H) (hdg : decode cc pc = .ok (.getfield 43, 3)) (kk : W p l e R s m args below meth c H locs cells slots Q (F0 m (pc + 3) ls (.int fc :: rest))) : W p l e R s m args below meth c H locs cells slots Q (F0 m pc ls (.ref (g 0) :: rest)) :=
  va_get C.1 C.2.1 C.2.2.2.2 i_X C.2.2.2.1 hK hP 0 rfl rfl 9 (by decide) (C.2.2.2.2 _ kw_26) (fun _ z => z) rfl hdg kk
theorem pX_freedCount (C : CallFix p m c cc nL s args wG R_X) (hK : va_K D classes tys s) (h : ST D A (wX g cQ cI ct ts nw al wr wt fc fB fT fF ++ P) H0 H locs) {v : Int32} (hdg : decode cc pc = .ok (.putfield 43, 3)) (kk : ∀ (H1 : Heap) (locs1 : List Loc), ST D A (wX g cQ cI ct ts nw al wr wt v fB fT fF ++ P) H0 H1 locs1 → W p l e R s m args below meth c H1 locs1 cells slots Q (F0 m (pc + 3) ls rest)) : W p l e R s m args below meth c H locs cells slots Q (F0 m pc ls (.int v :: .ref (g 0) :: rest)) :=
  va_put C.1 C.2.1 C.2.2.2.2 i_X t_X t_X_ok n_X C.2.2.2.1 hK h.1 h.2.1 h.2.2 0 rfl rfl 9 (by decide) (C.2.2.2.2 _ kw_26) (fun _ z => z) rfl (t_X_ok 9 (by decide)) rfl rfl (Nat.le_of_ble_eq_true rfl) hdg (fun H1 locs1 a b d => kk H1 locs1 ⟨a, b, d⟩)
theorem rX_tape (hx : p.tables.exec = Jvm.exec) (hb : c.code = cc) (hK : va_K D classes (tyX cQ cI) s) (hP : va_P D classes (wX g cQ cI ct ts nw al wr wt fc fB fT fF ++ P) H) {i : Int32} {k : Nat} (hi : ix i k 200) (hdg : decode cc pc = .ok (.iaload, 1)) (kk : W p l e R s m args below meth c H locs cells slots Q (F0 m (pc + 1) ls (.int (fT k) :: rest))) : W p l e R s m args below meth c H locs cells slots Q (F0 m pc ls (.int i :: .ref (g 2) :: rest)) :=
  va_iald hx hb hK hP 2 1 rfl rfl hi.inn hdg (by rw [hi.cl]; exact kk)
theorem sX_tape (hx : p.tables.exec = Jvm.exec) (hb : c.code = cc) (hK : va_K D classes (tyX cQ cI) s) (h : ST D A (wX g cQ cI ct ts nw al wr wt fc fB fT fF ++ P) H0 H locs) {i : Int32} {k : Nat} {x : Int32} (hi : ix i k 200) (hdg : decode cc pc = .ok (.iastore, 1)) (kk : ∀ (H1 : Heap) (locs1 : List Loc), ST D A (wX g cQ cI ct ts nw al wr wt fc fB (upd fT k x) fF ++ P) H0 H1 locs1 → W p l e R s m args below meth c H1 locs1 cells slots Q (F0 m (pc + 1) ls rest)) : W p l e R s m args below meth c H locs cells slots Q (F0 m pc ls (.int x :: .int i :: .ref (g 2) :: rest)) :=
  va_iast hx hb hK h.1 h.2.1 h.2.2 2 1 rfl rfl hi.inn hdg (fun H1 locs1 a b d => kk H1 locs1 (by rw [hi.cl] at a b; exact ⟨a, b, d⟩))
theorem rX_freed (hx : p.tables.exec = Jvm.exec) (hb : c.code = cc) (hK : va_K D classes (tyX cQ cI) s) (hP : va_P D classes (wX g cQ cI ct ts nw al wr wt fc fB fT fF ++ P) H) {i : Int32} {k : Nat} (hi : ix i k 100) (hdg : decode cc pc = .ok (.iaload, 1)) (kk : W p l e R s m args below meth c H locs cells slots Q (F0 m (pc + 1) ls (.int (fF k) :: rest))) : W p l e R s m args below meth c H locs cells slots Q (F0 m pc ls (.int i :: .ref (g 3) :: rest)) :=
  va_iald hx hb hK hP 3 1 rfl rfl hi.inn hdg (by rw [hi.cl]; exact kk)
theorem sX_freed (hx : p.tables.exec = Jvm.exec) (hb : c.code = cc) (hK : va_K D classes (tyX cQ cI) s) (h : ST D A (wX g cQ cI ct ts nw al wr wt fc fB fT fF ++ P) H0 H locs) {i : Int32} {k : Nat} {x : Int32} (hi : ix i k 100) (hdg : decode cc pc = .ok (.iastore, 1)) (kk : ∀ (H1 : Heap) (locs1 : List Loc), ST D A (wX g cQ cI ct ts nw al wr wt fc fB fT (upd fF k x) ++ P) H0 H1 locs1 → W p l e R s m args below meth c H1 locs1 cells slots Q (F0 m (pc + 1) ls rest)) : W p l e R s m args below meth c H locs cells slots Q (F0 m pc ls (.int x :: .int i :: .ref (g 3) :: rest)) :=
  va_iast hx hb hK h.1 h.2.1 h.2.2 3 1 rfl rfl hi.inn hdg (fun H1 locs1 a b d => kk H1 locs1 (by rw [hi.cl] at a b; exact ⟨a, b, d⟩))
theorem rX_boxes (hx : p.tables.exec = Jvm.exec) (hb : c.code = cc) (hK : va_K D classes (tyX cQ cI) s) (hP : va_P D classes (wX g cQ cI ct ts nw al wr wt fc fB fT fF ++ P) H) {i : Int32} {k a : Nat} (hi : ix i k 61) (hB : fB k = some a) (hdg : decode cc pc = .ok (.aaload, 1)) (kk : W p l e R s m args below meth c H locs cells slots Q (F0 m (pc + 1) ls (.ref a :: rest))) : W p l e R s m args below meth c H locs cells slots Q (F0 m pc ls (.int i :: .ref (g 1) :: rest)) :=
  va_aldq hx hb hK hP 1 0 rfl rfl hi.inn hdg (by rw [hi.cl, hB]; exact kk)
theorem sX_boxes (hx : p.tables.exec = Jvm.exec) (hb : c.code = cc) (hK : va_K D classes (tyX cQ cI) s) (h : ST D A (wX g cQ cI ct ts nw al wr wt fc fB fT fF ++ P) H0 H locs) {i : Int32} {k v : Nat} {vs : List Value} (hi : ix i k 61) (qk : Nat) (hv : (wX g cQ cI ct ts nw al wr wt fc fB fT fF ++ P)[qk]? = some (v, .inr (1, vs))) (hdg : decode cc pc = .ok (.aastore, 1)) (kk : ∀ (H1 : Heap) (locs1 : List Loc), ST D A (wX g cQ cI ct ts nw al wr wt fc (va_up fB k (some v)) fT fF ++ P) H0 H1 locs1 → W p l e R s m args below meth c H1 locs1 cells slots Q (F0 m (pc + 1) ls rest)) : W p l e R s m args below meth c H locs cells slots Q (F0 m pc ls (.ref v :: .int i :: .ref (g 1) :: rest)) :=
  va_astq hx hb hK h.1 h.2.1 h.2.2 1 0 qk 1 (r := (R_B, F_B, 10)) rfl rfl hv rfl hi.inn hdg (fun H1 locs1 a b d => kk H1 locs1 (by rw [hi.cl] at a b; exact ⟨a, b, d⟩))
theorem lX_freed (hx : p.tables.exec = Jvm.exec) (hb : c.code = cc) (hK : va_K D classes (tyX cQ cI) s) (hP : va_P D classes (wX g cQ cI ct ts nw al wr wt fc fB fT fF ++ P) H) (hdg : decode cc pc = .ok (.arraylength, 1)) (kk : W p l e R s m args below meth c H locs cells slots Q (F0 m (pc + 1) ls (.int 100 :: rest))) : W p l e R s m args below meth c H locs cells slots Q (F0 m pc ls (.ref (g 3) :: rest)) :=
  va_alen hx hb hK hP 3 1 rfl rfl rfl hdg kk
theorem gB_size (C : CallFix p m c cc nL s args wG R_B) (hK : va_K D classes tys s) {a : Nat} (hP : va_P D classes ((a, bc bsz bdr bsi btd bun bit bly bln blt bcd) :: P) H) (hdg : decode cc pc = .ok (.getfield 24, 3)) (kk : W p l e R s m args below meth c H locs cells slots Q (F0 m (pc + 3) ls (.int bsz :: rest))) : W p l e R s m args below meth c H locs cells slots Q (F0 m pc ls (.ref a :: rest)) :=
  va_get C.1 C.2.1 C.2.2.2.2 i_B C.2.2.2.1 hK hP 0 rfl rfl 0 (by decide) (C.2.2.2.2 _ kw_64) (fun _ z => z) rfl hdg kk
theorem gN_size (C : CallFix p m c cc nL s args wG R_X) (hN : NW s) (hK : va_K D classes tys s) {k : Nat} (hP : va_P D classes (X ++ pl n bx E) H) (hk1 : 1 ≤ k) (hk2 : k ≤ n) (hE : E k = bc bsz bdr bsi btd bun bit bly bln blt bcd) (hdg : decode cc pc = .ok (.getfield 66, 3)) (kk : W p l e R s m args below meth c H locs cells slots Q (F0 m (pc + 3) ls (.int bsz :: rest))) : W p l e R s m args below meth c H locs cells slots Q (F0 m pc ls (.ref (bx k) :: rest)) :=
  va_getN C.1 C.2.1 C.2.2.2.2 i_B C.2.2.2.1 hK hP (X.length + (k - 1)) (by rw [pl_get hk1 hk2, hE]; rfl) rfl 0 (by decide) (va_Nw.use rfl (hN (66, "size", "I") (by simp [nwQ]))) (fun _ z => z) rfl hdg kk
theorem gB_door (C : CallFix p m c cc nL s args wG R_B) (hK : va_K D classes tys s) {a : Nat} (hP : va_P D classes ((a, bc bsz bdr bsi btd bun bit bly bln blt bcd) :: P) H) (hdg : decode cc pc = .ok (.getfield 15, 3)) (kk : W p l e R s m args below meth c H locs cells slots Q (F0 m (pc + 3) ls (.ref bdr :: rest))) : W p l e R s m args below meth c H locs cells slots Q (F0 m pc ls (.ref a :: rest)) :=
  va_get C.1 C.2.1 C.2.2.2.2 i_B C.2.2.2.1 hK hP 0 rfl rfl 1 (by decide) (C.2.2.2.2 _ kw_66) (fun _ z => z) rfl hdg kk
theorem pB_door (C : CallFix p m c cc nL s args wG R_B) (hK : va_K D classes tys s) {a : Nat} (h : ST D A ((a, bc bsz bdr bsi btd bun bit bly bln blt bcd) :: P) H0 H locs) {v : Nat} (hdg : decode cc pc = .ok (.putfield 15, 3)) (kk : ∀ (H1 : Heap) (locs1 : List Loc), ST D A ((a, bc bsz v bsi btd bun bit bly bln blt bcd) :: P) H0 H1 locs1 → W p l e R s m args below meth c H1 locs1 cells slots Q (F0 m (pc + 3) ls rest)) : W p l e R s m args below meth c H locs cells slots Q (F0 m pc ls (.ref v :: .ref a :: rest)) :=
  va_put C.1 C.2.1 C.2.2.2.2 i_B t_B t_B_ok n_B C.2.2.2.1 hK h.1 h.2.1 h.2.2 0 rfl rfl 1 (by decide) (C.2.2.2.2 _ kw_66) (fun _ z => z) rfl (t_B_ok 1 (by decide)) rfl rfl (Nat.le_of_ble_eq_true rfl) hdg (fun H1 locs1 a b d => kk H1 locs1 ⟨a, b, d⟩)
theorem gN_door (C : CallFix p m c cc nL s args wG R_X) (hN : NW s) (hK : va_K D classes tys s) {k : Nat} (hP : va_P D classes (X ++ pl n bx E) H) (hk1 : 1 ≤ k) (hk2 : k ≤ n) (hE : E k = bc bsz bdr bsi btd bun bit bly bln blt bcd) (hdg : decode cc pc = .ok (.getfield 85, 3)) (kk : W p l e R s m args below meth c H locs cells slots Q (F0 m (pc + 3) ls (.ref bdr :: rest))) : W p l e R s m args below meth c H locs cells slots Q (F0 m pc ls (.ref (bx k) :: rest)) :=
  va_getN C.1 C.2.1 C.2.2.2.2 i_B C.2.2.2.1 hK hP (X.length + (k - 1)) (by rw [pl_get hk1 hk2, hE]; rfl) rfl 1 (by decide) (va_Nw.use rfl (hN (85, "door", "LLockerRows$Door;") (by simp [nwQ]))) (fun _ z => z) rfl hdg kk
theorem pN_door (C : CallFix p m c cc nL s args wG R_X) (hN : NW s) (hK : va_K D classes tys s) {k : Nat} (h : ST D A (X ++ pl n bx E) H0 H locs) (hk1 : 1 ≤ k) (hk2 : k ≤ n) (hE : E k = bc bsz bdr bsi btd bun bit bly bln blt bcd) {v : Nat} (hdg : decode cc pc = .ok (.putfield 85, 3)) (kk : ∀ (H1 : Heap) (locs1 : List Loc), ST D A (X ++ pl n bx (va_up E k (bc bsz v bsi btd bun bit bly bln blt bcd))) H0 H1 locs1 → W p l e R s m args below meth c H1 locs1 cells slots Q (F0 m (pc + 3) ls rest)) : W p l e R s m args below meth c H locs cells slots Q (F0 m pc ls (.ref v :: .ref (bx k) :: rest)) :=
  va_putN C.1 C.2.1 C.2.2.2.2 i_B t_B t_B_ok n_B C.2.2.2.1 hK h.1 h.2.1 h.2.2 (X.length + (k - 1)) (by rw [pl_get hk1 hk2, hE]; rfl) rfl 1 (by decide) (va_Nw.use rfl (hN (85, "door", "LLockerRows$Door;") (by simp [nwQ]))) (fun _ z => z) rfl (t_B_ok 1 (by decide)) rfl rfl (Nat.le_of_ble_eq_true rfl) hdg (fun H1 locs1 a b d => kk H1 locs1 (by rw [pl_set hk1 hk2] at a b; exact ⟨a, b, d⟩))
theorem pF_door (C : CallFix p m c cc nL s args wG R_X) (hN : NW s) (hK : va_K D classes tys s) {k : Nat} (h : ST D A (X ++ pl n bx (va_up E k (bc bsz bdr bsi btd bun bit bly bln blt bcd))) H0 H locs) (hk1 : 1 ≤ k) (hk2 : k ≤ n) {v : Nat} (hdg : decode cc pc = .ok (.putfield 85, 3)) (kk : ∀ (H1 : Heap) (locs1 : List Loc), ST D A (X ++ pl n bx (va_up E k (bc bsz v bsi btd bun bit bly bln blt bcd))) H0 H1 locs1 → W p l e R s m args below meth c H1 locs1 cells slots Q (F0 m (pc + 3) ls rest)) : W p l e R s m args below meth c H locs cells slots Q (F0 m pc ls (.ref v :: .ref (bx k) :: rest)) :=
  pN_door C hN hK h hk1 hk2 (va_up_self _ _ _)  hdg (fun H1 locs1 z => kk H1 locs1 (by rw [bx_uu] at z; exact z))
theorem gB_since (C : CallFix p m c cc nL s args wG R_B) (hK : va_K D classes tys s) {a : Nat} (hP : va_P D classes ((a, bc bsz bdr bsi btd bun bit bly bln blt bcd) :: P) H) (hdg : decode cc pc = .ok (.getfield 38, 3)) (kk : W p l e R s m args below meth c H locs cells slots Q (F0 m (pc + 3) ls (.long bsi :: rest))) : W p l e R s m args below meth c H locs cells slots Q (F0 m pc ls (.ref a :: rest)) :=
  va_get C.1 C.2.1 C.2.2.2.2 i_B C.2.2.2.1 hK hP 0 rfl rfl 2 (by decide) (C.2.2.2.2 _ kw_68) (fun _ z => z) rfl hdg kk
theorem pB_since (C : CallFix p m c cc nL s args wG R_B) (hK : va_K D classes tys s) {a : Nat} (h : ST D A ((a, bc bsz bdr bsi btd bun bit bly bln blt bcd) :: P) H0 H locs) {v : Int64} (hdg : decode cc pc = .ok (.putfield 38, 3)) (kk : ∀ (H1 : Heap) (locs1 : List Loc), ST D A ((a, bc bsz bdr v btd bun bit bly bln blt bcd) :: P) H0 H1 locs1 → W p l e R s m args below meth c H1 locs1 cells slots Q (F0 m (pc + 3) ls rest)) : W p l e R s m args below meth c H locs cells slots Q (F0 m pc ls (.long v :: .ref a :: rest)) :=
  va_put C.1 C.2.1 C.2.2.2.2 i_B t_B t_B_ok n_B C.2.2.2.1 hK h.1 h.2.1 h.2.2 0 rfl rfl 2 (by decide) (C.2.2.2.2 _ kw_68) (fun _ z => z) rfl (t_B_ok 2 (by decide)) rfl rfl (Nat.le_of_ble_eq_true rfl) hdg (fun H1 locs1 a b d => kk H1 locs1 ⟨a, b, d⟩)
theorem gB_told (C : CallFix p m c cc nL s args wG R_B) (hK : va_K D classes tys s) {a : Nat} (hP : va_P D classes ((a, bc bsz bdr bsi btd bun bit bly bln blt bcd) :: P) H) (hdg : decode cc pc = .ok (.getfield 41, 3)) (kk : W p l e R s m args below meth c H locs cells slots Q (F0 m (pc + 3) ls (.int btd :: rest))) : W p l e R s m args below meth c H locs cells slots Q (F0 m pc ls (.ref a :: rest)) :=
  va_get C.1 C.2.1 C.2.2.2.2 i_B C.2.2.2.1 hK hP 0 rfl rfl 3 (by decide) (C.2.2.2.2 _ kw_69) (fun _ z => z) rfl hdg kk
theorem pB_told (C : CallFix p m c cc nL s args wG R_B) (hK : va_K D classes tys s) {a : Nat} (h : ST D A ((a, bc bsz bdr bsi btd bun bit bly bln blt bcd) :: P) H0 H locs) {v : Int32} (hn : narrow .boolean (.int v) = .int v) (hf : fits .boolean (.int v) = true) (hdg : decode cc pc = .ok (.putfield 41, 3)) (kk : ∀ (H1 : Heap) (locs1 : List Loc), ST D A ((a, bc bsz bdr bsi v bun bit bly bln blt bcd) :: P) H0 H1 locs1 → W p l e R s m args below meth c H1 locs1 cells slots Q (F0 m (pc + 3) ls rest)) : W p l e R s m args below meth c H locs cells slots Q (F0 m pc ls (.int v :: .ref a :: rest)) :=
  va_put C.1 C.2.1 C.2.2.2.2 i_B t_B t_B_ok n_B C.2.2.2.1 hK h.1 h.2.1 h.2.2 0 rfl rfl 3 (by decide) (C.2.2.2.2 _ kw_69) (fun _ z => z) rfl (t_B_ok 3 (by decide)) hn hf (Nat.le_of_ble_eq_true rfl) hdg (fun H1 locs1 a b d => kk H1 locs1 ⟨a, b, d⟩)
theorem gB_until (C : CallFix p m c cc nL s args wG R_B) (hK : va_K D classes tys s) {a : Nat} (hP : va_P D classes ((a, bc bsz bdr bsi btd bun bit bly bln blt bcd) :: P) H) (hdg : decode cc pc = .ok (.getfield 27, 3)) (kk : W p l e R s m args below meth c H locs cells slots Q (F0 m (pc + 3) ls (.long bun :: rest))) : W p l e R s m args below meth c H locs cells slots Q (F0 m pc ls (.ref a :: rest)) :=
  va_get C.1 C.2.1 C.2.2.2.2 i_B C.2.2.2.1 hK hP 0 rfl rfl 4 (by decide) (C.2.2.2.2 _ kw_70) (fun _ z => z) rfl hdg kk
theorem pB_until (C : CallFix p m c cc nL s args wG R_B) (hK : va_K D classes tys s) {a : Nat} (h : ST D A ((a, bc bsz bdr bsi btd bun bit bly bln blt bcd) :: P) H0 H locs) {v : Int64} (hdg : decode cc pc = .ok (.putfield 27, 3)) (kk : ∀ (H1 : Heap) (locs1 : List Loc), ST D A ((a, bc bsz bdr bsi btd v bit bly bln blt bcd) :: P) H0 H1 locs1 → W p l e R s m args below meth c H1 locs1 cells slots Q (F0 m (pc + 3) ls rest)) : W p l e R s m args below meth c H locs cells slots Q (F0 m pc ls (.long v :: .ref a :: rest)) :=
  va_put C.1 C.2.1 C.2.2.2.2 i_B t_B t_B_ok n_B C.2.2.2.1 hK h.1 h.2.1 h.2.2 0 rfl rfl 4 (by decide) (C.2.2.2.2 _ kw_70) (fun _ z => z) rfl (t_B_ok 4 (by decide)) rfl rfl (Nat.le_of_ble_eq_true rfl) hdg (fun H1 locs1 a b d => kk H1 locs1 ⟨a, b, d⟩)
theorem gN_until (C : CallFix p m c cc nL s args wG R_X) (hN : NW s) (hK : va_K D classes tys s) {k : Nat} (hP : va_P D classes (X ++ pl n bx E) H) (hk1 : 1 ≤ k) (hk2 : k ≤ n) (hE : E k = bc bsz bdr bsi btd bun bit bly bln blt bcd) (hdg : decode cc pc = .ok (.getfield 40, 3)) (kk : W p l e R s m args below meth c H locs cells slots Q (F0 m (pc + 3) ls (.long bun :: rest))) : W p l e R s m args below meth c H locs cells slots Q (F0 m pc ls (.ref (bx k) :: rest)) :=
  va_getN C.1 C.2.1 C.2.2.2.2 i_B C.2.2.2.1 hK hP (X.length + (k - 1)) (by rw [pl_get hk1 hk2, hE]; rfl) rfl 4 (by decide) (va_Nw.use rfl (hN (40, "until", "J") (by simp [nwQ]))) (fun _ z => z) rfl hdg kk
theorem pN_until (C : CallFix p m c cc nL s args wG R_X) (hN : NW s) (hK : va_K D classes tys s) {k : Nat} (h : ST D A (X ++ pl n bx E) H0 H locs) (hk1 : 1 ≤ k) (hk2 : k ≤ n) (hE : E k = bc bsz bdr bsi btd bun bit bly bln blt bcd) {v : Int64} (hdg : decode cc pc = .ok (.putfield 40, 3)) (kk : ∀ (H1 : Heap) (locs1 : List Loc), ST D A (X ++ pl n bx (va_up E k (bc bsz bdr bsi btd v bit bly bln blt bcd))) H0 H1 locs1 → W p l e R s m args below meth c H1 locs1 cells slots Q (F0 m (pc + 3) ls rest)) : W p l e R s m args below meth c H locs cells slots Q (F0 m pc ls (.long v :: .ref (bx k) :: rest)) :=
  va_putN C.1 C.2.1 C.2.2.2.2 i_B t_B t_B_ok n_B C.2.2.2.1 hK h.1 h.2.1 h.2.2 (X.length + (k - 1)) (by rw [pl_get hk1 hk2, hE]; rfl) rfl 4 (by decide) (va_Nw.use rfl (hN (40, "until", "J") (by simp [nwQ]))) (fun _ z => z) rfl (t_B_ok 4 (by decide)) rfl rfl (Nat.le_of_ble_eq_true rfl) hdg (fun H1 locs1 a b d => kk H1 locs1 (by rw [pl_set hk1 hk2] at a b; exact ⟨a, b, d⟩))
theorem pF_until (C : CallFix p m c cc nL s args wG R_X) (hN : NW s) (hK : va_K D classes tys s) {k : Nat} (h : ST D A (X ++ pl n bx (va_up E k (bc bsz bdr bsi btd bun bit bly bln blt bcd))) H0 H locs) (hk1 : 1 ≤ k) (hk2 : k ≤ n) {v : Int64} (hdg : decode cc pc = .ok (.putfield 40, 3)) (kk : ∀ (H1 : Heap) (locs1 : List Loc), ST D A (X ++ pl n bx (va_up E k (bc bsz bdr bsi btd v bit bly bln blt bcd))) H0 H1 locs1 → W p l e R s m args below meth c H1 locs1 cells slots Q (F0 m (pc + 3) ls rest)) : W p l e R s m args below meth c H locs cells slots Q (F0 m pc ls (.long v :: .ref (bx k) :: rest)) :=
  pN_until C hN hK h hk1 hk2 (va_up_self _ _ _)  hdg (fun H1 locs1 z => kk H1 locs1 (by rw [bx_uu] at z; exact z))
theorem gB_item (C : CallFix p m c cc nL s args wG R_B) (hK : va_K D classes tys s) {a : Nat} (hP : va_P D classes ((a, bc bsz bdr bsi btd bun bit bly bln blt bcd) :: P) H) (hdg : decode cc pc = .ok (.getfield 31, 3)) (kk : W p l e R s m args below meth c H locs cells slots Q (F0 m (pc + 3) ls (.int bit :: rest))) : W p l e R s m args below meth c H locs cells slots Q (F0 m pc ls (.ref a :: rest)) :=
  va_get C.1 C.2.1 C.2.2.2.2 i_B C.2.2.2.1 hK hP 0 rfl rfl 5 (by decide) (C.2.2.2.2 _ kw_72) (fun _ z => z) rfl hdg kk
theorem pB_item (C : CallFix p m c cc nL s args wG R_B) (hK : va_K D classes tys s) {a : Nat} (h : ST D A ((a, bc bsz bdr bsi btd bun bit bly bln blt bcd) :: P) H0 H locs) {v : Int32} (hdg : decode cc pc = .ok (.putfield 31, 3)) (kk : ∀ (H1 : Heap) (locs1 : List Loc), ST D A ((a, bc bsz bdr bsi btd bun v bly bln blt bcd) :: P) H0 H1 locs1 → W p l e R s m args below meth c H1 locs1 cells slots Q (F0 m (pc + 3) ls rest)) : W p l e R s m args below meth c H locs cells slots Q (F0 m pc ls (.int v :: .ref a :: rest)) :=
  va_put C.1 C.2.1 C.2.2.2.2 i_B t_B t_B_ok n_B C.2.2.2.1 hK h.1 h.2.1 h.2.2 0 rfl rfl 5 (by decide) (C.2.2.2.2 _ kw_72) (fun _ z => z) rfl (t_B_ok 5 (by decide)) rfl rfl (Nat.le_of_ble_eq_true rfl) hdg (fun H1 locs1 a b d => kk H1 locs1 ⟨a, b, d⟩)
theorem gN_item (C : CallFix p m c cc nL s args wG R_X) (hN : NW s) (hK : va_K D classes tys s) {k : Nat} (hP : va_P D classes (X ++ pl n bx E) H) (hk1 : 1 ≤ k) (hk2 : k ≤ n) (hE : E k = bc bsz bdr bsi btd bun bit bly bln blt bcd) (hdg : decode cc pc = .ok (.getfield 69, 3)) (kk : W p l e R s m args below meth c H locs cells slots Q (F0 m (pc + 3) ls (.int bit :: rest))) : W p l e R s m args below meth c H locs cells slots Q (F0 m pc ls (.ref (bx k) :: rest)) :=
  va_getN C.1 C.2.1 C.2.2.2.2 i_B C.2.2.2.1 hK hP (X.length + (k - 1)) (by rw [pl_get hk1 hk2, hE]; rfl) rfl 5 (by decide) (va_Nw.use rfl (hN (69, "item", "I") (by simp [nwQ]))) (fun _ z => z) rfl hdg kk
theorem pN_item (C : CallFix p m c cc nL s args wG R_X) (hN : NW s) (hK : va_K D classes tys s) {k : Nat} (h : ST D A (X ++ pl n bx E) H0 H locs) (hk1 : 1 ≤ k) (hk2 : k ≤ n) (hE : E k = bc bsz bdr bsi btd bun bit bly bln blt bcd) {v : Int32} (hdg : decode cc pc = .ok (.putfield 69, 3)) (kk : ∀ (H1 : Heap) (locs1 : List Loc), ST D A (X ++ pl n bx (va_up E k (bc bsz bdr bsi btd bun v bly bln blt bcd))) H0 H1 locs1 → W p l e R s m args below meth c H1 locs1 cells slots Q (F0 m (pc + 3) ls rest)) : W p l e R s m args below meth c H locs cells slots Q (F0 m pc ls (.int v :: .ref (bx k) :: rest)) :=
  va_putN C.1 C.2.1 C.2.2.2.2 i_B t_B t_B_ok n_B C.2.2.2.1 hK h.1 h.2.1 h.2.2 (X.length + (k - 1)) (by rw [pl_get hk1 hk2, hE]; rfl) rfl 5 (by decide) (va_Nw.use rfl (hN (69, "item", "I") (by simp [nwQ]))) (fun _ z => z) rfl (t_B_ok 5 (by decide)) rfl rfl (Nat.le_of_ble_eq_true rfl) hdg (fun H1 locs1 a b d => kk H1 locs1 (by rw [pl_set hk1 hk2] at a b; exact ⟨a, b, d⟩))
theorem pF_item (C : CallFix p m c cc nL s args wG R_X) (hN : NW s) (hK : va_K D classes tys s) {k : Nat} (h : ST D A (X ++ pl n bx (va_up E k (bc bsz bdr bsi btd bun bit bly bln blt bcd))) H0 H locs) (hk1 : 1 ≤ k) (hk2 : k ≤ n) {v : Int32} (hdg : decode cc pc = .ok (.putfield 69, 3)) (kk : ∀ (H1 : Heap) (locs1 : List Loc), ST D A (X ++ pl n bx (va_up E k (bc bsz bdr bsi btd bun v bly bln blt bcd))) H0 H1 locs1 → W p l e R s m args below meth c H1 locs1 cells slots Q (F0 m (pc + 3) ls rest)) : W p l e R s m args below meth c H locs cells slots Q (F0 m pc ls (.int v :: .ref (bx k) :: rest)) :=
  pN_item C hN hK h hk1 hk2 (va_up_self _ _ _)  hdg (fun H1 locs1 z => kk H1 locs1 (by rw [bx_uu] at z; exact z))
theorem gB_lies (C : CallFix p m c cc nL s args wG R_B) (hK : va_K D classes tys s) {a : Nat} (hP : va_P D classes ((a, bc bsz bdr bsi btd bun bit bly bln blt bcd) :: P) H) (hdg : decode cc pc = .ok (.getfield 45, 3)) (kk : W p l e R s m args below meth c H locs cells slots Q (F0 m (pc + 3) ls (.int bly :: rest))) : W p l e R s m args below meth c H locs cells slots Q (F0 m pc ls (.ref a :: rest)) :=
  va_get C.1 C.2.1 C.2.2.2.2 i_B C.2.2.2.1 hK hP 0 rfl rfl 6 (by decide) (C.2.2.2.2 _ kw_74) (fun _ z => z) rfl hdg kk
theorem pB_lies (C : CallFix p m c cc nL s args wG R_B) (hK : va_K D classes tys s) {a : Nat} (h : ST D A ((a, bc bsz bdr bsi btd bun bit bly bln blt bcd) :: P) H0 H locs) {v : Int32} (hn : narrow .boolean (.int v) = .int v) (hf : fits .boolean (.int v) = true) (hdg : decode cc pc = .ok (.putfield 45, 3)) (kk : ∀ (H1 : Heap) (locs1 : List Loc), ST D A ((a, bc bsz bdr bsi btd bun bit v bln blt bcd) :: P) H0 H1 locs1 → W p l e R s m args below meth c H1 locs1 cells slots Q (F0 m (pc + 3) ls rest)) : W p l e R s m args below meth c H locs cells slots Q (F0 m pc ls (.int v :: .ref a :: rest)) :=
  va_put C.1 C.2.1 C.2.2.2.2 i_B t_B t_B_ok n_B C.2.2.2.1 hK h.1 h.2.1 h.2.2 0 rfl rfl 6 (by decide) (C.2.2.2.2 _ kw_74) (fun _ z => z) rfl (t_B_ok 6 (by decide)) hn hf (Nat.le_of_ble_eq_true rfl) hdg (fun H1 locs1 a b d => kk H1 locs1 ⟨a, b, d⟩)
theorem gN_lies (C : CallFix p m c cc nL s args wG R_X) (hN : NW s) (hK : va_K D classes tys s) {k : Nat} (hP : va_P D classes (X ++ pl n bx E) H) (hk1 : 1 ≤ k) (hk2 : k ≤ n) (hE : E k = bc bsz bdr bsi btd bun bit bly bln blt bcd) (hdg : decode cc pc = .ok (.getfield 110, 3)) (kk : W p l e R s m args below meth c H locs cells slots Q (F0 m (pc + 3) ls (.int bly :: rest))) : W p l e R s m args below meth c H locs cells slots Q (F0 m pc ls (.ref (bx k) :: rest)) :=
  va_getN C.1 C.2.1 C.2.2.2.2 i_B C.2.2.2.1 hK hP (X.length + (k - 1)) (by rw [pl_get hk1 hk2, hE]; rfl) rfl 6 (by decide) (va_Nw.use rfl (hN (110, "lies", "Z") (by simp [nwQ]))) (fun _ z => z) rfl hdg kk
theorem pN_lies (C : CallFix p m c cc nL s args wG R_X) (hN : NW s) (hK : va_K D classes tys s) {k : Nat} (h : ST D A (X ++ pl n bx E) H0 H locs) (hk1 : 1 ≤ k) (hk2 : k ≤ n) (hE : E k = bc bsz bdr bsi btd bun bit bly bln blt bcd) {v : Int32} (hn : narrow .boolean (.int v) = .int v) (hf : fits .boolean (.int v) = true) (hdg : decode cc pc = .ok (.putfield 110, 3)) (kk : ∀ (H1 : Heap) (locs1 : List Loc), ST D A (X ++ pl n bx (va_up E k (bc bsz bdr bsi btd bun bit v bln blt bcd))) H0 H1 locs1 → W p l e R s m args below meth c H1 locs1 cells slots Q (F0 m (pc + 3) ls rest)) : W p l e R s m args below meth c H locs cells slots Q (F0 m pc ls (.int v :: .ref (bx k) :: rest)) :=
  va_putN C.1 C.2.1 C.2.2.2.2 i_B t_B t_B_ok n_B C.2.2.2.1 hK h.1 h.2.1 h.2.2 (X.length + (k - 1)) (by rw [pl_get hk1 hk2, hE]; rfl) rfl 6 (by decide) (va_Nw.use rfl (hN (110, "lies", "Z") (by simp [nwQ]))) (fun _ z => z) rfl (t_B_ok 6 (by decide)) hn hf (Nat.le_of_ble_eq_true rfl) hdg (fun H1 locs1 a b d => kk H1 locs1 (by rw [pl_set hk1 hk2] at a b; exact ⟨a, b, d⟩))
theorem pF_lies (C : CallFix p m c cc nL s args wG R_X) (hN : NW s) (hK : va_K D classes tys s) {k : Nat} (h : ST D A (X ++ pl n bx (va_up E k (bc bsz bdr bsi btd bun bit bly bln blt bcd))) H0 H locs) (hk1 : 1 ≤ k) (hk2 : k ≤ n) {v : Int32} (hn : narrow .boolean (.int v) = .int v) (hf : fits .boolean (.int v) = true) (hdg : decode cc pc = .ok (.putfield 110, 3)) (kk : ∀ (H1 : Heap) (locs1 : List Loc), ST D A (X ++ pl n bx (va_up E k (bc bsz bdr bsi btd bun bit v bln blt bcd))) H0 H1 locs1 → W p l e R s m args below meth c H1 locs1 cells slots Q (F0 m (pc + 3) ls rest)) : W p l e R s m args below meth c H locs cells slots Q (F0 m pc ls (.int v :: .ref (bx k) :: rest)) :=
  pN_lies C hN hK h hk1 hk2 (va_up_self _ _ _) hn hf hdg (fun H1 locs1 z => kk H1 locs1 (by rw [bx_uu] at z; exact z))
theorem gB_lain (C : CallFix p m c cc nL s args wG R_B) (hK : va_K D classes tys s) {a : Nat} (hP : va_P D classes ((a, bc bsz bdr bsi btd bun bit bly bln blt bcd) :: P) H) (hdg : decode cc pc = .ok (.getfield 56, 3)) (kk : W p l e R s m args below meth c H locs cells slots Q (F0 m (pc + 3) ls (.long bln :: rest))) : W p l e R s m args below meth c H locs cells slots Q (F0 m pc ls (.ref a :: rest)) :=
  va_get C.1 C.2.1 C.2.2.2.2 i_B C.2.2.2.1 hK hP 0 rfl rfl 7 (by decide) (C.2.2.2.2 _ kw_76) (fun _ z => z) rfl hdg kk
theorem pB_lain (C : CallFix p m c cc nL s args wG R_B) (hK : va_K D classes tys s) {a : Nat} (h : ST D A ((a, bc bsz bdr bsi btd bun bit bly bln blt bcd) :: P) H0 H locs) {v : Int64} (hdg : decode cc pc = .ok (.putfield 56, 3)) (kk : ∀ (H1 : Heap) (locs1 : List Loc), ST D A ((a, bc bsz bdr bsi btd bun bit bly v blt bcd) :: P) H0 H1 locs1 → W p l e R s m args below meth c H1 locs1 cells slots Q (F0 m (pc + 3) ls rest)) : W p l e R s m args below meth c H locs cells slots Q (F0 m pc ls (.long v :: .ref a :: rest)) :=
  va_put C.1 C.2.1 C.2.2.2.2 i_B t_B t_B_ok n_B C.2.2.2.1 hK h.1 h.2.1 h.2.2 0 rfl rfl 7 (by decide) (C.2.2.2.2 _ kw_76) (fun _ z => z) rfl (t_B_ok 7 (by decide)) rfl rfl (Nat.le_of_ble_eq_true rfl) hdg (fun H1 locs1 a b d => kk H1 locs1 ⟨a, b, d⟩)
theorem gN_lain (C : CallFix p m c cc nL s args wG R_X) (hN : NW s) (hK : va_K D classes tys s) {k : Nat} (hP : va_P D classes (X ++ pl n bx E) H) (hk1 : 1 ≤ k) (hk2 : k ≤ n) (hE : E k = bc bsz bdr bsi btd bun bit bly bln blt bcd) (hdg : decode cc pc = .ok (.getfield 121, 3)) (kk : W p l e R s m args below meth c H locs cells slots Q (F0 m (pc + 3) ls (.long bln :: rest))) : W p l e R s m args below meth c H locs cells slots Q (F0 m pc ls (.ref (bx k) :: rest)) :=
  va_getN C.1 C.2.1 C.2.2.2.2 i_B C.2.2.2.1 hK hP (X.length + (k - 1)) (by rw [pl_get hk1 hk2, hE]; rfl) rfl 7 (by decide) (va_Nw.use rfl (hN (121, "lain", "J") (by simp [nwQ]))) (fun _ z => z) rfl hdg kk
theorem pN_lain (C : CallFix p m c cc nL s args wG R_X) (hN : NW s) (hK : va_K D classes tys s) {k : Nat} (h : ST D A (X ++ pl n bx E) H0 H locs) (hk1 : 1 ≤ k) (hk2 : k ≤ n) (hE : E k = bc bsz bdr bsi btd bun bit bly bln blt bcd) {v : Int64} (hdg : decode cc pc = .ok (.putfield 121, 3)) (kk : ∀ (H1 : Heap) (locs1 : List Loc), ST D A (X ++ pl n bx (va_up E k (bc bsz bdr bsi btd bun bit bly v blt bcd))) H0 H1 locs1 → W p l e R s m args below meth c H1 locs1 cells slots Q (F0 m (pc + 3) ls rest)) : W p l e R s m args below meth c H locs cells slots Q (F0 m pc ls (.long v :: .ref (bx k) :: rest)) :=
  va_putN C.1 C.2.1 C.2.2.2.2 i_B t_B t_B_ok n_B C.2.2.2.1 hK h.1 h.2.1 h.2.2 (X.length + (k - 1)) (by rw [pl_get hk1 hk2, hE]; rfl) rfl 7 (by decide) (va_Nw.use rfl (hN (121, "lain", "J") (by simp [nwQ]))) (fun _ z => z) rfl (t_B_ok 7 (by decide)) rfl rfl (Nat.le_of_ble_eq_true rfl) hdg (fun H1 locs1 a b d => kk H1 locs1 (by rw [pl_set hk1 hk2] at a b; exact ⟨a, b, d⟩))
theorem pF_lain (C : CallFix p m c cc nL s args wG R_X) (hN : NW s) (hK : va_K D classes tys s) {k : Nat} (h : ST D A (X ++ pl n bx (va_up E k (bc bsz bdr bsi btd bun bit bly bln blt bcd))) H0 H locs) (hk1 : 1 ≤ k) (hk2 : k ≤ n) {v : Int64} (hdg : decode cc pc = .ok (.putfield 121, 3)) (kk : ∀ (H1 : Heap) (locs1 : List Loc), ST D A (X ++ pl n bx (va_up E k (bc bsz bdr bsi btd bun bit bly v blt bcd))) H0 H1 locs1 → W p l e R s m args below meth c H1 locs1 cells slots Q (F0 m (pc + 3) ls rest)) : W p l e R s m args below meth c H locs cells slots Q (F0 m pc ls (.long v :: .ref (bx k) :: rest)) :=
  pN_lain C hN hK h hk1 hk2 (va_up_self _ _ _)  hdg (fun H1 locs1 z => kk H1 locs1 (by rw [bx_uu] at z; exact z))
theorem gB_late (C : CallFix p m c cc nL s args wG R_B) (hK : va_K D classes tys s) {a : Nat} (hP : va_P D classes ((a, bc bsz bdr bsi btd bun bit bly bln blt bcd) :: P) H) (hdg : decode cc pc = .ok (.getfield 48, 3)) (kk : W p l e R s m args below meth c H locs cells slots Q (F0 m (pc + 3) ls (.int blt :: rest))) : W p l e R s m args below meth c H locs cells slots Q (F0 m pc ls (.ref a :: rest)) :=
  va_get C.1 C.2.1 C.2.2.2.2 i_B C.2.2.2.1 hK hP 0 rfl rfl 8 (by decide) (C.2.2.2.2 _ kw_78) (fun _ z => z) rfl hdg kk
theorem pB_late (C : CallFix p m c cc nL s args wG R_B) (hK : va_K D classes tys s) {a : Nat} (h : ST D A ((a, bc bsz bdr bsi btd bun bit bly bln blt bcd) :: P) H0 H locs) {v : Int32} (hn : narrow .boolean (.int v) = .int v) (hf : fits .boolean (.int v) = true) (hdg : decode cc pc = .ok (.putfield 48, 3)) (kk : ∀ (H1 : Heap) (locs1 : List Loc), ST D A ((a, bc bsz bdr bsi btd bun bit bly bln v bcd) :: P) H0 H1 locs1 → W p l e R s m args below meth c H1 locs1 cells slots Q (F0 m (pc + 3) ls rest)) : W p l e R s m args below meth c H locs cells slots Q (F0 m pc ls (.int v :: .ref a :: rest)) :=
  va_put C.1 C.2.1 C.2.2.2.2 i_B t_B t_B_ok n_B C.2.2.2.1 hK h.1 h.2.1 h.2.2 0 rfl rfl 8 (by decide) (C.2.2.2.2 _ kw_78) (fun _ z => z) rfl (t_B_ok 8 (by decide)) hn hf (Nat.le_of_ble_eq_true rfl) hdg (fun H1 locs1 a b d => kk H1 locs1 ⟨a, b, d⟩)
theorem gN_late (C : CallFix p m c cc nL s args wG R_X) (hN : NW s) (hK : va_K D classes tys s) {k : Nat} (hP : va_P D classes (X ++ pl n bx E) H) (hk1 : 1 ≤ k) (hk2 : k ≤ n) (hE : E k = bc bsz bdr bsi btd bun bit bly bln blt bcd) (hdg : decode cc pc = .ok (.getfield 155, 3)) (kk : W p l e R s m args below meth c H locs cells slots Q (F0 m (pc + 3) ls (.int blt :: rest))) : W p l e R s m args below meth c H locs cells slots Q (F0 m pc ls (.ref (bx k) :: rest)) :=
  va_getN C.1 C.2.1 C.2.2.2.2 i_B C.2.2.2.1 hK hP (X.length + (k - 1)) (by rw [pl_get hk1 hk2, hE]; rfl) rfl 8 (by decide) (va_Nw.use rfl (hN (155, "late", "Z") (by simp [nwQ]))) (fun _ z => z) rfl hdg kk
theorem pN_late (C : CallFix p m c cc nL s args wG R_X) (hN : NW s) (hK : va_K D classes tys s) {k : Nat} (h : ST D A (X ++ pl n bx E) H0 H locs) (hk1 : 1 ≤ k) (hk2 : k ≤ n) (hE : E k = bc bsz bdr bsi btd bun bit bly bln blt bcd) {v : Int32} (hn : narrow .boolean (.int v) = .int v) (hf : fits .boolean (.int v) = true) (hdg : decode cc pc = .ok (.putfield 155, 3)) (kk : ∀ (H1 : Heap) (locs1 : List Loc), ST D A (X ++ pl n bx (va_up E k (bc bsz bdr bsi btd bun bit bly bln v bcd))) H0 H1 locs1 → W p l e R s m args below meth c H1 locs1 cells slots Q (F0 m (pc + 3) ls rest)) : W p l e R s m args below meth c H locs cells slots Q (F0 m pc ls (.int v :: .ref (bx k) :: rest)) :=
  va_putN C.1 C.2.1 C.2.2.2.2 i_B t_B t_B_ok n_B C.2.2.2.1 hK h.1 h.2.1 h.2.2 (X.length + (k - 1)) (by rw [pl_get hk1 hk2, hE]; rfl) rfl 8 (by decide) (va_Nw.use rfl (hN (155, "late", "Z") (by simp [nwQ]))) (fun _ z => z) rfl (t_B_ok 8 (by decide)) hn hf (Nat.le_of_ble_eq_true rfl) hdg (fun H1 locs1 a b d => kk H1 locs1 (by rw [pl_set hk1 hk2] at a b; exact ⟨a, b, d⟩))
theorem pF_late (C : CallFix p m c cc nL s args wG R_X) (hN : NW s) (hK : va_K D classes tys s) {k : Nat} (h : ST D A (X ++ pl n bx (va_up E k (bc bsz bdr bsi btd bun bit bly bln blt bcd))) H0 H locs) (hk1 : 1 ≤ k) (hk2 : k ≤ n) {v : Int32} (hn : narrow .boolean (.int v) = .int v) (hf : fits .boolean (.int v) = true) (hdg : decode cc pc = .ok (.putfield 155, 3)) (kk : ∀ (H1 : Heap) (locs1 : List Loc), ST D A (X ++ pl n bx (va_up E k (bc bsz bdr bsi btd bun bit bly bln v bcd))) H0 H1 locs1 → W p l e R s m args below meth c H1 locs1 cells slots Q (F0 m (pc + 3) ls rest)) : W p l e R s m args below meth c H locs cells slots Q (F0 m pc ls (.int v :: .ref (bx k) :: rest)) :=
  pN_late C hN hK h hk1 hk2 (va_up_self _ _ _) hn hf hdg (fun H1 locs1 z => kk H1 locs1 (by rw [bx_uu] at z; exact z))
theorem gB_code (C : CallFix p m c cc nL s args wG R_B) (hK : va_K D classes tys s) {a : Nat} (hP : va_P D classes ((a, bc bsz bdr bsi btd bun bit bly bln blt bcd) :: P) H) (hdg : decode cc pc = .ok (.getfield 20, 3)) (kk : W p l e R s m args below meth c H locs cells slots Q (F0 m (pc + 3) ls (.int bcd :: rest))) : W p l e R s m args below meth c H locs cells slots Q (F0 m pc ls (.ref a :: rest)) :=
  va_get C.1 C.2.1 C.2.2.2.2 i_B C.2.2.2.1 hK hP 0 rfl rfl 9 (by decide) (C.2.2.2.2 _ kw_80) (fun _ z => z) rfl hdg kk
theorem pB_code (C : CallFix p m c cc nL s args wG R_B) (hK : va_K D classes tys s) {a : Nat} (h : ST D A ((a, bc bsz bdr bsi btd bun bit bly bln blt bcd) :: P) H0 H locs) {v : Int32} (hdg : decode cc pc = .ok (.putfield 20, 3)) (kk : ∀ (H1 : Heap) (locs1 : List Loc), ST D A ((a, bc bsz bdr bsi btd bun bit bly bln blt v) :: P) H0 H1 locs1 → W p l e R s m args below meth c H1 locs1 cells slots Q (F0 m (pc + 3) ls rest)) : W p l e R s m args below meth c H locs cells slots Q (F0 m pc ls (.int v :: .ref a :: rest)) :=
  va_put C.1 C.2.1 C.2.2.2.2 i_B t_B t_B_ok n_B C.2.2.2.1 hK h.1 h.2.1 h.2.2 0 rfl rfl 9 (by decide) (C.2.2.2.2 _ kw_80) (fun _ z => z) rfl (t_B_ok 9 (by decide)) rfl rfl (Nat.le_of_ble_eq_true rfl) hdg (fun H1 locs1 a b d => kk H1 locs1 ⟨a, b, d⟩)
theorem gN_code (C : CallFix p m c cc nL s args wG R_X) (hN : NW s) (hK : va_K D classes tys s) {k : Nat} (hP : va_P D classes (X ++ pl n bx E) H) (hk1 : 1 ≤ k) (hk2 : k ≤ n) (hE : E k = bc bsz bdr bsi btd bun bit bly bln blt bcd) (hdg : decode cc pc = .ok (.getfield 98, 3)) (kk : W p l e R s m args below meth c H locs cells slots Q (F0 m (pc + 3) ls (.int bcd :: rest))) : W p l e R s m args below meth c H locs cells slots Q (F0 m pc ls (.ref (bx k) :: rest)) :=
  va_getN C.1 C.2.1 C.2.2.2.2 i_B C.2.2.2.1 hK hP (X.length + (k - 1)) (by rw [pl_get hk1 hk2, hE]; rfl) rfl 9 (by decide) (va_Nw.use rfl (hN (98, "code", "I") (by simp [nwQ]))) (fun _ z => z) rfl hdg kk
theorem pN_code (C : CallFix p m c cc nL s args wG R_X) (hN : NW s) (hK : va_K D classes tys s) {k : Nat} (h : ST D A (X ++ pl n bx E) H0 H locs) (hk1 : 1 ≤ k) (hk2 : k ≤ n) (hE : E k = bc bsz bdr bsi btd bun bit bly bln blt bcd) {v : Int32} (hdg : decode cc pc = .ok (.putfield 98, 3)) (kk : ∀ (H1 : Heap) (locs1 : List Loc), ST D A (X ++ pl n bx (va_up E k (bc bsz bdr bsi btd bun bit bly bln blt v))) H0 H1 locs1 → W p l e R s m args below meth c H1 locs1 cells slots Q (F0 m (pc + 3) ls rest)) : W p l e R s m args below meth c H locs cells slots Q (F0 m pc ls (.int v :: .ref (bx k) :: rest)) :=
  va_putN C.1 C.2.1 C.2.2.2.2 i_B t_B t_B_ok n_B C.2.2.2.1 hK h.1 h.2.1 h.2.2 (X.length + (k - 1)) (by rw [pl_get hk1 hk2, hE]; rfl) rfl 9 (by decide) (va_Nw.use rfl (hN (98, "code", "I") (by simp [nwQ]))) (fun _ z => z) rfl (t_B_ok 9 (by decide)) rfl rfl (Nat.le_of_ble_eq_true rfl) hdg (fun H1 locs1 a b d => kk H1 locs1 (by rw [pl_set hk1 hk2] at a b; exact ⟨a, b, d⟩))
theorem pF_code (C : CallFix p m c cc nL s args wG R_X) (hN : NW s) (hK : va_K D classes tys s) {k : Nat} (h : ST D A (X ++ pl n bx (va_up E k (bc bsz bdr bsi btd bun bit bly bln blt bcd))) H0 H locs) (hk1 : 1 ≤ k) (hk2 : k ≤ n) {v : Int32} (hdg : decode cc pc = .ok (.putfield 98, 3)) (kk : ∀ (H1 : Heap) (locs1 : List Loc), ST D A (X ++ pl n bx (va_up E k (bc bsz bdr bsi btd bun bit bly bln blt v))) H0 H1 locs1 → W p l e R s m args below meth c H1 locs1 cells slots Q (F0 m (pc + 3) ls rest)) : W p l e R s m args below meth c H locs cells slots Q (F0 m pc ls (.int v :: .ref (bx k) :: rest)) :=
  pN_code C hN hK h hk1 hk2 (va_up_self _ _ _)  hdg (fun H1 locs1 z => kk H1 locs1 (by rw [bx_uu] at z; exact z))
theorem gs_door (C : CallFix p m c cc nL s args wG own) (hC : CX (some ad) A s s.heap) (hS : va_S A s.heap H locs) (i : Nat) {index : Nat} (hi : i < 4) (hl : Cond.fieldLink own index R_D (["SHUT", "OPEN", "FORCED", "OUT"].getD i "") "LLockerRows$Door;" ∈ wG) (hdg : decode cc pc = .ok (.getstatic index, 3)) (kk : W p l e R s m args below meth c H locs cells slots Q (F0 m (pc + 3) ls (.ref (ad i) :: rest))) : W p l e R s m args below meth c H locs cells slots Q (F0 m pc ls rest) :=
  va_gets C.1 C.2.1 ((hC.en.1 i hi).1) hS C.2.2.2.1 (C.2.2.2.2 _ hl) (fun _ z => z) hdg kk
theorem gM_boxes (C : CallFix p m c cc nL s args wG R_M) (hK : va_K D classes tys s) (hP : va_P D classes (wM q cI cJ cZ bn sz dr si td it cd li lt kp tm al wr wa tn tp fn ff) H) (hdg : decode cc pc = .ok (.getfield 45, 3)) (kk : W p l e R s m args below meth c H locs cells slots Q (F0 m (pc + 3) ls (.int bn :: rest))) : W p l e R s m args below meth c H locs cells slots Q (F0 m pc ls (.ref (q 0) :: rest)) :=
  va_get C.1 C.2.1 C.2.2.2.2 i_M C.2.2.2.1 hK hP 0 rfl rfl 0 (by decide) (C.2.2.2.2 _ kw_229) (fun _ z => z) rfl hdg kk
theorem pM_boxes (C : CallFix p m c cc nL s args wG R_M) (hK : va_K D classes tys s) (h : ST D A (wM q cI cJ cZ bn sz dr si td it cd li lt kp tm al wr wa tn tp fn ff) H0 H locs) {v : Int32} (hdg : decode cc pc = .ok (.putfield 45, 3)) (kk : ∀ (H1 : Heap) (locs1 : List Loc), ST D A (wM q cI cJ cZ v sz dr si td it cd li lt kp tm al wr wa tn tp fn ff) H0 H1 locs1 → W p l e R s m args below meth c H1 locs1 cells slots Q (F0 m (pc + 3) ls rest)) : W p l e R s m args below meth c H locs cells slots Q (F0 m pc ls (.int v :: .ref (q 0) :: rest)) :=
  va_put C.1 C.2.1 C.2.2.2.2 i_M t_M t_M_ok n_M C.2.2.2.1 hK h.1 h.2.1 h.2.2 0 rfl rfl 0 (by decide) (C.2.2.2.2 _ kw_229) (fun _ z => z) rfl (t_M_ok 0 (by decide)) rfl rfl (Nat.le_of_ble_eq_true rfl) hdg (fun H1 locs1 a b d => kk H1 locs1 ⟨a, b, d⟩)
theorem gM_sizes (C : CallFix p m c cc nL s args wG R_M) (hK : va_K D classes tys s) (hP : va_P D classes (wM q cI cJ cZ bn sz dr si td it cd li lt kp tm al wr wa tn tp fn ff) H) (hdg : decode cc pc = .ok (.getfield 7, 3)) (kk : W p l e R s m args below meth c H locs cells slots Q (F0 m (pc + 3) ls (.ref (q 1) :: rest))) : W p l e R s m args below meth c H locs cells slots Q (F0 m pc ls (.ref (q 0) :: rest)) :=
  va_get C.1 C.2.1 C.2.2.2.2 i_M C.2.2.2.1 hK hP 0 rfl rfl 1 (by decide) (C.2.2.2.2 _ kw_230) (fun _ z => z) rfl hdg kk
theorem gM_doors (C : CallFix p m c cc nL s args wG R_M) (hK : va_K D classes tys s) (hP : va_P D classes (wM q cI cJ cZ bn sz dr si td it cd li lt kp tm al wr wa tn tp fn ff) H) (hdg : decode cc pc = .ok (.getfield 13, 3)) (kk : W p l e R s m args below meth c H locs cells slots Q (F0 m (pc + 3) ls (.ref (q 2) :: rest))) : W p l e R s m args below meth c H locs cells slots Q (F0 m pc ls (.ref (q 0) :: rest)) :=
  va_get C.1 C.2.1 C.2.2.2.2 i_M C.2.2.2.1 hK hP 0 rfl rfl 2 (by decide) (C.2.2.2.2 _ kw_231) (fun _ z => z) rfl hdg kk
theorem gM_since (C : CallFix p m c cc nL s args wG R_M) (hK : va_K D classes tys s) (hP : va_P D classes (wM q cI cJ cZ bn sz dr si td it cd li lt kp tm al wr wa tn tp fn ff) H) (hdg : decode cc pc = .ok (.getfield 16, 3)) (kk : W p l e R s m args below meth c H locs cells slots Q (F0 m (pc + 3) ls (.ref (q 3) :: rest))) : W p l e R s m args below meth c H locs cells slots Q (F0 m pc ls (.ref (q 0) :: rest)) :=
  va_get C.1 C.2.1 C.2.2.2.2 i_M C.2.2.2.1 hK hP 0 rfl rfl 3 (by decide) (C.2.2.2.2 _ kw_232) (fun _ z => z) rfl hdg kk
theorem gM_told (C : CallFix p m c cc nL s args wG R_M) (hK : va_K D classes tys s) (hP : va_P D classes (wM q cI cJ cZ bn sz dr si td it cd li lt kp tm al wr wa tn tp fn ff) H) (hdg : decode cc pc = .ok (.getfield 20, 3)) (kk : W p l e R s m args below meth c H locs cells slots Q (F0 m (pc + 3) ls (.ref (q 4) :: rest))) : W p l e R s m args below meth c H locs cells slots Q (F0 m pc ls (.ref (q 0) :: rest)) :=
  va_get C.1 C.2.1 C.2.2.2.2 i_M C.2.2.2.1 hK hP 0 rfl rfl 4 (by decide) (C.2.2.2.2 _ kw_233) (fun _ z => z) rfl hdg kk
theorem gM_items (C : CallFix p m c cc nL s args wG R_M) (hK : va_K D classes tys s) (hP : va_P D classes (wM q cI cJ cZ bn sz dr si td it cd li lt kp tm al wr wa tn tp fn ff) H) (hdg : decode cc pc = .ok (.getfield 24, 3)) (kk : W p l e R s m args below meth c H locs cells slots Q (F0 m (pc + 3) ls (.ref (q 5) :: rest))) : W p l e R s m args below meth c H locs cells slots Q (F0 m pc ls (.ref (q 0) :: rest)) :=
  va_get C.1 C.2.1 C.2.2.2.2 i_M C.2.2.2.1 hK hP 0 rfl rfl 5 (by decide) (C.2.2.2.2 _ kw_234) (fun _ z => z) rfl hdg kk
theorem gM_codes (C : CallFix p m c cc nL s args wG R_M) (hK : va_K D classes tys s) (hP : va_P D classes (wM q cI cJ cZ bn sz dr si td it cd li lt kp tm al wr wa tn tp fn ff) H) (hdg : decode cc pc = .ok (.getfield 27, 3)) (kk : W p l e R s m args below meth c H locs cells slots Q (F0 m (pc + 3) ls (.ref (q 6) :: rest))) : W p l e R s m args below meth c H locs cells slots Q (F0 m pc ls (.ref (q 0) :: rest)) :=
  va_get C.1 C.2.1 C.2.2.2.2 i_M C.2.2.2.1 hK hP 0 rfl rfl 6 (by decide) (C.2.2.2.2 _ kw_235) (fun _ z => z) rfl hdg kk
theorem gM_lies (C : CallFix p m c cc nL s args wG R_M) (hK : va_K D classes tys s) (hP : va_P D classes (wM q cI cJ cZ bn sz dr si td it cd li lt kp tm al wr wa tn tp fn ff) H) (hdg : decode cc pc = .ok (.getfield 30, 3)) (kk : W p l e R s m args below meth c H locs cells slots Q (F0 m (pc + 3) ls (.ref (q 7) :: rest))) : W p l e R s m args below meth c H locs cells slots Q (F0 m pc ls (.ref (q 0) :: rest)) :=
  va_get C.1 C.2.1 C.2.2.2.2 i_M C.2.2.2.1 hK hP 0 rfl rfl 7 (by decide) (C.2.2.2.2 _ kw_236) (fun _ z => z) rfl hdg kk
theorem gM_late (C : CallFix p m c cc nL s args wG R_M) (hK : va_K D classes tys s) (hP : va_P D classes (wM q cI cJ cZ bn sz dr si td it cd li lt kp tm al wr wa tn tp fn ff) H) (hdg : decode cc pc = .ok (.getfield 33, 3)) (kk : W p l e R s m args below meth c H locs cells slots Q (F0 m (pc + 3) ls (.ref (q 8) :: rest))) : W p l e R s m args below meth c H locs cells slots Q (F0 m pc ls (.ref (q 0) :: rest)) :=
  va_get C.1 C.2.1 C.2.2.2.2 i_M C.2.2.2.1 hK hP 0 rfl rfl 8 (by decide) (C.2.2.2.2 _ kw_237) (fun _ z => z) rfl hdg kk
theorem gM_kept (C : CallFix p m c cc nL s args wG R_M) (hK : va_K D classes tys s) (hP : va_P D classes (wM q cI cJ cZ bn sz dr si td it cd li lt kp tm al wr wa tn tp fn ff) H) (hdg : decode cc pc = .ok (.getfield 36, 3)) (kk : W p l e R s m args below meth c H locs cells slots Q (F0 m (pc + 3) ls (.ref (q 9) :: rest))) : W p l e R s m args below meth c H locs cells slots Q (F0 m pc ls (.ref (q 0) :: rest)) :=
  va_get C.1 C.2.1 C.2.2.2.2 i_M C.2.2.2.1 hK hP 0 rfl rfl 9 (by decide) (C.2.2.2.2 _ kw_238) (fun _ z => z) rfl hdg kk
theorem gM_time (C : CallFix p m c cc nL s args wG R_M) (hK : va_K D classes tys s) (hP : va_P D classes (wM q cI cJ cZ bn sz dr si td it cd li lt kp tm al wr wa tn tp fn ff) H) (hdg : decode cc pc = .ok (.getfield 60, 3)) (kk : W p l e R s m args below meth c H locs cells slots Q (F0 m (pc + 3) ls (.long tm :: rest))) : W p l e R s m args below meth c H locs cells slots Q (F0 m pc ls (.ref (q 0) :: rest)) :=
  va_get C.1 C.2.1 C.2.2.2.2 i_M C.2.2.2.1 hK hP 0 rfl rfl 10 (by decide) (C.2.2.2.2 _ kw_239) (fun _ z => z) rfl hdg kk
theorem pM_time (C : CallFix p m c cc nL s args wG R_M) (hK : va_K D classes tys s) (h : ST D A (wM q cI cJ cZ bn sz dr si td it cd li lt kp tm al wr wa tn tp fn ff) H0 H locs) {v : Int64} (hdg : decode cc pc = .ok (.putfield 60, 3)) (kk : ∀ (H1 : Heap) (locs1 : List Loc), ST D A (wM q cI cJ cZ bn sz dr si td it cd li lt kp v al wr wa tn tp fn ff) H0 H1 locs1 → W p l e R s m args below meth c H1 locs1 cells slots Q (F0 m (pc + 3) ls rest)) : W p l e R s m args below meth c H locs cells slots Q (F0 m pc ls (.long v :: .ref (q 0) :: rest)) :=
  va_put C.1 C.2.1 C.2.2.2.2 i_M t_M t_M_ok n_M C.2.2.2.1 hK h.1 h.2.1 h.2.2 0 rfl rfl 10 (by decide) (C.2.2.2.2 _ kw_239) (fun _ z => z) rfl (t_M_ok 10 (by decide)) rfl rfl (Nat.le_of_ble_eq_true rfl) hdg (fun H1 locs1 a b d => kk H1 locs1 ⟨a, b, d⟩)
theorem gM_alarms (C : CallFix p m c cc nL s args wG R_M) (hK : va_K D classes tys s) (hP : va_P D classes (wM q cI cJ cZ bn sz dr si td it cd li lt kp tm al wr wa tn tp fn ff) H) (hdg : decode cc pc = .ok (.getfield 71, 3)) (kk : W p l e R s m args below meth c H locs cells slots Q (F0 m (pc + 3) ls (.int al :: rest))) : W p l e R s m args below meth c H locs cells slots Q (F0 m pc ls (.ref (q 0) :: rest)) :=
  va_get C.1 C.2.1 C.2.2.2.2 i_M C.2.2.2.1 hK hP 0 rfl rfl 11 (by decide) (C.2.2.2.2 _ kw_240) (fun _ z => z) rfl hdg kk
theorem pM_alarms (C : CallFix p m c cc nL s args wG R_M) (hK : va_K D classes tys s) (h : ST D A (wM q cI cJ cZ bn sz dr si td it cd li lt kp tm al wr wa tn tp fn ff) H0 H locs) {v : Int32} (hdg : decode cc pc = .ok (.putfield 71, 3)) (kk : ∀ (H1 : Heap) (locs1 : List Loc), ST D A (wM q cI cJ cZ bn sz dr si td it cd li lt kp tm v wr wa tn tp fn ff) H0 H1 locs1 → W p l e R s m args below meth c H1 locs1 cells slots Q (F0 m (pc + 3) ls rest)) : W p l e R s m args below meth c H locs cells slots Q (F0 m pc ls (.int v :: .ref (q 0) :: rest)) :=
  va_put C.1 C.2.1 C.2.2.2.2 i_M t_M t_M_ok n_M C.2.2.2.1 hK h.1 h.2.1 h.2.2 0 rfl rfl 11 (by decide) (C.2.2.2.2 _ kw_240) (fun _ z => z) rfl (t_M_ok 11 (by decide)) rfl rfl (Nat.le_of_ble_eq_true rfl) hdg (fun H1 locs1 a b d => kk H1 locs1 ⟨a, b, d⟩)
theorem gM_wrong (C : CallFix p m c cc nL s args wG R_M) (hK : va_K D classes tys s) (hP : va_P D classes (wM q cI cJ cZ bn sz dr si td it cd li lt kp tm al wr wa tn tp fn ff) H) (hdg : decode cc pc = .ok (.getfield 104, 3)) (kk : W p l e R s m args below meth c H locs cells slots Q (F0 m (pc + 3) ls (.int wr :: rest))) : W p l e R s m args below meth c H locs cells slots Q (F0 m pc ls (.ref (q 0) :: rest)) :=
  va_get C.1 C.2.1 C.2.2.2.2 i_M C.2.2.2.1 hK hP 0 rfl rfl 12 (by decide) (C.2.2.2.2 _ kw_241) (fun _ z => z) rfl hdg kk
theorem pM_wrong (C : CallFix p m c cc nL s args wG R_M) (hK : va_K D classes tys s) (h : ST D A (wM q cI cJ cZ bn sz dr si td it cd li lt kp tm al wr wa tn tp fn ff) H0 H locs) {v : Int32} (hdg : decode cc pc = .ok (.putfield 104, 3)) (kk : ∀ (H1 : Heap) (locs1 : List Loc), ST D A (wM q cI cJ cZ bn sz dr si td it cd li lt kp tm al v wa tn tp fn ff) H0 H1 locs1 → W p l e R s m args below meth c H1 locs1 cells slots Q (F0 m (pc + 3) ls rest)) : W p l e R s m args below meth c H locs cells slots Q (F0 m pc ls (.int v :: .ref (q 0) :: rest)) :=
  va_put C.1 C.2.1 C.2.2.2.2 i_M t_M t_M_ok n_M C.2.2.2.1 hK h.1 h.2.1 h.2.2 0 rfl rfl 12 (by decide) (C.2.2.2.2 _ kw_241) (fun _ z => z) rfl (t_M_ok 12 (by decide)) rfl rfl (Nat.le_of_ble_eq_true rfl) hdg (fun H1 locs1 a b d => kk H1 locs1 ⟨a, b, d⟩)
theorem gM_waits (C : CallFix p m c cc nL s args wG R_M) (hK : va_K D classes tys s) (hP : va_P D classes (wM q cI cJ cZ bn sz dr si td it cd li lt kp tm al wr wa tn tp fn ff) H) (hdg : decode cc pc = .ok (.getfield 93, 3)) (kk : W p l e R s m args below meth c H locs cells slots Q (F0 m (pc + 3) ls (.long wa :: rest))) : W p l e R s m args below meth c H locs cells slots Q (F0 m pc ls (.ref (q 0) :: rest)) :=
  va_get C.1 C.2.1 C.2.2.2.2 i_M C.2.2.2.1 hK hP 0 rfl rfl 13 (by decide) (C.2.2.2.2 _ kw_242) (fun _ z => z) rfl hdg kk
theorem pM_waits (C : CallFix p m c cc nL s args wG R_M) (hK : va_K D classes tys s) (h : ST D A (wM q cI cJ cZ bn sz dr si td it cd li lt kp tm al wr wa tn tp fn ff) H0 H locs) {v : Int64} (hdg : decode cc pc = .ok (.putfield 93, 3)) (kk : ∀ (H1 : Heap) (locs1 : List Loc), ST D A (wM q cI cJ cZ bn sz dr si td it cd li lt kp tm al wr v tn tp fn ff) H0 H1 locs1 → W p l e R s m args below meth c H1 locs1 cells slots Q (F0 m (pc + 3) ls rest)) : W p l e R s m args below meth c H locs cells slots Q (F0 m pc ls (.long v :: .ref (q 0) :: rest)) :=
  va_put C.1 C.2.1 C.2.2.2.2 i_M t_M t_M_ok n_M C.2.2.2.1 hK h.1 h.2.1 h.2.2 0 rfl rfl 13 (by decide) (C.2.2.2.2 _ kw_242) (fun _ z => z) rfl (t_M_ok 13 (by decide)) rfl rfl (Nat.le_of_ble_eq_true rfl) hdg (fun H1 locs1 a b d => kk H1 locs1 ⟨a, b, d⟩)
theorem gM_taped (C : CallFix p m c cc nL s args wG R_M) (hK : va_K D classes tys s) (hP : va_P D classes (wM q cI cJ cZ bn sz dr si td it cd li lt kp tm al wr wa tn tp fn ff) H) (hdg : decode cc pc = .ok (.getfield 57, 3)) (kk : W p l e R s m args below meth c H locs cells slots Q (F0 m (pc + 3) ls (.int tn :: rest))) : W p l e R s m args below meth c H locs cells slots Q (F0 m pc ls (.ref (q 0) :: rest)) :=
  va_get C.1 C.2.1 C.2.2.2.2 i_M C.2.2.2.1 hK hP 0 rfl rfl 14 (by decide) (C.2.2.2.2 _ kw_243) (fun _ z => z) rfl hdg kk
theorem pM_taped (C : CallFix p m c cc nL s args wG R_M) (hK : va_K D classes tys s) (h : ST D A (wM q cI cJ cZ bn sz dr si td it cd li lt kp tm al wr wa tn tp fn ff) H0 H locs) {v : Int32} (hdg : decode cc pc = .ok (.putfield 57, 3)) (kk : ∀ (H1 : Heap) (locs1 : List Loc), ST D A (wM q cI cJ cZ bn sz dr si td it cd li lt kp tm al wr wa v tp fn ff) H0 H1 locs1 → W p l e R s m args below meth c H1 locs1 cells slots Q (F0 m (pc + 3) ls rest)) : W p l e R s m args below meth c H locs cells slots Q (F0 m pc ls (.int v :: .ref (q 0) :: rest)) :=
  va_put C.1 C.2.1 C.2.2.2.2 i_M t_M t_M_ok n_M C.2.2.2.1 hK h.1 h.2.1 h.2.2 0 rfl rfl 14 (by decide) (C.2.2.2.2 _ kw_243) (fun _ z => z) rfl (t_M_ok 14 (by decide)) rfl rfl (Nat.le_of_ble_eq_true rfl) hdg (fun H1 locs1 a b d => kk H1 locs1 ⟨a, b, d⟩)
theorem gM_tape (C : CallFix p m c cc nL s args wG R_M) (hK : va_K D classes tys s) (hP : va_P D classes (wM q cI cJ cZ bn sz dr si td it cd li lt kp tm al wr wa tn tp fn ff) H) (hdg : decode cc pc = .ok (.getfield 39, 3)) (kk : W p l e R s m args below meth c H locs cells slots Q (F0 m (pc + 3) ls (.ref (q 10) :: rest))) : W p l e R s m args below meth c H locs cells slots Q (F0 m pc ls (.ref (q 0) :: rest)) :=
  va_get C.1 C.2.1 C.2.2.2.2 i_M C.2.2.2.1 hK hP 0 rfl rfl 15 (by decide) (C.2.2.2.2 _ kw_244) (fun _ z => z) rfl hdg kk
theorem gM_freed (C : CallFix p m c cc nL s args wG R_M) (hK : va_K D classes tys s) (hP : va_P D classes (wM q cI cJ cZ bn sz dr si td it cd li lt kp tm al wr wa tn tp fn ff) H) (hdg : decode cc pc = .ok (.getfield 66, 3)) (kk : W p l e R s m args below meth c H locs cells slots Q (F0 m (pc + 3) ls (.int fn :: rest))) : W p l e R s m args below meth c H locs cells slots Q (F0 m pc ls (.ref (q 0) :: rest)) :=
  va_get C.1 C.2.1 C.2.2.2.2 i_M C.2.2.2.1 hK hP 0 rfl rfl 16 (by decide) (C.2.2.2.2 _ kw_245) (fun _ z => z) rfl hdg kk
theorem pM_freed (C : CallFix p m c cc nL s args wG R_M) (hK : va_K D classes tys s) (h : ST D A (wM q cI cJ cZ bn sz dr si td it cd li lt kp tm al wr wa tn tp fn ff) H0 H locs) {v : Int32} (hdg : decode cc pc = .ok (.putfield 66, 3)) (kk : ∀ (H1 : Heap) (locs1 : List Loc), ST D A (wM q cI cJ cZ bn sz dr si td it cd li lt kp tm al wr wa tn tp v ff) H0 H1 locs1 → W p l e R s m args below meth c H1 locs1 cells slots Q (F0 m (pc + 3) ls rest)) : W p l e R s m args below meth c H locs cells slots Q (F0 m pc ls (.int v :: .ref (q 0) :: rest)) :=
  va_put C.1 C.2.1 C.2.2.2.2 i_M t_M t_M_ok n_M C.2.2.2.1 hK h.1 h.2.1 h.2.2 0 rfl rfl 16 (by decide) (C.2.2.2.2 _ kw_245) (fun _ z => z) rfl (t_M_ok 16 (by decide)) rfl rfl (Nat.le_of_ble_eq_true rfl) hdg (fun H1 locs1 a b d => kk H1 locs1 ⟨a, b, d⟩)
theorem gM_free (C : CallFix p m c cc nL s args wG R_M) (hK : va_K D classes tys s) (hP : va_P D classes (wM q cI cJ cZ bn sz dr si td it cd li lt kp tm al wr wa tn tp fn ff) H) (hdg : decode cc pc = .ok (.getfield 42, 3)) (kk : W p l e R s m args below meth c H locs cells slots Q (F0 m (pc + 3) ls (.ref (q 11) :: rest))) : W p l e R s m args below meth c H locs cells slots Q (F0 m pc ls (.ref (q 0) :: rest)) :=
  va_get C.1 C.2.1 C.2.2.2.2 i_M C.2.2.2.1 hK hP 0 rfl rfl 17 (by decide) (C.2.2.2.2 _ kw_246) (fun _ z => z) rfl hdg kk
theorem rM_sizes (hx : p.tables.exec = Jvm.exec) (hb : c.code = cc) (hK : va_K D classes (tyM cI cJ cZ) s) (hP : va_P D classes (wM q cI cJ cZ bn sz dr si td it cd li lt kp tm al wr wa tn tp fn ff) H) {i : Int32} {k : Nat} (hi : ix i k 61) (hdg : decode cc pc = .ok (.iaload, 1)) (kk : W p l e R s m args below meth c H locs cells slots Q (F0 m (pc + 1) ls (.int (sz k) :: rest))) : W p l e R s m args below meth c H locs cells slots Q (F0 m pc ls (.int i :: .ref (q 1) :: rest)) :=
  va_iald hx hb hK hP 1 0 rfl rfl hi.inn hdg (by rw [hi.cl]; exact kk)
theorem sM_sizes (hx : p.tables.exec = Jvm.exec) (hb : c.code = cc) (hK : va_K D classes (tyM cI cJ cZ) s) (h : ST D A (wM q cI cJ cZ bn sz dr si td it cd li lt kp tm al wr wa tn tp fn ff) H0 H locs) {i : Int32} {k : Nat} {x : Int32} (hi : ix i k 61) (hdg : decode cc pc = .ok (.iastore, 1)) (kk : ∀ (H1 : Heap) (locs1 : List Loc), ST D A (wM q cI cJ cZ bn (upd sz k x) dr si td it cd li lt kp tm al wr wa tn tp fn ff) H0 H1 locs1 → W p l e R s m args below meth c H1 locs1 cells slots Q (F0 m (pc + 1) ls rest)) : W p l e R s m args below meth c H locs cells slots Q (F0 m pc ls (.int x :: .int i :: .ref (q 1) :: rest)) :=
  va_iast hx hb hK h.1 h.2.1 h.2.2 1 0 rfl rfl hi.inn hdg (fun H1 locs1 a b d => kk H1 locs1 (by rw [hi.cl] at a b; exact ⟨a, b, d⟩))
theorem rM_doors (hx : p.tables.exec = Jvm.exec) (hb : c.code = cc) (hK : va_K D classes (tyM cI cJ cZ) s) (hP : va_P D classes (wM q cI cJ cZ bn sz dr si td it cd li lt kp tm al wr wa tn tp fn ff) H) {i : Int32} {k : Nat} (hi : ix i k 61) (hdg : decode cc pc = .ok (.iaload, 1)) (kk : W p l e R s m args below meth c H locs cells slots Q (F0 m (pc + 1) ls (.int (dr k) :: rest))) : W p l e R s m args below meth c H locs cells slots Q (F0 m pc ls (.int i :: .ref (q 2) :: rest)) :=
  va_iald hx hb hK hP 2 0 rfl rfl hi.inn hdg (by rw [hi.cl]; exact kk)
theorem sM_doors (hx : p.tables.exec = Jvm.exec) (hb : c.code = cc) (hK : va_K D classes (tyM cI cJ cZ) s) (h : ST D A (wM q cI cJ cZ bn sz dr si td it cd li lt kp tm al wr wa tn tp fn ff) H0 H locs) {i : Int32} {k : Nat} {x : Int32} (hi : ix i k 61) (hdg : decode cc pc = .ok (.iastore, 1)) (kk : ∀ (H1 : Heap) (locs1 : List Loc), ST D A (wM q cI cJ cZ bn sz (upd dr k x) si td it cd li lt kp tm al wr wa tn tp fn ff) H0 H1 locs1 → W p l e R s m args below meth c H1 locs1 cells slots Q (F0 m (pc + 1) ls rest)) : W p l e R s m args below meth c H locs cells slots Q (F0 m pc ls (.int x :: .int i :: .ref (q 2) :: rest)) :=
  va_iast hx hb hK h.1 h.2.1 h.2.2 2 0 rfl rfl hi.inn hdg (fun H1 locs1 a b d => kk H1 locs1 (by rw [hi.cl] at a b; exact ⟨a, b, d⟩))
theorem rM_since (hx : p.tables.exec = Jvm.exec) (hb : c.code = cc) (hK : va_K D classes (tyM cI cJ cZ) s) (hP : va_P D classes (wM q cI cJ cZ bn sz dr si td it cd li lt kp tm al wr wa tn tp fn ff) H) {i : Int32} {k : Nat} (hi : ix i k 61) (hdg : decode cc pc = .ok (.laload, 1)) (kk : W p l e R s m args below meth c H locs cells slots Q (F0 m (pc + 1) ls (.long (si k) :: rest))) : W p l e R s m args below meth c H locs cells slots Q (F0 m pc ls (.int i :: .ref (q 3) :: rest)) :=
  va_lald hx hb hK hP 3 1 rfl rfl hi.inn hdg (by rw [hi.cl]; exact kk)
theorem sM_since (hx : p.tables.exec = Jvm.exec) (hb : c.code = cc) (hK : va_K D classes (tyM cI cJ cZ) s) (h : ST D A (wM q cI cJ cZ bn sz dr si td it cd li lt kp tm al wr wa tn tp fn ff) H0 H locs) {i : Int32} {k : Nat} {x : Int64} (hi : ix i k 61) (hdg : decode cc pc = .ok (.lastore, 1)) (kk : ∀ (H1 : Heap) (locs1 : List Loc), ST D A (wM q cI cJ cZ bn sz dr (vp_updL si k x) td it cd li lt kp tm al wr wa tn tp fn ff) H0 H1 locs1 → W p l e R s m args below meth c H1 locs1 cells slots Q (F0 m (pc + 1) ls rest)) : W p l e R s m args below meth c H locs cells slots Q (F0 m pc ls (.long x :: .int i :: .ref (q 3) :: rest)) :=
  va_last hx hb hK h.1 h.2.1 h.2.2 3 1 rfl rfl hi.inn hdg (fun H1 locs1 a b d => kk H1 locs1 (by rw [hi.cl] at a b; exact ⟨a, b, d⟩))
theorem rM_told (hx : p.tables.exec = Jvm.exec) (hb : c.code = cc) (hK : va_K D classes (tyM cI cJ cZ) s) (hP : va_P D classes (wM q cI cJ cZ bn sz dr si td it cd li lt kp tm al wr wa tn tp fn ff) H) {i : Int32} {k : Nat} (hi : ix i k 61) (hdg : decode cc pc = .ok (.baload, 1)) (kk : W p l e R s m args below meth c H locs cells slots Q (F0 m (pc + 1) ls (.int (td k) :: rest))) : W p l e R s m args below meth c H locs cells slots Q (F0 m pc ls (.int i :: .ref (q 4) :: rest)) :=
  va_zald hx hb hK hP 4 2 rfl rfl hi.inn hdg (by rw [hi.cl]; exact kk)
theorem sM_told (hx : p.tables.exec = Jvm.exec) (hb : c.code = cc) (hK : va_K D classes (tyM cI cJ cZ) s) (h : ST D A (wM q cI cJ cZ bn sz dr si td it cd li lt kp tm al wr wa tn tp fn ff) H0 H locs) {i : Int32} {k : Nat} {x : Int32} (hi : ix i k 61) (hn : vp_nar .boolean x = x) (hdg : decode cc pc = .ok (.bastore, 1)) (kk : ∀ (H1 : Heap) (locs1 : List Loc), ST D A (wM q cI cJ cZ bn sz dr si (upd td k x) it cd li lt kp tm al wr wa tn tp fn ff) H0 H1 locs1 → W p l e R s m args below meth c H1 locs1 cells slots Q (F0 m (pc + 1) ls rest)) : W p l e R s m args below meth c H locs cells slots Q (F0 m pc ls (.int x :: .int i :: .ref (q 4) :: rest)) :=
  va_zast hx hb hK h.1 h.2.1 h.2.2 4 2 rfl rfl hi.inn hdg (fun H1 locs1 a b d => kk H1 locs1 (by rw [hi.cl] at a b; rw [hn] at a b; exact ⟨a, b, d⟩))
theorem rM_items (hx : p.tables.exec = Jvm.exec) (hb : c.code = cc) (hK : va_K D classes (tyM cI cJ cZ) s) (hP : va_P D classes (wM q cI cJ cZ bn sz dr si td it cd li lt kp tm al wr wa tn tp fn ff) H) {i : Int32} {k : Nat} (hi : ix i k 61) (hdg : decode cc pc = .ok (.iaload, 1)) (kk : W p l e R s m args below meth c H locs cells slots Q (F0 m (pc + 1) ls (.int (it k) :: rest))) : W p l e R s m args below meth c H locs cells slots Q (F0 m pc ls (.int i :: .ref (q 5) :: rest)) :=
  va_iald hx hb hK hP 5 0 rfl rfl hi.inn hdg (by rw [hi.cl]; exact kk)
theorem sM_items (hx : p.tables.exec = Jvm.exec) (hb : c.code = cc) (hK : va_K D classes (tyM cI cJ cZ) s) (h : ST D A (wM q cI cJ cZ bn sz dr si td it cd li lt kp tm al wr wa tn tp fn ff) H0 H locs) {i : Int32} {k : Nat} {x : Int32} (hi : ix i k 61) (hdg : decode cc pc = .ok (.iastore, 1)) (kk : ∀ (H1 : Heap) (locs1 : List Loc), ST D A (wM q cI cJ cZ bn sz dr si td (upd it k x) cd li lt kp tm al wr wa tn tp fn ff) H0 H1 locs1 → W p l e R s m args below meth c H1 locs1 cells slots Q (F0 m (pc + 1) ls rest)) : W p l e R s m args below meth c H locs cells slots Q (F0 m pc ls (.int x :: .int i :: .ref (q 5) :: rest)) :=
  va_iast hx hb hK h.1 h.2.1 h.2.2 5 0 rfl rfl hi.inn hdg (fun H1 locs1 a b d => kk H1 locs1 (by rw [hi.cl] at a b; exact ⟨a, b, d⟩))
theorem rM_codes (hx : p.tables.exec = Jvm.exec) (hb : c.code = cc) (hK : va_K D classes (tyM cI cJ cZ) s) (hP : va_P D classes (wM q cI cJ cZ bn sz dr si td it cd li lt kp tm al wr wa tn tp fn ff) H) {i : Int32} {k : Nat} (hi : ix i k 61) (hdg : decode cc pc = .ok (.iaload, 1)) (kk : W p l e R s m args below meth c H locs cells slots Q (F0 m (pc + 1) ls (.int (cd k) :: rest))) : W p l e R s m args below meth c H locs cells slots Q (F0 m pc ls (.int i :: .ref (q 6) :: rest)) :=
  va_iald hx hb hK hP 6 0 rfl rfl hi.inn hdg (by rw [hi.cl]; exact kk)
theorem sM_codes (hx : p.tables.exec = Jvm.exec) (hb : c.code = cc) (hK : va_K D classes (tyM cI cJ cZ) s) (h : ST D A (wM q cI cJ cZ bn sz dr si td it cd li lt kp tm al wr wa tn tp fn ff) H0 H locs) {i : Int32} {k : Nat} {x : Int32} (hi : ix i k 61) (hdg : decode cc pc = .ok (.iastore, 1)) (kk : ∀ (H1 : Heap) (locs1 : List Loc), ST D A (wM q cI cJ cZ bn sz dr si td it (upd cd k x) li lt kp tm al wr wa tn tp fn ff) H0 H1 locs1 → W p l e R s m args below meth c H1 locs1 cells slots Q (F0 m (pc + 1) ls rest)) : W p l e R s m args below meth c H locs cells slots Q (F0 m pc ls (.int x :: .int i :: .ref (q 6) :: rest)) :=
  va_iast hx hb hK h.1 h.2.1 h.2.2 6 0 rfl rfl hi.inn hdg (fun H1 locs1 a b d => kk H1 locs1 (by rw [hi.cl] at a b; exact ⟨a, b, d⟩))
theorem rM_lies (hx : p.tables.exec = Jvm.exec) (hb : c.code = cc) (hK : va_K D classes (tyM cI cJ cZ) s) (hP : va_P D classes (wM q cI cJ cZ bn sz dr si td it cd li lt kp tm al wr wa tn tp fn ff) H) {i : Int32} {k : Nat} (hi : ix i k 61) (hdg : decode cc pc = .ok (.laload, 1)) (kk : W p l e R s m args below meth c H locs cells slots Q (F0 m (pc + 1) ls (.long (li k) :: rest))) : W p l e R s m args below meth c H locs cells slots Q (F0 m pc ls (.int i :: .ref (q 7) :: rest)) :=
  va_lald hx hb hK hP 7 1 rfl rfl hi.inn hdg (by rw [hi.cl]; exact kk)
theorem sM_lies (hx : p.tables.exec = Jvm.exec) (hb : c.code = cc) (hK : va_K D classes (tyM cI cJ cZ) s) (h : ST D A (wM q cI cJ cZ bn sz dr si td it cd li lt kp tm al wr wa tn tp fn ff) H0 H locs) {i : Int32} {k : Nat} {x : Int64} (hi : ix i k 61) (hdg : decode cc pc = .ok (.lastore, 1)) (kk : ∀ (H1 : Heap) (locs1 : List Loc), ST D A (wM q cI cJ cZ bn sz dr si td it cd (vp_updL li k x) lt kp tm al wr wa tn tp fn ff) H0 H1 locs1 → W p l e R s m args below meth c H1 locs1 cells slots Q (F0 m (pc + 1) ls rest)) : W p l e R s m args below meth c H locs cells slots Q (F0 m pc ls (.long x :: .int i :: .ref (q 7) :: rest)) :=
  va_last hx hb hK h.1 h.2.1 h.2.2 7 1 rfl rfl hi.inn hdg (fun H1 locs1 a b d => kk H1 locs1 (by rw [hi.cl] at a b; exact ⟨a, b, d⟩))
theorem rM_late (hx : p.tables.exec = Jvm.exec) (hb : c.code = cc) (hK : va_K D classes (tyM cI cJ cZ) s) (hP : va_P D classes (wM q cI cJ cZ bn sz dr si td it cd li lt kp tm al wr wa tn tp fn ff) H) {i : Int32} {k : Nat} (hi : ix i k 61) (hdg : decode cc pc = .ok (.baload, 1)) (kk : W p l e R s m args below meth c H locs cells slots Q (F0 m (pc + 1) ls (.int (lt k) :: rest))) : W p l e R s m args below meth c H locs cells slots Q (F0 m pc ls (.int i :: .ref (q 8) :: rest)) :=
  va_zald hx hb hK hP 8 2 rfl rfl hi.inn hdg (by rw [hi.cl]; exact kk)
theorem sM_late (hx : p.tables.exec = Jvm.exec) (hb : c.code = cc) (hK : va_K D classes (tyM cI cJ cZ) s) (h : ST D A (wM q cI cJ cZ bn sz dr si td it cd li lt kp tm al wr wa tn tp fn ff) H0 H locs) {i : Int32} {k : Nat} {x : Int32} (hi : ix i k 61) (hn : vp_nar .boolean x = x) (hdg : decode cc pc = .ok (.bastore, 1)) (kk : ∀ (H1 : Heap) (locs1 : List Loc), ST D A (wM q cI cJ cZ bn sz dr si td it cd li (upd lt k x) kp tm al wr wa tn tp fn ff) H0 H1 locs1 → W p l e R s m args below meth c H1 locs1 cells slots Q (F0 m (pc + 1) ls rest)) : W p l e R s m args below meth c H locs cells slots Q (F0 m pc ls (.int x :: .int i :: .ref (q 8) :: rest)) :=
  va_zast hx hb hK h.1 h.2.1 h.2.2 8 2 rfl rfl hi.inn hdg (fun H1 locs1 a b d => kk H1 locs1 (by rw [hi.cl] at a b; rw [hn] at a b; exact ⟨a, b, d⟩))
theorem rM_kept (hx : p.tables.exec = Jvm.exec) (hb : c.code = cc) (hK : va_K D classes (tyM cI cJ cZ) s) (hP : va_P D classes (wM q cI cJ cZ bn sz dr si td it cd li lt kp tm al wr wa tn tp fn ff) H) {i : Int32} {k : Nat} (hi : ix i k 61) (hdg : decode cc pc = .ok (.laload, 1)) (kk : W p l e R s m args below meth c H locs cells slots Q (F0 m (pc + 1) ls (.long (kp k) :: rest))) : W p l e R s m args below meth c H locs cells slots Q (F0 m pc ls (.int i :: .ref (q 9) :: rest)) :=
  va_lald hx hb hK hP 9 1 rfl rfl hi.inn hdg (by rw [hi.cl]; exact kk)
theorem sM_kept (hx : p.tables.exec = Jvm.exec) (hb : c.code = cc) (hK : va_K D classes (tyM cI cJ cZ) s) (h : ST D A (wM q cI cJ cZ bn sz dr si td it cd li lt kp tm al wr wa tn tp fn ff) H0 H locs) {i : Int32} {k : Nat} {x : Int64} (hi : ix i k 61) (hdg : decode cc pc = .ok (.lastore, 1)) (kk : ∀ (H1 : Heap) (locs1 : List Loc), ST D A (wM q cI cJ cZ bn sz dr si td it cd li lt (vp_updL kp k x) tm al wr wa tn tp fn ff) H0 H1 locs1 → W p l e R s m args below meth c H1 locs1 cells slots Q (F0 m (pc + 1) ls rest)) : W p l e R s m args below meth c H locs cells slots Q (F0 m pc ls (.long x :: .int i :: .ref (q 9) :: rest)) :=
  va_last hx hb hK h.1 h.2.1 h.2.2 9 1 rfl rfl hi.inn hdg (fun H1 locs1 a b d => kk H1 locs1 (by rw [hi.cl] at a b; exact ⟨a, b, d⟩))
theorem rM_tape (hx : p.tables.exec = Jvm.exec) (hb : c.code = cc) (hK : va_K D classes (tyM cI cJ cZ) s) (hP : va_P D classes (wM q cI cJ cZ bn sz dr si td it cd li lt kp tm al wr wa tn tp fn ff) H) {i : Int32} {k : Nat} (hi : ix i k 200) (hdg : decode cc pc = .ok (.iaload, 1)) (kk : W p l e R s m args below meth c H locs cells slots Q (F0 m (pc + 1) ls (.int (tp k) :: rest))) : W p l e R s m args below meth c H locs cells slots Q (F0 m pc ls (.int i :: .ref (q 10) :: rest)) :=
  va_iald hx hb hK hP 10 0 rfl rfl hi.inn hdg (by rw [hi.cl]; exact kk)
theorem sM_tape (hx : p.tables.exec = Jvm.exec) (hb : c.code = cc) (hK : va_K D classes (tyM cI cJ cZ) s) (h : ST D A (wM q cI cJ cZ bn sz dr si td it cd li lt kp tm al wr wa tn tp fn ff) H0 H locs) {i : Int32} {k : Nat} {x : Int32} (hi : ix i k 200) (hdg : decode cc pc = .ok (.iastore, 1)) (kk : ∀ (H1 : Heap) (locs1 : List Loc), ST D A (wM q cI cJ cZ bn sz dr si td it cd li lt kp tm al wr wa tn (upd tp k x) fn ff) H0 H1 locs1 → W p l e R s m args below meth c H1 locs1 cells slots Q (F0 m (pc + 1) ls rest)) : W p l e R s m args below meth c H locs cells slots Q (F0 m pc ls (.int x :: .int i :: .ref (q 10) :: rest)) :=
  va_iast hx hb hK h.1 h.2.1 h.2.2 10 0 rfl rfl hi.inn hdg (fun H1 locs1 a b d => kk H1 locs1 (by rw [hi.cl] at a b; exact ⟨a, b, d⟩))
theorem rM_free (hx : p.tables.exec = Jvm.exec) (hb : c.code = cc) (hK : va_K D classes (tyM cI cJ cZ) s) (hP : va_P D classes (wM q cI cJ cZ bn sz dr si td it cd li lt kp tm al wr wa tn tp fn ff) H) {i : Int32} {k : Nat} (hi : ix i k 100) (hdg : decode cc pc = .ok (.iaload, 1)) (kk : W p l e R s m args below meth c H locs cells slots Q (F0 m (pc + 1) ls (.int (ff k) :: rest))) : W p l e R s m args below meth c H locs cells slots Q (F0 m pc ls (.int i :: .ref (q 11) :: rest)) :=
  va_iald hx hb hK hP 11 0 rfl rfl hi.inn hdg (by rw [hi.cl]; exact kk)
theorem sM_free (hx : p.tables.exec = Jvm.exec) (hb : c.code = cc) (hK : va_K D classes (tyM cI cJ cZ) s) (h : ST D A (wM q cI cJ cZ bn sz dr si td it cd li lt kp tm al wr wa tn tp fn ff) H0 H locs) {i : Int32} {k : Nat} {x : Int32} (hi : ix i k 100) (hdg : decode cc pc = .ok (.iastore, 1)) (kk : ∀ (H1 : Heap) (locs1 : List Loc), ST D A (wM q cI cJ cZ bn sz dr si td it cd li lt kp tm al wr wa tn tp fn (upd ff k x)) H0 H1 locs1 → W p l e R s m args below meth c H1 locs1 cells slots Q (F0 m (pc + 1) ls rest)) : W p l e R s m args below meth c H locs cells slots Q (F0 m pc ls (.int x :: .int i :: .ref (q 11) :: rest)) :=
  va_iast hx hb hK h.1 h.2.1 h.2.2 11 0 rfl rfl hi.inn hdg (fun H1 locs1 a b d => kk H1 locs1 (by rw [hi.cl] at a b; exact ⟨a, b, d⟩))
end ROWS
end
section
/-! ===== the pure state and the pure operations ===== -/
/-- int rows: 0 sizes, 1 doors, 2 told, 3 items, 4 codes, 5 late, 6 tape, 7 freed boxes, 8 (alarms); long rows: 0 since, 1 lies, 2 kept, 3 (time, waits); numbers: 0 boxes, 1 taped, 2 freed, 3 wrong -/
abbrev SS : Type := (Nat → Nat → Int32) × (Nat → Nat → Int64) × (Nat → Nat)
def sI (S : SS) (f k : Nat) (v : Int32) : SS := (va_up S.1 f (upd (S.1 f) k v), S.2.1, S.2.2)
def sL (S : SS) (f k : Nat) (v : Int64) : SS := (S.1, va_up S.2.1 f (vp_updL (S.2.1 f) k v), S.2.2)
def sN (S : SS) (f : Nat) (v : Nat) : SS := (S.1, S.2.1, va_up S.2.2 f v)
def sR (S : SS) (f : Nat) (v : Nat → Int32) : SS := (va_up S.1 f v, S.2.1, S.2.2)
/-- nothing yet -/
def S0 : SS := (fun _ _ => 0, fun _ _ => 0, fun _ => 0)
/-- the twin's heap holds S -/
def WM (q : Nat → Nat) (cI cJ cZ : ClassId) (S : SS) : va_W := wM q cI cJ cZ (nI (S.2.2 0)) (S.1 0) (S.1 1) (S.2.1 0) (S.1 2) (S.1 3) (S.1 4) (S.2.1 1) (S.1 5) (S.2.1 2) (S.2.1 3 0) (S.1 8 0) (nI (S.2.2 3 % 3)) (S.2.1 3 1) (nI (S.2.2 1)) (S.1 6) (nI (S.2.2 2)) (S.1 7)
/-- the component's heap holds S -/
def liB (c : Int32) : Int32 := if c < 0 then 0 else 1
def bxE (ad : Nat → Nat) (S : SS) (k : Nat) : va_E := bc (S.1 0 k) (ad (S.1 1 k).toNatClampNeg) (S.2.1 0 k) (S.1 2 k) (S.2.1 2 k) (S.1 3 k) (liB (S.1 4 k)) (S.2.1 1 k) (S.1 5 k) (S.1 4 k)
def bq (n : Nat) (bx : Nat → Nat) (k : Nat) : Option Nat := if 1 ≤ k ∧ k ≤ n then some (bx k) else none
def WX (g : Nat → Nat) (cQ cI : ClassId) (ad bx : Nat → Nat) (S : SS) : va_W := wX g cQ cI (nI (S.2.2 0)) (nI (S.2.2 1)) (S.2.1 3 0) (S.1 8 0) (nI (S.2.2 3)) (S.2.1 3 1) (nI (S.2.2 2)) (bq (S.2.2 0) bx) (S.1 6) (S.1 7) ++ pl (S.2.2 0) bx (bxE ad S)
theorem bq_get {n : Nat} {bx : Nat → Nat} {k : Nat} (h1 : 1 ≤ k) (h2 : k ≤ n) : bq n bx k = some (bx k) := if_pos ⟨h1, h2⟩
/-- the last place among 1..n where f is v; 0 -/
def lastIx (f : Nat → Int32) (v : Int32) : Nat → Nat
  | 0 => 0
  | j + 1 => if f (j + 1) = v then j + 1 else lastIx f v j
/-- what time brings to box k: its keeping, its door, its item -/
def ps1 (S : SS) (t : Int64) (k : Nat) : SS :=
  if 0 < S.2.1 2 k ∧ S.2.1 2 k ≤ t then
    (if S.2.2 2 < 100 then sN (sI (sL S 2 k 0) 7 (S.2.2 2) (nI k)) 2 (S.2.2 2 + 1) else sL S 2 k 0)
  else S
def ps2 (S : SS) (t : Int64) (k : Nat) : SS :=
  if (S.1 1 k = 1 ∨ S.1 1 k = 2) ∧ S.1 2 k = 0 ∧ 120 ≤ t - S.2.1 0 k then sI (sI S 2 k 1) 8 0 (S.1 8 0 + 1) else S
def ps3 (S : SS) (t : Int64) (k : Nat) : SS :=
  if 0 ≤ S.1 4 k ∧ S.1 5 k = 0 ∧ 604800 ≤ t - S.2.1 1 k then sI (sI S 5 k 1) 8 0 (S.1 8 0 + 1) else S
def psK (S : SS) (t : Int64) (k : Nat) : SS := ps3 (ps2 (ps1 S t k) t k) t k
def psN (S : SS) (t : Int64) : Nat → SS
  | 0 => sL S 3 0 t
  | j + 1 => psK (psN S t j) t (j + 1)
def oPass (S : SS) (t : Int64) : SS := psN S t (S.2.2 0)
/-- the guards -/
abbrev gdB (S : SS) (b : Int32) : Prop := 1 ≤ b.toInt64 ∧ b.toInt64 ≤ (nI (S.2.2 0)).toInt64
abbrev gdT (S : SS) (t : Int64) : Prop := S.2.1 3 0 ≤ t ∧ t ≤ 2000000000
abbrev gdI (x : Int32) (a b : Int64) : Prop := a ≤ x.toInt64 ∧ x.toInt64 ≤ b
def oBox (S : SS) (v : Int32) : Int32 × SS :=
  if ¬ gdI v 1 5 then (-12, S) else if S.2.2 0 = 60 then (-14, S) else (nI (S.2.2 0 + 1), sN (sI (sI S 0 (S.2.2 0 + 1) v) 4 (S.2.2 0 + 1) (-1)) 0 (S.2.2 0 + 1))
def oTape (S : SS) (v : Int32) : Int32 × SS :=
  if ¬ gdI v 0 999999 then (-12, S) else if S.2.2 1 = 200 then (-14, S) else (nI (S.2.2 1 + 1), sN (sI S 6 (S.2.2 1) v) 1 (S.2.2 1 + 1))
def best (S : SS) (v : Int32) : Nat → Nat
  | 0 => 0
  | j + 1 => if (S.1 1 (j + 1) = 0 ∧ S.1 3 (j + 1) = 0 ∧ S.2.1 2 (j + 1) = 0 ∧ v ≤ S.1 0 (j + 1)) ∧ (best S v j = 0 ∨ S.1 0 (j + 1) < S.1 0 (best S v j)) then j + 1 else best S v j
def oReserve (S : SS) (v : Int32) (u : Int64) : Int32 × SS :=
  if ¬ gdI v 1 5 ∨ ¬ (S.2.1 3 0 < u ∧ u ≤ 2000000000) then (-12, S) else if best S v (S.2.2 0) = 0 then (0, S) else (nI (best S v (S.2.2 0)), sL S 2 (best S v (S.2.2 0)) u)
def pPut (S : SS) (k : Nat) (v : Int32) : Int32 × SS :=
  if S.1 1 k = 1 ∧ S.1 3 k = 0 ∧ lastIx (S.1 3) v (S.2.2 0) = 0 then (1, sL (sI S 3 k v) 2 k 0) else (0, S)
def oPut (S : SS) (b v : Int32) (t : Int64) : Int32 × SS :=
  if ¬ gdB S b then (-11, S) else if ¬ gdI v 1 9999 ∨ ¬ gdT S t then (-12, S) else pPut (oPass S t) b.toNatClampNeg v
/-- the first place of the tape from a on (f places left) whose number is no code -/
def drawI (S : SS) : Nat → Nat → Nat
  | a, 0 => a
  | a, f + 1 => if lastIx (S.1 4) (S.1 6 a) (S.2.2 0) = 0 then a else drawI S (a + 1) f
def drawA (S : SS) : Nat := drawI S 0 (S.2.2 1)
def shiftT (S : SS) (a : Nat) : SS := sN (sR S 6 (va_cpy (S.1 6) (S.1 6) (a + 1) 0 (S.2.2 1 - (a + 1)))) 1 (S.2.2 1 - (a + 1))
def pClose (S : SS) (k : Nat) (t : Int64) : Int32 × SS :=
  if ¬ S.1 1 k = 1 then (-13, S) else if S.1 3 k = 0 ∨ 0 ≤ S.1 4 k then (-1, sI S 1 k 0) else if drawA S = S.2.2 1 then (-14, S)
  else (S.1 6 (drawA S), shiftT (sL (sI (sI S 1 k 0) 4 k (S.1 6 (drawA S))) 1 k t) (drawA S))
def oClose (S : SS) (b : Int32) (t : Int64) : Int32 × SS :=
  if ¬ gdB S b then (-11, S) else if ¬ gdT S t then (-12, S) else pClose (oPass S t) b.toNatClampNeg t
def pOut (S : SS) (k : Nat) : SS := sI (sI (sI S 3 k 0) 4 k (-1)) 5 k 0
def pOpen (S : SS) (k : Nat) (d : Int32) (t : Int64) : SS := sI (sL (sI S 1 k d) 0 k t) 2 k 0
def pType (S : SS) (c : Int32) (t : Int64) : Int32 × SS :=
  if t < S.2.1 3 1 then (-1, S)
  else if lastIx (S.1 4) c (S.2.2 0) = 0 ∨ ¬ S.1 1 (lastIx (S.1 4) c (S.2.2 0)) = 0 then (0, sN (if (S.2.2 3 + 1) % 3 = 0 then sL S 3 1 (t + 300) else S) 3 (S.2.2 3 + 1))
  else (nI (lastIx (S.1 4) c (S.2.2 0)), sN (pOpen (pOut S (lastIx (S.1 4) c (S.2.2 0))) (lastIx (S.1 4) c (S.2.2 0)) 1 t) 3 0)
def oType (S : SS) (c : Int32) (t : Int64) : Int32 × SS :=
  if ¬ gdI c 0 999999 ∨ ¬ gdT S t then (-12, S) else pType (oPass S t) c t
def oCode (S : SS) (v : Int32) : Int32 × SS :=
  if ¬ gdI v 1 9999 then (-12, S) else (if lastIx (S.1 3) v (S.2.2 0) = 0 then -1 else S.1 4 (lastIx (S.1 3) v (S.2.2 0)), S)
def mayD (S : SS) (k : Nat) (e : Int32) : Bool :=
  if e = 0 then decide (S.1 1 k = 0) else if e = 1 then decide (S.1 1 k = 0 ∨ S.1 1 k = 1) else if e = 2 then decide (S.1 1 k = 2) else if e = 3 then decide (S.1 1 k = 0 ∧ S.1 3 k = 0 ∧ S.2.1 2 k = 0) else decide (S.1 1 k = 3)
def pDoor (S : SS) (k : Nat) (e : Int32) (t : Int64) : Int32 × SS :=
  if mayD S k e = false then (-13, S) else if e < 2 then ((if e = 0 then 1 else 2), pOpen S k (if e = 0 then 1 else 2) t) else ((if e = 3 then 3 else 0), sI S 1 k (if e = 3 then 3 else 0))
def oDoor (S : SS) (b e : Int32) (t : Int64) : Int32 × SS :=
  if ¬ gdB S b then (-11, S) else if ¬ gdI e 0 4 ∨ ¬ gdT S t then (-12, S) else pDoor (oPass S t) b.toNatClampNeg e t
def oTick (S : SS) (t : Int64) : Int32 × SS :=
  if ¬ gdT S t then (-12, S) else ((oPass S t).1 8 0, sI (oPass S t) 8 0 0)
def oTake (S : SS) (b v : Int32) : Int32 × SS :=
  if ¬ gdB S b then (-11, S) else if ¬ gdI v 0 9 then (-12, S) else if S.1 1 b.toNatClampNeg = 1 ∨ S.1 1 b.toNatClampNeg = 2 then (S.1 3 b.toNatClampNeg, pOut S b.toNatClampNeg) else (0, S)
def oItem (S : SS) (b : Int32) : Int32 × SS :=
  if ¬ gdB S b then (-11, S) else (if S.1 5 b.toNatClampNeg = 0 then S.1 3 b.toNatClampNeg else - S.1 3 b.toNatClampNeg, S)
def oFreed (S : SS) (i : Int32) : Int32 × SS := (if 0 ≤ i ∧ i < nI (S.2.2 2) then S.1 7 i.toNatClampNeg else 0, S)
/-- what holds of every state -/
def okB (S : SS) (k : Nat) : Prop := (∃ d : Nat, d < 4 ∧ S.1 1 k = nI d) ∧ 0 ≤ S.1 3 k ∧ 0 ≤ S.2.1 2 k ∧ (S.1 4 k = -1 ∨ 0 ≤ S.1 4 k) ∧ (S.1 3 k = 0 → S.1 4 k = -1) ∧ (S.1 4 k < 0 → S.1 5 k = 0)
def zeB (S : SS) (k : Nat) : Prop := S.1 0 k = 0 ∧ S.1 1 k = 0 ∧ S.1 2 k = 0 ∧ S.1 3 k = 0 ∧ S.1 5 k = 0 ∧ S.2.1 0 k = 0 ∧ S.2.1 1 k = 0 ∧ S.2.1 2 k = 0
def Inv (c : Nat) (S : SS) : Prop :=
  (S.2.2 0 ≤ 60 ∧ S.2.2 1 ≤ 200 ∧ S.2.2 2 ≤ 100 ∧ S.2.2 3 ≤ c) ∧ (0 ≤ S.2.1 3 0 ∧ S.2.1 3 0 ≤ 2000000000) ∧ (∀ k, 1 ≤ k → k ≤ S.2.2 0 → okB S k) ∧
  (∀ j k, 1 ≤ j → j ≤ S.2.2 0 → 1 ≤ k → k ≤ S.2.2 0 → S.1 3 j = S.1 3 k → ¬ S.1 3 j = 0 → j = k) ∧
  (∀ j k, 1 ≤ j → j ≤ S.2.2 0 → 1 ≤ k → k ≤ S.2.2 0 → S.1 4 j = S.1 4 k → 0 ≤ S.1 4 j → j = k) ∧
  (∀ k, S.2.2 0 < k → zeB S k) ∧ (∀ a, a < S.2.2 1 → 0 ≤ S.1 6 a)
/-- a yes or no as an int -/
def BL (P : Prop) (r : Int32) : Prop := (r = 1 ∧ P) ∨ (r = 0 ∧ ¬ P)
theorem BL.go {P : Prop} {G : Int32 → Prop} (h1 : P → G 1) (h0 : ¬ P → G 0) : ∀ r, BL P r → G r := by
  rintro r (⟨rfl, h⟩ | ⟨rfl, h⟩)
  · exact h1 h
  · exact h0 h
theorem inc_nI (k : Nat) : nI k + Int32.ofInt 1 = nI (k + 1) := nI_1 k
theorem dec_nI (k : Nat) : nI (k + 1) + Int32.ofInt (-1) = nI k := pk_m1 k
section ZI
variable {p : Program} {l : Launch} {e : Env} {R : Room} {s : State} {m : MethodId} {args : Array Value} {below : List Frame} {meth : Method} {c : Code} {H : Heap} {locs : List Loc} {cells slots : Nat} {Q : State → Prop}
variable {pc : Nat} {ls : Array Slot} {rest : List Value}
theorem zi_top {x y : Int32} (h : x = y) (k : W p l e R s m args below meth c H locs cells slots Q (F0 m pc ls (.int y :: rest))) : W p l e R s m args below meth c H locs cells slots Q (F0 m pc ls (.int x :: rest)) := by rw [h]; exact k
theorem zl_top {x y : Int64} (h : x = y) (k : W p l e R s m args below meth c H locs cells slots Q (F0 m pc ls (.long y :: rest))) : W p l e R s m args below meth c H locs cells slots Q (F0 m pc ls (.long x :: rest)) := by rw [h]; exact k
end ZI
end
section
/-! ===== leaves of the component: printed by gen/leafx.py ===== -/
set_option maxHeartbeats 4000000 in
set_option maxRecDepth 100000 in
theorem ct_X_isIn (l : Launch) (x a b : Int64) : RO l y_X_isIn b_X_isIn 6 .boolean 0 [.long x, .long a, .long b] (fun _ => True) (BL (a ≤ x ∧ x ≤ b)) := by
  refine RO.mk mi_X_isIn (Nat.le_of_ble_eq_true rfl) ?_
  intro p e s m below meth c ls C hr hlk hpre hl
  have hx := C.1
  have hb := C.2.1
  have hl : lv_has ls 6 [(0, .long x), (2, .long a), (4, .long b)] := hl
  refine lv_lload_n hx hb de_X_isIn_0 rfl (lv_at hl 0 rfl) ?_
  refine lv_lload_n hx hb de_X_isIn_1 rfl (lv_at hl 1 rfl) ?_
  refine zl_lt (tgt := 17) hx hb de_X_isIn_2 de_X_isIn_3 (by decide) (fun c_3 => ?_) (fun c_3 => ?_)
  · refine lv_iconst (v := 0) hx hb de_X_isIn_17 (by decide) ?_
    exact RO.fin hx hb hr hlk rfl (Or.inr ⟨rfl, fun z => absurd z.1 (Int64.not_le.mpr c_3)⟩) de_X_isIn_18
  · refine lv_lload_n hx hb de_X_isIn_6 rfl (lv_at hl 0 rfl) ?_
    refine lv_lload hx hb de_X_isIn_7 (lv_at hl 2 rfl) ?_
    refine zl_gt (tgt := 17) hx hb de_X_isIn_9 de_X_isIn_10 (by decide) (fun c_10 => ?_) (fun c_10 => ?_)
    · refine lv_iconst (v := 0) hx hb de_X_isIn_17 (by decide) ?_
      exact RO.fin hx hb hr hlk rfl (Or.inr ⟨rfl, fun z => absurd z.2 (Int64.not_le.mpr c_10)⟩) de_X_isIn_18
    · refine lv_iconst (v := 1) hx hb de_X_isIn_13 (by decide) ?_
      refine lv_goto (tgt := 18) hx hb de_X_isIn_14 (by decide) ?_
      exact RO.fin hx hb hr hlk rfl (Or.inl ⟨rfl, Int64.not_lt.mp c_3, Int64.not_lt.mp c_10⟩) de_X_isIn_18
section CL_X_isIn
variable {p : Program} {l : Launch} {e : Env} {R : Room} {s : State} {m : MethodId} {args : Array Value} {below : List Frame} {meth : Method} {c : Code} {H : Heap} {locs : List Loc} {cells slots : Nat} {Q : State → Prop}
variable {cc : ByteArray} {pc nL : Nat} {ls : Array Slot} {rest : List Value} {own : String} {D : va_G} {tys : List (ClassId × FieldType)} {A : Nat → Prop} {ad bx g : Nat → Nat} {cQ cI : ClassId} {S : SS}
theorem cl_X_isIn (C : CallFix p m c cc nL s args wG R_X) (hR : 0 + 1 ≤ R.frames ∧ 8 + (6 + 11) + 40 * 0 ≤ R.locals) (hls : ls.size = nL) (hsum : (rest.map fun v => v.category).sum ≤ 8) (hdg : decode cc pc = .ok (.invokestatic 26, 3)) (hcs : cells ≤ R.cells ∧ slots ≤ R.slots) {x a b : Int64} (k1 : a ≤ x ∧ x ≤ b → W p l e R s m args below meth c H locs cells slots Q (F0 m (pc + 3) ls (.int 1 :: rest))) (k0 : ¬ (a ≤ x ∧ x ≤ b) → W p l e R s m args below meth c H locs cells slots Q (F0 m (pc + 3) ls (.int 0 :: rest))) : W p l e R s m args below meth c H locs cells slots Q (F0 m pc ls (.long b :: .long a :: .long x :: rest)) :=
  (ct_X_isIn l x a b).callS (As := [.long x, .long a, .long b]) mi_X_isIn kw_55 C kw_54 hR (fun _ _ _ _ h => h) (fun _ _ _ => trivial) hls rfl hsum hdg hcs (BL.go k1 k0)
end CL_X_isIn
set_option maxHeartbeats 4000000 in
set_option maxRecDepth 100000 in
theorem ct_M_within (l : Launch) (x a b : Int64) : RO l y_M_within b_M_within 6 .boolean 0 [.long x, .long a, .long b] (fun _ => True) (BL (a ≤ x ∧ x ≤ b)) := by
  refine RO.mk mi_M_within (Nat.le_of_ble_eq_true rfl) ?_
  intro p e s m below meth c ls C hr hlk hpre hl
  have hx := C.1
  have hb := C.2.1
  have hl : lv_has ls 6 [(0, .long x), (2, .long a), (4, .long b)] := hl
  refine lv_lload_n hx hb de_M_within_0 rfl (lv_at hl 0 rfl) ?_
  refine lv_lload_n hx hb de_M_within_1 rfl (lv_at hl 1 rfl) ?_
  refine zl_lt (tgt := 17) hx hb de_M_within_2 de_M_within_3 (by decide) (fun c_3 => ?_) (fun c_3 => ?_)
  · refine lv_iconst (v := 0) hx hb de_M_within_17 (by decide) ?_
    exact RO.fin hx hb hr hlk rfl (Or.inr ⟨rfl, fun z => absurd z.1 (Int64.not_le.mpr c_3)⟩) de_M_within_18
  · refine lv_lload_n hx hb de_M_within_6 rfl (lv_at hl 0 rfl) ?_
    refine lv_lload hx hb de_M_within_7 (lv_at hl 2 rfl) ?_
    refine zl_gt (tgt := 17) hx hb de_M_within_9 de_M_within_10 (by decide) (fun c_10 => ?_) (fun c_10 => ?_)
    · refine lv_iconst (v := 0) hx hb de_M_within_17 (by decide) ?_
      exact RO.fin hx hb hr hlk rfl (Or.inr ⟨rfl, fun z => absurd z.2 (Int64.not_le.mpr c_10)⟩) de_M_within_18
    · refine lv_iconst (v := 1) hx hb de_M_within_13 (by decide) ?_
      refine lv_goto (tgt := 18) hx hb de_M_within_14 (by decide) ?_
      exact RO.fin hx hb hr hlk rfl (Or.inl ⟨rfl, Int64.not_lt.mp c_3, Int64.not_lt.mp c_10⟩) de_M_within_18
section CL_M_within
variable {p : Program} {l : Launch} {e : Env} {R : Room} {s : State} {m : MethodId} {args : Array Value} {below : List Frame} {meth : Method} {c : Code} {H : Heap} {locs : List Loc} {cells slots : Nat} {Q : State → Prop}
variable {cc : ByteArray} {pc nL : Nat} {ls : Array Slot} {rest : List Value} {own : String} {D : va_G} {tys : List (ClassId × FieldType)} {A : Nat → Prop} {ad bx g : Nat → Nat} {cQ cI : ClassId} {S : SS}
theorem cl_M_within (C : CallFix p m c cc nL s args wG R_M) (hR : 0 + 1 ≤ R.frames ∧ 8 + (6 + 11) + 40 * 0 ≤ R.locals) (hls : ls.size = nL) (hsum : (rest.map fun v => v.category).sum ≤ 8) (hdg : decode cc pc = .ok (.invokestatic 49, 3)) (hcs : cells ≤ R.cells ∧ slots ≤ R.slots) {x a b : Int64} (k1 : a ≤ x ∧ x ≤ b → W p l e R s m args below meth c H locs cells slots Q (F0 m (pc + 3) ls (.int 1 :: rest))) (k0 : ¬ (a ≤ x ∧ x ≤ b) → W p l e R s m args below meth c H locs cells slots Q (F0 m (pc + 3) ls (.int 0 :: rest))) : W p l e R s m args below meth c H locs cells slots Q (F0 m pc ls (.long b :: .long a :: .long x :: rest)) :=
  (ct_M_within l x a b).callS (As := [.long x, .long a, .long b]) mi_M_within kw_292 C kw_291 hR (fun _ _ _ _ h => h) (fun _ _ _ => trivial) hls rfl hsum hdg hcs (BL.go k1 k0)
end CL_M_within
set_option maxHeartbeats 4000000 in
set_option maxRecDepth 100000 in
theorem ct_D_isPassable (l : Launch) (D : va_G) (tys : List (ClassId × FieldType)) (ad : Nat → Nat) (d : Nat) (hd : d < 4) : RO l y_D_isPassable b_D_isPassable 1 .boolean 0 [.ref (ad d)] (PR D tys [] (some ad)) (BL (d = 1 ∨ d = 2)) := by
  refine RO.mk mi_D_isPassable (Nat.le_of_ble_eq_true rfl) ?_
  intro p e s m below meth c ls C hr hlk hpre hl
  have hx := C.1
  have hb := C.2.1
  obtain ⟨hP, hK, hC⟩ := hpre
  have hN := hC.nw
  have hl : lv_has ls 1 [(0, .ref (ad d))] := hl
  refine lv_aload_n hx hb de_D_isPassable_0 rfl (lv_at hl 0 rfl) ?_
  refine gs_door C hC va_S.rf 1 (by decide) kw_147 de_D_isPassable_1 ?_
  refine za_eq (tgt := 14) hx hb de_D_isPassable_4 (by decide) (fun c_4 => ?_) (fun c_4 => ?_)
  · refine lv_iconst (v := 1) hx hb de_D_isPassable_14 (by decide) ?_
    refine lv_goto (tgt := 19) hx hb de_D_isPassable_15 (by decide) ?_
    exact RO.fin hx hb hr hlk rfl (Or.inl ⟨rfl, Or.inl ((hC.en.inj hd (by decide)).mp c_4)⟩) de_D_isPassable_19
  · refine lv_aload_n hx hb de_D_isPassable_7 rfl (lv_at hl 0 rfl) ?_
    refine gs_door C hC va_S.rf 2 (by decide) kw_149 de_D_isPassable_8 ?_
    refine za_ne (tgt := 18) hx hb de_D_isPassable_11 (by decide) (fun c_11 => ?_) (fun c_11 => ?_)
    · refine lv_iconst (v := 0) hx hb de_D_isPassable_18 (by decide) ?_
      exact RO.fin hx hb hr hlk rfl (Or.inr ⟨rfl, fun z => z.elim (fun z => c_4 ((hC.en.inj hd (by decide)).mpr z)) (fun z => c_11 ((hC.en.inj hd (by decide)).mpr z))⟩) de_D_isPassable_19
    · refine lv_iconst (v := 1) hx hb de_D_isPassable_14 (by decide) ?_
      refine lv_goto (tgt := 19) hx hb de_D_isPassable_15 (by decide) ?_
      exact RO.fin hx hb hr hlk rfl (Or.inl ⟨rfl, Or.inr ((hC.en.inj hd (by decide)).mp c_11)⟩) de_D_isPassable_19
set_option maxHeartbeats 4000000 in
set_option maxRecDepth 100000 in
theorem ct_E_ordinal (l : Launch) (D : va_G) (tys : List (ClassId × FieldType)) (ad : Nat → Nat) (d : Nat) (hd : d < 4) : RO l y_E_ordinal b_E_ordinal 1 .int 0 [.ref (ad d)] (PR D tys [] (some ad)) (fun r => r = nI d) := by
  refine RO.mk mi_E_ordinal (Nat.le_of_ble_eq_true rfl) ?_
  intro p e s m below meth c ls C hr hlk hpre hl
  have hx := C.1
  have hb := C.2.1
  obtain ⟨hP, hK, hC⟩ := hpre
  have hN := hC.nw
  have hl : lv_has ls 1 [(0, .ref (ad d))] := hl
  refine lv_aload_n hx hb de_E_ordinal_0 rfl (lv_at hl 0 rfl) ?_
  refine va_getE hx hb hC.en hd va_S.rf C.2.2.2.1 (q := ("java/lang/Enum", "ordinal", "I", [0, 1, 2, 3])) List.mem_cons_self (C.2.2.2.2 _ kw_371) (fun _ z => z) de_E_ordinal_1 ?_
  have e9 : ([0, 1, 2, 3] : List Int32).getD d 0 = nI d := by
    rcases (show d = 0 ∨ d = 1 ∨ d = 2 ∨ d = 3 by omega) with rfl | rfl | rfl | rfl <;> rfl
  exact RO.fin hx hb hr hlk rfl e9 de_E_ordinal_4
set_option maxHeartbeats 4000000 in
set_option maxRecDepth 100000 in
theorem ct_B_isKept (l : Launch) (D : va_G) (tys : List (ClassId × FieldType)) (ad : Nat → Nat) (a : Nat) (sz : Int32) (d : Nat) (si : Int64) (td : Int32) (un : Int64) (it ly : Int32) (ln : Int64) (lt cd : Int32) : RO l y_B_isKept b_B_isKept 1 .boolean 0 [.ref a] (PR D tys [(a, bc sz (ad d) si td un it ly ln lt cd)] (some ad)) (BL (0 < un)) := by
  refine RO.mk mi_B_isKept (Nat.le_of_ble_eq_true rfl) ?_
  intro p e s m below meth c ls C hr hlk hpre hl
  have hx := C.1
  have hb := C.2.1
  obtain ⟨hP, hK, hC⟩ := hpre
  have hN := hC.nw
  have hP : va_P D classes ([(a, bc sz (ad d) si td un it ly ln lt cd)]) s.heap := hP
  have hl : lv_has ls 1 [(0, .ref a)] := hl
  refine lv_aload_n hx hb de_B_isKept_0 rfl (lv_at hl 0 rfl) ?_
  refine gB_until C hK hP de_B_isKept_1 ?_
  refine lv_lconst (v := 0) hx hb de_B_isKept_4 (by decide) ?_
  refine zl_le (tgt := 13) hx hb de_B_isKept_5 de_B_isKept_6 (by decide) (fun c_6 => ?_) (fun c_6 => ?_)
  · refine lv_iconst (v := 0) hx hb de_B_isKept_13 (by decide) ?_
    exact RO.fin hx hb hr hlk rfl (Or.inr ⟨rfl, Int64.not_lt.mpr c_6⟩) de_B_isKept_14
  · refine lv_iconst (v := 1) hx hb de_B_isKept_9 (by decide) ?_
    refine lv_goto (tgt := 14) hx hb de_B_isKept_10 (by decide) ?_
    exact RO.fin hx hb hr hlk rfl (Or.inl ⟨rfl, Int64.not_le.mp c_6⟩) de_B_isKept_14
section CLB
variable {p : Program} {l : Launch} {e : Env} {R : Room} {s : State} {m : MethodId} {args : Array Value} {below : List Frame} {meth : Method} {c : Code} {H : Heap} {locs : List Loc} {cells slots : Nat} {Q : State → Prop}
variable {cc : ByteArray} {pc nL : Nat} {ls : Array Slot} {rest : List Value} {own : String} {D : va_G} {tys : List (ClassId × FieldType)} {A : Nat → Prop} {ad bx g : Nat → Nat} {cQ cI : ClassId} {S : SS}
theorem clB_B_isKept (C : CallFix p m c cc nL s args wG R_B) {a : Nat} {sz : Int32} {d : Nat} {si : Int64} {td : Int32} {un : Int64} {it ly : Int32} {ln : Int64} {lt cd : Int32} (hP : va_P D classes [(a, bc sz (ad d) si td un it ly ln lt cd)] H) (hK : va_K D classes tys s) (hC : CX (some ad) A s s.heap) (hS : va_S A s.heap H locs) (hR : 0 + 1 ≤ R.frames ∧ 8 + (1 + 11) + 40 * 0 ≤ R.locals) (hls : ls.size = nL) (hsum : (rest.map fun v => v.category).sum ≤ 8) (hdg : decode cc pc = .ok (.invokevirtual 34, 3)) (hcs : cells ≤ R.cells ∧ slots ≤ R.slots) (k1 : 0 < un → W p l e R s m args below meth c H locs cells slots Q (F0 m (pc + 3) ls (.int 1 :: rest))) (k0 : ¬ (0 < un) → W p l e R s m args below meth c H locs cells slots Q (F0 m (pc + 3) ls (.int 0 :: rest))) : W p l e R s m args below meth c H locs cells slots Q (F0 m pc ls (.ref a :: rest)) :=
  (ct_B_isKept l D tys ad a sz d si td un it ly ln lt cd).callP (As := []) mi_B_isKept mv_B_isKept C kw_117 hR hP hK hC hS (q0 := 0) rfl rfl hls rfl hsum hdg hcs (BL.go k1 k0)
theorem clX_B_isKept (C : CallFix p m c cc nL s args wG R_X) {a : Nat} {sz : Int32} {d : Nat} {si : Int64} {td : Int32} {un : Int64} {it ly : Int32} {ln : Int64} {lt cd : Int32} (hP : va_P D classes [(a, bc sz (ad d) si td un it ly ln lt cd)] H) (hK : va_K D classes tys s) (hC : CX (some ad) A s s.heap) (hS : va_S A s.heap H locs) (hR : 0 + 1 ≤ R.frames ∧ 8 + (1 + 11) + 40 * 0 ≤ R.locals) (hls : ls.size = nL) (hsum : (rest.map fun v => v.category).sum ≤ 8) (hdg : decode cc pc = .ok (.invokevirtual 36, 3)) (hcs : cells ≤ R.cells ∧ slots ≤ R.slots) (k1 : 0 < un → W p l e R s m args below meth c H locs cells slots Q (F0 m (pc + 3) ls (.int 1 :: rest))) (k0 : ¬ (0 < un) → W p l e R s m args below meth c H locs cells slots Q (F0 m (pc + 3) ls (.int 0 :: rest))) : W p l e R s m args below meth c H locs cells slots Q (F0 m pc ls (.ref a :: rest)) :=
  (ct_B_isKept l D tys ad a sz d si td un it ly ln lt cd).callP (As := []) mi_B_isKept mv_B_isKept C kw_138 hR hP hK hC hS (q0 := 0) rfl rfl hls rfl hsum hdg hcs (BL.go k1 k0)
theorem clB_D_isPassable (C : CallFix p m c cc nL s args wG R_B) {d : Nat} (hd : d < 4) (hK : va_K D classes tys s) (hC : CX (some ad) A s s.heap) (hS : va_S A s.heap H locs) (hR : 0 + 1 ≤ R.frames ∧ 8 + (1 + 11) + 40 * 0 ≤ R.locals) (hls : ls.size = nL) (hsum : (rest.map fun v => v.category).sum ≤ 8) (hdg : decode cc pc = .ok (.invokevirtual 51, 3)) (hcs : cells ≤ R.cells ∧ slots ≤ R.slots) (k1 : d = 1 ∨ d = 2 → W p l e R s m args below meth c H locs cells slots Q (F0 m (pc + 3) ls (.int 1 :: rest))) (k0 : ¬ (d = 1 ∨ d = 2) → W p l e R s m args below meth c H locs cells slots Q (F0 m (pc + 3) ls (.int 0 :: rest))) : W p l e R s m args below meth c H locs cells slots Q (F0 m pc ls (.ref (ad d) :: rest)) :=
  (ct_D_isPassable l D tys ad d hd).callV (As := []) mi_D_isPassable mv_D_isPassable C kw_143 hR PR.blind (va_recvE hC.en hd hS) (PR.of (fun k q h => by simp at h) hK hC hS) hls rfl hsum hdg hcs (BL.go k1 k0)
theorem clX_D_isPassable (C : CallFix p m c cc nL s args wG R_X) {d : Nat} (hd : d < 4) (hK : va_K D classes tys s) (hC : CX (some ad) A s s.heap) (hS : va_S A s.heap H locs) (hR : 0 + 1 ≤ R.frames ∧ 8 + (1 + 11) + 40 * 0 ≤ R.locals) (hls : ls.size = nL) (hsum : (rest.map fun v => v.category).sum ≤ 8) (hdg : decode cc pc = .ok (.invokevirtual 152, 3)) (hcs : cells ≤ R.cells ∧ slots ≤ R.slots) (k1 : d = 1 ∨ d = 2 → W p l e R s m args below meth c H locs cells slots Q (F0 m (pc + 3) ls (.int 1 :: rest))) (k0 : ¬ (d = 1 ∨ d = 2) → W p l e R s m args below meth c H locs cells slots Q (F0 m (pc + 3) ls (.int 0 :: rest))) : W p l e R s m args below meth c H locs cells slots Q (F0 m pc ls (.ref (ad d) :: rest)) :=
  (ct_D_isPassable l D tys ad d hd).callV (As := []) mi_D_isPassable mv_D_isPassable C kw_214 hR PR.blind (va_recvE hC.en hd hS) (PR.of (fun k q h => by simp at h) hK hC hS) hls rfl hsum hdg hcs (BL.go k1 k0)
theorem clX_E_ordinal (C : CallFix p m c cc nL s args wG R_X) {d : Nat} (hd : d < 4) (hK : va_K D classes tys s) (hC : CX (some ad) A s s.heap) (hS : va_S A s.heap H locs) (hR : 0 + 1 ≤ R.frames ∧ 8 + (1 + 11) + 40 * 0 ≤ R.locals) (hls : ls.size = nL) (hsum : (rest.map fun v => v.category).sum ≤ 8) (hdg : decode cc pc = .ok (.invokevirtual 147, 3)) (hcs : cells ≤ R.cells ∧ slots ≤ R.slots) (kk : W p l e R s m args below meth c H locs cells slots Q (F0 m (pc + 3) ls (.int (nI d) :: rest))) : W p l e R s m args below meth c H locs cells slots Q (F0 m pc ls (.ref (ad d) :: rest)) := by
  have cu : va_CU R s args R_X R_D "java/lang/Enum" 147 ⟨"LockerRows$Door", "ordinal", "()I"⟩ y_E_ordinal b_E_ordinal 1 (some .int) (Cond.code y_E_ordinal b_E_ordinal 1 (some .int) :: wG) (rmOf 0 0 0) 0 0 0 := by
    refine va_cwU 0 C.2.2.2.2 ?_ rfl rfl rfl rfl ⟨by decide +kernel, by decide +kernel, by decide +kernel⟩ hR
    intro w hw
    have h : w ∈ wG := by
      rcases List.mem_append.mp hw with h | h
      · simp only [List.mem_cons, List.not_mem_nil, or_false] at h
        rcases h with rfl | rfl | rfl | rfl | rfl
        · exact kw_199
        · exact kw_200
        · exact kw_202
        · exact kw_203
        · exact kw_4
      · rcases List.mem_cons.mp h with rfl | h
        · exact kw_204
        · exact h
    exact ⟨h, good_of_word (List.mem_filter.mp h).2⟩
  refine vp_callSi (va_runU (As := []) (rest := rest) C (ct_E_ordinal l D tys ad d hd) cu ⟨fun a' U g mk q => ⟨q.1, PR.blind _ _ _ _ q.2⟩, va_recvE hC.en hd hS, fun U hU hW => ⟨rfl, PR.of (fun k q h => by simp at h) hK hC hS U hU hW⟩⟩ rfl rfl hls rfl (lv_room hsum) hdg hcs).run (fun r hr => ?_)
  rw [hr]
  exact kk
end CLB
set_option maxHeartbeats 4000000 in
set_option maxRecDepth 100000 in
theorem ct_B_isFree (l : Launch) (D : va_G) (tys : List (ClassId × FieldType)) (ad : Nat → Nat) (a : Nat) (sz : Int32) (d : Nat) (si : Int64) (td : Int32) (un : Int64) (it ly : Int32) (ln : Int64) (lt cd : Int32) (hd : d < 4) : RO l y_B_isFree b_B_isFree 1 .boolean 1 [.ref a] (PR D tys [(a, bc sz (ad d) si td un it ly ln lt cd)] (some ad)) (BL (d = 0 ∧ it = 0 ∧ ¬ 0 < un)) := by
  refine RO.mk mi_B_isFree (Nat.le_of_ble_eq_true rfl) ?_
  intro p e s m below meth c ls C hr hlk hpre hl
  have hx := C.1
  have hb := C.2.1
  obtain ⟨hP, hK, hC⟩ := hpre
  have hN := hC.nw
  have hP : va_P D classes ([(a, bc sz (ad d) si td un it ly ln lt cd)]) s.heap := hP
  have hl : lv_has ls 1 [(0, .ref a)] := hl
  refine lv_aload_n hx hb de_B_isFree_0 rfl (lv_at hl 0 rfl) ?_
  refine gB_door C hK hP de_B_isFree_1 ?_
  refine gs_door C hC va_S.rf 0 (by decide) kw_62 de_B_isFree_4 ?_
  refine za_ne (tgt := 28) hx hb de_B_isFree_7 (by decide) (fun c_7 => ?_) (fun c_7 => ?_)
  · refine lv_iconst (v := 0) hx hb de_B_isFree_28 (by decide) ?_
    exact RO.fin hx hb hr hlk rfl (Or.inr ⟨rfl, fun z => c_7 ((hC.en.inj hd (by decide)).mpr z.1)⟩) de_B_isFree_29
  · refine lv_aload_n hx hb de_B_isFree_10 rfl (lv_at hl 0 rfl) ?_
    refine gB_item C hK hP de_B_isFree_11 ?_
    refine lv_if_ne (tgt := 28) hx hb de_B_isFree_14 (by decide) (fun c_14 => ?_) (fun c_14 => ?_)
    · refine lv_iconst (v := 0) hx hb de_B_isFree_28 (by decide) ?_
      exact RO.fin hx hb hr hlk rfl (Or.inr ⟨rfl, fun z => c_14 z.2.1⟩) de_B_isFree_29
    · refine lv_aload_n hx hb de_B_isFree_17 rfl (lv_at hl 0 rfl) ?_
      refine clB_B_isKept C hP hK hC va_S.rf ⟨Nat.le_of_ble_eq_true rfl, Nat.le_of_ble_eq_true rfl⟩ hl.1 (Nat.le_of_ble_eq_true rfl) de_B_isFree_18 ⟨Nat.le_of_ble_eq_true rfl, Nat.le_of_ble_eq_true rfl⟩ (fun c_18 => ?_) (fun c_18 => ?_)
      · refine lv_if_ne (tgt := 28) hx hb de_B_isFree_21 (by decide) (fun _ => ?_) (fun z => absurd z (by decide))
        refine lv_iconst (v := 0) hx hb de_B_isFree_28 (by decide) ?_
        exact RO.fin hx hb hr hlk rfl (Or.inr ⟨rfl, fun z => z.2.2 c_18⟩) de_B_isFree_29
      · refine lv_if_ne (tgt := 28) hx hb de_B_isFree_21 (by decide) (fun z => absurd z (by decide)) (fun _ => ?_)
        refine lv_iconst (v := 1) hx hb de_B_isFree_24 (by decide) ?_
        refine lv_goto (tgt := 29) hx hb de_B_isFree_25 (by decide) ?_
        exact RO.fin hx hb hr hlk rfl (Or.inl ⟨rfl, (hC.en.inj hd (by decide)).mp c_7, c_14, c_18⟩) de_B_isFree_29
section CLB2
variable {p : Program} {l : Launch} {e : Env} {R : Room} {s : State} {m : MethodId} {args : Array Value} {below : List Frame} {meth : Method} {c : Code} {H : Heap} {locs : List Loc} {cells slots : Nat} {Q : State → Prop}
variable {cc : ByteArray} {pc nL : Nat} {ls : Array Slot} {rest : List Value} {own : String} {D : va_G} {tys : List (ClassId × FieldType)} {A : Nat → Prop} {ad bx g : Nat → Nat} {cQ cI : ClassId} {S : SS}
theorem clX_B_isFree (C : CallFix p m c cc nL s args wG R_X) {a : Nat} {sz : Int32} {d : Nat} {si : Int64} {td : Int32} {un : Int64} {it ly : Int32} {ln : Int64} {lt cd : Int32} (hP : va_P D classes [(a, bc sz (ad d) si td un it ly ln lt cd)] H) (hK : va_K D classes tys s) (hC : CX (some ad) A s s.heap) (hS : va_S A s.heap H locs) (hd : d < 4) (hR : 1 + 1 ≤ R.frames ∧ 8 + (1 + 11) + 40 * 1 ≤ R.locals) (hls : ls.size = nL) (hsum : (rest.map fun v => v.category).sum ≤ 8) (hdg : decode cc pc = .ok (.invokevirtual 63, 3)) (hcs : cells ≤ R.cells ∧ slots ≤ R.slots) (k1 : d = 0 ∧ it = 0 ∧ ¬ 0 < un → W p l e R s m args below meth c H locs cells slots Q (F0 m (pc + 3) ls (.int 1 :: rest))) (k0 : ¬ (d = 0 ∧ it = 0 ∧ ¬ 0 < un) → W p l e R s m args below meth c H locs cells slots Q (F0 m (pc + 3) ls (.int 0 :: rest))) : W p l e R s m args below meth c H locs cells slots Q (F0 m pc ls (.ref a :: rest)) :=
  (ct_B_isFree l D tys ad a sz d si td un it ly ln lt cd hd).callP (As := []) mi_B_isFree mv_B_isFree C kw_113 hR hP hK hC hS (q0 := 0) rfl rfl hls rfl hsum hdg hcs (BL.go k1 k0)
end CLB2
set_option maxHeartbeats 4000000 in
set_option maxRecDepth 100000 in
theorem ct_X_isBox (l : Launch) (D : va_G) (g : Nat → Nat) (cQ cI : ClassId) (ad bx : Nat → Nat) (S : SS) (b : Int32) : RO l y_X_isBox b_X_isBox 2 .boolean 1 [.ref (g 0), .int b] (PR D (tyX cQ cI) (WX g cQ cI ad bx S) (some ad)) (BL (gdB S b)) := by
  refine RO.mk mi_X_isBox (Nat.le_of_ble_eq_true rfl) ?_
  intro p e s m below meth c ls C hr hlk hpre hl
  have hx := C.1
  have hb := C.2.1
  obtain ⟨hP, hK, hC⟩ := hpre
  have hN := hC.nw
  have hP : va_P D classes (wX g cQ cI (nI (S.2.2 0)) (nI (S.2.2 1)) (S.2.1 3 0) (S.1 8 0) (nI (S.2.2 3)) (S.2.1 3 1) (nI (S.2.2 2)) (bq (S.2.2 0) bx) (S.1 6) (S.1 7) ++ pl (S.2.2 0) bx (bxE ad S)) s.heap := hP
  have hl : lv_has ls 2 [(0, .ref (g 0)), (1, .int b)] := hl
  refine lv_iload_n hx hb de_X_isBox_0 rfl (lv_at hl 1 rfl) ?_
  refine lv_i2l hx hb de_X_isBox_1 rfl ?_
  refine lv_lconst (v := 1) hx hb de_X_isBox_2 (by decide) ?_
  refine lv_aload_n hx hb de_X_isBox_3 rfl (lv_at hl 0 rfl) ?_
  refine gX_count C hK hP de_X_isBox_4 ?_
  refine lv_i2l hx hb de_X_isBox_7 rfl ?_
  refine cl_X_isIn C ⟨Nat.le_of_ble_eq_true rfl, Nat.le_of_ble_eq_true rfl⟩ hl.1 (Nat.le_of_ble_eq_true rfl) de_X_isBox_8 ⟨Nat.le_of_ble_eq_true rfl, Nat.le_of_ble_eq_true rfl⟩ (fun c_8 => ?_) (fun c_8 => ?_)
  · exact RO.fin hx hb hr hlk rfl (Or.inl ⟨rfl, c_8⟩) de_X_isBox_11
  · exact RO.fin hx hb hr hlk rfl (Or.inr ⟨rfl, c_8⟩) de_X_isBox_11
set_option maxHeartbeats 4000000 in
set_option maxRecDepth 100000 in
theorem ct_X_isTime (l : Launch) (D : va_G) (g : Nat → Nat) (cQ cI : ClassId) (ad bx : Nat → Nat) (S : SS) (t : Int64) : RO l y_X_isTime b_X_isTime 3 .boolean 1 [.ref (g 0), .long t] (PR D (tyX cQ cI) (WX g cQ cI ad bx S) (some ad)) (BL (gdT S t)) := by
  refine RO.mk mi_X_isTime (Nat.le_of_ble_eq_true rfl) ?_
  intro p e s m below meth c ls C hr hlk hpre hl
  have hx := C.1
  have hb := C.2.1
  obtain ⟨hP, hK, hC⟩ := hpre
  have hN := hC.nw
  have hP : va_P D classes (wX g cQ cI (nI (S.2.2 0)) (nI (S.2.2 1)) (S.2.1 3 0) (S.1 8 0) (nI (S.2.2 3)) (S.2.1 3 1) (nI (S.2.2 2)) (bq (S.2.2 0) bx) (S.1 6) (S.1 7) ++ pl (S.2.2 0) bx (bxE ad S)) s.heap := hP
  have hl : lv_has ls 3 [(0, .ref (g 0)), (1, .long t)] := hl
  refine lv_lload_n hx hb de_X_isTime_0 rfl (lv_at hl 1 rfl) ?_
  refine lv_aload_n hx hb de_X_isTime_1 rfl (lv_at hl 0 rfl) ?_
  refine gX_now C hK hP de_X_isTime_2 ?_
  refine lv_ldc2 (v := 2000000000) hx hb C.2.2.2.1 (C.2.2.2.2 _ kw_112) de_X_isTime_5 ?_
  refine cl_X_isIn C ⟨Nat.le_of_ble_eq_true rfl, Nat.le_of_ble_eq_true rfl⟩ hl.1 (Nat.le_of_ble_eq_true rfl) de_X_isTime_8 ⟨Nat.le_of_ble_eq_true rfl, Nat.le_of_ble_eq_true rfl⟩ (fun c_8 => ?_) (fun c_8 => ?_)
  · exact RO.fin hx hb hr hlk rfl (Or.inl ⟨rfl, c_8⟩) de_X_isTime_11
  · exact RO.fin hx hb hr hlk rfl (Or.inr ⟨rfl, c_8⟩) de_X_isTime_11
set_option maxHeartbeats 4000000 in
set_option maxRecDepth 100000 in
theorem ct_X_find (l : Launch) (D : va_G) (g : Nat → Nat) (cQ cI : ClassId) (ad bx : Nat → Nat) (S : SS) (hn : S.2.2 0 ≤ 60) (v : Int32) : RO l y_X_find b_X_find 3 .int 0 [.ref (g 0), .int v] (PR D (tyX cQ cI) (WX g cQ cI ad bx S) (some ad)) (fun r => r = nI (lastIx (S.1 3) v (S.2.2 0))) := by
  refine RO.mk mi_X_find (Nat.le_of_ble_eq_true rfl) ?_
  intro p e s m below meth c ls C hr hlk hpre hl
  have hx := C.1
  have hb := C.2.1
  obtain ⟨hP, hK, hC⟩ := hpre
  have hN := hC.nw
  have hP : va_P D classes (wX g cQ cI (nI (S.2.2 0)) (nI (S.2.2 1)) (S.2.1 3 0) (S.1 8 0) (nI (S.2.2 3)) (S.2.1 3 1) (nI (S.2.2 2)) (bq (S.2.2 0) bx) (S.1 6) (S.1 7) ++ pl (S.2.2 0) bx (bxE ad S)) s.heap := hP
  have hl : lv_has ls 3 [(0, .ref (g 0)), (1, .int v)] := hl
  have loop : ∀ j : Nat, j ≤ S.2.2 0 → lastIx (S.1 3) v (S.2.2 0) = lastIx (S.1 3) v j → ∀ ls : Array Slot, lv_has ls 3 [(2, .int (nI j)), (0, .ref (g 0)), (1, .int v)] → W p l e (rmOf 0 0 0) s m [Value.ref (g 0), .int v].toArray below meth c s.heap [] 0 0 (MQ below (vp_Si (fun r => r = nI (lastIx (S.1 3) v (S.2.2 0)))) [Value.ref (g 0), .int v].toArray s 0 0 (fun _ => False)) (F0 m 5 ls []) := by
    intro j
    induction j with
    | zero =>
      intro _ e9 ls hl
      refine lv_iload_n hx hb de_X_find_5 rfl (lv_at hl 0 rfl) ?_
      refine lv_if_le (tgt := 28) hx hb de_X_find_6 (by decide) (fun c_6 => ?_) (fun c_6 => ?_)
      · refine lv_iload_n hx hb de_X_find_28 rfl (lv_at hl 0 rfl) ?_
        exact RO.fin hx hb hr hlk rfl (e9.symm ▸ rfl) de_X_find_29
      · exact absurd (show nI 0 ≤ 0 by decide) c_6
    | succ j ih =>
      intro hj e9 ls hl
      refine lv_iload_n hx hb de_X_find_5 rfl (lv_at hl 0 rfl) ?_
      refine lv_if_le (tgt := 28) hx hb de_X_find_6 (by decide) (fun c_6 => ?_) (fun c_6 => ?_)
      · exact absurd c_6 (nI_nle (by omega) (by omega))
      · refine lv_aload_n hx hb de_X_find_9 rfl (lv_at hl 1 rfl) ?_
        refine gX_boxes C hK hP de_X_find_10 ?_
        refine lv_iload_n hx hb de_X_find_13 rfl (lv_at hl 0 rfl) ?_
        refine rX_boxes hx hb hK hP (ix_nI (by omega) (by decide)) (bq_get (by omega) hj) de_X_find_14 ?_
        refine gN_item C hN hK hP (by omega) hj rfl de_X_find_15 ?_
        refine lv_iload_n hx hb de_X_find_18 rfl (lv_at hl 2 rfl) ?_
        refine lv_icmp_eq (tgt := 28) hx hb de_X_find_19 (by decide) (fun c_19 => ?_) (fun c_19 => ?_)
        · refine lv_iload_n hx hb de_X_find_28 rfl (lv_at hl 0 rfl) ?_
          exact RO.fin hx hb hr hlk rfl (by rw [e9, lastIx, if_pos c_19]) de_X_find_29
        · refine lv_iinc (v := (nI j)) (lv' := [(2, .int (nI j)), (0, .ref (g 0)), (1, .int v)]) hx hb de_X_find_22 hl (k := 0) rfl (dec_nI _) (by decide) rfl (fun ls hl => ?_)
          refine lv_goto (tgt := 5) hx hb de_X_find_25 (by decide) ?_
          exact ih (by omega) (by rw [e9, lastIx, if_neg c_19]) ls hl
  refine lv_aload_n hx hb de_X_find_0 rfl (lv_at hl 0 rfl) ?_
  refine gX_count C hK hP de_X_find_1 ?_
  refine lv_istore_n (lv' := [(2, .int (nI (S.2.2 0))), (0, .ref (g 0)), (1, .int v)]) hx hb de_X_find_4 rfl hl (by decide) rfl (fun ls hl => ?_)
  exact loop (S.2.2 0) (Nat.le_refl _) rfl ls hl
set_option maxHeartbeats 4000000 in
set_option maxRecDepth 100000 in
theorem ct_X_boxOf (l : Launch) (D : va_G) (g : Nat → Nat) (cQ cI : ClassId) (ad bx : Nat → Nat) (S : SS) (hn : S.2.2 0 ≤ 60) (v : Int32) : RO l y_X_boxOf b_X_boxOf 3 .int 0 [.ref (g 0), .int v] (PR D (tyX cQ cI) (WX g cQ cI ad bx S) (some ad)) (fun r => r = nI (lastIx (S.1 4) v (S.2.2 0))) := by
  refine RO.mk mi_X_boxOf (Nat.le_of_ble_eq_true rfl) ?_
  intro p e s m below meth c ls C hr hlk hpre hl
  have hx := C.1
  have hb := C.2.1
  obtain ⟨hP, hK, hC⟩ := hpre
  have hN := hC.nw
  have hP : va_P D classes (wX g cQ cI (nI (S.2.2 0)) (nI (S.2.2 1)) (S.2.1 3 0) (S.1 8 0) (nI (S.2.2 3)) (S.2.1 3 1) (nI (S.2.2 2)) (bq (S.2.2 0) bx) (S.1 6) (S.1 7) ++ pl (S.2.2 0) bx (bxE ad S)) s.heap := hP
  have hl : lv_has ls 3 [(0, .ref (g 0)), (1, .int v)] := hl
  have loop : ∀ j : Nat, j ≤ S.2.2 0 → lastIx (S.1 4) v (S.2.2 0) = lastIx (S.1 4) v j → ∀ ls : Array Slot, lv_has ls 3 [(2, .int (nI j)), (0, .ref (g 0)), (1, .int v)] → W p l e (rmOf 0 0 0) s m [Value.ref (g 0), .int v].toArray below meth c s.heap [] 0 0 (MQ below (vp_Si (fun r => r = nI (lastIx (S.1 4) v (S.2.2 0)))) [Value.ref (g 0), .int v].toArray s 0 0 (fun _ => False)) (F0 m 5 ls []) := by
    intro j
    induction j with
    | zero =>
      intro _ e9 ls hl
      refine lv_iload_n hx hb de_X_boxOf_5 rfl (lv_at hl 0 rfl) ?_
      refine lv_if_le (tgt := 28) hx hb de_X_boxOf_6 (by decide) (fun c_6 => ?_) (fun c_6 => ?_)
      · refine lv_iload_n hx hb de_X_boxOf_28 rfl (lv_at hl 0 rfl) ?_
        exact RO.fin hx hb hr hlk rfl (e9.symm ▸ rfl) de_X_boxOf_29
      · exact absurd (show nI 0 ≤ 0 by decide) c_6
    | succ j ih =>
      intro hj e9 ls hl
      refine lv_iload_n hx hb de_X_boxOf_5 rfl (lv_at hl 0 rfl) ?_
      refine lv_if_le (tgt := 28) hx hb de_X_boxOf_6 (by decide) (fun c_6 => ?_) (fun c_6 => ?_)
      · exact absurd c_6 (nI_nle (by omega) (by omega))
      · refine lv_aload_n hx hb de_X_boxOf_9 rfl (lv_at hl 1 rfl) ?_
        refine gX_boxes C hK hP de_X_boxOf_10 ?_
        refine lv_iload_n hx hb de_X_boxOf_13 rfl (lv_at hl 0 rfl) ?_
        refine rX_boxes hx hb hK hP (ix_nI (by omega) (by decide)) (bq_get (by omega) hj) de_X_boxOf_14 ?_
        refine gN_code C hN hK hP (by omega) hj rfl de_X_boxOf_15 ?_
        refine lv_iload_n hx hb de_X_boxOf_18 rfl (lv_at hl 2 rfl) ?_
        refine lv_icmp_eq (tgt := 28) hx hb de_X_boxOf_19 (by decide) (fun c_19 => ?_) (fun c_19 => ?_)
        · refine lv_iload_n hx hb de_X_boxOf_28 rfl (lv_at hl 0 rfl) ?_
          exact RO.fin hx hb hr hlk rfl (by rw [e9, lastIx, if_pos c_19]) de_X_boxOf_29
        · refine lv_iinc (v := (nI j)) (lv' := [(2, .int (nI j)), (0, .ref (g 0)), (1, .int v)]) hx hb de_X_boxOf_22 hl (k := 0) rfl (dec_nI _) (by decide) rfl (fun ls hl => ?_)
          refine lv_goto (tgt := 5) hx hb de_X_boxOf_25 (by decide) ?_
          exact ih (by omega) (by rw [e9, lastIx, if_neg c_19]) ls hl
  refine lv_aload_n hx hb de_X_boxOf_0 rfl (lv_at hl 0 rfl) ?_
  refine gX_count C hK hP de_X_boxOf_1 ?_
  refine lv_istore_n (lv' := [(2, .int (nI (S.2.2 0))), (0, .ref (g 0)), (1, .int v)]) hx hb de_X_boxOf_4 rfl hl (by decide) rfl (fun ls hl => ?_)
  exact loop (S.2.2 0) (Nat.le_refl _) rfl ls hl
section CLX
variable {p : Program} {l : Launch} {e : Env} {R : Room} {s : State} {m : MethodId} {args : Array Value} {below : List Frame} {meth : Method} {c : Code} {H : Heap} {locs : List Loc} {cells slots : Nat} {Q : State → Prop}
variable {cc : ByteArray} {pc nL : Nat} {ls : Array Slot} {rest : List Value} {own : String} {D : va_G} {tys : List (ClassId × FieldType)} {A : Nat → Prop} {ad bx g : Nat → Nat} {cQ cI : ClassId} {S : SS}
theorem cl_X_isBox (C : CallFix p m c cc nL s args wG R_X) (hP : va_P D classes (WX g cQ cI ad bx S) H) (hK : va_K D classes (tyX cQ cI) s) (hC : CX (some ad) A s s.heap) (hS : va_S A s.heap H locs) {b : Int32} (hR : 1 + 1 ≤ R.frames ∧ 8 + (2 + 11) + 40 * 1 ≤ R.locals) (hls : ls.size = nL) (hsum : (rest.map fun v => v.category).sum ≤ 8) (hdg : decode cc pc = .ok (.invokevirtual 72, 3)) (hcs : cells ≤ R.cells ∧ slots ≤ R.slots) (k1 : gdB S b → W p l e R s m args below meth c H locs cells slots Q (F0 m (pc + 3) ls (.int 1 :: rest))) (k0 : ¬ (gdB S b) → W p l e R s m args below meth c H locs cells slots Q (F0 m (pc + 3) ls (.int 0 :: rest))) : W p l e R s m args below meth c H locs cells slots Q (F0 m pc ls (.int b :: .ref (g 0) :: rest)) :=
  (ct_X_isBox l D g cQ cI ad bx S b).callP (As := [.int b]) mi_X_isBox mv_X_isBox C kw_125 hR hP hK hC hS (q0 := 0) rfl rfl hls rfl hsum hdg hcs (BL.go k1 k0)
theorem cl_X_isTime (C : CallFix p m c cc nL s args wG R_X) (hP : va_P D classes (WX g cQ cI ad bx S) H) (hK : va_K D classes (tyX cQ cI) s) (hC : CX (some ad) A s s.heap) (hS : va_S A s.heap H locs) {t : Int64} (hR : 1 + 1 ≤ R.frames ∧ 8 + (3 + 11) + 40 * 1 ≤ R.locals) (hls : ls.size = nL) (hsum : (rest.map fun v => v.category).sum ≤ 8) (hdg : decode cc pc = .ok (.invokevirtual 78, 3)) (hcs : cells ≤ R.cells ∧ slots ≤ R.slots) (k1 : gdT S t → W p l e R s m args below meth c H locs cells slots Q (F0 m (pc + 3) ls (.int 1 :: rest))) (k0 : ¬ (gdT S t) → W p l e R s m args below meth c H locs cells slots Q (F0 m (pc + 3) ls (.int 0 :: rest))) : W p l e R s m args below meth c H locs cells slots Q (F0 m pc ls (.long t :: .ref (g 0) :: rest)) :=
  (ct_X_isTime l D g cQ cI ad bx S t).callP (As := [.long t]) mi_X_isTime mv_X_isTime C kw_130 hR hP hK hC hS (q0 := 0) rfl rfl hls rfl hsum hdg hcs (BL.go k1 k0)
theorem cl_X_find (C : CallFix p m c cc nL s args wG R_X) (hn : S.2.2 0 ≤ 60) (hP : va_P D classes (WX g cQ cI ad bx S) H) (hK : va_K D classes (tyX cQ cI) s) (hC : CX (some ad) A s s.heap) (hS : va_S A s.heap H locs) {v : Int32} (hR : 0 + 1 ≤ R.frames ∧ 8 + (3 + 11) + 40 * 0 ≤ R.locals) (hls : ls.size = nL) (hsum : (rest.map fun v => v.category).sum ≤ 8) (hdg : decode cc pc = .ok (.invokevirtual 94, 3)) (hcs : cells ≤ R.cells ∧ slots ≤ R.slots) (kk : W p l e R s m args below meth c H locs cells slots Q (F0 m (pc + 3) ls (.int (nI (lastIx (S.1 3) v (S.2.2 0))) :: rest))) : W p l e R s m args below meth c H locs cells slots Q (F0 m pc ls (.int v :: .ref (g 0) :: rest)) :=
  (ct_X_find l D g cQ cI ad bx S hn v).callP (As := [.int v]) mi_X_find mv_X_find C kw_154 hR hP hK hC hS (q0 := 0) rfl rfl hls rfl hsum hdg hcs (fun r hr => by rw [hr]; exact kk)
theorem cl_X_boxOf (C : CallFix p m c cc nL s args wG R_X) (hn : S.2.2 0 ≤ 60) (hP : va_P D classes (WX g cQ cI ad bx S) H) (hK : va_K D classes (tyX cQ cI) s) (hC : CX (some ad) A s s.heap) (hS : va_S A s.heap H locs) {v : Int32} (hR : 0 + 1 ≤ R.frames ∧ 8 + (3 + 11) + 40 * 0 ≤ R.locals) (hls : ls.size = nL) (hsum : (rest.map fun v => v.category).sum ≤ 8) (hdg : decode cc pc = .ok (.invokevirtual 101, 3)) (hcs : cells ≤ R.cells ∧ slots ≤ R.slots) (kk : W p l e R s m args below meth c H locs cells slots Q (F0 m (pc + 3) ls (.int (nI (lastIx (S.1 4) v (S.2.2 0))) :: rest))) : W p l e R s m args below meth c H locs cells slots Q (F0 m pc ls (.int v :: .ref (g 0) :: rest)) :=
  (ct_X_boxOf l D g cQ cI ad bx S hn v).callP (As := [.int v]) mi_X_boxOf mv_X_boxOf C kw_167 hR hP hK hC hS (q0 := 0) rfl rfl hls rfl hsum hdg hcs (fun r hr => by rw [hr]; exact kk)
end CLX
end
section
/-! ===== pure rows: readers over writers, worlds out of their pieces, what time brings ===== -/
theorem WX_eq {g : Nat → Nat} {cQ cI : ClassId} {ad bx : Nat → Nat} {S' : SS} {ct ts : Int32} {nw : Int64} {al wr : Int32} {wt : Int64} {fc : Int32} {fB : Nat → Option Nat} {fT fF : Nat → Int32} {n : Nat} {E : Nat → va_E}
    (h1 : ct = nI (S'.2.2 0)) (h2 : ts = nI (S'.2.2 1)) (h3 : nw = S'.2.1 3 0) (h4 : al = S'.1 8 0) (h5 : wr = nI (S'.2.2 3)) (h6 : wt = S'.2.1 3 1) (h7 : fc = nI (S'.2.2 2)) (h8 : fB = bq (S'.2.2 0) bx) (h9 : fT = S'.1 6) (h10 : fF = S'.1 7) (hn : n = S'.2.2 0) (hE : ∀ k, 1 ≤ k → k ≤ n → E k = bxE ad S' k) :
    wX g cQ cI ct ts nw al wr wt fc fB fT fF ++ pl n bx E = WX g cQ cI ad bx S' := by
  subst h1 h2 h3 h4 h5 h6 h7 h8 h9 h10 hn
  rw [WX, pl_congr (fun k a b => ⟨rfl, hE k a b⟩)]
theorem bx_upd {ad : Nat → Nat} {S S' : SS} {k : Nat} {e : va_E} {n : Nat} (h : ∀ j, j ≠ k → bxE ad S' j = bxE ad S j) (hk : e = bxE ad S' k) : ∀ j, 1 ≤ j → j ≤ n → va_up (bxE ad S) k e j = bxE ad S' j := by
  intro j _ _
  by_cases hj : j = k
  · subst hj
    rw [va_up_self, hk]
  · rw [va_up_ne _ _ hj, h j hj]
theorem Inv.n {c : Nat} {S : SS} (h : Inv c S) : S.2.2 0 ≤ 60 := h.1.1
theorem Inv.nt {c : Nat} {S : SS} (h : Inv c S) : S.2.2 1 ≤ 200 := h.1.2.1
theorem Inv.nf {c : Nat} {S : SS} (h : Inv c S) : S.2.2 2 ≤ 100 := h.1.2.2.1
theorem Inv.nw {c : Nat} {S : SS} (h : Inv c S) : S.2.2 3 ≤ c := h.1.2.2.2
theorem Inv.ok {c : Nat} {S : SS} (h : Inv c S) {k : Nat} (h1 : 1 ≤ k) (h2 : k ≤ S.2.2 0) : okB S k := h.2.2.1 k h1 h2
theorem Inv.soft {c c' : Nat} {S S' : SS} (h : Inv c S) (hN0 : S'.2.2 0 = S.2.2 0) (hN1 : S'.2.2 1 = S.2.2 1) (hN2 : S'.2.2 2 ≤ 100) (hN3 : S'.2.2 3 ≤ c') (htm : 0 ≤ S'.2.1 3 0 ∧ S'.2.1 3 0 ≤ 2000000000) (h1 : ∀ k, S'.1 1 k = S.1 1 k) (h3 : ∀ k, S'.1 3 k = S.1 3 k) (h4 : ∀ k, S'.1 4 k = S.1 4 k) (h6 : ∀ k, S'.1 6 k = S.1 6 k)
    (hkp : ∀ k, 1 ≤ k → k ≤ S.2.2 0 → 0 ≤ S'.2.1 2 k) (hlt : ∀ k, 1 ≤ k → k ≤ S.2.2 0 → S.1 4 k < 0 → S'.1 5 k = 0) (hz : ∀ k, S.2.2 0 < k → zeB S' k) : Inv c' S' := by
  obtain ⟨⟨a1, a2, a3, a4⟩, b, d, e1, e2, f, g⟩ := h
  refine ⟨⟨by omega, by omega, hN2, hN3⟩, htm, ?_, ?_, ?_, ?_, ?_⟩
  · intro k k1 k2
    rw [hN0] at k2
    obtain ⟨o1, o2, o3, o4, o5, o6⟩ := d k k1 k2
    refine ⟨by rw [h1]; exact o1, by rw [h3]; exact o2, hkp k k1 k2, by rw [h4]; exact o4, by rw [h3, h4]; exact o5, ?_⟩
    rw [h4]
    exact hlt k k1 k2
  · intro j k j1 j2 k1 k2 e' ne
    rw [hN0] at j2 k2
    rw [h3, h3] at e'
    rw [h3] at ne
    exact e1 j k j1 j2 k1 k2 e' ne
  · intro j k j1 j2 k1 k2 e' ne
    rw [hN0] at j2 k2
    rw [h4, h4] at e'
    rw [h4] at ne
    exact e2 j k j1 j2 k1 k2 e' ne
  · intro k hk
    rw [hN0] at hk
    exact hz k hk
  · intro a ha
    rw [hN1] at ha
    rw [h6]
    exact g a ha
theorem ps1_n (S : SS) (t : Int64) (k : Nat) : (ps1 S t k).2.2 0 = S.2.2 0 := by
  unfold ps1
  split
  · split <;> rfl
  · rfl
theorem ps2_n (S : SS) (t : Int64) (k : Nat) : (ps2 S t k).2.2 0 = S.2.2 0 := by
  unfold ps2
  split <;> rfl
theorem ps3_n (S : SS) (t : Int64) (k : Nat) : (ps3 S t k).2.2 0 = S.2.2 0 := by
  unfold ps3
  split <;> rfl
theorem psK_n (S : SS) (t : Int64) (k : Nat) : (psK S t k).2.2 0 = S.2.2 0 := by rw [psK, ps3_n, ps2_n, ps1_n]
theorem psN_n (S : SS) (t : Int64) : ∀ j, (psN S t j).2.2 0 = S.2.2 0
  | 0 => rfl
  | j + 1 => by rw [psN, psK_n, psN_n S t j]
theorem oPass_n (S : SS) (t : Int64) : (oPass S t).2.2 0 = S.2.2 0 := psN_n S t _
theorem ps1_t (S : SS) (t : Int64) (k : Nat) : (ps1 S t k).2.1 3 = S.2.1 3 := by
  unfold ps1
  split
  · split <;> rfl
  · rfl
theorem ps2_t (S : SS) (t : Int64) (k : Nat) : (ps2 S t k).2.1 3 = S.2.1 3 := by
  unfold ps2
  split <;> rfl
theorem ps3_t (S : SS) (t : Int64) (k : Nat) : (ps3 S t k).2.1 3 = S.2.1 3 := by
  unfold ps3
  split <;> rfl
theorem psN_t (S : SS) (t : Int64) : ∀ j, (psN S t j).2.1 3 0 = t
  | 0 => by simp [psN, sL, va_up, vp_updL]
  | j + 1 => by rw [psN, psK, ps3_t, ps2_t, ps1_t, psN_t S t j]
theorem oPass_t (S : SS) (t : Int64) : (oPass S t).2.1 3 0 = t := psN_t S t _
theorem inv_ps1 {c : Nat} {S : SS} (t : Int64) {k : Nat} (h : Inv c S) (h1 : 1 ≤ k) (h2 : k ≤ S.2.2 0) : Inv c (ps1 S t k) := by
  have hz := h.2.2.2.2.2.1
  unfold ps1
  split
  · split
    · refine h.soft rfl rfl (by simp [sN, va_up]; omega) h.nw h.2.1 (fun _ => rfl) (fun _ => rfl) (fun _ => rfl) (fun _ => rfl) (fun j j1 j2 => ?_) (fun j j1 j2 => (h.ok j1 j2).2.2.2.2.2) (fun j hj => ?_)
      · have := (h.ok j1 j2).2.2.1
        simp only [sN, sI, sL, va_up, vp_updL, if_true]
        split
        · decide
        · exact this
      · have hjk : j ≠ k := by omega
        simpa [zeB, sN, sI, sL, va_up, vp_updL, upd, hjk] using hz j hj
    · refine h.soft rfl rfl h.nf h.nw h.2.1 (fun _ => rfl) (fun _ => rfl) (fun _ => rfl) (fun _ => rfl) (fun j j1 j2 => ?_) (fun j j1 j2 => (h.ok j1 j2).2.2.2.2.2) (fun j hj => ?_)
      · have := (h.ok j1 j2).2.2.1
        simp only [sN, sI, sL, va_up, vp_updL, if_true]
        split
        · decide
        · exact this
      · have hjk : j ≠ k := by omega
        simpa [zeB, sN, sI, sL, va_up, vp_updL, upd, hjk] using hz j hj
  · exact h
theorem inv_ps2 {c : Nat} {S : SS} (t : Int64) {k : Nat} (h : Inv c S) (h1 : 1 ≤ k) (h2 : k ≤ S.2.2 0) : Inv c (ps2 S t k) := by
  have hz := h.2.2.2.2.2.1
  unfold ps2
  split
  · refine h.soft rfl rfl h.nf h.nw h.2.1 (fun _ => rfl) (fun _ => rfl) (fun _ => rfl) (fun _ => rfl) (fun j j1 j2 => (h.ok j1 j2).2.2.1) (fun j j1 j2 => (h.ok j1 j2).2.2.2.2.2) (fun j hj => ?_)
    have hjk : j ≠ k := by omega
    simpa [zeB, sN, sI, sL, va_up, vp_updL, upd, hjk] using hz j hj
  · exact h
theorem inv_ps3 {c : Nat} {S : SS} (t : Int64) {k : Nat} (h : Inv c S) (h1 : 1 ≤ k) (h2 : k ≤ S.2.2 0) : Inv c (ps3 S t k) := by
  have hz := h.2.2.2.2.2.1
  unfold ps3
  split
  next hc =>
    refine h.soft rfl rfl h.nf h.nw h.2.1 (fun _ => rfl) (fun _ => rfl) (fun _ => rfl) (fun _ => rfl) (fun j j1 j2 => (h.ok j1 j2).2.2.1) (fun j j1 j2 hn => ?_) (fun j hj => ?_)
    · by_cases hjk : j = k
      · subst hjk
        exact absurd hn (Int32.not_lt.mpr hc.1)
      · have := (h.ok j1 j2).2.2.2.2.2 hn
        simpa [sI, va_up, upd, hjk] using this
    · have hjk : j ≠ k := by omega
      simpa [zeB, sN, sI, sL, va_up, vp_updL, upd, hjk] using hz j hj
  · exact h
theorem inv_psK {c : Nat} {S : SS} (t : Int64) {k : Nat} (h : Inv c S) (h1 : 1 ≤ k) (h2 : k ≤ S.2.2 0) : Inv c (psK S t k) :=
  inv_ps3 t (inv_ps2 t (inv_ps1 t h h1 h2) h1 (by rw [ps1_n]; exact h2)) h1 (by rw [ps2_n, ps1_n]; exact h2)
theorem inv_psN {c : Nat} {S : SS} {t : Int64} (h : Inv c S) (ht : gdT S t) : ∀ j, j ≤ S.2.2 0 → Inv c (psN S t j)
  | 0, _ => by
    have hz := h.2.2.2.2.2.1
    refine h.soft rfl rfl h.nf h.nw ?_ (fun _ => rfl) (fun _ => rfl) (fun _ => rfl) (fun _ => rfl) (fun j j1 j2 => (h.ok j1 j2).2.2.1) (fun j j1 j2 => (h.ok j1 j2).2.2.2.2.2) (fun j hj => hz j hj)
    have e : (sL S 3 0 t).2.1 3 0 = t := by simp [sL, va_up, vp_updL]
    rw [psN, e]
    exact ⟨Int64.le_trans h.2.1.1 ht.1, ht.2⟩
  | j + 1, hj => inv_psK t (inv_psN h ht j (by omega)) (by omega) (by rw [psN_n]; exact hj)
theorem inv_oPass {c : Nat} {S : SS} {t : Int64} (h : Inv c S) (ht : gdT S t) : Inv c (oPass S t) := inv_psN h ht _ (Nat.le_refl _)
end
section
/-! ===== the box: methods that write, and calls of them: printed by gen/boxw.py ===== -/
set_option maxHeartbeats 4000000 in
set_option maxRecDepth 100000 in
theorem ct_B_open (l : Launch) (D : va_G) (tys : List (ClassId × FieldType)) (ad : Nat → Nat) (a : Nat) (sz : Int32) (dr : Nat) (si : Int64) (td : Int32) (un : Int64) (it ly : Int32) (ln : Int64) (lt cd : Int32) (r : Nat) (t : Int64) : MOv l y_B_open b_B_open 4 0 0 0 [.ref a, .ref r, .long t] D tys ([(a, bc sz dr si td un it ly ln lt cd)]) (some ad) (fun w => w = [(a, bc sz r t 0 un it ly ln lt cd)]) := by
  refine MOv.mk mi_B_open (Nat.le_of_ble_eq_true rfl) ?_
  intro p e s m below meth c ls A C hr hlk hin hK hC hA h hl
  have hx := C.1
  have hb := C.2.1
  have hN := hC.nw
  have h : ST D A ([(a, bc sz dr si td un it ly ln lt cd)]) s.heap s.heap [] := h
  have hl : lv_has ls 4 [(0, .ref a), (1, .ref r), (2, .long t)] := hl
  refine lv_aload_n hx hb de_B_open_0 rfl (lv_at hl 0 rfl) ?_
  refine lv_aload_n hx hb de_B_open_1 rfl (lv_at hl 1 rfl) ?_
  refine pB_door C hK h de_B_open_2 (fun H locs h => ?_)
  refine lv_aload_n hx hb de_B_open_5 rfl (lv_at hl 0 rfl) ?_
  refine lv_lload_n hx hb de_B_open_6 rfl (lv_at hl 2 rfl) ?_
  refine pB_since C hK h de_B_open_7 (fun H locs h => ?_)
  refine lv_aload_n hx hb de_B_open_10 rfl (lv_at hl 0 rfl) ?_
  refine lv_iconst (v := 0) hx hb de_B_open_11 (by decide) ?_
  refine pB_told C hK h rfl rfl de_B_open_12 (fun H locs h => ?_)
  exact MOv.fin hx hb hr hlk h (rfl) de_B_open_15
set_option maxHeartbeats 4000000 in
set_option maxRecDepth 100000 in
theorem ct_B_empty (l : Launch) (D : va_G) (tys : List (ClassId × FieldType)) (ad : Nat → Nat) (a : Nat) (sz : Int32) (dr : Nat) (si : Int64) (td : Int32) (un : Int64) (it ly : Int32) (ln : Int64) (lt cd : Int32) : MOv l y_B_empty b_B_empty 1 0 0 0 [.ref a] D tys ([(a, bc sz dr si td un it ly ln lt cd)]) (some ad) (fun w => w = [(a, bc sz dr si td un 0 0 ln 0 (-1))]) := by
  refine MOv.mk mi_B_empty (Nat.le_of_ble_eq_true rfl) ?_
  intro p e s m below meth c ls A C hr hlk hin hK hC hA h hl
  have hx := C.1
  have hb := C.2.1
  have hN := hC.nw
  have h : ST D A ([(a, bc sz dr si td un it ly ln lt cd)]) s.heap s.heap [] := h
  have hl : lv_has ls 1 [(0, .ref a)] := hl
  refine lv_aload_n hx hb de_B_empty_0 rfl (lv_at hl 0 rfl) ?_
  refine lv_iconst (v := 0) hx hb de_B_empty_1 (by decide) ?_
  refine pB_item C hK h de_B_empty_2 (fun H locs h => ?_)
  refine lv_aload_n hx hb de_B_empty_5 rfl (lv_at hl 0 rfl) ?_
  refine lv_iconst (v := 0) hx hb de_B_empty_6 (by decide) ?_
  refine pB_lies C hK h rfl rfl de_B_empty_7 (fun H locs h => ?_)
  refine lv_aload_n hx hb de_B_empty_10 rfl (lv_at hl 0 rfl) ?_
  refine lv_iconst (v := 0) hx hb de_B_empty_11 (by decide) ?_
  refine pB_late C hK h rfl rfl de_B_empty_12 (fun H locs h => ?_)
  refine lv_aload_n hx hb de_B_empty_15 rfl (lv_at hl 0 rfl) ?_
  refine lv_iconst (v := -1) hx hb de_B_empty_16 (by decide) ?_
  refine pB_code C hK h de_B_empty_17 (fun H locs h => ?_)
  exact MOv.fin hx hb hr hlk h (rfl) de_B_empty_20
set_option maxHeartbeats 4000000 in
set_option maxRecDepth 100000 in
theorem ct_B_pass (l : Launch) (D : va_G) (tys : List (ClassId × FieldType)) (ad : Nat → Nat) (a : Nat) (sz : Int32) (d : Nat) (si : Int64) (td : Int32) (un : Int64) (it ly : Int32) (ln : Int64) (lt cd : Int32) (hd : d < 4) (t : Int64) : MOi l y_B_pass b_B_pass 4 1 0 0 [.ref a, .long t] D tys ([(a, bc sz (ad d) si td un it ly ln lt cd)]) (some ad) (fun r w => r = (if ((d = 1 ∨ d = 2) ∧ td = 0 ∧ 120 ≤ t - si) then 1 else 0) + (if (¬ ly = 0 ∧ lt = 0 ∧ 604800 ≤ t - ln) then 1 else 0) ∧ w = [(a, bc sz (ad d) si (if ((d = 1 ∨ d = 2) ∧ td = 0 ∧ 120 ≤ t - si) then 1 else td) un it ly ln (if (¬ ly = 0 ∧ lt = 0 ∧ 604800 ≤ t - ln) then 1 else lt) cd)]) := by
  refine MOi.mk mi_B_pass (Nat.le_of_ble_eq_true rfl) ?_
  intro p e s m below meth c ls A C hr hlk hK hC hA h hl
  have hx := C.1
  have hb := C.2.1
  have hN := hC.nw
  have h : ST D A ([(a, bc sz (ad d) si td un it ly ln lt cd)]) s.heap s.heap [] := h
  have hl : lv_has ls 4 [(0, .ref a), (1, .long t)] := hl
  have J40 : ∀ (v2 td2 : Int32) (H : Heap) (locs : List Loc), v2 = (if ((d = 1 ∨ d = 2) ∧ td = 0 ∧ 120 ≤ t - si) then 1 else 0) → td2 = (if ((d = 1 ∨ d = 2) ∧ td = 0 ∧ 120 ≤ t - si) then 1 else td) → ST D A [(a, bc sz (ad d) si td2 un it ly ln lt cd)] s.heap H locs → ∀ ls : Array Slot, lv_has ls 4 [(3, .int v2), (0, .ref a), (1, .long t)] → W p l e (rmOf 1 0 0) s m [Value.ref a, .long t].toArray below meth c H locs 0 0 (MQ below (va_Qi (fun r w => r = (if ((d = 1 ∨ d = 2) ∧ td = 0 ∧ 120 ≤ t - si) then 1 else 0) + (if (¬ ly = 0 ∧ lt = 0 ∧ 604800 ≤ t - ln) then 1 else 0) ∧ w = [(a, bc sz (ad d) si (if ((d = 1 ∨ d = 2) ∧ td = 0 ∧ 120 ≤ t - si) then 1 else td) un it ly ln (if (¬ ly = 0 ∧ lt = 0 ∧ 604800 ≤ t - ln) then 1 else lt) cd)]) (PB D A) A) [Value.ref a, .long t].toArray s 0 0 A) (F0 m 40 ls []) := by
    intro v2 td2 H locs ev et h ls hl
    refine lv_aload_n hx hb de_B_pass_40 rfl (lv_at hl 1 rfl) ?_
    refine gB_lies C hK h.1 de_B_pass_41 ?_
    refine lv_if_eq (tgt := 75) hx hb de_B_pass_44 (by decide) (fun c_44 => ?_) (fun c_44 => ?_)
    · refine lv_iload_n hx hb de_B_pass_75 rfl (lv_at hl 0 rfl) ?_
      exact MOi.fin hx hb hr hlk h (by rw [ev, et, if_neg (c := (¬ ly = 0 ∧ lt = 0 ∧ 604800 ≤ t - ln)) (fun z => z.1 c_44), if_neg (c := (¬ ly = 0 ∧ lt = 0 ∧ 604800 ≤ t - ln)) (fun z => z.1 c_44)]; exact ⟨(Int32.add_zero _).symm, rfl⟩) de_B_pass_76
    · refine lv_aload_n hx hb de_B_pass_47 rfl (lv_at hl 1 rfl) ?_
      refine gB_late C hK h.1 de_B_pass_48 ?_
      refine lv_if_ne (tgt := 75) hx hb de_B_pass_51 (by decide) (fun c_51 => ?_) (fun c_51 => ?_)
      · refine lv_iload_n hx hb de_B_pass_75 rfl (lv_at hl 0 rfl) ?_
        exact MOi.fin hx hb hr hlk h (by rw [ev, et, if_neg (c := (¬ ly = 0 ∧ lt = 0 ∧ 604800 ≤ t - ln)) (fun z => c_51 z.2.1), if_neg (c := (¬ ly = 0 ∧ lt = 0 ∧ 604800 ≤ t - ln)) (fun z => c_51 z.2.1)]; exact ⟨(Int32.add_zero _).symm, rfl⟩) de_B_pass_76
      · refine lv_lload_n hx hb de_B_pass_54 rfl (lv_at hl 2 rfl) ?_
        refine lv_aload_n hx hb de_B_pass_55 rfl (lv_at hl 1 rfl) ?_
        refine gB_lain C hK h.1 de_B_pass_56 ?_
        refine lv_lsub hx hb de_B_pass_59 ?_
        refine lv_ldc2 (v := 604800) hx hb C.2.2.2.1 (C.2.2.2.2 _ kw_152) de_B_pass_60 ?_
        refine zl_lt (tgt := 75) hx hb de_B_pass_63 de_B_pass_64 (by decide) (fun c_64 => ?_) (fun c_64 => ?_)
        · refine lv_iload_n hx hb de_B_pass_75 rfl (lv_at hl 0 rfl) ?_
          exact MOi.fin hx hb hr hlk h (by rw [ev, et, if_neg (c := (¬ ly = 0 ∧ lt = 0 ∧ 604800 ≤ t - ln)) (fun z => absurd z.2.2 (Int64.not_le.mpr c_64)), if_neg (c := (¬ ly = 0 ∧ lt = 0 ∧ 604800 ≤ t - ln)) (fun z => absurd z.2.2 (Int64.not_le.mpr c_64))]; exact ⟨(Int32.add_zero _).symm, rfl⟩) de_B_pass_76
        · refine lv_aload_n hx hb de_B_pass_67 rfl (lv_at hl 1 rfl) ?_
          refine lv_iconst (v := 1) hx hb de_B_pass_68 (by decide) ?_
          refine pB_late C hK h rfl rfl de_B_pass_69 (fun H locs h => ?_)
          refine lv_iinc (v := (v2 + 1)) (lv' := [(3, .int (v2 + 1)), (0, .ref a), (1, .long t)]) hx hb de_B_pass_72 hl (k := 0) rfl (rfl) (by decide) rfl (fun ls hl => ?_)
          refine lv_iload_n hx hb de_B_pass_75 rfl (lv_at hl 0 rfl) ?_
          exact MOi.fin hx hb hr hlk h (by rw [ev, et, if_pos (c := (¬ ly = 0 ∧ lt = 0 ∧ 604800 ≤ t - ln)) ⟨c_44, c_51, Int64.not_lt.mp c_64⟩, if_pos (c := (¬ ly = 0 ∧ lt = 0 ∧ 604800 ≤ t - ln)) ⟨c_44, c_51, Int64.not_lt.mp c_64⟩]; exact ⟨rfl, rfl⟩) de_B_pass_76
  refine lv_iconst (v := 0) hx hb de_B_pass_0 (by decide) ?_
  refine lv_istore_n (lv' := [(3, .int 0), (0, .ref a), (1, .long t)]) hx hb de_B_pass_1 rfl hl (by decide) rfl (fun ls hl => ?_)
  refine lv_aload_n hx hb de_B_pass_2 rfl (lv_at hl 1 rfl) ?_
  refine gB_door C hK h.1 de_B_pass_3 ?_
  refine clB_D_isPassable C hd hK hC h.2.2 ⟨Nat.le_of_ble_eq_true rfl, Nat.le_of_ble_eq_true rfl⟩ hl.1 (Nat.le_of_ble_eq_true rfl) de_B_pass_6 ⟨Nat.le_of_ble_eq_true rfl, Nat.le_of_ble_eq_true rfl⟩ (fun c_6 => ?_) (fun c_6 => ?_)
  · refine lv_if_eq (tgt := 40) hx hb de_B_pass_9 (by decide) (fun z => absurd z (by decide)) (fun _ => ?_)
    refine lv_aload_n hx hb de_B_pass_12 rfl (lv_at hl 1 rfl) ?_
    refine gB_told C hK h.1 de_B_pass_13 ?_
    refine lv_if_ne (tgt := 40) hx hb de_B_pass_16 (by decide) (fun c_16 => ?_) (fun c_16 => ?_)
    · exact J40 0 td _ _ ((if_neg (fun z => c_16 z.2.1)).symm) ((if_neg (fun z => c_16 z.2.1)).symm) h ls (lv_sub hl [0, 1, 2] rfl)
    · refine lv_lload_n hx hb de_B_pass_19 rfl (lv_at hl 2 rfl) ?_
      refine lv_aload_n hx hb de_B_pass_20 rfl (lv_at hl 1 rfl) ?_
      refine gB_since C hK h.1 de_B_pass_21 ?_
      refine lv_lsub hx hb de_B_pass_24 ?_
      refine lv_ldc2 (v := 120) hx hb C.2.2.2.1 (C.2.2.2.2 _ kw_151) de_B_pass_25 ?_
      refine zl_lt (tgt := 40) hx hb de_B_pass_28 de_B_pass_29 (by decide) (fun c_29 => ?_) (fun c_29 => ?_)
      · exact J40 0 td _ _ ((if_neg (fun z => absurd z.2.2 (Int64.not_le.mpr c_29))).symm) ((if_neg (fun z => absurd z.2.2 (Int64.not_le.mpr c_29))).symm) h ls (lv_sub hl [0, 1, 2] rfl)
      · refine lv_aload_n hx hb de_B_pass_32 rfl (lv_at hl 1 rfl) ?_
        refine lv_iconst (v := 1) hx hb de_B_pass_33 (by decide) ?_
        refine pB_told C hK h rfl rfl de_B_pass_34 (fun H locs h => ?_)
        refine lv_iinc (v := 1) (lv' := [(3, .int 1), (0, .ref a), (1, .long t)]) hx hb de_B_pass_37 hl (k := 0) rfl (rfl) (by decide) rfl (fun ls hl => ?_)
        exact J40 1 1 _ _ ((if_pos ⟨c_6, c_16, Int64.not_lt.mp c_29⟩).symm) ((if_pos ⟨c_6, c_16, Int64.not_lt.mp c_29⟩).symm) h ls (lv_sub hl [0, 1, 2] rfl)
  · refine lv_if_eq (tgt := 40) hx hb de_B_pass_9 (by decide) (fun _ => ?_) (fun z => absurd z (by decide))
    exact J40 0 td _ _ ((if_neg (fun z => c_6 z.1)).symm) ((if_neg (fun z => c_6 z.1)).symm) h ls (lv_sub hl [0, 1, 2] rfl)
set_option maxHeartbeats 4000000 in
set_option maxRecDepth 100000 in
theorem ct_B_init (l : Launch) (D : va_G) (tys : List (ClassId × FieldType)) (ad : Nat → Nat) (a : Nat) (v : Int32) : MOv l y_B_init b_B_init 2 1 0 0 [.ref a, .int v] D tys ([(a, .inr (1, [.int 0, .null, .long 0, .int 0, .long 0, .int 0, .int 0, .long 0, .int 0, .int 0]))]) (some ad) (fun w => w = [(a, bc v (ad 0) 0 0 0 0 0 0 0 (-1))]) := by
  refine MOv.mk mi_B_init (Nat.le_of_ble_eq_true rfl) ?_
  intro p e s m below meth c ls A C hr hlk hin hK hC hA h hl
  have hx := C.1
  have hb := C.2.1
  have hN := hC.nw
  have h : ST D A ([(a, .inr (1, [.int 0, .null, .long 0, .int 0, .long 0, .int 0, .int 0, .long 0, .int 0, .int 0]))]) s.heap s.heap [] := h
  have hl : lv_has ls 2 [(0, .ref a), (1, .int v)] := hl
  refine lv_aload_n hx hb de_B_init_0 rfl (lv_at hl 0 rfl) ?_
  refine W.objInit hx hb C.2.2.2.1 (C.2.2.2.2 _ kw_61) (C.2.2.2.2 _ kw_13) (C.2.2.2.2 _ kw_14) rfl (by rw [C.2.2.1]; exact hl.1) rfl de_B_init_1 (Nat.le_of_ble_eq_true rfl) (Nat.le_of_ble_eq_true rfl) ?_
  refine W.eq (g2 := F0 m 4 ls []) rfl ?_
  refine lv_aload_n hx hb de_B_init_4 rfl (lv_at hl 0 rfl) ?_
  refine gs_door C hC h.2.2 0 (by decide) kw_62 de_B_init_5 ?_
  refine va_put C.1 C.2.1 C.2.2.2.2 i_B t_B t_B_ok n_B C.2.2.2.1 hK h.1 h.2.1 h.2.2 0 rfl rfl 1 (by decide) (C.2.2.2.2 _ kw_66) (fun _ z => z) rfl (t_B_ok 1 (by decide)) rfl rfl (Nat.le_of_ble_eq_true rfl) de_B_init_8 (fun H locs h1 h2 h3 => ?_)
  have h : ST D A [(a, .inr (1, [.int 0, .ref (ad 0), .long 0, .int 0, .long 0, .int 0, .int 0, .long 0, .int 0, .int 0]))] s.heap H locs := ⟨h1, h2, h3⟩
  refine lv_aload_n hx hb de_B_init_11 rfl (lv_at hl 0 rfl) ?_
  refine lv_iconst (v := -1) hx hb de_B_init_12 (by decide) ?_
  refine va_put C.1 C.2.1 C.2.2.2.2 i_B t_B t_B_ok n_B C.2.2.2.1 hK h.1 h.2.1 h.2.2 0 rfl rfl 9 (by decide) (C.2.2.2.2 _ kw_80) (fun _ z => z) rfl (t_B_ok 9 (by decide)) rfl rfl (Nat.le_of_ble_eq_true rfl) de_B_init_13 (fun H locs h1 h2 h3 => ?_)
  have h : ST D A [(a, .inr (1, [.int 0, .ref (ad 0), .long 0, .int 0, .long 0, .int 0, .int 0, .long 0, .int 0, .int (-1)]))] s.heap H locs := ⟨h1, h2, h3⟩
  refine lv_aload_n hx hb de_B_init_16 rfl (lv_at hl 0 rfl) ?_
  refine lv_iload_n hx hb de_B_init_17 rfl (lv_at hl 1 rfl) ?_
  refine va_putF C.1 C.2.1 C.2.2.2.2 i_B t_B t_B_ok n_B C.2.2.2.1 hK h.1 h.2.1 h.2.2 0 rfl rfl 0 (by decide) (C.2.2.2.2 _ kw_64) (fun _ z => z) rfl (hin rfl) rfl (t_B_ok 0 (by decide)) rfl rfl (Nat.le_of_ble_eq_true rfl) de_B_init_18 (fun H locs h1 h2 h3 => ?_)
  have h : ST D A [(a, bc v (ad 0) 0 0 0 0 0 0 0 (-1))] s.heap H locs := ⟨h1, h2, h3⟩
  exact MOv.fin hx hb hr hlk h rfl de_B_init_21
section POOL
variable {p : Program} {l : Launch} {e : Env} {R : Room} {s : State} {m : MethodId} {args : Array Value} {below : List Frame} {meth : Method} {c : Code} {H : Heap} {locs : List Loc} {cells slots : Nat} {Q : State → Prop}
variable {cc : ByteArray} {pc nL : Nat} {ls : Array Slot} {rest : List Value} {own : String} {D : va_G} {tys : List (ClassId × FieldType)} {A : Nat → Prop} {ad bx g : Nat → Nat} {cQ cI : ClassId} {S : SS}
variable {y : MethodName} {b : ByteArray} {nL9 n0 index lev : Nat} {As : List Value} {X : va_W} {n k : Nat} {E : Nat → va_E} {sz : Int32} {dr : Nat} {si : Int64} {td : Int32} {un : Int64} {it ly : Int32} {ln : Int64} {lt cd : Int32}
theorem MOi.pool {post : Int32 → va_W → Prop} {e1 : Int32 → va_E} (hM : MOi l y b nL9 lev 0 0 (.ref (bx k) :: As) D tys [(bx k, bc sz dr si td un it ly ln lt cd)] (some ad) post) (mi : MI y b nL9 (some .int) n0) (mv : MV y) (hy : y.cls = R_B) (C : CallFix p m c cc nL s args wG R_X) (hlink : Cond.methodLink R_X index y ∈ wG) (hR : lev + 1 ≤ R.frames ∧ 8 + (nL9 + 11) + 40 * lev ≤ R.locals) (h : ST D A (X ++ pl n bx E) s.heap H locs) (hk1 : 1 ≤ k) (hk2 : k ≤ n) (hE : E k = bc sz dr si td un it ly ln lt cd) (hK : va_K D classes tys s) (hC : CX (some ad) A s s.heap) (hA : ∀ q : Nat, s.heap.size ≤ q → A q) (hls : ls.size = nL) (hn : As.length = n0) (hsum : (rest.map fun v => v.category).sum ≤ 8) (hdg : decode cc pc = .ok (.invokevirtual index, 3)) (hcs : cells ≤ R.cells ∧ slots ≤ R.slots) (hpost : ∀ r w, post r w → w = [(bx k, e1 r)]) (kk : ∀ (r : Int32) (H1 : Heap) (locs1 : List Loc), (∃ w, post r w) → ST D A (X ++ pl n bx (va_up E k (e1 r))) s.heap H1 locs1 → W p l e R s m args below meth c H1 locs1 cells slots Q (F0 m (pc + 3) ls (.int r :: rest))) : W p l e R s m args below meth c H locs cells slots Q (F0 m pc ls (As.reverse ++ .ref (bx k) :: rest)) := by
  have hg := pl_get (X := X) (bx := bx) (E := E) hk1 hk2
  rw [hE] at hg
  refine hM.core mi mv C hlink hR (h.1.one hg) (h.2.1.one hg) hK hC h.2.2 hA (q0 := 0) rfl (T := F_B) (N := 10) (ci := 1) (by rw [hy]; rfl) hls hn hsum hdg hcs (fun r w H1 locs1 hp hP1 hD1 hk hS1 => ?_)
  have hw := hpost _ _ hp
  rw [hw] at hP1
  refine kk r H1 locs1 ⟨w, hp⟩ ?_
  rw [← pl_set hk1 hk2]
  exact h.at hg hk hP1 hS1
theorem MOv.pool {post : va_W → Prop} {e1 : va_E} (hM : MOv l y b nL9 lev 0 0 (.ref (bx k) :: As) D tys [(bx k, bc sz dr si td un it ly ln lt cd)] (some ad) post) (mi : MI y b nL9 none n0) (mv : MV y) (hy : y.cls = R_B) (C : CallFix p m c cc nL s args wG R_X) (hlink : Cond.methodLink R_X index y ∈ wG) (hR : lev + 1 ≤ R.frames ∧ 8 + (nL9 + 11) + 40 * lev ≤ R.locals) (h : ST D A (X ++ pl n bx E) s.heap H locs) (hk1 : 1 ≤ k) (hk2 : k ≤ n) (hE : E k = bc sz dr si td un it ly ln lt cd) (hK : va_K D classes tys s) (hC : CX (some ad) A s s.heap) (hA : ∀ q : Nat, s.heap.size ≤ q → A q) (hls : ls.size = nL) (hn : As.length = n0) (hsum : (rest.map fun v => v.category).sum ≤ 8) (hdg : decode cc pc = .ok (.invokevirtual index, 3)) (hcs : cells ≤ R.cells ∧ slots ≤ R.slots) (hpost : ∀ w, post w → w = [(bx k, e1)]) (kk : ∀ (H1 : Heap) (locs1 : List Loc), (∃ w, post w) → ST D A (X ++ pl n bx (va_up E k (e1))) s.heap H1 locs1 → W p l e R s m args below meth c H1 locs1 cells slots Q (F0 m (pc + 3) ls rest)) : W p l e R s m args below meth c H locs cells slots Q (F0 m pc ls (As.reverse ++ .ref (bx k) :: rest)) := by
  have hg := pl_get (X := X) (bx := bx) (E := E) hk1 hk2
  rw [hE] at hg
  refine hM.core mi mv C hlink hR (h.1.one hg) (h.2.1.one hg) hK hC h.2.2 hA (q0 := 0) rfl (T := F_B) (N := 10) (ci := 1) (by rw [hy]; rfl) hls hn hsum hdg hcs (fun w H1 locs1 hp hP1 hD1 hk hS1 => ?_)
  have hw := hpost _ hp
  rw [hw] at hP1
  refine kk H1 locs1 ⟨w, hp⟩ ?_
  rw [← pl_set hk1 hk2]
  exact h.at hg hk hP1 hS1
theorem clN_B_open (C : CallFix p m c cc nL s args wG R_X) (h : ST D A (X ++ pl n bx E) s.heap H locs) (hk1 : 1 ≤ k) (hk2 : k ≤ n) (hE : E k = bc sz dr si td un it ly ln lt cd) (hK : va_K D classes tys s) (hC : CX (some ad) A s s.heap) (hA : ∀ q : Nat, s.heap.size ≤ q → A q) {r : Nat} {t : Int64} (hR : 0 + 1 ≤ R.frames ∧ 8 + (4 + 11) + 40 * 0 ≤ R.locals) (hls : ls.size = nL) (hsum : (rest.map fun v => v.category).sum ≤ 8) (hdg : decode cc pc = .ok (.invokevirtual 135, 3)) (hcs : cells ≤ R.cells ∧ slots ≤ R.slots) (kk : ∀ (H1 : Heap) (locs1 : List Loc), ST D A (X ++ pl n bx (va_up E k (bc sz r t 0 un it ly ln lt cd))) s.heap H1 locs1 → W p l e R s m args below meth c H1 locs1 cells slots Q (F0 m (pc + 3) ls rest)) : W p l e R s m args below meth c H locs cells slots Q (F0 m pc ls (.long t :: .ref r :: .ref (bx k) :: rest)) :=
  (ct_B_open l D tys ad (bx k) sz dr si td un it ly ln lt cd r t).pool (As := [.ref r, .long t]) mi_B_open mv_B_open rfl C kw_183 hR h hk1 hk2 hE hK hC hA hls rfl hsum hdg hcs (e1 := bc sz r t 0 un it ly ln lt cd) (fun w hp => hp) (fun H1 locs1 _ z => kk H1 locs1 z)
theorem clN_B_empty (C : CallFix p m c cc nL s args wG R_X) (h : ST D A (X ++ pl n bx E) s.heap H locs) (hk1 : 1 ≤ k) (hk2 : k ≤ n) (hE : E k = bc sz dr si td un it ly ln lt cd) (hK : va_K D classes tys s) (hC : CX (some ad) A s s.heap) (hA : ∀ q : Nat, s.heap.size ≤ q → A q) (hR : 0 + 1 ≤ R.frames ∧ 8 + (1 + 11) + 40 * 0 ≤ R.locals) (hls : ls.size = nL) (hsum : (rest.map fun v => v.category).sum ≤ 8) (hdg : decode cc pc = .ok (.invokevirtual 132, 3)) (hcs : cells ≤ R.cells ∧ slots ≤ R.slots) (kk : ∀ (H1 : Heap) (locs1 : List Loc), ST D A (X ++ pl n bx (va_up E k (bc sz dr si td un 0 0 ln 0 (-1)))) s.heap H1 locs1 → W p l e R s m args below meth c H1 locs1 cells slots Q (F0 m (pc + 3) ls rest)) : W p l e R s m args below meth c H locs cells slots Q (F0 m pc ls (.ref (bx k) :: rest)) :=
  (ct_B_empty l D tys ad (bx k) sz dr si td un it ly ln lt cd).pool (As := []) mi_B_empty mv_B_empty rfl C kw_179 hR h hk1 hk2 hE hK hC hA hls rfl hsum hdg hcs (e1 := bc sz dr si td un 0 0 ln 0 (-1)) (fun w hp => hp) (fun H1 locs1 _ z => kk H1 locs1 z)
theorem clF_B_open (C : CallFix p m c cc nL s args wG R_X) (h : ST D A (X ++ pl n bx (va_up E k (bc sz dr si td un it ly ln lt cd))) s.heap H locs) (hk1 : 1 ≤ k) (hk2 : k ≤ n) (hK : va_K D classes tys s) (hC : CX (some ad) A s s.heap) (hA : ∀ q : Nat, s.heap.size ≤ q → A q) {r : Nat} {t : Int64} (hR : 0 + 1 ≤ R.frames ∧ 8 + (4 + 11) + 40 * 0 ≤ R.locals) (hls : ls.size = nL) (hsum : (rest.map fun v => v.category).sum ≤ 8) (hdg : decode cc pc = .ok (.invokevirtual 135, 3)) (hcs : cells ≤ R.cells ∧ slots ≤ R.slots) (kk : ∀ (H1 : Heap) (locs1 : List Loc), ST D A (X ++ pl n bx (va_up E k (bc sz r t 0 un it ly ln lt cd))) s.heap H1 locs1 → W p l e R s m args below meth c H1 locs1 cells slots Q (F0 m (pc + 3) ls rest)) : W p l e R s m args below meth c H locs cells slots Q (F0 m pc ls (.long t :: .ref r :: .ref (bx k) :: rest)) :=
  (ct_B_open l D tys ad (bx k) sz dr si td un it ly ln lt cd r t).pool (As := [.ref r, .long t]) mi_B_open mv_B_open rfl C kw_183 hR h hk1 hk2 (va_up_self _ _ _) hK hC hA hls rfl hsum hdg hcs (e1 := bc sz r t 0 un it ly ln lt cd) (fun w hp => hp) (fun H1 locs1 _ z => kk H1 locs1 (by rw [bx_uu] at z; exact z))
theorem clF_B_empty (C : CallFix p m c cc nL s args wG R_X) (h : ST D A (X ++ pl n bx (va_up E k (bc sz dr si td un it ly ln lt cd))) s.heap H locs) (hk1 : 1 ≤ k) (hk2 : k ≤ n) (hK : va_K D classes tys s) (hC : CX (some ad) A s s.heap) (hA : ∀ q : Nat, s.heap.size ≤ q → A q) (hR : 0 + 1 ≤ R.frames ∧ 8 + (1 + 11) + 40 * 0 ≤ R.locals) (hls : ls.size = nL) (hsum : (rest.map fun v => v.category).sum ≤ 8) (hdg : decode cc pc = .ok (.invokevirtual 132, 3)) (hcs : cells ≤ R.cells ∧ slots ≤ R.slots) (kk : ∀ (H1 : Heap) (locs1 : List Loc), ST D A (X ++ pl n bx (va_up E k (bc sz dr si td un 0 0 ln 0 (-1)))) s.heap H1 locs1 → W p l e R s m args below meth c H1 locs1 cells slots Q (F0 m (pc + 3) ls rest)) : W p l e R s m args below meth c H locs cells slots Q (F0 m pc ls (.ref (bx k) :: rest)) :=
  (ct_B_empty l D tys ad (bx k) sz dr si td un it ly ln lt cd).pool (As := []) mi_B_empty mv_B_empty rfl C kw_179 hR h hk1 hk2 (va_up_self _ _ _) hK hC hA hls rfl hsum hdg hcs (e1 := bc sz dr si td un 0 0 ln 0 (-1)) (fun w hp => hp) (fun H1 locs1 _ z => kk H1 locs1 (by rw [bx_uu] at z; exact z))
theorem clN_B_pass (C : CallFix p m c cc nL s args wG R_X) (h : ST D A (X ++ pl n bx E) s.heap H locs) (hk1 : 1 ≤ k) (hk2 : k ≤ n) {d : Nat} (hd : d < 4) (hE : E k = bc sz (ad d) si td un it ly ln lt cd) (hK : va_K D classes tys s) (hC : CX (some ad) A s s.heap) (hA : ∀ q : Nat, s.heap.size ≤ q → A q) {t : Int64} (hR : 1 + 1 ≤ R.frames ∧ 8 + (4 + 11) + 40 * 1 ≤ R.locals) (hls : ls.size = nL) (hsum : (rest.map fun v => v.category).sum ≤ 8) (hdg : decode cc pc = .ok (.invokevirtual 49, 3)) (hcs : cells ≤ R.cells ∧ slots ≤ R.slots) (kk : ∀ (H1 : Heap) (locs1 : List Loc), ST D A (X ++ pl n bx (va_up E k (bc sz (ad d) si (if ((d = 1 ∨ d = 2) ∧ td = 0 ∧ 120 ≤ t - si) then 1 else td) un it ly ln (if (¬ ly = 0 ∧ lt = 0 ∧ 604800 ≤ t - ln) then 1 else lt) cd))) s.heap H1 locs1 → W p l e R s m args below meth c H1 locs1 cells slots Q (F0 m (pc + 3) ls (.int ((if ((d = 1 ∨ d = 2) ∧ td = 0 ∧ 120 ≤ t - si) then 1 else 0) + (if (¬ ly = 0 ∧ lt = 0 ∧ 604800 ≤ t - ln) then 1 else 0)) :: rest))) : W p l e R s m args below meth c H locs cells slots Q (F0 m pc ls (.long t :: .ref (bx k) :: rest)) :=
  (ct_B_pass l D tys ad (bx k) sz d si td un it ly ln lt cd hd t).pool (As := [.long t]) mi_B_pass mv_B_pass rfl C kw_139 hR h hk1 hk2 hE hK hC hA hls rfl hsum hdg hcs (e1 := fun _ => bc sz (ad d) si (if ((d = 1 ∨ d = 2) ∧ td = 0 ∧ 120 ≤ t - si) then 1 else td) un it ly ln (if (¬ ly = 0 ∧ lt = 0 ∧ 604800 ≤ t - ln) then 1 else lt) cd) (fun r w hp => hp.2) (fun r H1 locs1 hw z => by obtain ⟨w, hw⟩ := hw; rw [hw.1]; exact kk H1 locs1 z)
end POOL
end
section
/-! ===== pure rows for the component's worlds ===== -/
theorem dr_ix {x : Int32} (h : ∃ d : Nat, d < 4 ∧ x = nI d) : x.toNatClampNeg < 4 ∧ ∀ i : Nat, i < 4 → (x.toNatClampNeg = i ↔ x = nI i) := by
  obtain ⟨d, hd, rfl⟩ := h
  rw [nI_clamp (by omega)]
  exact ⟨hd, fun i hi => (nI_eq (by omega) (by omega)).symm⟩
theorem liB_z {c : Int32} : liB c = 0 ↔ c < 0 := by
  unfold liB
  split
  next h => exact ⟨fun _ => h, fun _ => rfl⟩
  next h => exact ⟨fun z => absurd z (by decide), fun z => absurd z h⟩
section PX
variable {g : Nat → Nat} {cQ cI : ClassId} {ad bx : Nat → Nat} {T : SS} {t : Int64} {k : Nat}
theorem WX_ps1a (hc : 0 < T.2.1 2 k ∧ T.2.1 2 k ≤ t) (hf : ¬ T.2.2 2 < 100) : wX g cQ cI (nI (T.2.2 0)) (nI (T.2.2 1)) (T.2.1 3 0) (T.1 8 0) (nI (T.2.2 3)) (T.2.1 3 1) (nI (T.2.2 2)) (bq (T.2.2 0) bx) (T.1 6) (T.1 7) ++ pl (T.2.2 0) bx (va_up (bxE ad T) k (bc (T.1 0 k) (ad (T.1 1 k).toNatClampNeg) (T.2.1 0 k) (T.1 2 k) 0 (T.1 3 k) (liB (T.1 4 k)) (T.2.1 1 k) (T.1 5 k) (T.1 4 k))) = WX g cQ cI ad bx (ps1 T t k) := by
  rw [ps1, if_pos hc, if_neg hf]
  refine WX_eq rfl rfl rfl rfl rfl rfl rfl rfl rfl rfl rfl (bx_upd (fun j hj => ?_) ?_)
  · simp [bxE, sL, va_up, vp_updL, hj]
  · simp [bxE, sL, va_up, vp_updL]
theorem WX_ps1b (hc : 0 < T.2.1 2 k ∧ T.2.1 2 k ≤ t) (hf : T.2.2 2 < 100) : wX g cQ cI (nI (T.2.2 0)) (nI (T.2.2 1)) (T.2.1 3 0) (T.1 8 0) (nI (T.2.2 3)) (T.2.1 3 1) (nI (T.2.2 2 + 1)) (bq (T.2.2 0) bx) (T.1 6) (upd (T.1 7) (T.2.2 2) (nI k)) ++ pl (T.2.2 0) bx (va_up (bxE ad T) k (bc (T.1 0 k) (ad (T.1 1 k).toNatClampNeg) (T.2.1 0 k) (T.1 2 k) 0 (T.1 3 k) (liB (T.1 4 k)) (T.2.1 1 k) (T.1 5 k) (T.1 4 k))) = WX g cQ cI ad bx (ps1 T t k) := by
  rw [ps1, if_pos hc, if_pos hf]
  refine WX_eq rfl rfl rfl rfl rfl rfl rfl rfl rfl rfl rfl (bx_upd (fun j hj => ?_) ?_)
  · simp [bxE, sN, sI, sL, va_up, vp_updL, upd, hj]
  · simp [bxE, sN, sI, sL, va_up, vp_updL, upd]
theorem WX_ps23 (hd : ∃ d : Nat, d < 4 ∧ T.1 1 k = nI d) : wX g cQ cI (nI (T.2.2 0)) (nI (T.2.2 1)) (T.2.1 3 0) (T.1 8 0 + ((if (((T.1 1 k).toNatClampNeg = 1 ∨ (T.1 1 k).toNatClampNeg = 2) ∧ T.1 2 k = 0 ∧ 120 ≤ t - T.2.1 0 k) then 1 else 0) + (if (¬ liB (T.1 4 k) = 0 ∧ T.1 5 k = 0 ∧ 604800 ≤ t - T.2.1 1 k) then 1 else 0))) (nI (T.2.2 3)) (T.2.1 3 1) (nI (T.2.2 2)) (bq (T.2.2 0) bx) (T.1 6) (T.1 7) ++ pl (T.2.2 0) bx (va_up (bxE ad T) k (bc (T.1 0 k) (ad (T.1 1 k).toNatClampNeg) (T.2.1 0 k) (if (((T.1 1 k).toNatClampNeg = 1 ∨ (T.1 1 k).toNatClampNeg = 2) ∧ T.1 2 k = 0 ∧ 120 ≤ t - T.2.1 0 k) then 1 else (T.1 2 k)) (T.2.1 2 k) (T.1 3 k) (liB (T.1 4 k)) (T.2.1 1 k) (if (¬ liB (T.1 4 k) = 0 ∧ T.1 5 k = 0 ∧ 604800 ≤ t - T.2.1 1 k) then 1 else (T.1 5 k)) (T.1 4 k))) = WX g cQ cI ad bx (ps3 (ps2 T t k) t k) := by
  obtain ⟨-, hi⟩ := dr_ix hd
  have e2 : (((T.1 1 k).toNatClampNeg = 1 ∨ (T.1 1 k).toNatClampNeg = 2) ∧ T.1 2 k = 0 ∧ 120 ≤ t - T.2.1 0 k) ↔ ((T.1 1 k = 1 ∨ T.1 1 k = 2) ∧ T.1 2 k = 0 ∧ 120 ≤ t - T.2.1 0 k) := by
    rw [hi 1 (by decide), hi 2 (by decide)]
    exact Iff.rfl
  have e3 : (¬ liB (T.1 4 k) = 0 ∧ T.1 5 k = 0 ∧ 604800 ≤ t - T.2.1 1 k) ↔ (0 ≤ T.1 4 k ∧ T.1 5 k = 0 ∧ 604800 ≤ t - T.2.1 1 k) := by
    rw [liB_z, Int32.not_lt]
  by_cases h2 : ((T.1 1 k = 1 ∨ T.1 1 k = 2) ∧ T.1 2 k = 0 ∧ 120 ≤ t - T.2.1 0 k) <;> by_cases h3 : (0 ≤ T.1 4 k ∧ T.1 5 k = 0 ∧ 604800 ≤ t - T.2.1 1 k)
  · have es : ps3 (ps2 T t k) t k = sI (sI (sI (sI T 2 k 1) 8 0 (T.1 8 0 + 1)) 5 k 1) 8 0 (T.1 8 0 + 1 + 1) := by
      rw [ps2, if_pos h2]
      refine (if_pos h3).trans ?_
      simp [sI, va_up, upd]
    rw [es, if_pos (e2.mpr h2), if_pos (e3.mpr h3), if_pos (e2.mpr h2), if_pos (e3.mpr h3)]
    refine WX_eq rfl rfl rfl ?_ rfl rfl rfl rfl rfl rfl rfl (bx_upd (fun j hj => ?_) ?_)
    · simp [sI, va_up, upd, Int32.add_assoc]
    · simp [bxE, sI, va_up, upd, hj]
    · simp [bxE, sI, va_up, upd]
  · have es : ps3 (ps2 T t k) t k = sI (sI T 2 k 1) 8 0 (T.1 8 0 + 1) := by
      rw [ps2, if_pos h2]
      exact if_neg h3
    rw [es, if_pos (e2.mpr h2), if_neg (fun z => h3 (e3.mp z)), if_pos (e2.mpr h2), if_neg (fun z => h3 (e3.mp z))]
    refine WX_eq rfl rfl rfl ?_ rfl rfl rfl rfl rfl rfl rfl (bx_upd (fun j hj => ?_) ?_)
    · simp [sI, va_up, upd]
    · simp [bxE, sI, va_up, upd, hj]
    · simp [bxE, sI, va_up, upd]
  · have es : ps3 (ps2 T t k) t k = sI (sI T 5 k 1) 8 0 (T.1 8 0 + 1) := by
      rw [ps2, if_neg h2, ps3, if_pos h3]
    rw [es, if_neg (fun z => h2 (e2.mp z)), if_pos (e3.mpr h3), if_neg (fun z => h2 (e2.mp z)), if_pos (e3.mpr h3)]
    refine WX_eq rfl rfl rfl ?_ rfl rfl rfl rfl rfl rfl rfl (bx_upd (fun j hj => ?_) ?_)
    · simp [sI, va_up, upd]
    · simp [bxE, sI, va_up, upd, hj]
    · simp [bxE, sI, va_up, upd]
  · have es : ps3 (ps2 T t k) t k = T := by
      rw [ps2, if_neg h2, ps3, if_neg h3]
    rw [es, if_neg (fun z => h2 (e2.mp z)), if_neg (fun z => h3 (e3.mp z)), if_neg (fun z => h2 (e2.mp z)), if_neg (fun z => h3 (e3.mp z))]
    refine WX_eq rfl rfl rfl ?_ rfl rfl rfl rfl rfl rfl rfl (bx_upd (fun j hj => rfl) rfl)
    simp
end PX
end
section
/-! ===== the component: time passes: printed by gen/xpass.py ===== -/
set_option maxHeartbeats 4000000 in
set_option maxRecDepth 100000 in
theorem ct_X_pass (l : Launch) (D : va_G) (g : Nat → Nat) (cQ cI : ClassId) (ad bx : Nat → Nat) (S : SS) (c0 : Nat) (hI : Inv c0 S) (t : Int64) (ht : gdT S t) : MOv l y_X_pass b_X_pass 5 2 0 0 [.ref (g 0), .long t] D (tyX cQ cI) (WX g cQ cI ad bx S) (some ad) (fun w => w = WX g cQ cI ad bx (oPass S t)) := by
  refine MOv.mk mi_X_pass (Nat.le_of_ble_eq_true rfl) ?_
  intro p e s m below meth c ls A C hr hlk hin hK hC hA h hl
  have hx := C.1
  have hb := C.2.1
  have hN := hC.nw
  have h : ST D A (wX g cQ cI (nI (S.2.2 0)) (nI (S.2.2 1)) (S.2.1 3 0) (S.1 8 0) (nI (S.2.2 3)) (S.2.1 3 1) (nI (S.2.2 2)) (bq (S.2.2 0) bx) (S.1 6) (S.1 7) ++ pl (S.2.2 0) bx (bxE ad S)) s.heap s.heap [] := h
  have hl : lv_has ls 5 [(0, .ref (g 0)), (1, .long t)] := hl
  have hn60 := hI.n
  have loop : ∀ (r j : Nat), j + r = S.2.2 0 → ∀ (H : Heap) (locs : List Loc), ST D A (WX g cQ cI ad bx (psN S t j)) s.heap H locs → ∀ ls : Array Slot, lv_has ls 5 [(3, .int (nI (j + 1))), (0, .ref (g 0)), (1, .long t)] → W p l e (rmOf 2 0 0) s m [Value.ref (g 0), .long t].toArray below meth c H locs 0 0 (MQ below (va_Qv (fun w => w = WX g cQ cI ad bx (oPass S t)) (PB D A) A) [Value.ref (g 0), .long t].toArray s 0 0 A) (F0 m 7 ls []) := by
    intro r
    induction r with
    | zero =>
      intro j hj H locs h ls hl
      have hTn := psN_n S t j
      have hfin : psN S t j = oPass S t := by rw [oPass, ← hj]; rfl
      generalize psN S t j = T at h hTn hfin
      have h : ST D A (wX g cQ cI (nI (T.2.2 0)) (nI (T.2.2 1)) (T.2.1 3 0) (T.1 8 0) (nI (T.2.2 3)) (T.2.1 3 1) (nI (T.2.2 2)) (bq (T.2.2 0) bx) (T.1 6) (T.1 7) ++ pl (T.2.2 0) bx (bxE ad T)) s.heap H locs := h
      refine lv_iload_n hx hb de_X_pass_7 rfl (lv_at hl 0 rfl) ?_
      refine lv_aload_n hx hb de_X_pass_8 rfl (lv_at hl 1 rfl) ?_
      refine gX_count C hK h.1 de_X_pass_9 ?_
      refine lv_icmp_gt (tgt := 97) hx hb de_X_pass_12 (by decide) (fun c_12 => ?_) (fun c_12 => ?_)
      · exact MOv.fin hx hb hr hlk h (by rw [← hfin]; rfl) de_X_pass_97
      · exact absurd (nI_lt (show T.2.2 0 < j + 1 by omega) (by omega)) c_12
    | succ r ih =>
      intro j hj H locs h ls hl
      have hTn := psN_n S t j
      have hTI := inv_psN hI ht j (by omega)
      have hstep : psN S t (j + 1) = psK (psN S t j) t (j + 1) := rfl
      generalize psN S t j = T at h hTn hTI hstep
      have hk1 : 1 ≤ j + 1 := by omega
      have hk2 : j + 1 ≤ T.2.2 0 := by omega
      have J76 : ∀ (H : Heap) (locs : List Loc), ST D A (WX g cQ cI ad bx (ps1 T t (j + 1))) s.heap H locs → ∀ ls : Array Slot, lv_has ls 5 [(4, .ref (bx (j + 1))), (3, .int (nI (j + 1))), (0, .ref (g 0)), (1, .long t)] → W p l e (rmOf 2 0 0) s m [Value.ref (g 0), .long t].toArray below meth c H locs 0 0 (MQ below (va_Qv (fun w => w = WX g cQ cI ad bx (oPass S t)) (PB D A) A) [Value.ref (g 0), .long t].toArray s 0 0 A) (F0 m 76 ls []) := by
        intro H locs h ls hl
        have hT1 := inv_ps1 t hTI hk1 hk2
        have hT1n := ps1_n T t (j + 1)
        have hstep1 : psN S t (j + 1) = ps3 (ps2 (ps1 T t (j + 1)) t (j + 1)) t (j + 1) := hstep
        generalize ps1 T t (j + 1) = T1 at h hT1 hT1n hstep1
        have hk2 : j + 1 ≤ T1.2.2 0 := by omega
        have hdr := (hT1.ok hk1 hk2).1
        have h : ST D A (wX g cQ cI (nI (T1.2.2 0)) (nI (T1.2.2 1)) (T1.2.1 3 0) (T1.1 8 0) (nI (T1.2.2 3)) (T1.2.1 3 1) (nI (T1.2.2 2)) (bq (T1.2.2 0) bx) (T1.1 6) (T1.1 7) ++ pl (T1.2.2 0) bx (bxE ad T1)) s.heap H locs := h
        refine lv_aload_n hx hb de_X_pass_76 rfl (lv_at hl 2 rfl) ?_
        refine lv_dup hx hb de_X_pass_77 rfl ?_
        refine gX_alarms C hK h.1 de_X_pass_78 ?_
        refine lv_aload hx hb de_X_pass_81 (lv_at hl 0 rfl) ?_
        refine lv_lload_n hx hb de_X_pass_83 rfl (lv_at hl 3 rfl) ?_
        refine clN_B_pass C h hk1 hk2 (dr_ix hdr).1 rfl hK hC hA ⟨Nat.le_of_ble_eq_true rfl, Nat.le_of_ble_eq_true rfl⟩ hl.1 (Nat.le_of_ble_eq_true rfl) de_X_pass_84 ⟨Nat.le_of_ble_eq_true rfl, Nat.le_of_ble_eq_true rfl⟩ (fun H locs h => ?_)
        refine lv_iadd hx hb de_X_pass_87 ?_
        refine pX_alarms C hK h de_X_pass_88 (fun H locs h => ?_)
        refine lv_iinc (v := (nI ((j + 1) + 1))) (lv' := [(3, .int (nI ((j + 1) + 1))), (4, .ref (bx (j + 1))), (0, .ref (g 0)), (1, .long t)]) hx hb de_X_pass_91 hl (k := 1) rfl (inc_nI _) (by decide) rfl (fun ls hl => ?_)
        refine lv_goto (tgt := 7) hx hb de_X_pass_94 (by decide) ?_
        have h : ST D A (WX g cQ cI ad bx (psN S t (j + 1))) s.heap H locs := by
          rw [hstep1, ← WX_ps23 hdr]
          exact h
        exact ih (j + 1) (by omega) H locs h ls (lv_sub hl [0, 2, 3] rfl)
      have h : ST D A (wX g cQ cI (nI (T.2.2 0)) (nI (T.2.2 1)) (T.2.1 3 0) (T.1 8 0) (nI (T.2.2 3)) (T.2.1 3 1) (nI (T.2.2 2)) (bq (T.2.2 0) bx) (T.1 6) (T.1 7) ++ pl (T.2.2 0) bx (bxE ad T)) s.heap H locs := h
      refine lv_iload_n hx hb de_X_pass_7 rfl (lv_at hl 0 rfl) ?_
      refine lv_aload_n hx hb de_X_pass_8 rfl (lv_at hl 1 rfl) ?_
      refine gX_count C hK h.1 de_X_pass_9 ?_
      refine lv_icmp_gt (tgt := 97) hx hb de_X_pass_12 (by decide) (fun c_12 => ?_) (fun c_12 => ?_)
      · exact absurd c_12 (nI_nlt (by omega) (by omega))
      · refine lv_aload_n hx hb de_X_pass_15 rfl (lv_at hl 1 rfl) ?_
        refine gX_boxes C hK h.1 de_X_pass_16 ?_
        refine lv_iload_n hx hb de_X_pass_19 rfl (lv_at hl 0 rfl) ?_
        refine rX_boxes hx hb hK h.1 (ix_nI (by omega) (by decide)) (bq_get hk1 hk2) de_X_pass_20 ?_
        refine lv_astore (lv' := [(4, .ref (bx (j + 1))), (3, .int (nI (j + 1))), (0, .ref (g 0)), (1, .long t)]) hx hb de_X_pass_21 hl (by decide) rfl (fun ls hl => ?_)
        refine lv_aload hx hb de_X_pass_23 (lv_at hl 0 rfl) ?_
        refine clX_B_isKept C (h.1.one (pl_get hk1 hk2)) hK hC h.2.2 ⟨Nat.le_of_ble_eq_true rfl, Nat.le_of_ble_eq_true rfl⟩ hl.1 (Nat.le_of_ble_eq_true rfl) de_X_pass_25 ⟨Nat.le_of_ble_eq_true rfl, Nat.le_of_ble_eq_true rfl⟩ (fun c_25 => ?_) (fun c_25 => ?_)
        · refine lv_if_eq (tgt := 76) hx hb de_X_pass_28 (by decide) (fun z => absurd z (by decide)) (fun _ => ?_)
          refine lv_aload hx hb de_X_pass_31 (lv_at hl 0 rfl) ?_
          refine gN_until C hN hK h.1 hk1 hk2 rfl de_X_pass_33 ?_
          refine lv_lload_n hx hb de_X_pass_36 rfl (lv_at hl 3 rfl) ?_
          refine zl_gt (tgt := 76) hx hb de_X_pass_37 de_X_pass_38 (by decide) (fun c_38 => ?_) (fun c_38 => ?_)
          · exact J76 H locs (by rw [ps1, if_neg (fun z => absurd z.2 (Int64.not_le.mpr c_38))]; exact h) ls (lv_sub hl [0, 1, 2, 3] rfl)
          · refine lv_aload hx hb de_X_pass_41 (lv_at hl 0 rfl) ?_
            refine lv_lconst (v := 0) hx hb de_X_pass_43 (by decide) ?_
            refine pN_until C hN hK h hk1 hk2 rfl de_X_pass_44 (fun H locs h => ?_)
            refine lv_aload_n hx hb de_X_pass_47 rfl (lv_at hl 2 rfl) ?_
            refine gX_freedCount C hK h.1 de_X_pass_48 ?_
            refine lv_aload_n hx hb de_X_pass_51 rfl (lv_at hl 2 rfl) ?_
            refine gX_freed C hK h.1 de_X_pass_52 ?_
            refine lX_freed hx hb hK h.1 de_X_pass_55 ?_
            refine lv_icmp_ge (tgt := 76) hx hb de_X_pass_56 (by decide) (fun c_56 => ?_) (fun c_56 => ?_)
            · exact J76 H locs (by rw [← WX_ps1a ⟨c_25, Int64.not_lt.mp c_38⟩ (fun z => absurd c_56 (nI_ge z (by decide)))]; exact h) ls (lv_sub hl [0, 1, 2, 3] rfl)
            · have hnf : T.2.2 2 < 100 := Nat.lt_of_not_le (fun z => c_56 (nI_le z (by have := hTI.nf; omega)))
              refine lv_aload_n hx hb de_X_pass_59 rfl (lv_at hl 2 rfl) ?_
              refine gX_freed C hK h.1 de_X_pass_60 ?_
              refine lv_aload_n hx hb de_X_pass_63 rfl (lv_at hl 2 rfl) ?_
              refine lv_dup hx hb de_X_pass_64 rfl ?_
              refine gX_freedCount C hK h.1 de_X_pass_65 ?_
              refine lv_dup_x1 hx hb de_X_pass_68 rfl rfl ?_
              refine lv_iconst (v := 1) hx hb de_X_pass_69 (by decide) ?_
              refine lv_iadd hx hb de_X_pass_70 ?_
              refine zi_top (nI_1 _) ?_
              refine pX_freedCount C hK h de_X_pass_71 (fun H locs h => ?_)
              refine lv_iload_n hx hb de_X_pass_74 rfl (lv_at hl 1 rfl) ?_
              refine sX_freed hx hb hK h (ix_nI (by omega) (by decide)) de_X_pass_75 (fun H locs h => ?_)
              exact J76 H locs (by rw [← WX_ps1b ⟨c_25, Int64.not_lt.mp c_38⟩ (Nat.lt_of_not_le (fun z => c_56 (nI_le z (by omega))))]; exact h) ls (lv_sub hl [0, 1, 2, 3] rfl)
        · refine lv_if_eq (tgt := 76) hx hb de_X_pass_28 (by decide) (fun _ => ?_) (fun z => absurd z (by decide))
          exact J76 H locs (by rw [ps1, if_neg (fun z => c_25 z.1)]; exact h) ls (lv_sub hl [0, 1, 2, 3] rfl)
  refine lv_aload_n hx hb de_X_pass_0 rfl (lv_at hl 0 rfl) ?_
  refine lv_lload_n hx hb de_X_pass_1 rfl (lv_at hl 1 rfl) ?_
  refine pX_now C hK h de_X_pass_2 (fun H locs h => ?_)
  refine lv_iconst (v := 1) hx hb de_X_pass_5 (by decide) ?_
  refine zi_top (rfl) ?_
  refine lv_istore_n (lv' := [(3, .int (nI (0 + 1))), (0, .ref (g 0)), (1, .long t)]) hx hb de_X_pass_6 rfl hl (by decide) rfl (fun ls hl => ?_)
  exact loop (S.2.2 0) 0 (Nat.zero_add _) _ _ h ls hl
section CLXP
variable {p : Program} {l : Launch} {e : Env} {R : Room} {s : State} {m : MethodId} {args : Array Value} {below : List Frame} {meth : Method} {c : Code} {H : Heap} {locs : List Loc} {cells slots : Nat} {Q : State → Prop}
variable {cc : ByteArray} {pc nL : Nat} {ls : Array Slot} {rest : List Value} {own : String} {D : va_G} {tys : List (ClassId × FieldType)} {A : Nat → Prop} {ad bx g : Nat → Nat} {cQ cI : ClassId} {S : SS}
theorem cl_X_pass (C : CallFix p m c cc nL s args wG R_X) {c0 : Nat} (hI : Inv c0 S) {t : Int64} (ht : gdT S t) (h : ST D A (WX g cQ cI ad bx S) s.heap H locs) (hK : va_K D classes (tyX cQ cI) s) (hC : CX (some ad) A s s.heap) (hA : ∀ q : Nat, s.heap.size ≤ q → A q) (hR : 2 + 1 ≤ R.frames ∧ 8 + (5 + 11) + 40 * 2 ≤ R.locals) (hls : ls.size = nL) (hsum : (rest.map fun v => v.category).sum ≤ 8) (hdg : decode cc pc = .ok (.invokevirtual 82, 3)) (hcs : cells ≤ R.cells ∧ slots ≤ R.slots) (kk : ∀ (H1 : Heap) (locs1 : List Loc), ST D A (WX g cQ cI ad bx (oPass S t)) s.heap H1 locs1 → W p l e R s m args below meth c H1 locs1 cells slots Q (F0 m (pc + 3) ls rest)) : W p l e R s m args below meth c H locs cells slots Q (F0 m pc ls (.long t :: .ref (g 0) :: rest)) :=
  (ct_X_pass l D g cQ cI ad bx S c0 hI t ht).core (As := [.long t]) mi_X_pass mv_X_pass C kw_134 hR h.1 h.2.1 hK hC h.2.2 hA (q0 := 0) rfl rfl hls rfl hsum hdg hcs (fun w H1 locs1 hp hP1 hD1 _ hS1 => kk H1 locs1 (by rw [hp] at hP1 hD1; exact h.all (sub_A h.2.1 h.2.2 hA) hP1 hD1 hS1))
end CLXP
end
section
/-! ===== more pure rows ===== -/
theorem ix_of {i : Int32} {n N : Nat} (h0 : ¬ i < 0) (h : ¬ nI n ≤ i) (hn : n ≤ N) (hN : N < 2 ^ 31) : ix i i.toNatClampNeg N := by
  obtain ⟨j, hj, rfl⟩ := nI_of h0
  refine ⟨h0, rfl, ?_⟩
  rw [nI_clamp hj]
  have : j < n := Nat.lt_of_not_le (fun z => h (nI_le z hj))
  omega
theorem gdB_ix {S : SS} {b : Int32} (h : gdB S b) (hn : S.2.2 0 ≤ 60) : ∃ k : Nat, b.toNatClampNeg = k ∧ ix b k 61 ∧ 1 ≤ k ∧ k ≤ S.2.2 0 ∧ b = nI k := by
  obtain ⟨h1, h2⟩ := h
  rw [Int64.le_iff_toInt_le, Int32.toInt_toInt64] at h1 h2
  rw [Int32.toInt_toInt64, nI_toInt (by omega)] at h2
  have h3 : (1 : Int64).toInt = 1 := by decide
  rw [h3] at h1
  have h0 : ¬ b < 0 := by
    rw [Int32.lt_iff_toInt_lt]
    have : (0 : Int32).toInt = 0 := by decide
    omega
  obtain ⟨j, hj, rfl⟩ := nI_of h0
  rw [nI_toInt hj] at h1 h2
  exact ⟨j, nI_clamp hj, ix_nI (by omega) (by decide), by omega, by omega, rfl⟩
theorem lastIx_le (f : Nat → Int32) (v : Int32) : ∀ n, lastIx f v n ≤ n
  | 0 => Nat.le_refl 0
  | n + 1 => by
    unfold lastIx
    split
    · omega
    · have := lastIx_le f v n
      omega
theorem lastIx_at {f : Nat → Int32} {v : Int32} : ∀ {n}, ¬ lastIx f v n = 0 → f (lastIx f v n) = v
  | 0, h => absurd rfl h
  | n + 1, h => by
    unfold lastIx at h ⊢
    split
    next hc => exact hc
    next hc =>
      rw [if_neg hc] at h
      exact lastIx_at h
theorem lastIx_no {f : Nat → Int32} {v : Int32} : ∀ {n}, lastIx f v n = 0 → ∀ k, 1 ≤ k → k ≤ n → ¬ f k = v
  | 0, _, k, h1, h2 => by omega
  | n + 1, h, k, h1, h2 => by
    unfold lastIx at h
    split at h
    · omega
    next hc =>
      by_cases hk : k = n + 1
      · rw [hk]; exact hc
      · exact lastIx_no h k h1 (by omega)
theorem tm1 {x u : Int64} (h0 : 0 ≤ x) (h1 : x ≤ 2000000000) : (x + 1 ≤ u) ↔ x < u := by
  rw [Int64.le_iff_toInt_le] at h0 h1
  rw [Int64.le_iff_toInt_le, Int64.lt_iff_toInt_lt]
  have e0 : (0 : Int64).toInt = 0 := by decide
  have e1 : (2000000000 : Int64).toInt = 2000000000 := by decide
  have e2 : (x + 1).toInt = x.toInt + 1 := by
    rw [Int64.toInt_add]
    have : (1 : Int64).toInt = 1 := by decide
    rw [this]
    exact Int.bmod_eq_of_le (by omega) (by omega)
  rw [e2]
  omega
theorem bq_push {n : Nat} {bx : Nat → Nat} {q : Nat} : va_up (bq n bx) (n + 1) (some q) = bq (n + 1) (va_up bx (n + 1) q) := by
  funext k
  unfold bq va_up
  by_cases hk : k = n + 1
  · subst hk
    simp
  · rw [if_neg hk]
    dsimp only
    by_cases h1 : 1 ≤ k ∧ k ≤ n
    · rw [if_pos h1, if_pos ⟨h1.1, by omega⟩, if_neg hk]
    · rw [if_neg h1, if_neg (by omega)]
theorem drawI_le (S : SS) : ∀ f a, drawI S a f ≤ a + f
  | 0, a => Nat.le_refl a
  | f + 1, a => by
    unfold drawI
    split
    · omega
    · have := drawI_le S f (a + 1)
      omega
theorem drawA_le (S : SS) : drawA S ≤ S.2.2 1 := by
  have := drawI_le S (S.2.2 1) 0
  rw [drawA]
  omega
theorem kp_free {x : Int64} (h : 0 ≤ x) : (¬ 0 < x) ↔ x = 0 := by
  rw [Int64.not_lt]
  constructor
  · intro z
    exact Int64.le_antisymm z h
  · intro z
    rw [z]
    decide
theorem it_pos {x : Int32} (h : 0 ≤ x) : (0 < x) ↔ ¬ x = 0 := by
  constructor
  · intro z e
    rw [e] at z
    exact absurd z (by decide)
  · intro z
    exact Int32.lt_of_le_of_ne h (fun e => z e.symm)
end
section
/-! ===== the component: the simple operations: printed by gen/xops1.py ===== -/
theorem upd_id {f : Nat → Int32} {k : Nat} {v : Int32} (h : f k = v) : upd f k v = f := by
  funext j
  unfold upd
  split
  next e => rw [e, h]
  · rfl
theorem va_up_id {α : Type} {f : Nat → α} {k : Nat} {v : α} (h : f k = v) : va_up f k v = f := by
  funext j
  unfold va_up
  split
  next e => rw [e, h]
  · rfl
theorem sI_id {S : SS} {f k : Nat} {v : Int32} (h : S.1 f k = v) : sI S f k v = S := by
  unfold sI
  rw [upd_id h, va_up_id rfl]
theorem pOut_id {S : SS} {k : Nat} (h : okB S k) (h0 : S.1 3 k = 0) : pOut S k = S := by
  obtain ⟨-, -, -, -, h5, h6⟩ := h
  have h4 := h5 h0
  have hl := h6 (by rw [h4]; decide)
  unfold pOut
  rw [sI_id h0, sI_id h4, sI_id hl]
set_option maxHeartbeats 4000000 in
set_option maxRecDepth 100000 in
theorem ct_X_freed (l : Launch) (D : va_G) (g : Nat → Nat) (cQ cI : ClassId) (ad bx : Nat → Nat) (S : SS) (c0 : Nat) (hI : Inv c0 S) (i : Int32) : RO l y_X_freed b_X_freed 2 .int 0 [.ref (g 0), .int i] (PR D (tyX cQ cI) (WX g cQ cI ad bx S) (some ad)) (fun r => r = (oFreed S i).1) := by
  refine RO.mk mi_X_freed (Nat.le_of_ble_eq_true rfl) ?_
  intro p e s m below meth c ls C hr hlk hpre hl
  have hx := C.1
  have hb := C.2.1
  obtain ⟨hP, hK, hC⟩ := hpre
  have hN := hC.nw
  have hP : va_P D classes (wX g cQ cI (nI (S.2.2 0)) (nI (S.2.2 1)) (S.2.1 3 0) (S.1 8 0) (nI (S.2.2 3)) (S.2.1 3 1) (nI (S.2.2 2)) (bq (S.2.2 0) bx) (S.1 6) (S.1 7) ++ pl (S.2.2 0) bx (bxE ad S)) s.heap := hP
  have hl : lv_has ls 2 [(0, .ref (g 0)), (1, .int i)] := hl
  refine lv_iload_n hx hb de_X_freed_0 rfl (lv_at hl 1 rfl) ?_
  refine lv_if_lt (tgt := 21) hx hb de_X_freed_1 (by decide) (fun c_1 => ?_) (fun c_1 => ?_)
  · refine lv_iconst (v := 0) hx hb de_X_freed_21 (by decide) ?_
    exact RO.fin hx hb hr hlk rfl ((if_neg (fun z => absurd c_1 (Int32.not_lt.mpr z.1))).symm) de_X_freed_22
  · refine lv_iload_n hx hb de_X_freed_4 rfl (lv_at hl 1 rfl) ?_
    refine lv_aload_n hx hb de_X_freed_5 rfl (lv_at hl 0 rfl) ?_
    refine gX_freedCount C hK hP de_X_freed_6 ?_
    refine lv_icmp_ge (tgt := 21) hx hb de_X_freed_9 (by decide) (fun c_9 => ?_) (fun c_9 => ?_)
    · refine lv_iconst (v := 0) hx hb de_X_freed_21 (by decide) ?_
      exact RO.fin hx hb hr hlk rfl ((if_neg (fun z => absurd z.2 (Int32.not_lt.mpr c_9))).symm) de_X_freed_22
    · have hix := ix_of c_1 c_9 hI.nf (by decide)
      refine lv_aload_n hx hb de_X_freed_12 rfl (lv_at hl 0 rfl) ?_
      refine gX_freed C hK hP de_X_freed_13 ?_
      refine lv_iload_n hx hb de_X_freed_16 rfl (lv_at hl 1 rfl) ?_
      refine rX_freed hx hb hK hP hix de_X_freed_17 ?_
      refine lv_goto (tgt := 22) hx hb de_X_freed_18 (by decide) ?_
      exact RO.fin hx hb hr hlk rfl ((if_pos ⟨Int32.not_lt.mp c_1, Int32.not_le.mp c_9⟩).symm) de_X_freed_22
set_option maxHeartbeats 4000000 in
set_option maxRecDepth 100000 in
theorem ct_X_item (l : Launch) (D : va_G) (g : Nat → Nat) (cQ cI : ClassId) (ad bx : Nat → Nat) (S : SS) (c0 : Nat) (hI : Inv c0 S) (b : Int32) : RO l y_X_item b_X_item 3 .int 2 [.ref (g 0), .int b] (PR D (tyX cQ cI) (WX g cQ cI ad bx S) (some ad)) (fun r => r = (oItem S b).1) := by
  refine RO.mk mi_X_item (Nat.le_of_ble_eq_true rfl) ?_
  intro p e s m below meth c ls C hr hlk hpre hl
  have hx := C.1
  have hb := C.2.1
  obtain ⟨hP, hK, hC⟩ := hpre
  have hN := hC.nw
  have hP : va_P D classes (wX g cQ cI (nI (S.2.2 0)) (nI (S.2.2 1)) (S.2.1 3 0) (S.1 8 0) (nI (S.2.2 3)) (S.2.1 3 1) (nI (S.2.2 2)) (bq (S.2.2 0) bx) (S.1 6) (S.1 7) ++ pl (S.2.2 0) bx (bxE ad S)) s.heap := hP
  have hl : lv_has ls 3 [(0, .ref (g 0)), (1, .int b)] := hl
  refine lv_aload_n hx hb de_X_item_0 rfl (lv_at hl 0 rfl) ?_
  refine lv_iload_n hx hb de_X_item_1 rfl (lv_at hl 1 rfl) ?_
  refine cl_X_isBox C hP hK hC va_S.rf ⟨Nat.le_of_ble_eq_true rfl, Nat.le_of_ble_eq_true rfl⟩ hl.1 (Nat.le_of_ble_eq_true rfl) de_X_item_2 ⟨Nat.le_of_ble_eq_true rfl, Nat.le_of_ble_eq_true rfl⟩ (fun c_2 => ?_) (fun c_2 => ?_)
  · obtain ⟨kb, ekb, hbx, hk1, hk2, ebk⟩ := gdB_ix c_2 hI.n
    refine lv_if_ne (tgt := 11) hx hb de_X_item_5 (by decide) (fun _ => ?_) (fun z => absurd z (by decide))
    refine lv_aload_n hx hb de_X_item_11 rfl (lv_at hl 0 rfl) ?_
    refine gX_boxes C hK hP de_X_item_12 ?_
    refine lv_iload_n hx hb de_X_item_15 rfl (lv_at hl 1 rfl) ?_
    refine rX_boxes hx hb hK hP hbx (bq_get hk1 hk2) de_X_item_16 ?_
    refine lv_astore_n (lv' := [(2, .ref (bx kb)), (0, .ref (g 0)), (1, .int b)]) hx hb de_X_item_17 rfl hl (by decide) rfl (fun ls hl => ?_)
    refine lv_aload_n hx hb de_X_item_18 rfl (lv_at hl 0 rfl) ?_
    refine gN_late C hN hK hP hk1 hk2 rfl de_X_item_19 ?_
    refine lv_if_eq (tgt := 33) hx hb de_X_item_22 (by decide) (fun c_22 => ?_) (fun c_22 => ?_)
    · refine lv_aload_n hx hb de_X_item_33 rfl (lv_at hl 0 rfl) ?_
      refine gN_item C hN hK hP hk1 hk2 rfl de_X_item_34 ?_
      exact RO.fin hx hb hr hlk rfl (by rw [oItem, if_neg (fun z => z c_2), ekb, if_pos c_22]) de_X_item_37
    · refine lv_aload_n hx hb de_X_item_25 rfl (lv_at hl 0 rfl) ?_
      refine gN_item C hN hK hP hk1 hk2 rfl de_X_item_26 ?_
      refine lv_ineg hx hb de_X_item_29 ?_
      refine lv_goto (tgt := 37) hx hb de_X_item_30 (by decide) ?_
      exact RO.fin hx hb hr hlk rfl (by rw [oItem, if_neg (fun z => z c_2), ekb, if_neg c_22]) de_X_item_37
  · refine lv_if_ne (tgt := 11) hx hb de_X_item_5 (by decide) (fun z => absurd z (by decide)) (fun _ => ?_)
    refine lv_bipush (v := -11) hx hb de_X_item_8 (by decide) ?_
    exact RO.fin hx hb hr hlk rfl (by rw [oItem, if_pos c_2]) de_X_item_10
set_option maxHeartbeats 4000000 in
set_option maxRecDepth 100000 in
theorem ct_X_code (l : Launch) (D : va_G) (g : Nat → Nat) (cQ cI : ClassId) (ad bx : Nat → Nat) (S : SS) (c0 : Nat) (hI : Inv c0 S) (v : Int32) : RO l y_X_code b_X_code 3 .int 1 [.ref (g 0), .int v] (PR D (tyX cQ cI) (WX g cQ cI ad bx S) (some ad)) (fun r => r = (oCode S v).1) := by
  refine RO.mk mi_X_code (Nat.le_of_ble_eq_true rfl) ?_
  intro p e s m below meth c ls C hr hlk hpre hl
  have hx := C.1
  have hb := C.2.1
  obtain ⟨hP, hK, hC⟩ := hpre
  have hN := hC.nw
  have hP : va_P D classes (wX g cQ cI (nI (S.2.2 0)) (nI (S.2.2 1)) (S.2.1 3 0) (S.1 8 0) (nI (S.2.2 3)) (S.2.1 3 1) (nI (S.2.2 2)) (bq (S.2.2 0) bx) (S.1 6) (S.1 7) ++ pl (S.2.2 0) bx (bxE ad S)) s.heap := hP
  have hl : lv_has ls 3 [(0, .ref (g 0)), (1, .int v)] := hl
  refine lv_iload_n hx hb de_X_code_0 rfl (lv_at hl 1 rfl) ?_
  refine lv_i2l hx hb de_X_code_1 rfl ?_
  refine lv_lconst (v := 1) hx hb de_X_code_2 (by decide) ?_
  refine lv_ldc2 (v := 9999) hx hb C.2.2.2.1 (C.2.2.2.2 _ kw_129) de_X_code_3 ?_
  refine cl_X_isIn C ⟨Nat.le_of_ble_eq_true rfl, Nat.le_of_ble_eq_true rfl⟩ hl.1 (Nat.le_of_ble_eq_true rfl) de_X_code_6 ⟨Nat.le_of_ble_eq_true rfl, Nat.le_of_ble_eq_true rfl⟩ (fun c_6 => ?_) (fun c_6 => ?_)
  · refine lv_if_ne (tgt := 15) hx hb de_X_code_9 (by decide) (fun _ => ?_) (fun z => absurd z (by decide))
    refine lv_aload_n hx hb de_X_code_15 rfl (lv_at hl 0 rfl) ?_
    refine lv_iload_n hx hb de_X_code_16 rfl (lv_at hl 1 rfl) ?_
    refine cl_X_find C hI.n hP hK hC va_S.rf ⟨Nat.le_of_ble_eq_true rfl, Nat.le_of_ble_eq_true rfl⟩ hl.1 (Nat.le_of_ble_eq_true rfl) de_X_code_17 ⟨Nat.le_of_ble_eq_true rfl, Nat.le_of_ble_eq_true rfl⟩ ?_
    obtain ⟨L, eL, hL⟩ : ∃ L9 : Nat, lastIx (S.1 3) v (S.2.2 0) = L9 ∧ L9 ≤ S.2.2 0 := ⟨_, rfl, lastIx_le _ _ _⟩
    rw [eL]
    refine lv_istore_n (lv' := [(2, .int (nI L)), (0, .ref (g 0)), (1, .int v)]) hx hb de_X_code_20 rfl hl (by decide) rfl (fun ls hl => ?_)
    refine lv_iload_n hx hb de_X_code_21 rfl (lv_at hl 0 rfl) ?_
    refine lv_if_ne (tgt := 29) hx hb de_X_code_22 (by decide) (fun c_22 => ?_) (fun c_22 => ?_)
    · have hL0 : ¬ L = 0 := fun z => c_22 (by rw [z]; rfl)
      have hn60 := hI.n
      refine lv_aload_n hx hb de_X_code_29 rfl (lv_at hl 1 rfl) ?_
      refine gX_boxes C hK hP de_X_code_30 ?_
      refine lv_iload_n hx hb de_X_code_33 rfl (lv_at hl 0 rfl) ?_
      refine rX_boxes hx hb hK hP (ix_nI (by omega) (by decide)) (bq_get (by omega) hL) de_X_code_34 ?_
      refine gN_code C hN hK hP (by omega) hL rfl de_X_code_35 ?_
      exact RO.fin hx hb hr hlk rfl (by rw [oCode, if_neg (fun z => z c_6), eL, if_neg hL0]) de_X_code_38
    · refine lv_iconst (v := -1) hx hb de_X_code_25 (by decide) ?_
      refine lv_goto (tgt := 38) hx hb de_X_code_26 (by decide) ?_
      exact RO.fin hx hb hr hlk rfl (by rw [oCode, if_neg (fun z => z c_6), eL, if_pos ((nI_eq (b := 0) (by have := hI.n; omega) (by decide)).mp c_22)]) de_X_code_38
  · refine lv_if_ne (tgt := 15) hx hb de_X_code_9 (by decide) (fun z => absurd z (by decide)) (fun _ => ?_)
    refine lv_bipush (v := -12) hx hb de_X_code_12 (by decide) ?_
    exact RO.fin hx hb hr hlk rfl (by rw [oCode, if_pos c_6]) de_X_code_14
set_option maxHeartbeats 4000000 in
set_option maxRecDepth 100000 in
theorem ct_X_tape (l : Launch) (D : va_G) (g : Nat → Nat) (cQ cI : ClassId) (ad bx : Nat → Nat) (S : SS) (c0 : Nat) (hI : Inv c0 S) (v : Int32) : MOi l y_X_tape b_X_tape 2 1 0 0 [.ref (g 0), .int v] D (tyX cQ cI) (WX g cQ cI ad bx S) (some ad) (fun r w => ∃ S', oTape S v = (r, S') ∧ w = WX g cQ cI ad bx S') := by
  refine MOi.mk mi_X_tape (Nat.le_of_ble_eq_true rfl) ?_
  intro p e s m below meth c ls A C hr hlk hK hC hA h hl
  have hx := C.1
  have hb := C.2.1
  have hN := hC.nw
  have h : ST D A (wX g cQ cI (nI (S.2.2 0)) (nI (S.2.2 1)) (S.2.1 3 0) (S.1 8 0) (nI (S.2.2 3)) (S.2.1 3 1) (nI (S.2.2 2)) (bq (S.2.2 0) bx) (S.1 6) (S.1 7) ++ pl (S.2.2 0) bx (bxE ad S)) s.heap s.heap [] := h
  have hl : lv_has ls 2 [(0, .ref (g 0)), (1, .int v)] := hl
  refine lv_iload_n hx hb de_X_tape_0 rfl (lv_at hl 1 rfl) ?_
  refine lv_i2l hx hb de_X_tape_1 rfl ?_
  refine lv_lconst (v := 0) hx hb de_X_tape_2 (by decide) ?_
  refine lv_ldc2 (v := 999999) hx hb C.2.2.2.1 (C.2.2.2.2 _ kw_107) de_X_tape_3 ?_
  refine cl_X_isIn C ⟨Nat.le_of_ble_eq_true rfl, Nat.le_of_ble_eq_true rfl⟩ hl.1 (Nat.le_of_ble_eq_true rfl) de_X_tape_6 ⟨Nat.le_of_ble_eq_true rfl, Nat.le_of_ble_eq_true rfl⟩ (fun c_6 => ?_) (fun c_6 => ?_)
  · refine lv_if_ne (tgt := 15) hx hb de_X_tape_9 (by decide) (fun _ => ?_) (fun z => absurd z (by decide))
    refine lv_aload_n hx hb de_X_tape_15 rfl (lv_at hl 0 rfl) ?_
    refine gX_tapeSize C hK h.1 de_X_tape_16 ?_
    refine lv_sipush (v := 200) hx hb de_X_tape_19 (by decide) ?_
    refine lv_icmp_ne (tgt := 28) hx hb de_X_tape_22 (by decide) (fun c_22 => ?_) (fun c_22 => ?_)
    · have hne : ¬ S.2.2 1 = 200 := fun z => c_22 (by rw [z]; rfl)
      have hnt := hI.nt
      refine lv_aload_n hx hb de_X_tape_28 rfl (lv_at hl 0 rfl) ?_
      refine gX_tape C hK h.1 de_X_tape_29 ?_
      refine lv_aload_n hx hb de_X_tape_32 rfl (lv_at hl 0 rfl) ?_
      refine lv_dup hx hb de_X_tape_33 rfl ?_
      refine gX_tapeSize C hK h.1 de_X_tape_34 ?_
      refine lv_dup_x1 hx hb de_X_tape_37 rfl rfl ?_
      refine lv_iconst (v := 1) hx hb de_X_tape_38 (by decide) ?_
      refine lv_iadd hx hb de_X_tape_39 ?_
      refine zi_top (nI_1 _) ?_
      refine pX_tapeSize C hK h de_X_tape_40 (fun H locs h => ?_)
      refine lv_iload_n hx hb de_X_tape_43 rfl (lv_at hl 1 rfl) ?_
      refine sX_tape hx hb hK h (ix_nI (by omega) (by decide)) de_X_tape_44 (fun H locs h => ?_)
      refine lv_aload_n hx hb de_X_tape_45 rfl (lv_at hl 0 rfl) ?_
      refine gX_tapeSize C hK h.1 de_X_tape_46 ?_
      exact MOi.fin hx hb hr hlk h (⟨sN (sI S 6 (S.2.2 1) v) 1 (S.2.2 1 + 1), by rw [oTape, if_neg (fun z => z c_6), if_neg hne], WX_eq rfl rfl rfl rfl rfl rfl rfl rfl rfl rfl rfl (fun _ _ _ => rfl)⟩) de_X_tape_49
    · refine lv_bipush (v := -14) hx hb de_X_tape_25 (by decide) ?_
      exact MOi.fin hx hb hr hlk h (⟨S, by rw [oTape, if_neg (fun z => z c_6), if_pos ((nI_eq (b := 200) (by have := hI.nt; omega) (by decide)).mp c_22)], rfl⟩) de_X_tape_27
  · refine lv_if_ne (tgt := 15) hx hb de_X_tape_9 (by decide) (fun z => absurd z (by decide)) (fun _ => ?_)
    refine lv_bipush (v := -12) hx hb de_X_tape_12 (by decide) ?_
    exact MOi.fin hx hb hr hlk h (⟨S, by rw [oTape, if_pos c_6], rfl⟩) de_X_tape_14
set_option maxHeartbeats 4000000 in
set_option maxRecDepth 100000 in
theorem ct_X_tick (l : Launch) (D : va_G) (g : Nat → Nat) (cQ cI : ClassId) (ad bx : Nat → Nat) (S : SS) (c0 : Nat) (hI : Inv c0 S) (t : Int64) : MOi l y_X_tick b_X_tick 4 3 0 0 [.ref (g 0), .long t] D (tyX cQ cI) (WX g cQ cI ad bx S) (some ad) (fun r w => ∃ S', oTick S t = (r, S') ∧ w = WX g cQ cI ad bx S') := by
  refine MOi.mk mi_X_tick (Nat.le_of_ble_eq_true rfl) ?_
  intro p e s m below meth c ls A C hr hlk hK hC hA h hl
  have hx := C.1
  have hb := C.2.1
  have hN := hC.nw
  have h : ST D A (wX g cQ cI (nI (S.2.2 0)) (nI (S.2.2 1)) (S.2.1 3 0) (S.1 8 0) (nI (S.2.2 3)) (S.2.1 3 1) (nI (S.2.2 2)) (bq (S.2.2 0) bx) (S.1 6) (S.1 7) ++ pl (S.2.2 0) bx (bxE ad S)) s.heap s.heap [] := h
  have hl : lv_has ls 4 [(0, .ref (g 0)), (1, .long t)] := hl
  refine lv_aload_n hx hb de_X_tick_0 rfl (lv_at hl 0 rfl) ?_
  refine lv_lload_n hx hb de_X_tick_1 rfl (lv_at hl 1 rfl) ?_
  refine cl_X_isTime C h.1 hK hC h.2.2 ⟨Nat.le_of_ble_eq_true rfl, Nat.le_of_ble_eq_true rfl⟩ hl.1 (Nat.le_of_ble_eq_true rfl) de_X_tick_2 ⟨Nat.le_of_ble_eq_true rfl, Nat.le_of_ble_eq_true rfl⟩ (fun c_2 => ?_) (fun c_2 => ?_)
  · refine lv_if_ne (tgt := 11) hx hb de_X_tick_5 (by decide) (fun _ => ?_) (fun z => absurd z (by decide))
    refine lv_aload_n hx hb de_X_tick_11 rfl (lv_at hl 0 rfl) ?_
    refine lv_lload_n hx hb de_X_tick_12 rfl (lv_at hl 1 rfl) ?_
    refine cl_X_pass C hI c_2 h hK hC hA ⟨Nat.le_of_ble_eq_true rfl, Nat.le_of_ble_eq_true rfl⟩ hl.1 (Nat.le_of_ble_eq_true rfl) de_X_tick_13 ⟨Nat.le_of_ble_eq_true rfl, Nat.le_of_ble_eq_true rfl⟩ (fun H locs h => ?_)
    have hI1 := inv_oPass hI c_2
    have hn1 := oPass_n S t
    obtain ⟨S1, eS⟩ : ∃ S9 : SS, oPass S t = S9 := ⟨_, rfl⟩
    rw [eS] at h hI1 hn1
    have h : ST D A (wX g cQ cI (nI (S1.2.2 0)) (nI (S1.2.2 1)) (S1.2.1 3 0) (S1.1 8 0) (nI (S1.2.2 3)) (S1.2.1 3 1) (nI (S1.2.2 2)) (bq (S1.2.2 0) bx) (S1.1 6) (S1.1 7) ++ pl (S1.2.2 0) bx (bxE ad S1)) s.heap H locs := h
    refine lv_aload_n hx hb de_X_tick_16 rfl (lv_at hl 0 rfl) ?_
    refine gX_alarms C hK h.1 de_X_tick_17 ?_
    refine lv_istore_n (lv' := [(3, .int (S1.1 8 0)), (0, .ref (g 0)), (1, .long t)]) hx hb de_X_tick_20 rfl hl (by decide) rfl (fun ls hl => ?_)
    refine lv_aload_n hx hb de_X_tick_21 rfl (lv_at hl 1 rfl) ?_
    refine lv_iconst (v := 0) hx hb de_X_tick_22 (by decide) ?_
    refine pX_alarms C hK h de_X_tick_23 (fun H locs h => ?_)
    refine lv_iload_n hx hb de_X_tick_26 rfl (lv_at hl 0 rfl) ?_
    exact MOi.fin hx hb hr hlk h (⟨sI S1 8 0 0, by rw [oTick, if_neg (fun z => z c_2), eS], WX_eq rfl rfl rfl rfl rfl rfl rfl rfl rfl rfl rfl (fun _ _ _ => rfl)⟩) de_X_tick_27
  · refine lv_if_ne (tgt := 11) hx hb de_X_tick_5 (by decide) (fun z => absurd z (by decide)) (fun _ => ?_)
    refine lv_bipush (v := -12) hx hb de_X_tick_8 (by decide) ?_
    exact MOi.fin hx hb hr hlk h (⟨S, by rw [oTick, if_pos c_2], rfl⟩) de_X_tick_10
set_option maxHeartbeats 4000000 in
set_option maxRecDepth 100000 in
theorem ct_X_put (l : Launch) (D : va_G) (g : Nat → Nat) (cQ cI : ClassId) (ad bx : Nat → Nat) (S : SS) (c0 : Nat) (hI : Inv c0 S) (b v : Int32) (t : Int64) : MOi l y_X_put b_X_put 6 3 0 0 [.ref (g 0), .int b, .int v, .long t] D (tyX cQ cI) (WX g cQ cI ad bx S) (some ad) (fun r w => ∃ S', oPut S b v t = (r, S') ∧ w = WX g cQ cI ad bx S') := by
  refine MOi.mk mi_X_put (Nat.le_of_ble_eq_true rfl) ?_
  intro p e s m below meth c ls A C hr hlk hK hC hA h hl
  have hx := C.1
  have hb := C.2.1
  have hN := hC.nw
  have h : ST D A (wX g cQ cI (nI (S.2.2 0)) (nI (S.2.2 1)) (S.2.1 3 0) (S.1 8 0) (nI (S.2.2 3)) (S.2.1 3 1) (nI (S.2.2 2)) (bq (S.2.2 0) bx) (S.1 6) (S.1 7) ++ pl (S.2.2 0) bx (bxE ad S)) s.heap s.heap [] := h
  have hl : lv_has ls 6 [(0, .ref (g 0)), (1, .int b), (2, .int v), (3, .long t)] := hl
  refine lv_aload_n hx hb de_X_put_0 rfl (lv_at hl 0 rfl) ?_
  refine lv_iload_n hx hb de_X_put_1 rfl (lv_at hl 1 rfl) ?_
  refine cl_X_isBox C h.1 hK hC h.2.2 ⟨Nat.le_of_ble_eq_true rfl, Nat.le_of_ble_eq_true rfl⟩ hl.1 (Nat.le_of_ble_eq_true rfl) de_X_put_2 ⟨Nat.le_of_ble_eq_true rfl, Nat.le_of_ble_eq_true rfl⟩ (fun c_2 => ?_) (fun c_2 => ?_)
  · refine lv_if_ne (tgt := 11) hx hb de_X_put_5 (by decide) (fun _ => ?_) (fun z => absurd z (by decide))
    refine lv_iload_n hx hb de_X_put_11 rfl (lv_at hl 2 rfl) ?_
    refine lv_i2l hx hb de_X_put_12 rfl ?_
    refine lv_lconst (v := 1) hx hb de_X_put_13 (by decide) ?_
    refine lv_ldc2 (v := 9999) hx hb C.2.2.2.1 (C.2.2.2.2 _ kw_129) de_X_put_14 ?_
    refine cl_X_isIn C ⟨Nat.le_of_ble_eq_true rfl, Nat.le_of_ble_eq_true rfl⟩ hl.1 (Nat.le_of_ble_eq_true rfl) de_X_put_17 ⟨Nat.le_of_ble_eq_true rfl, Nat.le_of_ble_eq_true rfl⟩ (fun c_17 => ?_) (fun c_17 => ?_)
    · refine lv_if_eq (tgt := 31) hx hb de_X_put_20 (by decide) (fun z => absurd z (by decide)) (fun _ => ?_)
      refine lv_aload_n hx hb de_X_put_23 rfl (lv_at hl 0 rfl) ?_
      refine lv_lload_n hx hb de_X_put_24 rfl (lv_at hl 3 rfl) ?_
      refine cl_X_isTime C h.1 hK hC h.2.2 ⟨Nat.le_of_ble_eq_true rfl, Nat.le_of_ble_eq_true rfl⟩ hl.1 (Nat.le_of_ble_eq_true rfl) de_X_put_25 ⟨Nat.le_of_ble_eq_true rfl, Nat.le_of_ble_eq_true rfl⟩ (fun c_25 => ?_) (fun c_25 => ?_)
      · refine lv_if_ne (tgt := 34) hx hb de_X_put_28 (by decide) (fun _ => ?_) (fun z => absurd z (by decide))
        refine lv_aload_n hx hb de_X_put_34 rfl (lv_at hl 0 rfl) ?_
        refine lv_lload_n hx hb de_X_put_35 rfl (lv_at hl 3 rfl) ?_
        refine cl_X_pass C hI c_25 h hK hC hA ⟨Nat.le_of_ble_eq_true rfl, Nat.le_of_ble_eq_true rfl⟩ hl.1 (Nat.le_of_ble_eq_true rfl) de_X_put_36 ⟨Nat.le_of_ble_eq_true rfl, Nat.le_of_ble_eq_true rfl⟩ (fun H locs h => ?_)
        have hI1 := inv_oPass hI c_25
        have hn1 := oPass_n S t
        obtain ⟨S1, eS⟩ : ∃ S9 : SS, oPass S t = S9 := ⟨_, rfl⟩
        rw [eS] at h hI1 hn1
        have h : ST D A (wX g cQ cI (nI (S1.2.2 0)) (nI (S1.2.2 1)) (S1.2.1 3 0) (S1.1 8 0) (nI (S1.2.2 3)) (S1.2.1 3 1) (nI (S1.2.2 2)) (bq (S1.2.2 0) bx) (S1.1 6) (S1.1 7) ++ pl (S1.2.2 0) bx (bxE ad S1)) s.heap H locs := h
        obtain ⟨kb, ekb, hbx, hk1, hk2, ebk⟩ := gdB_ix c_2 hI.n
        have hn60 := hI.n
        have hk2 : kb ≤ S1.2.2 0 := by omega
        have hdo := dr_ix (hI1.ok hk1 hk2).1
        refine lv_aload_n hx hb de_X_put_39 rfl (lv_at hl 0 rfl) ?_
        refine gX_boxes C hK h.1 de_X_put_40 ?_
        refine lv_iload_n hx hb de_X_put_43 rfl (lv_at hl 1 rfl) ?_
        refine rX_boxes hx hb hK h.1 hbx (bq_get hk1 hk2) de_X_put_44 ?_
        refine lv_astore (lv' := [(5, .ref (bx kb)), (0, .ref (g 0)), (1, .int b), (2, .int v), (3, .long t)]) hx hb de_X_put_45 hl (by decide) rfl (fun ls hl => ?_)
        refine lv_aload hx hb de_X_put_47 (lv_at hl 0 rfl) ?_
        refine gN_door C hN hK h.1 hk1 hk2 rfl de_X_put_49 ?_
        refine gs_door C hC h.2.2 1 (by decide) kw_153 de_X_put_52 ?_
        refine za_ne (tgt := 74) hx hb de_X_put_55 (by decide) (fun c_55 => ?_) (fun c_55 => ?_)
        · refine lv_iconst (v := 0) hx hb de_X_put_74 (by decide) ?_
          exact MOi.fin hx hb hr hlk h (⟨S1, by rw [oPut, if_neg (fun z => z c_2), if_neg (fun z => z.elim (fun z => z c_17) (fun z => z c_25)), eS, ekb, pPut, if_neg (fun z => c_55 (by rw [z.1]; rfl))], rfl⟩) de_X_put_75
        · refine lv_aload hx hb de_X_put_58 (lv_at hl 0 rfl) ?_
          refine gN_item C hN hK h.1 hk1 hk2 rfl de_X_put_60 ?_
          refine lv_if_ne (tgt := 74) hx hb de_X_put_63 (by decide) (fun c_63 => ?_) (fun c_63 => ?_)
          · refine lv_iconst (v := 0) hx hb de_X_put_74 (by decide) ?_
            exact MOi.fin hx hb hr hlk h (⟨S1, by rw [oPut, if_neg (fun z => z c_2), if_neg (fun z => z.elim (fun z => z c_17) (fun z => z c_25)), eS, ekb, pPut, if_neg (fun z => c_63 z.2.1)], rfl⟩) de_X_put_75
          · refine lv_aload_n hx hb de_X_put_66 rfl (lv_at hl 1 rfl) ?_
            refine lv_iload_n hx hb de_X_put_67 rfl (lv_at hl 3 rfl) ?_
            refine cl_X_find C hI1.n h.1 hK hC h.2.2 ⟨Nat.le_of_ble_eq_true rfl, Nat.le_of_ble_eq_true rfl⟩ hl.1 (Nat.le_of_ble_eq_true rfl) de_X_put_68 ⟨Nat.le_of_ble_eq_true rfl, Nat.le_of_ble_eq_true rfl⟩ ?_
            obtain ⟨L, eL, hL⟩ : ∃ L9 : Nat, lastIx (S1.1 3) v (S1.2.2 0) = L9 ∧ L9 ≤ S1.2.2 0 := ⟨_, rfl, lastIx_le _ _ _⟩
            rw [eL]
            refine lv_if_eq (tgt := 76) hx hb de_X_put_71 (by decide) (fun c_71 => ?_) (fun c_71 => ?_)
            · refine lv_aload hx hb de_X_put_76 (lv_at hl 0 rfl) ?_
              refine lv_iload_n hx hb de_X_put_78 rfl (lv_at hl 3 rfl) ?_
              refine pN_item C hN hK h hk1 hk2 rfl de_X_put_79 (fun H locs h => ?_)
              refine lv_aload hx hb de_X_put_82 (lv_at hl 0 rfl) ?_
              refine lv_lconst (v := 0) hx hb de_X_put_84 (by decide) ?_
              refine pF_until C hN hK h hk1 hk2 de_X_put_85 (fun H locs h => ?_)
              refine lv_iconst (v := 1) hx hb de_X_put_88 (by decide) ?_
              refine MOi.fin hx hb hr hlk h (⟨sL (sI S1 3 kb v) 2 kb 0, by rw [oPut, if_neg (fun z => z c_2), if_neg (fun z => z.elim (fun z => z c_17) (fun z => z c_25)), eS, ekb, pPut, if_pos ⟨(hdo.2 1 (by decide)).mp ((hC.en.inj hdo.1 (by decide)).mp c_55), c_63, by rw [eL]; exact (nI_eq (b := 0) (by omega) (by decide)).mp c_71⟩], WX_eq rfl rfl rfl rfl rfl rfl rfl rfl rfl rfl rfl (bx_upd (fun j hj => ?_) ?_)⟩) de_X_put_89
              · simp [bxE, sI, sL, va_up, vp_updL, upd, hj]
              · simp [bxE, sI, sL, va_up, vp_updL, upd]
            · refine lv_iconst (v := 0) hx hb de_X_put_74 (by decide) ?_
              exact MOi.fin hx hb hr hlk h (⟨S1, by rw [oPut, if_neg (fun z => z c_2), if_neg (fun z => z.elim (fun z => z c_17) (fun z => z c_25)), eS, ekb, pPut, if_neg (fun z => c_71 (by rw [← eL, z.2.2]; rfl))], rfl⟩) de_X_put_75
      · refine lv_if_ne (tgt := 34) hx hb de_X_put_28 (by decide) (fun z => absurd z (by decide)) (fun _ => ?_)
        refine lv_bipush (v := -12) hx hb de_X_put_31 (by decide) ?_
        exact MOi.fin hx hb hr hlk h (⟨S, by rw [oPut, if_neg (fun z => z c_2), if_pos (Or.inr c_25)], rfl⟩) de_X_put_33
    · refine lv_if_eq (tgt := 31) hx hb de_X_put_20 (by decide) (fun _ => ?_) (fun z => absurd z (by decide))
      refine lv_bipush (v := -12) hx hb de_X_put_31 (by decide) ?_
      exact MOi.fin hx hb hr hlk h (⟨S, by rw [oPut, if_neg (fun z => z c_2), if_pos (Or.inl c_17)], rfl⟩) de_X_put_33
  · refine lv_if_ne (tgt := 11) hx hb de_X_put_5 (by decide) (fun z => absurd z (by decide)) (fun _ => ?_)
    refine lv_bipush (v := -11) hx hb de_X_put_8 (by decide) ?_
    exact MOi.fin hx hb hr hlk h (⟨S, by rw [oPut, if_pos c_2], rfl⟩) de_X_put_10
set_option maxHeartbeats 4000000 in
set_option maxRecDepth 100000 in
theorem ct_X_take (l : Launch) (D : va_G) (g : Nat → Nat) (cQ cI : ClassId) (ad bx : Nat → Nat) (S : SS) (c0 : Nat) (hI : Inv c0 S) (b v : Int32) : MOi l y_X_take b_X_take 5 2 0 0 [.ref (g 0), .int b, .int v] D (tyX cQ cI) (WX g cQ cI ad bx S) (some ad) (fun r w => ∃ S', oTake S b v = (r, S') ∧ w = WX g cQ cI ad bx S') := by
  refine MOi.mk mi_X_take (Nat.le_of_ble_eq_true rfl) ?_
  intro p e s m below meth c ls A C hr hlk hK hC hA h hl
  have hx := C.1
  have hb := C.2.1
  have hN := hC.nw
  have h : ST D A (wX g cQ cI (nI (S.2.2 0)) (nI (S.2.2 1)) (S.2.1 3 0) (S.1 8 0) (nI (S.2.2 3)) (S.2.1 3 1) (nI (S.2.2 2)) (bq (S.2.2 0) bx) (S.1 6) (S.1 7) ++ pl (S.2.2 0) bx (bxE ad S)) s.heap s.heap [] := h
  have hl : lv_has ls 5 [(0, .ref (g 0)), (1, .int b), (2, .int v)] := hl
  refine lv_aload_n hx hb de_X_take_0 rfl (lv_at hl 0 rfl) ?_
  refine lv_iload_n hx hb de_X_take_1 rfl (lv_at hl 1 rfl) ?_
  refine cl_X_isBox C h.1 hK hC h.2.2 ⟨Nat.le_of_ble_eq_true rfl, Nat.le_of_ble_eq_true rfl⟩ hl.1 (Nat.le_of_ble_eq_true rfl) de_X_take_2 ⟨Nat.le_of_ble_eq_true rfl, Nat.le_of_ble_eq_true rfl⟩ (fun c_2 => ?_) (fun c_2 => ?_)
  · refine lv_if_ne (tgt := 11) hx hb de_X_take_5 (by decide) (fun _ => ?_) (fun z => absurd z (by decide))
    refine lv_iload_n hx hb de_X_take_11 rfl (lv_at hl 2 rfl) ?_
    refine lv_i2l hx hb de_X_take_12 rfl ?_
    refine lv_lconst (v := 0) hx hb de_X_take_13 (by decide) ?_
    refine lv_ldc2 (v := 9) hx hb C.2.2.2.1 (C.2.2.2.2 _ kw_213) de_X_take_14 ?_
    refine cl_X_isIn C ⟨Nat.le_of_ble_eq_true rfl, Nat.le_of_ble_eq_true rfl⟩ hl.1 (Nat.le_of_ble_eq_true rfl) de_X_take_17 ⟨Nat.le_of_ble_eq_true rfl, Nat.le_of_ble_eq_true rfl⟩ (fun c_17 => ?_) (fun c_17 => ?_)
    · obtain ⟨kb, ekb, hbx, hk1, hk2, ebk⟩ := gdB_ix c_2 hI.n
      have hdo := dr_ix (hI.ok hk1 hk2).1
      refine lv_if_ne (tgt := 26) hx hb de_X_take_20 (by decide) (fun _ => ?_) (fun z => absurd z (by decide))
      refine lv_aload_n hx hb de_X_take_26 rfl (lv_at hl 0 rfl) ?_
      refine gX_boxes C hK h.1 de_X_take_27 ?_
      refine lv_iload_n hx hb de_X_take_30 rfl (lv_at hl 1 rfl) ?_
      refine rX_boxes hx hb hK h.1 hbx (bq_get hk1 hk2) de_X_take_31 ?_
      refine lv_astore_n (lv' := [(3, .ref (bx kb)), (0, .ref (g 0)), (1, .int b), (2, .int v)]) hx hb de_X_take_32 rfl hl (by decide) rfl (fun ls hl => ?_)
      refine lv_aload_n hx hb de_X_take_33 rfl (lv_at hl 0 rfl) ?_
      refine gN_door C hN hK h.1 hk1 hk2 rfl de_X_take_34 ?_
      refine clX_D_isPassable C hdo.1 hK hC h.2.2 ⟨Nat.le_of_ble_eq_true rfl, Nat.le_of_ble_eq_true rfl⟩ hl.1 (Nat.le_of_ble_eq_true rfl) de_X_take_37 ⟨Nat.le_of_ble_eq_true rfl, Nat.le_of_ble_eq_true rfl⟩ (fun c_37 => ?_) (fun c_37 => ?_)
      · have hpas : S.1 1 kb = 1 ∨ S.1 1 kb = 2 := c_37.imp (hdo.2 1 (by decide)).mp (hdo.2 2 (by decide)).mp
        refine lv_if_eq (tgt := 50) hx hb de_X_take_40 (by decide) (fun z => absurd z (by decide)) (fun _ => ?_)
        refine lv_aload_n hx hb de_X_take_43 rfl (lv_at hl 0 rfl) ?_
        refine gN_item C hN hK h.1 hk1 hk2 rfl de_X_take_44 ?_
        refine lv_goto (tgt := 51) hx hb de_X_take_47 (by decide) ?_
        refine lv_istore (lv' := [(4, .int (S.1 3 kb)), (3, .ref (bx kb)), (0, .ref (g 0)), (1, .int b), (2, .int v)]) hx hb de_X_take_51 hl (by decide) rfl (fun ls hl => ?_)
        refine lv_iload hx hb de_X_take_53 (lv_at hl 0 rfl) ?_
        refine lv_if_eq (tgt := 62) hx hb de_X_take_55 (by decide) (fun c_55 => ?_) (fun c_55 => ?_)
        · refine lv_iload hx hb de_X_take_62 (lv_at hl 0 rfl) ?_
          exact MOi.fin hx hb hr hlk h (⟨S, by rw [oTake, if_neg (fun z => z c_2), if_neg (fun z => z c_17), ekb, if_pos hpas, pOut_id (hI.ok hk1 hk2) c_55], rfl⟩) de_X_take_64
        · refine lv_aload_n hx hb de_X_take_58 rfl (lv_at hl 1 rfl) ?_
          refine clN_B_empty C h hk1 hk2 rfl hK hC hA ⟨Nat.le_of_ble_eq_true rfl, Nat.le_of_ble_eq_true rfl⟩ hl.1 (Nat.le_of_ble_eq_true rfl) de_X_take_59 ⟨Nat.le_of_ble_eq_true rfl, Nat.le_of_ble_eq_true rfl⟩ (fun H locs h => ?_)
          refine lv_iload hx hb de_X_take_62 (lv_at hl 0 rfl) ?_
          refine MOi.fin hx hb hr hlk h (⟨pOut S kb, by rw [oTake, if_neg (fun z => z c_2), if_neg (fun z => z c_17), ekb, if_pos hpas], WX_eq rfl rfl rfl rfl rfl rfl rfl rfl rfl rfl rfl (bx_upd (fun j hj => ?_) ?_)⟩) de_X_take_64
          · simp [bxE, pOut, sI, sL, va_up, vp_updL, upd, hj]
          · simp [bxE, pOut, sI, sL, va_up, vp_updL, upd, liB]
      · refine lv_if_eq (tgt := 50) hx hb de_X_take_40 (by decide) (fun _ => ?_) (fun z => absurd z (by decide))
        refine lv_iconst (v := 0) hx hb de_X_take_50 (by decide) ?_
        refine lv_istore (lv' := [(4, .int 0), (3, .ref (bx kb)), (0, .ref (g 0)), (1, .int b), (2, .int v)]) hx hb de_X_take_51 hl (by decide) rfl (fun ls hl => ?_)
        refine lv_iload hx hb de_X_take_53 (lv_at hl 0 rfl) ?_
        refine lv_if_eq (tgt := 62) hx hb de_X_take_55 (by decide) (fun _ => ?_) (fun z => absurd z (by decide))
        refine lv_iload hx hb de_X_take_62 (lv_at hl 0 rfl) ?_
        exact MOi.fin hx hb hr hlk h (⟨S, by rw [oTake, if_neg (fun z => z c_2), if_neg (fun z => z c_17), ekb, if_neg (fun z => c_37 (z.imp (hdo.2 1 (by decide)).mpr (hdo.2 2 (by decide)).mpr))], rfl⟩) de_X_take_64
    · refine lv_if_ne (tgt := 26) hx hb de_X_take_20 (by decide) (fun z => absurd z (by decide)) (fun _ => ?_)
      refine lv_bipush (v := -12) hx hb de_X_take_23 (by decide) ?_
      exact MOi.fin hx hb hr hlk h (⟨S, by rw [oTake, if_neg (fun z => z c_2), if_pos c_17], rfl⟩) de_X_take_25
  · refine lv_if_ne (tgt := 11) hx hb de_X_take_5 (by decide) (fun z => absurd z (by decide)) (fun _ => ?_)
    refine lv_bipush (v := -11) hx hb de_X_take_8 (by decide) ?_
    exact MOi.fin hx hb hr hlk h (⟨S, by rw [oTake, if_pos c_2], rfl⟩) de_X_take_10
end
section
/-! ===== the component: reserve, draw, close, type: printed by gen/xops2.py ===== -/
set_option maxHeartbeats 4000000 in
set_option maxRecDepth 100000 in
theorem ct_X_reserve (l : Launch) (D : va_G) (g : Nat → Nat) (cQ cI : ClassId) (ad bx : Nat → Nat) (S : SS) (c0 : Nat) (hI : Inv c0 S) (v : Int32) (u : Int64) : MOi l y_X_reserve b_X_reserve 7 2 0 0 [.ref (g 0), .int v, .long u] D (tyX cQ cI) (WX g cQ cI ad bx S) (some ad) (fun r w => ∃ S', oReserve S v u = (r, S') ∧ w = WX g cQ cI ad bx S') := by
  refine MOi.mk mi_X_reserve (Nat.le_of_ble_eq_true rfl) ?_
  intro p e s m below meth c ls A C hr hlk hK hC hA h hl
  have hx := C.1
  have hb := C.2.1
  have hN := hC.nw
  have h : ST D A (wX g cQ cI (nI (S.2.2 0)) (nI (S.2.2 1)) (S.2.1 3 0) (S.1 8 0) (nI (S.2.2 3)) (S.2.1 3 1) (nI (S.2.2 2)) (bq (S.2.2 0) bx) (S.1 6) (S.1 7) ++ pl (S.2.2 0) bx (bxE ad S)) s.heap s.heap [] := h
  have hl : lv_has ls 7 [(0, .ref (g 0)), (1, .int v), (2, .long u)] := hl
  have hn60 := hI.n
  have bl : ∀ n, best S v n ≤ n := by
    intro n
    induction n with
    | zero => exact Nat.le_refl 0
    | succ n ih =>
      unfold best
      split <;> omega
  have loop : gdI v 1 5 → (S.2.1 3 0 < u ∧ u ≤ 2000000000) → ∀ (r j : Nat), j + r = S.2.2 0 → ∀ ls : Array Slot, lv_has ls 7 [(5, .int (nI (j + 1))), (4, .int (nI (best S v j))), (0, .ref (g 0)), (1, .int v), (2, .long u)] → W p l e (rmOf 2 0 0) s m [Value.ref (g 0), .int v, .long u].toArray below meth c s.heap [] 0 0 (MQ below (va_Qi (fun r w => ∃ S', oReserve S v u = (r, S') ∧ w = WX g cQ cI ad bx S') (PB D A) A) [Value.ref (g 0), .int v, .long u].toArray s 0 0 A) (F0 m 37 ls []) := by
    intro g1 g2 r
    induction r with
    | zero =>
      intro j hj ls hl
      have ej : best S v j = best S v (S.2.2 0) := by rw [← hj]; rfl
      have hB := bl j
      generalize best S v j = B at hl ej hB
      refine lv_iload hx hb de_X_reserve_37 (lv_at hl 0 rfl) ?_
      refine lv_aload_n hx hb de_X_reserve_39 rfl (lv_at hl 2 rfl) ?_
      refine gX_count C hK h.1 de_X_reserve_40 ?_
      refine lv_icmp_gt (tgt := 128) hx hb de_X_reserve_43 (by decide) (fun c_43 => ?_) (fun c_43 => ?_)
      · refine lv_iload hx hb de_X_reserve_128 (lv_at hl 1 rfl) ?_
        refine lv_if_le (tgt := 144) hx hb de_X_reserve_130 (by decide) (fun c_130 => ?_) (fun c_130 => ?_)
        · have hB0 : B = 0 := by
            rcases Nat.eq_zero_or_pos B with z | z
            · exact z
            · exact absurd c_130 (nI_nle z (by omega))
          refine lv_iload hx hb de_X_reserve_144 (lv_at hl 1 rfl) ?_
          exact MOi.fin hx hb hr hlk h (⟨S, by rw [oReserve, if_neg (fun z => z.elim (fun z => z g1) (fun z => z g2)), ← ej, if_pos hB0, hB0]; rfl, rfl⟩) de_X_reserve_146
        · have hB0 : ¬ B = 0 := fun z => c_130 (by rw [z]; decide)
          refine lv_aload_n hx hb de_X_reserve_133 rfl (lv_at hl 2 rfl) ?_
          refine gX_boxes C hK h.1 de_X_reserve_134 ?_
          refine lv_iload hx hb de_X_reserve_137 (lv_at hl 1 rfl) ?_
          refine rX_boxes hx hb hK h.1 (ix_nI (by omega) (by decide)) (bq_get (by omega) (by omega)) de_X_reserve_139 ?_
          refine lv_lload_n hx hb de_X_reserve_140 rfl (lv_at hl 4 rfl) ?_
          refine pN_until C hN hK h (by omega) (by omega) rfl de_X_reserve_141 (fun H locs h => ?_)
          refine lv_iload hx hb de_X_reserve_144 (lv_at hl 1 rfl) ?_
          refine MOi.fin hx hb hr hlk h (⟨sL S 2 B u, by rw [oReserve, if_neg (fun z => z.elim (fun z => z g1) (fun z => z g2)), ← ej, if_neg hB0], WX_eq rfl rfl rfl rfl rfl rfl rfl rfl rfl rfl rfl (bx_upd (fun j hj => ?_) ?_)⟩) de_X_reserve_146
          · simp [bxE, sI, sL, va_up, vp_updL, upd, hj]
          · simp [bxE, sI, sL, va_up, vp_updL, upd]
      · exact absurd (nI_lt (show S.2.2 0 < j + 1 by omega) (by omega)) c_43
    | succ r ih =>
      intro j hj ls hl
      have hk1 : 1 ≤ j + 1 := by omega
      have hk2 : j + 1 ≤ S.2.2 0 := by omega
      have hok := hI.ok hk1 hk2
      have hdo := dr_ix hok.1
      have hB := bl j
      obtain ⟨B, eB⟩ : ∃ B9 : Nat, best S v j = B9 := ⟨_, rfl⟩
      have hbs : best S v (j + 1) = if (S.1 1 (j + 1) = 0 ∧ S.1 3 (j + 1) = 0 ∧ S.2.1 2 (j + 1) = 0 ∧ v ≤ S.1 0 (j + 1)) ∧ (B = 0 ∨ S.1 0 (j + 1) < S.1 0 B) then j + 1 else B := by rw [← eB]; rfl
      rw [eB] at hl hB
      have hl : lv_has ls 7 [(5, .int (nI (j + 1))), (4, .int (nI B)), (0, .ref (g 0)), (1, .int v), (2, .long u)] := hl
      have J1 : (S.1 1 (j + 1) = 0 ∧ S.1 3 (j + 1) = 0 ∧ S.2.1 2 (j + 1) = 0 ∧ v ≤ S.1 0 (j + 1)) → ∀ ls : Array Slot, lv_has ls 7 [(5, .int (nI (j + 1))), (4, .int (nI B)), (0, .ref (g 0)), (1, .int v), (2, .long u)] → W p l e (rmOf 2 0 0) s m [Value.ref (g 0), .int v, .long u].toArray below meth c s.heap [] 0 0 (MQ below (va_Qi (fun r w => ∃ S', oReserve S v u = (r, S') ∧ w = WX g cQ cI ad bx S') (PB D A) A) [Value.ref (g 0), .int v, .long u].toArray s 0 0 A) (F0 m 78 ls [.int 1]) := by
        intro hp ls hl
        refine lv_istore (lv' := [(6, .int 1), (5, .int (nI (j + 1))), (4, .int (nI B)), (0, .ref (g 0)), (1, .int v), (2, .long u)]) hx hb de_X_reserve_78 hl (by decide) rfl (fun ls hl => ?_)
        refine lv_iload hx hb de_X_reserve_80 (lv_at hl 0 rfl) ?_
        refine lv_if_eq (tgt := 118) hx hb de_X_reserve_82 (by decide) (fun z => absurd z (by decide)) (fun _ => ?_)
        refine lv_iload hx hb de_X_reserve_85 (lv_at hl 2 rfl) ?_
        refine lv_if_eq (tgt := 113) hx hb de_X_reserve_87 (by decide) (fun c_87 => ?_) (fun c_87 => ?_)
        · have hB0 : B = 0 := (nI_eq (b := 0) (by omega) (by decide)).mp c_87
          refine lv_iload hx hb de_X_reserve_113 (lv_at hl 1 rfl) ?_
          refine lv_goto (tgt := 120) hx hb de_X_reserve_115 (by decide) ?_
          refine lv_istore (lv' := [(4, .int (nI (j + 1))), (6, .int 1), (5, .int (nI (j + 1))), (0, .ref (g 0)), (1, .int v), (2, .long u)]) hx hb de_X_reserve_120 hl (by decide) rfl (fun ls hl => ?_)
          refine lv_iinc (v := (nI ((j + 1) + 1))) (lv' := [(5, .int (nI ((j + 1) + 1))), (4, .int (nI (j + 1))), (6, .int 1), (0, .ref (g 0)), (1, .int v), (2, .long u)]) hx hb de_X_reserve_122 hl (k := 2) rfl (inc_nI _) (by decide) rfl (fun ls hl => ?_)
          refine lv_goto (tgt := 37) hx hb de_X_reserve_125 (by decide) ?_
          exact ih (j + 1) (by omega) ls (lv_sub hl [0, 1, 3, 4, 5] (by rw [hbs, if_pos ⟨hp, Or.inl hB0⟩]; rfl))
        · have hB0 : ¬ B = 0 := fun z => c_87 (by rw [z]; rfl)
          refine lv_aload_n hx hb de_X_reserve_90 rfl (lv_at hl 3 rfl) ?_
          refine gX_boxes C hK h.1 de_X_reserve_91 ?_
          refine lv_iload hx hb de_X_reserve_94 (lv_at hl 1 rfl) ?_
          refine rX_boxes hx hb hK h.1 (ix_nI (by omega) (by decide)) (bq_get hk1 hk2) de_X_reserve_96 ?_
          refine gN_size C hN hK h.1 hk1 hk2 rfl de_X_reserve_97 ?_
          refine lv_aload_n hx hb de_X_reserve_100 rfl (lv_at hl 3 rfl) ?_
          refine gX_boxes C hK h.1 de_X_reserve_101 ?_
          refine lv_iload hx hb de_X_reserve_104 (lv_at hl 2 rfl) ?_
          refine rX_boxes hx hb hK h.1 (ix_nI (by omega) (by decide)) (bq_get (by omega) (by omega)) de_X_reserve_106 ?_
          refine gN_size C hN hK h.1 (by omega) (by omega) rfl de_X_reserve_107 ?_
          refine lv_icmp_ge (tgt := 118) hx hb de_X_reserve_110 (by decide) (fun c_110 => ?_) (fun c_110 => ?_)
          · refine lv_iload hx hb de_X_reserve_118 (lv_at hl 2 rfl) ?_
            refine lv_istore (lv' := [(4, .int (nI B)), (6, .int 1), (5, .int (nI (j + 1))), (0, .ref (g 0)), (1, .int v), (2, .long u)]) hx hb de_X_reserve_120 hl (by decide) rfl (fun ls hl => ?_)
            refine lv_iinc (v := (nI ((j + 1) + 1))) (lv' := [(5, .int (nI ((j + 1) + 1))), (4, .int (nI B)), (6, .int 1), (0, .ref (g 0)), (1, .int v), (2, .long u)]) hx hb de_X_reserve_122 hl (k := 2) rfl (inc_nI _) (by decide) rfl (fun ls hl => ?_)
            refine lv_goto (tgt := 37) hx hb de_X_reserve_125 (by decide) ?_
            exact ih (j + 1) (by omega) ls (lv_sub hl [0, 1, 3, 4, 5] (by rw [hbs, if_neg (fun z => z.2.elim hB0 (fun z => absurd z (Int32.not_lt.mpr c_110)))]; rfl))
          · refine lv_iload hx hb de_X_reserve_113 (lv_at hl 1 rfl) ?_
            refine lv_goto (tgt := 120) hx hb de_X_reserve_115 (by decide) ?_
            refine lv_istore (lv' := [(4, .int (nI (j + 1))), (6, .int 1), (5, .int (nI (j + 1))), (0, .ref (g 0)), (1, .int v), (2, .long u)]) hx hb de_X_reserve_120 hl (by decide) rfl (fun ls hl => ?_)
            refine lv_iinc (v := (nI ((j + 1) + 1))) (lv' := [(5, .int (nI ((j + 1) + 1))), (4, .int (nI (j + 1))), (6, .int 1), (0, .ref (g 0)), (1, .int v), (2, .long u)]) hx hb de_X_reserve_122 hl (k := 2) rfl (inc_nI _) (by decide) rfl (fun ls hl => ?_)
            refine lv_goto (tgt := 37) hx hb de_X_reserve_125 (by decide) ?_
            exact ih (j + 1) (by omega) ls (lv_sub hl [0, 1, 3, 4, 5] (by rw [hbs, if_pos ⟨hp, Or.inr (Int32.not_le.mp c_110)⟩]; rfl))
      have J0 : ¬ (S.1 1 (j + 1) = 0 ∧ S.1 3 (j + 1) = 0 ∧ S.2.1 2 (j + 1) = 0 ∧ v ≤ S.1 0 (j + 1)) → ∀ ls : Array Slot, lv_has ls 7 [(5, .int (nI (j + 1))), (4, .int (nI B)), (0, .ref (g 0)), (1, .int v), (2, .long u)] → W p l e (rmOf 2 0 0) s m [Value.ref (g 0), .int v, .long u].toArray below meth c s.heap [] 0 0 (MQ below (va_Qi (fun r w => ∃ S', oReserve S v u = (r, S') ∧ w = WX g cQ cI ad bx S') (PB D A) A) [Value.ref (g 0), .int v, .long u].toArray s 0 0 A) (F0 m 78 ls [.int 0]) := by
        intro hp ls hl
        refine lv_istore (lv' := [(6, .int 0), (5, .int (nI (j + 1))), (4, .int (nI B)), (0, .ref (g 0)), (1, .int v), (2, .long u)]) hx hb de_X_reserve_78 hl (by decide) rfl (fun ls hl => ?_)
        refine lv_iload hx hb de_X_reserve_80 (lv_at hl 0 rfl) ?_
        refine lv_if_eq (tgt := 118) hx hb de_X_reserve_82 (by decide) (fun _ => ?_) (fun z => absurd z (by decide))
        refine lv_iload hx hb de_X_reserve_118 (lv_at hl 2 rfl) ?_
        refine lv_istore (lv' := [(4, .int (nI B)), (6, .int 0), (5, .int (nI (j + 1))), (0, .ref (g 0)), (1, .int v), (2, .long u)]) hx hb de_X_reserve_120 hl (by decide) rfl (fun ls hl => ?_)
        refine lv_iinc (v := (nI ((j + 1) + 1))) (lv' := [(5, .int (nI ((j + 1) + 1))), (4, .int (nI B)), (6, .int 0), (0, .ref (g 0)), (1, .int v), (2, .long u)]) hx hb de_X_reserve_122 hl (k := 2) rfl (inc_nI _) (by decide) rfl (fun ls hl => ?_)
        refine lv_goto (tgt := 37) hx hb de_X_reserve_125 (by decide) ?_
        exact ih (j + 1) (by omega) ls (lv_sub hl [0, 1, 3, 4, 5] (by rw [hbs, if_neg (fun z => hp z.1)]; rfl))
      refine lv_iload hx hb de_X_reserve_37 (lv_at hl 0 rfl) ?_
      refine lv_aload_n hx hb de_X_reserve_39 rfl (lv_at hl 2 rfl) ?_
      refine gX_count C hK h.1 de_X_reserve_40 ?_
      refine lv_icmp_gt (tgt := 128) hx hb de_X_reserve_43 (by decide) (fun c_43 => ?_) (fun c_43 => ?_)
      · exact absurd c_43 (nI_nlt (by omega) (by omega))
      · refine lv_aload_n hx hb de_X_reserve_46 rfl (lv_at hl 2 rfl) ?_
        refine gX_boxes C hK h.1 de_X_reserve_47 ?_
        refine lv_iload hx hb de_X_reserve_50 (lv_at hl 0 rfl) ?_
        refine rX_boxes hx hb hK h.1 (ix_nI (by omega) (by decide)) (bq_get hk1 hk2) de_X_reserve_52 ?_
        refine clX_B_isFree C (h.1.one (pl_get hk1 hk2)) hK hC h.2.2 hdo.1 ⟨Nat.le_of_ble_eq_true rfl, Nat.le_of_ble_eq_true rfl⟩ hl.1 (Nat.le_of_ble_eq_true rfl) de_X_reserve_53 ⟨Nat.le_of_ble_eq_true rfl, Nat.le_of_ble_eq_true rfl⟩ (fun c_53 => ?_) (fun c_53 => ?_)
        · refine lv_if_eq (tgt := 77) hx hb de_X_reserve_56 (by decide) (fun z => absurd z (by decide)) (fun _ => ?_)
          refine lv_aload_n hx hb de_X_reserve_59 rfl (lv_at hl 2 rfl) ?_
          refine gX_boxes C hK h.1 de_X_reserve_60 ?_
          refine lv_iload hx hb de_X_reserve_63 (lv_at hl 0 rfl) ?_
          refine rX_boxes hx hb hK h.1 (ix_nI (by omega) (by decide)) (bq_get hk1 hk2) de_X_reserve_65 ?_
          refine gN_size C hN hK h.1 hk1 hk2 rfl de_X_reserve_66 ?_
          refine lv_iload_n hx hb de_X_reserve_69 rfl (lv_at hl 3 rfl) ?_
          refine lv_icmp_lt (tgt := 77) hx hb de_X_reserve_70 (by decide) (fun c_70 => ?_) (fun c_70 => ?_)
          · refine lv_iconst (v := 0) hx hb de_X_reserve_77 (by decide) ?_
            exact J0 (fun z => absurd z.2.2.2 (Int32.not_le.mpr c_70)) ls (lv_sub hl [0, 1, 2, 3, 4] rfl)
          · refine lv_iconst (v := 1) hx hb de_X_reserve_73 (by decide) ?_
            refine lv_goto (tgt := 78) hx hb de_X_reserve_74 (by decide) ?_
            have hp : (S.1 1 (j + 1) = 0 ∧ S.1 3 (j + 1) = 0 ∧ S.2.1 2 (j + 1) = 0 ∧ v ≤ S.1 0 (j + 1)) := ⟨(hdo.2 0 (by decide)).mp c_53.1, c_53.2.1, (kp_free hok.2.2.1).mp c_53.2.2, Int32.not_lt.mp c_70⟩
            exact J1 hp ls (lv_sub hl [0, 1, 2, 3, 4] rfl)
        · refine lv_if_eq (tgt := 77) hx hb de_X_reserve_56 (by decide) (fun _ => ?_) (fun z => absurd z (by decide))
          refine lv_iconst (v := 0) hx hb de_X_reserve_77 (by decide) ?_
          exact J0 (fun z => c_53 ⟨(hdo.2 0 (by decide)).mpr z.1, z.2.1, (kp_free hok.2.2.1).mpr z.2.2.1⟩) ls (lv_sub hl [0, 1, 2, 3, 4] rfl)
  refine lv_iload_n hx hb de_X_reserve_0 rfl (lv_at hl 1 rfl) ?_
  refine lv_i2l hx hb de_X_reserve_1 rfl ?_
  refine lv_lconst (v := 1) hx hb de_X_reserve_2 (by decide) ?_
  refine lv_ldc2 (v := 5) hx hb C.2.2.2.1 (C.2.2.2.2 _ kw_53) de_X_reserve_3 ?_
  refine cl_X_isIn C ⟨Nat.le_of_ble_eq_true rfl, Nat.le_of_ble_eq_true rfl⟩ hl.1 (Nat.le_of_ble_eq_true rfl) de_X_reserve_6 ⟨Nat.le_of_ble_eq_true rfl, Nat.le_of_ble_eq_true rfl⟩ (fun c_6 => ?_) (fun c_6 => ?_)
  · refine lv_if_eq (tgt := 28) hx hb de_X_reserve_9 (by decide) (fun z => absurd z (by decide)) (fun _ => ?_)
    refine lv_lload_n hx hb de_X_reserve_12 rfl (lv_at hl 2 rfl) ?_
    refine lv_aload_n hx hb de_X_reserve_13 rfl (lv_at hl 0 rfl) ?_
    refine gX_now C hK h.1 de_X_reserve_14 ?_
    refine lv_lconst (v := 1) hx hb de_X_reserve_17 (by decide) ?_
    refine lv_ladd hx hb de_X_reserve_18 ?_
    refine lv_ldc2 (v := 2000000000) hx hb C.2.2.2.1 (C.2.2.2.2 _ kw_112) de_X_reserve_19 ?_
    refine cl_X_isIn C ⟨Nat.le_of_ble_eq_true rfl, Nat.le_of_ble_eq_true rfl⟩ hl.1 (Nat.le_of_ble_eq_true rfl) de_X_reserve_22 ⟨Nat.le_of_ble_eq_true rfl, Nat.le_of_ble_eq_true rfl⟩ (fun c_22 => ?_) (fun c_22 => ?_)
    · refine lv_if_ne (tgt := 31) hx hb de_X_reserve_25 (by decide) (fun _ => ?_) (fun z => absurd z (by decide))
      refine lv_iconst (v := 0) hx hb de_X_reserve_31 (by decide) ?_
      refine zi_top (rfl) ?_
      refine lv_istore (lv' := [(4, .int (nI 0)), (0, .ref (g 0)), (1, .int v), (2, .long u)]) hx hb de_X_reserve_32 hl (by decide) rfl (fun ls hl => ?_)
      refine lv_iconst (v := 1) hx hb de_X_reserve_34 (by decide) ?_
      refine zi_top (rfl) ?_
      refine lv_istore (lv' := [(5, .int (nI (0 + 1))), (4, .int (nI 0)), (0, .ref (g 0)), (1, .int v), (2, .long u)]) hx hb de_X_reserve_35 hl (by decide) rfl (fun ls hl => ?_)
      exact loop c_6 ⟨(tm1 hI.2.1.1 hI.2.1.2).mp c_22.1, c_22.2⟩ (S.2.2 0) 0 (Nat.zero_add _) ls hl
    · refine lv_if_ne (tgt := 31) hx hb de_X_reserve_25 (by decide) (fun z => absurd z (by decide)) (fun _ => ?_)
      refine lv_bipush (v := -12) hx hb de_X_reserve_28 (by decide) ?_
      exact MOi.fin hx hb hr hlk h (⟨S, by rw [oReserve, if_pos (Or.inr (fun z => c_22 ⟨(tm1 hI.2.1.1 hI.2.1.2).mpr z.1, z.2⟩))], rfl⟩) de_X_reserve_30
  · refine lv_if_eq (tgt := 28) hx hb de_X_reserve_9 (by decide) (fun _ => ?_) (fun z => absurd z (by decide))
    refine lv_bipush (v := -12) hx hb de_X_reserve_28 (by decide) ?_
    exact MOi.fin hx hb hr hlk h (⟨S, by rw [oReserve, if_pos (Or.inl c_6)], rfl⟩) de_X_reserve_30
set_option maxHeartbeats 4000000 in
set_option maxRecDepth 100000 in
theorem ct_X_draw (l : Launch) (D : va_G) (g : Nat → Nat) (cQ cI : ClassId) (ad bx : Nat → Nat) (S : SS) (c0 : Nat) (hI : Inv c0 S) : MOi l y_X_draw b_X_draw 3 1 0 0 [.ref (g 0)] D (tyX cQ cI) (WX g cQ cI ad bx S) (some ad) (fun r w => ∃ S', w = WX g cQ cI ad bx S' ∧ ((drawA S = S.2.2 1 ∧ r = -1 ∧ S' = S) ∨ (drawA S < S.2.2 1 ∧ r = S.1 6 (drawA S) ∧ S' = shiftT S (drawA S)))) := by
  refine MOi.mk mi_X_draw (Nat.le_of_ble_eq_true rfl) ?_
  intro p e s m below meth c ls A C hr hlk hK hC hA h hl
  have hx := C.1
  have hb := C.2.1
  have hN := hC.nw
  have h : ST D A (wX g cQ cI (nI (S.2.2 0)) (nI (S.2.2 1)) (S.2.1 3 0) (S.1 8 0) (nI (S.2.2 3)) (S.2.1 3 1) (nI (S.2.2 2)) (bq (S.2.2 0) bx) (S.1 6) (S.1 7) ++ pl (S.2.2 0) bx (bxE ad S)) s.heap s.heap [] := h
  have hl : lv_has ls 3 [(0, .ref (g 0))] := hl
  have hn60 := hI.n
  have hnt := hI.nt
  have J29 : ∀ a : Nat, a ≤ S.2.2 1 → drawA S = a → ∀ ls : Array Slot, lv_has ls 3 [(1, .int (nI a)), (0, .ref (g 0))] → W p l e (rmOf 1 0 0) s m [Value.ref (g 0)].toArray below meth c s.heap [] 0 0 (MQ below (va_Qi (fun r w => ∃ S', w = WX g cQ cI ad bx S' ∧ ((drawA S = S.2.2 1 ∧ r = -1 ∧ S' = S) ∨ (drawA S < S.2.2 1 ∧ r = S.1 6 (drawA S) ∧ S' = shiftT S (drawA S)))) (PB D A) A) [Value.ref (g 0)].toArray s 0 0 A) (F0 m 29 ls []) := by
    intro a ha eA ls hl
    refine lv_iload_n hx hb de_X_draw_29 rfl (lv_at hl 0 rfl) ?_
    refine lv_aload_n hx hb de_X_draw_30 rfl (lv_at hl 1 rfl) ?_
    refine gX_tapeSize C hK h.1 de_X_draw_31 ?_
    refine lv_icmp_ne (tgt := 39) hx hb de_X_draw_34 (by decide) (fun c_34 => ?_) (fun c_34 => ?_)
    · have hlt : a < S.2.2 1 := by
        rcases Nat.lt_or_ge a (S.2.2 1) with z | z
        · exact z
        · exact absurd (show nI a = nI (S.2.2 1) by rw [show a = S.2.2 1 by omega]) c_34
      refine lv_aload_n hx hb de_X_draw_39 rfl (lv_at hl 1 rfl) ?_
      refine gX_tape C hK h.1 de_X_draw_40 ?_
      refine lv_iload_n hx hb de_X_draw_43 rfl (lv_at hl 0 rfl) ?_
      refine rX_tape hx hb hK h.1 (ix_nI (by omega) (by decide)) de_X_draw_44 ?_
      refine lv_istore_n (lv' := [(2, .int (S.1 6 a)), (1, .int (nI a)), (0, .ref (g 0))]) hx hb de_X_draw_45 rfl hl (by decide) rfl (fun ls hl => ?_)
      refine lv_aload_n hx hb de_X_draw_46 rfl (lv_at hl 2 rfl) ?_
      refine lv_dup hx hb de_X_draw_47 rfl ?_
      refine gX_tapeSize C hK h.1 de_X_draw_48 ?_
      refine lv_iload_n hx hb de_X_draw_51 rfl (lv_at hl 1 rfl) ?_
      refine lv_iconst (v := 1) hx hb de_X_draw_52 (by decide) ?_
      refine lv_iadd hx hb de_X_draw_53 ?_
      refine zi_top (nI_1 _) ?_
      refine lv_isub hx hb de_X_draw_54 ?_
      refine zi_top (pk_sub (by omega)) ?_
      refine pX_tapeSize C hK h de_X_draw_55 (fun H locs h => ?_)
      refine lv_aload_n hx hb de_X_draw_58 rfl (lv_at hl 2 rfl) ?_
      refine gX_tape C hK h.1 de_X_draw_59 ?_
      refine lv_iload_n hx hb de_X_draw_62 rfl (lv_at hl 1 rfl) ?_
      refine lv_iconst (v := 1) hx hb de_X_draw_63 (by decide) ?_
      refine lv_iadd hx hb de_X_draw_64 ?_
      refine zi_top (nI_1 _) ?_
      refine lv_aload_n hx hb de_X_draw_65 rfl (lv_at hl 2 rfl) ?_
      refine gX_tape C hK h.1 de_X_draw_66 ?_
      refine lv_iconst (v := 0) hx hb de_X_draw_69 (by decide) ?_
      refine lv_aload_n hx hb de_X_draw_70 rfl (lv_at hl 2 rfl) ?_
      refine gX_tapeSize C hK h.1 de_X_draw_71 ?_
      refine va_copyi hx hb (by rw [C.2.2.1]; exact hl.1.symm) C.2.2.2.1 (C.2.2.2.2 _ kw_171) (C.2.2.2.2 _ kw_173) (C.2.2.2.2 _ kw_172) (C.2.2.2.2 _ kw_6) hK h.1 h.2.1 h.2.2 2 2 1 1 rfl rfl rfl rfl rfl (nI_pos (by omega)) (by decide) (nI_pos (by omega)) (by rw [nI_clamp (by omega), nI_clamp (by omega)]; omega) (by rw [nI_clamp (by omega)]; show 0 + _ ≤ _; omega) (fun _ _ => rfl) (Nat.le_of_ble_eq_true rfl) (Nat.le_of_ble_eq_true rfl) de_X_draw_74 (fun H locs h1 h2 h3 => ?_)
      rw [nI_clamp (by omega), nI_clamp (by omega)] at h1 h2
      have h : ST D A (wX g cQ cI (nI (S.2.2 0)) (nI (S.2.2 1 - (a + 1))) (S.2.1 3 0) (S.1 8 0) (nI (S.2.2 3)) (S.2.1 3 1) (nI (S.2.2 2)) (bq (S.2.2 0) bx) (va_cpy (S.1 6) (S.1 6) (a + 1) 0 (S.2.2 1 - (a + 1))) (S.1 7) ++ pl (S.2.2 0) bx (bxE ad S)) s.heap H locs := ⟨h1, h2, h3⟩
      refine lv_iload_n hx hb de_X_draw_77 rfl (lv_at hl 0 rfl) ?_
      have hlt : a < S.2.2 1 := by omega
      exact MOi.fin hx hb hr hlk h (⟨shiftT S a, WX_eq rfl rfl rfl rfl rfl rfl rfl rfl rfl rfl rfl (fun _ _ _ => rfl), Or.inr ⟨by rw [eA]; exact hlt, by rw [eA], by rw [eA]⟩⟩) de_X_draw_78
    · refine lv_iconst (v := -1) hx hb de_X_draw_37 (by decide) ?_
      exact MOi.fin hx hb hr hlk h (⟨S, rfl, Or.inl ⟨by rw [eA]; exact (nI_eq (by omega) (by omega)).mp c_34, rfl, rfl⟩⟩) de_X_draw_38
  have loop : ∀ (f a : Nat), a + f = S.2.2 1 → drawI S a f = drawA S → ∀ ls : Array Slot, lv_has ls 3 [(1, .int (nI a)), (0, .ref (g 0))] → W p l e (rmOf 1 0 0) s m [Value.ref (g 0)].toArray below meth c s.heap [] 0 0 (MQ below (va_Qi (fun r w => ∃ S', w = WX g cQ cI ad bx S' ∧ ((drawA S = S.2.2 1 ∧ r = -1 ∧ S' = S) ∨ (drawA S < S.2.2 1 ∧ r = S.1 6 (drawA S) ∧ S' = shiftT S (drawA S)))) (PB D A) A) [Value.ref (g 0)].toArray s 0 0 A) (F0 m 2 ls []) := by
    intro f
    induction f with
    | zero =>
      intro a ha eA ls hl
      refine lv_iload_n hx hb de_X_draw_2 rfl (lv_at hl 0 rfl) ?_
      refine lv_aload_n hx hb de_X_draw_3 rfl (lv_at hl 1 rfl) ?_
      refine gX_tapeSize C hK h.1 de_X_draw_4 ?_
      refine lv_icmp_ge (tgt := 29) hx hb de_X_draw_7 (by decide) (fun c_7 => ?_) (fun c_7 => ?_)
      · exact J29 a (by omega) eA.symm ls hl
      · exact absurd (nI_le (show S.2.2 1 ≤ a by omega) (by omega)) c_7
    | succ f ih =>
      intro a ha eA ls hl
      refine lv_iload_n hx hb de_X_draw_2 rfl (lv_at hl 0 rfl) ?_
      refine lv_aload_n hx hb de_X_draw_3 rfl (lv_at hl 1 rfl) ?_
      refine gX_tapeSize C hK h.1 de_X_draw_4 ?_
      refine lv_icmp_ge (tgt := 29) hx hb de_X_draw_7 (by decide) (fun c_7 => ?_) (fun c_7 => ?_)
      · exact absurd c_7 (nI_ge (show a < S.2.2 1 by omega) (by omega))
      · refine lv_aload_n hx hb de_X_draw_10 rfl (lv_at hl 1 rfl) ?_
        refine lv_aload_n hx hb de_X_draw_11 rfl (lv_at hl 1 rfl) ?_
        refine gX_tape C hK h.1 de_X_draw_12 ?_
        refine lv_iload_n hx hb de_X_draw_15 rfl (lv_at hl 0 rfl) ?_
        refine rX_tape hx hb hK h.1 (ix_nI (by omega) (by decide)) de_X_draw_16 ?_
        refine cl_X_boxOf C hI.n h.1 hK hC h.2.2 ⟨Nat.le_of_ble_eq_true rfl, Nat.le_of_ble_eq_true rfl⟩ hl.1 (Nat.le_of_ble_eq_true rfl) de_X_draw_17 ⟨Nat.le_of_ble_eq_true rfl, Nat.le_of_ble_eq_true rfl⟩ ?_
        obtain ⟨L, eL, hL⟩ : ∃ L9 : Nat, lastIx (S.1 4) (S.1 6 a) (S.2.2 0) = L9 ∧ L9 ≤ S.2.2 0 := ⟨_, rfl, lastIx_le _ _ _⟩
        rw [eL]
        refine lv_if_eq (tgt := 29) hx hb de_X_draw_20 (by decide) (fun c_20 => ?_) (fun c_20 => ?_)
        · exact J29 a (by omega) (by rw [← eA, drawI, if_pos ((by rw [eL]; exact (nI_eq (b := 0) (by omega) (by decide)).mp c_20))]) ls hl
        · refine lv_iinc (v := (nI (a + 1))) (lv' := [(1, .int (nI (a + 1))), (0, .ref (g 0))]) hx hb de_X_draw_23 hl (k := 0) rfl (inc_nI _) (by decide) rfl (fun ls hl => ?_)
          refine lv_goto (tgt := 2) hx hb de_X_draw_26 (by decide) ?_
          exact ih (a + 1) (by omega) (by rw [← eA, drawI, if_neg (fun z => c_20 (by rw [← eL, z]; rfl))]) ls hl
  refine lv_iconst (v := 0) hx hb de_X_draw_0 (by decide) ?_
  refine zi_top (rfl) ?_
  refine lv_istore_n (lv' := [(1, .int (nI 0)), (0, .ref (g 0))]) hx hb de_X_draw_1 rfl hl (by decide) rfl (fun ls hl => ?_)
  exact loop (S.2.2 1) 0 (Nat.zero_add _) rfl ls hl
section CLXD
variable {p : Program} {l : Launch} {e : Env} {R : Room} {s : State} {m : MethodId} {args : Array Value} {below : List Frame} {meth : Method} {c : Code} {H : Heap} {locs : List Loc} {cells slots : Nat} {Q : State → Prop}
variable {cc : ByteArray} {pc nL : Nat} {ls : Array Slot} {rest : List Value} {own : String} {D : va_G} {tys : List (ClassId × FieldType)} {A : Nat → Prop} {ad bx g : Nat → Nat} {cQ cI : ClassId} {S : SS}
theorem cl_X_draw (C : CallFix p m c cc nL s args wG R_X) {c0 : Nat} (hI : Inv c0 S) (h : ST D A (WX g cQ cI ad bx S) s.heap H locs) (hK : va_K D classes (tyX cQ cI) s) (hC : CX (some ad) A s s.heap) (hA : ∀ q : Nat, s.heap.size ≤ q → A q) (hR : 1 + 1 ≤ R.frames ∧ 8 + (3 + 11) + 40 * 1 ≤ R.locals) (hls : ls.size = nL) (hsum : (rest.map fun v => v.category).sum ≤ 8) (hdg : decode cc pc = .ok (.invokevirtual 117, 3)) (hcs : cells ≤ R.cells ∧ slots ≤ R.slots) (k0 : drawA S = S.2.2 1 → ∀ (H1 : Heap) (locs1 : List Loc), ST D A (WX g cQ cI ad bx S) s.heap H1 locs1 → W p l e R s m args below meth c H1 locs1 cells slots Q (F0 m (pc + 3) ls (.int (-1) :: rest))) (k1 : drawA S < S.2.2 1 → ∀ (H1 : Heap) (locs1 : List Loc), ST D A (WX g cQ cI ad bx (shiftT S (drawA S))) s.heap H1 locs1 → W p l e R s m args below meth c H1 locs1 cells slots Q (F0 m (pc + 3) ls (.int (S.1 6 (drawA S)) :: rest))) : W p l e R s m args below meth c H locs cells slots Q (F0 m pc ls (.ref (g 0) :: rest)) :=
  (ct_X_draw l D g cQ cI ad bx S c0 hI).core (As := []) mi_X_draw mv_X_draw C kw_163 hR h.1 h.2.1 hK hC h.2.2 hA (q0 := 0) rfl rfl hls rfl hsum hdg hcs (fun r w H1 locs1 hp hP1 hD1 _ hS1 => by
    obtain ⟨S', hw, hp⟩ := hp
    rw [hw] at hP1 hD1
    have h9 := h.all (sub_A h.2.1 h.2.2 hA) hP1 hD1 hS1
    rcases hp with ⟨e1, rfl, rfl⟩ | ⟨e1, rfl, rfl⟩
    · exact k0 e1 H1 locs1 h9
    · exact k1 e1 H1 locs1 h9)
end CLXD
set_option maxHeartbeats 4000000 in
set_option maxRecDepth 100000 in
theorem ct_X_close (l : Launch) (D : va_G) (g : Nat → Nat) (cQ cI : ClassId) (ad bx : Nat → Nat) (S : SS) (c0 : Nat) (hI : Inv c0 S) (b : Int32) (t : Int64) : MOi l y_X_close b_X_close 6 3 0 0 [.ref (g 0), .int b, .long t] D (tyX cQ cI) (WX g cQ cI ad bx S) (some ad) (fun r w => ∃ S', oClose S b t = (r, S') ∧ w = WX g cQ cI ad bx S') := by
  refine MOi.mk mi_X_close (Nat.le_of_ble_eq_true rfl) ?_
  intro p e s m below meth c ls A C hr hlk hK hC hA h hl
  have hx := C.1
  have hb := C.2.1
  have hN := hC.nw
  have h : ST D A (wX g cQ cI (nI (S.2.2 0)) (nI (S.2.2 1)) (S.2.1 3 0) (S.1 8 0) (nI (S.2.2 3)) (S.2.1 3 1) (nI (S.2.2 2)) (bq (S.2.2 0) bx) (S.1 6) (S.1 7) ++ pl (S.2.2 0) bx (bxE ad S)) s.heap s.heap [] := h
  have hl : lv_has ls 6 [(0, .ref (g 0)), (1, .int b), (2, .long t)] := hl
  refine lv_aload_n hx hb de_X_close_0 rfl (lv_at hl 0 rfl) ?_
  refine lv_iload_n hx hb de_X_close_1 rfl (lv_at hl 1 rfl) ?_
  refine cl_X_isBox C h.1 hK hC h.2.2 ⟨Nat.le_of_ble_eq_true rfl, Nat.le_of_ble_eq_true rfl⟩ hl.1 (Nat.le_of_ble_eq_true rfl) de_X_close_2 ⟨Nat.le_of_ble_eq_true rfl, Nat.le_of_ble_eq_true rfl⟩ (fun c_2 => ?_) (fun c_2 => ?_)
  · refine lv_if_ne (tgt := 11) hx hb de_X_close_5 (by decide) (fun _ => ?_) (fun z => absurd z (by decide))
    refine lv_aload_n hx hb de_X_close_11 rfl (lv_at hl 0 rfl) ?_
    refine lv_lload_n hx hb de_X_close_12 rfl (lv_at hl 2 rfl) ?_
    refine cl_X_isTime C h.1 hK hC h.2.2 ⟨Nat.le_of_ble_eq_true rfl, Nat.le_of_ble_eq_true rfl⟩ hl.1 (Nat.le_of_ble_eq_true rfl) de_X_close_13 ⟨Nat.le_of_ble_eq_true rfl, Nat.le_of_ble_eq_true rfl⟩ (fun c_13 => ?_) (fun c_13 => ?_)
    · refine lv_if_ne (tgt := 22) hx hb de_X_close_16 (by decide) (fun _ => ?_) (fun z => absurd z (by decide))
      refine lv_aload_n hx hb de_X_close_22 rfl (lv_at hl 0 rfl) ?_
      refine lv_lload_n hx hb de_X_close_23 rfl (lv_at hl 2 rfl) ?_
      refine cl_X_pass C hI c_13 h hK hC hA ⟨Nat.le_of_ble_eq_true rfl, Nat.le_of_ble_eq_true rfl⟩ hl.1 (Nat.le_of_ble_eq_true rfl) de_X_close_24 ⟨Nat.le_of_ble_eq_true rfl, Nat.le_of_ble_eq_true rfl⟩ (fun H locs h => ?_)
      have hI1 := inv_oPass hI c_13
      have hn1 := oPass_n S t
      obtain ⟨S1, eS⟩ : ∃ S9 : SS, oPass S t = S9 := ⟨_, rfl⟩
      rw [eS] at h hI1 hn1
      have h : ST D A (wX g cQ cI (nI (S1.2.2 0)) (nI (S1.2.2 1)) (S1.2.1 3 0) (S1.1 8 0) (nI (S1.2.2 3)) (S1.2.1 3 1) (nI (S1.2.2 2)) (bq (S1.2.2 0) bx) (S1.1 6) (S1.1 7) ++ pl (S1.2.2 0) bx (bxE ad S1)) s.heap H locs := h
      obtain ⟨kb, ekb, hbx, hk1, hk2, ebk⟩ := gdB_ix c_2 hI.n
      have hn60 := hI.n
      have hk2 : kb ≤ S1.2.2 0 := by omega
      have hdo := dr_ix (hI1.ok hk1 hk2).1
      refine lv_aload_n hx hb de_X_close_27 rfl (lv_at hl 0 rfl) ?_
      refine gX_boxes C hK h.1 de_X_close_28 ?_
      refine lv_iload_n hx hb de_X_close_31 rfl (lv_at hl 1 rfl) ?_
      refine rX_boxes hx hb hK h.1 hbx (bq_get hk1 hk2) de_X_close_32 ?_
      refine lv_astore (lv' := [(4, .ref (bx kb)), (0, .ref (g 0)), (1, .int b), (2, .long t)]) hx hb de_X_close_33 hl (by decide) rfl (fun ls hl => ?_)
      refine lv_aload hx hb de_X_close_35 (lv_at hl 0 rfl) ?_
      refine gN_door C hN hK h.1 hk1 hk2 rfl de_X_close_37 ?_
      refine gs_door C hC h.2.2 1 (by decide) kw_153 de_X_close_40 ?_
      refine za_eq (tgt := 49) hx hb de_X_close_43 (by decide) (fun c_43 => ?_) (fun c_43 => ?_)
      · refine lv_aload hx hb de_X_close_49 (lv_at hl 0 rfl) ?_
        refine gN_item C hN hK h.1 hk1 hk2 rfl de_X_close_51 ?_
        refine lv_if_eq (tgt := 65) hx hb de_X_close_54 (by decide) (fun c_54 => ?_) (fun c_54 => ?_)
        · refine lv_aload hx hb de_X_close_65 (lv_at hl 0 rfl) ?_
          refine gs_door C hC h.2.2 0 (by decide) kw_162 de_X_close_67 ?_
          refine pN_door C hN hK h hk1 hk2 rfl de_X_close_70 (fun H locs h => ?_)
          refine lv_iconst (v := -1) hx hb de_X_close_73 (by decide) ?_
          refine MOi.fin hx hb hr hlk h (⟨sI S1 1 kb 0, by rw [oClose, if_neg (fun z => z c_2), if_neg (fun z => z c_13), eS, ekb, pClose, if_neg (fun z => z ((hdo.2 1 (by decide)).mp ((hC.en.inj hdo.1 (by decide)).mp c_43))), if_pos (Or.inl c_54)], WX_eq rfl rfl rfl rfl rfl rfl rfl rfl rfl rfl rfl (bx_upd (fun j hj => ?_) ?_)⟩) de_X_close_74
          · simp [bxE, shiftT, sR, sN, sI, sL, va_up, vp_updL, upd, hj]
          · simp [bxE, shiftT, sR, sN, sI, sL, va_up, vp_updL, upd, liB]
        · refine lv_aload hx hb de_X_close_57 (lv_at hl 0 rfl) ?_
          refine gN_lies C hN hK h.1 hk1 hk2 rfl de_X_close_59 ?_
          refine lv_if_eq (tgt := 75) hx hb de_X_close_62 (by decide) (fun c_62 => ?_) (fun c_62 => ?_)
          · refine lv_aload_n hx hb de_X_close_75 rfl (lv_at hl 1 rfl) ?_
            have hno : ¬ (S1.1 3 kb = 0 ∨ 0 ≤ S1.1 4 kb) := fun z => z.elim c_54 (fun z => absurd (liB_z.mp c_62) (Int32.not_lt.mpr z))
            refine cl_X_draw C hI1 h hK hC hA ⟨Nat.le_of_ble_eq_true rfl, Nat.le_of_ble_eq_true rfl⟩ hl.1 (Nat.le_of_ble_eq_true rfl) de_X_close_76 ⟨Nat.le_of_ble_eq_true rfl, Nat.le_of_ble_eq_true rfl⟩ (fun c_76 H locs h => ?_) (fun c_76 H locs h => ?_)
            · have h : ST D A (wX g cQ cI (nI (S1.2.2 0)) (nI (S1.2.2 1)) (S1.2.1 3 0) (S1.1 8 0) (nI (S1.2.2 3)) (S1.2.1 3 1) (nI (S1.2.2 2)) (bq (S1.2.2 0) bx) (S1.1 6) (S1.1 7) ++ pl (S1.2.2 0) bx (bxE ad S1)) s.heap H locs := h
              refine lv_istore (lv' := [(5, .int (-1)), (4, .ref (bx kb)), (0, .ref (g 0)), (1, .int b), (2, .long t)]) hx hb de_X_close_79 hl (by decide) rfl (fun ls hl => ?_)
              refine lv_iload hx hb de_X_close_81 (lv_at hl 0 rfl) ?_
              refine lv_iconst (v := -1) hx hb de_X_close_83 (by decide) ?_
              refine lv_icmp_ne (tgt := 90) hx hb de_X_close_84 (by decide) (fun z => absurd z (by decide)) (fun _ => ?_)
              refine lv_bipush (v := -14) hx hb de_X_close_87 (by decide) ?_
              exact MOi.fin hx hb hr hlk h (⟨S1, by rw [oClose, if_neg (fun z => z c_2), if_neg (fun z => z c_13), eS, ekb, pClose, if_neg (fun z => z ((hdo.2 1 (by decide)).mp ((hC.en.inj hdo.1 (by decide)).mp c_43))), if_neg hno, if_pos c_76], rfl⟩) de_X_close_89
            · have hcn : ¬ S1.1 6 (drawA S1) < 0 := Int32.not_lt.mpr (hI1.2.2.2.2.2.2 _ c_76)
              have h : ST D A (wX g cQ cI (nI (S1.2.2 0)) (nI (S1.2.2 1 - (drawA S1 + 1))) (S1.2.1 3 0) (S1.1 8 0) (nI (S1.2.2 3)) (S1.2.1 3 1) (nI (S1.2.2 2)) (bq (S1.2.2 0) bx) (va_cpy (S1.1 6) (S1.1 6) (drawA S1 + 1) 0 (S1.2.2 1 - (drawA S1 + 1))) (S1.1 7) ++ pl (S1.2.2 0) bx (bxE ad S1)) s.heap H locs := h
              refine lv_istore (lv' := [(5, .int (S1.1 6 (drawA S1))), (4, .ref (bx kb)), (0, .ref (g 0)), (1, .int b), (2, .long t)]) hx hb de_X_close_79 hl (by decide) rfl (fun ls hl => ?_)
              refine lv_iload hx hb de_X_close_81 (lv_at hl 0 rfl) ?_
              refine lv_iconst (v := -1) hx hb de_X_close_83 (by decide) ?_
              refine lv_icmp_ne (tgt := 90) hx hb de_X_close_84 (by decide) (fun c_84 => ?_) (fun c_84 => ?_)
              · refine lv_aload hx hb de_X_close_90 (lv_at hl 1 rfl) ?_
                refine gs_door C hC h.2.2 0 (by decide) kw_162 de_X_close_92 ?_
                refine pN_door C hN hK h hk1 hk2 rfl de_X_close_95 (fun H locs h => ?_)
                refine lv_aload hx hb de_X_close_98 (lv_at hl 1 rfl) ?_
                refine lv_iload hx hb de_X_close_100 (lv_at hl 0 rfl) ?_
                refine pF_code C hN hK h hk1 hk2 de_X_close_102 (fun H locs h => ?_)
                refine lv_aload hx hb de_X_close_105 (lv_at hl 1 rfl) ?_
                refine lv_iconst (v := 1) hx hb de_X_close_107 (by decide) ?_
                refine pF_lies C hN hK h hk1 hk2 rfl rfl de_X_close_108 (fun H locs h => ?_)
                refine lv_aload hx hb de_X_close_111 (lv_at hl 1 rfl) ?_
                refine lv_lload_n hx hb de_X_close_113 rfl (lv_at hl 4 rfl) ?_
                refine pF_lain C hN hK h hk1 hk2 de_X_close_114 (fun H locs h => ?_)
                refine lv_iload hx hb de_X_close_117 (lv_at hl 0 rfl) ?_
                refine MOi.fin hx hb hr hlk h (⟨shiftT (sL (sI (sI S1 1 kb 0) 4 kb (S1.1 6 (drawA S1))) 1 kb t) (drawA S1), by rw [oClose, if_neg (fun z => z c_2), if_neg (fun z => z c_13), eS, ekb, pClose, if_neg (fun z => z ((hdo.2 1 (by decide)).mp ((hC.en.inj hdo.1 (by decide)).mp c_43))), if_neg hno, if_neg (by omega)], WX_eq rfl rfl rfl rfl rfl rfl rfl rfl rfl rfl rfl (bx_upd (fun j hj => ?_) ?_)⟩) de_X_close_119
                · simp [bxE, shiftT, sR, sN, sI, sL, va_up, vp_updL, upd, hj]
                · simp [bxE, shiftT, sR, sN, sI, sL, va_up, vp_updL, upd, liB, hcn]
              · exact absurd (show S1.1 6 (drawA S1) < 0 by rw [c_84]; decide) hcn
          · refine lv_aload hx hb de_X_close_65 (lv_at hl 0 rfl) ?_
            refine gs_door C hC h.2.2 0 (by decide) kw_162 de_X_close_67 ?_
            refine pN_door C hN hK h hk1 hk2 rfl de_X_close_70 (fun H locs h => ?_)
            refine lv_iconst (v := -1) hx hb de_X_close_73 (by decide) ?_
            refine MOi.fin hx hb hr hlk h (⟨sI S1 1 kb 0, by rw [oClose, if_neg (fun z => z c_2), if_neg (fun z => z c_13), eS, ekb, pClose, if_neg (fun z => z ((hdo.2 1 (by decide)).mp ((hC.en.inj hdo.1 (by decide)).mp c_43))), if_pos (Or.inr (Int32.not_lt.mp (fun z => c_62 (liB_z.mpr z))))], WX_eq rfl rfl rfl rfl rfl rfl rfl rfl rfl rfl rfl (bx_upd (fun j hj => ?_) ?_)⟩) de_X_close_74
            · simp [bxE, shiftT, sR, sN, sI, sL, va_up, vp_updL, upd, hj]
            · simp [bxE, shiftT, sR, sN, sI, sL, va_up, vp_updL, upd, liB]
      · refine lv_bipush (v := -13) hx hb de_X_close_46 (by decide) ?_
        exact MOi.fin hx hb hr hlk h (⟨S1, by rw [oClose, if_neg (fun z => z c_2), if_neg (fun z => z c_13), eS, ekb, pClose, if_pos (fun z => c_43 (by rw [z]; rfl))], rfl⟩) de_X_close_48
    · refine lv_if_ne (tgt := 22) hx hb de_X_close_16 (by decide) (fun z => absurd z (by decide)) (fun _ => ?_)
      refine lv_bipush (v := -12) hx hb de_X_close_19 (by decide) ?_
      exact MOi.fin hx hb hr hlk h (⟨S, by rw [oClose, if_neg (fun z => z c_2), if_pos c_13], rfl⟩) de_X_close_21
  · refine lv_if_ne (tgt := 11) hx hb de_X_close_5 (by decide) (fun z => absurd z (by decide)) (fun _ => ?_)
    refine lv_bipush (v := -11) hx hb de_X_close_8 (by decide) ?_
    exact MOi.fin hx hb hr hlk h (⟨S, by rw [oClose, if_pos c_2], rfl⟩) de_X_close_10
set_option maxHeartbeats 4000000 in
set_option maxRecDepth 100000 in
theorem ct_X_type (l : Launch) (D : va_G) (g : Nat → Nat) (cQ cI : ClassId) (ad bx : Nat → Nat) (S : SS) (c0 : Nat) (hI : Inv c0 S) (hc0 : c0 < 1000000) (v : Int32) (t : Int64) : MOi l y_X_type b_X_type 5 3 0 0 [.ref (g 0), .int v, .long t] D (tyX cQ cI) (WX g cQ cI ad bx S) (some ad) (fun r w => ∃ S', oType S v t = (r, S') ∧ w = WX g cQ cI ad bx S') := by
  refine MOi.mk mi_X_type (Nat.le_of_ble_eq_true rfl) ?_
  intro p e s m below meth c ls A C hr hlk hK hC hA h hl
  have hx := C.1
  have hb := C.2.1
  have hN := hC.nw
  have h : ST D A (wX g cQ cI (nI (S.2.2 0)) (nI (S.2.2 1)) (S.2.1 3 0) (S.1 8 0) (nI (S.2.2 3)) (S.2.1 3 1) (nI (S.2.2 2)) (bq (S.2.2 0) bx) (S.1 6) (S.1 7) ++ pl (S.2.2 0) bx (bxE ad S)) s.heap s.heap [] := h
  have hl : lv_has ls 5 [(0, .ref (g 0)), (1, .int v), (2, .long t)] := hl
  refine lv_iload_n hx hb de_X_type_0 rfl (lv_at hl 1 rfl) ?_
  refine lv_i2l hx hb de_X_type_1 rfl ?_
  refine lv_lconst (v := 0) hx hb de_X_type_2 (by decide) ?_
  refine lv_ldc2 (v := 999999) hx hb C.2.2.2.1 (C.2.2.2.2 _ kw_107) de_X_type_3 ?_
  refine cl_X_isIn C ⟨Nat.le_of_ble_eq_true rfl, Nat.le_of_ble_eq_true rfl⟩ hl.1 (Nat.le_of_ble_eq_true rfl) de_X_type_6 ⟨Nat.le_of_ble_eq_true rfl, Nat.le_of_ble_eq_true rfl⟩ (fun c_6 => ?_) (fun c_6 => ?_)
  · refine lv_if_eq (tgt := 20) hx hb de_X_type_9 (by decide) (fun z => absurd z (by decide)) (fun _ => ?_)
    refine lv_aload_n hx hb de_X_type_12 rfl (lv_at hl 0 rfl) ?_
    refine lv_lload_n hx hb de_X_type_13 rfl (lv_at hl 2 rfl) ?_
    refine cl_X_isTime C h.1 hK hC h.2.2 ⟨Nat.le_of_ble_eq_true rfl, Nat.le_of_ble_eq_true rfl⟩ hl.1 (Nat.le_of_ble_eq_true rfl) de_X_type_14 ⟨Nat.le_of_ble_eq_true rfl, Nat.le_of_ble_eq_true rfl⟩ (fun c_14 => ?_) (fun c_14 => ?_)
    · refine lv_if_ne (tgt := 23) hx hb de_X_type_17 (by decide) (fun _ => ?_) (fun z => absurd z (by decide))
      refine lv_aload_n hx hb de_X_type_23 rfl (lv_at hl 0 rfl) ?_
      refine lv_lload_n hx hb de_X_type_24 rfl (lv_at hl 2 rfl) ?_
      refine cl_X_pass C hI c_14 h hK hC hA ⟨Nat.le_of_ble_eq_true rfl, Nat.le_of_ble_eq_true rfl⟩ hl.1 (Nat.le_of_ble_eq_true rfl) de_X_type_25 ⟨Nat.le_of_ble_eq_true rfl, Nat.le_of_ble_eq_true rfl⟩ (fun H locs h => ?_)
      have hI1 := inv_oPass hI c_14
      have hn1 := oPass_n S t
      obtain ⟨S1, eS⟩ : ∃ S9 : SS, oPass S t = S9 := ⟨_, rfl⟩
      rw [eS] at h hI1 hn1
      have h : ST D A (wX g cQ cI (nI (S1.2.2 0)) (nI (S1.2.2 1)) (S1.2.1 3 0) (S1.1 8 0) (nI (S1.2.2 3)) (S1.2.1 3 1) (nI (S1.2.2 2)) (bq (S1.2.2 0) bx) (S1.1 6) (S1.1 7) ++ pl (S1.2.2 0) bx (bxE ad S1)) s.heap H locs := h
      have hn60 := hI1.n
      have hwr := hI1.nw
      refine lv_lload_n hx hb de_X_type_28 rfl (lv_at hl 2 rfl) ?_
      refine lv_aload_n hx hb de_X_type_29 rfl (lv_at hl 0 rfl) ?_
      refine gX_waits C hK h.1 de_X_type_30 ?_
      refine zl_ge (tgt := 39) hx hb de_X_type_33 de_X_type_34 (by decide) (fun c_34 => ?_) (fun c_34 => ?_)
      · refine lv_aload_n hx hb de_X_type_39 rfl (lv_at hl 0 rfl) ?_
        refine lv_iload_n hx hb de_X_type_40 rfl (lv_at hl 1 rfl) ?_
        refine cl_X_boxOf C hI1.n h.1 hK hC h.2.2 ⟨Nat.le_of_ble_eq_true rfl, Nat.le_of_ble_eq_true rfl⟩ hl.1 (Nat.le_of_ble_eq_true rfl) de_X_type_41 ⟨Nat.le_of_ble_eq_true rfl, Nat.le_of_ble_eq_true rfl⟩ ?_
        obtain ⟨L, eL, hL⟩ : ∃ L9 : Nat, lastIx (S1.1 4) v (S1.2.2 0) = L9 ∧ L9 ≤ S1.2.2 0 := ⟨_, rfl, lastIx_le _ _ _⟩
        rw [eL]
        refine lv_istore (lv' := [(4, .int (nI L)), (0, .ref (g 0)), (1, .int v), (2, .long t)]) hx hb de_X_type_44 hl (by decide) rfl (fun ls hl => ?_)
        refine lv_iload hx hb de_X_type_46 (lv_at hl 0 rfl) ?_
        refine lv_if_eq (tgt := 67) hx hb de_X_type_48 (by decide) (fun c_48 => ?_) (fun c_48 => ?_)
        · refine lv_aload_n hx hb de_X_type_67 rfl (lv_at hl 1 rfl) ?_
          refine lv_dup hx hb de_X_type_68 rfl ?_
          refine gX_wrong C hK h.1 de_X_type_69 ?_
          refine lv_iconst (v := 1) hx hb de_X_type_72 (by decide) ?_
          refine lv_iadd hx hb de_X_type_73 ?_
          refine zi_top (nI_1 _) ?_
          refine pX_wrong C hK h de_X_type_74 (fun H locs h => ?_)
          refine lv_aload_n hx hb de_X_type_77 rfl (lv_at hl 1 rfl) ?_
          refine lv_aload_n hx hb de_X_type_78 rfl (lv_at hl 1 rfl) ?_
          refine gX_wrong C hK h.1 de_X_type_79 ?_
          refine lv_iconst (v := 3) hx hb de_X_type_82 (by decide) ?_
          refine lv_irem hx hb de_X_type_83 (by decide) ?_
          refine zi_top (pk_rem (a := S1.2.2 3 + 1) (d := 3) (by omega) (by decide) (by decide)) ?_
          refine lv_if_ne (tgt := 95) hx hb de_X_type_84 (by decide) (fun c_84 => ?_) (fun c_84 => ?_)
          · have hm3 : ¬ (S1.2.2 3 + 1) % 3 = 0 := fun z => c_84 (by rw [z]; rfl)
            refine lv_aload_n hx hb de_X_type_95 rfl (lv_at hl 1 rfl) ?_
            refine gX_waits C hK h.1 de_X_type_96 ?_
            refine pX_waits C hK h de_X_type_99 (fun H locs h => ?_)
            refine lv_iconst (v := 0) hx hb de_X_type_102 (by decide) ?_
            exact MOi.fin hx hb hr hlk h (⟨sN S1 3 (S1.2.2 3 + 1), by rw [oType, if_neg (fun z => z.elim (fun z => z c_6) (fun z => z c_14)), eS, pType, if_neg (fun z => absurd z (Int64.not_lt.mpr c_34)), if_pos (Or.inl (by rw [eL]; exact (nI_eq (b := 0) (by omega) (by decide)).mp c_48)), if_neg hm3], WX_eq rfl rfl rfl rfl rfl rfl rfl rfl rfl rfl rfl (fun _ _ _ => rfl)⟩) de_X_type_103
          · have hm3 : (S1.2.2 3 + 1) % 3 = 0 := (nI_eq (b := 0) (by omega) (by decide)).mp c_84
            refine lv_lload_n hx hb de_X_type_87 rfl (lv_at hl 3 rfl) ?_
            refine lv_ldc2 (v := 300) hx hb C.2.2.2.1 (C.2.2.2.2 _ kw_178) de_X_type_88 ?_
            refine lv_ladd hx hb de_X_type_91 ?_
            refine lv_goto (tgt := 99) hx hb de_X_type_92 (by decide) ?_
            refine pX_waits C hK h de_X_type_99 (fun H locs h => ?_)
            refine lv_iconst (v := 0) hx hb de_X_type_102 (by decide) ?_
            exact MOi.fin hx hb hr hlk h (⟨sN (sL S1 3 1 (t + 300)) 3 (S1.2.2 3 + 1), by rw [oType, if_neg (fun z => z.elim (fun z => z c_6) (fun z => z c_14)), eS, pType, if_neg (fun z => absurd z (Int64.not_lt.mpr c_34)), if_pos (Or.inl (by rw [eL]; exact (nI_eq (b := 0) (by omega) (by decide)).mp c_48)), if_pos hm3], WX_eq rfl rfl rfl rfl rfl rfl rfl rfl rfl rfl rfl (fun _ _ _ => rfl)⟩) de_X_type_103
        · have hL0 : ¬ L = 0 := fun z => c_48 (by rw [z]; rfl)
          have hk1 : 1 ≤ L := by omega
          have hdo := dr_ix (hI1.ok hk1 hL).1
          refine lv_aload_n hx hb de_X_type_51 rfl (lv_at hl 1 rfl) ?_
          refine gX_boxes C hK h.1 de_X_type_52 ?_
          refine lv_iload hx hb de_X_type_55 (lv_at hl 0 rfl) ?_
          refine rX_boxes hx hb hK h.1 (ix_nI (by omega) (by decide)) (bq_get hk1 hL) de_X_type_57 ?_
          refine gN_door C hN hK h.1 hk1 hL rfl de_X_type_58 ?_
          refine gs_door C hC h.2.2 0 (by decide) kw_162 de_X_type_61 ?_
          refine za_eq (tgt := 104) hx hb de_X_type_64 (by decide) (fun c_64 => ?_) (fun c_64 => ?_)
          · refine lv_aload_n hx hb de_X_type_104 rfl (lv_at hl 1 rfl) ?_
            refine lv_iconst (v := 0) hx hb de_X_type_105 (by decide) ?_
            refine pX_wrong C hK h de_X_type_106 (fun H locs h => ?_)
            refine lv_aload_n hx hb de_X_type_109 rfl (lv_at hl 1 rfl) ?_
            refine gX_boxes C hK h.1 de_X_type_110 ?_
            refine lv_iload hx hb de_X_type_113 (lv_at hl 0 rfl) ?_
            refine rX_boxes hx hb hK h.1 (ix_nI (by omega) (by decide)) (bq_get hk1 hL) de_X_type_115 ?_
            refine clN_B_empty C h hk1 hL rfl hK hC hA ⟨Nat.le_of_ble_eq_true rfl, Nat.le_of_ble_eq_true rfl⟩ hl.1 (Nat.le_of_ble_eq_true rfl) de_X_type_116 ⟨Nat.le_of_ble_eq_true rfl, Nat.le_of_ble_eq_true rfl⟩ (fun H locs h => ?_)
            refine lv_aload_n hx hb de_X_type_119 rfl (lv_at hl 1 rfl) ?_
            refine gX_boxes C hK h.1 de_X_type_120 ?_
            refine lv_iload hx hb de_X_type_123 (lv_at hl 0 rfl) ?_
            refine rX_boxes hx hb hK h.1 (ix_nI (by omega) (by decide)) (bq_get hk1 hL) de_X_type_125 ?_
            refine gs_door C hC h.2.2 1 (by decide) kw_153 de_X_type_126 ?_
            refine lv_lload_n hx hb de_X_type_129 rfl (lv_at hl 3 rfl) ?_
            refine clF_B_open C h hk1 hL hK hC hA ⟨Nat.le_of_ble_eq_true rfl, Nat.le_of_ble_eq_true rfl⟩ hl.1 (Nat.le_of_ble_eq_true rfl) de_X_type_130 ⟨Nat.le_of_ble_eq_true rfl, Nat.le_of_ble_eq_true rfl⟩ (fun H locs h => ?_)
            refine lv_iload hx hb de_X_type_133 (lv_at hl 0 rfl) ?_
            refine MOi.fin hx hb hr hlk h (⟨sN (pOpen (pOut S1 L) L 1 t) 3 0, by rw [oType, if_neg (fun z => z.elim (fun z => z c_6) (fun z => z c_14)), eS, pType, if_neg (fun z => absurd z (Int64.not_lt.mpr c_34)), eL, if_neg (fun z => z.elim hL0 (fun z => z ((hdo.2 0 (by decide)).mp ((hC.en.inj hdo.1 (by decide)).mp c_64))))], WX_eq rfl rfl rfl rfl rfl rfl rfl rfl rfl rfl rfl (bx_upd (fun j hj => ?_) ?_)⟩) de_X_type_135
            · simp [bxE, pOpen, pOut, sN, sI, sL, va_up, vp_updL, upd, hj]
            · simp [bxE, pOpen, pOut, sN, sI, sL, va_up, vp_updL, upd, liB]
          · refine lv_aload_n hx hb de_X_type_67 rfl (lv_at hl 1 rfl) ?_
            refine lv_dup hx hb de_X_type_68 rfl ?_
            refine gX_wrong C hK h.1 de_X_type_69 ?_
            refine lv_iconst (v := 1) hx hb de_X_type_72 (by decide) ?_
            refine lv_iadd hx hb de_X_type_73 ?_
            refine zi_top (nI_1 _) ?_
            refine pX_wrong C hK h de_X_type_74 (fun H locs h => ?_)
            refine lv_aload_n hx hb de_X_type_77 rfl (lv_at hl 1 rfl) ?_
            refine lv_aload_n hx hb de_X_type_78 rfl (lv_at hl 1 rfl) ?_
            refine gX_wrong C hK h.1 de_X_type_79 ?_
            refine lv_iconst (v := 3) hx hb de_X_type_82 (by decide) ?_
            refine lv_irem hx hb de_X_type_83 (by decide) ?_
            refine zi_top (pk_rem (a := S1.2.2 3 + 1) (d := 3) (by omega) (by decide) (by decide)) ?_
            refine lv_if_ne (tgt := 95) hx hb de_X_type_84 (by decide) (fun c_84 => ?_) (fun c_84 => ?_)
            · have hm3 : ¬ (S1.2.2 3 + 1) % 3 = 0 := fun z => c_84 (by rw [z]; rfl)
              refine lv_aload_n hx hb de_X_type_95 rfl (lv_at hl 1 rfl) ?_
              refine gX_waits C hK h.1 de_X_type_96 ?_
              refine pX_waits C hK h de_X_type_99 (fun H locs h => ?_)
              refine lv_iconst (v := 0) hx hb de_X_type_102 (by decide) ?_
              exact MOi.fin hx hb hr hlk h (⟨sN S1 3 (S1.2.2 3 + 1), by rw [oType, if_neg (fun z => z.elim (fun z => z c_6) (fun z => z c_14)), eS, pType, if_neg (fun z => absurd z (Int64.not_lt.mpr c_34)), if_pos (Or.inr (by rw [eL]; exact fun z => c_64 (by rw [z]; rfl))), if_neg hm3], WX_eq rfl rfl rfl rfl rfl rfl rfl rfl rfl rfl rfl (fun _ _ _ => rfl)⟩) de_X_type_103
            · have hm3 : (S1.2.2 3 + 1) % 3 = 0 := (nI_eq (b := 0) (by omega) (by decide)).mp c_84
              refine lv_lload_n hx hb de_X_type_87 rfl (lv_at hl 3 rfl) ?_
              refine lv_ldc2 (v := 300) hx hb C.2.2.2.1 (C.2.2.2.2 _ kw_178) de_X_type_88 ?_
              refine lv_ladd hx hb de_X_type_91 ?_
              refine lv_goto (tgt := 99) hx hb de_X_type_92 (by decide) ?_
              refine pX_waits C hK h de_X_type_99 (fun H locs h => ?_)
              refine lv_iconst (v := 0) hx hb de_X_type_102 (by decide) ?_
              exact MOi.fin hx hb hr hlk h (⟨sN (sL S1 3 1 (t + 300)) 3 (S1.2.2 3 + 1), by rw [oType, if_neg (fun z => z.elim (fun z => z c_6) (fun z => z c_14)), eS, pType, if_neg (fun z => absurd z (Int64.not_lt.mpr c_34)), if_pos (Or.inr (by rw [eL]; exact fun z => c_64 (by rw [z]; rfl))), if_pos hm3], WX_eq rfl rfl rfl rfl rfl rfl rfl rfl rfl rfl rfl (fun _ _ _ => rfl)⟩) de_X_type_103
      · refine lv_iconst (v := -1) hx hb de_X_type_37 (by decide) ?_
        exact MOi.fin hx hb hr hlk h (⟨S1, by rw [oType, if_neg (fun z => z.elim (fun z => z c_6) (fun z => z c_14)), eS, pType, if_pos (Int64.not_le.mp c_34)], rfl⟩) de_X_type_38
    · refine lv_if_ne (tgt := 23) hx hb de_X_type_17 (by decide) (fun z => absurd z (by decide)) (fun _ => ?_)
      refine lv_bipush (v := -12) hx hb de_X_type_20 (by decide) ?_
      exact MOi.fin hx hb hr hlk h (⟨S, by rw [oType, if_pos (Or.inr c_14)], rfl⟩) de_X_type_22
  · refine lv_if_eq (tgt := 20) hx hb de_X_type_9 (by decide) (fun _ => ?_) (fun z => absurd z (by decide))
    refine lv_bipush (v := -12) hx hb de_X_type_20 (by decide) ?_
    exact MOi.fin hx hb hr hlk h (⟨S, by rw [oType, if_pos (Or.inl c_6)], rfl⟩) de_X_type_22
end
section
/-! ===== the component: door, box, the constructor: printed by gen/xops3.py ===== -/
abbrev bz : va_E := .inr (1, [.int 0, .null, .long 0, .int 0, .long 0, .int 0, .int 0, .long 0, .int 0, .int 0])
theorem ev_cases {e : Int32} (h : gdI e 0 4) : e = 0 ∨ e = 1 ∨ e = 2 ∨ e = 3 ∨ e = 4 := by
  obtain ⟨h1, h2⟩ := h
  rw [Int64.le_iff_toInt_le, Int32.toInt_toInt64] at h1 h2
  have e0 : (0 : Int64).toInt = 0 := by decide
  have e4 : (4 : Int64).toInt = 4 := by decide
  rw [e0] at h1
  rw [e4] at h2
  have f0 : (0 : Int32).toInt = 0 := by decide
  have f1 : (1 : Int32).toInt = 1 := by decide
  have f2 : (2 : Int32).toInt = 2 := by decide
  have f3 : (3 : Int32).toInt = 3 := by decide
  have f4 : (4 : Int32).toInt = 4 := by decide
  rcases (show e.toInt = 0 ∨ e.toInt = 1 ∨ e.toInt = 2 ∨ e.toInt = 3 ∨ e.toInt = 4 by omega) with z | z | z | z | z
  · exact Or.inl (Int32.toInt_inj.mp (by rw [z, f0]))
  · exact Or.inr (Or.inl (Int32.toInt_inj.mp (by rw [z, f1])))
  · exact Or.inr (Or.inr (Or.inl (Int32.toInt_inj.mp (by rw [z, f2]))))
  · exact Or.inr (Or.inr (Or.inr (Or.inl (Int32.toInt_inj.mp (by rw [z, f3])))))
  · exact Or.inr (Or.inr (Or.inr (Or.inr (Int32.toInt_inj.mp (by rw [z, f4])))))
set_option maxHeartbeats 4000000 in
set_option maxRecDepth 100000 in
theorem ct_X_door (l : Launch) (D : va_G) (g : Nat → Nat) (cQ cI : ClassId) (ad bx : Nat → Nat) (S : SS) (c0 : Nat) (hI : Inv c0 S) (b ev : Int32) (t : Int64) : MOi l y_X_door b_X_door 7 3 0 0 [.ref (g 0), .int b, .int ev, .long t] D (tyX cQ cI) (WX g cQ cI ad bx S) (some ad) (fun r w => ∃ S', oDoor S b ev t = (r, S') ∧ w = WX g cQ cI ad bx S') := by
  refine MOi.mk mi_X_door (Nat.le_of_ble_eq_true rfl) ?_
  intro p e s m below meth c ls A C hr hlk hK hC hA h hl
  have hx := C.1
  have hb := C.2.1
  have hN := hC.nw
  have h : ST D A (wX g cQ cI (nI (S.2.2 0)) (nI (S.2.2 1)) (S.2.1 3 0) (S.1 8 0) (nI (S.2.2 3)) (S.2.1 3 1) (nI (S.2.2 2)) (bq (S.2.2 0) bx) (S.1 6) (S.1 7) ++ pl (S.2.2 0) bx (bxE ad S)) s.heap s.heap [] := h
  have hl : lv_has ls 7 [(0, .ref (g 0)), (1, .int b), (2, .int ev), (3, .long t)] := hl
  have tn1 : (1 : Int32).toNatClampNeg = 1 := by decide
  have tn2 : (2 : Int32).toNatClampNeg = 2 := by decide
  have tn3 : (3 : Int32).toNatClampNeg = 3 := by decide
  refine lv_aload_n hx hb de_X_door_0 rfl (lv_at hl 0 rfl) ?_
  refine lv_iload_n hx hb de_X_door_1 rfl (lv_at hl 1 rfl) ?_
  refine cl_X_isBox C h.1 hK hC h.2.2 ⟨Nat.le_of_ble_eq_true rfl, Nat.le_of_ble_eq_true rfl⟩ hl.1 (Nat.le_of_ble_eq_true rfl) de_X_door_2 ⟨Nat.le_of_ble_eq_true rfl, Nat.le_of_ble_eq_true rfl⟩ (fun c_2 => ?_) (fun c_2 => ?_)
  · refine lv_if_ne (tgt := 11) hx hb de_X_door_5 (by decide) (fun _ => ?_) (fun z => absurd z (by decide))
    refine lv_iload_n hx hb de_X_door_11 rfl (lv_at hl 2 rfl) ?_
    refine lv_i2l hx hb de_X_door_12 rfl ?_
    refine lv_lconst (v := 0) hx hb de_X_door_13 (by decide) ?_
    refine lv_ldc2 (v := 4) hx hb C.2.2.2.1 (C.2.2.2.2 _ kw_195) de_X_door_14 ?_
    refine cl_X_isIn C ⟨Nat.le_of_ble_eq_true rfl, Nat.le_of_ble_eq_true rfl⟩ hl.1 (Nat.le_of_ble_eq_true rfl) de_X_door_17 ⟨Nat.le_of_ble_eq_true rfl, Nat.le_of_ble_eq_true rfl⟩ (fun c_17 => ?_) (fun c_17 => ?_)
    · refine lv_if_eq (tgt := 31) hx hb de_X_door_20 (by decide) (fun z => absurd z (by decide)) (fun _ => ?_)
      refine lv_aload_n hx hb de_X_door_23 rfl (lv_at hl 0 rfl) ?_
      refine lv_lload_n hx hb de_X_door_24 rfl (lv_at hl 3 rfl) ?_
      refine cl_X_isTime C h.1 hK hC h.2.2 ⟨Nat.le_of_ble_eq_true rfl, Nat.le_of_ble_eq_true rfl⟩ hl.1 (Nat.le_of_ble_eq_true rfl) de_X_door_25 ⟨Nat.le_of_ble_eq_true rfl, Nat.le_of_ble_eq_true rfl⟩ (fun c_25 => ?_) (fun c_25 => ?_)
      · refine lv_if_ne (tgt := 34) hx hb de_X_door_28 (by decide) (fun _ => ?_) (fun z => absurd z (by decide))
        refine lv_aload_n hx hb de_X_door_34 rfl (lv_at hl 0 rfl) ?_
        refine lv_lload_n hx hb de_X_door_35 rfl (lv_at hl 3 rfl) ?_
        refine cl_X_pass C hI c_25 h hK hC hA ⟨Nat.le_of_ble_eq_true rfl, Nat.le_of_ble_eq_true rfl⟩ hl.1 (Nat.le_of_ble_eq_true rfl) de_X_door_36 ⟨Nat.le_of_ble_eq_true rfl, Nat.le_of_ble_eq_true rfl⟩ (fun H locs h => ?_)
        have hI1 := inv_oPass hI c_25
        have hn1 := oPass_n S t
        obtain ⟨S1, eS⟩ : ∃ S9 : SS, oPass S t = S9 := ⟨_, rfl⟩
        rw [eS] at h hI1 hn1
        have h : ST D A (wX g cQ cI (nI (S1.2.2 0)) (nI (S1.2.2 1)) (S1.2.1 3 0) (S1.1 8 0) (nI (S1.2.2 3)) (S1.2.1 3 1) (nI (S1.2.2 2)) (bq (S1.2.2 0) bx) (S1.1 6) (S1.1 7) ++ pl (S1.2.2 0) bx (bxE ad S1)) s.heap H locs := h
        obtain ⟨kb, ekb, hbx, hk1, hk2, ebk⟩ := gdB_ix c_2 hI.n
        have hn60 := hI.n
        have hk2 : kb ≤ S1.2.2 0 := by omega
        have hdo := dr_ix (hI1.ok hk1 hk2).1
        refine lv_aload_n hx hb de_X_door_39 rfl (lv_at hl 0 rfl) ?_
        refine gX_boxes C hK h.1 de_X_door_40 ?_
        refine lv_iload_n hx hb de_X_door_43 rfl (lv_at hl 1 rfl) ?_
        refine rX_boxes hx hb hK h.1 hbx (bq_get hk1 hk2) de_X_door_44 ?_
        refine lv_astore (lv' := [(5, .ref (bx kb)), (0, .ref (g 0)), (1, .int b), (2, .int ev), (3, .long t)]) hx hb de_X_door_45 hl (by decide) rfl (fun ls hl => ?_)
        refine lv_iload_n hx hb de_X_door_47 rfl (lv_at hl 3 rfl) ?_
        rcases ev_cases c_17 with rfl | rfl | rfl | rfl | rfl
        · refine lv_tableIn (tgt := 80) (off := 32) hx hb de_X_door_48 (by decide) (by decide) (by decide) (by decide) ?_
          refine lv_aload hx hb de_X_door_80 (lv_at hl 0 rfl) ?_
          refine gN_door C hN hK h.1 hk1 hk2 rfl de_X_door_82 ?_
          refine gs_door C hC h.2.2 0 (by decide) kw_162 de_X_door_85 ?_
          refine za_ne (tgt := 95) hx hb de_X_door_88 (by decide) (fun c_88 => ?_) (fun c_88 => ?_)
          · have hq : ¬ S1.1 1 kb = 0 := fun z => c_88 ((hC.en.inj hdo.1 (by decide)).mpr ((hdo.2 0 (by decide)).mpr z))
            have hm : mayD S1 kb 0 = false := by simp [mayD, hq]
            refine lv_iconst (v := 0) hx hb de_X_door_95 (by decide) ?_
            refine lv_istore (lv' := [(6, .int 0), (5, .ref (bx kb)), (0, .ref (g 0)), (1, .int b), (2, .int 0), (3, .long t)]) hx hb de_X_door_96 hl (by decide) rfl (fun ls hl => ?_)
            refine lv_goto (tgt := 182) hx hb de_X_door_98 (by decide) ?_
            refine lv_iload hx hb de_X_door_182 (lv_at hl 0 rfl) ?_
            refine lv_if_ne (tgt := 190) hx hb de_X_door_184 (by decide) (fun z => absurd z (by decide)) (fun _ => ?_)
            refine lv_bipush (v := -13) hx hb de_X_door_187 (by decide) ?_
            exact MOi.fin hx hb hr hlk h (⟨S1, by rw [oDoor, if_neg (fun z => z c_2), if_neg (fun z => z.elim (fun z => z c_17) (fun z => z c_25)), eS, ekb, pDoor, if_pos hm], rfl⟩) de_X_door_189
          · have hq : S1.1 1 kb = 0 := (hdo.2 0 (by decide)).mp ((hC.en.inj hdo.1 (by decide)).mp c_88)
            have hm : mayD S1 kb 0 = true := by simp [mayD, hq]
            refine lv_iconst (v := 1) hx hb de_X_door_91 (by decide) ?_
            refine lv_goto (tgt := 96) hx hb de_X_door_92 (by decide) ?_
            refine lv_istore (lv' := [(6, .int 1), (5, .ref (bx kb)), (0, .ref (g 0)), (1, .int b), (2, .int 0), (3, .long t)]) hx hb de_X_door_96 hl (by decide) rfl (fun ls hl => ?_)
            refine lv_goto (tgt := 182) hx hb de_X_door_98 (by decide) ?_
            refine lv_iload hx hb de_X_door_182 (lv_at hl 0 rfl) ?_
            refine lv_if_ne (tgt := 190) hx hb de_X_door_184 (by decide) (fun _ => ?_) (fun z => absurd z (by decide))
            refine lv_iload_n hx hb de_X_door_190 rfl (lv_at hl 4 rfl) ?_
            refine lv_iconst (v := 2) hx hb de_X_door_191 (by decide) ?_
            refine lv_icmp_ge (tgt := 217) hx hb de_X_door_192 (by decide) (fun z => absurd z (by decide)) (fun _ => ?_)
            refine lv_aload hx hb de_X_door_195 (lv_at hl 1 rfl) ?_
            refine lv_iload_n hx hb de_X_door_197 rfl (lv_at hl 4 rfl) ?_
            refine lv_if_ne (tgt := 207) hx hb de_X_door_198 (by decide) (fun z => absurd z (by decide)) (fun _ => ?_)
            refine gs_door C hC h.2.2 1 (by decide) kw_153 de_X_door_201 ?_
            refine lv_goto (tgt := 210) hx hb de_X_door_204 (by decide) ?_
            refine lv_lload_n hx hb de_X_door_210 rfl (lv_at hl 5 rfl) ?_
            refine clN_B_open C h hk1 hk2 rfl hK hC hA ⟨Nat.le_of_ble_eq_true rfl, Nat.le_of_ble_eq_true rfl⟩ hl.1 (Nat.le_of_ble_eq_true rfl) de_X_door_211 ⟨Nat.le_of_ble_eq_true rfl, Nat.le_of_ble_eq_true rfl⟩ (fun H locs h => ?_)
            refine lv_goto (tgt := 236) hx hb de_X_door_214 (by decide) ?_
            refine lv_aload hx hb de_X_door_236 (lv_at hl 1 rfl) ?_
            refine gN_door C hN hK h.1 hk1 hk2 (va_up_self _ _ _) de_X_door_238 ?_
            refine clX_E_ordinal C (d := 1) (by decide) hK hC h.2.2 ⟨Nat.le_of_ble_eq_true rfl, Nat.le_of_ble_eq_true rfl⟩ hl.1 (Nat.le_of_ble_eq_true rfl) de_X_door_241 ⟨Nat.le_of_ble_eq_true rfl, Nat.le_of_ble_eq_true rfl⟩ ?_
            refine MOi.fin hx hb hr hlk h (⟨pOpen S1 kb 1 t, by rw [oDoor, if_neg (fun z => z c_2), if_neg (fun z => z.elim (fun z => z c_17) (fun z => z c_25)), eS, ekb, pDoor, if_neg (fun z => by rw [hm] at z; cases z)]; rfl, WX_eq rfl rfl rfl rfl rfl rfl rfl rfl rfl rfl rfl (bx_upd (fun j hj => ?_) ?_)⟩) de_X_door_244
            · simp [bxE, pOpen, sN, sI, sL, va_up, vp_updL, upd, hj]
            · simp [bxE, pOpen, sN, sI, sL, va_up, vp_updL, upd, tn1, tn2, tn3]
        · refine lv_tableIn (tgt := 101) (off := 53) hx hb de_X_door_48 (by decide) (by decide) (by decide) (by decide) ?_
          refine lv_aload hx hb de_X_door_101 (lv_at hl 0 rfl) ?_
          refine gN_door C hN hK h.1 hk1 hk2 rfl de_X_door_103 ?_
          refine gs_door C hC h.2.2 0 (by decide) kw_162 de_X_door_106 ?_
          refine za_eq (tgt := 123) hx hb de_X_door_109 (by decide) (fun c_109 => ?_) (fun c_109 => ?_)
          · have hq : S1.1 1 kb = 0 := (hdo.2 0 (by decide)).mp ((hC.en.inj hdo.1 (by decide)).mp c_109)
            have hm : mayD S1 kb 1 = true := by simp [mayD, hq]
            refine lv_iconst (v := 1) hx hb de_X_door_123 (by decide) ?_
            refine lv_goto (tgt := 128) hx hb de_X_door_124 (by decide) ?_
            refine lv_istore (lv' := [(6, .int 1), (5, .ref (bx kb)), (0, .ref (g 0)), (1, .int b), (2, .int 1), (3, .long t)]) hx hb de_X_door_128 hl (by decide) rfl (fun ls hl => ?_)
            refine lv_goto (tgt := 182) hx hb de_X_door_130 (by decide) ?_
            refine lv_iload hx hb de_X_door_182 (lv_at hl 0 rfl) ?_
            refine lv_if_ne (tgt := 190) hx hb de_X_door_184 (by decide) (fun _ => ?_) (fun z => absurd z (by decide))
            refine lv_iload_n hx hb de_X_door_190 rfl (lv_at hl 4 rfl) ?_
            refine lv_iconst (v := 2) hx hb de_X_door_191 (by decide) ?_
            refine lv_icmp_ge (tgt := 217) hx hb de_X_door_192 (by decide) (fun z => absurd z (by decide)) (fun _ => ?_)
            refine lv_aload hx hb de_X_door_195 (lv_at hl 1 rfl) ?_
            refine lv_iload_n hx hb de_X_door_197 rfl (lv_at hl 4 rfl) ?_
            refine lv_if_ne (tgt := 207) hx hb de_X_door_198 (by decide) (fun _ => ?_) (fun z => absurd z (by decide))
            refine gs_door C hC h.2.2 2 (by decide) kw_196 de_X_door_207 ?_
            refine lv_lload_n hx hb de_X_door_210 rfl (lv_at hl 5 rfl) ?_
            refine clN_B_open C h hk1 hk2 rfl hK hC hA ⟨Nat.le_of_ble_eq_true rfl, Nat.le_of_ble_eq_true rfl⟩ hl.1 (Nat.le_of_ble_eq_true rfl) de_X_door_211 ⟨Nat.le_of_ble_eq_true rfl, Nat.le_of_ble_eq_true rfl⟩ (fun H locs h => ?_)
            refine lv_goto (tgt := 236) hx hb de_X_door_214 (by decide) ?_
            refine lv_aload hx hb de_X_door_236 (lv_at hl 1 rfl) ?_
            refine gN_door C hN hK h.1 hk1 hk2 (va_up_self _ _ _) de_X_door_238 ?_
            refine clX_E_ordinal C (d := 2) (by decide) hK hC h.2.2 ⟨Nat.le_of_ble_eq_true rfl, Nat.le_of_ble_eq_true rfl⟩ hl.1 (Nat.le_of_ble_eq_true rfl) de_X_door_241 ⟨Nat.le_of_ble_eq_true rfl, Nat.le_of_ble_eq_true rfl⟩ ?_
            refine MOi.fin hx hb hr hlk h (⟨pOpen S1 kb 2 t, by rw [oDoor, if_neg (fun z => z c_2), if_neg (fun z => z.elim (fun z => z c_17) (fun z => z c_25)), eS, ekb, pDoor, if_neg (fun z => by rw [hm] at z; cases z)]; rfl, WX_eq rfl rfl rfl rfl rfl rfl rfl rfl rfl rfl rfl (bx_upd (fun j hj => ?_) ?_)⟩) de_X_door_244
            · simp [bxE, pOpen, sN, sI, sL, va_up, vp_updL, upd, hj]
            · simp [bxE, pOpen, sN, sI, sL, va_up, vp_updL, upd, tn1, tn2, tn3]
          · have hq : ¬ S1.1 1 kb = 0 := fun z => c_109 ((hC.en.inj hdo.1 (by decide)).mpr ((hdo.2 0 (by decide)).mpr z))
            refine lv_aload hx hb de_X_door_112 (lv_at hl 0 rfl) ?_
            refine gN_door C hN hK h.1 hk1 hk2 rfl de_X_door_114 ?_
            refine gs_door C hC h.2.2 1 (by decide) kw_153 de_X_door_117 ?_
            refine za_ne (tgt := 127) hx hb de_X_door_120 (by decide) (fun c_120 => ?_) (fun c_120 => ?_)
            · have hq1 : ¬ S1.1 1 kb = 1 := fun z => c_120 ((hC.en.inj hdo.1 (by decide)).mpr ((hdo.2 1 (by decide)).mpr z))
              have hm : mayD S1 kb 1 = false := by simp [mayD, hq, hq1]
              refine lv_iconst (v := 0) hx hb de_X_door_127 (by decide) ?_
              refine lv_istore (lv' := [(6, .int 0), (5, .ref (bx kb)), (0, .ref (g 0)), (1, .int b), (2, .int 1), (3, .long t)]) hx hb de_X_door_128 hl (by decide) rfl (fun ls hl => ?_)
              refine lv_goto (tgt := 182) hx hb de_X_door_130 (by decide) ?_
              refine lv_iload hx hb de_X_door_182 (lv_at hl 0 rfl) ?_
              refine lv_if_ne (tgt := 190) hx hb de_X_door_184 (by decide) (fun z => absurd z (by decide)) (fun _ => ?_)
              refine lv_bipush (v := -13) hx hb de_X_door_187 (by decide) ?_
              exact MOi.fin hx hb hr hlk h (⟨S1, by rw [oDoor, if_neg (fun z => z c_2), if_neg (fun z => z.elim (fun z => z c_17) (fun z => z c_25)), eS, ekb, pDoor, if_pos hm], rfl⟩) de_X_door_189
            · have hq1 : S1.1 1 kb = 1 := (hdo.2 1 (by decide)).mp ((hC.en.inj hdo.1 (by decide)).mp c_120)
              have hm : mayD S1 kb 1 = true := by simp [mayD, hq1]
              refine lv_iconst (v := 1) hx hb de_X_door_123 (by decide) ?_
              refine lv_goto (tgt := 128) hx hb de_X_door_124 (by decide) ?_
              refine lv_istore (lv' := [(6, .int 1), (5, .ref (bx kb)), (0, .ref (g 0)), (1, .int b), (2, .int 1), (3, .long t)]) hx hb de_X_door_128 hl (by decide) rfl (fun ls hl => ?_)
              refine lv_goto (tgt := 182) hx hb de_X_door_130 (by decide) ?_
              refine lv_iload hx hb de_X_door_182 (lv_at hl 0 rfl) ?_
              refine lv_if_ne (tgt := 190) hx hb de_X_door_184 (by decide) (fun _ => ?_) (fun z => absurd z (by decide))
              refine lv_iload_n hx hb de_X_door_190 rfl (lv_at hl 4 rfl) ?_
              refine lv_iconst (v := 2) hx hb de_X_door_191 (by decide) ?_
              refine lv_icmp_ge (tgt := 217) hx hb de_X_door_192 (by decide) (fun z => absurd z (by decide)) (fun _ => ?_)
              refine lv_aload hx hb de_X_door_195 (lv_at hl 1 rfl) ?_
              refine lv_iload_n hx hb de_X_door_197 rfl (lv_at hl 4 rfl) ?_
              refine lv_if_ne (tgt := 207) hx hb de_X_door_198 (by decide) (fun _ => ?_) (fun z => absurd z (by decide))
              refine gs_door C hC h.2.2 2 (by decide) kw_196 de_X_door_207 ?_
              refine lv_lload_n hx hb de_X_door_210 rfl (lv_at hl 5 rfl) ?_
              refine clN_B_open C h hk1 hk2 rfl hK hC hA ⟨Nat.le_of_ble_eq_true rfl, Nat.le_of_ble_eq_true rfl⟩ hl.1 (Nat.le_of_ble_eq_true rfl) de_X_door_211 ⟨Nat.le_of_ble_eq_true rfl, Nat.le_of_ble_eq_true rfl⟩ (fun H locs h => ?_)
              refine lv_goto (tgt := 236) hx hb de_X_door_214 (by decide) ?_
              refine lv_aload hx hb de_X_door_236 (lv_at hl 1 rfl) ?_
              refine gN_door C hN hK h.1 hk1 hk2 (va_up_self _ _ _) de_X_door_238 ?_
              refine clX_E_ordinal C (d := 2) (by decide) hK hC h.2.2 ⟨Nat.le_of_ble_eq_true rfl, Nat.le_of_ble_eq_true rfl⟩ hl.1 (Nat.le_of_ble_eq_true rfl) de_X_door_241 ⟨Nat.le_of_ble_eq_true rfl, Nat.le_of_ble_eq_true rfl⟩ ?_
              refine MOi.fin hx hb hr hlk h (⟨pOpen S1 kb 2 t, by rw [oDoor, if_neg (fun z => z c_2), if_neg (fun z => z.elim (fun z => z c_17) (fun z => z c_25)), eS, ekb, pDoor, if_neg (fun z => by rw [hm] at z; cases z)]; rfl, WX_eq rfl rfl rfl rfl rfl rfl rfl rfl rfl rfl rfl (bx_upd (fun j hj => ?_) ?_)⟩) de_X_door_244
              · simp [bxE, pOpen, sN, sI, sL, va_up, vp_updL, upd, hj]
              · simp [bxE, pOpen, sN, sI, sL, va_up, vp_updL, upd, tn1, tn2, tn3]
        · refine lv_tableIn (tgt := 133) (off := 85) hx hb de_X_door_48 (by decide) (by decide) (by decide) (by decide) ?_
          refine lv_aload hx hb de_X_door_133 (lv_at hl 0 rfl) ?_
          refine gN_door C hN hK h.1 hk1 hk2 rfl de_X_door_135 ?_
          refine gs_door C hC h.2.2 2 (by decide) kw_196 de_X_door_138 ?_
          refine za_ne (tgt := 148) hx hb de_X_door_141 (by decide) (fun c_141 => ?_) (fun c_141 => ?_)
          · have hq : ¬ S1.1 1 kb = 2 := fun z => c_141 ((hC.en.inj hdo.1 (by decide)).mpr ((hdo.2 2 (by decide)).mpr z))
            have hm : mayD S1 kb 2 = false := by simp [mayD, hq]
            refine lv_iconst (v := 0) hx hb de_X_door_148 (by decide) ?_
            refine lv_istore (lv' := [(6, .int 0), (5, .ref (bx kb)), (0, .ref (g 0)), (1, .int b), (2, .int 2), (3, .long t)]) hx hb de_X_door_149 hl (by decide) rfl (fun ls hl => ?_)
            refine lv_goto (tgt := 182) hx hb de_X_door_151 (by decide) ?_
            refine lv_iload hx hb de_X_door_182 (lv_at hl 0 rfl) ?_
            refine lv_if_ne (tgt := 190) hx hb de_X_door_184 (by decide) (fun z => absurd z (by decide)) (fun _ => ?_)
            refine lv_bipush (v := -13) hx hb de_X_door_187 (by decide) ?_
            exact MOi.fin hx hb hr hlk h (⟨S1, by rw [oDoor, if_neg (fun z => z c_2), if_neg (fun z => z.elim (fun z => z c_17) (fun z => z c_25)), eS, ekb, pDoor, if_pos hm], rfl⟩) de_X_door_189
          · have hq : S1.1 1 kb = 2 := (hdo.2 2 (by decide)).mp ((hC.en.inj hdo.1 (by decide)).mp c_141)
            have hm : mayD S1 kb 2 = true := by simp [mayD, hq]
            refine lv_iconst (v := 1) hx hb de_X_door_144 (by decide) ?_
            refine lv_goto (tgt := 149) hx hb de_X_door_145 (by decide) ?_
            refine lv_istore (lv' := [(6, .int 1), (5, .ref (bx kb)), (0, .ref (g 0)), (1, .int b), (2, .int 2), (3, .long t)]) hx hb de_X_door_149 hl (by decide) rfl (fun ls hl => ?_)
            refine lv_goto (tgt := 182) hx hb de_X_door_151 (by decide) ?_
            refine lv_iload hx hb de_X_door_182 (lv_at hl 0 rfl) ?_
            refine lv_if_ne (tgt := 190) hx hb de_X_door_184 (by decide) (fun _ => ?_) (fun z => absurd z (by decide))
            refine lv_iload_n hx hb de_X_door_190 rfl (lv_at hl 4 rfl) ?_
            refine lv_iconst (v := 2) hx hb de_X_door_191 (by decide) ?_
            refine lv_icmp_ge (tgt := 217) hx hb de_X_door_192 (by decide) (fun _ => ?_) (fun z => absurd z (by decide))
            refine lv_aload hx hb de_X_door_217 (lv_at hl 1 rfl) ?_
            refine lv_iload_n hx hb de_X_door_219 rfl (lv_at hl 4 rfl) ?_
            refine lv_iconst (v := 3) hx hb de_X_door_220 (by decide) ?_
            refine lv_icmp_ne (tgt := 230) hx hb de_X_door_221 (by decide) (fun _ => ?_) (fun z => absurd z (by decide))
            refine gs_door C hC h.2.2 0 (by decide) kw_162 de_X_door_230 ?_
            refine pN_door C hN hK h hk1 hk2 rfl de_X_door_233 (fun H locs h => ?_)
            refine lv_aload hx hb de_X_door_236 (lv_at hl 1 rfl) ?_
            refine gN_door C hN hK h.1 hk1 hk2 (va_up_self _ _ _) de_X_door_238 ?_
            refine clX_E_ordinal C (d := 0) (by decide) hK hC h.2.2 ⟨Nat.le_of_ble_eq_true rfl, Nat.le_of_ble_eq_true rfl⟩ hl.1 (Nat.le_of_ble_eq_true rfl) de_X_door_241 ⟨Nat.le_of_ble_eq_true rfl, Nat.le_of_ble_eq_true rfl⟩ ?_
            refine MOi.fin hx hb hr hlk h (⟨sI S1 1 kb 0, by rw [oDoor, if_neg (fun z => z c_2), if_neg (fun z => z.elim (fun z => z c_17) (fun z => z c_25)), eS, ekb, pDoor, if_neg (fun z => by rw [hm] at z; cases z)]; rfl, WX_eq rfl rfl rfl rfl rfl rfl rfl rfl rfl rfl rfl (bx_upd (fun j hj => ?_) ?_)⟩) de_X_door_244
            · simp [bxE, pOpen, sN, sI, sL, va_up, vp_updL, upd, hj]
            · simp [bxE, pOpen, sN, sI, sL, va_up, vp_updL, upd, tn1, tn2, tn3]
        · refine lv_tableIn (tgt := 154) (off := 106) hx hb de_X_door_48 (by decide) (by decide) (by decide) (by decide) ?_
          refine lv_aload hx hb de_X_door_154 (lv_at hl 0 rfl) ?_
          refine clX_B_isFree C (h.1.one (pl_get hk1 hk2)) hK hC h.2.2 hdo.1 ⟨Nat.le_of_ble_eq_true rfl, Nat.le_of_ble_eq_true rfl⟩ hl.1 (Nat.le_of_ble_eq_true rfl) de_X_door_156 ⟨Nat.le_of_ble_eq_true rfl, Nat.le_of_ble_eq_true rfl⟩ (fun c_156 => ?_) (fun c_156 => ?_)
          · have hq : S1.1 1 kb = 0 ∧ S1.1 3 kb = 0 ∧ S1.2.1 2 kb = 0 := ⟨(hdo.2 0 (by decide)).mp c_156.1, c_156.2.1, (kp_free (hI1.ok hk1 hk2).2.2.1).mp c_156.2.2⟩
            have hm : mayD S1 kb 3 = true := decide_eq_true hq
            refine lv_istore (lv' := [(6, .int 1), (5, .ref (bx kb)), (0, .ref (g 0)), (1, .int b), (2, .int 3), (3, .long t)]) hx hb de_X_door_159 hl (by decide) rfl (fun ls hl => ?_)
            refine lv_goto (tgt := 182) hx hb de_X_door_161 (by decide) ?_
            refine lv_iload hx hb de_X_door_182 (lv_at hl 0 rfl) ?_
            refine lv_if_ne (tgt := 190) hx hb de_X_door_184 (by decide) (fun _ => ?_) (fun z => absurd z (by decide))
            refine lv_iload_n hx hb de_X_door_190 rfl (lv_at hl 4 rfl) ?_
            refine lv_iconst (v := 2) hx hb de_X_door_191 (by decide) ?_
            refine lv_icmp_ge (tgt := 217) hx hb de_X_door_192 (by decide) (fun _ => ?_) (fun z => absurd z (by decide))
            refine lv_aload hx hb de_X_door_217 (lv_at hl 1 rfl) ?_
            refine lv_iload_n hx hb de_X_door_219 rfl (lv_at hl 4 rfl) ?_
            refine lv_iconst (v := 3) hx hb de_X_door_220 (by decide) ?_
            refine lv_icmp_ne (tgt := 230) hx hb de_X_door_221 (by decide) (fun z => absurd z (by decide)) (fun _ => ?_)
            refine gs_door C hC h.2.2 3 (by decide) kw_197 de_X_door_224 ?_
            refine lv_goto (tgt := 233) hx hb de_X_door_227 (by decide) ?_
            refine pN_door C hN hK h hk1 hk2 rfl de_X_door_233 (fun H locs h => ?_)
            refine lv_aload hx hb de_X_door_236 (lv_at hl 1 rfl) ?_
            refine gN_door C hN hK h.1 hk1 hk2 (va_up_self _ _ _) de_X_door_238 ?_
            refine clX_E_ordinal C (d := 3) (by decide) hK hC h.2.2 ⟨Nat.le_of_ble_eq_true rfl, Nat.le_of_ble_eq_true rfl⟩ hl.1 (Nat.le_of_ble_eq_true rfl) de_X_door_241 ⟨Nat.le_of_ble_eq_true rfl, Nat.le_of_ble_eq_true rfl⟩ ?_
            refine MOi.fin hx hb hr hlk h (⟨sI S1 1 kb 3, by rw [oDoor, if_neg (fun z => z c_2), if_neg (fun z => z.elim (fun z => z c_17) (fun z => z c_25)), eS, ekb, pDoor, if_neg (fun z => by rw [hm] at z; cases z)]; rfl, WX_eq rfl rfl rfl rfl rfl rfl rfl rfl rfl rfl rfl (bx_upd (fun j hj => ?_) ?_)⟩) de_X_door_244
            · simp [bxE, pOpen, sN, sI, sL, va_up, vp_updL, upd, hj]
            · simp [bxE, pOpen, sN, sI, sL, va_up, vp_updL, upd, tn1, tn2, tn3]
          · have hq : ¬ (S1.1 1 kb = 0 ∧ S1.1 3 kb = 0 ∧ S1.2.1 2 kb = 0) := fun z => c_156 ⟨(hdo.2 0 (by decide)).mpr z.1, z.2.1, (kp_free (hI1.ok hk1 hk2).2.2.1).mpr z.2.2⟩
            have hm : mayD S1 kb 3 = false := decide_eq_false hq
            refine lv_istore (lv' := [(6, .int 0), (5, .ref (bx kb)), (0, .ref (g 0)), (1, .int b), (2, .int 3), (3, .long t)]) hx hb de_X_door_159 hl (by decide) rfl (fun ls hl => ?_)
            refine lv_goto (tgt := 182) hx hb de_X_door_161 (by decide) ?_
            refine lv_iload hx hb de_X_door_182 (lv_at hl 0 rfl) ?_
            refine lv_if_ne (tgt := 190) hx hb de_X_door_184 (by decide) (fun z => absurd z (by decide)) (fun _ => ?_)
            refine lv_bipush (v := -13) hx hb de_X_door_187 (by decide) ?_
            exact MOi.fin hx hb hr hlk h (⟨S1, by rw [oDoor, if_neg (fun z => z c_2), if_neg (fun z => z.elim (fun z => z c_17) (fun z => z c_25)), eS, ekb, pDoor, if_pos hm], rfl⟩) de_X_door_189
        · refine lv_tableOut (tgt := 164) hx hb de_X_door_48 (by decide) (by decide) ?_
          refine lv_aload hx hb de_X_door_164 (lv_at hl 0 rfl) ?_
          refine gN_door C hN hK h.1 hk1 hk2 rfl de_X_door_166 ?_
          refine gs_door C hC h.2.2 3 (by decide) kw_197 de_X_door_169 ?_
          refine za_ne (tgt := 179) hx hb de_X_door_172 (by decide) (fun c_172 => ?_) (fun c_172 => ?_)
          · have hq : ¬ S1.1 1 kb = 3 := fun z => c_172 ((hC.en.inj hdo.1 (by decide)).mpr ((hdo.2 3 (by decide)).mpr z))
            have hm : mayD S1 kb 4 = false := by simp [mayD, hq]
            refine lv_iconst (v := 0) hx hb de_X_door_179 (by decide) ?_
            refine lv_istore (lv' := [(6, .int 0), (5, .ref (bx kb)), (0, .ref (g 0)), (1, .int b), (2, .int 4), (3, .long t)]) hx hb de_X_door_180 hl (by decide) rfl (fun ls hl => ?_)
            refine lv_iload hx hb de_X_door_182 (lv_at hl 0 rfl) ?_
            refine lv_if_ne (tgt := 190) hx hb de_X_door_184 (by decide) (fun z => absurd z (by decide)) (fun _ => ?_)
            refine lv_bipush (v := -13) hx hb de_X_door_187 (by decide) ?_
            exact MOi.fin hx hb hr hlk h (⟨S1, by rw [oDoor, if_neg (fun z => z c_2), if_neg (fun z => z.elim (fun z => z c_17) (fun z => z c_25)), eS, ekb, pDoor, if_pos hm], rfl⟩) de_X_door_189
          · have hq : S1.1 1 kb = 3 := (hdo.2 3 (by decide)).mp ((hC.en.inj hdo.1 (by decide)).mp c_172)
            have hm : mayD S1 kb 4 = true := by simp [mayD, hq]
            refine lv_iconst (v := 1) hx hb de_X_door_175 (by decide) ?_
            refine lv_goto (tgt := 180) hx hb de_X_door_176 (by decide) ?_
            refine lv_istore (lv' := [(6, .int 1), (5, .ref (bx kb)), (0, .ref (g 0)), (1, .int b), (2, .int 4), (3, .long t)]) hx hb de_X_door_180 hl (by decide) rfl (fun ls hl => ?_)
            refine lv_iload hx hb de_X_door_182 (lv_at hl 0 rfl) ?_
            refine lv_if_ne (tgt := 190) hx hb de_X_door_184 (by decide) (fun _ => ?_) (fun z => absurd z (by decide))
            refine lv_iload_n hx hb de_X_door_190 rfl (lv_at hl 4 rfl) ?_
            refine lv_iconst (v := 2) hx hb de_X_door_191 (by decide) ?_
            refine lv_icmp_ge (tgt := 217) hx hb de_X_door_192 (by decide) (fun _ => ?_) (fun z => absurd z (by decide))
            refine lv_aload hx hb de_X_door_217 (lv_at hl 1 rfl) ?_
            refine lv_iload_n hx hb de_X_door_219 rfl (lv_at hl 4 rfl) ?_
            refine lv_iconst (v := 3) hx hb de_X_door_220 (by decide) ?_
            refine lv_icmp_ne (tgt := 230) hx hb de_X_door_221 (by decide) (fun _ => ?_) (fun z => absurd z (by decide))
            refine gs_door C hC h.2.2 0 (by decide) kw_162 de_X_door_230 ?_
            refine pN_door C hN hK h hk1 hk2 rfl de_X_door_233 (fun H locs h => ?_)
            refine lv_aload hx hb de_X_door_236 (lv_at hl 1 rfl) ?_
            refine gN_door C hN hK h.1 hk1 hk2 (va_up_self _ _ _) de_X_door_238 ?_
            refine clX_E_ordinal C (d := 0) (by decide) hK hC h.2.2 ⟨Nat.le_of_ble_eq_true rfl, Nat.le_of_ble_eq_true rfl⟩ hl.1 (Nat.le_of_ble_eq_true rfl) de_X_door_241 ⟨Nat.le_of_ble_eq_true rfl, Nat.le_of_ble_eq_true rfl⟩ ?_
            refine MOi.fin hx hb hr hlk h (⟨sI S1 1 kb 0, by rw [oDoor, if_neg (fun z => z c_2), if_neg (fun z => z.elim (fun z => z c_17) (fun z => z c_25)), eS, ekb, pDoor, if_neg (fun z => by rw [hm] at z; cases z)]; rfl, WX_eq rfl rfl rfl rfl rfl rfl rfl rfl rfl rfl rfl (bx_upd (fun j hj => ?_) ?_)⟩) de_X_door_244
            · simp [bxE, pOpen, sN, sI, sL, va_up, vp_updL, upd, hj]
            · simp [bxE, pOpen, sN, sI, sL, va_up, vp_updL, upd, tn1, tn2, tn3]
      · refine lv_if_ne (tgt := 34) hx hb de_X_door_28 (by decide) (fun z => absurd z (by decide)) (fun _ => ?_)
        refine lv_bipush (v := -12) hx hb de_X_door_31 (by decide) ?_
        exact MOi.fin hx hb hr hlk h (⟨S, by rw [oDoor, if_neg (fun z => z c_2), if_pos (Or.inr c_25)], rfl⟩) de_X_door_33
    · refine lv_if_eq (tgt := 31) hx hb de_X_door_20 (by decide) (fun _ => ?_) (fun z => absurd z (by decide))
      refine lv_bipush (v := -12) hx hb de_X_door_31 (by decide) ?_
      exact MOi.fin hx hb hr hlk h (⟨S, by rw [oDoor, if_neg (fun z => z c_2), if_pos (Or.inl c_17)], rfl⟩) de_X_door_33
  · refine lv_if_ne (tgt := 11) hx hb de_X_door_5 (by decide) (fun z => absurd z (by decide)) (fun _ => ?_)
    refine lv_bipush (v := -11) hx hb de_X_door_8 (by decide) ?_
    exact MOi.fin hx hb hr hlk h (⟨S, by rw [oDoor, if_pos c_2], rfl⟩) de_X_door_10
set_option maxHeartbeats 4000000 in
set_option maxRecDepth 100000 in
theorem ct_X_box (l : Launch) (D : va_G) (g : Nat → Nat) (cQ cI : ClassId) (ad bx : Nat → Nat) (S : SS) (c0 : Nat) (hI : Inv c0 S) (v : Int32) : MOi l y_X_box b_X_box 2 2 1 10 [.ref (g 0), .int v] D (tyX cQ cI) (WX g cQ cI ad bx S) (some ad) (fun r w => ∃ S' bx', oBox S v = (r, S') ∧ w = WX g cQ cI ad bx' S') := by
  refine MOi.mk mi_X_box (Nat.le_of_ble_eq_true rfl) ?_
  intro p e s m below meth c ls A C hr hlk hK hC hA h hl
  have hx := C.1
  have hb := C.2.1
  have hN := hC.nw
  have h : ST D A (wX g cQ cI (nI (S.2.2 0)) (nI (S.2.2 1)) (S.2.1 3 0) (S.1 8 0) (nI (S.2.2 3)) (S.2.1 3 1) (nI (S.2.2 2)) (bq (S.2.2 0) bx) (S.1 6) (S.1 7) ++ pl (S.2.2 0) bx (bxE ad S)) s.heap s.heap [] := h
  have hl : lv_has ls 2 [(0, .ref (g 0)), (1, .int v)] := hl
  have hn60 := hI.n
  refine lv_iload_n hx hb de_X_box_0 rfl (lv_at hl 1 rfl) ?_
  refine lv_i2l hx hb de_X_box_1 rfl ?_
  refine lv_lconst (v := 1) hx hb de_X_box_2 (by decide) ?_
  refine lv_ldc2 (v := 5) hx hb C.2.2.2.1 (C.2.2.2.2 _ kw_53) de_X_box_3 ?_
  refine cl_X_isIn C ⟨Nat.le_of_ble_eq_true rfl, Nat.le_of_ble_eq_true rfl⟩ hl.1 (Nat.le_of_ble_eq_true rfl) de_X_box_6 ⟨Nat.le_of_ble_eq_true rfl, Nat.le_of_ble_eq_true rfl⟩ (fun c_6 => ?_) (fun c_6 => ?_)
  · refine lv_if_ne (tgt := 15) hx hb de_X_box_9 (by decide) (fun _ => ?_) (fun z => absurd z (by decide))
    refine lv_aload_n hx hb de_X_box_15 rfl (lv_at hl 0 rfl) ?_
    refine gX_count C hK h.1 de_X_box_16 ?_
    refine lv_bipush (v := 60) hx hb de_X_box_19 (by decide) ?_
    refine lv_icmp_ne (tgt := 27) hx hb de_X_box_21 (by decide) (fun c_21 => ?_) (fun c_21 => ?_)
    · have hne : ¬ S.2.2 0 = 60 := fun z => c_21 (by rw [z]; rfl)
      refine lv_aload_n hx hb de_X_box_27 rfl (lv_at hl 0 rfl) ?_
      refine lv_dup hx hb de_X_box_28 rfl ?_
      refine gX_count C hK h.1 de_X_box_29 ?_
      refine lv_iconst (v := 1) hx hb de_X_box_32 (by decide) ?_
      refine lv_iadd hx hb de_X_box_33 ?_
      refine zi_top (nI_1 _) ?_
      refine pX_count C hK h de_X_box_34 (fun H locs h => ?_)
      refine lv_aload_n hx hb de_X_box_37 rfl (lv_at hl 0 rfl) ?_
      refine gX_boxes C hK h.1 de_X_box_38 ?_
      refine lv_aload_n hx hb de_X_box_41 rfl (lv_at hl 0 rfl) ?_
      refine gX_count C hK h.1 de_X_box_42 ?_
      refine va_new (ci := 1) (fs := [.int 0, .null, .long 0, .int 0, .long 0, .int 0, .int 0, .long 0, .int 0, .int 0]) (C := R_B) (T := F_B) (N := 10) hx hb C.2.2.2.2 i_B t_B t_B_ok C.2.2.2.1 (C.2.2.2.2 _ kw_15) (C.2.2.2.2 _ kw_57) (C.2.2.2.2 _ kw_3) hK h.1 h.2.1 h.2.2 hA rfl (fun j hj => by rcases (show j = 0 ∨ j = 1 ∨ j = 2 ∨ j = 3 ∨ j = 4 ∨ j = 5 ∨ j = 6 ∨ j = 7 ∨ j = 8 ∨ j = 9 by omega) with rfl | rfl | rfl | rfl | rfl | rfl | rfl | rfl | rfl | rfl <;> rfl) (Nat.le_of_ble_eq_true rfl) (Nat.le_of_ble_eq_true rfl) de_X_box_45 (fun q5 H h1 h2 h3 => ?_)
      rw [List.append_assoc] at h1 h2
      have h : ST D A (wX g cQ cI (nI (S.2.2 0 + 1)) (nI (S.2.2 1)) (S.2.1 3 0) (S.1 8 0) (nI (S.2.2 3)) (S.2.1 3 1) (nI (S.2.2 2)) (bq (S.2.2 0) bx) (S.1 6) (S.1 7) ++ (pl (S.2.2 0) bx (bxE ad S) ++ [(q5, bz)])) s.heap H locs := ⟨h1, h2, h3⟩
      refine lv_dup hx hb de_X_box_48 rfl ?_
      refine lv_iload_n hx hb de_X_box_49 rfl (lv_at hl 1 rfl) ?_
      have hg5 : (wX g cQ cI (nI (S.2.2 0 + 1)) (nI (S.2.2 1)) (S.2.1 3 0) (S.1 8 0) (nI (S.2.2 3)) (S.2.1 3 1) (nI (S.2.2 2)) (bq (S.2.2 0) bx) (S.1 6) (S.1 7) ++ (pl (S.2.2 0) bx (bxE ad S) ++ [(q5, bz)]))[4 + S.2.2 0]? = some (q5, bz) := by
        rw [List.getElem?_append_right (by show 4 ≤ _; omega)]
        rw [List.getElem?_append_right (by show (pl (S.2.2 0) bx (bxE ad S)).length ≤ _; simp [pl, wX])]
        simp [pl, wX]
      refine (ct_B_init l D (tyX cQ cI) ad q5 v).coreI (As := [.int v]) mi_B_init rfl kw_59 C kw_58 ⟨Nat.le_of_ble_eq_true rfl, Nat.le_of_ble_eq_true rfl⟩ (h.1.one hg5) (h.2.1.one hg5) hK hC h.2.2 hA hl.1 rfl (Nat.le_of_ble_eq_true rfl) de_X_box_50 ⟨Nat.le_of_ble_eq_true rfl, Nat.le_of_ble_eq_true rfl⟩ (fun w H1 locs1 hp hP1 hD1 hk hS1 => ?_)
      have hp : w = [(q5, bc v (ad 0) 0 0 0 0 0 0 0 (-1))] := hp
      rw [hp] at hP1
      have h9 := h.at hg5 hk hP1 hS1
      have e9 : (wX g cQ cI (nI (S.2.2 0 + 1)) (nI (S.2.2 1)) (S.2.1 3 0) (S.1 8 0) (nI (S.2.2 3)) (S.2.1 3 1) (nI (S.2.2 2)) (bq (S.2.2 0) bx) (S.1 6) (S.1 7) ++ (pl (S.2.2 0) bx (bxE ad S) ++ [(q5, bz)])).set (4 + S.2.2 0) (q5, bc v (ad 0) 0 0 0 0 0 0 0 (-1)) = wX g cQ cI (nI (S.2.2 0 + 1)) (nI (S.2.2 1)) (S.2.1 3 0) (S.1 8 0) (nI (S.2.2 3)) (S.2.1 3 1) (nI (S.2.2 2)) (bq (S.2.2 0) bx) (S.1 6) (S.1 7) ++ pl (S.2.2 0 + 1) (va_up bx (S.2.2 0 + 1) q5) (va_up (bxE ad S) (S.2.2 0 + 1) (bc v (ad 0) 0 0 0 0 0 0 0 (-1))) := by
        rw [← pl_push]
        have l4 : (wX g cQ cI (nI (S.2.2 0 + 1)) (nI (S.2.2 1)) (S.2.1 3 0) (S.1 8 0) (nI (S.2.2 3)) (S.2.1 3 1) (nI (S.2.2 2)) (bq (S.2.2 0) bx) (S.1 6) (S.1 7)).length = 4 := rfl
        have ln : (pl (S.2.2 0) bx (bxE ad S)).length = S.2.2 0 := by simp [pl]
        rw [List.set_append_right _ _ (by omega), List.set_append_right _ _ (by omega), l4, ln]
        rw [show 4 + S.2.2 0 - 4 - S.2.2 0 = 0 by omega]
        rfl
      rw [e9] at h9
      generalize H1 = H at h9 ⊢
      generalize locs1 = locs at h9 ⊢
      have h := h9
      have hg6 := pl_get (X := wX g cQ cI (nI (S.2.2 0 + 1)) (nI (S.2.2 1)) (S.2.1 3 0) (S.1 8 0) (nI (S.2.2 3)) (S.2.1 3 1) (nI (S.2.2 2)) (bq (S.2.2 0) bx) (S.1 6) (S.1 7)) (bx := va_up bx (S.2.2 0 + 1) q5) (E := va_up (bxE ad S) (S.2.2 0 + 1) (bc v (ad 0) 0 0 0 0 0 0 0 (-1))) (k := S.2.2 0 + 1) (n := S.2.2 0 + 1) (by omega) (Nat.le_refl _)
      rw [va_up_self, va_up_self] at hg6
      refine sX_boxes hx hb hK h (ix_nI (k := S.2.2 0 + 1) (by omega) (by decide)) _ hg6 de_X_box_53 (fun H locs h => ?_)
      refine lv_aload_n hx hb de_X_box_54 rfl (lv_at hl 0 rfl) ?_
      refine gX_count C hK h.1 de_X_box_55 ?_
      have hz := hI.2.2.2.2.2.1 (S.2.2 0 + 1) (by omega)
      refine MOi.fin hx hb hr hlk h (⟨sN (sI (sI S 0 (S.2.2 0 + 1) v) 4 (S.2.2 0 + 1) (-1)) 0 (S.2.2 0 + 1), va_up bx (S.2.2 0 + 1) q5, by rw [oBox, if_neg (fun z => z c_6), if_neg hne], WX_eq rfl rfl rfl rfl rfl rfl rfl bq_push rfl rfl rfl (bx_upd (fun j hj => ?_) ?_)⟩) de_X_box_58
      · simp [bxE, sN, sI, sL, va_up, vp_updL, upd, hj]
      · obtain ⟨z0, z1, z2, z3, z5, l0, l1, l2⟩ := hz
        simp [bxE, sN, sI, sL, va_up, vp_updL, upd, liB, z1, z2, z3, z5, l0, l1, l2]
    · refine lv_bipush (v := -14) hx hb de_X_box_24 (by decide) ?_
      refine W.widen (k := 1) (n := 10) (Nat.zero_le _) (Nat.zero_le _) ?_
      exact MOi.fin hx hb hr hlk h (⟨S, bx, by rw [oBox, if_neg (fun z => z c_6), if_pos ((nI_eq (b := 60) (by omega) (by decide)).mp c_21)], rfl⟩) de_X_box_26
  · refine lv_if_ne (tgt := 15) hx hb de_X_box_9 (by decide) (fun z => absurd z (by decide)) (fun _ => ?_)
    refine lv_bipush (v := -12) hx hb de_X_box_12 (by decide) ?_
    refine W.widen (k := 1) (n := 10) (Nat.zero_le _) (Nat.zero_le _) ?_
    exact MOi.fin hx hb hr hlk h (⟨S, bx, by rw [oBox, if_pos c_6], rfl⟩) de_X_box_14
end
section
/-! ===== the constructors: the array classes come out of them: printed by gen/inits.py ===== -/
abbrev KT : Type := va_W × List (ClassId × FieldType)
def PK (D : va_G) (A : Nat → Prop) (u : KT) (t : State) : Prop := va_P D classes u.1 t.heap ∧ va_D A u.1 ∧ va_K D classes u.2 t
def MOk (l : Launch) (y : MethodName) (b : ByteArray) (nL lev mc ms : Nat) (av : List Value) (D : va_G) (ws : va_W) (o : Option (Nat → Nat)) (post : KT → Prop) : Prop :=
  ∀ sz : Nat, Met l y (Cond.code y b nL none :: wG) (rmOf lev mc ms) (va_Pc av (PW D [] ws o sz)) (va_Qv post (PK D (va_A ws sz)) (va_A ws sz)) mc ms (va_A ws sz)
theorem MOk.mk {l : Launch} {y : MethodName} {b : ByteArray} {nL n lev mc ms : Nat} {av : List Value} {D : va_G} {ws : va_W} {o : Option (Nat → Nat)} {post : KT → Prop} (mi : MI y b nL none n) (hlen : (lg_sl av).length ≤ nL)
    (body : ∀ (p : Program) (e : Env) (s : State) (m : MethodId) (below : List Frame) (meth : Method) (c : Code) (ls : Array Slot) (A : Nat → Prop), CallFix p m c b nL s av.toArray wG y.cls → meth.sig.returnType = none → meth.locks = false → (y.name = "<init>" → meth.name = "<init>") → va_K D classes [] s → CX o A s s.heap → (∀ q : Nat, s.heap.size ≤ q → A q) → ST D A ws s.heap s.heap [] → lv_has ls nL (lv_args 0 av) →
      W p l e (rmOf lev mc ms) s m av.toArray below meth c s.heap [] 0 0 (MQ below (va_Qv post (PK D A) A) av.toArray s mc ms A) (F0 m 0 ls [])) : MOk l y b nL lev mc ms av D ws o post := by
  intro sz
  refine va_MetF (cc := b) (maxL := nL) (ret := none) mi.2.2.2 rfl ?_
  intro p e s m args below meth c s₁ B hml hv
  obtain ⟨rfl, hsz, hP, hK, hD, hC⟩ := hv
  subst hsz
  have hts := atoms_spec (ws := Cond.code y b nL none :: wG) B.pre
  rw [lg_entry_eq]
  exact body p e s m below meth c _ _ ⟨B.exec, B.bytes, hml, findClass_of_methodNamed B.named, fun w hw => hts w (List.mem_cons_of_mem _ hw)⟩ B.returns B.notSynchronized (fun h => (name_of_methodNamed B.named B.method).1.trans h) hK hC (fun q h => Or.inr h) ⟨hP, hD.self, va_S.rf⟩ (lv_entry av hlen)
section KC
variable {p : Program} {l : Launch} {e : Env} {R : Room} {s : State} {m : MethodId} {args : Array Value} {below : List Frame} {meth : Method} {c : Code} {H : Heap} {locs : List Loc} {cells slots : Nat} {Q : State → Prop}
variable {cc : ByteArray} {pc nL' : Nat} {ls : Array Slot} {rest : List Value} {own : String} {D : va_G} {tys : List (ClassId × FieldType)} {A : Nat → Prop} {ad bx g : Nat → Nat} {cQ cI : ClassId} {S : SS}
variable {y : MethodName} {b : ByteArray} {nL n index lev mc ms : Nat} {av As : List Value} {a : Nat} {ws : va_W} {o : Option (Nat → Nat)}
theorem MOk.fin {post : KT → Prop} (hx : p.tables.exec = Jvm.exec) (hb : c.code = cc) (hr : meth.sig.returnType = none) (hlk : meth.locks = false) (h : ST D A ws s.heap H locs) (hK : va_K D classes tys s) (hp : post (ws, tys)) (hdg : decode cc pc = .ok (.return_, 1)) :
    W p l e R s m args below meth c H locs cells slots (MQ below (va_Qv post (PK D A) A) args s cells slots A) (F0 m pc ls []) :=
  W.vret hx hb hr (fun t ht hW => ⟨⟨(ws, tys), rfl, hp, by rw [ht]; exact h.1, h.2.1, va_K.moved hW.alike hK⟩, h.2.2.F ht⟩) h.2.2.2.2 hdg hlk
theorem MOk.coreI {post : KT → Prop} (hM : MOk l y b nL lev mc ms (.ref a :: As) D ws o post) (mi : MI y b nL none n) (hy : y.name = "<init>") (hi : Cond.instanceMethod y ∈ wG) (C : CallFix p m c cc nL' s args wG own) (hlink : Cond.methodLink own index y ∈ wG) (hR : lev + 1 ≤ R.frames ∧ 8 + (nL + 11) + 40 * lev ≤ R.locals)
    (hP : va_P D classes ws H) (hD : va_D A ws) (hK : va_K D classes [] s) (hC : CX o A s s.heap) (hS : va_S A s.heap H locs) (hA : ∀ q : Nat, s.heap.size ≤ q → A q)
    (hls : ls.size = nL') (hn : As.length = n) (hsum : (rest.map fun v => v.category).sum ≤ 8) (hdg : decode cc pc = .ok (.invokespecial index, 3)) (hcs : cells + mc ≤ R.cells ∧ slots + ms ≤ R.slots)
    (kk : ∀ (u : KT) (H1 : Heap) (locs1 : List Loc), post u → va_P D classes u.1 H1 → va_D (va_A ws H.size) u.1 → va_K D classes u.2 s → (∀ q : Nat, q < H.size → ¬ va_A ws H.size q → H1[q]? = H[q]?) → va_S A s.heap H1 locs1 → W p l e R s m args below meth c H1 locs1 (cells + mc) (slots + ms) Q (F0 m (pc + 3) ls rest)) : W p l e R s m args below meth c H locs cells slots Q (F0 m pc ls (As.reverse ++ .ref a :: rest)) :=
  va_callv (va_runI (As := As) (rest := rest) C (hM H.size) ⟨cb_of C mi hlink hR, hy, C.2.2.2.2 _ hi⟩ ⟨fun a' U g mk q => ⟨q.1, PW.blind _ _ _ _ q.2⟩, fun U hU hW => ⟨rfl, PW.of hP hD hK hC hS hA U hU hW⟩⟩ rfl hn hls rfl (lv_room hsum) hdg hcs) hS (fun q _ h => sub_A hD hS hA q h) (sub_A hD hS hA)
    (fun u t H1 locs1 ht hvm hp hB _ hk hS1 => kk u H1 locs1 hp (by rw [← ht]; exact hB.1) hB.2.1 (va_K.moved hvm.symm hB.2.2) hk hS1)
end KC
theorem va_K.same {D : va_G} {cl : List vw_C} {tys : List (ClassId × FieldType)} {U : State} (h : va_K D cl tys U) {i j : Nat} {a b : ClassId} {ty : FieldType} (hi : tys[i]? = some (a, ty)) (hj : tys[j]? = some (b, ty)) (ht : ∀ n, ty ≠ .object n) : a = b := by
  have h1 := (h.2 i _ hi).2
  have h2 := (h.2 j _ hj).2
  cases ty with
  | object n => exact absurd rfl (ht n)
  | _ => exact Option.some.inj (h1.symm.trans h2)
set_option maxHeartbeats 4000000 in
set_option maxRecDepth 100000 in
theorem ct_X_init (l : Launch) (D : va_G) (ad : Nat → Nat) (h0 : Nat) : MOk l y_X_init b_X_init 1 1 3 361 [.ref h0] D [(h0, .inr (0, [.null, .int 0, .null, .int 0, .long 0, .int 0, .int 0, .long 0, .null, .int 0]))] (some ad) (fun u => ∃ (g : Nat → Nat) (cQ cI : ClassId), g 0 = h0 ∧ u.1 = WX g cQ cI ad (fun _ => 0) S0 ∧ u.2 = tyX cQ cI) := by
  refine MOk.mk mi_X_init (Nat.le_of_ble_eq_true rfl) ?_
  intro p e s m below meth c ls A C hr hlk hin hK hC hA h hl
  have hx := C.1
  have hb := C.2.1
  have hl : lv_has ls 1 [(0, .ref h0)] := hl
  refine lv_aload_n hx hb de_X_init_0 rfl (lv_at hl 0 rfl) ?_
  refine W.objInit hx hb C.2.2.2.1 (C.2.2.2.2 _ kw_12) (C.2.2.2.2 _ kw_13) (C.2.2.2.2 _ kw_14) rfl (by rw [C.2.2.1]; exact hl.1) rfl de_X_init_1 (Nat.le_of_ble_eq_true rfl) (Nat.le_of_ble_eq_true rfl) ?_
  refine W.eq (g2 := F0 m 4 ls []) rfl ?_
  obtain ⟨h1, h2, h3⟩ := h
  refine lv_aload_n hx hb de_X_init_4 rfl (lv_at hl 0 rfl) ?_
  refine lv_bipush (v := 61) hx hb de_X_init_5 (by decide) ?_
  refine va_newq (N' := 61) hx hb C.2.2.2.1 (C.2.2.2.2 _ kw_15) hC.2.2 hK h1 h2 h3 hA (by decide) (by decide) (by decide) (Nat.le_of_ble_eq_true rfl) (Nat.le_of_ble_eq_true rfl) de_X_init_7 (fun q0 c0 H hK h1 h2 h3 => ?_)
  have hK : va_K D classes [(c0, .object R_B)] s := hK
  have h1 : va_P D classes [(h0, .inr (0, [.null, .int 0, .null, .int 0, .long 0, .int 0, .int 0, .long 0, .null, .int 0])), (q0, .inl (c0, 61, .inr (.inr (.inr (.inr (fun _ => none))))))] H := h1
  have h2 : va_D A [(h0, .inr (0, [.null, .int 0, .null, .int 0, .long 0, .int 0, .int 0, .long 0, .null, .int 0])), (q0, .inl (c0, 61, .inr (.inr (.inr (.inr (fun _ => none))))))] := h2
  refine W.widen (k := 1) (n := 61) (Nat.le_of_ble_eq_true rfl) (Nat.le_of_ble_eq_true rfl) ?_
  refine va_putF C.1 C.2.1 C.2.2.2.2 i_X t_X t_X_ok n_X C.2.2.2.1 hK h1 h2 h3 0 rfl rfl 0 (by decide) (C.2.2.2.2 _ kw_17) (fun _ z => z) rfl (hin rfl) rfl (t_X_ok 0 (by decide)) rfl rfl (Nat.le_of_ble_eq_true rfl) de_X_init_10 (fun H locs h1 h2 h3 => ?_)
  have h1 : va_P D classes [(h0, .inr (0, [.ref q0, .int 0, .null, .int 0, .long 0, .int 0, .int 0, .long 0, .null, .int 0])), (q0, .inl (c0, 61, .inr (.inr (.inr (.inr (fun _ => none))))))] H := h1
  have h2 : va_D A [(h0, .inr (0, [.ref q0, .int 0, .null, .int 0, .long 0, .int 0, .int 0, .long 0, .null, .int 0])), (q0, .inl (c0, 61, .inr (.inr (.inr (.inr (fun _ => none))))))] := h2
  refine lv_aload_n hx hb de_X_init_13 rfl (lv_at hl 0 rfl) ?_
  refine lv_sipush (v := 200) hx hb de_X_init_14 (by decide) ?_
  refine va_newa (atype := .int) (ty := .int) (N' := 200) (a0 := (200, .inl (fun _ => 0))) hx hb (C.2.2.2.2 _ kw_48) rfl hK h1 h2 h3 hA (fun _ => rfl) (by decide) (by decide) (by decide) (Nat.le_of_ble_eq_true rfl) (Nat.le_of_ble_eq_true rfl) de_X_init_17 (fun q2 c2 H hK h1 h2 h3 => ?_)
  have hK : va_K D classes [(c0, .object R_B), (c2, .int)] s := hK
  have h1 : va_P D classes [(h0, .inr (0, [.ref q0, .int 0, .null, .int 0, .long 0, .int 0, .int 0, .long 0, .null, .int 0])), (q0, .inl (c0, 61, .inr (.inr (.inr (.inr (fun _ => none)))))), (q2, .inl (c2, 200, .inl (fun _ => 0)))] H := h1
  have h2 : va_D A [(h0, .inr (0, [.ref q0, .int 0, .null, .int 0, .long 0, .int 0, .int 0, .long 0, .null, .int 0])), (q0, .inl (c0, 61, .inr (.inr (.inr (.inr (fun _ => none)))))), (q2, .inl (c2, 200, .inl (fun _ => 0)))] := h2
  refine W.widen (k := 2) (n := 261) (Nat.le_of_ble_eq_true rfl) (Nat.le_of_ble_eq_true rfl) ?_
  refine va_putF C.1 C.2.1 C.2.2.2.2 i_X t_X t_X_ok n_X C.2.2.2.1 hK h1 h2 h3 0 rfl rfl 2 (by decide) (C.2.2.2.2 _ kw_19) (fun _ z => z) rfl (hin rfl) rfl (t_X_ok 2 (by decide)) rfl rfl (Nat.le_of_ble_eq_true rfl) de_X_init_19 (fun H locs h1 h2 h3 => ?_)
  have h1 : va_P D classes [(h0, .inr (0, [.ref q0, .int 0, .ref q2, .int 0, .long 0, .int 0, .int 0, .long 0, .null, .int 0])), (q0, .inl (c0, 61, .inr (.inr (.inr (.inr (fun _ => none)))))), (q2, .inl (c2, 200, .inl (fun _ => 0)))] H := h1
  have h2 : va_D A [(h0, .inr (0, [.ref q0, .int 0, .ref q2, .int 0, .long 0, .int 0, .int 0, .long 0, .null, .int 0])), (q0, .inl (c0, 61, .inr (.inr (.inr (.inr (fun _ => none)))))), (q2, .inl (c2, 200, .inl (fun _ => 0)))] := h2
  refine lv_aload_n hx hb de_X_init_22 rfl (lv_at hl 0 rfl) ?_
  refine lv_bipush (v := 100) hx hb de_X_init_23 (by decide) ?_
  refine va_newa (atype := .int) (ty := .int) (N' := 100) (a0 := (100, .inl (fun _ => 0))) hx hb (C.2.2.2.2 _ kw_48) rfl hK h1 h2 h3 hA (fun _ => rfl) (by decide) (by decide) (by decide) (Nat.le_of_ble_eq_true rfl) (Nat.le_of_ble_eq_true rfl) de_X_init_25 (fun q8 c8 H hK h1 h2 h3 => ?_)
  have hK : va_K D classes [(c0, .object R_B), (c2, .int), (c8, .int)] s := hK
  have h1 : va_P D classes [(h0, .inr (0, [.ref q0, .int 0, .ref q2, .int 0, .long 0, .int 0, .int 0, .long 0, .null, .int 0])), (q0, .inl (c0, 61, .inr (.inr (.inr (.inr (fun _ => none)))))), (q2, .inl (c2, 200, .inl (fun _ => 0))), (q8, .inl (c8, 100, .inl (fun _ => 0)))] H := h1
  have h2 : va_D A [(h0, .inr (0, [.ref q0, .int 0, .ref q2, .int 0, .long 0, .int 0, .int 0, .long 0, .null, .int 0])), (q0, .inl (c0, 61, .inr (.inr (.inr (.inr (fun _ => none)))))), (q2, .inl (c2, 200, .inl (fun _ => 0))), (q8, .inl (c8, 100, .inl (fun _ => 0)))] := h2
  refine W.widen (k := 3) (n := 361) (Nat.le_of_ble_eq_true rfl) (Nat.le_of_ble_eq_true rfl) ?_
  refine va_putF C.1 C.2.1 C.2.2.2.2 i_X t_X t_X_ok n_X C.2.2.2.1 hK h1 h2 h3 0 rfl rfl 8 (by decide) (C.2.2.2.2 _ kw_25) (fun _ z => z) rfl (hin rfl) rfl (t_X_ok 8 (by decide)) rfl rfl (Nat.le_of_ble_eq_true rfl) de_X_init_27 (fun H locs h1 h2 h3 => ?_)
  have h1 : va_P D classes [(h0, .inr (0, [.ref q0, .int 0, .ref q2, .int 0, .long 0, .int 0, .int 0, .long 0, .ref q8, .int 0])), (q0, .inl (c0, 61, .inr (.inr (.inr (.inr (fun _ => none)))))), (q2, .inl (c2, 200, .inl (fun _ => 0))), (q8, .inl (c8, 100, .inl (fun _ => 0)))] H := h1
  have h2 : va_D A [(h0, .inr (0, [.ref q0, .int 0, .ref q2, .int 0, .long 0, .int 0, .int 0, .long 0, .ref q8, .int 0])), (q0, .inl (c0, 61, .inr (.inr (.inr (.inr (fun _ => none)))))), (q2, .inl (c2, 200, .inl (fun _ => 0))), (q8, .inl (c8, 100, .inl (fun _ => 0)))] := h2
  have ec : c2 = c8 := hK.same (i := 1) (j := 2) rfl rfl (fun n z => by cases z)
  subst ec
  have hK : va_K D classes (tyX c0 c2) s := hK.sub [0, 1] rfl
  obtain ⟨g, g0, g1, g2, g3⟩ : ∃ g : Nat → Nat, g 0 = h0 ∧ g 1 = q0 ∧ g 2 = q2 ∧ g 3 = q8 := ⟨fun i => if i = 0 then h0 else if i = 1 then q0 else if i = 2 then q2 else q8, rfl, rfl, rfl, rfl⟩
  subst g0 g1 g2 g3
  have e9 : WX g c0 c2 ad (fun _ => 0) S0 = wX g c0 c2 0 0 0 0 0 0 0 (fun _ => none) (fun _ => 0) (fun _ => 0) := by
    rw [← List.append_nil (wX g c0 c2 0 0 0 0 0 0 0 (fun _ => none) (fun _ => 0) (fun _ => 0))]
    refine (WX_eq (n := 0) (E := bxE ad S0) (bx := fun _ => 0) rfl rfl rfl rfl rfl rfl rfl ?_ rfl rfl rfl (fun _ _ _ => rfl)).symm
    funext k
    unfold bq
    rw [if_neg]
    intro z
    have : k ≤ 0 := z.2
    omega
  have h : ST D A (WX g c0 c2 ad (fun _ => 0) S0) s.heap H locs := by
    rw [e9]
    exact ⟨h1, h2, h3⟩
  exact MOk.fin hx hb hr hlk h hK ⟨g, c0, c2, rfl, rfl, rfl⟩ de_X_init_30
set_option maxHeartbeats 4000000 in
set_option maxRecDepth 100000 in
theorem ct_M_init (l : Launch) (D : va_G) (h0 : Nat) : MOk l y_M_init b_M_init 1 1 11 849 [.ref h0] D [(h0, .inr (2, [.int 0, .null, .null, .null, .null, .null, .null, .null, .null, .null, .long 0, .int 0, .int 0, .long 0, .int 0, .null, .int 0, .null]))] none (fun u => ∃ (q : Nat → Nat) (cI cJ cZ : ClassId), q 0 = h0 ∧ u.1 = WM q cI cJ cZ S0 ∧ u.2 = tyM cI cJ cZ) := by
  refine MOk.mk mi_M_init (Nat.le_of_ble_eq_true rfl) ?_
  intro p e s m below meth c ls A C hr hlk hin hK hC hA h hl
  have hx := C.1
  have hb := C.2.1
  have hl : lv_has ls 1 [(0, .ref h0)] := hl
  refine lv_aload_n hx hb de_M_init_0 rfl (lv_at hl 0 rfl) ?_
  refine W.objInit hx hb C.2.2.2.1 (C.2.2.2.2 _ kw_228) (C.2.2.2.2 _ kw_13) (C.2.2.2.2 _ kw_14) rfl (by rw [C.2.2.1]; exact hl.1) rfl de_M_init_1 (Nat.le_of_ble_eq_true rfl) (Nat.le_of_ble_eq_true rfl) ?_
  refine W.eq (g2 := F0 m 4 ls []) rfl ?_
  obtain ⟨h1, h2, h3⟩ := h
  refine lv_aload_n hx hb de_M_init_4 rfl (lv_at hl 0 rfl) ?_
  refine lv_bipush (v := 61) hx hb de_M_init_5 (by decide) ?_
  refine va_newa (atype := .int) (ty := .int) (N' := 61) (a0 := (61, .inl (fun _ => 0))) hx hb (C.2.2.2.2 _ kw_48) rfl hK h1 h2 h3 hA (fun _ => rfl) (by decide) (by decide) (by decide) (Nat.le_of_ble_eq_true rfl) (Nat.le_of_ble_eq_true rfl) de_M_init_7 (fun q1 c1 H hK h1 h2 h3 => ?_)
  have hK : va_K D classes [(c1, .int)] s := hK
  have h1 : va_P D classes [(h0, .inr (2, [.int 0, .null, .null, .null, .null, .null, .null, .null, .null, .null, .long 0, .int 0, .int 0, .long 0, .int 0, .null, .int 0, .null])), (q1, .inl (c1, 61, .inl (fun _ => 0)))] H := h1
  have h2 : va_D A [(h0, .inr (2, [.int 0, .null, .null, .null, .null, .null, .null, .null, .null, .null, .long 0, .int 0, .int 0, .long 0, .int 0, .null, .int 0, .null])), (q1, .inl (c1, 61, .inl (fun _ => 0)))] := h2
  refine W.widen (k := 1) (n := 61) (Nat.le_of_ble_eq_true rfl) (Nat.le_of_ble_eq_true rfl) ?_
  refine va_putF C.1 C.2.1 C.2.2.2.2 i_M t_M t_M_ok n_M C.2.2.2.1 hK h1 h2 h3 0 rfl rfl 1 (by decide) (C.2.2.2.2 _ kw_230) (fun _ z => z) rfl (hin rfl) rfl (t_M_ok 1 (by decide)) rfl rfl (Nat.le_of_ble_eq_true rfl) de_M_init_9 (fun H locs h1 h2 h3 => ?_)
  have h1 : va_P D classes [(h0, .inr (2, [.int 0, .ref q1, .null, .null, .null, .null, .null, .null, .null, .null, .long 0, .int 0, .int 0, .long 0, .int 0, .null, .int 0, .null])), (q1, .inl (c1, 61, .inl (fun _ => 0)))] H := h1
  have h2 : va_D A [(h0, .inr (2, [.int 0, .ref q1, .null, .null, .null, .null, .null, .null, .null, .null, .long 0, .int 0, .int 0, .long 0, .int 0, .null, .int 0, .null])), (q1, .inl (c1, 61, .inl (fun _ => 0)))] := h2
  refine lv_aload_n hx hb de_M_init_12 rfl (lv_at hl 0 rfl) ?_
  refine lv_bipush (v := 61) hx hb de_M_init_13 (by decide) ?_
  refine va_newa (atype := .int) (ty := .int) (N' := 61) (a0 := (61, .inl (fun _ => 0))) hx hb (C.2.2.2.2 _ kw_48) rfl hK h1 h2 h3 hA (fun _ => rfl) (by decide) (by decide) (by decide) (Nat.le_of_ble_eq_true rfl) (Nat.le_of_ble_eq_true rfl) de_M_init_15 (fun q2 c2 H hK h1 h2 h3 => ?_)
  have hK : va_K D classes [(c1, .int), (c2, .int)] s := hK
  have h1 : va_P D classes [(h0, .inr (2, [.int 0, .ref q1, .null, .null, .null, .null, .null, .null, .null, .null, .long 0, .int 0, .int 0, .long 0, .int 0, .null, .int 0, .null])), (q1, .inl (c1, 61, .inl (fun _ => 0))), (q2, .inl (c2, 61, .inl (fun _ => 0)))] H := h1
  have h2 : va_D A [(h0, .inr (2, [.int 0, .ref q1, .null, .null, .null, .null, .null, .null, .null, .null, .long 0, .int 0, .int 0, .long 0, .int 0, .null, .int 0, .null])), (q1, .inl (c1, 61, .inl (fun _ => 0))), (q2, .inl (c2, 61, .inl (fun _ => 0)))] := h2
  refine W.widen (k := 2) (n := 122) (Nat.le_of_ble_eq_true rfl) (Nat.le_of_ble_eq_true rfl) ?_
  refine va_putF C.1 C.2.1 C.2.2.2.2 i_M t_M t_M_ok n_M C.2.2.2.1 hK h1 h2 h3 0 rfl rfl 2 (by decide) (C.2.2.2.2 _ kw_231) (fun _ z => z) rfl (hin rfl) rfl (t_M_ok 2 (by decide)) rfl rfl (Nat.le_of_ble_eq_true rfl) de_M_init_17 (fun H locs h1 h2 h3 => ?_)
  have h1 : va_P D classes [(h0, .inr (2, [.int 0, .ref q1, .ref q2, .null, .null, .null, .null, .null, .null, .null, .long 0, .int 0, .int 0, .long 0, .int 0, .null, .int 0, .null])), (q1, .inl (c1, 61, .inl (fun _ => 0))), (q2, .inl (c2, 61, .inl (fun _ => 0)))] H := h1
  have h2 : va_D A [(h0, .inr (2, [.int 0, .ref q1, .ref q2, .null, .null, .null, .null, .null, .null, .null, .long 0, .int 0, .int 0, .long 0, .int 0, .null, .int 0, .null])), (q1, .inl (c1, 61, .inl (fun _ => 0))), (q2, .inl (c2, 61, .inl (fun _ => 0)))] := h2
  refine lv_aload_n hx hb de_M_init_20 rfl (lv_at hl 0 rfl) ?_
  refine lv_bipush (v := 61) hx hb de_M_init_21 (by decide) ?_
  refine va_newa (atype := .long) (ty := .long) (N' := 61) (a0 := (61, .inr (.inl (fun _ => 0)))) hx hb (C.2.2.2.2 _ kw_284) rfl hK h1 h2 h3 hA (fun _ => rfl) (by decide) (by decide) (by decide) (Nat.le_of_ble_eq_true rfl) (Nat.le_of_ble_eq_true rfl) de_M_init_23 (fun q3 c3 H hK h1 h2 h3 => ?_)
  have hK : va_K D classes [(c1, .int), (c2, .int), (c3, .long)] s := hK
  have h1 : va_P D classes [(h0, .inr (2, [.int 0, .ref q1, .ref q2, .null, .null, .null, .null, .null, .null, .null, .long 0, .int 0, .int 0, .long 0, .int 0, .null, .int 0, .null])), (q1, .inl (c1, 61, .inl (fun _ => 0))), (q2, .inl (c2, 61, .inl (fun _ => 0))), (q3, .inl (c3, 61, .inr (.inl (fun _ => 0))))] H := h1
  have h2 : va_D A [(h0, .inr (2, [.int 0, .ref q1, .ref q2, .null, .null, .null, .null, .null, .null, .null, .long 0, .int 0, .int 0, .long 0, .int 0, .null, .int 0, .null])), (q1, .inl (c1, 61, .inl (fun _ => 0))), (q2, .inl (c2, 61, .inl (fun _ => 0))), (q3, .inl (c3, 61, .inr (.inl (fun _ => 0))))] := h2
  refine W.widen (k := 3) (n := 183) (Nat.le_of_ble_eq_true rfl) (Nat.le_of_ble_eq_true rfl) ?_
  refine va_putF C.1 C.2.1 C.2.2.2.2 i_M t_M t_M_ok n_M C.2.2.2.1 hK h1 h2 h3 0 rfl rfl 3 (by decide) (C.2.2.2.2 _ kw_232) (fun _ z => z) rfl (hin rfl) rfl (t_M_ok 3 (by decide)) rfl rfl (Nat.le_of_ble_eq_true rfl) de_M_init_25 (fun H locs h1 h2 h3 => ?_)
  have h1 : va_P D classes [(h0, .inr (2, [.int 0, .ref q1, .ref q2, .ref q3, .null, .null, .null, .null, .null, .null, .long 0, .int 0, .int 0, .long 0, .int 0, .null, .int 0, .null])), (q1, .inl (c1, 61, .inl (fun _ => 0))), (q2, .inl (c2, 61, .inl (fun _ => 0))), (q3, .inl (c3, 61, .inr (.inl (fun _ => 0))))] H := h1
  have h2 : va_D A [(h0, .inr (2, [.int 0, .ref q1, .ref q2, .ref q3, .null, .null, .null, .null, .null, .null, .long 0, .int 0, .int 0, .long 0, .int 0, .null, .int 0, .null])), (q1, .inl (c1, 61, .inl (fun _ => 0))), (q2, .inl (c2, 61, .inl (fun _ => 0))), (q3, .inl (c3, 61, .inr (.inl (fun _ => 0))))] := h2
  refine lv_aload_n hx hb de_M_init_28 rfl (lv_at hl 0 rfl) ?_
  refine lv_bipush (v := 61) hx hb de_M_init_29 (by decide) ?_
  refine va_newa (atype := .boolean) (ty := .boolean) (N' := 61) (a0 := (61, .inl (fun _ => 0))) hx hb (C.2.2.2.2 _ kw_285) rfl hK h1 h2 h3 hA (fun _ => rfl) (by decide) (by decide) (by decide) (Nat.le_of_ble_eq_true rfl) (Nat.le_of_ble_eq_true rfl) de_M_init_31 (fun q4 c4 H hK h1 h2 h3 => ?_)
  have hK : va_K D classes [(c1, .int), (c2, .int), (c3, .long), (c4, .boolean)] s := hK
  have h1 : va_P D classes [(h0, .inr (2, [.int 0, .ref q1, .ref q2, .ref q3, .null, .null, .null, .null, .null, .null, .long 0, .int 0, .int 0, .long 0, .int 0, .null, .int 0, .null])), (q1, .inl (c1, 61, .inl (fun _ => 0))), (q2, .inl (c2, 61, .inl (fun _ => 0))), (q3, .inl (c3, 61, .inr (.inl (fun _ => 0)))), (q4, .inl (c4, 61, .inl (fun _ => 0)))] H := h1
  have h2 : va_D A [(h0, .inr (2, [.int 0, .ref q1, .ref q2, .ref q3, .null, .null, .null, .null, .null, .null, .long 0, .int 0, .int 0, .long 0, .int 0, .null, .int 0, .null])), (q1, .inl (c1, 61, .inl (fun _ => 0))), (q2, .inl (c2, 61, .inl (fun _ => 0))), (q3, .inl (c3, 61, .inr (.inl (fun _ => 0)))), (q4, .inl (c4, 61, .inl (fun _ => 0)))] := h2
  refine W.widen (k := 4) (n := 244) (Nat.le_of_ble_eq_true rfl) (Nat.le_of_ble_eq_true rfl) ?_
  refine va_putF C.1 C.2.1 C.2.2.2.2 i_M t_M t_M_ok n_M C.2.2.2.1 hK h1 h2 h3 0 rfl rfl 4 (by decide) (C.2.2.2.2 _ kw_233) (fun _ z => z) rfl (hin rfl) rfl (t_M_ok 4 (by decide)) rfl rfl (Nat.le_of_ble_eq_true rfl) de_M_init_33 (fun H locs h1 h2 h3 => ?_)
  have h1 : va_P D classes [(h0, .inr (2, [.int 0, .ref q1, .ref q2, .ref q3, .ref q4, .null, .null, .null, .null, .null, .long 0, .int 0, .int 0, .long 0, .int 0, .null, .int 0, .null])), (q1, .inl (c1, 61, .inl (fun _ => 0))), (q2, .inl (c2, 61, .inl (fun _ => 0))), (q3, .inl (c3, 61, .inr (.inl (fun _ => 0)))), (q4, .inl (c4, 61, .inl (fun _ => 0)))] H := h1
  have h2 : va_D A [(h0, .inr (2, [.int 0, .ref q1, .ref q2, .ref q3, .ref q4, .null, .null, .null, .null, .null, .long 0, .int 0, .int 0, .long 0, .int 0, .null, .int 0, .null])), (q1, .inl (c1, 61, .inl (fun _ => 0))), (q2, .inl (c2, 61, .inl (fun _ => 0))), (q3, .inl (c3, 61, .inr (.inl (fun _ => 0)))), (q4, .inl (c4, 61, .inl (fun _ => 0)))] := h2
  refine lv_aload_n hx hb de_M_init_36 rfl (lv_at hl 0 rfl) ?_
  refine lv_bipush (v := 61) hx hb de_M_init_37 (by decide) ?_
  refine va_newa (atype := .int) (ty := .int) (N' := 61) (a0 := (61, .inl (fun _ => 0))) hx hb (C.2.2.2.2 _ kw_48) rfl hK h1 h2 h3 hA (fun _ => rfl) (by decide) (by decide) (by decide) (Nat.le_of_ble_eq_true rfl) (Nat.le_of_ble_eq_true rfl) de_M_init_39 (fun q5 c5 H hK h1 h2 h3 => ?_)
  have hK : va_K D classes [(c1, .int), (c2, .int), (c3, .long), (c4, .boolean), (c5, .int)] s := hK
  have h1 : va_P D classes [(h0, .inr (2, [.int 0, .ref q1, .ref q2, .ref q3, .ref q4, .null, .null, .null, .null, .null, .long 0, .int 0, .int 0, .long 0, .int 0, .null, .int 0, .null])), (q1, .inl (c1, 61, .inl (fun _ => 0))), (q2, .inl (c2, 61, .inl (fun _ => 0))), (q3, .inl (c3, 61, .inr (.inl (fun _ => 0)))), (q4, .inl (c4, 61, .inl (fun _ => 0))), (q5, .inl (c5, 61, .inl (fun _ => 0)))] H := h1
  have h2 : va_D A [(h0, .inr (2, [.int 0, .ref q1, .ref q2, .ref q3, .ref q4, .null, .null, .null, .null, .null, .long 0, .int 0, .int 0, .long 0, .int 0, .null, .int 0, .null])), (q1, .inl (c1, 61, .inl (fun _ => 0))), (q2, .inl (c2, 61, .inl (fun _ => 0))), (q3, .inl (c3, 61, .inr (.inl (fun _ => 0)))), (q4, .inl (c4, 61, .inl (fun _ => 0))), (q5, .inl (c5, 61, .inl (fun _ => 0)))] := h2
  refine W.widen (k := 5) (n := 305) (Nat.le_of_ble_eq_true rfl) (Nat.le_of_ble_eq_true rfl) ?_
  refine va_putF C.1 C.2.1 C.2.2.2.2 i_M t_M t_M_ok n_M C.2.2.2.1 hK h1 h2 h3 0 rfl rfl 5 (by decide) (C.2.2.2.2 _ kw_234) (fun _ z => z) rfl (hin rfl) rfl (t_M_ok 5 (by decide)) rfl rfl (Nat.le_of_ble_eq_true rfl) de_M_init_41 (fun H locs h1 h2 h3 => ?_)
  have h1 : va_P D classes [(h0, .inr (2, [.int 0, .ref q1, .ref q2, .ref q3, .ref q4, .ref q5, .null, .null, .null, .null, .long 0, .int 0, .int 0, .long 0, .int 0, .null, .int 0, .null])), (q1, .inl (c1, 61, .inl (fun _ => 0))), (q2, .inl (c2, 61, .inl (fun _ => 0))), (q3, .inl (c3, 61, .inr (.inl (fun _ => 0)))), (q4, .inl (c4, 61, .inl (fun _ => 0))), (q5, .inl (c5, 61, .inl (fun _ => 0)))] H := h1
  have h2 : va_D A [(h0, .inr (2, [.int 0, .ref q1, .ref q2, .ref q3, .ref q4, .ref q5, .null, .null, .null, .null, .long 0, .int 0, .int 0, .long 0, .int 0, .null, .int 0, .null])), (q1, .inl (c1, 61, .inl (fun _ => 0))), (q2, .inl (c2, 61, .inl (fun _ => 0))), (q3, .inl (c3, 61, .inr (.inl (fun _ => 0)))), (q4, .inl (c4, 61, .inl (fun _ => 0))), (q5, .inl (c5, 61, .inl (fun _ => 0)))] := h2
  refine lv_aload_n hx hb de_M_init_44 rfl (lv_at hl 0 rfl) ?_
  refine lv_bipush (v := 61) hx hb de_M_init_45 (by decide) ?_
  refine va_newa (atype := .int) (ty := .int) (N' := 61) (a0 := (61, .inl (fun _ => 0))) hx hb (C.2.2.2.2 _ kw_48) rfl hK h1 h2 h3 hA (fun _ => rfl) (by decide) (by decide) (by decide) (Nat.le_of_ble_eq_true rfl) (Nat.le_of_ble_eq_true rfl) de_M_init_47 (fun q6 c6 H hK h1 h2 h3 => ?_)
  have hK : va_K D classes [(c1, .int), (c2, .int), (c3, .long), (c4, .boolean), (c5, .int), (c6, .int)] s := hK
  have h1 : va_P D classes [(h0, .inr (2, [.int 0, .ref q1, .ref q2, .ref q3, .ref q4, .ref q5, .null, .null, .null, .null, .long 0, .int 0, .int 0, .long 0, .int 0, .null, .int 0, .null])), (q1, .inl (c1, 61, .inl (fun _ => 0))), (q2, .inl (c2, 61, .inl (fun _ => 0))), (q3, .inl (c3, 61, .inr (.inl (fun _ => 0)))), (q4, .inl (c4, 61, .inl (fun _ => 0))), (q5, .inl (c5, 61, .inl (fun _ => 0))), (q6, .inl (c6, 61, .inl (fun _ => 0)))] H := h1
  have h2 : va_D A [(h0, .inr (2, [.int 0, .ref q1, .ref q2, .ref q3, .ref q4, .ref q5, .null, .null, .null, .null, .long 0, .int 0, .int 0, .long 0, .int 0, .null, .int 0, .null])), (q1, .inl (c1, 61, .inl (fun _ => 0))), (q2, .inl (c2, 61, .inl (fun _ => 0))), (q3, .inl (c3, 61, .inr (.inl (fun _ => 0)))), (q4, .inl (c4, 61, .inl (fun _ => 0))), (q5, .inl (c5, 61, .inl (fun _ => 0))), (q6, .inl (c6, 61, .inl (fun _ => 0)))] := h2
  refine W.widen (k := 6) (n := 366) (Nat.le_of_ble_eq_true rfl) (Nat.le_of_ble_eq_true rfl) ?_
  refine va_putF C.1 C.2.1 C.2.2.2.2 i_M t_M t_M_ok n_M C.2.2.2.1 hK h1 h2 h3 0 rfl rfl 6 (by decide) (C.2.2.2.2 _ kw_235) (fun _ z => z) rfl (hin rfl) rfl (t_M_ok 6 (by decide)) rfl rfl (Nat.le_of_ble_eq_true rfl) de_M_init_49 (fun H locs h1 h2 h3 => ?_)
  have h1 : va_P D classes [(h0, .inr (2, [.int 0, .ref q1, .ref q2, .ref q3, .ref q4, .ref q5, .ref q6, .null, .null, .null, .long 0, .int 0, .int 0, .long 0, .int 0, .null, .int 0, .null])), (q1, .inl (c1, 61, .inl (fun _ => 0))), (q2, .inl (c2, 61, .inl (fun _ => 0))), (q3, .inl (c3, 61, .inr (.inl (fun _ => 0)))), (q4, .inl (c4, 61, .inl (fun _ => 0))), (q5, .inl (c5, 61, .inl (fun _ => 0))), (q6, .inl (c6, 61, .inl (fun _ => 0)))] H := h1
  have h2 : va_D A [(h0, .inr (2, [.int 0, .ref q1, .ref q2, .ref q3, .ref q4, .ref q5, .ref q6, .null, .null, .null, .long 0, .int 0, .int 0, .long 0, .int 0, .null, .int 0, .null])), (q1, .inl (c1, 61, .inl (fun _ => 0))), (q2, .inl (c2, 61, .inl (fun _ => 0))), (q3, .inl (c3, 61, .inr (.inl (fun _ => 0)))), (q4, .inl (c4, 61, .inl (fun _ => 0))), (q5, .inl (c5, 61, .inl (fun _ => 0))), (q6, .inl (c6, 61, .inl (fun _ => 0)))] := h2
  refine lv_aload_n hx hb de_M_init_52 rfl (lv_at hl 0 rfl) ?_
  refine lv_bipush (v := 61) hx hb de_M_init_53 (by decide) ?_
  refine va_newa (atype := .long) (ty := .long) (N' := 61) (a0 := (61, .inr (.inl (fun _ => 0)))) hx hb (C.2.2.2.2 _ kw_284) rfl hK h1 h2 h3 hA (fun _ => rfl) (by decide) (by decide) (by decide) (Nat.le_of_ble_eq_true rfl) (Nat.le_of_ble_eq_true rfl) de_M_init_55 (fun q7 c7 H hK h1 h2 h3 => ?_)
  have hK : va_K D classes [(c1, .int), (c2, .int), (c3, .long), (c4, .boolean), (c5, .int), (c6, .int), (c7, .long)] s := hK
  have h1 : va_P D classes [(h0, .inr (2, [.int 0, .ref q1, .ref q2, .ref q3, .ref q4, .ref q5, .ref q6, .null, .null, .null, .long 0, .int 0, .int 0, .long 0, .int 0, .null, .int 0, .null])), (q1, .inl (c1, 61, .inl (fun _ => 0))), (q2, .inl (c2, 61, .inl (fun _ => 0))), (q3, .inl (c3, 61, .inr (.inl (fun _ => 0)))), (q4, .inl (c4, 61, .inl (fun _ => 0))), (q5, .inl (c5, 61, .inl (fun _ => 0))), (q6, .inl (c6, 61, .inl (fun _ => 0))), (q7, .inl (c7, 61, .inr (.inl (fun _ => 0))))] H := h1
  have h2 : va_D A [(h0, .inr (2, [.int 0, .ref q1, .ref q2, .ref q3, .ref q4, .ref q5, .ref q6, .null, .null, .null, .long 0, .int 0, .int 0, .long 0, .int 0, .null, .int 0, .null])), (q1, .inl (c1, 61, .inl (fun _ => 0))), (q2, .inl (c2, 61, .inl (fun _ => 0))), (q3, .inl (c3, 61, .inr (.inl (fun _ => 0)))), (q4, .inl (c4, 61, .inl (fun _ => 0))), (q5, .inl (c5, 61, .inl (fun _ => 0))), (q6, .inl (c6, 61, .inl (fun _ => 0))), (q7, .inl (c7, 61, .inr (.inl (fun _ => 0))))] := h2
  refine W.widen (k := 7) (n := 427) (Nat.le_of_ble_eq_true rfl) (Nat.le_of_ble_eq_true rfl) ?_
  refine va_putF C.1 C.2.1 C.2.2.2.2 i_M t_M t_M_ok n_M C.2.2.2.1 hK h1 h2 h3 0 rfl rfl 7 (by decide) (C.2.2.2.2 _ kw_236) (fun _ z => z) rfl (hin rfl) rfl (t_M_ok 7 (by decide)) rfl rfl (Nat.le_of_ble_eq_true rfl) de_M_init_57 (fun H locs h1 h2 h3 => ?_)
  have h1 : va_P D classes [(h0, .inr (2, [.int 0, .ref q1, .ref q2, .ref q3, .ref q4, .ref q5, .ref q6, .ref q7, .null, .null, .long 0, .int 0, .int 0, .long 0, .int 0, .null, .int 0, .null])), (q1, .inl (c1, 61, .inl (fun _ => 0))), (q2, .inl (c2, 61, .inl (fun _ => 0))), (q3, .inl (c3, 61, .inr (.inl (fun _ => 0)))), (q4, .inl (c4, 61, .inl (fun _ => 0))), (q5, .inl (c5, 61, .inl (fun _ => 0))), (q6, .inl (c6, 61, .inl (fun _ => 0))), (q7, .inl (c7, 61, .inr (.inl (fun _ => 0))))] H := h1
  have h2 : va_D A [(h0, .inr (2, [.int 0, .ref q1, .ref q2, .ref q3, .ref q4, .ref q5, .ref q6, .ref q7, .null, .null, .long 0, .int 0, .int 0, .long 0, .int 0, .null, .int 0, .null])), (q1, .inl (c1, 61, .inl (fun _ => 0))), (q2, .inl (c2, 61, .inl (fun _ => 0))), (q3, .inl (c3, 61, .inr (.inl (fun _ => 0)))), (q4, .inl (c4, 61, .inl (fun _ => 0))), (q5, .inl (c5, 61, .inl (fun _ => 0))), (q6, .inl (c6, 61, .inl (fun _ => 0))), (q7, .inl (c7, 61, .inr (.inl (fun _ => 0))))] := h2
  refine lv_aload_n hx hb de_M_init_60 rfl (lv_at hl 0 rfl) ?_
  refine lv_bipush (v := 61) hx hb de_M_init_61 (by decide) ?_
  refine va_newa (atype := .boolean) (ty := .boolean) (N' := 61) (a0 := (61, .inl (fun _ => 0))) hx hb (C.2.2.2.2 _ kw_285) rfl hK h1 h2 h3 hA (fun _ => rfl) (by decide) (by decide) (by decide) (Nat.le_of_ble_eq_true rfl) (Nat.le_of_ble_eq_true rfl) de_M_init_63 (fun q8 c8 H hK h1 h2 h3 => ?_)
  have hK : va_K D classes [(c1, .int), (c2, .int), (c3, .long), (c4, .boolean), (c5, .int), (c6, .int), (c7, .long), (c8, .boolean)] s := hK
  have h1 : va_P D classes [(h0, .inr (2, [.int 0, .ref q1, .ref q2, .ref q3, .ref q4, .ref q5, .ref q6, .ref q7, .null, .null, .long 0, .int 0, .int 0, .long 0, .int 0, .null, .int 0, .null])), (q1, .inl (c1, 61, .inl (fun _ => 0))), (q2, .inl (c2, 61, .inl (fun _ => 0))), (q3, .inl (c3, 61, .inr (.inl (fun _ => 0)))), (q4, .inl (c4, 61, .inl (fun _ => 0))), (q5, .inl (c5, 61, .inl (fun _ => 0))), (q6, .inl (c6, 61, .inl (fun _ => 0))), (q7, .inl (c7, 61, .inr (.inl (fun _ => 0)))), (q8, .inl (c8, 61, .inl (fun _ => 0)))] H := h1
  have h2 : va_D A [(h0, .inr (2, [.int 0, .ref q1, .ref q2, .ref q3, .ref q4, .ref q5, .ref q6, .ref q7, .null, .null, .long 0, .int 0, .int 0, .long 0, .int 0, .null, .int 0, .null])), (q1, .inl (c1, 61, .inl (fun _ => 0))), (q2, .inl (c2, 61, .inl (fun _ => 0))), (q3, .inl (c3, 61, .inr (.inl (fun _ => 0)))), (q4, .inl (c4, 61, .inl (fun _ => 0))), (q5, .inl (c5, 61, .inl (fun _ => 0))), (q6, .inl (c6, 61, .inl (fun _ => 0))), (q7, .inl (c7, 61, .inr (.inl (fun _ => 0)))), (q8, .inl (c8, 61, .inl (fun _ => 0)))] := h2
  refine W.widen (k := 8) (n := 488) (Nat.le_of_ble_eq_true rfl) (Nat.le_of_ble_eq_true rfl) ?_
  refine va_putF C.1 C.2.1 C.2.2.2.2 i_M t_M t_M_ok n_M C.2.2.2.1 hK h1 h2 h3 0 rfl rfl 8 (by decide) (C.2.2.2.2 _ kw_237) (fun _ z => z) rfl (hin rfl) rfl (t_M_ok 8 (by decide)) rfl rfl (Nat.le_of_ble_eq_true rfl) de_M_init_65 (fun H locs h1 h2 h3 => ?_)
  have h1 : va_P D classes [(h0, .inr (2, [.int 0, .ref q1, .ref q2, .ref q3, .ref q4, .ref q5, .ref q6, .ref q7, .ref q8, .null, .long 0, .int 0, .int 0, .long 0, .int 0, .null, .int 0, .null])), (q1, .inl (c1, 61, .inl (fun _ => 0))), (q2, .inl (c2, 61, .inl (fun _ => 0))), (q3, .inl (c3, 61, .inr (.inl (fun _ => 0)))), (q4, .inl (c4, 61, .inl (fun _ => 0))), (q5, .inl (c5, 61, .inl (fun _ => 0))), (q6, .inl (c6, 61, .inl (fun _ => 0))), (q7, .inl (c7, 61, .inr (.inl (fun _ => 0)))), (q8, .inl (c8, 61, .inl (fun _ => 0)))] H := h1
  have h2 : va_D A [(h0, .inr (2, [.int 0, .ref q1, .ref q2, .ref q3, .ref q4, .ref q5, .ref q6, .ref q7, .ref q8, .null, .long 0, .int 0, .int 0, .long 0, .int 0, .null, .int 0, .null])), (q1, .inl (c1, 61, .inl (fun _ => 0))), (q2, .inl (c2, 61, .inl (fun _ => 0))), (q3, .inl (c3, 61, .inr (.inl (fun _ => 0)))), (q4, .inl (c4, 61, .inl (fun _ => 0))), (q5, .inl (c5, 61, .inl (fun _ => 0))), (q6, .inl (c6, 61, .inl (fun _ => 0))), (q7, .inl (c7, 61, .inr (.inl (fun _ => 0)))), (q8, .inl (c8, 61, .inl (fun _ => 0)))] := h2
  refine lv_aload_n hx hb de_M_init_68 rfl (lv_at hl 0 rfl) ?_
  refine lv_bipush (v := 61) hx hb de_M_init_69 (by decide) ?_
  refine va_newa (atype := .long) (ty := .long) (N' := 61) (a0 := (61, .inr (.inl (fun _ => 0)))) hx hb (C.2.2.2.2 _ kw_284) rfl hK h1 h2 h3 hA (fun _ => rfl) (by decide) (by decide) (by decide) (Nat.le_of_ble_eq_true rfl) (Nat.le_of_ble_eq_true rfl) de_M_init_71 (fun q9 c9 H hK h1 h2 h3 => ?_)
  have hK : va_K D classes [(c1, .int), (c2, .int), (c3, .long), (c4, .boolean), (c5, .int), (c6, .int), (c7, .long), (c8, .boolean), (c9, .long)] s := hK
  have h1 : va_P D classes [(h0, .inr (2, [.int 0, .ref q1, .ref q2, .ref q3, .ref q4, .ref q5, .ref q6, .ref q7, .ref q8, .null, .long 0, .int 0, .int 0, .long 0, .int 0, .null, .int 0, .null])), (q1, .inl (c1, 61, .inl (fun _ => 0))), (q2, .inl (c2, 61, .inl (fun _ => 0))), (q3, .inl (c3, 61, .inr (.inl (fun _ => 0)))), (q4, .inl (c4, 61, .inl (fun _ => 0))), (q5, .inl (c5, 61, .inl (fun _ => 0))), (q6, .inl (c6, 61, .inl (fun _ => 0))), (q7, .inl (c7, 61, .inr (.inl (fun _ => 0)))), (q8, .inl (c8, 61, .inl (fun _ => 0))), (q9, .inl (c9, 61, .inr (.inl (fun _ => 0))))] H := h1
  have h2 : va_D A [(h0, .inr (2, [.int 0, .ref q1, .ref q2, .ref q3, .ref q4, .ref q5, .ref q6, .ref q7, .ref q8, .null, .long 0, .int 0, .int 0, .long 0, .int 0, .null, .int 0, .null])), (q1, .inl (c1, 61, .inl (fun _ => 0))), (q2, .inl (c2, 61, .inl (fun _ => 0))), (q3, .inl (c3, 61, .inr (.inl (fun _ => 0)))), (q4, .inl (c4, 61, .inl (fun _ => 0))), (q5, .inl (c5, 61, .inl (fun _ => 0))), (q6, .inl (c6, 61, .inl (fun _ => 0))), (q7, .inl (c7, 61, .inr (.inl (fun _ => 0)))), (q8, .inl (c8, 61, .inl (fun _ => 0))), (q9, .inl (c9, 61, .inr (.inl (fun _ => 0))))] := h2
  refine W.widen (k := 9) (n := 549) (Nat.le_of_ble_eq_true rfl) (Nat.le_of_ble_eq_true rfl) ?_
  refine va_putF C.1 C.2.1 C.2.2.2.2 i_M t_M t_M_ok n_M C.2.2.2.1 hK h1 h2 h3 0 rfl rfl 9 (by decide) (C.2.2.2.2 _ kw_238) (fun _ z => z) rfl (hin rfl) rfl (t_M_ok 9 (by decide)) rfl rfl (Nat.le_of_ble_eq_true rfl) de_M_init_73 (fun H locs h1 h2 h3 => ?_)
  have h1 : va_P D classes [(h0, .inr (2, [.int 0, .ref q1, .ref q2, .ref q3, .ref q4, .ref q5, .ref q6, .ref q7, .ref q8, .ref q9, .long 0, .int 0, .int 0, .long 0, .int 0, .null, .int 0, .null])), (q1, .inl (c1, 61, .inl (fun _ => 0))), (q2, .inl (c2, 61, .inl (fun _ => 0))), (q3, .inl (c3, 61, .inr (.inl (fun _ => 0)))), (q4, .inl (c4, 61, .inl (fun _ => 0))), (q5, .inl (c5, 61, .inl (fun _ => 0))), (q6, .inl (c6, 61, .inl (fun _ => 0))), (q7, .inl (c7, 61, .inr (.inl (fun _ => 0)))), (q8, .inl (c8, 61, .inl (fun _ => 0))), (q9, .inl (c9, 61, .inr (.inl (fun _ => 0))))] H := h1
  have h2 : va_D A [(h0, .inr (2, [.int 0, .ref q1, .ref q2, .ref q3, .ref q4, .ref q5, .ref q6, .ref q7, .ref q8, .ref q9, .long 0, .int 0, .int 0, .long 0, .int 0, .null, .int 0, .null])), (q1, .inl (c1, 61, .inl (fun _ => 0))), (q2, .inl (c2, 61, .inl (fun _ => 0))), (q3, .inl (c3, 61, .inr (.inl (fun _ => 0)))), (q4, .inl (c4, 61, .inl (fun _ => 0))), (q5, .inl (c5, 61, .inl (fun _ => 0))), (q6, .inl (c6, 61, .inl (fun _ => 0))), (q7, .inl (c7, 61, .inr (.inl (fun _ => 0)))), (q8, .inl (c8, 61, .inl (fun _ => 0))), (q9, .inl (c9, 61, .inr (.inl (fun _ => 0))))] := h2
  refine lv_aload_n hx hb de_M_init_76 rfl (lv_at hl 0 rfl) ?_
  refine lv_sipush (v := 200) hx hb de_M_init_77 (by decide) ?_
  refine va_newa (atype := .int) (ty := .int) (N' := 200) (a0 := (200, .inl (fun _ => 0))) hx hb (C.2.2.2.2 _ kw_48) rfl hK h1 h2 h3 hA (fun _ => rfl) (by decide) (by decide) (by decide) (Nat.le_of_ble_eq_true rfl) (Nat.le_of_ble_eq_true rfl) de_M_init_80 (fun q15 c15 H hK h1 h2 h3 => ?_)
  have hK : va_K D classes [(c1, .int), (c2, .int), (c3, .long), (c4, .boolean), (c5, .int), (c6, .int), (c7, .long), (c8, .boolean), (c9, .long), (c15, .int)] s := hK
  have h1 : va_P D classes [(h0, .inr (2, [.int 0, .ref q1, .ref q2, .ref q3, .ref q4, .ref q5, .ref q6, .ref q7, .ref q8, .ref q9, .long 0, .int 0, .int 0, .long 0, .int 0, .null, .int 0, .null])), (q1, .inl (c1, 61, .inl (fun _ => 0))), (q2, .inl (c2, 61, .inl (fun _ => 0))), (q3, .inl (c3, 61, .inr (.inl (fun _ => 0)))), (q4, .inl (c4, 61, .inl (fun _ => 0))), (q5, .inl (c5, 61, .inl (fun _ => 0))), (q6, .inl (c6, 61, .inl (fun _ => 0))), (q7, .inl (c7, 61, .inr (.inl (fun _ => 0)))), (q8, .inl (c8, 61, .inl (fun _ => 0))), (q9, .inl (c9, 61, .inr (.inl (fun _ => 0)))), (q15, .inl (c15, 200, .inl (fun _ => 0)))] H := h1
  have h2 : va_D A [(h0, .inr (2, [.int 0, .ref q1, .ref q2, .ref q3, .ref q4, .ref q5, .ref q6, .ref q7, .ref q8, .ref q9, .long 0, .int 0, .int 0, .long 0, .int 0, .null, .int 0, .null])), (q1, .inl (c1, 61, .inl (fun _ => 0))), (q2, .inl (c2, 61, .inl (fun _ => 0))), (q3, .inl (c3, 61, .inr (.inl (fun _ => 0)))), (q4, .inl (c4, 61, .inl (fun _ => 0))), (q5, .inl (c5, 61, .inl (fun _ => 0))), (q6, .inl (c6, 61, .inl (fun _ => 0))), (q7, .inl (c7, 61, .inr (.inl (fun _ => 0)))), (q8, .inl (c8, 61, .inl (fun _ => 0))), (q9, .inl (c9, 61, .inr (.inl (fun _ => 0)))), (q15, .inl (c15, 200, .inl (fun _ => 0)))] := h2
  refine W.widen (k := 10) (n := 749) (Nat.le_of_ble_eq_true rfl) (Nat.le_of_ble_eq_true rfl) ?_
  refine va_putF C.1 C.2.1 C.2.2.2.2 i_M t_M t_M_ok n_M C.2.2.2.1 hK h1 h2 h3 0 rfl rfl 15 (by decide) (C.2.2.2.2 _ kw_244) (fun _ z => z) rfl (hin rfl) rfl (t_M_ok 15 (by decide)) rfl rfl (Nat.le_of_ble_eq_true rfl) de_M_init_82 (fun H locs h1 h2 h3 => ?_)
  have h1 : va_P D classes [(h0, .inr (2, [.int 0, .ref q1, .ref q2, .ref q3, .ref q4, .ref q5, .ref q6, .ref q7, .ref q8, .ref q9, .long 0, .int 0, .int 0, .long 0, .int 0, .ref q15, .int 0, .null])), (q1, .inl (c1, 61, .inl (fun _ => 0))), (q2, .inl (c2, 61, .inl (fun _ => 0))), (q3, .inl (c3, 61, .inr (.inl (fun _ => 0)))), (q4, .inl (c4, 61, .inl (fun _ => 0))), (q5, .inl (c5, 61, .inl (fun _ => 0))), (q6, .inl (c6, 61, .inl (fun _ => 0))), (q7, .inl (c7, 61, .inr (.inl (fun _ => 0)))), (q8, .inl (c8, 61, .inl (fun _ => 0))), (q9, .inl (c9, 61, .inr (.inl (fun _ => 0)))), (q15, .inl (c15, 200, .inl (fun _ => 0)))] H := h1
  have h2 : va_D A [(h0, .inr (2, [.int 0, .ref q1, .ref q2, .ref q3, .ref q4, .ref q5, .ref q6, .ref q7, .ref q8, .ref q9, .long 0, .int 0, .int 0, .long 0, .int 0, .ref q15, .int 0, .null])), (q1, .inl (c1, 61, .inl (fun _ => 0))), (q2, .inl (c2, 61, .inl (fun _ => 0))), (q3, .inl (c3, 61, .inr (.inl (fun _ => 0)))), (q4, .inl (c4, 61, .inl (fun _ => 0))), (q5, .inl (c5, 61, .inl (fun _ => 0))), (q6, .inl (c6, 61, .inl (fun _ => 0))), (q7, .inl (c7, 61, .inr (.inl (fun _ => 0)))), (q8, .inl (c8, 61, .inl (fun _ => 0))), (q9, .inl (c9, 61, .inr (.inl (fun _ => 0)))), (q15, .inl (c15, 200, .inl (fun _ => 0)))] := h2
  refine lv_aload_n hx hb de_M_init_85 rfl (lv_at hl 0 rfl) ?_
  refine lv_bipush (v := 100) hx hb de_M_init_86 (by decide) ?_
  refine va_newa (atype := .int) (ty := .int) (N' := 100) (a0 := (100, .inl (fun _ => 0))) hx hb (C.2.2.2.2 _ kw_48) rfl hK h1 h2 h3 hA (fun _ => rfl) (by decide) (by decide) (by decide) (Nat.le_of_ble_eq_true rfl) (Nat.le_of_ble_eq_true rfl) de_M_init_88 (fun q17 c17 H hK h1 h2 h3 => ?_)
  have hK : va_K D classes [(c1, .int), (c2, .int), (c3, .long), (c4, .boolean), (c5, .int), (c6, .int), (c7, .long), (c8, .boolean), (c9, .long), (c15, .int), (c17, .int)] s := hK
  have h1 : va_P D classes [(h0, .inr (2, [.int 0, .ref q1, .ref q2, .ref q3, .ref q4, .ref q5, .ref q6, .ref q7, .ref q8, .ref q9, .long 0, .int 0, .int 0, .long 0, .int 0, .ref q15, .int 0, .null])), (q1, .inl (c1, 61, .inl (fun _ => 0))), (q2, .inl (c2, 61, .inl (fun _ => 0))), (q3, .inl (c3, 61, .inr (.inl (fun _ => 0)))), (q4, .inl (c4, 61, .inl (fun _ => 0))), (q5, .inl (c5, 61, .inl (fun _ => 0))), (q6, .inl (c6, 61, .inl (fun _ => 0))), (q7, .inl (c7, 61, .inr (.inl (fun _ => 0)))), (q8, .inl (c8, 61, .inl (fun _ => 0))), (q9, .inl (c9, 61, .inr (.inl (fun _ => 0)))), (q15, .inl (c15, 200, .inl (fun _ => 0))), (q17, .inl (c17, 100, .inl (fun _ => 0)))] H := h1
  have h2 : va_D A [(h0, .inr (2, [.int 0, .ref q1, .ref q2, .ref q3, .ref q4, .ref q5, .ref q6, .ref q7, .ref q8, .ref q9, .long 0, .int 0, .int 0, .long 0, .int 0, .ref q15, .int 0, .null])), (q1, .inl (c1, 61, .inl (fun _ => 0))), (q2, .inl (c2, 61, .inl (fun _ => 0))), (q3, .inl (c3, 61, .inr (.inl (fun _ => 0)))), (q4, .inl (c4, 61, .inl (fun _ => 0))), (q5, .inl (c5, 61, .inl (fun _ => 0))), (q6, .inl (c6, 61, .inl (fun _ => 0))), (q7, .inl (c7, 61, .inr (.inl (fun _ => 0)))), (q8, .inl (c8, 61, .inl (fun _ => 0))), (q9, .inl (c9, 61, .inr (.inl (fun _ => 0)))), (q15, .inl (c15, 200, .inl (fun _ => 0))), (q17, .inl (c17, 100, .inl (fun _ => 0)))] := h2
  refine W.widen (k := 11) (n := 849) (Nat.le_of_ble_eq_true rfl) (Nat.le_of_ble_eq_true rfl) ?_
  refine va_putF C.1 C.2.1 C.2.2.2.2 i_M t_M t_M_ok n_M C.2.2.2.1 hK h1 h2 h3 0 rfl rfl 17 (by decide) (C.2.2.2.2 _ kw_246) (fun _ z => z) rfl (hin rfl) rfl (t_M_ok 17 (by decide)) rfl rfl (Nat.le_of_ble_eq_true rfl) de_M_init_90 (fun H locs h1 h2 h3 => ?_)
  have h1 : va_P D classes [(h0, .inr (2, [.int 0, .ref q1, .ref q2, .ref q3, .ref q4, .ref q5, .ref q6, .ref q7, .ref q8, .ref q9, .long 0, .int 0, .int 0, .long 0, .int 0, .ref q15, .int 0, .ref q17])), (q1, .inl (c1, 61, .inl (fun _ => 0))), (q2, .inl (c2, 61, .inl (fun _ => 0))), (q3, .inl (c3, 61, .inr (.inl (fun _ => 0)))), (q4, .inl (c4, 61, .inl (fun _ => 0))), (q5, .inl (c5, 61, .inl (fun _ => 0))), (q6, .inl (c6, 61, .inl (fun _ => 0))), (q7, .inl (c7, 61, .inr (.inl (fun _ => 0)))), (q8, .inl (c8, 61, .inl (fun _ => 0))), (q9, .inl (c9, 61, .inr (.inl (fun _ => 0)))), (q15, .inl (c15, 200, .inl (fun _ => 0))), (q17, .inl (c17, 100, .inl (fun _ => 0)))] H := h1
  have h2 : va_D A [(h0, .inr (2, [.int 0, .ref q1, .ref q2, .ref q3, .ref q4, .ref q5, .ref q6, .ref q7, .ref q8, .ref q9, .long 0, .int 0, .int 0, .long 0, .int 0, .ref q15, .int 0, .ref q17])), (q1, .inl (c1, 61, .inl (fun _ => 0))), (q2, .inl (c2, 61, .inl (fun _ => 0))), (q3, .inl (c3, 61, .inr (.inl (fun _ => 0)))), (q4, .inl (c4, 61, .inl (fun _ => 0))), (q5, .inl (c5, 61, .inl (fun _ => 0))), (q6, .inl (c6, 61, .inl (fun _ => 0))), (q7, .inl (c7, 61, .inr (.inl (fun _ => 0)))), (q8, .inl (c8, 61, .inl (fun _ => 0))), (q9, .inl (c9, 61, .inr (.inl (fun _ => 0)))), (q15, .inl (c15, 200, .inl (fun _ => 0))), (q17, .inl (c17, 100, .inl (fun _ => 0)))] := h2
  refine lv_aload_n hx hb de_M_init_93 rfl (lv_at hl 0 rfl) ?_
  refine lv_iconst (v := 0) hx hb de_M_init_94 (by decide) ?_
  refine va_put C.1 C.2.1 C.2.2.2.2 i_M t_M t_M_ok n_M C.2.2.2.1 hK h1 h2 h3 0 rfl rfl 0 (by decide) (C.2.2.2.2 _ kw_229) (fun _ z => z) rfl (t_M_ok 0 (by decide)) rfl rfl (Nat.le_of_ble_eq_true rfl) de_M_init_95 (fun H locs h1 h2 h3 => ?_)
  have e2 : c1 = c2 := hK.same (i := 0) (j := 1) rfl rfl (fun n z => by cases z)
  have e5 : c1 = c5 := hK.same (i := 0) (j := 4) rfl rfl (fun n z => by cases z)
  have e6 : c1 = c6 := hK.same (i := 0) (j := 5) rfl rfl (fun n z => by cases z)
  have e15 : c1 = c15 := hK.same (i := 0) (j := 9) rfl rfl (fun n z => by cases z)
  have e17 : c1 = c17 := hK.same (i := 0) (j := 10) rfl rfl (fun n z => by cases z)
  have e7 : c3 = c7 := hK.same (i := 2) (j := 6) rfl rfl (fun n z => by cases z)
  have e9 : c3 = c9 := hK.same (i := 2) (j := 8) rfl rfl (fun n z => by cases z)
  have e8 : c4 = c8 := hK.same (i := 3) (j := 7) rfl rfl (fun n z => by cases z)
  subst e2 e5 e6 e15 e17 e7 e9 e8
  have hK : va_K D classes (tyM c1 c3 c4) s := hK.sub [0, 2, 3] rfl
  obtain ⟨q, z0, z1, z2, z3, z4, z5, z6, z7, z8, z9, z10, z11⟩ : ∃ q : Nat → Nat, q 0 = h0 ∧ q 1 = q1 ∧ q 2 = q2 ∧ q 3 = q3 ∧ q 4 = q4 ∧ q 5 = q5 ∧ q 6 = q6 ∧ q 7 = q7 ∧ q 8 = q8 ∧ q 9 = q9 ∧ q 10 = q15 ∧ q 11 = q17 := ⟨fun i => [h0, q1, q2, q3, q4, q5, q6, q7, q8, q9, q15, q17].getD i 0, rfl, rfl, rfl, rfl, rfl, rfl, rfl, rfl, rfl, rfl, rfl, rfl⟩
  subst z0 z1 z2 z3 z4 z5 z6 z7 z8 z9 z10 z11
  have h : ST D A (WM q c1 c3 c4 S0) s.heap H locs := ⟨h1, h2, h3⟩
  exact MOk.fin hx hb hr hlk h hK ⟨q, c1, c3, c4, rfl, rfl, rfl⟩ de_M_init_98
end
section
/-! ===== leaves of the twin: printed by gen/mleaf.py ===== -/
theorem lastIx_ex {f : Nat → Int32} {v : Int32} {n : Nat} : ¬ lastIx f v n = 0 ↔ ∃ i : Nat, 1 ≤ i ∧ i ≤ n ∧ f i = v := by
  constructor
  · intro h
    exact ⟨lastIx f v n, by omega, lastIx_le _ _ _, lastIx_at h⟩
  · rintro ⟨i, h1, h2, h3⟩ h
    exact lastIx_no h i h1 h2 h3
theorem lastIx_uq {f : Nat → Int32} {v : Int32} {n j : Nat} (h1 : 1 ≤ j) (h2 : j ≤ n) (h3 : f j = v) (hu : ∀ i, 1 ≤ i → i ≤ n → f i = f j → i = j) : lastIx f v n = j := by
  have h : ¬ lastIx f v n = 0 := lastIx_ex.mpr ⟨j, h1, h2, h3⟩
  exact hu _ (by omega) (lastIx_le _ _ _) ((lastIx_at h).trans h3.symm)
theorem up1 {P : Nat → Prop} {j : Nat} (h : ∀ i, 1 ≤ i → i ≤ j → P i) (hj : P (j + 1)) : ∀ i, 1 ≤ i → i ≤ j + 1 → P i := by
  intro i z1 z2
  rcases Nat.lt_or_ge i (j + 1) with y | y
  · exact h i z1 (by omega)
  · rw [show i = j + 1 by omega]
    exact hj
theorem fr_in {i : Int32} {n : Nat} (hn : n ≤ 100) : gdI i 0 ((nI n - 1).toInt64) ↔ (0 ≤ i ∧ i < nI n) := by
  unfold gdI
  rw [Int64.le_iff_toInt_le, Int64.le_iff_toInt_le, Int32.toInt_toInt64, Int32.toInt_toInt64, Int32.le_iff_toInt_le, Int32.lt_iff_toInt_lt, nI_toInt (by omega)]
  have e0 : (0 : Int64).toInt = 0 := by decide
  have f0 : (0 : Int32).toInt = 0 := by decide
  have e1 : (nI n - 1).toInt = (n : Int) - 1 := by
    have := pk_sub_toInt (a := n) (b := 1) (by omega) (by decide)
    exact this
  rw [e0, f0, e1]
  omega
set_option maxHeartbeats 4000000 in
set_option maxRecDepth 100000 in
theorem ct_M_isBox (l : Launch) (D : va_G) (q : Nat → Nat) (cI cJ cZ : ClassId) (S : SS) (b : Int32) : RO l y_M_isBox b_M_isBox 2 .boolean 1 [.ref (q 0), .int b] (PR D (tyM cI cJ cZ) (WM q cI cJ cZ S) none) (BL (gdB S b)) := by
  refine RO.mk mi_M_isBox (Nat.le_of_ble_eq_true rfl) ?_
  intro p e s m below meth c ls C hr hlk hpre hl
  have hx := C.1
  have hb := C.2.1
  obtain ⟨hP, hK, hC⟩ := hpre
  have hP : va_P D classes (wM q cI cJ cZ (nI (S.2.2 0)) (S.1 0) (S.1 1) (S.2.1 0) (S.1 2) (S.1 3) (S.1 4) (S.2.1 1) (S.1 5) (S.2.1 2) (S.2.1 3 0) (S.1 8 0) (nI (S.2.2 3 % 3)) (S.2.1 3 1) (nI (S.2.2 1)) (S.1 6) (nI (S.2.2 2)) (S.1 7)) s.heap := hP
  have hl : lv_has ls 2 [(0, .ref (q 0)), (1, .int b)] := hl
  refine lv_iload_n hx hb de_M_isBox_0 rfl (lv_at hl 1 rfl) ?_
  refine lv_i2l hx hb de_M_isBox_1 rfl ?_
  refine lv_lconst (v := 1) hx hb de_M_isBox_2 (by decide) ?_
  refine lv_aload_n hx hb de_M_isBox_3 rfl (lv_at hl 0 rfl) ?_
  refine gM_boxes C hK hP de_M_isBox_4 ?_
  refine lv_i2l hx hb de_M_isBox_7 rfl ?_
  refine cl_M_within C ⟨Nat.le_of_ble_eq_true rfl, Nat.le_of_ble_eq_true rfl⟩ hl.1 (Nat.le_of_ble_eq_true rfl) de_M_isBox_8 ⟨Nat.le_of_ble_eq_true rfl, Nat.le_of_ble_eq_true rfl⟩ (fun c_8 => ?_) (fun c_8 => ?_)
  · exact RO.fin hx hb hr hlk rfl (Or.inl ⟨rfl, c_8⟩) de_M_isBox_11
  · exact RO.fin hx hb hr hlk rfl (Or.inr ⟨rfl, c_8⟩) de_M_isBox_11
set_option maxHeartbeats 4000000 in
set_option maxRecDepth 100000 in
theorem ct_M_isNoTime (l : Launch) (D : va_G) (q : Nat → Nat) (cI cJ cZ : ClassId) (S : SS) (t : Int64) : RO l y_M_isNoTime b_M_isNoTime 3 .boolean 0 [.ref (q 0), .long t] (PR D (tyM cI cJ cZ) (WM q cI cJ cZ S) none) (BL (¬ gdT S t)) := by
  refine RO.mk mi_M_isNoTime (Nat.le_of_ble_eq_true rfl) ?_
  intro p e s m below meth c ls C hr hlk hpre hl
  have hx := C.1
  have hb := C.2.1
  obtain ⟨hP, hK, hC⟩ := hpre
  have hP : va_P D classes (wM q cI cJ cZ (nI (S.2.2 0)) (S.1 0) (S.1 1) (S.2.1 0) (S.1 2) (S.1 3) (S.1 4) (S.2.1 1) (S.1 5) (S.2.1 2) (S.2.1 3 0) (S.1 8 0) (nI (S.2.2 3 % 3)) (S.2.1 3 1) (nI (S.2.2 1)) (S.1 6) (nI (S.2.2 2)) (S.1 7)) s.heap := hP
  have hl : lv_has ls 3 [(0, .ref (q 0)), (1, .long t)] := hl
  refine lv_lload_n hx hb de_M_isNoTime_0 rfl (lv_at hl 1 rfl) ?_
  refine lv_aload_n hx hb de_M_isNoTime_1 rfl (lv_at hl 0 rfl) ?_
  refine gM_time C hK hP de_M_isNoTime_2 ?_
  refine zl_lt (tgt := 17) hx hb de_M_isNoTime_5 de_M_isNoTime_6 (by decide) (fun c_6 => ?_) (fun c_6 => ?_)
  · refine lv_iconst (v := 1) hx hb de_M_isNoTime_17 (by decide) ?_
    refine lv_goto (tgt := 22) hx hb de_M_isNoTime_18 (by decide) ?_
    exact RO.fin hx hb hr hlk rfl (Or.inl ⟨rfl, fun z => absurd z.1 (Int64.not_le.mpr c_6)⟩) de_M_isNoTime_22
  · refine lv_lload_n hx hb de_M_isNoTime_9 rfl (lv_at hl 1 rfl) ?_
    refine lv_ldc2 (v := 2000000000) hx hb C.2.2.2.1 (C.2.2.2.2 _ kw_303) de_M_isNoTime_10 ?_
    refine zl_le (tgt := 21) hx hb de_M_isNoTime_13 de_M_isNoTime_14 (by decide) (fun c_14 => ?_) (fun c_14 => ?_)
    · refine lv_iconst (v := 0) hx hb de_M_isNoTime_21 (by decide) ?_
      exact RO.fin hx hb hr hlk rfl (Or.inr ⟨rfl, fun z => z ⟨Int64.not_lt.mp c_6, c_14⟩⟩) de_M_isNoTime_22
    · refine lv_iconst (v := 1) hx hb de_M_isNoTime_17 (by decide) ?_
      refine lv_goto (tgt := 22) hx hb de_M_isNoTime_18 (by decide) ?_
      exact RO.fin hx hb hr hlk rfl (Or.inl ⟨rfl, fun z => c_14 z.2⟩) de_M_isNoTime_22
set_option maxHeartbeats 4000000 in
set_option maxRecDepth 100000 in
theorem ct_M_isCode (l : Launch) (D : va_G) (q : Nat → Nat) (cI cJ cZ : ClassId) (S : SS) (hn : S.2.2 0 ≤ 60) (v : Int32) : RO l y_M_isCode b_M_isCode 3 .boolean 0 [.ref (q 0), .int v] (PR D (tyM cI cJ cZ) (WM q cI cJ cZ S) none) (BL (¬ lastIx (S.1 4) v (S.2.2 0) = 0)) := by
  refine RO.mk mi_M_isCode (Nat.le_of_ble_eq_true rfl) ?_
  intro p e s m below meth c ls C hr hlk hpre hl
  have hx := C.1
  have hb := C.2.1
  obtain ⟨hP, hK, hC⟩ := hpre
  have hP : va_P D classes (wM q cI cJ cZ (nI (S.2.2 0)) (S.1 0) (S.1 1) (S.2.1 0) (S.1 2) (S.1 3) (S.1 4) (S.2.1 1) (S.1 5) (S.2.1 2) (S.2.1 3 0) (S.1 8 0) (nI (S.2.2 3 % 3)) (S.2.1 3 1) (nI (S.2.2 1)) (S.1 6) (nI (S.2.2 2)) (S.1 7)) s.heap := hP
  have hl : lv_has ls 3 [(0, .ref (q 0)), (1, .int v)] := hl
  have loop : ∀ (r j : Nat), j + r = S.2.2 0 → (∀ i, 1 ≤ i → i ≤ j → ¬ S.1 4 i = v) → ∀ ls : Array Slot, lv_has ls 3 [(2, .int (nI (j + 1))), (0, .ref (q 0)), (1, .int v)] → W p l e (rmOf 0 0 0) s m [Value.ref (q 0), .int v].toArray below meth c s.heap [] 0 0 (MQ below (vp_Si (BL (¬ lastIx (S.1 4) v (S.2.2 0) = 0))) [Value.ref (q 0), .int v].toArray s 0 0 (fun _ => False)) (F0 m 2 ls []) := by
    intro r
    induction r with
    | zero =>
      intro j hj hi ls hl
      refine lv_iload_n hx hb de_M_isCode_2 rfl (lv_at hl 0 rfl) ?_
      refine lv_aload_n hx hb de_M_isCode_3 rfl (lv_at hl 1 rfl) ?_
      refine gM_boxes C hK hP de_M_isCode_4 ?_
      refine lv_icmp_gt (tgt := 28) hx hb de_M_isCode_7 (by decide) (fun c_7 => ?_) (fun c_7 => ?_)
      · refine lv_iconst (v := 0) hx hb de_M_isCode_28 (by decide) ?_
        exact RO.fin hx hb hr hlk rfl (Or.inr ⟨rfl, fun z => by obtain ⟨i, i1, i2, i3⟩ := lastIx_ex.mp z; exact hi i i1 (by omega) i3⟩) de_M_isCode_29
      · exact absurd (nI_lt (show S.2.2 0 < j + 1 by omega) (by omega)) c_7
    | succ r ih =>
      intro j hj hi ls hl
      refine lv_iload_n hx hb de_M_isCode_2 rfl (lv_at hl 0 rfl) ?_
      refine lv_aload_n hx hb de_M_isCode_3 rfl (lv_at hl 1 rfl) ?_
      refine gM_boxes C hK hP de_M_isCode_4 ?_
      refine lv_icmp_gt (tgt := 28) hx hb de_M_isCode_7 (by decide) (fun c_7 => ?_) (fun c_7 => ?_)
      · exact absurd c_7 (nI_nlt (by omega) (by omega))
      · refine lv_aload_n hx hb de_M_isCode_10 rfl (lv_at hl 1 rfl) ?_
        refine gM_codes C hK hP de_M_isCode_11 ?_
        refine lv_iload_n hx hb de_M_isCode_14 rfl (lv_at hl 0 rfl) ?_
        refine rM_codes hx hb hK hP (ix_nI (by omega) (by decide)) de_M_isCode_15 ?_
        refine lv_iload_n hx hb de_M_isCode_16 rfl (lv_at hl 2 rfl) ?_
        refine lv_icmp_ne (tgt := 22) hx hb de_M_isCode_17 (by decide) (fun c_17 => ?_) (fun c_17 => ?_)
        · refine lv_iinc (v := (nI ((j + 1) + 1))) (lv' := [(2, .int (nI ((j + 1) + 1))), (0, .ref (q 0)), (1, .int v)]) hx hb de_M_isCode_22 hl (k := 0) rfl (inc_nI _) (by decide) rfl (fun ls hl => ?_)
          refine lv_goto (tgt := 2) hx hb de_M_isCode_25 (by decide) ?_
          exact ih (j + 1) (by omega) (up1 (P := fun i => ¬ S.1 4 i = v) hi c_17) ls hl
        · refine lv_iconst (v := 1) hx hb de_M_isCode_20 (by decide) ?_
          exact RO.fin hx hb hr hlk rfl (Or.inl ⟨rfl, lastIx_ex.mpr ⟨j + 1, by omega, by omega, c_17⟩⟩) de_M_isCode_21
  refine lv_iconst (v := 1) hx hb de_M_isCode_0 (by decide) ?_
  refine zi_top (rfl) ?_
  refine lv_istore_n (lv' := [(2, .int (nI (0 + 1))), (0, .ref (q 0)), (1, .int v)]) hx hb de_M_isCode_1 rfl hl (by decide) rfl (fun ls hl => ?_)
  exact loop (S.2.2 0) 0 (Nat.zero_add _) (fun i z1 z2 => by omega) ls hl
section CLM
variable {p : Program} {l : Launch} {e : Env} {R : Room} {s : State} {m : MethodId} {args : Array Value} {below : List Frame} {meth : Method} {c : Code} {H : Heap} {locs : List Loc} {cells slots : Nat} {Q : State → Prop}
variable {cc : ByteArray} {pc nL : Nat} {ls : Array Slot} {rest : List Value} {own : String} {D : va_G} {tys : List (ClassId × FieldType)} {A : Nat → Prop} {ad bx g : Nat → Nat} {cQ cI : ClassId} {S : SS}
variable {q : Nat → Nat} {cJ cZ : ClassId}
theorem cl_M_isBox (C : CallFix p m c cc nL s args wG R_M) (hP : va_P D classes (WM q cI cJ cZ S) H) (hK : va_K D classes (tyM cI cJ cZ) s) (hC : CX none A s s.heap) (hS : va_S A s.heap H locs) {b : Int32} (hR : 1 + 1 ≤ R.frames ∧ 8 + (2 + 11) + 40 * 1 ≤ R.locals) (hls : ls.size = nL) (hsum : (rest.map fun v => v.category).sum ≤ 8) (hdg : decode cc pc = .ok (.invokevirtual 76, 3)) (hcs : cells ≤ R.cells ∧ slots ≤ R.slots) (k1 : gdB S b → W p l e R s m args below meth c H locs cells slots Q (F0 m (pc + 3) ls (.int 1 :: rest))) (k0 : ¬ (gdB S b) → W p l e R s m args below meth c H locs cells slots Q (F0 m (pc + 3) ls (.int 0 :: rest))) : W p l e R s m args below meth c H locs cells slots Q (F0 m pc ls (.int b :: .ref (q 0) :: rest)) :=
  (ct_M_isBox l D q cI cJ cZ S b).callP (As := [.int b]) mi_M_isBox mv_M_isBox C kw_308 hR hP hK hC hS (q0 := 0) rfl rfl hls rfl hsum hdg hcs (BL.go k1 k0)
theorem cl_M_isNoTime (C : CallFix p m c cc nL s args wG R_M) (hP : va_P D classes (WM q cI cJ cZ S) H) (hK : va_K D classes (tyM cI cJ cZ) s) (hC : CX none A s s.heap) (hS : va_S A s.heap H locs) {t : Int64} (hR : 0 + 1 ≤ R.frames ∧ 8 + (3 + 11) + 40 * 0 ≤ R.locals) (hls : ls.size = nL) (hsum : (rest.map fun v => v.category).sum ≤ 8) (hdg : decode cc pc = .ok (.invokevirtual 82, 3)) (hcs : cells ≤ R.cells ∧ slots ≤ R.slots) (k1 : ¬ gdT S t → W p l e R s m args below meth c H locs cells slots Q (F0 m (pc + 3) ls (.int 1 :: rest))) (k0 : ¬ (¬ gdT S t) → W p l e R s m args below meth c H locs cells slots Q (F0 m (pc + 3) ls (.int 0 :: rest))) : W p l e R s m args below meth c H locs cells slots Q (F0 m pc ls (.long t :: .ref (q 0) :: rest)) :=
  (ct_M_isNoTime l D q cI cJ cZ S t).callP (As := [.long t]) mi_M_isNoTime mv_M_isNoTime C kw_313 hR hP hK hC hS (q0 := 0) rfl rfl hls rfl hsum hdg hcs (BL.go k1 k0)
theorem cl_M_isCode (C : CallFix p m c cc nL s args wG R_M) (hn : S.2.2 0 ≤ 60) (hP : va_P D classes (WM q cI cJ cZ S) H) (hK : va_K D classes (tyM cI cJ cZ) s) (hC : CX none A s s.heap) (hS : va_S A s.heap H locs) {v : Int32} (hR : 0 + 1 ≤ R.frames ∧ 8 + (3 + 11) + 40 * 0 ≤ R.locals) (hls : ls.size = nL) (hsum : (rest.map fun v => v.category).sum ≤ 8) (hdg : decode cc pc = .ok (.invokevirtual 90, 3)) (hcs : cells ≤ R.cells ∧ slots ≤ R.slots) (k1 : ¬ lastIx (S.1 4) v (S.2.2 0) = 0 → W p l e R s m args below meth c H locs cells slots Q (F0 m (pc + 3) ls (.int 1 :: rest))) (k0 : ¬ (¬ lastIx (S.1 4) v (S.2.2 0) = 0) → W p l e R s m args below meth c H locs cells slots Q (F0 m (pc + 3) ls (.int 0 :: rest))) : W p l e R s m args below meth c H locs cells slots Q (F0 m pc ls (.int v :: .ref (q 0) :: rest)) :=
  (ct_M_isCode l D q cI cJ cZ S hn v).callP (As := [.int v]) mi_M_isCode mv_M_isCode C kw_327 hR hP hK hC hS (q0 := 0) rfl rfl hls rfl hsum hdg hcs (BL.go k1 k0)
end CLM
set_option maxHeartbeats 4000000 in
set_option maxRecDepth 100000 in
theorem ct_M_out (l : Launch) (D : va_G) (q : Nat → Nat) (cI cJ cZ : ClassId) (S : SS) (b : Int32) (k : Nat) (hix : ix b k 61) : MOi l y_M_out b_M_out 3 0 0 0 [.ref (q 0), .int b] D (tyM cI cJ cZ) (WM q cI cJ cZ S) none (fun r w => r = S.1 3 k ∧ w = WM q cI cJ cZ (pOut S k)) := by
  refine MOi.mk mi_M_out (Nat.le_of_ble_eq_true rfl) ?_
  intro p e s m below meth c ls A C hr hlk hK hC hA h hl
  have hx := C.1
  have hb := C.2.1
  have h : ST D A (wM q cI cJ cZ (nI (S.2.2 0)) (S.1 0) (S.1 1) (S.2.1 0) (S.1 2) (S.1 3) (S.1 4) (S.2.1 1) (S.1 5) (S.2.1 2) (S.2.1 3 0) (S.1 8 0) (nI (S.2.2 3 % 3)) (S.2.1 3 1) (nI (S.2.2 1)) (S.1 6) (nI (S.2.2 2)) (S.1 7)) s.heap s.heap [] := h
  have hl : lv_has ls 3 [(0, .ref (q 0)), (1, .int b)] := hl
  refine lv_aload_n hx hb de_M_out_0 rfl (lv_at hl 0 rfl) ?_
  refine gM_items C hK h.1 de_M_out_1 ?_
  refine lv_iload_n hx hb de_M_out_4 rfl (lv_at hl 1 rfl) ?_
  refine rM_items hx hb hK h.1 hix de_M_out_5 ?_
  refine lv_istore_n (lv' := [(2, .int (S.1 3 k)), (0, .ref (q 0)), (1, .int b)]) hx hb de_M_out_6 rfl hl (by decide) rfl (fun ls hl => ?_)
  refine lv_aload_n hx hb de_M_out_7 rfl (lv_at hl 1 rfl) ?_
  refine gM_items C hK h.1 de_M_out_8 ?_
  refine lv_iload_n hx hb de_M_out_11 rfl (lv_at hl 2 rfl) ?_
  refine lv_iconst (v := 0) hx hb de_M_out_12 (by decide) ?_
  refine sM_items hx hb hK h hix de_M_out_13 (fun H locs h => ?_)
  refine lv_aload_n hx hb de_M_out_14 rfl (lv_at hl 1 rfl) ?_
  refine gM_codes C hK h.1 de_M_out_15 ?_
  refine lv_iload_n hx hb de_M_out_18 rfl (lv_at hl 2 rfl) ?_
  refine lv_iconst (v := -1) hx hb de_M_out_19 (by decide) ?_
  refine sM_codes hx hb hK h hix de_M_out_20 (fun H locs h => ?_)
  refine lv_aload_n hx hb de_M_out_21 rfl (lv_at hl 1 rfl) ?_
  refine gM_late C hK h.1 de_M_out_22 ?_
  refine lv_iload_n hx hb de_M_out_25 rfl (lv_at hl 2 rfl) ?_
  refine lv_iconst (v := 0) hx hb de_M_out_26 (by decide) ?_
  refine sM_late hx hb hK h hix rfl de_M_out_27 (fun H locs h => ?_)
  refine lv_iload_n hx hb de_M_out_28 rfl (lv_at hl 0 rfl) ?_
  exact MOi.fin hx hb hr hlk h (⟨rfl, rfl⟩) de_M_out_29
set_option maxHeartbeats 4000000 in
set_option maxRecDepth 100000 in
theorem ct_M_open (l : Launch) (D : va_G) (q : Nat → Nat) (cI cJ cZ : ClassId) (S : SS) (b d : Int32) (k : Nat) (hix : ix b k 61) : MOv l y_M_open b_M_open 3 0 0 0 [.ref (q 0), .int b, .int d] D (tyM cI cJ cZ) (WM q cI cJ cZ S) none (fun w => w = WM q cI cJ cZ (pOpen S k d (S.2.1 3 0))) := by
  refine MOv.mk mi_M_open (Nat.le_of_ble_eq_true rfl) ?_
  intro p e s m below meth c ls A C hr hlk hin hK hC hA h hl
  have hx := C.1
  have hb := C.2.1
  have h : ST D A (wM q cI cJ cZ (nI (S.2.2 0)) (S.1 0) (S.1 1) (S.2.1 0) (S.1 2) (S.1 3) (S.1 4) (S.2.1 1) (S.1 5) (S.2.1 2) (S.2.1 3 0) (S.1 8 0) (nI (S.2.2 3 % 3)) (S.2.1 3 1) (nI (S.2.2 1)) (S.1 6) (nI (S.2.2 2)) (S.1 7)) s.heap s.heap [] := h
  have hl : lv_has ls 3 [(0, .ref (q 0)), (1, .int b), (2, .int d)] := hl
  refine lv_aload_n hx hb de_M_open_0 rfl (lv_at hl 0 rfl) ?_
  refine gM_doors C hK h.1 de_M_open_1 ?_
  refine lv_iload_n hx hb de_M_open_4 rfl (lv_at hl 1 rfl) ?_
  refine lv_iload_n hx hb de_M_open_5 rfl (lv_at hl 2 rfl) ?_
  refine sM_doors hx hb hK h hix de_M_open_6 (fun H locs h => ?_)
  refine lv_aload_n hx hb de_M_open_7 rfl (lv_at hl 0 rfl) ?_
  refine gM_since C hK h.1 de_M_open_8 ?_
  refine lv_iload_n hx hb de_M_open_11 rfl (lv_at hl 1 rfl) ?_
  refine lv_aload_n hx hb de_M_open_12 rfl (lv_at hl 0 rfl) ?_
  refine gM_time C hK h.1 de_M_open_13 ?_
  refine sM_since hx hb hK h hix de_M_open_16 (fun H locs h => ?_)
  refine lv_aload_n hx hb de_M_open_17 rfl (lv_at hl 0 rfl) ?_
  refine gM_told C hK h.1 de_M_open_18 ?_
  refine lv_iload_n hx hb de_M_open_21 rfl (lv_at hl 1 rfl) ?_
  refine lv_iconst (v := 0) hx hb de_M_open_22 (by decide) ?_
  refine sM_told hx hb hK h hix rfl de_M_open_23 (fun H locs h => ?_)
  exact MOv.fin hx hb hr hlk h (rfl) de_M_open_24
section CLMW
variable {p : Program} {l : Launch} {e : Env} {R : Room} {s : State} {m : MethodId} {args : Array Value} {below : List Frame} {meth : Method} {c : Code} {H : Heap} {locs : List Loc} {cells slots : Nat} {Q : State → Prop}
variable {cc : ByteArray} {pc nL : Nat} {ls : Array Slot} {rest : List Value} {own : String} {D : va_G} {tys : List (ClassId × FieldType)} {A : Nat → Prop} {ad bx g : Nat → Nat} {cQ cI : ClassId} {S : SS}
variable {q : Nat → Nat} {cJ cZ : ClassId}
theorem cl_M_out (C : CallFix p m c cc nL s args wG R_M) {b : Int32} {k : Nat} (hix : ix b k 61) (h : ST D A (WM q cI cJ cZ S) s.heap H locs) (hK : va_K D classes (tyM cI cJ cZ) s) (hC : CX none A s s.heap) (hA : ∀ q : Nat, s.heap.size ≤ q → A q) (hR : 0 + 1 ≤ R.frames ∧ 8 + (3 + 11) + 40 * 0 ≤ R.locals) (hls : ls.size = nL) (hsum : (rest.map fun v => v.category).sum ≤ 8) (hdg : decode cc pc = .ok (.invokevirtual 96, 3)) (hcs : cells ≤ R.cells ∧ slots ≤ R.slots) (kk : ∀ (H1 : Heap) (locs1 : List Loc), ST D A (WM q cI cJ cZ (pOut S k)) s.heap H1 locs1 → W p l e R s m args below meth c H1 locs1 cells slots Q (F0 m (pc + 3) ls (.int (S.1 3 k) :: rest))) : W p l e R s m args below meth c H locs cells slots Q (F0 m pc ls (.int b :: .ref (q 0) :: rest)) :=
  (ct_M_out l D q cI cJ cZ S b k hix).core (As := [.int b]) mi_M_out mv_M_out C kw_335 hR h.1 h.2.1 hK hC h.2.2 hA (q0 := 0) rfl rfl hls rfl hsum hdg hcs (fun r w H1 locs1 hp hP1 hD1 _ hS1 => by rw [hp.2] at hP1 hD1; rw [hp.1]; exact kk H1 locs1 (h.all (sub_A h.2.1 h.2.2 hA) hP1 hD1 hS1))
theorem cl_M_open (C : CallFix p m c cc nL s args wG R_M) {b d : Int32} {k : Nat} (hix : ix b k 61) (h : ST D A (WM q cI cJ cZ S) s.heap H locs) (hK : va_K D classes (tyM cI cJ cZ) s) (hC : CX none A s s.heap) (hA : ∀ q : Nat, s.heap.size ≤ q → A q) (hR : 0 + 1 ≤ R.frames ∧ 8 + (3 + 11) + 40 * 0 ≤ R.locals) (hls : ls.size = nL) (hsum : (rest.map fun v => v.category).sum ≤ 8) (hdg : decode cc pc = .ok (.invokevirtual 100, 3)) (hcs : cells ≤ R.cells ∧ slots ≤ R.slots) (kk : ∀ (H1 : Heap) (locs1 : List Loc), ST D A (WM q cI cJ cZ (pOpen S k d (S.2.1 3 0))) s.heap H1 locs1 → W p l e R s m args below meth c H1 locs1 cells slots Q (F0 m (pc + 3) ls rest)) : W p l e R s m args below meth c H locs cells slots Q (F0 m pc ls (.int d :: .int b :: .ref (q 0) :: rest)) :=
  (ct_M_open l D q cI cJ cZ S b d k hix).core (As := [.int b, .int d]) mi_M_open mv_M_open C kw_339 hR h.1 h.2.1 hK hC h.2.2 hA (q0 := 0) rfl rfl hls rfl hsum hdg hcs (fun w H1 locs1 hp hP1 hD1 _ hS1 => by rw [hp] at hP1 hD1; exact kk H1 locs1 (h.all (sub_A h.2.1 h.2.2 hA) hP1 hD1 hS1))
end CLMW
set_option maxHeartbeats 4000000 in
set_option maxRecDepth 100000 in
theorem ct_M_freed (l : Launch) (D : va_G) (q : Nat → Nat) (cI cJ cZ : ClassId) (S : SS) (c0 : Nat) (hI : Inv c0 S) (i : Int32) : RO l y_M_freed b_M_freed 2 .int 1 [.ref (q 0), .int i] (PR D (tyM cI cJ cZ) (WM q cI cJ cZ S) none) (fun r => r = (oFreed S i).1) := by
  refine RO.mk mi_M_freed (Nat.le_of_ble_eq_true rfl) ?_
  intro p e s m below meth c ls C hr hlk hpre hl
  have hx := C.1
  have hb := C.2.1
  obtain ⟨hP, hK, hC⟩ := hpre
  have hP : va_P D classes (wM q cI cJ cZ (nI (S.2.2 0)) (S.1 0) (S.1 1) (S.2.1 0) (S.1 2) (S.1 3) (S.1 4) (S.2.1 1) (S.1 5) (S.2.1 2) (S.2.1 3 0) (S.1 8 0) (nI (S.2.2 3 % 3)) (S.2.1 3 1) (nI (S.2.2 1)) (S.1 6) (nI (S.2.2 2)) (S.1 7)) s.heap := hP
  have hl : lv_has ls 2 [(0, .ref (q 0)), (1, .int i)] := hl
  refine lv_iload_n hx hb de_M_freed_0 rfl (lv_at hl 1 rfl) ?_
  refine lv_i2l hx hb de_M_freed_1 rfl ?_
  refine lv_lconst (v := 0) hx hb de_M_freed_2 (by decide) ?_
  refine lv_aload_n hx hb de_M_freed_3 rfl (lv_at hl 0 rfl) ?_
  refine gM_freed C hK hP de_M_freed_4 ?_
  refine lv_iconst (v := 1) hx hb de_M_freed_7 (by decide) ?_
  refine lv_isub hx hb de_M_freed_8 ?_
  refine lv_i2l hx hb de_M_freed_9 rfl ?_
  refine cl_M_within C ⟨Nat.le_of_ble_eq_true rfl, Nat.le_of_ble_eq_true rfl⟩ hl.1 (Nat.le_of_ble_eq_true rfl) de_M_freed_10 ⟨Nat.le_of_ble_eq_true rfl, Nat.le_of_ble_eq_true rfl⟩ (fun c_10 => ?_) (fun c_10 => ?_)
  · have hz := (fr_in hI.nf).mp c_10
    have hix := ix_of (Int32.not_lt.mpr hz.1) (Int32.not_le.mpr hz.2) hI.nf (by decide)
    refine lv_if_eq (tgt := 25) hx hb de_M_freed_13 (by decide) (fun z => absurd z (by decide)) (fun _ => ?_)
    refine lv_aload_n hx hb de_M_freed_16 rfl (lv_at hl 0 rfl) ?_
    refine gM_free C hK hP de_M_freed_17 ?_
    refine lv_iload_n hx hb de_M_freed_20 rfl (lv_at hl 1 rfl) ?_
    refine rM_free hx hb hK hP hix de_M_freed_21 ?_
    refine lv_goto (tgt := 26) hx hb de_M_freed_22 (by decide) ?_
    exact RO.fin hx hb hr hlk rfl ((if_pos ((fr_in hI.nf).mp c_10)).symm) de_M_freed_26
  · refine lv_if_eq (tgt := 25) hx hb de_M_freed_13 (by decide) (fun _ => ?_) (fun z => absurd z (by decide))
    refine lv_iconst (v := 0) hx hb de_M_freed_25 (by decide) ?_
    exact RO.fin hx hb hr hlk rfl ((if_neg (fun z => c_10 ((fr_in hI.nf).mpr z))).symm) de_M_freed_26
set_option maxHeartbeats 4000000 in
set_option maxRecDepth 100000 in
theorem ct_M_item (l : Launch) (D : va_G) (q : Nat → Nat) (cI cJ cZ : ClassId) (S : SS) (c0 : Nat) (hI : Inv c0 S) (b : Int32) : RO l y_M_item b_M_item 2 .int 2 [.ref (q 0), .int b] (PR D (tyM cI cJ cZ) (WM q cI cJ cZ S) none) (fun r => r = (oItem S b).1) := by
  refine RO.mk mi_M_item (Nat.le_of_ble_eq_true rfl) ?_
  intro p e s m below meth c ls C hr hlk hpre hl
  have hx := C.1
  have hb := C.2.1
  obtain ⟨hP, hK, hC⟩ := hpre
  have hP : va_P D classes (wM q cI cJ cZ (nI (S.2.2 0)) (S.1 0) (S.1 1) (S.2.1 0) (S.1 2) (S.1 3) (S.1 4) (S.2.1 1) (S.1 5) (S.2.1 2) (S.2.1 3 0) (S.1 8 0) (nI (S.2.2 3 % 3)) (S.2.1 3 1) (nI (S.2.2 1)) (S.1 6) (nI (S.2.2 2)) (S.1 7)) s.heap := hP
  have hl : lv_has ls 2 [(0, .ref (q 0)), (1, .int b)] := hl
  refine lv_aload_n hx hb de_M_item_0 rfl (lv_at hl 0 rfl) ?_
  refine lv_iload_n hx hb de_M_item_1 rfl (lv_at hl 1 rfl) ?_
  refine cl_M_isBox C hP hK hC va_S.rf ⟨Nat.le_of_ble_eq_true rfl, Nat.le_of_ble_eq_true rfl⟩ hl.1 (Nat.le_of_ble_eq_true rfl) de_M_item_2 ⟨Nat.le_of_ble_eq_true rfl, Nat.le_of_ble_eq_true rfl⟩ (fun c_2 => ?_) (fun c_2 => ?_)
  · obtain ⟨kb, ekb, hbx, hk1, hk2, ebk⟩ := gdB_ix c_2 hI.n
    refine lv_if_ne (tgt := 13) hx hb de_M_item_5 (by decide) (fun _ => ?_) (fun z => absurd z (by decide))
    refine lv_aload_n hx hb de_M_item_13 rfl (lv_at hl 0 rfl) ?_
    refine gM_late C hK hP de_M_item_14 ?_
    refine lv_iload_n hx hb de_M_item_17 rfl (lv_at hl 1 rfl) ?_
    refine rM_late hx hb hK hP hbx de_M_item_18 ?_
    refine lv_if_eq (tgt := 32) hx hb de_M_item_19 (by decide) (fun c_19 => ?_) (fun c_19 => ?_)
    · refine lv_aload_n hx hb de_M_item_32 rfl (lv_at hl 0 rfl) ?_
      refine gM_items C hK hP de_M_item_33 ?_
      refine lv_iload_n hx hb de_M_item_36 rfl (lv_at hl 1 rfl) ?_
      refine rM_items hx hb hK hP hbx de_M_item_37 ?_
      exact RO.fin hx hb hr hlk rfl (by rw [oItem, if_neg (fun z => z c_2), ekb, if_pos c_19]) de_M_item_38
    · refine lv_aload_n hx hb de_M_item_22 rfl (lv_at hl 0 rfl) ?_
      refine gM_items C hK hP de_M_item_23 ?_
      refine lv_iload_n hx hb de_M_item_26 rfl (lv_at hl 1 rfl) ?_
      refine rM_items hx hb hK hP hbx de_M_item_27 ?_
      refine lv_ineg hx hb de_M_item_28 ?_
      refine lv_goto (tgt := 38) hx hb de_M_item_29 (by decide) ?_
      exact RO.fin hx hb hr hlk rfl (by rw [oItem, if_neg (fun z => z c_2), ekb, if_neg c_19]) de_M_item_38
  · refine lv_if_ne (tgt := 13) hx hb de_M_item_5 (by decide) (fun z => absurd z (by decide)) (fun _ => ?_)
    refine lv_bipush (v := -11) hx hb de_M_item_8 (by decide) ?_
    refine lv_goto (tgt := 38) hx hb de_M_item_10 (by decide) ?_
    exact RO.fin hx hb hr hlk rfl (by rw [oItem, if_pos c_2]) de_M_item_38
set_option maxHeartbeats 4000000 in
set_option maxRecDepth 100000 in
theorem ct_M_code (l : Launch) (D : va_G) (q : Nat → Nat) (cI cJ cZ : ClassId) (S : SS) (c0 : Nat) (hI : Inv c0 S) (v : Int32) : RO l y_M_code b_M_code 3 .int 1 [.ref (q 0), .int v] (PR D (tyM cI cJ cZ) (WM q cI cJ cZ S) none) (fun r => r = (oCode S v).1) := by
  refine RO.mk mi_M_code (Nat.le_of_ble_eq_true rfl) ?_
  intro p e s m below meth c ls C hr hlk hpre hl
  have hx := C.1
  have hb := C.2.1
  obtain ⟨hP, hK, hC⟩ := hpre
  have hP : va_P D classes (wM q cI cJ cZ (nI (S.2.2 0)) (S.1 0) (S.1 1) (S.2.1 0) (S.1 2) (S.1 3) (S.1 4) (S.2.1 1) (S.1 5) (S.2.1 2) (S.2.1 3 0) (S.1 8 0) (nI (S.2.2 3 % 3)) (S.2.1 3 1) (nI (S.2.2 1)) (S.1 6) (nI (S.2.2 2)) (S.1 7)) s.heap := hP
  have hl : lv_has ls 3 [(0, .ref (q 0)), (1, .int v)] := hl
  have hn := hI.n
  have hv0 : gdI v 1 9999 → ¬ v = 0 := fun z e => absurd z.1 (by rw [e]; decide)
  have hlp : gdI v 1 9999 → ∀ ls : Array Slot, lv_has ls 3 [(2, .int (nI (0 + 1))), (0, .ref (q 0)), (1, .int v)] → W p l e (rmOf 1 0 0) s m [Value.ref (q 0), .int v].toArray below meth c s.heap [] 0 0 (MQ below (vp_Si (fun r => r = (oCode S v).1)) [Value.ref (q 0), .int v].toArray s 0 0 (fun _ => False)) (F0 m 17 ls []) := by
   intro hg
   have loop : ∀ (r j : Nat), j + r = S.2.2 0 → (∀ i, 1 ≤ i → i ≤ j → ¬ S.1 3 i = v) → ∀ ls : Array Slot, lv_has ls 3 [(2, .int (nI (j + 1))), (0, .ref (q 0)), (1, .int v)] → W p l e (rmOf 1 0 0) s m [Value.ref (q 0), .int v].toArray below meth c s.heap [] 0 0 (MQ below (vp_Si (fun r => r = (oCode S v).1)) [Value.ref (q 0), .int v].toArray s 0 0 (fun _ => False)) (F0 m 17 ls []) := by
     intro r
     induction r with
     | zero =>
       intro j hj hi ls hl
       refine lv_iload_n hx hb de_M_code_17 rfl (lv_at hl 0 rfl) ?_
       refine lv_aload_n hx hb de_M_code_18 rfl (lv_at hl 1 rfl) ?_
       refine gM_boxes C hK hP de_M_code_19 ?_
       refine lv_icmp_gt (tgt := 48) hx hb de_M_code_22 (by decide) (fun c_22 => ?_) (fun c_22 => ?_)
       · refine lv_iconst (v := -1) hx hb de_M_code_48 (by decide) ?_
         exact RO.fin hx hb hr hlk rfl (by rw [oCode, if_neg (fun z => z hg), if_pos (Classical.byContradiction (fun z => by obtain ⟨i, i1, i2, i3⟩ := lastIx_ex.mp z; exact hi i i1 (by omega) i3))]) de_M_code_49
       · exact absurd (nI_lt (show S.2.2 0 < j + 1 by omega) (by omega)) c_22
     | succ r ih =>
       intro j hj hi ls hl
       refine lv_iload_n hx hb de_M_code_17 rfl (lv_at hl 0 rfl) ?_
       refine lv_aload_n hx hb de_M_code_18 rfl (lv_at hl 1 rfl) ?_
       refine gM_boxes C hK hP de_M_code_19 ?_
       refine lv_icmp_gt (tgt := 48) hx hb de_M_code_22 (by decide) (fun c_22 => ?_) (fun c_22 => ?_)
       · exact absurd c_22 (nI_nlt (by omega) (by omega))
       · refine lv_aload_n hx hb de_M_code_25 rfl (lv_at hl 1 rfl) ?_
         refine gM_items C hK hP de_M_code_26 ?_
         refine lv_iload_n hx hb de_M_code_29 rfl (lv_at hl 0 rfl) ?_
         refine rM_items hx hb hK hP (ix_nI (by omega) (by decide)) de_M_code_30 ?_
         refine lv_iload_n hx hb de_M_code_31 rfl (lv_at hl 2 rfl) ?_
         refine lv_icmp_ne (tgt := 42) hx hb de_M_code_32 (by decide) (fun c_32 => ?_) (fun c_32 => ?_)
         · refine lv_iinc (v := (nI ((j + 1) + 1))) (lv' := [(2, .int (nI ((j + 1) + 1))), (0, .ref (q 0)), (1, .int v)]) hx hb de_M_code_42 hl (k := 0) rfl (inc_nI _) (by decide) rfl (fun ls hl => ?_)
           refine lv_goto (tgt := 17) hx hb de_M_code_45 (by decide) ?_
           exact ih (j + 1) (by omega) (up1 (P := fun i => ¬ S.1 3 i = v) hi c_32) ls hl
         · refine lv_aload_n hx hb de_M_code_35 rfl (lv_at hl 1 rfl) ?_
           refine gM_codes C hK hP de_M_code_36 ?_
           refine lv_iload_n hx hb de_M_code_39 rfl (lv_at hl 0 rfl) ?_
           refine rM_codes hx hb hK hP (ix_nI (by omega) (by decide)) de_M_code_40 ?_
           exact RO.fin hx hb hr hlk rfl (by rw [oCode, if_neg (fun z => z hg), lastIx_uq (f := S.1 3) (v := v) (n := S.2.2 0) (j := j + 1) (by omega) (by omega) c_32 (fun i i1 i2 e => hI.2.2.2.1 i (j + 1) i1 i2 (by omega) (by omega) e (by rw [e, c_32]; exact hv0 hg)), if_neg (by omega)]) de_M_code_41
   exact loop (S.2.2 0) 0 (Nat.zero_add _) (fun i z1 z2 => by omega)
  refine lv_iload_n hx hb de_M_code_0 rfl (lv_at hl 1 rfl) ?_
  refine lv_i2l hx hb de_M_code_1 rfl ?_
  refine lv_lconst (v := 1) hx hb de_M_code_2 (by decide) ?_
  refine lv_ldc2 (v := 9999) hx hb C.2.2.2.1 (C.2.2.2.2 _ kw_312) de_M_code_3 ?_
  refine cl_M_within C ⟨Nat.le_of_ble_eq_true rfl, Nat.le_of_ble_eq_true rfl⟩ hl.1 (Nat.le_of_ble_eq_true rfl) de_M_code_6 ⟨Nat.le_of_ble_eq_true rfl, Nat.le_of_ble_eq_true rfl⟩ (fun c_6 => ?_) (fun c_6 => ?_)
  · refine lv_if_ne (tgt := 15) hx hb de_M_code_9 (by decide) (fun _ => ?_) (fun z => absurd z (by decide))
    refine lv_iconst (v := 1) hx hb de_M_code_15 (by decide) ?_
    refine zi_top (rfl) ?_
    refine lv_istore_n (lv' := [(2, .int (nI (0 + 1))), (0, .ref (q 0)), (1, .int v)]) hx hb de_M_code_16 rfl hl (by decide) rfl (fun ls hl => ?_)
    exact hlp c_6 ls hl
  · refine lv_if_ne (tgt := 15) hx hb de_M_code_9 (by decide) (fun z => absurd z (by decide)) (fun _ => ?_)
    refine lv_bipush (v := -12) hx hb de_M_code_12 (by decide) ?_
    exact RO.fin hx hb hr hlk rfl (by rw [oCode, if_pos c_6]) de_M_code_14
end
section
/-! ===== the twin: pass, box, tape, tick, take, put, reserve: printed by gen/mops1.py ===== -/
set_option maxHeartbeats 4000000 in
set_option maxRecDepth 100000 in
theorem ct_M_pass (l : Launch) (D : va_G) (q : Nat → Nat) (cI cJ cZ : ClassId) (S : SS) (c0 : Nat) (hI : Inv c0 S) (t : Int64) (ht : gdT S t) : MOv l y_M_pass b_M_pass 5 0 0 0 [.ref (q 0), .long t] D (tyM cI cJ cZ) (WM q cI cJ cZ S) none (fun w => w = WM q cI cJ cZ (oPass S t)) := by
  refine MOv.mk mi_M_pass (Nat.le_of_ble_eq_true rfl) ?_
  intro p e s m below meth c ls A C hr hlk hin hK hC hA h hl
  have hx := C.1
  have hb := C.2.1
  have h : ST D A (wM q cI cJ cZ (nI (S.2.2 0)) (S.1 0) (S.1 1) (S.2.1 0) (S.1 2) (S.1 3) (S.1 4) (S.2.1 1) (S.1 5) (S.2.1 2) (S.2.1 3 0) (S.1 8 0) (nI (S.2.2 3 % 3)) (S.2.1 3 1) (nI (S.2.2 1)) (S.1 6) (nI (S.2.2 2)) (S.1 7)) s.heap s.heap [] := h
  have hl : lv_has ls 5 [(0, .ref (q 0)), (1, .long t)] := hl
  have hn60 := hI.n
  have loop : ∀ (r j : Nat), j + r = S.2.2 0 → ∀ (H : Heap) (locs : List Loc), ST D A (WM q cI cJ cZ (psN S t j)) s.heap H locs → ∀ ls : Array Slot, lv_has ls 5 [(3, .int (nI (j + 1))), (0, .ref (q 0)), (1, .long t)] → W p l e (rmOf 0 0 0) s m [Value.ref (q 0), .long t].toArray below meth c H locs 0 0 (MQ below (va_Qv (fun w => w = WM q cI cJ cZ (oPass S t)) (PB D A) A) [Value.ref (q 0), .long t].toArray s 0 0 A) (F0 m 7 ls []) := by
    intro r
    induction r with
    | zero =>
      intro j hj H locs h ls hl
      have hTn := psN_n S t j
      have hfin : psN S t j = oPass S t := by rw [oPass, ← hj]; rfl
      generalize psN S t j = T at h hTn hfin
      have h : ST D A (wM q cI cJ cZ (nI (T.2.2 0)) (T.1 0) (T.1 1) (T.2.1 0) (T.1 2) (T.1 3) (T.1 4) (T.2.1 1) (T.1 5) (T.2.1 2) (T.2.1 3 0) (T.1 8 0) (nI (T.2.2 3 % 3)) (T.2.1 3 1) (nI (T.2.2 1)) (T.1 6) (nI (T.2.2 2)) (T.1 7)) s.heap H locs := h
      refine lv_iload_n hx hb de_M_pass_7 rfl (lv_at hl 0 rfl) ?_
      refine lv_aload_n hx hb de_M_pass_8 rfl (lv_at hl 1 rfl) ?_
      refine gM_boxes C hK h.1 de_M_pass_9 ?_
      refine lv_icmp_gt (tgt := 202) hx hb de_M_pass_12 (by decide) (fun c_12 => ?_) (fun c_12 => ?_)
      · exact MOv.fin hx hb hr hlk h (by rw [← hfin]; rfl) de_M_pass_202
      · exact absurd (nI_lt (show T.2.2 0 < j + 1 by omega) (by omega)) c_12
    | succ r ih =>
      intro j hj H locs h ls hl
      have hTn := psN_n S t j
      have hTI := inv_psN hI ht j (by omega)
      have hstep : psN S t (j + 1) = psK (psN S t j) t (j + 1) := rfl
      generalize psN S t j = T at h hTn hTI hstep
      have hk1 : 1 ≤ j + 1 := by omega
      have hk2 : j + 1 ≤ T.2.2 0 := by omega
      have J196 : ∀ (H : Heap) (locs : List Loc), ST D A (WM q cI cJ cZ (psK T t (j + 1))) s.heap H locs → ∀ ls : Array Slot, lv_has ls 5 [(3, .int (nI (j + 1))), (0, .ref (q 0)), (1, .long t)] → W p l e (rmOf 0 0 0) s m [Value.ref (q 0), .long t].toArray below meth c H locs 0 0 (MQ below (va_Qv (fun w => w = WM q cI cJ cZ (oPass S t)) (PB D A) A) [Value.ref (q 0), .long t].toArray s 0 0 A) (F0 m 196 ls []) := by
        intro H locs h ls hl
        rw [← hstep] at h
        refine lv_iinc (v := (nI ((j + 1) + 1))) (lv' := [(3, .int (nI ((j + 1) + 1))), (0, .ref (q 0)), (1, .long t)]) hx hb de_M_pass_196 hl (k := 0) rfl (inc_nI _) (by decide) rfl (fun ls hl => ?_)
        refine lv_goto (tgt := 7) hx hb de_M_pass_199 (by decide) ?_
        exact ih (j + 1) (by omega) H locs h ls hl
      have J146 : ∀ (H : Heap) (locs : List Loc), ST D A (WM q cI cJ cZ (ps2 (ps1 T t (j + 1)) t (j + 1))) s.heap H locs → ∀ ls : Array Slot, lv_has ls 5 [(3, .int (nI (j + 1))), (0, .ref (q 0)), (1, .long t)] → W p l e (rmOf 0 0 0) s m [Value.ref (q 0), .long t].toArray below meth c H locs 0 0 (MQ below (va_Qv (fun w => w = WM q cI cJ cZ (oPass S t)) (PB D A) A) [Value.ref (q 0), .long t].toArray s 0 0 A) (F0 m 146 ls []) := by
        intro H locs h ls hl
        have e3 : psK T t (j + 1) = ps3 (ps2 (ps1 T t (j + 1)) t (j + 1)) t (j + 1) := rfl
        generalize ps2 (ps1 T t (j + 1)) t (j + 1) = T2 at h e3
        rw [e3] at J196
        have h : ST D A (wM q cI cJ cZ (nI (T2.2.2 0)) (T2.1 0) (T2.1 1) (T2.2.1 0) (T2.1 2) (T2.1 3) (T2.1 4) (T2.2.1 1) (T2.1 5) (T2.2.1 2) (T2.2.1 3 0) (T2.1 8 0) (nI (T2.2.2 3 % 3)) (T2.2.1 3 1) (nI (T2.2.2 1)) (T2.1 6) (nI (T2.2.2 2)) (T2.1 7)) s.heap H locs := h
        refine lv_aload_n hx hb de_M_pass_146 rfl (lv_at hl 1 rfl) ?_
        refine gM_codes C hK h.1 de_M_pass_147 ?_
        refine lv_iload_n hx hb de_M_pass_150 rfl (lv_at hl 0 rfl) ?_
        refine rM_codes hx hb hK h.1 (ix_nI (by omega) (by decide)) de_M_pass_151 ?_
        refine lv_if_lt (tgt := 196) hx hb de_M_pass_152 (by decide) (fun c_152 => ?_) (fun c_152 => ?_)
        · exact J196 H locs (by rw [ps3, if_neg (fun z => absurd c_152 (Int32.not_lt.mpr z.1))]; exact h) ls (lv_sub hl [0, 1, 2] rfl)
        · refine lv_aload_n hx hb de_M_pass_155 rfl (lv_at hl 1 rfl) ?_
          refine gM_late C hK h.1 de_M_pass_156 ?_
          refine lv_iload_n hx hb de_M_pass_159 rfl (lv_at hl 0 rfl) ?_
          refine rM_late hx hb hK h.1 (ix_nI (by omega) (by decide)) de_M_pass_160 ?_
          refine lv_if_ne (tgt := 196) hx hb de_M_pass_161 (by decide) (fun c_161 => ?_) (fun c_161 => ?_)
          · exact J196 H locs (by rw [ps3, if_neg (fun z => c_161 z.2.1)]; exact h) ls (lv_sub hl [0, 1, 2] rfl)
          · refine lv_lload_n hx hb de_M_pass_164 rfl (lv_at hl 2 rfl) ?_
            refine lv_aload_n hx hb de_M_pass_165 rfl (lv_at hl 1 rfl) ?_
            refine gM_lies C hK h.1 de_M_pass_166 ?_
            refine lv_iload_n hx hb de_M_pass_169 rfl (lv_at hl 0 rfl) ?_
            refine rM_lies hx hb hK h.1 (ix_nI (by omega) (by decide)) de_M_pass_170 ?_
            refine lv_lsub hx hb de_M_pass_171 ?_
            refine lv_ldc2 (v := 604800) hx hb C.2.2.2.1 (C.2.2.2.2 _ kw_322) de_M_pass_172 ?_
            refine zl_lt (tgt := 196) hx hb de_M_pass_175 de_M_pass_176 (by decide) (fun c_176 => ?_) (fun c_176 => ?_)
            · exact J196 H locs (by rw [ps3, if_neg (fun z => absurd z.2.2 (Int64.not_le.mpr c_176))]; exact h) ls (lv_sub hl [0, 1, 2] rfl)
            · refine lv_aload_n hx hb de_M_pass_179 rfl (lv_at hl 1 rfl) ?_
              refine gM_late C hK h.1 de_M_pass_180 ?_
              refine lv_iload_n hx hb de_M_pass_183 rfl (lv_at hl 0 rfl) ?_
              refine lv_iconst (v := 1) hx hb de_M_pass_184 (by decide) ?_
              refine sM_late hx hb hK h (ix_nI (by omega) (by decide)) rfl de_M_pass_185 (fun H locs h => ?_)
              refine lv_aload_n hx hb de_M_pass_186 rfl (lv_at hl 1 rfl) ?_
              refine lv_dup hx hb de_M_pass_187 rfl ?_
              refine gM_alarms C hK h.1 de_M_pass_188 ?_
              refine lv_iconst (v := 1) hx hb de_M_pass_191 (by decide) ?_
              refine lv_iadd hx hb de_M_pass_192 ?_
              refine pM_alarms C hK h de_M_pass_193 (fun H locs h => ?_)
              exact J196 H locs (by rw [ps3, if_pos ⟨Int32.not_lt.mp c_152, c_161, Int64.not_lt.mp c_176⟩]; exact h) ls (lv_sub hl [0, 1, 2] rfl)
      have J73 : ∀ (H : Heap) (locs : List Loc), ST D A (WM q cI cJ cZ (ps1 T t (j + 1))) s.heap H locs → ∀ ls : Array Slot, lv_has ls 5 [(3, .int (nI (j + 1))), (0, .ref (q 0)), (1, .long t)] → W p l e (rmOf 0 0 0) s m [Value.ref (q 0), .long t].toArray below meth c H locs 0 0 (MQ below (va_Qv (fun w => w = WM q cI cJ cZ (oPass S t)) (PB D A) A) [Value.ref (q 0), .long t].toArray s 0 0 A) (F0 m 73 ls []) := by
        intro H locs h ls hl
        generalize ps1 T t (j + 1) = T1 at h J146
        have h : ST D A (wM q cI cJ cZ (nI (T1.2.2 0)) (T1.1 0) (T1.1 1) (T1.2.1 0) (T1.1 2) (T1.1 3) (T1.1 4) (T1.2.1 1) (T1.1 5) (T1.2.1 2) (T1.2.1 3 0) (T1.1 8 0) (nI (T1.2.2 3 % 3)) (T1.2.1 3 1) (nI (T1.2.2 1)) (T1.1 6) (nI (T1.2.2 2)) (T1.1 7)) s.heap H locs := h
        refine lv_aload_n hx hb de_M_pass_73 rfl (lv_at hl 1 rfl) ?_
        refine gM_doors C hK h.1 de_M_pass_74 ?_
        refine lv_iload_n hx hb de_M_pass_77 rfl (lv_at hl 0 rfl) ?_
        refine rM_doors hx hb hK h.1 (ix_nI (by omega) (by decide)) de_M_pass_78 ?_
        refine lv_iconst (v := 1) hx hb de_M_pass_79 (by decide) ?_
        refine lv_icmp_eq (tgt := 93) hx hb de_M_pass_80 (by decide) (fun c_80 => ?_) (fun c_80 => ?_)
        · refine lv_iconst (v := 1) hx hb de_M_pass_93 (by decide) ?_
          refine lv_goto (tgt := 98) hx hb de_M_pass_94 (by decide) ?_
          refine lv_istore (lv' := [(4, .int 1), (3, .int (nI (j + 1))), (0, .ref (q 0)), (1, .long t)]) hx hb de_M_pass_98 hl (by decide) rfl (fun ls hl => ?_)
          refine lv_iload hx hb de_M_pass_100 (lv_at hl 0 rfl) ?_
          refine lv_if_eq (tgt := 146) hx hb de_M_pass_102 (by decide) (fun z => absurd z (by decide)) (fun _ => ?_)
          refine lv_aload_n hx hb de_M_pass_105 rfl (lv_at hl 2 rfl) ?_
          refine gM_told C hK h.1 de_M_pass_106 ?_
          refine lv_iload_n hx hb de_M_pass_109 rfl (lv_at hl 1 rfl) ?_
          refine rM_told hx hb hK h.1 (ix_nI (by omega) (by decide)) de_M_pass_110 ?_
          refine lv_if_ne (tgt := 146) hx hb de_M_pass_111 (by decide) (fun c_111 => ?_) (fun c_111 => ?_)
          · exact J146 H locs (by rw [ps2, if_neg (fun z => c_111 z.2.1)]; exact h) ls (lv_sub hl [1, 2, 3] rfl)
          · refine lv_lload_n hx hb de_M_pass_114 rfl (lv_at hl 3 rfl) ?_
            refine lv_aload_n hx hb de_M_pass_115 rfl (lv_at hl 2 rfl) ?_
            refine gM_since C hK h.1 de_M_pass_116 ?_
            refine lv_iload_n hx hb de_M_pass_119 rfl (lv_at hl 1 rfl) ?_
            refine rM_since hx hb hK h.1 (ix_nI (by omega) (by decide)) de_M_pass_120 ?_
            refine lv_lsub hx hb de_M_pass_121 ?_
            refine lv_ldc2 (v := 120) hx hb C.2.2.2.1 (C.2.2.2.2 _ kw_321) de_M_pass_122 ?_
            refine zl_lt (tgt := 146) hx hb de_M_pass_125 de_M_pass_126 (by decide) (fun c_126 => ?_) (fun c_126 => ?_)
            · exact J146 H locs (by rw [ps2, if_neg (fun z => absurd z.2.2 (Int64.not_le.mpr c_126))]; exact h) ls (lv_sub hl [1, 2, 3] rfl)
            · refine lv_aload_n hx hb de_M_pass_129 rfl (lv_at hl 2 rfl) ?_
              refine gM_told C hK h.1 de_M_pass_130 ?_
              refine lv_iload_n hx hb de_M_pass_133 rfl (lv_at hl 1 rfl) ?_
              refine lv_iconst (v := 1) hx hb de_M_pass_134 (by decide) ?_
              refine sM_told hx hb hK h (ix_nI (by omega) (by decide)) rfl de_M_pass_135 (fun H locs h => ?_)
              refine lv_aload_n hx hb de_M_pass_136 rfl (lv_at hl 2 rfl) ?_
              refine lv_dup hx hb de_M_pass_137 rfl ?_
              refine gM_alarms C hK h.1 de_M_pass_138 ?_
              refine lv_iconst (v := 1) hx hb de_M_pass_141 (by decide) ?_
              refine lv_iadd hx hb de_M_pass_142 ?_
              refine pM_alarms C hK h de_M_pass_143 (fun H locs h => ?_)
              exact J146 H locs (by rw [ps2, if_pos ⟨Or.inl c_80, c_111, Int64.not_lt.mp c_126⟩]; exact h) ls (lv_sub hl [1, 2, 3] rfl)
        · refine lv_aload_n hx hb de_M_pass_83 rfl (lv_at hl 1 rfl) ?_
          refine gM_doors C hK h.1 de_M_pass_84 ?_
          refine lv_iload_n hx hb de_M_pass_87 rfl (lv_at hl 0 rfl) ?_
          refine rM_doors hx hb hK h.1 (ix_nI (by omega) (by decide)) de_M_pass_88 ?_
          refine lv_iconst (v := 2) hx hb de_M_pass_89 (by decide) ?_
          refine lv_icmp_ne (tgt := 97) hx hb de_M_pass_90 (by decide) (fun c_90 => ?_) (fun c_90 => ?_)
          · refine lv_iconst (v := 0) hx hb de_M_pass_97 (by decide) ?_
            refine lv_istore (lv' := [(4, .int 0), (3, .int (nI (j + 1))), (0, .ref (q 0)), (1, .long t)]) hx hb de_M_pass_98 hl (by decide) rfl (fun ls hl => ?_)
            refine lv_iload hx hb de_M_pass_100 (lv_at hl 0 rfl) ?_
            refine lv_if_eq (tgt := 146) hx hb de_M_pass_102 (by decide) (fun _ => ?_) (fun z => absurd z (by decide))
            exact J146 H locs (by rw [ps2, if_neg (fun z => z.1.elim c_80 c_90)]; exact h) ls (lv_sub hl [1, 2, 3] rfl)
          · refine lv_iconst (v := 1) hx hb de_M_pass_93 (by decide) ?_
            refine lv_goto (tgt := 98) hx hb de_M_pass_94 (by decide) ?_
            refine lv_istore (lv' := [(4, .int 1), (3, .int (nI (j + 1))), (0, .ref (q 0)), (1, .long t)]) hx hb de_M_pass_98 hl (by decide) rfl (fun ls hl => ?_)
            refine lv_iload hx hb de_M_pass_100 (lv_at hl 0 rfl) ?_
            refine lv_if_eq (tgt := 146) hx hb de_M_pass_102 (by decide) (fun z => absurd z (by decide)) (fun _ => ?_)
            refine lv_aload_n hx hb de_M_pass_105 rfl (lv_at hl 2 rfl) ?_
            refine gM_told C hK h.1 de_M_pass_106 ?_
            refine lv_iload_n hx hb de_M_pass_109 rfl (lv_at hl 1 rfl) ?_
            refine rM_told hx hb hK h.1 (ix_nI (by omega) (by decide)) de_M_pass_110 ?_
            refine lv_if_ne (tgt := 146) hx hb de_M_pass_111 (by decide) (fun c_111 => ?_) (fun c_111 => ?_)
            · exact J146 H locs (by rw [ps2, if_neg (fun z => c_111 z.2.1)]; exact h) ls (lv_sub hl [1, 2, 3] rfl)
            · refine lv_lload_n hx hb de_M_pass_114 rfl (lv_at hl 3 rfl) ?_
              refine lv_aload_n hx hb de_M_pass_115 rfl (lv_at hl 2 rfl) ?_
              refine gM_since C hK h.1 de_M_pass_116 ?_
              refine lv_iload_n hx hb de_M_pass_119 rfl (lv_at hl 1 rfl) ?_
              refine rM_since hx hb hK h.1 (ix_nI (by omega) (by decide)) de_M_pass_120 ?_
              refine lv_lsub hx hb de_M_pass_121 ?_
              refine lv_ldc2 (v := 120) hx hb C.2.2.2.1 (C.2.2.2.2 _ kw_321) de_M_pass_122 ?_
              refine zl_lt (tgt := 146) hx hb de_M_pass_125 de_M_pass_126 (by decide) (fun c_126 => ?_) (fun c_126 => ?_)
              · exact J146 H locs (by rw [ps2, if_neg (fun z => absurd z.2.2 (Int64.not_le.mpr c_126))]; exact h) ls (lv_sub hl [1, 2, 3] rfl)
              · refine lv_aload_n hx hb de_M_pass_129 rfl (lv_at hl 2 rfl) ?_
                refine gM_told C hK h.1 de_M_pass_130 ?_
                refine lv_iload_n hx hb de_M_pass_133 rfl (lv_at hl 1 rfl) ?_
                refine lv_iconst (v := 1) hx hb de_M_pass_134 (by decide) ?_
                refine sM_told hx hb hK h (ix_nI (by omega) (by decide)) rfl de_M_pass_135 (fun H locs h => ?_)
                refine lv_aload_n hx hb de_M_pass_136 rfl (lv_at hl 2 rfl) ?_
                refine lv_dup hx hb de_M_pass_137 rfl ?_
                refine gM_alarms C hK h.1 de_M_pass_138 ?_
                refine lv_iconst (v := 1) hx hb de_M_pass_141 (by decide) ?_
                refine lv_iadd hx hb de_M_pass_142 ?_
                refine pM_alarms C hK h de_M_pass_143 (fun H locs h => ?_)
                exact J146 H locs (by rw [ps2, if_pos ⟨Or.inr c_90, c_111, Int64.not_lt.mp c_126⟩]; exact h) ls (lv_sub hl [1, 2, 3] rfl)
      have h : ST D A (wM q cI cJ cZ (nI (T.2.2 0)) (T.1 0) (T.1 1) (T.2.1 0) (T.1 2) (T.1 3) (T.1 4) (T.2.1 1) (T.1 5) (T.2.1 2) (T.2.1 3 0) (T.1 8 0) (nI (T.2.2 3 % 3)) (T.2.1 3 1) (nI (T.2.2 1)) (T.1 6) (nI (T.2.2 2)) (T.1 7)) s.heap H locs := h
      refine lv_iload_n hx hb de_M_pass_7 rfl (lv_at hl 0 rfl) ?_
      refine lv_aload_n hx hb de_M_pass_8 rfl (lv_at hl 1 rfl) ?_
      refine gM_boxes C hK h.1 de_M_pass_9 ?_
      refine lv_icmp_gt (tgt := 202) hx hb de_M_pass_12 (by decide) (fun c_12 => ?_) (fun c_12 => ?_)
      · exact absurd c_12 (nI_nlt (by omega) (by omega))
      · refine lv_aload_n hx hb de_M_pass_15 rfl (lv_at hl 1 rfl) ?_
        refine gM_kept C hK h.1 de_M_pass_16 ?_
        refine lv_iload_n hx hb de_M_pass_19 rfl (lv_at hl 0 rfl) ?_
        refine rM_kept hx hb hK h.1 (ix_nI (by omega) (by decide)) de_M_pass_20 ?_
        refine lv_lconst (v := 0) hx hb de_M_pass_21 (by decide) ?_
        refine zl_le (tgt := 73) hx hb de_M_pass_22 de_M_pass_23 (by decide) (fun c_23 => ?_) (fun c_23 => ?_)
        · exact J73 H locs (by rw [ps1, if_neg (fun z => absurd z.1 (Int64.not_lt.mpr c_23))]; exact h) ls (lv_sub hl [0, 1, 2] rfl)
        · refine lv_aload_n hx hb de_M_pass_26 rfl (lv_at hl 1 rfl) ?_
          refine gM_kept C hK h.1 de_M_pass_27 ?_
          refine lv_iload_n hx hb de_M_pass_30 rfl (lv_at hl 0 rfl) ?_
          refine rM_kept hx hb hK h.1 (ix_nI (by omega) (by decide)) de_M_pass_31 ?_
          refine lv_lload_n hx hb de_M_pass_32 rfl (lv_at hl 2 rfl) ?_
          refine zl_gt (tgt := 73) hx hb de_M_pass_33 de_M_pass_34 (by decide) (fun c_34 => ?_) (fun c_34 => ?_)
          · exact J73 H locs (by rw [ps1, if_neg (fun z => absurd z.2 (Int64.not_le.mpr c_34))]; exact h) ls (lv_sub hl [0, 1, 2] rfl)
          · refine lv_aload_n hx hb de_M_pass_37 rfl (lv_at hl 1 rfl) ?_
            refine gM_kept C hK h.1 de_M_pass_38 ?_
            refine lv_iload_n hx hb de_M_pass_41 rfl (lv_at hl 0 rfl) ?_
            refine lv_lconst (v := 0) hx hb de_M_pass_42 (by decide) ?_
            refine sM_kept hx hb hK h (ix_nI (by omega) (by decide)) de_M_pass_43 (fun H locs h => ?_)
            refine lv_aload_n hx hb de_M_pass_44 rfl (lv_at hl 1 rfl) ?_
            refine gM_freed C hK h.1 de_M_pass_45 ?_
            refine lv_bipush (v := 100) hx hb de_M_pass_48 (by decide) ?_
            refine lv_icmp_ge (tgt := 73) hx hb de_M_pass_50 (by decide) (fun c_50 => ?_) (fun c_50 => ?_)
            · exact J73 H locs (by rw [ps1, if_pos ⟨Int64.not_le.mp c_23, Int64.not_lt.mp c_34⟩, if_neg (fun z => absurd c_50 (nI_ge z (by decide)))]; exact h) ls (lv_sub hl [0, 1, 2] rfl)
            · have hnf : T.2.2 2 < 100 := Nat.lt_of_not_le (fun z => c_50 (nI_le z (by have := hTI.nf; omega)))
              refine lv_aload_n hx hb de_M_pass_53 rfl (lv_at hl 1 rfl) ?_
              refine gM_free C hK h.1 de_M_pass_54 ?_
              refine lv_aload_n hx hb de_M_pass_57 rfl (lv_at hl 1 rfl) ?_
              refine gM_freed C hK h.1 de_M_pass_58 ?_
              refine lv_iload_n hx hb de_M_pass_61 rfl (lv_at hl 0 rfl) ?_
              refine sM_free hx hb hK h (ix_nI (by omega) (by decide)) de_M_pass_62 (fun H locs h => ?_)
              refine lv_aload_n hx hb de_M_pass_63 rfl (lv_at hl 1 rfl) ?_
              refine lv_dup hx hb de_M_pass_64 rfl ?_
              refine gM_freed C hK h.1 de_M_pass_65 ?_
              refine lv_iconst (v := 1) hx hb de_M_pass_68 (by decide) ?_
              refine lv_iadd hx hb de_M_pass_69 ?_
              refine zi_top (nI_1 _) ?_
              refine pM_freed C hK h de_M_pass_70 (fun H locs h => ?_)
              exact J73 H locs (by rw [ps1, if_pos ⟨Int64.not_le.mp c_23, Int64.not_lt.mp c_34⟩, if_pos hnf]; exact h) ls (lv_sub hl [0, 1, 2] rfl)
  refine lv_aload_n hx hb de_M_pass_0 rfl (lv_at hl 0 rfl) ?_
  refine lv_lload_n hx hb de_M_pass_1 rfl (lv_at hl 1 rfl) ?_
  refine pM_time C hK h de_M_pass_2 (fun H locs h => ?_)
  refine lv_iconst (v := 1) hx hb de_M_pass_5 (by decide) ?_
  refine zi_top (rfl) ?_
  refine lv_istore_n (lv' := [(3, .int (nI (0 + 1))), (0, .ref (q 0)), (1, .long t)]) hx hb de_M_pass_6 rfl hl (by decide) rfl (fun ls hl => ?_)
  exact loop (S.2.2 0) 0 (Nat.zero_add _) _ _ h ls hl
section CLMP
variable {p : Program} {l : Launch} {e : Env} {R : Room} {s : State} {m : MethodId} {args : Array Value} {below : List Frame} {meth : Method} {c : Code} {H : Heap} {locs : List Loc} {cells slots : Nat} {Q : State → Prop}
variable {cc : ByteArray} {pc nL : Nat} {ls : Array Slot} {rest : List Value} {own : String} {D : va_G} {tys : List (ClassId × FieldType)} {A : Nat → Prop} {ad bx g : Nat → Nat} {cQ cI : ClassId} {S : SS}
variable {q : Nat → Nat} {cJ cZ : ClassId}
theorem cl_M_pass (C : CallFix p m c cc nL s args wG R_M) {c0 : Nat} (hI : Inv c0 S) {t : Int64} (ht : gdT S t) (h : ST D A (WM q cI cJ cZ S) s.heap H locs) (hK : va_K D classes (tyM cI cJ cZ) s) (hC : CX none A s s.heap) (hA : ∀ q : Nat, s.heap.size ≤ q → A q) (hR : 0 + 1 ≤ R.frames ∧ 8 + (5 + 11) + 40 * 0 ≤ R.locals) (hls : ls.size = nL) (hsum : (rest.map fun v => v.category).sum ≤ 8) (hdg : decode cc pc = .ok (.invokevirtual 86, 3)) (hcs : cells ≤ R.cells ∧ slots ≤ R.slots) (kk : ∀ (H1 : Heap) (locs1 : List Loc), ST D A (WM q cI cJ cZ (oPass S t)) s.heap H1 locs1 → W p l e R s m args below meth c H1 locs1 cells slots Q (F0 m (pc + 3) ls rest)) : W p l e R s m args below meth c H locs cells slots Q (F0 m pc ls (.long t :: .ref (q 0) :: rest)) :=
  (ct_M_pass l D q cI cJ cZ S c0 hI t ht).core (As := [.long t]) mi_M_pass mv_M_pass C kw_317 hR h.1 h.2.1 hK hC h.2.2 hA (q0 := 0) rfl rfl hls rfl hsum hdg hcs (fun w H1 locs1 hp hP1 hD1 _ hS1 => kk H1 locs1 (by rw [hp] at hP1 hD1; exact h.all (sub_A h.2.1 h.2.2 hA) hP1 hD1 hS1))
end CLMP
set_option maxHeartbeats 4000000 in
set_option maxRecDepth 100000 in
theorem ct_M_box (l : Launch) (D : va_G) (q : Nat → Nat) (cI cJ cZ : ClassId) (S : SS) (c0 : Nat) (hI : Inv c0 S) (v : Int32) : MOi l y_M_box b_M_box 2 1 0 0 [.ref (q 0), .int v] D (tyM cI cJ cZ) (WM q cI cJ cZ S) none (fun r w => ∃ S', oBox S v = (r, S') ∧ w = WM q cI cJ cZ S') := by
  refine MOi.mk mi_M_box (Nat.le_of_ble_eq_true rfl) ?_
  intro p e s m below meth c ls A C hr hlk hK hC hA h hl
  have hx := C.1
  have hb := C.2.1
  have h : ST D A (wM q cI cJ cZ (nI (S.2.2 0)) (S.1 0) (S.1 1) (S.2.1 0) (S.1 2) (S.1 3) (S.1 4) (S.2.1 1) (S.1 5) (S.2.1 2) (S.2.1 3 0) (S.1 8 0) (nI (S.2.2 3 % 3)) (S.2.1 3 1) (nI (S.2.2 1)) (S.1 6) (nI (S.2.2 2)) (S.1 7)) s.heap s.heap [] := h
  have hl : lv_has ls 2 [(0, .ref (q 0)), (1, .int v)] := hl
  have hn60 := hI.n
  refine lv_iload_n hx hb de_M_box_0 rfl (lv_at hl 1 rfl) ?_
  refine lv_i2l hx hb de_M_box_1 rfl ?_
  refine lv_lconst (v := 1) hx hb de_M_box_2 (by decide) ?_
  refine lv_ldc2 (v := 5) hx hb C.2.2.2.1 (C.2.2.2.2 _ kw_290) de_M_box_3 ?_
  refine cl_M_within C ⟨Nat.le_of_ble_eq_true rfl, Nat.le_of_ble_eq_true rfl⟩ hl.1 (Nat.le_of_ble_eq_true rfl) de_M_box_6 ⟨Nat.le_of_ble_eq_true rfl, Nat.le_of_ble_eq_true rfl⟩ (fun c_6 => ?_) (fun c_6 => ?_)
  · refine lv_if_ne (tgt := 15) hx hb de_M_box_9 (by decide) (fun _ => ?_) (fun z => absurd z (by decide))
    refine lv_aload_n hx hb de_M_box_15 rfl (lv_at hl 0 rfl) ?_
    refine gM_boxes C hK h.1 de_M_box_16 ?_
    refine lv_bipush (v := 60) hx hb de_M_box_19 (by decide) ?_
    refine lv_icmp_ne (tgt := 27) hx hb de_M_box_21 (by decide) (fun c_21 => ?_) (fun c_21 => ?_)
    · have hne : ¬ S.2.2 0 = 60 := fun z => c_21 (by rw [z]; rfl)
      refine lv_aload_n hx hb de_M_box_27 rfl (lv_at hl 0 rfl) ?_
      refine lv_dup hx hb de_M_box_28 rfl ?_
      refine gM_boxes C hK h.1 de_M_box_29 ?_
      refine lv_iconst (v := 1) hx hb de_M_box_32 (by decide) ?_
      refine lv_iadd hx hb de_M_box_33 ?_
      refine zi_top (nI_1 _) ?_
      refine pM_boxes C hK h de_M_box_34 (fun H locs h => ?_)
      refine lv_aload_n hx hb de_M_box_37 rfl (lv_at hl 0 rfl) ?_
      refine gM_sizes C hK h.1 de_M_box_38 ?_
      refine lv_aload_n hx hb de_M_box_41 rfl (lv_at hl 0 rfl) ?_
      refine gM_boxes C hK h.1 de_M_box_42 ?_
      refine lv_iload_n hx hb de_M_box_45 rfl (lv_at hl 1 rfl) ?_
      refine sM_sizes hx hb hK h (ix_nI (by omega) (by decide)) de_M_box_46 (fun H locs h => ?_)
      refine lv_aload_n hx hb de_M_box_47 rfl (lv_at hl 0 rfl) ?_
      refine gM_codes C hK h.1 de_M_box_48 ?_
      refine lv_aload_n hx hb de_M_box_51 rfl (lv_at hl 0 rfl) ?_
      refine gM_boxes C hK h.1 de_M_box_52 ?_
      refine lv_iconst (v := -1) hx hb de_M_box_55 (by decide) ?_
      refine sM_codes hx hb hK h (ix_nI (by omega) (by decide)) de_M_box_56 (fun H locs h => ?_)
      refine lv_aload_n hx hb de_M_box_57 rfl (lv_at hl 0 rfl) ?_
      refine gM_boxes C hK h.1 de_M_box_58 ?_
      exact MOi.fin hx hb hr hlk h (⟨sN (sI (sI S 0 (S.2.2 0 + 1) v) 4 (S.2.2 0 + 1) (-1)) 0 (S.2.2 0 + 1), by rw [oBox, if_neg (fun z => z c_6), if_neg hne], rfl⟩) de_M_box_61
    · refine lv_bipush (v := -14) hx hb de_M_box_24 (by decide) ?_
      exact MOi.fin hx hb hr hlk h (⟨S, by rw [oBox, if_neg (fun z => z c_6), if_pos ((nI_eq (b := 60) (by omega) (by decide)).mp c_21)], rfl⟩) de_M_box_26
  · refine lv_if_ne (tgt := 15) hx hb de_M_box_9 (by decide) (fun z => absurd z (by decide)) (fun _ => ?_)
    refine lv_bipush (v := -12) hx hb de_M_box_12 (by decide) ?_
    exact MOi.fin hx hb hr hlk h (⟨S, by rw [oBox, if_pos c_6], rfl⟩) de_M_box_14
set_option maxHeartbeats 4000000 in
set_option maxRecDepth 100000 in
theorem ct_M_tape (l : Launch) (D : va_G) (q : Nat → Nat) (cI cJ cZ : ClassId) (S : SS) (c0 : Nat) (hI : Inv c0 S) (v : Int32) : MOi l y_M_tape b_M_tape 2 1 0 0 [.ref (q 0), .int v] D (tyM cI cJ cZ) (WM q cI cJ cZ S) none (fun r w => ∃ S', oTape S v = (r, S') ∧ w = WM q cI cJ cZ S') := by
  refine MOi.mk mi_M_tape (Nat.le_of_ble_eq_true rfl) ?_
  intro p e s m below meth c ls A C hr hlk hK hC hA h hl
  have hx := C.1
  have hb := C.2.1
  have h : ST D A (wM q cI cJ cZ (nI (S.2.2 0)) (S.1 0) (S.1 1) (S.2.1 0) (S.1 2) (S.1 3) (S.1 4) (S.2.1 1) (S.1 5) (S.2.1 2) (S.2.1 3 0) (S.1 8 0) (nI (S.2.2 3 % 3)) (S.2.1 3 1) (nI (S.2.2 1)) (S.1 6) (nI (S.2.2 2)) (S.1 7)) s.heap s.heap [] := h
  have hl : lv_has ls 2 [(0, .ref (q 0)), (1, .int v)] := hl
  refine lv_iload_n hx hb de_M_tape_0 rfl (lv_at hl 1 rfl) ?_
  refine lv_i2l hx hb de_M_tape_1 rfl ?_
  refine lv_lconst (v := 0) hx hb de_M_tape_2 (by decide) ?_
  refine lv_ldc2 (v := 999999) hx hb C.2.2.2.1 (C.2.2.2.2 _ kw_298) de_M_tape_3 ?_
  refine cl_M_within C ⟨Nat.le_of_ble_eq_true rfl, Nat.le_of_ble_eq_true rfl⟩ hl.1 (Nat.le_of_ble_eq_true rfl) de_M_tape_6 ⟨Nat.le_of_ble_eq_true rfl, Nat.le_of_ble_eq_true rfl⟩ (fun c_6 => ?_) (fun c_6 => ?_)
  · refine lv_if_ne (tgt := 15) hx hb de_M_tape_9 (by decide) (fun _ => ?_) (fun z => absurd z (by decide))
    refine lv_aload_n hx hb de_M_tape_15 rfl (lv_at hl 0 rfl) ?_
    refine gM_taped C hK h.1 de_M_tape_16 ?_
    refine lv_sipush (v := 200) hx hb de_M_tape_19 (by decide) ?_
    refine lv_icmp_ne (tgt := 28) hx hb de_M_tape_22 (by decide) (fun c_22 => ?_) (fun c_22 => ?_)
    · have hne : ¬ S.2.2 1 = 200 := fun z => c_22 (by rw [z]; rfl)
      have hnt := hI.nt
      refine lv_aload_n hx hb de_M_tape_28 rfl (lv_at hl 0 rfl) ?_
      refine gM_tape C hK h.1 de_M_tape_29 ?_
      refine lv_aload_n hx hb de_M_tape_32 rfl (lv_at hl 0 rfl) ?_
      refine gM_taped C hK h.1 de_M_tape_33 ?_
      refine lv_iload_n hx hb de_M_tape_36 rfl (lv_at hl 1 rfl) ?_
      refine sM_tape hx hb hK h (ix_nI (by omega) (by decide)) de_M_tape_37 (fun H locs h => ?_)
      refine lv_aload_n hx hb de_M_tape_38 rfl (lv_at hl 0 rfl) ?_
      refine lv_dup hx hb de_M_tape_39 rfl ?_
      refine gM_taped C hK h.1 de_M_tape_40 ?_
      refine lv_iconst (v := 1) hx hb de_M_tape_43 (by decide) ?_
      refine lv_iadd hx hb de_M_tape_44 ?_
      refine zi_top (nI_1 _) ?_
      refine pM_taped C hK h de_M_tape_45 (fun H locs h => ?_)
      refine lv_aload_n hx hb de_M_tape_48 rfl (lv_at hl 0 rfl) ?_
      refine gM_taped C hK h.1 de_M_tape_49 ?_
      exact MOi.fin hx hb hr hlk h (⟨sN (sI S 6 (S.2.2 1) v) 1 (S.2.2 1 + 1), by rw [oTape, if_neg (fun z => z c_6), if_neg hne], rfl⟩) de_M_tape_52
    · refine lv_bipush (v := -14) hx hb de_M_tape_25 (by decide) ?_
      exact MOi.fin hx hb hr hlk h (⟨S, by rw [oTape, if_neg (fun z => z c_6), if_pos ((nI_eq (b := 200) (by have := hI.nt; omega) (by decide)).mp c_22)], rfl⟩) de_M_tape_27
  · refine lv_if_ne (tgt := 15) hx hb de_M_tape_9 (by decide) (fun z => absurd z (by decide)) (fun _ => ?_)
    refine lv_bipush (v := -12) hx hb de_M_tape_12 (by decide) ?_
    exact MOi.fin hx hb hr hlk h (⟨S, by rw [oTape, if_pos c_6], rfl⟩) de_M_tape_14
set_option maxHeartbeats 4000000 in
set_option maxRecDepth 100000 in
theorem ct_M_tick (l : Launch) (D : va_G) (q : Nat → Nat) (cI cJ cZ : ClassId) (S : SS) (c0 : Nat) (hI : Inv c0 S) (t : Int64) : MOi l y_M_tick b_M_tick 4 1 0 0 [.ref (q 0), .long t] D (tyM cI cJ cZ) (WM q cI cJ cZ S) none (fun r w => ∃ S', oTick S t = (r, S') ∧ w = WM q cI cJ cZ S') := by
  refine MOi.mk mi_M_tick (Nat.le_of_ble_eq_true rfl) ?_
  intro p e s m below meth c ls A C hr hlk hK hC hA h hl
  have hx := C.1
  have hb := C.2.1
  have h : ST D A (wM q cI cJ cZ (nI (S.2.2 0)) (S.1 0) (S.1 1) (S.2.1 0) (S.1 2) (S.1 3) (S.1 4) (S.2.1 1) (S.1 5) (S.2.1 2) (S.2.1 3 0) (S.1 8 0) (nI (S.2.2 3 % 3)) (S.2.1 3 1) (nI (S.2.2 1)) (S.1 6) (nI (S.2.2 2)) (S.1 7)) s.heap s.heap [] := h
  have hl : lv_has ls 4 [(0, .ref (q 0)), (1, .long t)] := hl
  refine lv_aload_n hx hb de_M_tick_0 rfl (lv_at hl 0 rfl) ?_
  refine lv_lload_n hx hb de_M_tick_1 rfl (lv_at hl 1 rfl) ?_
  refine cl_M_isNoTime C h.1 hK hC h.2.2 ⟨Nat.le_of_ble_eq_true rfl, Nat.le_of_ble_eq_true rfl⟩ hl.1 (Nat.le_of_ble_eq_true rfl) de_M_tick_2 ⟨Nat.le_of_ble_eq_true rfl, Nat.le_of_ble_eq_true rfl⟩ (fun c_2 => ?_) (fun c_2 => ?_)
  · refine lv_if_eq (tgt := 11) hx hb de_M_tick_5 (by decide) (fun z => absurd z (by decide)) (fun _ => ?_)
    refine lv_bipush (v := -12) hx hb de_M_tick_8 (by decide) ?_
    exact MOi.fin hx hb hr hlk h (⟨S, by rw [oTick, if_pos c_2], rfl⟩) de_M_tick_10
  · refine lv_if_eq (tgt := 11) hx hb de_M_tick_5 (by decide) (fun _ => ?_) (fun z => absurd z (by decide))
    refine lv_aload_n hx hb de_M_tick_11 rfl (lv_at hl 0 rfl) ?_
    refine lv_lload_n hx hb de_M_tick_12 rfl (lv_at hl 1 rfl) ?_
    have hgt : gdT S t := Classical.not_not.mp c_2
    refine cl_M_pass C hI hgt h hK hC hA ⟨Nat.le_of_ble_eq_true rfl, Nat.le_of_ble_eq_true rfl⟩ hl.1 (Nat.le_of_ble_eq_true rfl) de_M_tick_13 ⟨Nat.le_of_ble_eq_true rfl, Nat.le_of_ble_eq_true rfl⟩ (fun H locs h => ?_)
    have hI1 := inv_oPass hI hgt
    have hn1 := oPass_n S t
    have ht1 := oPass_t S t
    obtain ⟨S1, eS⟩ : ∃ S9 : SS, oPass S t = S9 := ⟨_, rfl⟩
    rw [eS] at h hI1 hn1 ht1
    have h : ST D A (wM q cI cJ cZ (nI (S1.2.2 0)) (S1.1 0) (S1.1 1) (S1.2.1 0) (S1.1 2) (S1.1 3) (S1.1 4) (S1.2.1 1) (S1.1 5) (S1.2.1 2) (S1.2.1 3 0) (S1.1 8 0) (nI (S1.2.2 3 % 3)) (S1.2.1 3 1) (nI (S1.2.2 1)) (S1.1 6) (nI (S1.2.2 2)) (S1.1 7)) s.heap H locs := h
    refine lv_aload_n hx hb de_M_tick_16 rfl (lv_at hl 0 rfl) ?_
    refine gM_alarms C hK h.1 de_M_tick_17 ?_
    refine lv_istore_n (lv' := [(3, .int (S1.1 8 0)), (0, .ref (q 0)), (1, .long t)]) hx hb de_M_tick_20 rfl hl (by decide) rfl (fun ls hl => ?_)
    refine lv_aload_n hx hb de_M_tick_21 rfl (lv_at hl 1 rfl) ?_
    refine lv_iconst (v := 0) hx hb de_M_tick_22 (by decide) ?_
    refine pM_alarms C hK h de_M_tick_23 (fun H locs h => ?_)
    refine lv_iload_n hx hb de_M_tick_26 rfl (lv_at hl 0 rfl) ?_
    exact MOi.fin hx hb hr hlk h (⟨sI S1 8 0 0, by rw [oTick, if_neg (fun z => z hgt), eS], rfl⟩) de_M_tick_27
set_option maxHeartbeats 4000000 in
set_option maxRecDepth 100000 in
theorem ct_M_take (l : Launch) (D : va_G) (q : Nat → Nat) (cI cJ cZ : ClassId) (S : SS) (c0 : Nat) (hI : Inv c0 S) (b v : Int32) : MOi l y_M_take b_M_take 3 2 0 0 [.ref (q 0), .int b, .int v] D (tyM cI cJ cZ) (WM q cI cJ cZ S) none (fun r w => ∃ S', oTake S b v = (r, S') ∧ w = WM q cI cJ cZ S') := by
  refine MOi.mk mi_M_take (Nat.le_of_ble_eq_true rfl) ?_
  intro p e s m below meth c ls A C hr hlk hK hC hA h hl
  have hx := C.1
  have hb := C.2.1
  have h : ST D A (wM q cI cJ cZ (nI (S.2.2 0)) (S.1 0) (S.1 1) (S.2.1 0) (S.1 2) (S.1 3) (S.1 4) (S.2.1 1) (S.1 5) (S.2.1 2) (S.2.1 3 0) (S.1 8 0) (nI (S.2.2 3 % 3)) (S.2.1 3 1) (nI (S.2.2 1)) (S.1 6) (nI (S.2.2 2)) (S.1 7)) s.heap s.heap [] := h
  have hl : lv_has ls 3 [(0, .ref (q 0)), (1, .int b), (2, .int v)] := hl
  refine lv_aload_n hx hb de_M_take_0 rfl (lv_at hl 0 rfl) ?_
  refine lv_iload_n hx hb de_M_take_1 rfl (lv_at hl 1 rfl) ?_
  refine cl_M_isBox C h.1 hK hC h.2.2 ⟨Nat.le_of_ble_eq_true rfl, Nat.le_of_ble_eq_true rfl⟩ hl.1 (Nat.le_of_ble_eq_true rfl) de_M_take_2 ⟨Nat.le_of_ble_eq_true rfl, Nat.le_of_ble_eq_true rfl⟩ (fun c_2 => ?_) (fun c_2 => ?_)
  · refine lv_if_ne (tgt := 11) hx hb de_M_take_5 (by decide) (fun _ => ?_) (fun z => absurd z (by decide))
    refine lv_iload_n hx hb de_M_take_11 rfl (lv_at hl 2 rfl) ?_
    refine lv_i2l hx hb de_M_take_12 rfl ?_
    refine lv_lconst (v := 0) hx hb de_M_take_13 (by decide) ?_
    refine lv_ldc2 (v := 9) hx hb C.2.2.2.1 (C.2.2.2.2 _ kw_361) de_M_take_14 ?_
    refine cl_M_within C ⟨Nat.le_of_ble_eq_true rfl, Nat.le_of_ble_eq_true rfl⟩ hl.1 (Nat.le_of_ble_eq_true rfl) de_M_take_17 ⟨Nat.le_of_ble_eq_true rfl, Nat.le_of_ble_eq_true rfl⟩ (fun c_17 => ?_) (fun c_17 => ?_)
    · obtain ⟨kb, ekb, hbx, hk1, hk2, ebk⟩ := gdB_ix c_2 hI.n
      refine lv_if_ne (tgt := 26) hx hb de_M_take_20 (by decide) (fun _ => ?_) (fun z => absurd z (by decide))
      refine lv_aload_n hx hb de_M_take_26 rfl (lv_at hl 0 rfl) ?_
      refine gM_doors C hK h.1 de_M_take_27 ?_
      refine lv_iload_n hx hb de_M_take_30 rfl (lv_at hl 1 rfl) ?_
      refine rM_doors hx hb hK h.1 hbx de_M_take_31 ?_
      refine lv_iconst (v := 1) hx hb de_M_take_32 (by decide) ?_
      refine lv_icmp_eq (tgt := 46) hx hb de_M_take_33 (by decide) (fun c_33 => ?_) (fun c_33 => ?_)
      · refine lv_aload_n hx hb de_M_take_46 rfl (lv_at hl 0 rfl) ?_
        refine lv_iload_n hx hb de_M_take_47 rfl (lv_at hl 1 rfl) ?_
        refine cl_M_out C hbx h hK hC hA ⟨Nat.le_of_ble_eq_true rfl, Nat.le_of_ble_eq_true rfl⟩ hl.1 (Nat.le_of_ble_eq_true rfl) de_M_take_48 ⟨Nat.le_of_ble_eq_true rfl, Nat.le_of_ble_eq_true rfl⟩ (fun H locs h => ?_)
        refine lv_goto (tgt := 55) hx hb de_M_take_51 (by decide) ?_
        exact MOi.fin hx hb hr hlk h (⟨pOut S kb, by rw [oTake, if_neg (fun z => z c_2), if_neg (fun z => z c_17), ekb, if_pos (Or.inl c_33)], rfl⟩) de_M_take_55
      · refine lv_aload_n hx hb de_M_take_36 rfl (lv_at hl 0 rfl) ?_
        refine gM_doors C hK h.1 de_M_take_37 ?_
        refine lv_iload_n hx hb de_M_take_40 rfl (lv_at hl 1 rfl) ?_
        refine rM_doors hx hb hK h.1 hbx de_M_take_41 ?_
        refine lv_iconst (v := 2) hx hb de_M_take_42 (by decide) ?_
        refine lv_icmp_ne (tgt := 54) hx hb de_M_take_43 (by decide) (fun c_43 => ?_) (fun c_43 => ?_)
        · refine lv_iconst (v := 0) hx hb de_M_take_54 (by decide) ?_
          exact MOi.fin hx hb hr hlk h (⟨S, by rw [oTake, if_neg (fun z => z c_2), if_neg (fun z => z c_17), ekb, if_neg (fun z => z.elim c_33 c_43)], rfl⟩) de_M_take_55
        · refine lv_aload_n hx hb de_M_take_46 rfl (lv_at hl 0 rfl) ?_
          refine lv_iload_n hx hb de_M_take_47 rfl (lv_at hl 1 rfl) ?_
          refine cl_M_out C hbx h hK hC hA ⟨Nat.le_of_ble_eq_true rfl, Nat.le_of_ble_eq_true rfl⟩ hl.1 (Nat.le_of_ble_eq_true rfl) de_M_take_48 ⟨Nat.le_of_ble_eq_true rfl, Nat.le_of_ble_eq_true rfl⟩ (fun H locs h => ?_)
          refine lv_goto (tgt := 55) hx hb de_M_take_51 (by decide) ?_
          exact MOi.fin hx hb hr hlk h (⟨pOut S kb, by rw [oTake, if_neg (fun z => z c_2), if_neg (fun z => z c_17), ekb, if_pos (Or.inr c_43)], rfl⟩) de_M_take_55
    · refine lv_if_ne (tgt := 26) hx hb de_M_take_20 (by decide) (fun z => absurd z (by decide)) (fun _ => ?_)
      refine lv_bipush (v := -12) hx hb de_M_take_23 (by decide) ?_
      exact MOi.fin hx hb hr hlk h (⟨S, by rw [oTake, if_neg (fun z => z c_2), if_pos c_17], rfl⟩) de_M_take_25
  · refine lv_if_ne (tgt := 11) hx hb de_M_take_5 (by decide) (fun z => absurd z (by decide)) (fun _ => ?_)
    refine lv_bipush (v := -11) hx hb de_M_take_8 (by decide) ?_
    exact MOi.fin hx hb hr hlk h (⟨S, by rw [oTake, if_pos c_2], rfl⟩) de_M_take_10
set_option maxHeartbeats 4000000 in
set_option maxRecDepth 100000 in
theorem ct_M_put (l : Launch) (D : va_G) (q : Nat → Nat) (cI cJ cZ : ClassId) (S : SS) (c0 : Nat) (hI : Inv c0 S) (b v : Int32) (t : Int64) : MOi l y_M_put b_M_put 7 2 0 0 [.ref (q 0), .int b, .int v, .long t] D (tyM cI cJ cZ) (WM q cI cJ cZ S) none (fun r w => ∃ S', oPut S b v t = (r, S') ∧ w = WM q cI cJ cZ S') := by
  refine MOi.mk mi_M_put (Nat.le_of_ble_eq_true rfl) ?_
  intro p e s m below meth c ls A C hr hlk hK hC hA h hl
  have hx := C.1
  have hb := C.2.1
  have h : ST D A (wM q cI cJ cZ (nI (S.2.2 0)) (S.1 0) (S.1 1) (S.2.1 0) (S.1 2) (S.1 3) (S.1 4) (S.2.1 1) (S.1 5) (S.2.1 2) (S.2.1 3 0) (S.1 8 0) (nI (S.2.2 3 % 3)) (S.2.1 3 1) (nI (S.2.2 1)) (S.1 6) (nI (S.2.2 2)) (S.1 7)) s.heap s.heap [] := h
  have hl : lv_has ls 7 [(0, .ref (q 0)), (1, .int b), (2, .int v), (3, .long t)] := hl
  refine lv_aload_n hx hb de_M_put_0 rfl (lv_at hl 0 rfl) ?_
  refine lv_iload_n hx hb de_M_put_1 rfl (lv_at hl 1 rfl) ?_
  refine cl_M_isBox C h.1 hK hC h.2.2 ⟨Nat.le_of_ble_eq_true rfl, Nat.le_of_ble_eq_true rfl⟩ hl.1 (Nat.le_of_ble_eq_true rfl) de_M_put_2 ⟨Nat.le_of_ble_eq_true rfl, Nat.le_of_ble_eq_true rfl⟩ (fun c_2 => ?_) (fun c_2 => ?_)
  · refine lv_if_ne (tgt := 11) hx hb de_M_put_5 (by decide) (fun _ => ?_) (fun z => absurd z (by decide))
    refine lv_iload_n hx hb de_M_put_11 rfl (lv_at hl 2 rfl) ?_
    refine lv_i2l hx hb de_M_put_12 rfl ?_
    refine lv_lconst (v := 1) hx hb de_M_put_13 (by decide) ?_
    refine lv_ldc2 (v := 9999) hx hb C.2.2.2.1 (C.2.2.2.2 _ kw_312) de_M_put_14 ?_
    refine cl_M_within C ⟨Nat.le_of_ble_eq_true rfl, Nat.le_of_ble_eq_true rfl⟩ hl.1 (Nat.le_of_ble_eq_true rfl) de_M_put_17 ⟨Nat.le_of_ble_eq_true rfl, Nat.le_of_ble_eq_true rfl⟩ (fun c_17 => ?_) (fun c_17 => ?_)
    · refine lv_if_eq (tgt := 31) hx hb de_M_put_20 (by decide) (fun z => absurd z (by decide)) (fun _ => ?_)
      refine lv_aload_n hx hb de_M_put_23 rfl (lv_at hl 0 rfl) ?_
      refine lv_lload_n hx hb de_M_put_24 rfl (lv_at hl 3 rfl) ?_
      refine cl_M_isNoTime C h.1 hK hC h.2.2 ⟨Nat.le_of_ble_eq_true rfl, Nat.le_of_ble_eq_true rfl⟩ hl.1 (Nat.le_of_ble_eq_true rfl) de_M_put_25 ⟨Nat.le_of_ble_eq_true rfl, Nat.le_of_ble_eq_true rfl⟩ (fun c_25 => ?_) (fun c_25 => ?_)
      · refine lv_if_eq (tgt := 34) hx hb de_M_put_28 (by decide) (fun z => absurd z (by decide)) (fun _ => ?_)
        refine lv_bipush (v := -12) hx hb de_M_put_31 (by decide) ?_
        exact MOi.fin hx hb hr hlk h (⟨S, by rw [oPut, if_neg (fun z => z c_2), if_pos (Or.inr c_25)], rfl⟩) de_M_put_33
      · refine lv_if_eq (tgt := 34) hx hb de_M_put_28 (by decide) (fun _ => ?_) (fun z => absurd z (by decide))
        refine lv_aload_n hx hb de_M_put_34 rfl (lv_at hl 0 rfl) ?_
        refine lv_lload_n hx hb de_M_put_35 rfl (lv_at hl 3 rfl) ?_
        have hgt : gdT S t := Classical.not_not.mp c_25
        refine cl_M_pass C hI hgt h hK hC hA ⟨Nat.le_of_ble_eq_true rfl, Nat.le_of_ble_eq_true rfl⟩ hl.1 (Nat.le_of_ble_eq_true rfl) de_M_put_36 ⟨Nat.le_of_ble_eq_true rfl, Nat.le_of_ble_eq_true rfl⟩ (fun H locs h => ?_)
        have hI1 := inv_oPass hI hgt
        have hn1 := oPass_n S t
        have ht1 := oPass_t S t
        obtain ⟨S1, eS⟩ : ∃ S9 : SS, oPass S t = S9 := ⟨_, rfl⟩
        rw [eS] at h hI1 hn1 ht1
        have h : ST D A (wM q cI cJ cZ (nI (S1.2.2 0)) (S1.1 0) (S1.1 1) (S1.2.1 0) (S1.1 2) (S1.1 3) (S1.1 4) (S1.2.1 1) (S1.1 5) (S1.2.1 2) (S1.2.1 3 0) (S1.1 8 0) (nI (S1.2.2 3 % 3)) (S1.2.1 3 1) (nI (S1.2.2 1)) (S1.1 6) (nI (S1.2.2 2)) (S1.1 7)) s.heap H locs := h
        obtain ⟨kb, ekb, hbx, hk1, hk2, ebk⟩ := gdB_ix c_2 hI.n
        have hn60 := hI.n
        have hk2 : kb ≤ S1.2.2 0 := by omega
        have hok := hI1.ok hk1 hk2
        have J83 : ∀ f5 : Int32, (¬ f5 = 0 ↔ ¬ lastIx (S1.1 3) v (S1.2.2 0) = 0) → ∀ ls : Array Slot, lv_has ls 7 [(5, .int f5), (0, .ref (q 0)), (1, .int b), (2, .int v), (3, .long t)] → W p l e (rmOf 2 0 0) s m [Value.ref (q 0), .int b, .int v, .long t].toArray below meth c H locs 0 0 (MQ below (va_Qi (fun r w => ∃ S', oPut S b v t = (r, S') ∧ w = WM q cI cJ cZ S') (PB D A) A) [Value.ref (q 0), .int b, .int v, .long t].toArray s 0 0 A) (F0 m 83 ls []) := by
          intro f5 hin2 ls hl
          refine lv_aload_n hx hb de_M_put_83 rfl (lv_at hl 1 rfl) ?_
          refine gM_doors C hK h.1 de_M_put_84 ?_
          refine lv_iload_n hx hb de_M_put_87 rfl (lv_at hl 2 rfl) ?_
          refine rM_doors hx hb hK h.1 hbx de_M_put_88 ?_
          refine lv_iconst (v := 1) hx hb de_M_put_89 (by decide) ?_
          refine lv_icmp_ne (tgt := 107) hx hb de_M_put_90 (by decide) (fun c_90 => ?_) (fun c_90 => ?_)
          · refine lv_iconst (v := 0) hx hb de_M_put_107 (by decide) ?_
            exact MOi.fin hx hb hr hlk h (⟨S1, by rw [oPut, if_neg (fun z => z c_2), if_neg (fun z => z.elim (fun z => z c_17) (fun z => z hgt)), eS, ekb, pPut, if_neg (fun z => c_90 z.1)], rfl⟩) de_M_put_108
          · refine lv_aload_n hx hb de_M_put_93 rfl (lv_at hl 1 rfl) ?_
            refine gM_items C hK h.1 de_M_put_94 ?_
            refine lv_iload_n hx hb de_M_put_97 rfl (lv_at hl 2 rfl) ?_
            refine rM_items hx hb hK h.1 hbx de_M_put_98 ?_
            refine lv_if_gt (tgt := 107) hx hb de_M_put_99 (by decide) (fun c_99 => ?_) (fun c_99 => ?_)
            · refine lv_iconst (v := 0) hx hb de_M_put_107 (by decide) ?_
              exact MOi.fin hx hb hr hlk h (⟨S1, by rw [oPut, if_neg (fun z => z c_2), if_neg (fun z => z.elim (fun z => z c_17) (fun z => z hgt)), eS, ekb, pPut, if_neg (fun z => (it_pos hok.2.1).mp c_99 z.2.1)], rfl⟩) de_M_put_108
            · refine lv_iload hx hb de_M_put_102 (lv_at hl 0 rfl) ?_
              refine lv_if_eq (tgt := 109) hx hb de_M_put_104 (by decide) (fun c_104 => ?_) (fun c_104 => ?_)
              · refine lv_aload_n hx hb de_M_put_109 rfl (lv_at hl 1 rfl) ?_
                refine gM_items C hK h.1 de_M_put_110 ?_
                refine lv_iload_n hx hb de_M_put_113 rfl (lv_at hl 2 rfl) ?_
                refine lv_iload_n hx hb de_M_put_114 rfl (lv_at hl 3 rfl) ?_
                refine sM_items hx hb hK h hbx de_M_put_115 (fun H locs h => ?_)
                refine lv_aload_n hx hb de_M_put_116 rfl (lv_at hl 1 rfl) ?_
                refine gM_kept C hK h.1 de_M_put_117 ?_
                refine lv_iload_n hx hb de_M_put_120 rfl (lv_at hl 2 rfl) ?_
                refine lv_lconst (v := 0) hx hb de_M_put_121 (by decide) ?_
                refine sM_kept hx hb hK h hbx de_M_put_122 (fun H locs h => ?_)
                refine lv_iconst (v := 1) hx hb de_M_put_123 (by decide) ?_
                exact MOi.fin hx hb hr hlk h (⟨sL (sI S1 3 kb v) 2 kb 0, by rw [oPut, if_neg (fun z => z c_2), if_neg (fun z => z.elim (fun z => z c_17) (fun z => z hgt)), eS, ekb, pPut, if_pos ⟨c_90, Classical.not_not.mp (fun z => c_99 ((it_pos hok.2.1).mpr z)), Classical.not_not.mp (fun z => hin2.mpr z c_104)⟩], rfl⟩) de_M_put_124
              · refine lv_iconst (v := 0) hx hb de_M_put_107 (by decide) ?_
                exact MOi.fin hx hb hr hlk h (⟨S1, by rw [oPut, if_neg (fun z => z c_2), if_neg (fun z => z.elim (fun z => z c_17) (fun z => z hgt)), eS, ekb, pPut, if_neg (fun z => hin2.mp c_104 z.2.2)], rfl⟩) de_M_put_108
        have loop : ∀ (r j : Nat), j + r = S1.2.2 0 → ∀ f5 : Int32, BL (∃ i : Nat, 1 ≤ i ∧ i ≤ j ∧ S1.1 3 i = v) f5 → ∀ ls : Array Slot, lv_has ls 7 [(6, .int (nI (j + 1))), (5, .int f5), (0, .ref (q 0)), (1, .int b), (2, .int v), (3, .long t)] → W p l e (rmOf 2 0 0) s m [Value.ref (q 0), .int b, .int v, .long t].toArray below meth c H locs 0 0 (MQ below (va_Qi (fun r w => ∃ S', oPut S b v t = (r, S') ∧ w = WM q cI cJ cZ S') (PB D A) A) [Value.ref (q 0), .int b, .int v, .long t].toArray s 0 0 A) (F0 m 45 ls []) := by
          intro r
          induction r with
          | zero =>
            intro j hj f5 hf ls hl
            refine lv_iload hx hb de_M_put_45 (lv_at hl 0 rfl) ?_
            refine lv_aload_n hx hb de_M_put_47 rfl (lv_at hl 2 rfl) ?_
            refine gM_boxes C hK h.1 de_M_put_48 ?_
            refine lv_icmp_gt (tgt := 83) hx hb de_M_put_51 (by decide) (fun c_51 => ?_) (fun c_51 => ?_)
            · refine J83 f5 ?_ ls (lv_sub hl [1, 2, 3, 4, 5] rfl)
              rw [lastIx_ex, ← hj]
              rcases hf with ⟨rfl, z⟩ | ⟨rfl, z⟩
              · exact ⟨fun _ => z, fun _ => by decide⟩
              · exact ⟨fun y => absurd rfl y, fun y => absurd y z⟩
            · exact absurd (nI_lt (show S1.2.2 0 < j + 1 by omega) (by omega)) c_51
          | succ r ih =>
            intro j hj f5 hf ls hl
            refine lv_iload hx hb de_M_put_45 (lv_at hl 0 rfl) ?_
            refine lv_aload_n hx hb de_M_put_47 rfl (lv_at hl 2 rfl) ?_
            refine gM_boxes C hK h.1 de_M_put_48 ?_
            refine lv_icmp_gt (tgt := 83) hx hb de_M_put_51 (by decide) (fun c_51 => ?_) (fun c_51 => ?_)
            · exact absurd c_51 (nI_nlt (by omega) (by omega))
            · refine lv_iload hx hb de_M_put_54 (lv_at hl 1 rfl) ?_
              refine lv_if_ne (tgt := 70) hx hb de_M_put_56 (by decide) (fun c_56 => ?_) (fun c_56 => ?_)
              · refine lv_iconst (v := 1) hx hb de_M_put_70 (by decide) ?_
                refine lv_goto (tgt := 75) hx hb de_M_put_71 (by decide) ?_
                refine lv_istore (lv' := [(5, .int 1), (6, .int (nI (j + 1))), (0, .ref (q 0)), (1, .int b), (2, .int v), (3, .long t)]) hx hb de_M_put_75 hl (by decide) rfl (fun ls hl => ?_)
                refine lv_iinc (v := (nI ((j + 1) + 1))) (lv' := [(6, .int (nI ((j + 1) + 1))), (5, .int 1), (0, .ref (q 0)), (1, .int b), (2, .int v), (3, .long t)]) hx hb de_M_put_77 hl (k := 1) rfl (inc_nI _) (by decide) rfl (fun ls hl => ?_)
                refine lv_goto (tgt := 45) hx hb de_M_put_80 (by decide) ?_
                exact ih (j + 1) (by omega) 1 (Or.inl ⟨rfl, by rcases hf with ⟨_, i, i1, i2, i3⟩ | ⟨z, _⟩; exact ⟨i, i1, by omega, i3⟩; exact absurd z c_56⟩) ls (lv_sub hl [0, 1, 2, 3, 4, 5] rfl)
              · refine lv_aload_n hx hb de_M_put_59 rfl (lv_at hl 2 rfl) ?_
                refine gM_items C hK h.1 de_M_put_60 ?_
                refine lv_iload hx hb de_M_put_63 (lv_at hl 0 rfl) ?_
                refine rM_items hx hb hK h.1 (ix_nI (by omega) (by decide)) de_M_put_65 ?_
                refine lv_iload_n hx hb de_M_put_66 rfl (lv_at hl 4 rfl) ?_
                refine lv_icmp_ne (tgt := 74) hx hb de_M_put_67 (by decide) (fun c_67 => ?_) (fun c_67 => ?_)
                · refine lv_iconst (v := 0) hx hb de_M_put_74 (by decide) ?_
                  refine lv_istore (lv' := [(5, .int 0), (6, .int (nI (j + 1))), (0, .ref (q 0)), (1, .int b), (2, .int v), (3, .long t)]) hx hb de_M_put_75 hl (by decide) rfl (fun ls hl => ?_)
                  refine lv_iinc (v := (nI ((j + 1) + 1))) (lv' := [(6, .int (nI ((j + 1) + 1))), (5, .int 0), (0, .ref (q 0)), (1, .int b), (2, .int v), (3, .long t)]) hx hb de_M_put_77 hl (k := 1) rfl (inc_nI _) (by decide) rfl (fun ls hl => ?_)
                  refine lv_goto (tgt := 45) hx hb de_M_put_80 (by decide) ?_
                  exact ih (j + 1) (by omega) 0 (Or.inr ⟨rfl, fun z => by obtain ⟨i, i1, i2, i3⟩ := z; rcases hf with ⟨z, _⟩ | ⟨_, z⟩; exact absurd (z.symm.trans c_56) (by decide); exact up1 (P := fun i => ¬ S1.1 3 i = v) (fun i i1 i2 e => z ⟨i, i1, i2, e⟩) c_67 i i1 i2 i3⟩) ls (lv_sub hl [0, 1, 2, 3, 4, 5] rfl)
                · refine lv_iconst (v := 1) hx hb de_M_put_70 (by decide) ?_
                  refine lv_goto (tgt := 75) hx hb de_M_put_71 (by decide) ?_
                  refine lv_istore (lv' := [(5, .int 1), (6, .int (nI (j + 1))), (0, .ref (q 0)), (1, .int b), (2, .int v), (3, .long t)]) hx hb de_M_put_75 hl (by decide) rfl (fun ls hl => ?_)
                  refine lv_iinc (v := (nI ((j + 1) + 1))) (lv' := [(6, .int (nI ((j + 1) + 1))), (5, .int 1), (0, .ref (q 0)), (1, .int b), (2, .int v), (3, .long t)]) hx hb de_M_put_77 hl (k := 1) rfl (inc_nI _) (by decide) rfl (fun ls hl => ?_)
                  refine lv_goto (tgt := 45) hx hb de_M_put_80 (by decide) ?_
                  exact ih (j + 1) (by omega) 1 (Or.inl ⟨rfl, j + 1, by omega, Nat.le_refl _, c_67⟩) ls (lv_sub hl [0, 1, 2, 3, 4, 5] rfl)
        refine lv_iconst (v := 0) hx hb de_M_put_39 (by decide) ?_
        refine lv_istore (lv' := [(5, .int 0), (0, .ref (q 0)), (1, .int b), (2, .int v), (3, .long t)]) hx hb de_M_put_40 hl (by decide) rfl (fun ls hl => ?_)
        refine lv_iconst (v := 1) hx hb de_M_put_42 (by decide) ?_
        refine zi_top (rfl) ?_
        refine lv_istore (lv' := [(6, .int (nI (0 + 1))), (5, .int 0), (0, .ref (q 0)), (1, .int b), (2, .int v), (3, .long t)]) hx hb de_M_put_43 hl (by decide) rfl (fun ls hl => ?_)
        exact loop (S1.2.2 0) 0 (Nat.zero_add _) 0 (Or.inr ⟨rfl, fun z => by obtain ⟨i, i1, i2, i3⟩ := z; omega⟩) ls hl
    · refine lv_if_eq (tgt := 31) hx hb de_M_put_20 (by decide) (fun _ => ?_) (fun z => absurd z (by decide))
      refine lv_bipush (v := -12) hx hb de_M_put_31 (by decide) ?_
      exact MOi.fin hx hb hr hlk h (⟨S, by rw [oPut, if_neg (fun z => z c_2), if_pos (Or.inl c_17)], rfl⟩) de_M_put_33
  · refine lv_if_ne (tgt := 11) hx hb de_M_put_5 (by decide) (fun z => absurd z (by decide)) (fun _ => ?_)
    refine lv_bipush (v := -11) hx hb de_M_put_8 (by decide) ?_
    exact MOi.fin hx hb hr hlk h (⟨S, by rw [oPut, if_pos c_2], rfl⟩) de_M_put_10
set_option maxHeartbeats 4000000 in
set_option maxRecDepth 100000 in
theorem ct_M_reserve (l : Launch) (D : va_G) (q : Nat → Nat) (cI cJ cZ : ClassId) (S : SS) (c0 : Nat) (hI : Inv c0 S) (v : Int32) (u : Int64) : MOi l y_M_reserve b_M_reserve 7 1 0 0 [.ref (q 0), .int v, .long u] D (tyM cI cJ cZ) (WM q cI cJ cZ S) none (fun r w => ∃ S', oReserve S v u = (r, S') ∧ w = WM q cI cJ cZ S') := by
  refine MOi.mk mi_M_reserve (Nat.le_of_ble_eq_true rfl) ?_
  intro p e s m below meth c ls A C hr hlk hK hC hA h hl
  have hx := C.1
  have hb := C.2.1
  have h : ST D A (wM q cI cJ cZ (nI (S.2.2 0)) (S.1 0) (S.1 1) (S.2.1 0) (S.1 2) (S.1 3) (S.1 4) (S.2.1 1) (S.1 5) (S.2.1 2) (S.2.1 3 0) (S.1 8 0) (nI (S.2.2 3 % 3)) (S.2.1 3 1) (nI (S.2.2 1)) (S.1 6) (nI (S.2.2 2)) (S.1 7)) s.heap s.heap [] := h
  have hl : lv_has ls 7 [(0, .ref (q 0)), (1, .int v), (2, .long u)] := hl
  have hn60 := hI.n
  have bl : ∀ n, best S v n ≤ n := by
    intro n
    induction n with
    | zero => exact Nat.le_refl 0
    | succ n ih =>
      unfold best
      split <;> omega
  have loop : gdI v 1 5 → (S.2.1 3 0 < u ∧ u ≤ 2000000000) → ∀ (r j : Nat), j + r = S.2.2 0 → ∀ ls : Array Slot, lv_has ls 7 [(5, .int (nI (j + 1))), (4, .int (nI (best S v j))), (0, .ref (q 0)), (1, .int v), (2, .long u)] → W p l e (rmOf 1 0 0) s m [Value.ref (q 0), .int v, .long u].toArray below meth c s.heap [] 0 0 (MQ below (va_Qi (fun r w => ∃ S', oReserve S v u = (r, S') ∧ w = WM q cI cJ cZ S') (PB D A) A) [Value.ref (q 0), .int v, .long u].toArray s 0 0 A) (F0 m 38 ls []) := by
    intro g1 g2 r
    induction r with
    | zero =>
      intro j hj ls hl
      have ej : best S v j = best S v (S.2.2 0) := by rw [← hj]; rfl
      have hB := bl j
      generalize best S v j = B at hl ej hB
      refine lv_iload hx hb de_M_reserve_38 (lv_at hl 0 rfl) ?_
      refine lv_aload_n hx hb de_M_reserve_40 rfl (lv_at hl 2 rfl) ?_
      refine gM_boxes C hK h.1 de_M_reserve_41 ?_
      refine lv_icmp_gt (tgt := 139) hx hb de_M_reserve_44 (by decide) (fun c_44 => ?_) (fun c_44 => ?_)
      · refine lv_iload hx hb de_M_reserve_139 (lv_at hl 1 rfl) ?_
        refine lv_if_le (tgt := 152) hx hb de_M_reserve_141 (by decide) (fun c_141 => ?_) (fun c_141 => ?_)
        · have hB0 : B = 0 := by
            rcases Nat.eq_zero_or_pos B with z | z
            · exact z
            · exact absurd c_141 (nI_nle z (by omega))
          refine lv_iload hx hb de_M_reserve_152 (lv_at hl 1 rfl) ?_
          exact MOi.fin hx hb hr hlk h (⟨S, by rw [oReserve, if_neg (fun z => z.elim (fun z => z g1) (fun z => z g2)), ← ej, if_pos hB0, hB0]; rfl, rfl⟩) de_M_reserve_154
        · have hB0 : ¬ B = 0 := fun z => c_141 (by rw [z]; decide)
          refine lv_aload_n hx hb de_M_reserve_144 rfl (lv_at hl 2 rfl) ?_
          refine gM_kept C hK h.1 de_M_reserve_145 ?_
          refine lv_iload hx hb de_M_reserve_148 (lv_at hl 1 rfl) ?_
          refine lv_lload_n hx hb de_M_reserve_150 rfl (lv_at hl 4 rfl) ?_
          refine sM_kept hx hb hK h (ix_nI (by omega) (by decide)) de_M_reserve_151 (fun H locs h => ?_)
          refine lv_iload hx hb de_M_reserve_152 (lv_at hl 1 rfl) ?_
          exact MOi.fin hx hb hr hlk h (⟨sL S 2 B u, by rw [oReserve, if_neg (fun z => z.elim (fun z => z g1) (fun z => z g2)), ← ej, if_neg hB0], rfl⟩) de_M_reserve_154
      · exact absurd (nI_lt (show S.2.2 0 < j + 1 by omega) (by omega)) c_44
    | succ r ih =>
      intro j hj ls hl
      have hB := bl j
      obtain ⟨B, eB⟩ : ∃ B9 : Nat, best S v j = B9 := ⟨_, rfl⟩
      have hbs : best S v (j + 1) = if (S.1 1 (j + 1) = 0 ∧ S.1 3 (j + 1) = 0 ∧ S.2.1 2 (j + 1) = 0 ∧ v ≤ S.1 0 (j + 1)) ∧ (B = 0 ∨ S.1 0 (j + 1) < S.1 0 B) then j + 1 else B := by rw [← eB]; rfl
      rw [eB] at hl hB
      have hl : lv_has ls 7 [(5, .int (nI (j + 1))), (4, .int (nI B)), (0, .ref (q 0)), (1, .int v), (2, .long u)] := hl
      have J1 : (S.1 1 (j + 1) = 0 ∧ S.1 3 (j + 1) = 0 ∧ S.2.1 2 (j + 1) = 0 ∧ v ≤ S.1 0 (j + 1)) → ∀ ls : Array Slot, lv_has ls 7 [(5, .int (nI (j + 1))), (4, .int (nI B)), (0, .ref (q 0)), (1, .int v), (2, .long u)] → W p l e (rmOf 1 0 0) s m [Value.ref (q 0), .int v, .long u].toArray below meth c s.heap [] 0 0 (MQ below (va_Qi (fun r w => ∃ S', oReserve S v u = (r, S') ∧ w = WM q cI cJ cZ S') (PB D A) A) [Value.ref (q 0), .int v, .long u].toArray s 0 0 A) (F0 m 95 ls [.int 1]) := by
        intro hp ls hl
        refine lv_istore (lv' := [(6, .int 1), (5, .int (nI (j + 1))), (4, .int (nI B)), (0, .ref (q 0)), (1, .int v), (2, .long u)]) hx hb de_M_reserve_95 hl (by decide) rfl (fun ls hl => ?_)
        refine lv_iload hx hb de_M_reserve_97 (lv_at hl 0 rfl) ?_
        refine lv_if_eq (tgt := 129) hx hb de_M_reserve_99 (by decide) (fun z => absurd z (by decide)) (fun _ => ?_)
        refine lv_iload hx hb de_M_reserve_102 (lv_at hl 2 rfl) ?_
        refine lv_if_eq (tgt := 124) hx hb de_M_reserve_104 (by decide) (fun c_104 => ?_) (fun c_104 => ?_)
        · have hB0 : B = 0 := (nI_eq (b := 0) (by omega) (by decide)).mp c_104
          refine lv_iload hx hb de_M_reserve_124 (lv_at hl 1 rfl) ?_
          refine lv_goto (tgt := 131) hx hb de_M_reserve_126 (by decide) ?_
          refine lv_istore (lv' := [(4, .int (nI (j + 1))), (6, .int 1), (5, .int (nI (j + 1))), (0, .ref (q 0)), (1, .int v), (2, .long u)]) hx hb de_M_reserve_131 hl (by decide) rfl (fun ls hl => ?_)
          refine lv_iinc (v := (nI ((j + 1) + 1))) (lv' := [(5, .int (nI ((j + 1) + 1))), (4, .int (nI (j + 1))), (6, .int 1), (0, .ref (q 0)), (1, .int v), (2, .long u)]) hx hb de_M_reserve_133 hl (k := 2) rfl (inc_nI _) (by decide) rfl (fun ls hl => ?_)
          refine lv_goto (tgt := 38) hx hb de_M_reserve_136 (by decide) ?_
          exact ih (j + 1) (by omega) ls (lv_sub hl [0, 1, 3, 4, 5] (by rw [hbs, if_pos ⟨hp, Or.inl hB0⟩]; rfl))
        · have hB0 : ¬ B = 0 := fun z => c_104 (by rw [z]; rfl)
          refine lv_aload_n hx hb de_M_reserve_107 rfl (lv_at hl 3 rfl) ?_
          refine gM_sizes C hK h.1 de_M_reserve_108 ?_
          refine lv_iload hx hb de_M_reserve_111 (lv_at hl 1 rfl) ?_
          refine rM_sizes hx hb hK h.1 (ix_nI (by omega) (by decide)) de_M_reserve_113 ?_
          refine lv_aload_n hx hb de_M_reserve_114 rfl (lv_at hl 3 rfl) ?_
          refine gM_sizes C hK h.1 de_M_reserve_115 ?_
          refine lv_iload hx hb de_M_reserve_118 (lv_at hl 2 rfl) ?_
          refine rM_sizes hx hb hK h.1 (ix_nI (by omega) (by decide)) de_M_reserve_120 ?_
          refine lv_icmp_ge (tgt := 129) hx hb de_M_reserve_121 (by decide) (fun c_121 => ?_) (fun c_121 => ?_)
          · refine lv_iload hx hb de_M_reserve_129 (lv_at hl 2 rfl) ?_
            refine lv_istore (lv' := [(4, .int (nI B)), (6, .int 1), (5, .int (nI (j + 1))), (0, .ref (q 0)), (1, .int v), (2, .long u)]) hx hb de_M_reserve_131 hl (by decide) rfl (fun ls hl => ?_)
            refine lv_iinc (v := (nI ((j + 1) + 1))) (lv' := [(5, .int (nI ((j + 1) + 1))), (4, .int (nI B)), (6, .int 1), (0, .ref (q 0)), (1, .int v), (2, .long u)]) hx hb de_M_reserve_133 hl (k := 2) rfl (inc_nI _) (by decide) rfl (fun ls hl => ?_)
            refine lv_goto (tgt := 38) hx hb de_M_reserve_136 (by decide) ?_
            exact ih (j + 1) (by omega) ls (lv_sub hl [0, 1, 3, 4, 5] (by rw [hbs, if_neg (fun z => z.2.elim hB0 (fun z => absurd z (Int32.not_lt.mpr c_121)))]; rfl))
          · refine lv_iload hx hb de_M_reserve_124 (lv_at hl 1 rfl) ?_
            refine lv_goto (tgt := 131) hx hb de_M_reserve_126 (by decide) ?_
            refine lv_istore (lv' := [(4, .int (nI (j + 1))), (6, .int 1), (5, .int (nI (j + 1))), (0, .ref (q 0)), (1, .int v), (2, .long u)]) hx hb de_M_reserve_131 hl (by decide) rfl (fun ls hl => ?_)
            refine lv_iinc (v := (nI ((j + 1) + 1))) (lv' := [(5, .int (nI ((j + 1) + 1))), (4, .int (nI (j + 1))), (6, .int 1), (0, .ref (q 0)), (1, .int v), (2, .long u)]) hx hb de_M_reserve_133 hl (k := 2) rfl (inc_nI _) (by decide) rfl (fun ls hl => ?_)
            refine lv_goto (tgt := 38) hx hb de_M_reserve_136 (by decide) ?_
            exact ih (j + 1) (by omega) ls (lv_sub hl [0, 1, 3, 4, 5] (by rw [hbs, if_pos ⟨hp, Or.inr (Int32.not_le.mp c_121)⟩]; rfl))
      have J0 : ¬ (S.1 1 (j + 1) = 0 ∧ S.1 3 (j + 1) = 0 ∧ S.2.1 2 (j + 1) = 0 ∧ v ≤ S.1 0 (j + 1)) → ∀ ls : Array Slot, lv_has ls 7 [(5, .int (nI (j + 1))), (4, .int (nI B)), (0, .ref (q 0)), (1, .int v), (2, .long u)] → W p l e (rmOf 1 0 0) s m [Value.ref (q 0), .int v, .long u].toArray below meth c s.heap [] 0 0 (MQ below (va_Qi (fun r w => ∃ S', oReserve S v u = (r, S') ∧ w = WM q cI cJ cZ S') (PB D A) A) [Value.ref (q 0), .int v, .long u].toArray s 0 0 A) (F0 m 95 ls [.int 0]) := by
        intro hp ls hl
        refine lv_istore (lv' := [(6, .int 0), (5, .int (nI (j + 1))), (4, .int (nI B)), (0, .ref (q 0)), (1, .int v), (2, .long u)]) hx hb de_M_reserve_95 hl (by decide) rfl (fun ls hl => ?_)
        refine lv_iload hx hb de_M_reserve_97 (lv_at hl 0 rfl) ?_
        refine lv_if_eq (tgt := 129) hx hb de_M_reserve_99 (by decide) (fun _ => ?_) (fun z => absurd z (by decide))
        refine lv_iload hx hb de_M_reserve_129 (lv_at hl 2 rfl) ?_
        refine lv_istore (lv' := [(4, .int (nI B)), (6, .int 0), (5, .int (nI (j + 1))), (0, .ref (q 0)), (1, .int v), (2, .long u)]) hx hb de_M_reserve_131 hl (by decide) rfl (fun ls hl => ?_)
        refine lv_iinc (v := (nI ((j + 1) + 1))) (lv' := [(5, .int (nI ((j + 1) + 1))), (4, .int (nI B)), (6, .int 0), (0, .ref (q 0)), (1, .int v), (2, .long u)]) hx hb de_M_reserve_133 hl (k := 2) rfl (inc_nI _) (by decide) rfl (fun ls hl => ?_)
        refine lv_goto (tgt := 38) hx hb de_M_reserve_136 (by decide) ?_
        exact ih (j + 1) (by omega) ls (lv_sub hl [0, 1, 3, 4, 5] (by rw [hbs, if_neg (fun z => hp z.1)]; rfl))
      refine lv_iload hx hb de_M_reserve_38 (lv_at hl 0 rfl) ?_
      refine lv_aload_n hx hb de_M_reserve_40 rfl (lv_at hl 2 rfl) ?_
      refine gM_boxes C hK h.1 de_M_reserve_41 ?_
      refine lv_icmp_gt (tgt := 139) hx hb de_M_reserve_44 (by decide) (fun c_44 => ?_) (fun c_44 => ?_)
      · exact absurd c_44 (nI_nlt (by omega) (by omega))
      · refine lv_aload_n hx hb de_M_reserve_47 rfl (lv_at hl 2 rfl) ?_
        refine gM_doors C hK h.1 de_M_reserve_48 ?_
        refine lv_iload hx hb de_M_reserve_51 (lv_at hl 0 rfl) ?_
        refine rM_doors hx hb hK h.1 (ix_nI (by omega) (by decide)) de_M_reserve_53 ?_
        refine lv_if_ne (tgt := 94) hx hb de_M_reserve_54 (by decide) (fun c_54 => ?_) (fun c_54 => ?_)
        · refine lv_iconst (v := 0) hx hb de_M_reserve_94 (by decide) ?_
          exact J0 (fun z => c_54 z.1) ls (lv_sub hl [0, 1, 2, 3, 4] rfl)
        · refine lv_aload_n hx hb de_M_reserve_57 rfl (lv_at hl 2 rfl) ?_
          refine gM_items C hK h.1 de_M_reserve_58 ?_
          refine lv_iload hx hb de_M_reserve_61 (lv_at hl 0 rfl) ?_
          refine rM_items hx hb hK h.1 (ix_nI (by omega) (by decide)) de_M_reserve_63 ?_
          refine lv_if_ne (tgt := 94) hx hb de_M_reserve_64 (by decide) (fun c_64 => ?_) (fun c_64 => ?_)
          · refine lv_iconst (v := 0) hx hb de_M_reserve_94 (by decide) ?_
            exact J0 (fun z => c_64 z.2.1) ls (lv_sub hl [0, 1, 2, 3, 4] rfl)
          · refine lv_aload_n hx hb de_M_reserve_67 rfl (lv_at hl 2 rfl) ?_
            refine gM_kept C hK h.1 de_M_reserve_68 ?_
            refine lv_iload hx hb de_M_reserve_71 (lv_at hl 0 rfl) ?_
            refine rM_kept hx hb hK h.1 (ix_nI (by omega) (by decide)) de_M_reserve_73 ?_
            refine lv_lconst (v := 0) hx hb de_M_reserve_74 (by decide) ?_
            refine zl_ne (tgt := 94) hx hb de_M_reserve_75 de_M_reserve_76 (by decide) (fun c_76 => ?_) (fun c_76 => ?_)
            · refine lv_iconst (v := 0) hx hb de_M_reserve_94 (by decide) ?_
              exact J0 (fun z => c_76 z.2.2.1) ls (lv_sub hl [0, 1, 2, 3, 4] rfl)
            · refine lv_aload_n hx hb de_M_reserve_79 rfl (lv_at hl 2 rfl) ?_
              refine gM_sizes C hK h.1 de_M_reserve_80 ?_
              refine lv_iload hx hb de_M_reserve_83 (lv_at hl 0 rfl) ?_
              refine rM_sizes hx hb hK h.1 (ix_nI (by omega) (by decide)) de_M_reserve_85 ?_
              refine lv_iload_n hx hb de_M_reserve_86 rfl (lv_at hl 3 rfl) ?_
              refine lv_icmp_lt (tgt := 94) hx hb de_M_reserve_87 (by decide) (fun c_87 => ?_) (fun c_87 => ?_)
              · refine lv_iconst (v := 0) hx hb de_M_reserve_94 (by decide) ?_
                exact J0 (fun z => absurd z.2.2.2 (Int32.not_le.mpr c_87)) ls (lv_sub hl [0, 1, 2, 3, 4] rfl)
              · refine lv_iconst (v := 1) hx hb de_M_reserve_90 (by decide) ?_
                refine lv_goto (tgt := 95) hx hb de_M_reserve_91 (by decide) ?_
                exact J1 ⟨c_54, c_64, c_76, Int32.not_lt.mp c_87⟩ ls (lv_sub hl [0, 1, 2, 3, 4] rfl)
  refine lv_iload_n hx hb de_M_reserve_0 rfl (lv_at hl 1 rfl) ?_
  refine lv_i2l hx hb de_M_reserve_1 rfl ?_
  refine lv_lconst (v := 1) hx hb de_M_reserve_2 (by decide) ?_
  refine lv_ldc2 (v := 5) hx hb C.2.2.2.1 (C.2.2.2.2 _ kw_290) de_M_reserve_3 ?_
  refine cl_M_within C ⟨Nat.le_of_ble_eq_true rfl, Nat.le_of_ble_eq_true rfl⟩ hl.1 (Nat.le_of_ble_eq_true rfl) de_M_reserve_6 ⟨Nat.le_of_ble_eq_true rfl, Nat.le_of_ble_eq_true rfl⟩ (fun c_6 => ?_) (fun c_6 => ?_)
  · refine lv_if_eq (tgt := 29) hx hb de_M_reserve_9 (by decide) (fun z => absurd z (by decide)) (fun _ => ?_)
    refine lv_lload_n hx hb de_M_reserve_12 rfl (lv_at hl 2 rfl) ?_
    refine lv_aload_n hx hb de_M_reserve_13 rfl (lv_at hl 0 rfl) ?_
    refine gM_time C hK h.1 de_M_reserve_14 ?_
    refine zl_le (tgt := 29) hx hb de_M_reserve_17 de_M_reserve_18 (by decide) (fun c_18 => ?_) (fun c_18 => ?_)
    · refine lv_bipush (v := -12) hx hb de_M_reserve_29 (by decide) ?_
      exact MOi.fin hx hb hr hlk h (⟨S, by rw [oReserve, if_pos (Or.inr (fun z => absurd z.1 (Int64.not_lt.mpr c_18)))], rfl⟩) de_M_reserve_31
    · refine lv_lload_n hx hb de_M_reserve_21 rfl (lv_at hl 2 rfl) ?_
      refine lv_ldc2 (v := 2000000000) hx hb C.2.2.2.1 (C.2.2.2.2 _ kw_303) de_M_reserve_22 ?_
      refine zl_le (tgt := 32) hx hb de_M_reserve_25 de_M_reserve_26 (by decide) (fun c_26 => ?_) (fun c_26 => ?_)
      · refine lv_iconst (v := 0) hx hb de_M_reserve_32 (by decide) ?_
        refine zi_top (rfl) ?_
        refine lv_istore (lv' := [(4, .int (nI 0)), (0, .ref (q 0)), (1, .int v), (2, .long u)]) hx hb de_M_reserve_33 hl (by decide) rfl (fun ls hl => ?_)
        refine lv_iconst (v := 1) hx hb de_M_reserve_35 (by decide) ?_
        refine zi_top (rfl) ?_
        refine lv_istore (lv' := [(5, .int (nI (0 + 1))), (4, .int (nI 0)), (0, .ref (q 0)), (1, .int v), (2, .long u)]) hx hb de_M_reserve_36 hl (by decide) rfl (fun ls hl => ?_)
        exact loop c_6 ⟨Int64.not_le.mp c_18, c_26⟩ (S.2.2 0) 0 (Nat.zero_add _) ls hl
      · refine lv_bipush (v := -12) hx hb de_M_reserve_29 (by decide) ?_
        exact MOi.fin hx hb hr hlk h (⟨S, by rw [oReserve, if_pos (Or.inr (fun z => c_26 z.2))], rfl⟩) de_M_reserve_31
  · refine lv_if_eq (tgt := 29) hx hb de_M_reserve_9 (by decide) (fun _ => ?_) (fun z => absurd z (by decide))
    refine lv_bipush (v := -12) hx hb de_M_reserve_29 (by decide) ?_
    exact MOi.fin hx hb hr hlk h (⟨S, by rw [oReserve, if_pos (Or.inl c_6)], rfl⟩) de_M_reserve_31
end
section
/-! ===== the twin: close, type, door: printed by gen/mops2.py ===== -/
theorem cpy_step {f : Nat → Int32} {a i : Nat} : upd (va_cpy f f (a + 1) 0 i) i (va_cpy f f (a + 1) 0 i (i + a + 1)) = va_cpy f f (a + 1) 0 (i + 1) := by
  funext j
  unfold upd va_cpy
  by_cases hj : j = i
  · subst hj
    simp only [if_true]
    rw [if_neg (by omega), if_pos (by omega)]
    congr 1
    omega
  · rw [if_neg hj]
    by_cases h : 0 ≤ j ∧ j < 0 + i
    · rw [if_pos h, if_pos (by omega)]
    · rw [if_neg h, if_neg (by omega)]
theorem cpy_0 {f : Nat → Int32} {a : Nat} : va_cpy f f a 0 0 = f := by
  funext j
  unfold va_cpy
  rw [if_neg (by omega)]
theorem upd_at {f : Nat → Int32} {k : Nat} {v : Int32} : upd f k v k = v := by
  unfold upd
  simp
set_option maxHeartbeats 4000000 in
set_option maxRecDepth 100000 in
theorem ct_M_close (l : Launch) (D : va_G) (q : Nat → Nat) (cI cJ cZ : ClassId) (S : SS) (c0 : Nat) (hI : Inv c0 S) (b : Int32) (t : Int64) : MOi l y_M_close b_M_close 7 2 0 0 [.ref (q 0), .int b, .long t] D (tyM cI cJ cZ) (WM q cI cJ cZ S) none (fun r w => ∃ S', oClose S b t = (r, S') ∧ w = WM q cI cJ cZ S') := by
  refine MOi.mk mi_M_close (Nat.le_of_ble_eq_true rfl) ?_
  intro p e s m below meth c ls A C hr hlk hK hC hA h hl
  have hx := C.1
  have hb := C.2.1
  have h : ST D A (wM q cI cJ cZ (nI (S.2.2 0)) (S.1 0) (S.1 1) (S.2.1 0) (S.1 2) (S.1 3) (S.1 4) (S.2.1 1) (S.1 5) (S.2.1 2) (S.2.1 3 0) (S.1 8 0) (nI (S.2.2 3 % 3)) (S.2.1 3 1) (nI (S.2.2 1)) (S.1 6) (nI (S.2.2 2)) (S.1 7)) s.heap s.heap [] := h
  have hl : lv_has ls 7 [(0, .ref (q 0)), (1, .int b), (2, .long t)] := hl
  refine lv_aload_n hx hb de_M_close_0 rfl (lv_at hl 0 rfl) ?_
  refine lv_iload_n hx hb de_M_close_1 rfl (lv_at hl 1 rfl) ?_
  refine cl_M_isBox C h.1 hK hC h.2.2 ⟨Nat.le_of_ble_eq_true rfl, Nat.le_of_ble_eq_true rfl⟩ hl.1 (Nat.le_of_ble_eq_true rfl) de_M_close_2 ⟨Nat.le_of_ble_eq_true rfl, Nat.le_of_ble_eq_true rfl⟩ (fun c_2 => ?_) (fun c_2 => ?_)
  · refine lv_if_ne (tgt := 11) hx hb de_M_close_5 (by decide) (fun _ => ?_) (fun z => absurd z (by decide))
    refine lv_aload_n hx hb de_M_close_11 rfl (lv_at hl 0 rfl) ?_
    refine lv_lload_n hx hb de_M_close_12 rfl (lv_at hl 2 rfl) ?_
    refine cl_M_isNoTime C h.1 hK hC h.2.2 ⟨Nat.le_of_ble_eq_true rfl, Nat.le_of_ble_eq_true rfl⟩ hl.1 (Nat.le_of_ble_eq_true rfl) de_M_close_13 ⟨Nat.le_of_ble_eq_true rfl, Nat.le_of_ble_eq_true rfl⟩ (fun c_13 => ?_) (fun c_13 => ?_)
    · refine lv_if_eq (tgt := 22) hx hb de_M_close_16 (by decide) (fun z => absurd z (by decide)) (fun _ => ?_)
      refine lv_bipush (v := -12) hx hb de_M_close_19 (by decide) ?_
      exact MOi.fin hx hb hr hlk h (⟨S, by rw [oClose, if_neg (fun z => z c_2), if_pos c_13], rfl⟩) de_M_close_21
    · refine lv_if_eq (tgt := 22) hx hb de_M_close_16 (by decide) (fun _ => ?_) (fun z => absurd z (by decide))
      refine lv_aload_n hx hb de_M_close_22 rfl (lv_at hl 0 rfl) ?_
      refine lv_lload_n hx hb de_M_close_23 rfl (lv_at hl 2 rfl) ?_
      have hgt : gdT S t := Classical.not_not.mp c_13
      refine cl_M_pass C hI hgt h hK hC hA ⟨Nat.le_of_ble_eq_true rfl, Nat.le_of_ble_eq_true rfl⟩ hl.1 (Nat.le_of_ble_eq_true rfl) de_M_close_24 ⟨Nat.le_of_ble_eq_true rfl, Nat.le_of_ble_eq_true rfl⟩ (fun H locs h => ?_)
      have hI1 := inv_oPass hI hgt
      have hn1 := oPass_n S t
      have ht1 := oPass_t S t
      obtain ⟨S1, eS⟩ : ∃ S9 : SS, oPass S t = S9 := ⟨_, rfl⟩
      rw [eS] at h hI1 hn1 ht1
      have h : ST D A (wM q cI cJ cZ (nI (S1.2.2 0)) (S1.1 0) (S1.1 1) (S1.2.1 0) (S1.1 2) (S1.1 3) (S1.1 4) (S1.2.1 1) (S1.1 5) (S1.2.1 2) (S1.2.1 3 0) (S1.1 8 0) (nI (S1.2.2 3 % 3)) (S1.2.1 3 1) (nI (S1.2.2 1)) (S1.1 6) (nI (S1.2.2 2)) (S1.1 7)) s.heap H locs := h
      obtain ⟨kb, ekb, hbx, hk1, hk2, ebk⟩ := gdB_ix c_2 hI.n
      have hn60 := hI.n
      have hk2 : kb ≤ S1.2.2 0 := by omega
      have hok := hI1.ok hk1 hk2
      have hnt := hI1.nt
      refine lv_aload_n hx hb de_M_close_27 rfl (lv_at hl 0 rfl) ?_
      refine gM_doors C hK h.1 de_M_close_28 ?_
      refine lv_iload_n hx hb de_M_close_31 rfl (lv_at hl 1 rfl) ?_
      refine rM_doors hx hb hK h.1 hbx de_M_close_32 ?_
      refine lv_iconst (v := 1) hx hb de_M_close_33 (by decide) ?_
      refine lv_icmp_eq (tgt := 40) hx hb de_M_close_34 (by decide) (fun c_34 => ?_) (fun c_34 => ?_)
      · refine lv_aload_n hx hb de_M_close_40 rfl (lv_at hl 0 rfl) ?_
        refine gM_items C hK h.1 de_M_close_41 ?_
        refine lv_iload_n hx hb de_M_close_44 rfl (lv_at hl 1 rfl) ?_
        refine rM_items hx hb hK h.1 hbx de_M_close_45 ?_
        refine lv_if_le (tgt := 62) hx hb de_M_close_46 (by decide) (fun c_46 => ?_) (fun c_46 => ?_)
        · refine lv_iconst (v := 0) hx hb de_M_close_62 (by decide) ?_
          refine lv_istore (lv' := [(4, .int 0), (0, .ref (q 0)), (1, .int b), (2, .long t)]) hx hb de_M_close_63 hl (by decide) rfl (fun ls hl => ?_)
          refine lv_iconst (v := 0) hx hb de_M_close_65 (by decide) ?_
          refine lv_istore (lv' := [(5, .int 0), (4, .int 0), (0, .ref (q 0)), (1, .int b), (2, .long t)]) hx hb de_M_close_66 hl (by decide) rfl (fun ls hl => ?_)
          refine lv_iload hx hb de_M_close_68 (lv_at hl 1 rfl) ?_
          refine lv_if_eq (tgt := 102) hx hb de_M_close_70 (by decide) (fun _ => ?_) (fun z => absurd z (by decide))
          refine lv_iload hx hb de_M_close_102 (lv_at hl 1 rfl) ?_
          refine lv_if_eq (tgt := 119) hx hb de_M_close_104 (by decide) (fun _ => ?_) (fun z => absurd z (by decide))
          refine lv_aload_n hx hb de_M_close_119 rfl (lv_at hl 2 rfl) ?_
          refine gM_doors C hK h.1 de_M_close_120 ?_
          refine lv_iload_n hx hb de_M_close_123 rfl (lv_at hl 3 rfl) ?_
          refine lv_iconst (v := 0) hx hb de_M_close_124 (by decide) ?_
          refine sM_doors hx hb hK h hbx de_M_close_125 (fun H locs h => ?_)
          refine lv_iload hx hb de_M_close_126 (lv_at hl 1 rfl) ?_
          refine lv_if_ne (tgt := 133) hx hb de_M_close_128 (by decide) (fun z => absurd z (by decide)) (fun _ => ?_)
          refine lv_iconst (v := -1) hx hb de_M_close_131 (by decide) ?_
          exact MOi.fin hx hb hr hlk h (⟨sI S1 1 kb 0, by rw [oClose, if_neg (fun z => z c_2), if_neg (fun z => z hgt), eS, ekb, pClose, if_neg (fun z => z c_34), if_pos (Or.inl (Classical.not_not.mp (fun z => absurd ((it_pos hok.2.1).mpr z) (Int32.not_lt.mpr c_46))))], rfl⟩) de_M_close_132
        · refine lv_aload_n hx hb de_M_close_49 rfl (lv_at hl 0 rfl) ?_
          refine gM_codes C hK h.1 de_M_close_50 ?_
          refine lv_iload_n hx hb de_M_close_53 rfl (lv_at hl 1 rfl) ?_
          refine rM_codes hx hb hK h.1 hbx de_M_close_54 ?_
          refine lv_if_ge (tgt := 62) hx hb de_M_close_55 (by decide) (fun c_55 => ?_) (fun c_55 => ?_)
          · refine lv_iconst (v := 0) hx hb de_M_close_62 (by decide) ?_
            refine lv_istore (lv' := [(4, .int 0), (0, .ref (q 0)), (1, .int b), (2, .long t)]) hx hb de_M_close_63 hl (by decide) rfl (fun ls hl => ?_)
            refine lv_iconst (v := 0) hx hb de_M_close_65 (by decide) ?_
            refine lv_istore (lv' := [(5, .int 0), (4, .int 0), (0, .ref (q 0)), (1, .int b), (2, .long t)]) hx hb de_M_close_66 hl (by decide) rfl (fun ls hl => ?_)
            refine lv_iload hx hb de_M_close_68 (lv_at hl 1 rfl) ?_
            refine lv_if_eq (tgt := 102) hx hb de_M_close_70 (by decide) (fun _ => ?_) (fun z => absurd z (by decide))
            refine lv_iload hx hb de_M_close_102 (lv_at hl 1 rfl) ?_
            refine lv_if_eq (tgt := 119) hx hb de_M_close_104 (by decide) (fun _ => ?_) (fun z => absurd z (by decide))
            refine lv_aload_n hx hb de_M_close_119 rfl (lv_at hl 2 rfl) ?_
            refine gM_doors C hK h.1 de_M_close_120 ?_
            refine lv_iload_n hx hb de_M_close_123 rfl (lv_at hl 3 rfl) ?_
            refine lv_iconst (v := 0) hx hb de_M_close_124 (by decide) ?_
            refine sM_doors hx hb hK h hbx de_M_close_125 (fun H locs h => ?_)
            refine lv_iload hx hb de_M_close_126 (lv_at hl 1 rfl) ?_
            refine lv_if_ne (tgt := 133) hx hb de_M_close_128 (by decide) (fun z => absurd z (by decide)) (fun _ => ?_)
            refine lv_iconst (v := -1) hx hb de_M_close_131 (by decide) ?_
            exact MOi.fin hx hb hr hlk h (⟨sI S1 1 kb 0, by rw [oClose, if_neg (fun z => z c_2), if_neg (fun z => z hgt), eS, ekb, pClose, if_neg (fun z => z c_34), if_pos (Or.inr c_55)], rfl⟩) de_M_close_132
          · refine lv_iconst (v := 1) hx hb de_M_close_58 (by decide) ?_
            refine lv_goto (tgt := 63) hx hb de_M_close_59 (by decide) ?_
            refine lv_istore (lv' := [(4, .int 1), (0, .ref (q 0)), (1, .int b), (2, .long t)]) hx hb de_M_close_63 hl (by decide) rfl (fun ls hl => ?_)
            refine lv_iconst (v := 0) hx hb de_M_close_65 (by decide) ?_
            have hno : ¬ (S1.1 3 kb = 0 ∨ 0 ≤ S1.1 4 kb) := fun z => z.elim ((it_pos hok.2.1).mp (Int32.not_le.mp c_46)) c_55
            have hlt0 : S1.1 5 kb = 0 := hok.2.2.2.2.2 (Int32.not_le.mp c_55)
            have L176 : ∀ a : Nat, a < S1.2.2 1 → drawA S1 = a → ∀ (r i : Nat), i + r = S1.2.2 1 - (a + 1) → ∀ (H : Heap) (locs : List Loc), ST D A (wM q cI cJ cZ (nI (S1.2.2 0)) (S1.1 0) (upd (S1.1 1) kb 0) (S1.2.1 0) (S1.1 2) (S1.1 3) (upd (S1.1 4) kb (S1.1 6 a)) (vp_updL (S1.2.1 1) kb t) (upd (S1.1 5) kb 0) (S1.2.1 2) (S1.2.1 3 0) (S1.1 8 0) (nI (S1.2.2 3 % 3)) (S1.2.1 3 1) (nI (S1.2.2 1 - (a + 1))) (va_cpy (S1.1 6) (S1.1 6) (a + 1) 0 i) (nI (S1.2.2 2)) (S1.1 7)) s.heap H locs → ∀ ls : Array Slot, lv_has ls 7 [(6, .int (nI i)), (5, .int (nI a)), (0, .ref (q 0)), (1, .int b), (2, .long t)] → W p l e (rmOf 2 0 0) s m [Value.ref (q 0), .int b, .long t].toArray below meth c H locs 0 0 (MQ below (va_Qi (fun r w => ∃ S', oClose S b t = (r, S') ∧ w = WM q cI cJ cZ S') (PB D A) A) [Value.ref (q 0), .int b, .long t].toArray s 0 0 A) (F0 m 176 ls []) := by
              intro a ha eA r
              induction r with
              | zero =>
                intro i hi H locs h ls hl
                refine lv_iload hx hb de_M_close_176 (lv_at hl 0 rfl) ?_
                refine lv_aload_n hx hb de_M_close_178 rfl (lv_at hl 2 rfl) ?_
                refine gM_taped C hK h.1 de_M_close_179 ?_
                refine lv_icmp_ge (tgt := 210) hx hb de_M_close_182 (by decide) (fun c_182 => ?_) (fun c_182 => ?_)
                · refine lv_aload_n hx hb de_M_close_210 rfl (lv_at hl 2 rfl) ?_
                  refine gM_codes C hK h.1 de_M_close_211 ?_
                  refine lv_iload_n hx hb de_M_close_214 rfl (lv_at hl 3 rfl) ?_
                  refine rM_codes hx hb hK h.1 hbx de_M_close_215 ?_
                  exact MOi.fin hx hb hr hlk h (⟨shiftT (sL (sI (sI S1 1 kb 0) 4 kb (S1.1 6 a)) 1 kb t) a, by rw [oClose, if_neg (fun z => z c_2), if_neg (fun z => z hgt), eS, ekb, pClose, if_neg (fun z => z c_34), if_neg hno, eA, if_neg (by omega)]; exact congrArg (fun z => (z, _)) upd_at.symm, by rw [show i = S1.2.2 1 - (a + 1) by omega, upd_id hlt0]; rfl⟩) de_M_close_216
                · exact absurd (nI_le (show S1.2.2 1 - (a + 1) ≤ i by omega) (by omega)) c_182
              | succ r ih =>
                intro i hi H locs h ls hl
                refine lv_iload hx hb de_M_close_176 (lv_at hl 0 rfl) ?_
                refine lv_aload_n hx hb de_M_close_178 rfl (lv_at hl 2 rfl) ?_
                refine gM_taped C hK h.1 de_M_close_179 ?_
                refine lv_icmp_ge (tgt := 210) hx hb de_M_close_182 (by decide) (fun c_182 => ?_) (fun c_182 => ?_)
                · exact absurd c_182 (nI_ge (show i < S1.2.2 1 - (a + 1) by omega) (by omega))
                · refine lv_aload_n hx hb de_M_close_185 rfl (lv_at hl 2 rfl) ?_
                  refine gM_tape C hK h.1 de_M_close_186 ?_
                  refine lv_iload hx hb de_M_close_189 (lv_at hl 0 rfl) ?_
                  refine lv_aload_n hx hb de_M_close_191 rfl (lv_at hl 2 rfl) ?_
                  refine gM_tape C hK h.1 de_M_close_192 ?_
                  refine lv_iload hx hb de_M_close_195 (lv_at hl 0 rfl) ?_
                  refine lv_iload hx hb de_M_close_197 (lv_at hl 1 rfl) ?_
                  refine lv_iadd hx hb de_M_close_199 ?_
                  refine zi_top (y := (nI (i + a))) (nI_add _ _) ?_
                  refine lv_iconst (v := 1) hx hb de_M_close_200 (by decide) ?_
                  refine lv_iadd hx hb de_M_close_201 ?_
                  refine zi_top (y := (nI (i + a + 1))) (nI_1 _) ?_
                  refine rM_tape hx hb hK h.1 (ix_nI (by omega) (by decide)) de_M_close_202 ?_
                  refine sM_tape hx hb hK h (ix_nI (by omega) (by decide)) de_M_close_203 (fun H locs h => ?_)
                  refine lv_iinc (v := (nI (i + 1))) (lv' := [(6, .int (nI (i + 1))), (5, .int (nI a)), (0, .ref (q 0)), (1, .int b), (2, .long t)]) hx hb de_M_close_204 hl (k := 0) rfl (inc_nI _) (by decide) rfl (fun ls hl => ?_)
                  refine lv_goto (tgt := 176) hx hb de_M_close_207 (by decide) ?_
                  rw [cpy_step] at h
                  exact ih (i + 1) (by omega) H locs h ls hl
            have J102 : ∀ a : Nat, a ≤ S1.2.2 1 → drawA S1 = a → ∀ ls : Array Slot, lv_has ls 7 [(5, .int (nI a)), (4, .int 1), (0, .ref (q 0)), (1, .int b), (2, .long t)] → W p l e (rmOf 2 0 0) s m [Value.ref (q 0), .int b, .long t].toArray below meth c H locs 0 0 (MQ below (va_Qi (fun r w => ∃ S', oClose S b t = (r, S') ∧ w = WM q cI cJ cZ S') (PB D A) A) [Value.ref (q 0), .int b, .long t].toArray s 0 0 A) (F0 m 102 ls []) := by
              intro a ha eA ls hl
              refine lv_iload hx hb de_M_close_102 (lv_at hl 1 rfl) ?_
              refine lv_if_eq (tgt := 119) hx hb de_M_close_104 (by decide) (fun z => absurd z (by decide)) (fun _ => ?_)
              refine lv_iload hx hb de_M_close_107 (lv_at hl 0 rfl) ?_
              refine lv_aload_n hx hb de_M_close_109 rfl (lv_at hl 2 rfl) ?_
              refine gM_taped C hK h.1 de_M_close_110 ?_
              refine lv_icmp_ne (tgt := 119) hx hb de_M_close_113 (by decide) (fun c_113 => ?_) (fun c_113 => ?_)
              · have hlt : a < S1.2.2 1 := by
                  rcases Nat.lt_or_ge a (S1.2.2 1) with z | z
                  · exact z
                  · exact absurd (show nI a = nI (S1.2.2 1) by rw [show a = S1.2.2 1 by omega]) c_113
                refine lv_aload_n hx hb de_M_close_119 rfl (lv_at hl 2 rfl) ?_
                refine gM_doors C hK h.1 de_M_close_120 ?_
                refine lv_iload_n hx hb de_M_close_123 rfl (lv_at hl 3 rfl) ?_
                refine lv_iconst (v := 0) hx hb de_M_close_124 (by decide) ?_
                refine sM_doors hx hb hK h hbx de_M_close_125 (fun H locs h => ?_)
                refine lv_iload hx hb de_M_close_126 (lv_at hl 1 rfl) ?_
                refine lv_if_ne (tgt := 133) hx hb de_M_close_128 (by decide) (fun _ => ?_) (fun z => absurd z (by decide))
                refine lv_aload_n hx hb de_M_close_133 rfl (lv_at hl 2 rfl) ?_
                refine gM_codes C hK h.1 de_M_close_134 ?_
                refine lv_iload_n hx hb de_M_close_137 rfl (lv_at hl 3 rfl) ?_
                refine lv_aload_n hx hb de_M_close_138 rfl (lv_at hl 2 rfl) ?_
                refine gM_tape C hK h.1 de_M_close_139 ?_
                refine lv_iload hx hb de_M_close_142 (lv_at hl 0 rfl) ?_
                refine rM_tape hx hb hK h.1 (ix_nI (by omega) (by decide)) de_M_close_144 ?_
                refine sM_codes hx hb hK h hbx de_M_close_145 (fun H locs h => ?_)
                refine lv_aload_n hx hb de_M_close_146 rfl (lv_at hl 2 rfl) ?_
                refine gM_lies C hK h.1 de_M_close_147 ?_
                refine lv_iload_n hx hb de_M_close_150 rfl (lv_at hl 3 rfl) ?_
                refine lv_lload_n hx hb de_M_close_151 rfl (lv_at hl 4 rfl) ?_
                refine sM_lies hx hb hK h hbx de_M_close_152 (fun H locs h => ?_)
                refine lv_aload_n hx hb de_M_close_153 rfl (lv_at hl 2 rfl) ?_
                refine gM_late C hK h.1 de_M_close_154 ?_
                refine lv_iload_n hx hb de_M_close_157 rfl (lv_at hl 3 rfl) ?_
                refine lv_iconst (v := 0) hx hb de_M_close_158 (by decide) ?_
                refine sM_late hx hb hK h hbx rfl de_M_close_159 (fun H locs h => ?_)
                refine lv_aload_n hx hb de_M_close_160 rfl (lv_at hl 2 rfl) ?_
                refine lv_aload_n hx hb de_M_close_161 rfl (lv_at hl 2 rfl) ?_
                refine gM_taped C hK h.1 de_M_close_162 ?_
                refine lv_iload hx hb de_M_close_165 (lv_at hl 0 rfl) ?_
                refine lv_isub hx hb de_M_close_167 ?_
                refine zi_top (y := (nI (S1.2.2 1 - a))) (pk_sub (by omega)) ?_
                refine lv_iconst (v := 1) hx hb de_M_close_168 (by decide) ?_
                refine lv_isub hx hb de_M_close_169 ?_
                refine zi_top (y := (nI (S1.2.2 1 - (a + 1)))) (by rw [show S1.2.2 1 - (a + 1) = S1.2.2 1 - a - 1 by omega]; exact pk_sub (b := 1) (by omega)) ?_
                refine pM_taped C hK h de_M_close_170 (fun H locs h => ?_)
                refine lv_iconst (v := 0) hx hb de_M_close_173 (by decide) ?_
                refine zi_top (y := (nI 0)) (rfl) ?_
                refine lv_istore (lv' := [(6, .int (nI 0)), (5, .int (nI a)), (4, .int 1), (0, .ref (q 0)), (1, .int b), (2, .long t)]) hx hb de_M_close_174 hl (by decide) rfl (fun ls hl => ?_)
                have h : ST D A (wM q cI cJ cZ (nI (S1.2.2 0)) (S1.1 0) (upd (S1.1 1) kb 0) (S1.2.1 0) (S1.1 2) (S1.1 3) (upd (S1.1 4) kb (S1.1 6 a)) (vp_updL (S1.2.1 1) kb t) (upd (S1.1 5) kb 0) (S1.2.1 2) (S1.2.1 3 0) (S1.1 8 0) (nI (S1.2.2 3 % 3)) (S1.2.1 3 1) (nI (S1.2.2 1 - (a + 1))) (va_cpy (S1.1 6) (S1.1 6) (a + 1) 0 0) (nI (S1.2.2 2)) (S1.1 7)) s.heap H locs := by
                  rw [cpy_0]
                  exact h
                exact L176 a hlt eA (S1.2.2 1 - (a + 1)) 0 (Nat.zero_add _) H locs h ls (lv_sub hl [0, 1, 3, 4, 5] rfl)
              · refine lv_bipush (v := -14) hx hb de_M_close_116 (by decide) ?_
                exact MOi.fin hx hb hr hlk h (⟨S1, by rw [oClose, if_neg (fun z => z c_2), if_neg (fun z => z hgt), eS, ekb, pClose, if_neg (fun z => z c_34), if_neg hno, if_pos (eA.trans ((nI_eq (by omega) (by omega)).mp c_113))], rfl⟩) de_M_close_118
            have loop : ∀ (f a : Nat), a + f = S1.2.2 1 → drawI S1 a f = drawA S1 → ∀ ls : Array Slot, lv_has ls 7 [(5, .int (nI a)), (4, .int 1), (0, .ref (q 0)), (1, .int b), (2, .long t)] → W p l e (rmOf 2 0 0) s m [Value.ref (q 0), .int b, .long t].toArray below meth c H locs 0 0 (MQ below (va_Qi (fun r w => ∃ S', oClose S b t = (r, S') ∧ w = WM q cI cJ cZ S') (PB D A) A) [Value.ref (q 0), .int b, .long t].toArray s 0 0 A) (F0 m 68 ls []) := by
              intro f
              induction f with
              | zero =>
                intro a ha eA ls hl
                refine lv_iload hx hb de_M_close_68 (lv_at hl 1 rfl) ?_
                refine lv_if_eq (tgt := 102) hx hb de_M_close_70 (by decide) (fun z => absurd z (by decide)) (fun _ => ?_)
                refine lv_iload hx hb de_M_close_73 (lv_at hl 0 rfl) ?_
                refine lv_aload_n hx hb de_M_close_75 rfl (lv_at hl 2 rfl) ?_
                refine gM_taped C hK h.1 de_M_close_76 ?_
                refine lv_icmp_ge (tgt := 102) hx hb de_M_close_79 (by decide) (fun c_79 => ?_) (fun c_79 => ?_)
                · exact J102 a (by omega) eA.symm ls hl
                · exact absurd (nI_le (show S1.2.2 1 ≤ a by omega) (by omega)) c_79
              | succ f ih =>
                intro a ha eA ls hl
                refine lv_iload hx hb de_M_close_68 (lv_at hl 1 rfl) ?_
                refine lv_if_eq (tgt := 102) hx hb de_M_close_70 (by decide) (fun z => absurd z (by decide)) (fun _ => ?_)
                refine lv_iload hx hb de_M_close_73 (lv_at hl 0 rfl) ?_
                refine lv_aload_n hx hb de_M_close_75 rfl (lv_at hl 2 rfl) ?_
                refine gM_taped C hK h.1 de_M_close_76 ?_
                refine lv_icmp_ge (tgt := 102) hx hb de_M_close_79 (by decide) (fun c_79 => ?_) (fun c_79 => ?_)
                · exact absurd c_79 (nI_ge (show a < S1.2.2 1 by omega) (by omega))
                · refine lv_aload_n hx hb de_M_close_82 rfl (lv_at hl 2 rfl) ?_
                  refine lv_aload_n hx hb de_M_close_83 rfl (lv_at hl 2 rfl) ?_
                  refine gM_tape C hK h.1 de_M_close_84 ?_
                  refine lv_iload hx hb de_M_close_87 (lv_at hl 0 rfl) ?_
                  refine rM_tape hx hb hK h.1 (ix_nI (by omega) (by decide)) de_M_close_89 ?_
                  refine cl_M_isCode C hI1.n h.1 hK hC h.2.2 ⟨Nat.le_of_ble_eq_true rfl, Nat.le_of_ble_eq_true rfl⟩ hl.1 (Nat.le_of_ble_eq_true rfl) de_M_close_90 ⟨Nat.le_of_ble_eq_true rfl, Nat.le_of_ble_eq_true rfl⟩ (fun c_90 => ?_) (fun c_90 => ?_)
                  · refine lv_if_eq (tgt := 102) hx hb de_M_close_93 (by decide) (fun z => absurd z (by decide)) (fun _ => ?_)
                    refine lv_iinc (v := (nI (a + 1))) (lv' := [(5, .int (nI (a + 1))), (4, .int 1), (0, .ref (q 0)), (1, .int b), (2, .long t)]) hx hb de_M_close_96 hl (k := 0) rfl (inc_nI _) (by decide) rfl (fun ls hl => ?_)
                    refine lv_goto (tgt := 68) hx hb de_M_close_99 (by decide) ?_
                    exact ih (a + 1) (by omega) (by rw [← eA, drawI, if_neg c_90]) ls (lv_sub hl [0, 1, 2, 3, 4] rfl)
                  · refine lv_if_eq (tgt := 102) hx hb de_M_close_93 (by decide) (fun _ => ?_) (fun z => absurd z (by decide))
                    exact J102 a (by omega) (by rw [← eA, drawI, if_pos (Classical.not_not.mp c_90)]) ls hl
            refine zi_top (y := nI 0) rfl ?_
            refine lv_istore (lv' := [(5, .int (nI 0)), (4, .int 1), (0, .ref (q 0)), (1, .int b), (2, .long t)]) hx hb de_M_close_66 hl (by decide) rfl (fun ls hl => ?_)
            exact loop (S1.2.2 1) 0 (Nat.zero_add _) rfl ls (lv_sub hl [0, 1, 2, 3, 4] rfl)
      · refine lv_bipush (v := -13) hx hb de_M_close_37 (by decide) ?_
        exact MOi.fin hx hb hr hlk h (⟨S1, by rw [oClose, if_neg (fun z => z c_2), if_neg (fun z => z hgt), eS, ekb, pClose, if_pos c_34], rfl⟩) de_M_close_39
  · refine lv_if_ne (tgt := 11) hx hb de_M_close_5 (by decide) (fun z => absurd z (by decide)) (fun _ => ?_)
    refine lv_bipush (v := -11) hx hb de_M_close_8 (by decide) ?_
    exact MOi.fin hx hb hr hlk h (⟨S, by rw [oClose, if_pos c_2], rfl⟩) de_M_close_10
theorem WM_w {q : Nat → Nat} {cI cJ cZ : ClassId} {S : SS} {t : Int64} (h : (S.2.2 3 + 1) % 3 = 0) : wM q cI cJ cZ (nI (S.2.2 0)) (S.1 0) (S.1 1) (S.2.1 0) (S.1 2) (S.1 3) (S.1 4) (S.2.1 1) (S.1 5) (S.2.1 2) (S.2.1 3 0) (S.1 8 0) 0 (t + 300) (nI (S.2.2 1)) (S.1 6) (nI (S.2.2 2)) (S.1 7) = WM q cI cJ cZ (sN (sL S 3 1 (t + 300)) 3 (S.2.2 3 + 1)) := by
  have e : nI ((S.2.2 3 + 1) % 3) = 0 := by rw [h]; rfl
  show _ = wM q cI cJ cZ _ _ _ _ _ _ _ _ _ _ _ _ (nI ((S.2.2 3 + 1) % 3)) _ _ _ _ _
  rw [e]
  rfl
theorem WM_v {q : Nat → Nat} {cI cJ cZ : ClassId} {S : SS} {w : Nat} (h : (S.2.2 3 + 1) % 3 = w) : wM q cI cJ cZ (nI (S.2.2 0)) (S.1 0) (S.1 1) (S.2.1 0) (S.1 2) (S.1 3) (S.1 4) (S.2.1 1) (S.1 5) (S.2.1 2) (S.2.1 3 0) (S.1 8 0) (nI w) (S.2.1 3 1) (nI (S.2.2 1)) (S.1 6) (nI (S.2.2 2)) (S.1 7) = WM q cI cJ cZ (sN S 3 (S.2.2 3 + 1)) := by
  rw [← h]
  rfl
set_option maxHeartbeats 4000000 in
set_option maxRecDepth 100000 in
theorem ct_M_type (l : Launch) (D : va_G) (q : Nat → Nat) (cI cJ cZ : ClassId) (S : SS) (c0 : Nat) (hI : Inv c0 S) (hc0 : c0 < 1000000) (v : Int32) (t : Int64) : MOi l y_M_type b_M_type 5 1 0 0 [.ref (q 0), .int v, .long t] D (tyM cI cJ cZ) (WM q cI cJ cZ S) none (fun r w => ∃ S', oType S v t = (r, S') ∧ w = WM q cI cJ cZ S') := by
  refine MOi.mk mi_M_type (Nat.le_of_ble_eq_true rfl) ?_
  intro p e s m below meth c ls A C hr hlk hK hC hA h hl
  have hx := C.1
  have hb := C.2.1
  have h : ST D A (wM q cI cJ cZ (nI (S.2.2 0)) (S.1 0) (S.1 1) (S.2.1 0) (S.1 2) (S.1 3) (S.1 4) (S.2.1 1) (S.1 5) (S.2.1 2) (S.2.1 3 0) (S.1 8 0) (nI (S.2.2 3 % 3)) (S.2.1 3 1) (nI (S.2.2 1)) (S.1 6) (nI (S.2.2 2)) (S.1 7)) s.heap s.heap [] := h
  have hl : lv_has ls 5 [(0, .ref (q 0)), (1, .int v), (2, .long t)] := hl
  refine lv_iload_n hx hb de_M_type_0 rfl (lv_at hl 1 rfl) ?_
  refine lv_i2l hx hb de_M_type_1 rfl ?_
  refine lv_lconst (v := 0) hx hb de_M_type_2 (by decide) ?_
  refine lv_ldc2 (v := 999999) hx hb C.2.2.2.1 (C.2.2.2.2 _ kw_298) de_M_type_3 ?_
  refine cl_M_within C ⟨Nat.le_of_ble_eq_true rfl, Nat.le_of_ble_eq_true rfl⟩ hl.1 (Nat.le_of_ble_eq_true rfl) de_M_type_6 ⟨Nat.le_of_ble_eq_true rfl, Nat.le_of_ble_eq_true rfl⟩ (fun c_6 => ?_) (fun c_6 => ?_)
  · refine lv_if_eq (tgt := 20) hx hb de_M_type_9 (by decide) (fun z => absurd z (by decide)) (fun _ => ?_)
    refine lv_aload_n hx hb de_M_type_12 rfl (lv_at hl 0 rfl) ?_
    refine lv_lload_n hx hb de_M_type_13 rfl (lv_at hl 2 rfl) ?_
    refine cl_M_isNoTime C h.1 hK hC h.2.2 ⟨Nat.le_of_ble_eq_true rfl, Nat.le_of_ble_eq_true rfl⟩ hl.1 (Nat.le_of_ble_eq_true rfl) de_M_type_14 ⟨Nat.le_of_ble_eq_true rfl, Nat.le_of_ble_eq_true rfl⟩ (fun c_14 => ?_) (fun c_14 => ?_)
    · refine lv_if_eq (tgt := 23) hx hb de_M_type_17 (by decide) (fun z => absurd z (by decide)) (fun _ => ?_)
      refine lv_bipush (v := -12) hx hb de_M_type_20 (by decide) ?_
      exact MOi.fin hx hb hr hlk h (⟨S, by rw [oType, if_pos (Or.inr c_14)], rfl⟩) de_M_type_22
    · refine lv_if_eq (tgt := 23) hx hb de_M_type_17 (by decide) (fun _ => ?_) (fun z => absurd z (by decide))
      refine lv_aload_n hx hb de_M_type_23 rfl (lv_at hl 0 rfl) ?_
      refine lv_lload_n hx hb de_M_type_24 rfl (lv_at hl 2 rfl) ?_
      have hgt : gdT S t := Classical.not_not.mp c_14
      refine cl_M_pass C hI hgt h hK hC hA ⟨Nat.le_of_ble_eq_true rfl, Nat.le_of_ble_eq_true rfl⟩ hl.1 (Nat.le_of_ble_eq_true rfl) de_M_type_25 ⟨Nat.le_of_ble_eq_true rfl, Nat.le_of_ble_eq_true rfl⟩ (fun H locs h => ?_)
      have hI1 := inv_oPass hI hgt
      have hn1 := oPass_n S t
      have ht1 := oPass_t S t
      obtain ⟨S1, eS⟩ : ∃ S9 : SS, oPass S t = S9 := ⟨_, rfl⟩
      rw [eS] at h hI1 hn1 ht1
      have h : ST D A (wM q cI cJ cZ (nI (S1.2.2 0)) (S1.1 0) (S1.1 1) (S1.2.1 0) (S1.1 2) (S1.1 3) (S1.1 4) (S1.2.1 1) (S1.1 5) (S1.2.1 2) (S1.2.1 3 0) (S1.1 8 0) (nI (S1.2.2 3 % 3)) (S1.2.1 3 1) (nI (S1.2.2 1)) (S1.1 6) (nI (S1.2.2 2)) (S1.1 7)) s.heap H locs := h
      have hn60 := hI1.n
      have hwr := hI1.nw
      refine lv_lload_n hx hb de_M_type_28 rfl (lv_at hl 2 rfl) ?_
      refine lv_aload_n hx hb de_M_type_29 rfl (lv_at hl 0 rfl) ?_
      refine gM_waits C hK h.1 de_M_type_30 ?_
      refine zl_ge (tgt := 39) hx hb de_M_type_33 de_M_type_34 (by decide) (fun c_34 => ?_) (fun c_34 => ?_)
      · have hv0 : 0 ≤ v := by
          have z := c_6.1
          rw [Int64.le_iff_toInt_le, Int32.toInt_toInt64] at z
          exact Int32.le_iff_toInt_le.mpr z
        have J100 : (lastIx (S1.1 4) v (S1.2.2 0) = 0 ∨ ¬ S1.1 1 (lastIx (S1.1 4) v (S1.2.2 0)) = 0) → ∀ ls : Array Slot, lv_has ls 5 [(0, .ref (q 0)), (1, .int v), (2, .long t)] → W p l e (rmOf 1 0 0) s m [Value.ref (q 0), .int v, .long t].toArray below meth c H locs 0 0 (MQ below (va_Qi (fun r w => ∃ S', oType S v t = (r, S') ∧ w = WM q cI cJ cZ S') (PB D A) A) [Value.ref (q 0), .int v, .long t].toArray s 0 0 A) (F0 m 100 ls []) := by
          intro hnf ls hl
          refine lv_aload_n hx hb de_M_type_100 rfl (lv_at hl 0 rfl) ?_
          refine lv_dup hx hb de_M_type_101 rfl ?_
          refine gM_wrong C hK h.1 de_M_type_102 ?_
          refine lv_iconst (v := 1) hx hb de_M_type_105 (by decide) ?_
          refine lv_iadd hx hb de_M_type_106 ?_
          refine zi_top (y := (nI (S1.2.2 3 % 3 + 1))) (nI_1 _) ?_
          refine pM_wrong C hK h de_M_type_107 (fun H locs h => ?_)
          refine lv_aload_n hx hb de_M_type_110 rfl (lv_at hl 0 rfl) ?_
          refine gM_wrong C hK h.1 de_M_type_111 ?_
          refine lv_iconst (v := 3) hx hb de_M_type_114 (by decide) ?_
          refine lv_icmp_ne (tgt := 132) hx hb de_M_type_115 (by decide) (fun c_115 => ?_) (fun c_115 => ?_)
          · have hm3 : ¬ (S1.2.2 3 + 1) % 3 = 0 := fun z => c_115 (by rw [show S1.2.2 3 % 3 + 1 = 3 by omega]; rfl)
            refine lv_iconst (v := 0) hx hb de_M_type_132 (by decide) ?_
            exact MOi.fin hx hb hr hlk h (⟨sN S1 3 (S1.2.2 3 + 1), by rw [oType, if_neg (fun z => z.elim (fun z => z c_6) (fun z => z hgt)), eS, pType, if_neg (fun z => absurd z (Int64.not_lt.mpr c_34)), if_pos hnf, if_neg hm3], by rw [← WM_v (S := S1) (show (S1.2.2 3 + 1) % 3 = S1.2.2 3 % 3 + 1 by omega)]⟩) de_M_type_133
          · have hm3 : (S1.2.2 3 + 1) % 3 = 0 := by have := (nI_eq (b := 3) (by omega) (by decide)).mp c_115; omega
            refine lv_aload_n hx hb de_M_type_118 rfl (lv_at hl 0 rfl) ?_
            refine lv_iconst (v := 0) hx hb de_M_type_119 (by decide) ?_
            refine pM_wrong C hK h de_M_type_120 (fun H locs h => ?_)
            refine lv_aload_n hx hb de_M_type_123 rfl (lv_at hl 0 rfl) ?_
            refine lv_lload_n hx hb de_M_type_124 rfl (lv_at hl 2 rfl) ?_
            refine lv_ldc2 (v := 300) hx hb C.2.2.2.1 (C.2.2.2.2 _ kw_343) de_M_type_125 ?_
            refine lv_ladd hx hb de_M_type_128 ?_
            refine pM_waits C hK h de_M_type_129 (fun H locs h => ?_)
            refine lv_iconst (v := 0) hx hb de_M_type_132 (by decide) ?_
            exact MOi.fin hx hb hr hlk h (⟨sN (sL S1 3 1 (t + 300)) 3 (S1.2.2 3 + 1), by rw [oType, if_neg (fun z => z.elim (fun z => z c_6) (fun z => z hgt)), eS, pType, if_neg (fun z => absurd z (Int64.not_lt.mpr c_34)), if_pos hnf, if_pos hm3], by rw [← WM_w hm3]⟩) de_M_type_133
        have loop : ∀ (r j : Nat), j + r = S1.2.2 0 → (∀ i, 1 ≤ i → i ≤ j → ¬ (S1.1 4 i = v ∧ S1.1 1 i = 0)) → ∀ ls : Array Slot, lv_has ls 5 [(4, .int (nI (j + 1))), (0, .ref (q 0)), (1, .int v), (2, .long t)] → W p l e (rmOf 1 0 0) s m [Value.ref (q 0), .int v, .long t].toArray below meth c H locs 0 0 (MQ below (va_Qi (fun r w => ∃ S', oType S v t = (r, S') ∧ w = WM q cI cJ cZ S') (PB D A) A) [Value.ref (q 0), .int v, .long t].toArray s 0 0 A) (F0 m 42 ls []) := by
          intro r
          induction r with
          | zero =>
            intro j hj hi ls hl
            refine lv_iload hx hb de_M_type_42 (lv_at hl 0 rfl) ?_
            refine lv_aload_n hx hb de_M_type_44 rfl (lv_at hl 1 rfl) ?_
            refine gM_boxes C hK h.1 de_M_type_45 ?_
            refine lv_icmp_gt (tgt := 100) hx hb de_M_type_48 (by decide) (fun c_48 => ?_) (fun c_48 => ?_)
            · refine J100 ?_ ls (lv_sub hl [1, 2, 3] rfl)
              by_cases h0 : lastIx (S1.1 4) v (S1.2.2 0) = 0
              · exact Or.inl h0
              · exact Or.inr (fun z => hi _ (by omega) (by have := lastIx_le (S1.1 4) v (S1.2.2 0); omega) ⟨lastIx_at h0, z⟩)
            · exact absurd (nI_lt (show S1.2.2 0 < j + 1 by omega) (by omega)) c_48
          | succ r ih =>
            intro j hj hi ls hl
            refine lv_iload hx hb de_M_type_42 (lv_at hl 0 rfl) ?_
            refine lv_aload_n hx hb de_M_type_44 rfl (lv_at hl 1 rfl) ?_
            refine gM_boxes C hK h.1 de_M_type_45 ?_
            refine lv_icmp_gt (tgt := 100) hx hb de_M_type_48 (by decide) (fun c_48 => ?_) (fun c_48 => ?_)
            · exact absurd c_48 (nI_nlt (by omega) (by omega))
            · refine lv_aload_n hx hb de_M_type_51 rfl (lv_at hl 1 rfl) ?_
              refine gM_codes C hK h.1 de_M_type_52 ?_
              refine lv_iload hx hb de_M_type_55 (lv_at hl 0 rfl) ?_
              refine rM_codes hx hb hK h.1 (ix_nI (by omega) (by decide)) de_M_type_57 ?_
              refine lv_iload_n hx hb de_M_type_58 rfl (lv_at hl 2 rfl) ?_
              refine lv_icmp_ne (tgt := 94) hx hb de_M_type_59 (by decide) (fun c_59 => ?_) (fun c_59 => ?_)
              · refine lv_iinc (v := (nI ((j + 1) + 1))) (lv' := [(4, .int (nI ((j + 1) + 1))), (0, .ref (q 0)), (1, .int v), (2, .long t)]) hx hb de_M_type_94 hl (k := 0) rfl (inc_nI _) (by decide) rfl (fun ls hl => ?_)
                refine lv_goto (tgt := 42) hx hb de_M_type_97 (by decide) ?_
                exact ih (j + 1) (by omega) (up1 (P := fun i => ¬ (S1.1 4 i = v ∧ S1.1 1 i = 0)) hi (fun z => c_59 z.1)) ls hl
              · refine lv_aload_n hx hb de_M_type_62 rfl (lv_at hl 1 rfl) ?_
                refine gM_doors C hK h.1 de_M_type_63 ?_
                refine lv_iload hx hb de_M_type_66 (lv_at hl 0 rfl) ?_
                refine rM_doors hx hb hK h.1 (ix_nI (by omega) (by decide)) de_M_type_68 ?_
                refine lv_if_ne (tgt := 94) hx hb de_M_type_69 (by decide) (fun c_69 => ?_) (fun c_69 => ?_)
                · refine lv_iinc (v := (nI ((j + 1) + 1))) (lv' := [(4, .int (nI ((j + 1) + 1))), (0, .ref (q 0)), (1, .int v), (2, .long t)]) hx hb de_M_type_94 hl (k := 0) rfl (inc_nI _) (by decide) rfl (fun ls hl => ?_)
                  refine lv_goto (tgt := 42) hx hb de_M_type_97 (by decide) ?_
                  exact ih (j + 1) (by omega) (up1 (P := fun i => ¬ (S1.1 4 i = v ∧ S1.1 1 i = 0)) hi (fun z => c_69 z.2)) ls hl
                · have huq : lastIx (S1.1 4) v (S1.2.2 0) = j + 1 := lastIx_uq (by omega) (by omega) c_59 (fun i i1 i2 e => hI1.2.2.2.2.1 i (j + 1) i1 i2 (by omega) (by omega) e (by rw [e, c_59]; exact hv0))
                  refine lv_aload_n hx hb de_M_type_72 rfl (lv_at hl 1 rfl) ?_
                  refine lv_iload hx hb de_M_type_73 (lv_at hl 0 rfl) ?_
                  refine cl_M_out C (ix_nI (by omega) (by decide)) h hK hC hA ⟨Nat.le_of_ble_eq_true rfl, Nat.le_of_ble_eq_true rfl⟩ hl.1 (Nat.le_of_ble_eq_true rfl) de_M_type_75 ⟨Nat.le_of_ble_eq_true rfl, Nat.le_of_ble_eq_true rfl⟩ (fun H locs h => ?_)
                  refine lv_pop hx hb de_M_type_78 rfl ?_
                  refine lv_aload_n hx hb de_M_type_79 rfl (lv_at hl 1 rfl) ?_
                  refine lv_iload hx hb de_M_type_80 (lv_at hl 0 rfl) ?_
                  refine lv_iconst (v := 1) hx hb de_M_type_82 (by decide) ?_
                  refine cl_M_open C (ix_nI (by omega) (by decide)) h hK hC hA ⟨Nat.le_of_ble_eq_true rfl, Nat.le_of_ble_eq_true rfl⟩ hl.1 (Nat.le_of_ble_eq_true rfl) de_M_type_83 ⟨Nat.le_of_ble_eq_true rfl, Nat.le_of_ble_eq_true rfl⟩ (fun H locs h => ?_)
                  refine lv_aload_n hx hb de_M_type_86 rfl (lv_at hl 1 rfl) ?_
                  refine lv_iconst (v := 0) hx hb de_M_type_87 (by decide) ?_
                  refine pM_wrong C hK h de_M_type_88 (fun H locs h => ?_)
                  refine lv_iload hx hb de_M_type_91 (lv_at hl 0 rfl) ?_
                  exact MOi.fin hx hb hr hlk h (⟨sN (pOpen (pOut S1 (j + 1)) (j + 1) 1 t) 3 0, by rw [oType, if_neg (fun z => z.elim (fun z => z c_6) (fun z => z hgt)), eS, pType, if_neg (fun z => absurd z (Int64.not_lt.mpr c_34)), huq, if_neg (fun z => z.elim (by omega) (fun z => z c_69))], by rw [← ht1]; rfl⟩) de_M_type_93
        refine lv_iconst (v := 1) hx hb de_M_type_39 (by decide) ?_
        refine zi_top (y := (nI (0 + 1))) (rfl) ?_
        refine lv_istore (lv' := [(4, .int (nI (0 + 1))), (0, .ref (q 0)), (1, .int v), (2, .long t)]) hx hb de_M_type_40 hl (by decide) rfl (fun ls hl => ?_)
        exact loop (S1.2.2 0) 0 (Nat.zero_add _) (fun i i1 i2 => by omega) ls hl
      · refine lv_iconst (v := -1) hx hb de_M_type_37 (by decide) ?_
        exact MOi.fin hx hb hr hlk h (⟨S1, by rw [oType, if_neg (fun z => z.elim (fun z => z c_6) (fun z => z hgt)), eS, pType, if_pos (Int64.not_le.mp c_34)], rfl⟩) de_M_type_38
  · refine lv_if_eq (tgt := 20) hx hb de_M_type_9 (by decide) (fun _ => ?_) (fun z => absurd z (by decide))
    refine lv_bipush (v := -12) hx hb de_M_type_20 (by decide) ?_
    exact MOi.fin hx hb hr hlk h (⟨S, by rw [oType, if_pos (Or.inl c_6)], rfl⟩) de_M_type_22
set_option maxHeartbeats 4000000 in
set_option maxRecDepth 100000 in
theorem ct_M_door (l : Launch) (D : va_G) (q : Nat → Nat) (cI cJ cZ : ClassId) (S : SS) (c0 : Nat) (hI : Inv c0 S) (b ev : Int32) (t : Int64) : MOi l y_M_door b_M_door 7 2 0 0 [.ref (q 0), .int b, .int ev, .long t] D (tyM cI cJ cZ) (WM q cI cJ cZ S) none (fun r w => ∃ S', oDoor S b ev t = (r, S') ∧ w = WM q cI cJ cZ S') := by
  refine MOi.mk mi_M_door (Nat.le_of_ble_eq_true rfl) ?_
  intro p e s m below meth c ls A C hr hlk hK hC hA h hl
  have hx := C.1
  have hb := C.2.1
  have h : ST D A (wM q cI cJ cZ (nI (S.2.2 0)) (S.1 0) (S.1 1) (S.2.1 0) (S.1 2) (S.1 3) (S.1 4) (S.2.1 1) (S.1 5) (S.2.1 2) (S.2.1 3 0) (S.1 8 0) (nI (S.2.2 3 % 3)) (S.2.1 3 1) (nI (S.2.2 1)) (S.1 6) (nI (S.2.2 2)) (S.1 7)) s.heap s.heap [] := h
  have hl : lv_has ls 7 [(0, .ref (q 0)), (1, .int b), (2, .int ev), (3, .long t)] := hl
  refine lv_aload_n hx hb de_M_door_0 rfl (lv_at hl 0 rfl) ?_
  refine lv_iload_n hx hb de_M_door_1 rfl (lv_at hl 1 rfl) ?_
  refine cl_M_isBox C h.1 hK hC h.2.2 ⟨Nat.le_of_ble_eq_true rfl, Nat.le_of_ble_eq_true rfl⟩ hl.1 (Nat.le_of_ble_eq_true rfl) de_M_door_2 ⟨Nat.le_of_ble_eq_true rfl, Nat.le_of_ble_eq_true rfl⟩ (fun c_2 => ?_) (fun c_2 => ?_)
  · refine lv_if_ne (tgt := 11) hx hb de_M_door_5 (by decide) (fun _ => ?_) (fun z => absurd z (by decide))
    refine lv_iload_n hx hb de_M_door_11 rfl (lv_at hl 2 rfl) ?_
    refine lv_i2l hx hb de_M_door_12 rfl ?_
    refine lv_lconst (v := 0) hx hb de_M_door_13 (by decide) ?_
    refine lv_ldc2 (v := 4) hx hb C.2.2.2.1 (C.2.2.2.2 _ kw_352) de_M_door_14 ?_
    refine cl_M_within C ⟨Nat.le_of_ble_eq_true rfl, Nat.le_of_ble_eq_true rfl⟩ hl.1 (Nat.le_of_ble_eq_true rfl) de_M_door_17 ⟨Nat.le_of_ble_eq_true rfl, Nat.le_of_ble_eq_true rfl⟩ (fun c_17 => ?_) (fun c_17 => ?_)
    · refine lv_if_eq (tgt := 31) hx hb de_M_door_20 (by decide) (fun z => absurd z (by decide)) (fun _ => ?_)
      refine lv_aload_n hx hb de_M_door_23 rfl (lv_at hl 0 rfl) ?_
      refine lv_lload_n hx hb de_M_door_24 rfl (lv_at hl 3 rfl) ?_
      refine cl_M_isNoTime C h.1 hK hC h.2.2 ⟨Nat.le_of_ble_eq_true rfl, Nat.le_of_ble_eq_true rfl⟩ hl.1 (Nat.le_of_ble_eq_true rfl) de_M_door_25 ⟨Nat.le_of_ble_eq_true rfl, Nat.le_of_ble_eq_true rfl⟩ (fun c_25 => ?_) (fun c_25 => ?_)
      · refine lv_if_eq (tgt := 34) hx hb de_M_door_28 (by decide) (fun z => absurd z (by decide)) (fun _ => ?_)
        refine lv_bipush (v := -12) hx hb de_M_door_31 (by decide) ?_
        exact MOi.fin hx hb hr hlk h (⟨S, by rw [oDoor, if_neg (fun z => z c_2), if_pos (Or.inr c_25)], rfl⟩) de_M_door_33
      · refine lv_if_eq (tgt := 34) hx hb de_M_door_28 (by decide) (fun _ => ?_) (fun z => absurd z (by decide))
        refine lv_aload_n hx hb de_M_door_34 rfl (lv_at hl 0 rfl) ?_
        refine lv_lload_n hx hb de_M_door_35 rfl (lv_at hl 3 rfl) ?_
        have hgt : gdT S t := Classical.not_not.mp c_25
        refine cl_M_pass C hI hgt h hK hC hA ⟨Nat.le_of_ble_eq_true rfl, Nat.le_of_ble_eq_true rfl⟩ hl.1 (Nat.le_of_ble_eq_true rfl) de_M_door_36 ⟨Nat.le_of_ble_eq_true rfl, Nat.le_of_ble_eq_true rfl⟩ (fun H locs h => ?_)
        have hI1 := inv_oPass hI hgt
        have hn1 := oPass_n S t
        have ht1 := oPass_t S t
        obtain ⟨S1, eS⟩ : ∃ S9 : SS, oPass S t = S9 := ⟨_, rfl⟩
        rw [eS] at h hI1 hn1 ht1
        have h : ST D A (wM q cI cJ cZ (nI (S1.2.2 0)) (S1.1 0) (S1.1 1) (S1.2.1 0) (S1.1 2) (S1.1 3) (S1.1 4) (S1.2.1 1) (S1.1 5) (S1.2.1 2) (S1.2.1 3 0) (S1.1 8 0) (nI (S1.2.2 3 % 3)) (S1.2.1 3 1) (nI (S1.2.2 1)) (S1.1 6) (nI (S1.2.2 2)) (S1.1 7)) s.heap H locs := h
        obtain ⟨kb, ekb, hbx, hk1, hk2, ebk⟩ := gdB_ix c_2 hI.n
        have hn60 := hI.n
        have hk2 : kb ≤ S1.2.2 0 := by omega
        have hok := hI1.ok hk1 hk2
        rcases ev_cases c_17 with rfl | rfl | rfl | rfl | rfl
        · refine lv_aload_n hx hb de_M_door_39 rfl (lv_at hl 0 rfl) ?_
          refine gM_doors C hK h.1 de_M_door_40 ?_
          refine lv_iload_n hx hb de_M_door_43 rfl (lv_at hl 1 rfl) ?_
          refine rM_doors hx hb hK h.1 hbx de_M_door_44 ?_
          refine lv_istore (lv' := [(5, .int (S1.1 1 kb)), (0, .ref (q 0)), (1, .int b), (2, .int 0), (3, .long t)]) hx hb de_M_door_45 hl (by decide) rfl (fun ls hl => ?_)
          refine lv_iload_n hx hb de_M_door_47 rfl (lv_at hl 3 rfl) ?_
          refine lv_if_ne (tgt := 64) hx hb de_M_door_48 (by decide) (fun z => absurd z (by decide)) (fun _ => ?_)
          refine lv_iload hx hb de_M_door_51 (lv_at hl 0 rfl) ?_
          refine lv_if_ne (tgt := 60) hx hb de_M_door_53 (by decide) (fun c_53 => ?_) (fun c_53 => ?_)
          · refine lv_iconst (v := 0) hx hb de_M_door_60 (by decide) ?_
            refine lv_goto (tgt := 156) hx hb de_M_door_61 (by decide) ?_
            refine lv_istore (lv' := [(6, .int 0), (5, .int (S1.1 1 kb)), (0, .ref (q 0)), (1, .int b), (2, .int 0), (3, .long t)]) hx hb de_M_door_156 hl (by decide) rfl (fun ls hl => ?_)
            refine lv_iload hx hb de_M_door_158 (lv_at hl 0 rfl) ?_
            refine lv_if_ne (tgt := 166) hx hb de_M_door_160 (by decide) (fun z => absurd z (by decide)) (fun _ => ?_)
            refine lv_bipush (v := -13) hx hb de_M_door_163 (by decide) ?_
            have hm : mayD S1 kb 0 = false := by simp [mayD, c_53]
            exact MOi.fin hx hb hr hlk h (⟨S1, by rw [oDoor, if_neg (fun z => z c_2), if_neg (fun z => z.elim (fun z => z c_17) (fun z => z hgt)), eS, ekb, pDoor, if_pos hm], rfl⟩) de_M_door_165
          · refine lv_iconst (v := 1) hx hb de_M_door_56 (by decide) ?_
            refine lv_goto (tgt := 156) hx hb de_M_door_57 (by decide) ?_
            refine lv_istore (lv' := [(6, .int 1), (5, .int (S1.1 1 kb)), (0, .ref (q 0)), (1, .int b), (2, .int 0), (3, .long t)]) hx hb de_M_door_156 hl (by decide) rfl (fun ls hl => ?_)
            refine lv_iload hx hb de_M_door_158 (lv_at hl 0 rfl) ?_
            refine lv_if_ne (tgt := 166) hx hb de_M_door_160 (by decide) (fun _ => ?_) (fun z => absurd z (by decide))
            refine lv_iload_n hx hb de_M_door_166 rfl (lv_at hl 4 rfl) ?_
            refine lv_iconst (v := 2) hx hb de_M_door_167 (by decide) ?_
            refine lv_icmp_ge (tgt := 188) hx hb de_M_door_168 (by decide) (fun z => absurd z (by decide)) (fun _ => ?_)
            refine lv_aload_n hx hb de_M_door_171 rfl (lv_at hl 2 rfl) ?_
            refine lv_iload_n hx hb de_M_door_172 rfl (lv_at hl 3 rfl) ?_
            refine lv_iload_n hx hb de_M_door_173 rfl (lv_at hl 4 rfl) ?_
            refine lv_if_ne (tgt := 181) hx hb de_M_door_174 (by decide) (fun z => absurd z (by decide)) (fun _ => ?_)
            refine lv_iconst (v := 1) hx hb de_M_door_177 (by decide) ?_
            refine lv_goto (tgt := 182) hx hb de_M_door_178 (by decide) ?_
            refine cl_M_open C hbx h hK hC hA ⟨Nat.le_of_ble_eq_true rfl, Nat.le_of_ble_eq_true rfl⟩ hl.1 (Nat.le_of_ble_eq_true rfl) de_M_door_182 ⟨Nat.le_of_ble_eq_true rfl, Nat.le_of_ble_eq_true rfl⟩ (fun H locs h => ?_)
            refine lv_goto (tgt := 204) hx hb de_M_door_185 (by decide) ?_
            refine lv_aload_n hx hb de_M_door_204 rfl (lv_at hl 2 rfl) ?_
            refine gM_doors C hK h.1 de_M_door_205 ?_
            refine lv_iload_n hx hb de_M_door_208 rfl (lv_at hl 3 rfl) ?_
            refine rM_doors hx hb hK h.1 hbx de_M_door_209 ?_
            have hm : mayD S1 kb 0 = true := by simp [mayD, c_53]
            refine zi_top (y := 1) (upd_at (f := S1.1 1)) ?_
            exact MOi.fin hx hb hr hlk h (⟨pOpen S1 kb 1 t, by rw [oDoor, if_neg (fun z => z c_2), if_neg (fun z => z.elim (fun z => z c_17) (fun z => z hgt)), eS, ekb, pDoor, if_neg (fun z => by rw [hm] at z; cases z)]; rfl, by rw [← ht1]⟩) de_M_door_210
        · refine lv_aload_n hx hb de_M_door_39 rfl (lv_at hl 0 rfl) ?_
          refine gM_doors C hK h.1 de_M_door_40 ?_
          refine lv_iload_n hx hb de_M_door_43 rfl (lv_at hl 1 rfl) ?_
          refine rM_doors hx hb hK h.1 hbx de_M_door_44 ?_
          refine lv_istore (lv' := [(5, .int (S1.1 1 kb)), (0, .ref (q 0)), (1, .int b), (2, .int 1), (3, .long t)]) hx hb de_M_door_45 hl (by decide) rfl (fun ls hl => ?_)
          refine lv_iload_n hx hb de_M_door_47 rfl (lv_at hl 3 rfl) ?_
          refine lv_if_ne (tgt := 64) hx hb de_M_door_48 (by decide) (fun _ => ?_) (fun z => absurd z (by decide))
          refine lv_iload_n hx hb de_M_door_64 rfl (lv_at hl 3 rfl) ?_
          refine lv_iconst (v := 1) hx hb de_M_door_65 (by decide) ?_
          refine lv_icmp_ne (tgt := 88) hx hb de_M_door_66 (by decide) (fun z => absurd z (by decide)) (fun _ => ?_)
          refine lv_iload hx hb de_M_door_69 (lv_at hl 0 rfl) ?_
          refine lv_if_eq (tgt := 80) hx hb de_M_door_71 (by decide) (fun c_71 => ?_) (fun c_71 => ?_)
          · refine lv_iconst (v := 1) hx hb de_M_door_80 (by decide) ?_
            refine lv_goto (tgt := 156) hx hb de_M_door_81 (by decide) ?_
            refine lv_istore (lv' := [(6, .int 1), (5, .int (S1.1 1 kb)), (0, .ref (q 0)), (1, .int b), (2, .int 1), (3, .long t)]) hx hb de_M_door_156 hl (by decide) rfl (fun ls hl => ?_)
            refine lv_iload hx hb de_M_door_158 (lv_at hl 0 rfl) ?_
            refine lv_if_ne (tgt := 166) hx hb de_M_door_160 (by decide) (fun _ => ?_) (fun z => absurd z (by decide))
            refine lv_iload_n hx hb de_M_door_166 rfl (lv_at hl 4 rfl) ?_
            refine lv_iconst (v := 2) hx hb de_M_door_167 (by decide) ?_
            refine lv_icmp_ge (tgt := 188) hx hb de_M_door_168 (by decide) (fun z => absurd z (by decide)) (fun _ => ?_)
            refine lv_aload_n hx hb de_M_door_171 rfl (lv_at hl 2 rfl) ?_
            refine lv_iload_n hx hb de_M_door_172 rfl (lv_at hl 3 rfl) ?_
            refine lv_iload_n hx hb de_M_door_173 rfl (lv_at hl 4 rfl) ?_
            refine lv_if_ne (tgt := 181) hx hb de_M_door_174 (by decide) (fun _ => ?_) (fun z => absurd z (by decide))
            refine lv_iconst (v := 2) hx hb de_M_door_181 (by decide) ?_
            refine cl_M_open C hbx h hK hC hA ⟨Nat.le_of_ble_eq_true rfl, Nat.le_of_ble_eq_true rfl⟩ hl.1 (Nat.le_of_ble_eq_true rfl) de_M_door_182 ⟨Nat.le_of_ble_eq_true rfl, Nat.le_of_ble_eq_true rfl⟩ (fun H locs h => ?_)
            refine lv_goto (tgt := 204) hx hb de_M_door_185 (by decide) ?_
            refine lv_aload_n hx hb de_M_door_204 rfl (lv_at hl 2 rfl) ?_
            refine gM_doors C hK h.1 de_M_door_205 ?_
            refine lv_iload_n hx hb de_M_door_208 rfl (lv_at hl 3 rfl) ?_
            refine rM_doors hx hb hK h.1 hbx de_M_door_209 ?_
            have hm : mayD S1 kb 1 = true := by simp [mayD, c_71]
            refine zi_top (y := 2) (upd_at (f := S1.1 1)) ?_
            exact MOi.fin hx hb hr hlk h (⟨pOpen S1 kb 2 t, by rw [oDoor, if_neg (fun z => z c_2), if_neg (fun z => z.elim (fun z => z c_17) (fun z => z hgt)), eS, ekb, pDoor, if_neg (fun z => by rw [hm] at z; cases z)]; rfl, by rw [← ht1]⟩) de_M_door_210
          · refine lv_iload hx hb de_M_door_74 (lv_at hl 0 rfl) ?_
            refine lv_iconst (v := 1) hx hb de_M_door_76 (by decide) ?_
            refine lv_icmp_ne (tgt := 84) hx hb de_M_door_77 (by decide) (fun c_77 => ?_) (fun c_77 => ?_)
            · refine lv_iconst (v := 0) hx hb de_M_door_84 (by decide) ?_
              refine lv_goto (tgt := 156) hx hb de_M_door_85 (by decide) ?_
              refine lv_istore (lv' := [(6, .int 0), (5, .int (S1.1 1 kb)), (0, .ref (q 0)), (1, .int b), (2, .int 1), (3, .long t)]) hx hb de_M_door_156 hl (by decide) rfl (fun ls hl => ?_)
              refine lv_iload hx hb de_M_door_158 (lv_at hl 0 rfl) ?_
              refine lv_if_ne (tgt := 166) hx hb de_M_door_160 (by decide) (fun z => absurd z (by decide)) (fun _ => ?_)
              refine lv_bipush (v := -13) hx hb de_M_door_163 (by decide) ?_
              have hm : mayD S1 kb 1 = false := by simp [mayD, c_71, c_77]
              exact MOi.fin hx hb hr hlk h (⟨S1, by rw [oDoor, if_neg (fun z => z c_2), if_neg (fun z => z.elim (fun z => z c_17) (fun z => z hgt)), eS, ekb, pDoor, if_pos hm], rfl⟩) de_M_door_165
            · refine lv_iconst (v := 1) hx hb de_M_door_80 (by decide) ?_
              refine lv_goto (tgt := 156) hx hb de_M_door_81 (by decide) ?_
              refine lv_istore (lv' := [(6, .int 1), (5, .int (S1.1 1 kb)), (0, .ref (q 0)), (1, .int b), (2, .int 1), (3, .long t)]) hx hb de_M_door_156 hl (by decide) rfl (fun ls hl => ?_)
              refine lv_iload hx hb de_M_door_158 (lv_at hl 0 rfl) ?_
              refine lv_if_ne (tgt := 166) hx hb de_M_door_160 (by decide) (fun _ => ?_) (fun z => absurd z (by decide))
              refine lv_iload_n hx hb de_M_door_166 rfl (lv_at hl 4 rfl) ?_
              refine lv_iconst (v := 2) hx hb de_M_door_167 (by decide) ?_
              refine lv_icmp_ge (tgt := 188) hx hb de_M_door_168 (by decide) (fun z => absurd z (by decide)) (fun _ => ?_)
              refine lv_aload_n hx hb de_M_door_171 rfl (lv_at hl 2 rfl) ?_
              refine lv_iload_n hx hb de_M_door_172 rfl (lv_at hl 3 rfl) ?_
              refine lv_iload_n hx hb de_M_door_173 rfl (lv_at hl 4 rfl) ?_
              refine lv_if_ne (tgt := 181) hx hb de_M_door_174 (by decide) (fun _ => ?_) (fun z => absurd z (by decide))
              refine lv_iconst (v := 2) hx hb de_M_door_181 (by decide) ?_
              refine cl_M_open C hbx h hK hC hA ⟨Nat.le_of_ble_eq_true rfl, Nat.le_of_ble_eq_true rfl⟩ hl.1 (Nat.le_of_ble_eq_true rfl) de_M_door_182 ⟨Nat.le_of_ble_eq_true rfl, Nat.le_of_ble_eq_true rfl⟩ (fun H locs h => ?_)
              refine lv_goto (tgt := 204) hx hb de_M_door_185 (by decide) ?_
              refine lv_aload_n hx hb de_M_door_204 rfl (lv_at hl 2 rfl) ?_
              refine gM_doors C hK h.1 de_M_door_205 ?_
              refine lv_iload_n hx hb de_M_door_208 rfl (lv_at hl 3 rfl) ?_
              refine rM_doors hx hb hK h.1 hbx de_M_door_209 ?_
              have hm : mayD S1 kb 1 = true := by simp [mayD, c_77]
              refine zi_top (y := 2) (upd_at (f := S1.1 1)) ?_
              exact MOi.fin hx hb hr hlk h (⟨pOpen S1 kb 2 t, by rw [oDoor, if_neg (fun z => z c_2), if_neg (fun z => z.elim (fun z => z c_17) (fun z => z hgt)), eS, ekb, pDoor, if_neg (fun z => by rw [hm] at z; cases z)]; rfl, by rw [← ht1]⟩) de_M_door_210
        · refine lv_aload_n hx hb de_M_door_39 rfl (lv_at hl 0 rfl) ?_
          refine gM_doors C hK h.1 de_M_door_40 ?_
          refine lv_iload_n hx hb de_M_door_43 rfl (lv_at hl 1 rfl) ?_
          refine rM_doors hx hb hK h.1 hbx de_M_door_44 ?_
          refine lv_istore (lv' := [(5, .int (S1.1 1 kb)), (0, .ref (q 0)), (1, .int b), (2, .int 2), (3, .long t)]) hx hb de_M_door_45 hl (by decide) rfl (fun ls hl => ?_)
          refine lv_iload_n hx hb de_M_door_47 rfl (lv_at hl 3 rfl) ?_
          refine lv_if_ne (tgt := 64) hx hb de_M_door_48 (by decide) (fun _ => ?_) (fun z => absurd z (by decide))
          refine lv_iload_n hx hb de_M_door_64 rfl (lv_at hl 3 rfl) ?_
          refine lv_iconst (v := 1) hx hb de_M_door_65 (by decide) ?_
          refine lv_icmp_ne (tgt := 88) hx hb de_M_door_66 (by decide) (fun _ => ?_) (fun z => absurd z (by decide))
          refine lv_iload_n hx hb de_M_door_88 rfl (lv_at hl 3 rfl) ?_
          refine lv_iconst (v := 2) hx hb de_M_door_89 (by decide) ?_
          refine lv_icmp_ne (tgt := 107) hx hb de_M_door_90 (by decide) (fun z => absurd z (by decide)) (fun _ => ?_)
          refine lv_iload hx hb de_M_door_93 (lv_at hl 0 rfl) ?_
          refine lv_iconst (v := 2) hx hb de_M_door_95 (by decide) ?_
          refine lv_icmp_ne (tgt := 103) hx hb de_M_door_96 (by decide) (fun c_96 => ?_) (fun c_96 => ?_)
          · refine lv_iconst (v := 0) hx hb de_M_door_103 (by decide) ?_
            refine lv_goto (tgt := 156) hx hb de_M_door_104 (by decide) ?_
            refine lv_istore (lv' := [(6, .int 0), (5, .int (S1.1 1 kb)), (0, .ref (q 0)), (1, .int b), (2, .int 2), (3, .long t)]) hx hb de_M_door_156 hl (by decide) rfl (fun ls hl => ?_)
            refine lv_iload hx hb de_M_door_158 (lv_at hl 0 rfl) ?_
            refine lv_if_ne (tgt := 166) hx hb de_M_door_160 (by decide) (fun z => absurd z (by decide)) (fun _ => ?_)
            refine lv_bipush (v := -13) hx hb de_M_door_163 (by decide) ?_
            have hm : mayD S1 kb 2 = false := by simp [mayD, c_96]
            exact MOi.fin hx hb hr hlk h (⟨S1, by rw [oDoor, if_neg (fun z => z c_2), if_neg (fun z => z.elim (fun z => z c_17) (fun z => z hgt)), eS, ekb, pDoor, if_pos hm], rfl⟩) de_M_door_165
          · refine lv_iconst (v := 1) hx hb de_M_door_99 (by decide) ?_
            refine lv_goto (tgt := 156) hx hb de_M_door_100 (by decide) ?_
            refine lv_istore (lv' := [(6, .int 1), (5, .int (S1.1 1 kb)), (0, .ref (q 0)), (1, .int b), (2, .int 2), (3, .long t)]) hx hb de_M_door_156 hl (by decide) rfl (fun ls hl => ?_)
            refine lv_iload hx hb de_M_door_158 (lv_at hl 0 rfl) ?_
            refine lv_if_ne (tgt := 166) hx hb de_M_door_160 (by decide) (fun _ => ?_) (fun z => absurd z (by decide))
            refine lv_iload_n hx hb de_M_door_166 rfl (lv_at hl 4 rfl) ?_
            refine lv_iconst (v := 2) hx hb de_M_door_167 (by decide) ?_
            refine lv_icmp_ge (tgt := 188) hx hb de_M_door_168 (by decide) (fun _ => ?_) (fun z => absurd z (by decide))
            refine lv_aload_n hx hb de_M_door_188 rfl (lv_at hl 2 rfl) ?_
            refine gM_doors C hK h.1 de_M_door_189 ?_
            refine lv_iload_n hx hb de_M_door_192 rfl (lv_at hl 3 rfl) ?_
            refine lv_iload_n hx hb de_M_door_193 rfl (lv_at hl 4 rfl) ?_
            refine lv_iconst (v := 3) hx hb de_M_door_194 (by decide) ?_
            refine lv_icmp_ne (tgt := 202) hx hb de_M_door_195 (by decide) (fun _ => ?_) (fun z => absurd z (by decide))
            refine lv_iconst (v := 0) hx hb de_M_door_202 (by decide) ?_
            refine sM_doors hx hb hK h hbx de_M_door_203 (fun H locs h => ?_)
            refine lv_aload_n hx hb de_M_door_204 rfl (lv_at hl 2 rfl) ?_
            refine gM_doors C hK h.1 de_M_door_205 ?_
            refine lv_iload_n hx hb de_M_door_208 rfl (lv_at hl 3 rfl) ?_
            refine rM_doors hx hb hK h.1 hbx de_M_door_209 ?_
            have hm : mayD S1 kb 2 = true := by simp [mayD, c_96]
            refine zi_top (y := 0) (upd_at (f := S1.1 1)) ?_
            exact MOi.fin hx hb hr hlk h (⟨sI S1 1 kb 0, by rw [oDoor, if_neg (fun z => z c_2), if_neg (fun z => z.elim (fun z => z c_17) (fun z => z hgt)), eS, ekb, pDoor, if_neg (fun z => by rw [hm] at z; cases z)]; rfl, rfl⟩) de_M_door_210
        · refine lv_aload_n hx hb de_M_door_39 rfl (lv_at hl 0 rfl) ?_
          refine gM_doors C hK h.1 de_M_door_40 ?_
          refine lv_iload_n hx hb de_M_door_43 rfl (lv_at hl 1 rfl) ?_
          refine rM_doors hx hb hK h.1 hbx de_M_door_44 ?_
          refine lv_istore (lv' := [(5, .int (S1.1 1 kb)), (0, .ref (q 0)), (1, .int b), (2, .int 3), (3, .long t)]) hx hb de_M_door_45 hl (by decide) rfl (fun ls hl => ?_)
          refine lv_iload_n hx hb de_M_door_47 rfl (lv_at hl 3 rfl) ?_
          refine lv_if_ne (tgt := 64) hx hb de_M_door_48 (by decide) (fun _ => ?_) (fun z => absurd z (by decide))
          refine lv_iload_n hx hb de_M_door_64 rfl (lv_at hl 3 rfl) ?_
          refine lv_iconst (v := 1) hx hb de_M_door_65 (by decide) ?_
          refine lv_icmp_ne (tgt := 88) hx hb de_M_door_66 (by decide) (fun _ => ?_) (fun z => absurd z (by decide))
          refine lv_iload_n hx hb de_M_door_88 rfl (lv_at hl 3 rfl) ?_
          refine lv_iconst (v := 2) hx hb de_M_door_89 (by decide) ?_
          refine lv_icmp_ne (tgt := 107) hx hb de_M_door_90 (by decide) (fun _ => ?_) (fun z => absurd z (by decide))
          refine lv_iload_n hx hb de_M_door_107 rfl (lv_at hl 3 rfl) ?_
          refine lv_iconst (v := 3) hx hb de_M_door_108 (by decide) ?_
          refine lv_icmp_ne (tgt := 145) hx hb de_M_door_109 (by decide) (fun z => absurd z (by decide)) (fun _ => ?_)
          refine lv_iload hx hb de_M_door_112 (lv_at hl 0 rfl) ?_
          refine lv_if_ne (tgt := 141) hx hb de_M_door_114 (by decide) (fun c_114 => ?_) (fun c_114 => ?_)
          · refine lv_iconst (v := 0) hx hb de_M_door_141 (by decide) ?_
            refine lv_goto (tgt := 156) hx hb de_M_door_142 (by decide) ?_
            refine lv_istore (lv' := [(6, .int 0), (5, .int (S1.1 1 kb)), (0, .ref (q 0)), (1, .int b), (2, .int 3), (3, .long t)]) hx hb de_M_door_156 hl (by decide) rfl (fun ls hl => ?_)
            refine lv_iload hx hb de_M_door_158 (lv_at hl 0 rfl) ?_
            refine lv_if_ne (tgt := 166) hx hb de_M_door_160 (by decide) (fun z => absurd z (by decide)) (fun _ => ?_)
            refine lv_bipush (v := -13) hx hb de_M_door_163 (by decide) ?_
            have hm : mayD S1 kb 3 = false := by simp [mayD, c_114]
            exact MOi.fin hx hb hr hlk h (⟨S1, by rw [oDoor, if_neg (fun z => z c_2), if_neg (fun z => z.elim (fun z => z c_17) (fun z => z hgt)), eS, ekb, pDoor, if_pos hm], rfl⟩) de_M_door_165
          · refine lv_aload_n hx hb de_M_door_117 rfl (lv_at hl 1 rfl) ?_
            refine gM_items C hK h.1 de_M_door_118 ?_
            refine lv_iload_n hx hb de_M_door_121 rfl (lv_at hl 2 rfl) ?_
            refine rM_items hx hb hK h.1 hbx de_M_door_122 ?_
            refine lv_if_ne (tgt := 141) hx hb de_M_door_123 (by decide) (fun c_123 => ?_) (fun c_123 => ?_)
            · refine lv_iconst (v := 0) hx hb de_M_door_141 (by decide) ?_
              refine lv_goto (tgt := 156) hx hb de_M_door_142 (by decide) ?_
              refine lv_istore (lv' := [(6, .int 0), (5, .int (S1.1 1 kb)), (0, .ref (q 0)), (1, .int b), (2, .int 3), (3, .long t)]) hx hb de_M_door_156 hl (by decide) rfl (fun ls hl => ?_)
              refine lv_iload hx hb de_M_door_158 (lv_at hl 0 rfl) ?_
              refine lv_if_ne (tgt := 166) hx hb de_M_door_160 (by decide) (fun z => absurd z (by decide)) (fun _ => ?_)
              refine lv_bipush (v := -13) hx hb de_M_door_163 (by decide) ?_
              have hm : mayD S1 kb 3 = false := by simp [mayD, c_123]
              exact MOi.fin hx hb hr hlk h (⟨S1, by rw [oDoor, if_neg (fun z => z c_2), if_neg (fun z => z.elim (fun z => z c_17) (fun z => z hgt)), eS, ekb, pDoor, if_pos hm], rfl⟩) de_M_door_165
            · refine lv_aload_n hx hb de_M_door_126 rfl (lv_at hl 1 rfl) ?_
              refine gM_kept C hK h.1 de_M_door_127 ?_
              refine lv_iload_n hx hb de_M_door_130 rfl (lv_at hl 2 rfl) ?_
              refine rM_kept hx hb hK h.1 hbx de_M_door_131 ?_
              refine lv_lconst (v := 0) hx hb de_M_door_132 (by decide) ?_
              refine zl_ne (tgt := 141) hx hb de_M_door_133 de_M_door_134 (by decide) (fun c_134 => ?_) (fun c_134 => ?_)
              · refine lv_iconst (v := 0) hx hb de_M_door_141 (by decide) ?_
                refine lv_goto (tgt := 156) hx hb de_M_door_142 (by decide) ?_
                refine lv_istore (lv' := [(6, .int 0), (5, .int (S1.1 1 kb)), (0, .ref (q 0)), (1, .int b), (2, .int 3), (3, .long t)]) hx hb de_M_door_156 hl (by decide) rfl (fun ls hl => ?_)
                refine lv_iload hx hb de_M_door_158 (lv_at hl 0 rfl) ?_
                refine lv_if_ne (tgt := 166) hx hb de_M_door_160 (by decide) (fun z => absurd z (by decide)) (fun _ => ?_)
                refine lv_bipush (v := -13) hx hb de_M_door_163 (by decide) ?_
                have hm : mayD S1 kb 3 = false := by simp [mayD, c_134]
                exact MOi.fin hx hb hr hlk h (⟨S1, by rw [oDoor, if_neg (fun z => z c_2), if_neg (fun z => z.elim (fun z => z c_17) (fun z => z hgt)), eS, ekb, pDoor, if_pos hm], rfl⟩) de_M_door_165
              · refine lv_iconst (v := 1) hx hb de_M_door_137 (by decide) ?_
                refine lv_goto (tgt := 156) hx hb de_M_door_138 (by decide) ?_
                refine lv_istore (lv' := [(6, .int 1), (5, .int (S1.1 1 kb)), (0, .ref (q 0)), (1, .int b), (2, .int 3), (3, .long t)]) hx hb de_M_door_156 hl (by decide) rfl (fun ls hl => ?_)
                refine lv_iload hx hb de_M_door_158 (lv_at hl 0 rfl) ?_
                refine lv_if_ne (tgt := 166) hx hb de_M_door_160 (by decide) (fun _ => ?_) (fun z => absurd z (by decide))
                refine lv_iload_n hx hb de_M_door_166 rfl (lv_at hl 4 rfl) ?_
                refine lv_iconst (v := 2) hx hb de_M_door_167 (by decide) ?_
                refine lv_icmp_ge (tgt := 188) hx hb de_M_door_168 (by decide) (fun _ => ?_) (fun z => absurd z (by decide))
                refine lv_aload_n hx hb de_M_door_188 rfl (lv_at hl 2 rfl) ?_
                refine gM_doors C hK h.1 de_M_door_189 ?_
                refine lv_iload_n hx hb de_M_door_192 rfl (lv_at hl 3 rfl) ?_
                refine lv_iload_n hx hb de_M_door_193 rfl (lv_at hl 4 rfl) ?_
                refine lv_iconst (v := 3) hx hb de_M_door_194 (by decide) ?_
                refine lv_icmp_ne (tgt := 202) hx hb de_M_door_195 (by decide) (fun z => absurd z (by decide)) (fun _ => ?_)
                refine lv_iconst (v := 3) hx hb de_M_door_198 (by decide) ?_
                refine lv_goto (tgt := 203) hx hb de_M_door_199 (by decide) ?_
                refine sM_doors hx hb hK h hbx de_M_door_203 (fun H locs h => ?_)
                refine lv_aload_n hx hb de_M_door_204 rfl (lv_at hl 2 rfl) ?_
                refine gM_doors C hK h.1 de_M_door_205 ?_
                refine lv_iload_n hx hb de_M_door_208 rfl (lv_at hl 3 rfl) ?_
                refine rM_doors hx hb hK h.1 hbx de_M_door_209 ?_
                have hm : mayD S1 kb 3 = true := by simp [mayD, c_114, c_123, c_134]
                refine zi_top (y := 3) (upd_at (f := S1.1 1)) ?_
                exact MOi.fin hx hb hr hlk h (⟨sI S1 1 kb 3, by rw [oDoor, if_neg (fun z => z c_2), if_neg (fun z => z.elim (fun z => z c_17) (fun z => z hgt)), eS, ekb, pDoor, if_neg (fun z => by rw [hm] at z; cases z)]; rfl, rfl⟩) de_M_door_210
        · refine lv_aload_n hx hb de_M_door_39 rfl (lv_at hl 0 rfl) ?_
          refine gM_doors C hK h.1 de_M_door_40 ?_
          refine lv_iload_n hx hb de_M_door_43 rfl (lv_at hl 1 rfl) ?_
          refine rM_doors hx hb hK h.1 hbx de_M_door_44 ?_
          refine lv_istore (lv' := [(5, .int (S1.1 1 kb)), (0, .ref (q 0)), (1, .int b), (2, .int 4), (3, .long t)]) hx hb de_M_door_45 hl (by decide) rfl (fun ls hl => ?_)
          refine lv_iload_n hx hb de_M_door_47 rfl (lv_at hl 3 rfl) ?_
          refine lv_if_ne (tgt := 64) hx hb de_M_door_48 (by decide) (fun _ => ?_) (fun z => absurd z (by decide))
          refine lv_iload_n hx hb de_M_door_64 rfl (lv_at hl 3 rfl) ?_
          refine lv_iconst (v := 1) hx hb de_M_door_65 (by decide) ?_
          refine lv_icmp_ne (tgt := 88) hx hb de_M_door_66 (by decide) (fun _ => ?_) (fun z => absurd z (by decide))
          refine lv_iload_n hx hb de_M_door_88 rfl (lv_at hl 3 rfl) ?_
          refine lv_iconst (v := 2) hx hb de_M_door_89 (by decide) ?_
          refine lv_icmp_ne (tgt := 107) hx hb de_M_door_90 (by decide) (fun _ => ?_) (fun z => absurd z (by decide))
          refine lv_iload_n hx hb de_M_door_107 rfl (lv_at hl 3 rfl) ?_
          refine lv_iconst (v := 3) hx hb de_M_door_108 (by decide) ?_
          refine lv_icmp_ne (tgt := 145) hx hb de_M_door_109 (by decide) (fun _ => ?_) (fun z => absurd z (by decide))
          refine lv_iload hx hb de_M_door_145 (lv_at hl 0 rfl) ?_
          refine lv_iconst (v := 3) hx hb de_M_door_147 (by decide) ?_
          refine lv_icmp_ne (tgt := 155) hx hb de_M_door_148 (by decide) (fun c_148 => ?_) (fun c_148 => ?_)
          · refine lv_iconst (v := 0) hx hb de_M_door_155 (by decide) ?_
            refine lv_istore (lv' := [(6, .int 0), (5, .int (S1.1 1 kb)), (0, .ref (q 0)), (1, .int b), (2, .int 4), (3, .long t)]) hx hb de_M_door_156 hl (by decide) rfl (fun ls hl => ?_)
            refine lv_iload hx hb de_M_door_158 (lv_at hl 0 rfl) ?_
            refine lv_if_ne (tgt := 166) hx hb de_M_door_160 (by decide) (fun z => absurd z (by decide)) (fun _ => ?_)
            refine lv_bipush (v := -13) hx hb de_M_door_163 (by decide) ?_
            have hm : mayD S1 kb 4 = false := by simp [mayD, c_148]
            exact MOi.fin hx hb hr hlk h (⟨S1, by rw [oDoor, if_neg (fun z => z c_2), if_neg (fun z => z.elim (fun z => z c_17) (fun z => z hgt)), eS, ekb, pDoor, if_pos hm], rfl⟩) de_M_door_165
          · refine lv_iconst (v := 1) hx hb de_M_door_151 (by decide) ?_
            refine lv_goto (tgt := 156) hx hb de_M_door_152 (by decide) ?_
            refine lv_istore (lv' := [(6, .int 1), (5, .int (S1.1 1 kb)), (0, .ref (q 0)), (1, .int b), (2, .int 4), (3, .long t)]) hx hb de_M_door_156 hl (by decide) rfl (fun ls hl => ?_)
            refine lv_iload hx hb de_M_door_158 (lv_at hl 0 rfl) ?_
            refine lv_if_ne (tgt := 166) hx hb de_M_door_160 (by decide) (fun _ => ?_) (fun z => absurd z (by decide))
            refine lv_iload_n hx hb de_M_door_166 rfl (lv_at hl 4 rfl) ?_
            refine lv_iconst (v := 2) hx hb de_M_door_167 (by decide) ?_
            refine lv_icmp_ge (tgt := 188) hx hb de_M_door_168 (by decide) (fun _ => ?_) (fun z => absurd z (by decide))
            refine lv_aload_n hx hb de_M_door_188 rfl (lv_at hl 2 rfl) ?_
            refine gM_doors C hK h.1 de_M_door_189 ?_
            refine lv_iload_n hx hb de_M_door_192 rfl (lv_at hl 3 rfl) ?_
            refine lv_iload_n hx hb de_M_door_193 rfl (lv_at hl 4 rfl) ?_
            refine lv_iconst (v := 3) hx hb de_M_door_194 (by decide) ?_
            refine lv_icmp_ne (tgt := 202) hx hb de_M_door_195 (by decide) (fun _ => ?_) (fun z => absurd z (by decide))
            refine lv_iconst (v := 0) hx hb de_M_door_202 (by decide) ?_
            refine sM_doors hx hb hK h hbx de_M_door_203 (fun H locs h => ?_)
            refine lv_aload_n hx hb de_M_door_204 rfl (lv_at hl 2 rfl) ?_
            refine gM_doors C hK h.1 de_M_door_205 ?_
            refine lv_iload_n hx hb de_M_door_208 rfl (lv_at hl 3 rfl) ?_
            refine rM_doors hx hb hK h.1 hbx de_M_door_209 ?_
            have hm : mayD S1 kb 4 = true := by simp [mayD, c_148]
            refine zi_top (y := 0) (upd_at (f := S1.1 1)) ?_
            exact MOi.fin hx hb hr hlk h (⟨sI S1 1 kb 0, by rw [oDoor, if_neg (fun z => z c_2), if_neg (fun z => z.elim (fun z => z c_17) (fun z => z hgt)), eS, ekb, pDoor, if_neg (fun z => by rw [hm] at z; cases z)]; rfl, rfl⟩) de_M_door_210
    · refine lv_if_eq (tgt := 31) hx hb de_M_door_20 (by decide) (fun _ => ?_) (fun z => absurd z (by decide))
      refine lv_bipush (v := -12) hx hb de_M_door_31 (by decide) ?_
      exact MOi.fin hx hb hr hlk h (⟨S, by rw [oDoor, if_neg (fun z => z c_2), if_pos (Or.inl c_17)], rfl⟩) de_M_door_33
  · refine lv_if_ne (tgt := 11) hx hb de_M_door_5 (by decide) (fun z => absurd z (by decide)) (fun _ => ?_)
    refine lv_bipush (v := -11) hx hb de_M_door_8 (by decide) ?_
    exact MOi.fin hx hb hr hlk h (⟨S, by rw [oDoor, if_pos c_2], rfl⟩) de_M_door_10
end
section
/-! ===== every operation keeps what holds of every state ===== -/
def smB (S' S : SS) (j : Nat) : Prop := (S'.1 0 j = S.1 0 j ∧ S'.1 1 j = S.1 1 j ∧ S'.1 2 j = S.1 2 j ∧ S'.1 3 j = S.1 3 j ∧ S'.1 4 j = S.1 4 j ∧ S'.1 5 j = S.1 5 j) ∧ S'.2.1 0 j = S.2.1 0 j ∧ S'.2.1 1 j = S.2.1 1 j ∧ S'.2.1 2 j = S.2.1 2 j
theorem Inv.mono {c c' : Nat} {S : SS} (h : Inv c S) (hc : c ≤ c') : Inv c' S := ⟨⟨h.1.1, h.1.2.1, h.1.2.2.1, Nat.le_trans h.1.2.2.2 hc⟩, h.2⟩
theorem Inv.ui {c : Nat} {S : SS} (h : Inv c S) {j k : Nat} (j1 : 1 ≤ j) (j2 : j ≤ S.2.2 0) (k1 : 1 ≤ k) (k2 : k ≤ S.2.2 0) (hne : j ≠ k) (e : S.1 3 j = S.1 3 k) : S.1 3 k = 0 :=
  Classical.not_not.mp (fun z => hne (h.2.2.2.1 j k j1 j2 k1 k2 e (by rw [e]; exact z)))
theorem Inv.uc {c : Nat} {S : SS} (h : Inv c S) {j k : Nat} (j1 : 1 ≤ j) (j2 : j ≤ S.2.2 0) (k1 : 1 ≤ k) (k2 : k ≤ S.2.2 0) (hne : j ≠ k) (e : S.1 4 j = S.1 4 k) : S.1 4 k < 0 :=
  Int32.not_le.mp (fun z => hne (h.2.2.2.2.1 j k j1 j2 k1 k2 e (by rw [e]; exact z)))
/-- one box changes -/
theorem Inv.box1 {c c' : Nat} {S S' : SS} {k : Nat} (h : Inv c S) (h1 : 1 ≤ k) (h2 : k ≤ S.2.2 0) (hN0 : S'.2.2 0 = S.2.2 0) (hN1 : S'.2.2 1 ≤ 200) (hN2 : S'.2.2 2 ≤ 100) (hN3 : S'.2.2 3 ≤ c') (htm : S'.2.1 3 0 = S.2.1 3 0) (hsm : ∀ j, j ≠ k → smB S' S j) (hok : okB S' k)
    (hui : ∀ j, 1 ≤ j → j ≤ S.2.2 0 → j ≠ k → S.1 3 j = S'.1 3 k → S'.1 3 k = 0) (huc : ∀ j, 1 ≤ j → j ≤ S.2.2 0 → j ≠ k → S.1 4 j = S'.1 4 k → S'.1 4 k < 0) (htp : ∀ a, a < S'.2.2 1 → 0 ≤ S'.1 6 a) : Inv c' S' := by
  refine ⟨⟨by rw [hN0]; exact h.n, hN1, hN2, hN3⟩, by rw [htm]; exact h.2.1, ?_, ?_, ?_, ?_, htp⟩
  · intro j j1 j2
    by_cases hj : j = k
    · rw [hj]; exact hok
    · rw [hN0] at j2
      obtain ⟨⟨s0, s1, s2, s3, s4, s5⟩, t0, t1, t2⟩ := hsm j hj
      have := h.ok j1 j2
      unfold okB at this ⊢
      rw [s1, s3, s4, s5, t2]
      exact this
  · intro i j i1 i2 j1 j2 e ne
    rw [hN0] at i2 j2
    by_cases hi : i = k <;> by_cases hj : j = k
    · rw [hi, hj]
    · exfalso
      rw [hi] at e ne
      rw [(hsm j hj).1.2.2.2.1] at e
      exact ne (hui j j1 j2 hj e.symm)
    · exfalso
      rw [hj] at e
      have e2 := e
      rw [(hsm i hi).1.2.2.2.1] at e2
      exact ne (e.trans (hui i i1 i2 hi e2))
    · rw [(hsm i hi).1.2.2.2.1, (hsm j hj).1.2.2.2.1] at e
      rw [(hsm i hi).1.2.2.2.1] at ne
      exact h.2.2.2.1 i j i1 i2 j1 j2 e ne
  · intro i j i1 i2 j1 j2 e ne
    rw [hN0] at i2 j2
    by_cases hi : i = k <;> by_cases hj : j = k
    · rw [hi, hj]
    · exfalso
      rw [hi] at e ne
      rw [(hsm j hj).1.2.2.2.2.1] at e
      exact absurd ne (Int32.not_le.mpr (huc j j1 j2 hj e.symm))
    · exfalso
      rw [hj] at e
      have e2 := e
      rw [(hsm i hi).1.2.2.2.2.1] at e2
      rw [e] at ne
      exact absurd ne (Int32.not_le.mpr (huc i i1 i2 hi e2))
    · rw [(hsm i hi).1.2.2.2.2.1, (hsm j hj).1.2.2.2.2.1] at e
      rw [(hsm i hi).1.2.2.2.2.1] at ne
      exact h.2.2.2.2.1 i j i1 i2 j1 j2 e ne
  · intro j hj
    rw [hN0] at hj
    obtain ⟨⟨s0, s1, s2, s3, s4, s5⟩, t0, t1, t2⟩ := hsm j (by omega)
    have := h.2.2.2.2.2.1 j hj
    unfold zeB at this ⊢
    rw [s0, s1, s2, s3, s5, t0, t1, t2]
    exact this
theorem inv_S0 : Inv 0 S0 := by
  refine ⟨⟨by decide, by decide, by decide, by decide⟩, ⟨by decide, by decide⟩, fun k h1 h2 => ?_, fun j k j1 j2 => ?_, fun j k j1 j2 => ?_, fun k _ => ⟨rfl, rfl, rfl, rfl, rfl, rfl, rfl, rfl⟩, fun a ha => ?_⟩
  · have : k ≤ 0 := h2
    omega
  · have : j ≤ 0 := j2
    omega
  · have : j ≤ 0 := j2
    omega
  · have : a < 0 := ha
    omega
theorem inv_oBox {c : Nat} {S : SS} (h : Inv c S) (v : Int32) : Inv c (oBox S v).2 := by
  unfold oBox
  split
  · exact h
  split
  · exact h
  next hn =>
    have hz := h.2.2.2.2.2.1 (S.2.2 0 + 1) (by omega)
    have hn60 := h.n
    obtain ⟨z0, z1, z2, z3, z5, l0, l1, l2⟩ := hz
    show Inv c (sN (sI (sI S 0 (S.2.2 0 + 1) v) 4 (S.2.2 0 + 1) (-1)) 0 (S.2.2 0 + 1))
    have c4 : ∀ j, (sN (sI (sI S 0 (S.2.2 0 + 1) v) 4 (S.2.2 0 + 1) (-1)) 0 (S.2.2 0 + 1)).1 4 j = if j = S.2.2 0 + 1 then -1 else S.1 4 j := fun j => rfl
    refine ⟨⟨?_, h.nt, h.nf, h.nw⟩, h.2.1, fun k k1 k2 => ?_, fun i j i1 i2 j1 j2 e ne => ?_, fun i j i1 i2 j1 j2 e ne => ?_, fun k hk => ?_, h.2.2.2.2.2.2⟩
    · show S.2.2 0 + 1 ≤ 60
      omega
    · have k2 : k ≤ S.2.2 0 + 1 := k2
      by_cases hk : k = S.2.2 0 + 1
      · subst hk
        refine ⟨⟨0, by decide, z1⟩, ?_, ?_, Or.inl ?_, fun _ => ?_, fun _ => z5⟩
        · show 0 ≤ S.1 3 (S.2.2 0 + 1)
          rw [z3]; decide
        · show 0 ≤ S.2.1 2 (S.2.2 0 + 1)
          rw [l2]; decide
        · rw [c4, if_pos rfl]
        · rw [c4, if_pos rfl]
      · have := h.ok k1 (show k ≤ S.2.2 0 by omega)
        unfold okB at this ⊢
        rw [c4, if_neg hk]
        exact this
    · have i2 : i ≤ S.2.2 0 + 1 := i2
      have j2 : j ≤ S.2.2 0 + 1 := j2
      have e : S.1 3 i = S.1 3 j := e
      have ne : ¬ S.1 3 i = 0 := ne
      by_cases hi : i = S.2.2 0 + 1
      · subst hi
        exact absurd z3 ne
      · by_cases hj : j = S.2.2 0 + 1
        · subst hj
          exact absurd (e.trans z3) ne
        · exact h.2.2.2.1 i j i1 (by omega) j1 (by omega) e ne
    · have i2 : i ≤ S.2.2 0 + 1 := i2
      have j2 : j ≤ S.2.2 0 + 1 := j2
      rw [c4, c4] at e
      rw [c4] at ne
      by_cases hi : i = S.2.2 0 + 1
      · rw [if_pos hi] at ne
        exact absurd ne (by decide)
      · rw [if_neg hi] at e ne
        by_cases hj : j = S.2.2 0 + 1
        · rw [if_pos hj] at e
          rw [e] at ne
          exact absurd ne (by decide)
        · rw [if_neg hj] at e
          exact h.2.2.2.2.1 i j i1 (by omega) j1 (by omega) e ne
    · have hk : S.2.2 0 + 1 < k := hk
      have := h.2.2.2.2.2.1 k (by omega)
      have hne : k ≠ S.2.2 0 + 1 := by omega
      simpa [zeB, sN, sI, va_up, upd, hne] using this
theorem gdI_0 {v : Int32} {b : Int64} (h : gdI v 0 b) : 0 ≤ v := by
  have z := h.1
  rw [Int64.le_iff_toInt_le, Int32.toInt_toInt64] at z
  exact Int32.le_iff_toInt_le.mpr z
theorem gdI_1 {v : Int32} {b : Int64} (h : gdI v 1 b) : 0 ≤ v ∧ ¬ v = 0 := by
  have z := h.1
  rw [Int64.le_iff_toInt_le, Int32.toInt_toInt64] at z
  have e1 : (1 : Int64).toInt = 1 := by decide
  have e0 : (0 : Int32).toInt = 0 := by decide
  rw [e1] at z
  refine ⟨Int32.le_iff_toInt_le.mpr (by omega), fun e => ?_⟩
  rw [e, e0] at z
  omega
theorem inv_oTape {c : Nat} {S : SS} (h : Inv c S) (v : Int32) : Inv c (oTape S v).2 := by
  unfold oTape
  split
  · exact h
  next hg =>
  split
  · exact h
  next hn =>
    have hnt := h.nt
    show Inv c (sN (sI S 6 (S.2.2 1) v) 1 (S.2.2 1 + 1))
    refine ⟨⟨h.n, ?_, h.nf, h.nw⟩, h.2.1, h.2.2.1, h.2.2.2.1, h.2.2.2.2.1, h.2.2.2.2.2.1, fun a ha => ?_⟩
    · show S.2.2 1 + 1 ≤ 200
      omega
    · have ha : a < S.2.2 1 + 1 := ha
      show 0 ≤ upd (S.1 6) (S.2.2 1) v a
      unfold upd
      split
      · exact gdI_0 (Classical.not_not.mp hg)
      · exact h.2.2.2.2.2.2 a (by omega)
theorem best_le (S : SS) (v : Int32) : ∀ n, best S v n ≤ n
  | 0 => Nat.le_refl 0
  | n + 1 => by
    have := best_le S v n
    unfold best
    split <;> omega
theorem inv_oReserve {c : Nat} {S : SS} (h : Inv c S) (v : Int32) (u : Int64) : Inv c (oReserve S v u).2 := by
  unfold oReserve
  split
  · exact h
  next hg =>
  split
  · exact h
  next hn =>
    have hb := best_le S v (S.2.2 0)
    generalize best S v (S.2.2 0) = k at hn hb
    have k1 : 1 ≤ k := by omega
    have hu : 0 ≤ u := by
      have := (Classical.not_not.mp (fun z => hg (Or.inr z))).1
      exact Int64.le_trans h.2.1.1 (Int64.le_of_lt this)
    show Inv c (sL S 2 k u)
    obtain ⟨o1, o2, o3, o4, o5, o6⟩ := h.ok k1 hb
    refine h.box1 k1 hb rfl h.nt h.nf h.nw rfl (fun j hj => ?_) ⟨o1, o2, ?_, o4, o5, o6⟩ (fun j j1 j2 hj e => h.ui j1 j2 k1 hb hj e) (fun j j1 j2 hj e => h.uc j1 j2 k1 hb hj e) h.2.2.2.2.2.2
    · simp [smB, sL, va_up, vp_updL, hj]
    · show 0 ≤ vp_updL (S.2.1 2) k u k
      simp [vp_updL]
      exact hu
theorem inv_pPut {c : Nat} {S : SS} (h : Inv c S) {k : Nat} (k1 : 1 ≤ k) (k2 : k ≤ S.2.2 0) {v : Int32} (hv : gdI v 1 9999) : Inv c (pPut S k v).2 := by
  unfold pPut
  split
  next hp =>
    obtain ⟨p1, p2, p3⟩ := hp
    obtain ⟨o1, o2, o3, o4, o5, o6⟩ := h.ok k1 k2
    have e3 : (sL (sI S 3 k v) 2 k 0).1 3 k = v := by simp [sL, sI, va_up, upd]
    show Inv c (sL (sI S 3 k v) 2 k 0)
    refine h.box1 k1 k2 rfl h.nt h.nf h.nw rfl (fun j hj => ?_) ⟨o1, ?_, ?_, o4, fun _ => o5 p2, o6⟩ (fun j j1 j2 hj e => ?_) (fun j j1 j2 hj e => h.uc j1 j2 k1 k2 hj e) h.2.2.2.2.2.2
    · simp [smB, sL, sI, va_up, vp_updL, upd, hj]
    · rw [e3]
      exact (gdI_1 hv).1
    · show 0 ≤ vp_updL (S.2.1 2) k 0 k
      simp [vp_updL]
    · rw [e3] at e
      exact absurd e (lastIx_no p3 j j1 j2)
  · exact h
theorem drawI_no (S : SS) : ∀ f a, drawI S a f < a + f → lastIx (S.1 4) (S.1 6 (drawI S a f)) (S.2.2 0) = 0
  | 0, a, h => by
    unfold drawI at h
    omega
  | f + 1, a, h => by
    unfold drawI at h ⊢
    split
    next hc => exact hc
    next hc =>
      rw [if_neg hc] at h
      exact drawI_no S f (a + 1) (by omega)
theorem inv_pClose {c : Nat} {S : SS} (h : Inv c S) {k : Nat} (k1 : 1 ≤ k) (k2 : k ≤ S.2.2 0) (t : Int64) : Inv c (pClose S k t).2 := by
  obtain ⟨o1, o2, o3, o4, o5, o6⟩ := h.ok k1 k2
  unfold pClose
  split
  · exact h
  split
  · show Inv c (sI S 1 k 0)
    refine h.box1 k1 k2 rfl h.nt h.nf h.nw rfl (fun j hj => ?_) ⟨⟨0, by decide, ?_⟩, o2, o3, o4, o5, o6⟩ (fun j j1 j2 hj e => h.ui j1 j2 k1 k2 hj e) (fun j j1 j2 hj e => h.uc j1 j2 k1 k2 hj e) h.2.2.2.2.2.2
    · simp [smB, sI, va_up, upd, hj]
    · simp [sI, va_up, upd]
      rfl
  next hno =>
  split
  · exact h
  next hd =>
    have hle := drawA_le S
    have hlt : drawA S < S.2.2 1 := by omega
    have hun : lastIx (S.1 4) (S.1 6 (drawA S)) (S.2.2 0) = 0 := drawI_no S (S.2.2 1) 0 (by rw [drawA] at hlt; omega)
    have htn := h.2.2.2.2.2.2 _ hlt
    have hnt := h.nt
    generalize drawA S = a at hd hle hlt hun htn
    show Inv c (shiftT (sL (sI (sI S 1 k 0) 4 k (S.1 6 a)) 1 k t) a)
    have e4 : (shiftT (sL (sI (sI S 1 k 0) 4 k (S.1 6 a)) 1 k t) a).1 4 k = S.1 6 a := by simp [shiftT, sN, sR, sL, sI, va_up, upd]
    have hit : ¬ S.1 3 k = 0 := fun z => hno (Or.inl z)
    refine h.box1 k1 k2 rfl ?_ h.nf h.nw rfl (fun j hj => ?_) ⟨⟨0, by decide, ?_⟩, o2, o3, Or.inr ?_, fun z => absurd z hit, fun z => ?_⟩ (fun j j1 j2 hj e => h.ui j1 j2 k1 k2 hj e) (fun j j1 j2 hj e => ?_) (fun x hx => ?_)
    · show S.2.2 1 - (a + 1) ≤ 200
      omega
    · simp [smB, shiftT, sN, sR, sL, sI, va_up, vp_updL, upd, hj]
    · simp [shiftT, sN, sR, sL, sI, va_up, upd]
      rfl
    · rw [e4]
      exact htn
    · rw [e4] at z
      exact absurd z (Int32.not_lt.mpr htn)
    · rw [e4] at e
      exact absurd e (lastIx_no hun j j1 j2)
    · have hx : x < S.2.2 1 - (a + 1) := hx
      show 0 ≤ va_cpy (S.1 6) (S.1 6) (a + 1) 0 (S.2.2 1 - (a + 1)) x
      rw [pk_cpy_in (by omega) (by omega)]
      exact h.2.2.2.2.2.2 _ (by omega)
theorem inv_pType {c : Nat} {S : SS} (h : Inv c S) (v : Int32) (t : Int64) : Inv (c + 1) (pType S v t).2 := by
  have hnw := h.nw
  unfold pType
  split
  · exact h.mono (by omega)
  split
  · show Inv (c + 1) (sN (if (S.2.2 3 + 1) % 3 = 0 then sL S 3 1 (t + 300) else S) 3 (S.2.2 3 + 1))
    have hw : S.2.2 3 + 1 ≤ c + 1 := by omega
    split
    · exact ⟨⟨h.n, h.nt, h.nf, hw⟩, h.2.1, h.2.2⟩
    · exact ⟨⟨h.n, h.nt, h.nf, hw⟩, h.2.1, h.2.2⟩
  next hp =>
    have hL := lastIx_le (S.1 4) v (S.2.2 0)
    generalize lastIx (S.1 4) v (S.2.2 0) = k at hp hL
    have k1 : 1 ≤ k := by
      rcases Nat.eq_zero_or_pos k with z | z
      · exact absurd (Or.inl z) hp
      · exact z
    obtain ⟨o1, o2, o3, o4, o5, o6⟩ := h.ok k1 hL
    show Inv (c + 1) (sN (pOpen (pOut S k) k 1 t) 3 0)
    have e3 : (sN (pOpen (pOut S k) k 1 t) 3 0).1 3 k = 0 := by simp [pOpen, pOut, sN, sL, sI, va_up, upd]
    have e4 : (sN (pOpen (pOut S k) k 1 t) 3 0).1 4 k = -1 := by simp [pOpen, pOut, sN, sL, sI, va_up, upd]
    have e5 : (sN (pOpen (pOut S k) k 1 t) 3 0).1 5 k = 0 := by simp [pOpen, pOut, sN, sL, sI, va_up, upd]
    refine h.box1 k1 hL rfl h.nt h.nf (Nat.zero_le _) rfl (fun j hj => ?_) ⟨⟨1, by decide, ?_⟩, by rw [e3]; decide, o3, Or.inl e4, fun _ => e4, fun _ => e5⟩ (fun j j1 j2 hj e => e3) (fun j j1 j2 hj e => by rw [e4]; decide) h.2.2.2.2.2.2
    · simp [smB, pOpen, pOut, sN, sL, sI, va_up, vp_updL, upd, hj]
    · simp [pOpen, pOut, sN, sL, sI, va_up, upd]
      rfl
theorem inv_door1 {c : Nat} {S : SS} (h : Inv c S) {k : Nat} (k1 : 1 ≤ k) (k2 : k ≤ S.2.2 0) {d : Nat} (hd : d < 4) : Inv c (sI S 1 k (nI d)) := by
  obtain ⟨o1, o2, o3, o4, o5, o6⟩ := h.ok k1 k2
  refine h.box1 k1 k2 rfl h.nt h.nf h.nw rfl (fun j hj => ?_) ⟨⟨d, hd, ?_⟩, o2, o3, o4, o5, o6⟩ (fun j j1 j2 hj e => h.ui j1 j2 k1 k2 hj e) (fun j j1 j2 hj e => h.uc j1 j2 k1 k2 hj e) h.2.2.2.2.2.2
  · simp [smB, sI, va_up, upd, hj]
  · simp [sI, va_up, upd]
theorem inv_pOpen {c : Nat} {S : SS} (h : Inv c S) {k : Nat} (k1 : 1 ≤ k) (k2 : k ≤ S.2.2 0) {d : Nat} (hd : d < 4) (t : Int64) : Inv c (pOpen S k (nI d) t) := by
  obtain ⟨o1, o2, o3, o4, o5, o6⟩ := h.ok k1 k2
  refine h.box1 k1 k2 rfl h.nt h.nf h.nw rfl (fun j hj => ?_) ⟨⟨d, hd, ?_⟩, o2, o3, o4, o5, o6⟩ (fun j j1 j2 hj e => h.ui j1 j2 k1 k2 hj e) (fun j j1 j2 hj e => h.uc j1 j2 k1 k2 hj e) h.2.2.2.2.2.2
  · simp [smB, pOpen, sL, sI, va_up, vp_updL, upd, hj]
  · simp [pOpen, sL, sI, va_up, upd]
theorem inv_pDoor {c : Nat} {S : SS} (h : Inv c S) {k : Nat} (k1 : 1 ≤ k) (k2 : k ≤ S.2.2 0) (e : Int32) (t : Int64) : Inv c (pDoor S k e t).2 := by
  unfold pDoor
  split
  · exact h
  split
  · show Inv c (pOpen S k (if e = 0 then 1 else 2) t)
    split
    · exact inv_pOpen h k1 k2 (d := 1) (by decide) t
    · exact inv_pOpen h k1 k2 (d := 2) (by decide) t
  · show Inv c (sI S 1 k (if e = 3 then 3 else 0))
    split
    · exact inv_door1 h k1 k2 (d := 3) (by decide)
    · exact inv_door1 h k1 k2 (d := 0) (by decide)
theorem inv_pOut {c : Nat} {S : SS} (h : Inv c S) {k : Nat} (k1 : 1 ≤ k) (k2 : k ≤ S.2.2 0) : Inv c (pOut S k) := by
  obtain ⟨o1, o2, o3, o4, o5, o6⟩ := h.ok k1 k2
  have e3 : (pOut S k).1 3 k = 0 := by simp [pOut, sI, va_up, upd]
  have e4 : (pOut S k).1 4 k = -1 := by simp [pOut, sI, va_up, upd]
  have e5 : (pOut S k).1 5 k = 0 := by simp [pOut, sI, va_up, upd]
  refine h.box1 k1 k2 rfl h.nt h.nf h.nw rfl (fun j hj => ?_) ⟨o1, by rw [e3]; decide, o3, Or.inl e4, fun _ => e4, fun _ => e5⟩ (fun j j1 j2 hj e => e3) (fun j j1 j2 hj e => by rw [e4]; decide) h.2.2.2.2.2.2
  simp [smB, pOut, sI, va_up, upd, hj]
theorem inv_oPut {c : Nat} {S : SS} (h : Inv c S) (b v : Int32) (t : Int64) : Inv c (oPut S b v t).2 := by
  unfold oPut
  split
  · exact h
  next hb =>
  split
  · exact h
  next hg =>
    obtain ⟨k, ek, -, k1, k2, -⟩ := gdB_ix (Classical.not_not.mp hb) h.n
    rw [ek]
    exact inv_pPut (inv_oPass h (Classical.not_not.mp (fun z => hg (Or.inr z)))) k1 (by rw [oPass_n]; exact k2) (Classical.not_not.mp (fun z => hg (Or.inl z)))
theorem inv_oClose {c : Nat} {S : SS} (h : Inv c S) (b : Int32) (t : Int64) : Inv c (oClose S b t).2 := by
  unfold oClose
  split
  · exact h
  next hb =>
  split
  · exact h
  next hg =>
    obtain ⟨k, ek, -, k1, k2, -⟩ := gdB_ix (Classical.not_not.mp hb) h.n
    rw [ek]
    exact inv_pClose (inv_oPass h (Classical.not_not.mp hg)) k1 (by rw [oPass_n]; exact k2) t
theorem inv_oType {c : Nat} {S : SS} (h : Inv c S) (v : Int32) (t : Int64) : Inv (c + 1) (oType S v t).2 := by
  unfold oType
  split
  · exact h.mono (by omega)
  next hg => exact inv_pType (inv_oPass h (Classical.not_not.mp (fun z => hg (Or.inr z)))) v t
theorem inv_oDoor {c : Nat} {S : SS} (h : Inv c S) (b e : Int32) (t : Int64) : Inv c (oDoor S b e t).2 := by
  unfold oDoor
  split
  · exact h
  next hb =>
  split
  · exact h
  next hg =>
    obtain ⟨k, ek, -, k1, k2, -⟩ := gdB_ix (Classical.not_not.mp hb) h.n
    rw [ek]
    exact inv_pDoor (inv_oPass h (Classical.not_not.mp (fun z => hg (Or.inr z)))) k1 (by rw [oPass_n]; exact k2) e t
theorem inv_oTick {c : Nat} {S : SS} (h : Inv c S) (t : Int64) : Inv c (oTick S t).2 := by
  unfold oTick
  split
  · exact h
  next hg =>
    have h1 := inv_oPass h (Classical.not_not.mp hg)
    show Inv c (sI (oPass S t) 8 0 0)
    exact h1
theorem inv_oTake {c : Nat} {S : SS} (h : Inv c S) (b v : Int32) : Inv c (oTake S b v).2 := by
  unfold oTake
  split
  · exact h
  next hb =>
  split
  · exact h
  split
  · obtain ⟨k, ek, -, k1, k2, -⟩ := gdB_ix (Classical.not_not.mp hb) h.n
    rw [ek]
    exact inv_pOut h k1 k2
  · exact h
end
section
/-! ===== the law: its twelve cases: printed by gen/law.py ===== -/
section LAWC
variable {p : Program} {l : Launch} {e : Env} {R : Room} {s : State} {m : MethodId} {args : Array Value} {below : List Frame} {meth : Method} {c : Code} {H : Heap} {locs : List Loc} {cells slots : Nat} {Q : State → Prop}
variable {cc : ByteArray} {pc nL : Nat} {ls : Array Slot} {rest : List Value} {own : String} {D : va_G} {A : Nat → Prop} {ad bx g q : Nat → Nat} {cQ cI cI2 cJ cZ : ClassId} {S : SS} {P : va_W}
variable {y : MethodName} {b9 : ByteArray} {nL9 n0 index lev mc ms : Nat} {As : List Value}
theorem lx_call {post : Int32 → va_W → Prop} (hM : MOi l y b9 nL9 lev mc ms (.ref (g 0) :: As) D (tyX cQ cI) (WX g cQ cI ad bx S) (some ad) post) (mi : MI y b9 nL9 (some .int) n0) (mv : MV y) (hy : y.cls = R_X) (C : CallFix p m c cc nL s args wG own) (hlink : Cond.methodLink own index y ∈ wG) (hR : lev + 1 ≤ R.frames ∧ 8 + (nL9 + 11) + 40 * lev ≤ R.locals) (h : ST D A (WX g cQ cI ad bx S ++ P) s.heap H locs) (hK : va_K D classes (tyX cQ cI) s) (hC : CX (some ad) A s s.heap) (hA : ∀ q : Nat, s.heap.size ≤ q → A q) (hls : ls.size = nL) (hn : As.length = n0) (hsum : (rest.map fun v => v.category).sum ≤ 8) (hdg : decode cc pc = .ok (.invokevirtual index, 3)) (hcs : cells + mc ≤ R.cells ∧ slots + ms ≤ R.slots) (kk : ∀ (r : Int32) (w : va_W) (H1 : Heap) (locs1 : List Loc), post r w → ST D A (w ++ P) s.heap H1 locs1 → W p l e R s m args below meth c H1 locs1 (cells + mc) (slots + ms) Q (F0 m (pc + 3) ls (.int r :: rest))) : W p l e R s m args below meth c H locs cells slots Q (F0 m pc ls (As.reverse ++ .ref (g 0) :: rest)) :=
  hM.core mi mv C hlink hR h.1.left h.2.1.left hK hC h.2.2 hA (q0 := 0) (ci := 0) (T := F_X) (N := 10) rfl (by rw [hy]; rfl) hls hn hsum hdg hcs (fun r w H1 locs1 hp hP1 hD1 hk hS1 => kk r w H1 locs1 hp (h.side (sub_A h.2.1.left h.2.2 hA) hk hP1 hD1 hS1))
theorem lm_call {post : Int32 → va_W → Prop} (hM : MOi l y b9 nL9 lev mc ms (.ref (q 0) :: As) D (tyM cI cJ cZ) (WM q cI cJ cZ S) none post) (mi : MI y b9 nL9 (some .int) n0) (mv : MV y) (hy : y.cls = R_M) (C : CallFix p m c cc nL s args wG own) (hlink : Cond.methodLink own index y ∈ wG) (hR : lev + 1 ≤ R.frames ∧ 8 + (nL9 + 11) + 40 * lev ≤ R.locals) (h : ST D A (P ++ WM q cI cJ cZ S) s.heap H locs) (hK : va_K D classes (tyM cI cJ cZ) s) (hA : ∀ q : Nat, s.heap.size ≤ q → A q) (hls : ls.size = nL) (hn : As.length = n0) (hsum : (rest.map fun v => v.category).sum ≤ 8) (hdg : decode cc pc = .ok (.invokevirtual index, 3)) (hcs : cells + mc ≤ R.cells ∧ slots + ms ≤ R.slots) (kk : ∀ (r : Int32) (w : va_W) (H1 : Heap) (locs1 : List Loc), post r w → ST D A (P ++ w) s.heap H1 locs1 → W p l e R s m args below meth c H1 locs1 (cells + mc) (slots + ms) Q (F0 m (pc + 3) ls (.int r :: rest))) : W p l e R s m args below meth c H locs cells slots Q (F0 m pc ls (As.reverse ++ .ref (q 0) :: rest)) :=
  hM.core mi mv C hlink hR h.1.right h.2.1.right hK (o := none) trivial h.2.2 hA (q0 := 0) (ci := 2) (T := F_M) (N := 18) rfl (by rw [hy]; rfl) hls hn hsum hdg hcs (fun r w H1 locs1 hp hP1 hD1 hk hS1 => kk r w H1 locs1 hp (h.comm.side (sub_A h.2.1.right h.2.2 hA) hk hP1 hD1 hS1).comm)
theorem lx_read {post : Int32 → Prop} (hM : RO l y b9 nL9 .int lev (.ref (g 0) :: As) (PR D (tyX cQ cI) (WX g cQ cI ad bx S) (some ad)) post) (mi : MI y b9 nL9 (some .int) n0) (mv : MV y) (hy : y.cls = R_X) (C : CallFix p m c cc nL s args wG own) (hlink : Cond.methodLink own index y ∈ wG) (hR : lev + 1 ≤ R.frames ∧ 8 + (nL9 + 11) + 40 * lev ≤ R.locals) (h : ST D A (WX g cQ cI ad bx S ++ P) s.heap H locs) (hK : va_K D classes (tyX cQ cI) s) (hC : CX (some ad) A s s.heap) (hls : ls.size = nL) (hn : As.length = n0) (hsum : (rest.map fun v => v.category).sum ≤ 8) (hdg : decode cc pc = .ok (.invokevirtual index, 3)) (hcs : cells ≤ R.cells ∧ slots ≤ R.slots) (kk : ∀ r : Int32, post r → W p l e R s m args below meth c H locs cells slots Q (F0 m (pc + 3) ls (.int r :: rest))) : W p l e R s m args below meth c H locs cells slots Q (F0 m pc ls (As.reverse ++ .ref (g 0) :: rest)) :=
  hM.callP mi mv C hlink hR h.1.left hK hC h.2.2 (q0 := 0) (ci := 0) (T := F_X) (N := 10) rfl (by rw [hy]; rfl) hls hn hsum hdg hcs kk
theorem lm_read {post : Int32 → Prop} (hM : RO l y b9 nL9 .int lev (.ref (q 0) :: As) (PR D (tyM cI cJ cZ) (WM q cI cJ cZ S) none) post) (mi : MI y b9 nL9 (some .int) n0) (mv : MV y) (hy : y.cls = R_M) (C : CallFix p m c cc nL s args wG own) (hlink : Cond.methodLink own index y ∈ wG) (hR : lev + 1 ≤ R.frames ∧ 8 + (nL9 + 11) + 40 * lev ≤ R.locals) (h : ST D A (P ++ WM q cI cJ cZ S) s.heap H locs) (hK : va_K D classes (tyM cI cJ cZ) s) (hls : ls.size = nL) (hn : As.length = n0) (hsum : (rest.map fun v => v.category).sum ≤ 8) (hdg : decode cc pc = .ok (.invokevirtual index, 3)) (hcs : cells ≤ R.cells ∧ slots ≤ R.slots) (kk : ∀ r : Int32, post r → W p l e R s m args below meth c H locs cells slots Q (F0 m (pc + 3) ls (.int r :: rest))) : W p l e R s m args below meth c H locs cells slots Q (F0 m pc ls (As.reverse ++ .ref (q 0) :: rest)) :=
  hM.callP mi mv C hlink hR h.1.right hK (o := none) (A := A) trivial h.2.2 (q0 := 0) (ci := 2) (T := F_M) (N := 18) rfl (by rw [hy]; rfl) hls hn hsum hdg hcs kk
theorem lw_ld {b L : Nat} {xs : Nat → Int32} (hx : p.tables.exec = Jvm.exec) (hb : c.code = cc) (hX : va_X b L xs s s.heap) (hbl : b < s.heap.size) (hbA : ¬ A b) (hS : va_S A s.heap H locs) {i : Int32} {k : Nat} (hi : ix i k L) (hdg : decode cc pc = .ok (.iaload, 1)) (kk : W p l e R s m args below meth c H locs cells slots Q (F0 m (pc + 1) ls (.int (xs k) :: rest))) : W p l e R s m args below meth c H locs cells slots Q (F0 m pc ls (.int i :: .ref b :: rest)) :=
  va_sld hx hb hX hbl hbA hS hi.inn hdg (by rw [hi.cl]; exact kk)
end LAWC
set_option maxHeartbeats 4000000 in
set_option maxRecDepth 100000 in
theorem lc_box {p : Program} {l : Launch} {e : Env} {s : State} {m : MethodId} {below : List Frame} {meth : Method} {c : Code} {Q : State → Prop} {D : va_G} {A : Nat → Prop} {ad g q : Nat → Nat} {cQ cI cI2 cJ cZ : ClassId} {b L : Nat} {xs : Nat → Int32} (C : CallFix p m c code 4 s #[Value.ref b] wG "LockerRowsLaw") (hX : va_X b L xs s s.heap) (hbl : b < s.heap.size) (hbA : ¬ A b) (hA : ∀ q : Nat, s.heap.size ≤ q → A q) (hKx : va_K D classes (tyX cQ cI) s) (hKm : va_K D classes (tyM cI2 cJ cZ) s) (hC : CX (some ad) A s s.heap) (hL : L ≤ 2560) {i c0 cells slots : Nat} {S : SS} {bx : Nat → Nat} {H : Heap} {locs : List Loc} {ls : Array Slot} (hI : Inv c0 S) (hc0 : c0 < 1000000) (hi : 5 * i + 5 ≤ L) (hcs : cells + 1 ≤ 600000 ∧ slots + 10 ≤ 7302250) (h : ST D A (WX g cQ cI ad bx S ++ WM q cI2 cJ cZ S) s.heap H locs) (hl : lv_has ls 4 [(3, .int (nI (5 * i))), (0, .ref b), (1, .ref (g 0)), (2, .ref (q 0))]) (K : ∀ (S' : SS) (bx' : Nat → Nat) (H : Heap) (locs : List Loc), Inv (c0 + 1) S' → ST D A (WX g cQ cI ad bx' S' ++ WM q cI2 cJ cZ S') s.heap H locs → ∀ ls : Array Slot, lv_has ls 4 [(3, .int (nI (5 * i))), (0, .ref b), (1, .ref (g 0)), (2, .ref (q 0))] → W p l e room_1 s m #[Value.ref b] below meth c H locs (cells + 1) (slots + 10) Q (F0 m 632 ls [])) : W p l e room_1 s m #[Value.ref b] below meth c H locs cells slots Q (F0 m 96 ls []) := by
  have hx := C.1
  have hb := C.2.1
  refine lv_aload_n hx hb de_L_law_96 rfl (lv_at hl 2 rfl) ?_
  refine lv_aload_n hx hb de_L_law_97 rfl (lv_at hl 1 rfl) ?_
  refine lv_iload_n hx hb de_L_law_98 rfl (lv_at hl 0 rfl) ?_
  refine lv_iconst (v := 1) hx hb de_L_law_99 (by decide) ?_
  refine lv_iadd hx hb de_L_law_100 ?_
  refine zi_top (y := (nI ((5 * i) + 1))) (nI_add _ 1) ?_
  refine lw_ld hx hb hX hbl hbA h.2.2 (ix_nI (k := ((5 * i) + 1)) (by omega) (by omega)) de_L_law_101 ?_
  refine lx_call (As := [.int (xs ((5 * i) + 1))]) (ct_X_box l D g cQ cI ad bx S c0 hI (xs ((5 * i) + 1))) mi_X_box mv_X_box rfl C kw_49 ⟨Nat.le_of_ble_eq_true rfl, Nat.le_of_ble_eq_true rfl⟩ h hKx hC hA hl.1 rfl (Nat.le_of_ble_eq_true rfl) de_L_law_102 ⟨hcs.1, hcs.2⟩ (fun r w H locs hp h => ?_)
  obtain ⟨S', bx', e1, rfl⟩ := hp
  refine lv_aload_n hx hb de_L_law_105 rfl (lv_at hl 3 rfl) ?_
  refine lv_aload_n hx hb de_L_law_106 rfl (lv_at hl 1 rfl) ?_
  refine lv_iload_n hx hb de_L_law_107 rfl (lv_at hl 0 rfl) ?_
  refine lv_iconst (v := 1) hx hb de_L_law_108 (by decide) ?_
  refine lv_iadd hx hb de_L_law_109 ?_
  refine zi_top (y := (nI ((5 * i) + 1))) (nI_add _ 1) ?_
  refine lw_ld hx hb hX hbl hbA h.2.2 (ix_nI (k := ((5 * i) + 1)) (by omega) (by omega)) de_L_law_110 ?_
  refine lm_call (As := [.int (xs ((5 * i) + 1))]) (ct_M_box l D q cI2 cJ cZ S c0 hI (xs ((5 * i) + 1))) mi_M_box mv_M_box rfl C kw_286 ⟨Nat.le_of_ble_eq_true rfl, Nat.le_of_ble_eq_true rfl⟩ h hKm hA hl.1 rfl (Nat.le_of_ble_eq_true rfl) de_L_law_111 ⟨hcs.1, hcs.2⟩ (fun r2 w H locs hp h => ?_)
  obtain ⟨S2, e2, rfl⟩ := hp
  obtain ⟨rfl, rfl⟩ := Prod.mk.inj (e1.symm.trans e2)
  refine lv_icmp_eq (tgt := 632) hx hb de_L_law_114 (by decide) (fun _ => ?_) (fun z => absurd rfl z)
  have hI2 := inv_oBox hI (xs ((5 * i) + 1))
  rw [e1] at hI2
  exact K _ bx' _ _ (hI2.mono (Nat.le_succ _)) h ls hl
set_option maxHeartbeats 4000000 in
set_option maxRecDepth 100000 in
theorem lc_tape {p : Program} {l : Launch} {e : Env} {s : State} {m : MethodId} {below : List Frame} {meth : Method} {c : Code} {Q : State → Prop} {D : va_G} {A : Nat → Prop} {ad g q : Nat → Nat} {cQ cI cI2 cJ cZ : ClassId} {b L : Nat} {xs : Nat → Int32} (C : CallFix p m c code 4 s #[Value.ref b] wG "LockerRowsLaw") (hX : va_X b L xs s s.heap) (hbl : b < s.heap.size) (hbA : ¬ A b) (hA : ∀ q : Nat, s.heap.size ≤ q → A q) (hKx : va_K D classes (tyX cQ cI) s) (hKm : va_K D classes (tyM cI2 cJ cZ) s) (hC : CX (some ad) A s s.heap) (hL : L ≤ 2560) {i c0 cells slots : Nat} {S : SS} {bx : Nat → Nat} {H : Heap} {locs : List Loc} {ls : Array Slot} (hI : Inv c0 S) (hc0 : c0 < 1000000) (hi : 5 * i + 5 ≤ L) (hcs : cells + 1 ≤ 600000 ∧ slots + 10 ≤ 7302250) (h : ST D A (WX g cQ cI ad bx S ++ WM q cI2 cJ cZ S) s.heap H locs) (hl : lv_has ls 4 [(3, .int (nI (5 * i))), (0, .ref b), (1, .ref (g 0)), (2, .ref (q 0))]) (K : ∀ (S' : SS) (bx' : Nat → Nat) (H : Heap) (locs : List Loc), Inv (c0 + 1) S' → ST D A (WX g cQ cI ad bx' S' ++ WM q cI2 cJ cZ S') s.heap H locs → ∀ ls : Array Slot, lv_has ls 4 [(3, .int (nI (5 * i))), (0, .ref b), (1, .ref (g 0)), (2, .ref (q 0))] → W p l e room_1 s m #[Value.ref b] below meth c H locs (cells + 1) (slots + 10) Q (F0 m 632 ls [])) : W p l e room_1 s m #[Value.ref b] below meth c H locs cells slots Q (F0 m 119 ls []) := by
  have hx := C.1
  have hb := C.2.1
  refine lv_aload_n hx hb de_L_law_119 rfl (lv_at hl 2 rfl) ?_
  refine lv_aload_n hx hb de_L_law_120 rfl (lv_at hl 1 rfl) ?_
  refine lv_iload_n hx hb de_L_law_121 rfl (lv_at hl 0 rfl) ?_
  refine lv_iconst (v := 1) hx hb de_L_law_122 (by decide) ?_
  refine lv_iadd hx hb de_L_law_123 ?_
  refine zi_top (y := (nI ((5 * i) + 1))) (nI_add _ 1) ?_
  refine lw_ld hx hb hX hbl hbA h.2.2 (ix_nI (k := ((5 * i) + 1)) (by omega) (by omega)) de_L_law_124 ?_
  refine lx_call (As := [.int (xs ((5 * i) + 1))]) (ct_X_tape l D g cQ cI ad bx S c0 hI (xs ((5 * i) + 1))) mi_X_tape mv_X_tape rfl C kw_103 ⟨Nat.le_of_ble_eq_true rfl, Nat.le_of_ble_eq_true rfl⟩ h hKx hC hA hl.1 rfl (Nat.le_of_ble_eq_true rfl) de_L_law_125 ⟨Nat.le_of_succ_le hcs.1, Nat.le_trans (Nat.le_add_right _ 10) hcs.2⟩ (fun r w H locs hp h => ?_)
  obtain ⟨S', e1, rfl⟩ := hp
  refine lv_aload_n hx hb de_L_law_128 rfl (lv_at hl 3 rfl) ?_
  refine lv_aload_n hx hb de_L_law_129 rfl (lv_at hl 1 rfl) ?_
  refine lv_iload_n hx hb de_L_law_130 rfl (lv_at hl 0 rfl) ?_
  refine lv_iconst (v := 1) hx hb de_L_law_131 (by decide) ?_
  refine lv_iadd hx hb de_L_law_132 ?_
  refine zi_top (y := (nI ((5 * i) + 1))) (nI_add _ 1) ?_
  refine lw_ld hx hb hX hbl hbA h.2.2 (ix_nI (k := ((5 * i) + 1)) (by omega) (by omega)) de_L_law_133 ?_
  refine lm_call (As := [.int (xs ((5 * i) + 1))]) (ct_M_tape l D q cI2 cJ cZ S c0 hI (xs ((5 * i) + 1))) mi_M_tape mv_M_tape rfl C kw_294 ⟨Nat.le_of_ble_eq_true rfl, Nat.le_of_ble_eq_true rfl⟩ h hKm hA hl.1 rfl (Nat.le_of_ble_eq_true rfl) de_L_law_134 ⟨Nat.le_of_succ_le hcs.1, Nat.le_trans (Nat.le_add_right _ 10) hcs.2⟩ (fun r2 w H locs hp h => ?_)
  obtain ⟨S2, e2, rfl⟩ := hp
  obtain ⟨rfl, rfl⟩ := Prod.mk.inj (e1.symm.trans e2)
  refine lv_icmp_eq (tgt := 632) hx hb de_L_law_137 (by decide) (fun _ => ?_) (fun z => absurd rfl z)
  have hI2 := inv_oTape hI (xs ((5 * i) + 1))
  rw [e1] at hI2
  refine W.widen (k := cells + 1) (n := slots + 10) (Nat.le_succ _) (Nat.le_add_right _ _) ?_
  exact K _ bx _ _ (hI2.mono (Nat.le_succ _)) h ls hl
set_option maxHeartbeats 4000000 in
set_option maxRecDepth 100000 in
theorem lc_reserve {p : Program} {l : Launch} {e : Env} {s : State} {m : MethodId} {below : List Frame} {meth : Method} {c : Code} {Q : State → Prop} {D : va_G} {A : Nat → Prop} {ad g q : Nat → Nat} {cQ cI cI2 cJ cZ : ClassId} {b L : Nat} {xs : Nat → Int32} (C : CallFix p m c code 4 s #[Value.ref b] wG "LockerRowsLaw") (hX : va_X b L xs s s.heap) (hbl : b < s.heap.size) (hbA : ¬ A b) (hA : ∀ q : Nat, s.heap.size ≤ q → A q) (hKx : va_K D classes (tyX cQ cI) s) (hKm : va_K D classes (tyM cI2 cJ cZ) s) (hC : CX (some ad) A s s.heap) (hL : L ≤ 2560) {i c0 cells slots : Nat} {S : SS} {bx : Nat → Nat} {H : Heap} {locs : List Loc} {ls : Array Slot} (hI : Inv c0 S) (hc0 : c0 < 1000000) (hi : 5 * i + 5 ≤ L) (hcs : cells + 1 ≤ 600000 ∧ slots + 10 ≤ 7302250) (h : ST D A (WX g cQ cI ad bx S ++ WM q cI2 cJ cZ S) s.heap H locs) (hl : lv_has ls 4 [(3, .int (nI (5 * i))), (0, .ref b), (1, .ref (g 0)), (2, .ref (q 0))]) (K : ∀ (S' : SS) (bx' : Nat → Nat) (H : Heap) (locs : List Loc), Inv (c0 + 1) S' → ST D A (WX g cQ cI ad bx' S' ++ WM q cI2 cJ cZ S') s.heap H locs → ∀ ls : Array Slot, lv_has ls 4 [(3, .int (nI (5 * i))), (0, .ref b), (1, .ref (g 0)), (2, .ref (q 0))] → W p l e room_1 s m #[Value.ref b] below meth c H locs (cells + 1) (slots + 10) Q (F0 m 632 ls [])) : W p l e room_1 s m #[Value.ref b] below meth c H locs cells slots Q (F0 m 142 ls []) := by
  have hx := C.1
  have hb := C.2.1
  refine lv_aload_n hx hb de_L_law_142 rfl (lv_at hl 2 rfl) ?_
  refine lv_aload_n hx hb de_L_law_143 rfl (lv_at hl 1 rfl) ?_
  refine lv_iload_n hx hb de_L_law_144 rfl (lv_at hl 0 rfl) ?_
  refine lv_iconst (v := 1) hx hb de_L_law_145 (by decide) ?_
  refine lv_iadd hx hb de_L_law_146 ?_
  refine zi_top (y := (nI ((5 * i) + 1))) (nI_add _ 1) ?_
  refine lw_ld hx hb hX hbl hbA h.2.2 (ix_nI (k := ((5 * i) + 1)) (by omega) (by omega)) de_L_law_147 ?_
  refine lv_aload_n hx hb de_L_law_148 rfl (lv_at hl 1 rfl) ?_
  refine lv_iload_n hx hb de_L_law_149 rfl (lv_at hl 0 rfl) ?_
  refine lv_iconst (v := 2) hx hb de_L_law_150 (by decide) ?_
  refine lv_iadd hx hb de_L_law_151 ?_
  refine zi_top (y := (nI ((5 * i) + 2))) (nI_add _ 2) ?_
  refine lw_ld hx hb hX hbl hbA h.2.2 (ix_nI (k := ((5 * i) + 2)) (by omega) (by omega)) de_L_law_152 ?_
  refine lv_i2l hx hb de_L_law_153 rfl ?_
  refine lv_bipush (v := 32) hx hb de_L_law_154 (by decide) ?_
  refine lv_lshl hx hb de_L_law_156 rfl ?_
  refine lv_aload_n hx hb de_L_law_157 rfl (lv_at hl 1 rfl) ?_
  refine lv_iload_n hx hb de_L_law_158 rfl (lv_at hl 0 rfl) ?_
  refine lv_iconst (v := 3) hx hb de_L_law_159 (by decide) ?_
  refine lv_iadd hx hb de_L_law_160 ?_
  refine zi_top (y := (nI ((5 * i) + 3))) (nI_add _ 3) ?_
  refine lw_ld hx hb hX hbl hbA h.2.2 (ix_nI (k := ((5 * i) + 3)) (by omega) (by omega)) de_L_law_161 ?_
  refine lv_i2l hx hb de_L_law_162 rfl ?_
  refine lv_ldc2 (v := 4294967295) hx hb C.2.2.2.1 (C.2.2.2.2 _ kw_370) de_L_law_163 ?_
  refine lv_land hx hb de_L_law_166 ?_
  refine lv_lor hx hb de_L_law_167 ?_
  refine lx_call (As := [.int (xs ((5 * i) + 1)), .long ((((xs ((5 * i) + 2)).toInt64) <<< ((32 : Int32).toInt64 &&& 63)) ||| (((xs ((5 * i) + 3)).toInt64) &&& 4294967295))]) (ct_X_reserve l D g cQ cI ad bx S c0 hI (xs ((5 * i) + 1)) ((((xs ((5 * i) + 2)).toInt64) <<< ((32 : Int32).toInt64 &&& 63)) ||| (((xs ((5 * i) + 3)).toInt64) &&& 4294967295))) mi_X_reserve mv_X_reserve rfl C kw_108 ⟨Nat.le_of_ble_eq_true rfl, Nat.le_of_ble_eq_true rfl⟩ h hKx hC hA hl.1 rfl (Nat.le_of_ble_eq_true rfl) de_L_law_168 ⟨Nat.le_of_succ_le hcs.1, Nat.le_trans (Nat.le_add_right _ 10) hcs.2⟩ (fun r w H locs hp h => ?_)
  obtain ⟨S', e1, rfl⟩ := hp
  refine lv_aload_n hx hb de_L_law_171 rfl (lv_at hl 3 rfl) ?_
  refine lv_aload_n hx hb de_L_law_172 rfl (lv_at hl 1 rfl) ?_
  refine lv_iload_n hx hb de_L_law_173 rfl (lv_at hl 0 rfl) ?_
  refine lv_iconst (v := 1) hx hb de_L_law_174 (by decide) ?_
  refine lv_iadd hx hb de_L_law_175 ?_
  refine zi_top (y := (nI ((5 * i) + 1))) (nI_add _ 1) ?_
  refine lw_ld hx hb hX hbl hbA h.2.2 (ix_nI (k := ((5 * i) + 1)) (by omega) (by omega)) de_L_law_176 ?_
  refine lv_aload_n hx hb de_L_law_177 rfl (lv_at hl 1 rfl) ?_
  refine lv_iload_n hx hb de_L_law_178 rfl (lv_at hl 0 rfl) ?_
  refine lv_iconst (v := 2) hx hb de_L_law_179 (by decide) ?_
  refine lv_iadd hx hb de_L_law_180 ?_
  refine zi_top (y := (nI ((5 * i) + 2))) (nI_add _ 2) ?_
  refine lw_ld hx hb hX hbl hbA h.2.2 (ix_nI (k := ((5 * i) + 2)) (by omega) (by omega)) de_L_law_181 ?_
  refine lv_i2l hx hb de_L_law_182 rfl ?_
  refine lv_bipush (v := 32) hx hb de_L_law_183 (by decide) ?_
  refine lv_lshl hx hb de_L_law_185 rfl ?_
  refine lv_aload_n hx hb de_L_law_186 rfl (lv_at hl 1 rfl) ?_
  refine lv_iload_n hx hb de_L_law_187 rfl (lv_at hl 0 rfl) ?_
  refine lv_iconst (v := 3) hx hb de_L_law_188 (by decide) ?_
  refine lv_iadd hx hb de_L_law_189 ?_
  refine zi_top (y := (nI ((5 * i) + 3))) (nI_add _ 3) ?_
  refine lw_ld hx hb hX hbl hbA h.2.2 (ix_nI (k := ((5 * i) + 3)) (by omega) (by omega)) de_L_law_190 ?_
  refine lv_i2l hx hb de_L_law_191 rfl ?_
  refine lv_ldc2 (v := 4294967295) hx hb C.2.2.2.1 (C.2.2.2.2 _ kw_370) de_L_law_192 ?_
  refine lv_land hx hb de_L_law_195 ?_
  refine lv_lor hx hb de_L_law_196 ?_
  refine lm_call (As := [.int (xs ((5 * i) + 1)), .long ((((xs ((5 * i) + 2)).toInt64) <<< ((32 : Int32).toInt64 &&& 63)) ||| (((xs ((5 * i) + 3)).toInt64) &&& 4294967295))]) (ct_M_reserve l D q cI2 cJ cZ S c0 hI (xs ((5 * i) + 1)) ((((xs ((5 * i) + 2)).toInt64) <<< ((32 : Int32).toInt64 &&& 63)) ||| (((xs ((5 * i) + 3)).toInt64) &&& 4294967295))) mi_M_reserve mv_M_reserve rfl C kw_299 ⟨Nat.le_of_ble_eq_true rfl, Nat.le_of_ble_eq_true rfl⟩ h hKm hA hl.1 rfl (Nat.le_of_ble_eq_true rfl) de_L_law_197 ⟨Nat.le_of_succ_le hcs.1, Nat.le_trans (Nat.le_add_right _ 10) hcs.2⟩ (fun r2 w H locs hp h => ?_)
  obtain ⟨S2, e2, rfl⟩ := hp
  obtain ⟨rfl, rfl⟩ := Prod.mk.inj (e1.symm.trans e2)
  refine lv_icmp_eq (tgt := 632) hx hb de_L_law_200 (by decide) (fun _ => ?_) (fun z => absurd rfl z)
  have hI2 := inv_oReserve hI (xs ((5 * i) + 1)) ((((xs ((5 * i) + 2)).toInt64) <<< ((32 : Int32).toInt64 &&& 63)) ||| (((xs ((5 * i) + 3)).toInt64) &&& 4294967295))
  rw [e1] at hI2
  refine W.widen (k := cells + 1) (n := slots + 10) (Nat.le_succ _) (Nat.le_add_right _ _) ?_
  exact K _ bx _ _ (hI2.mono (Nat.le_succ _)) h ls hl
set_option maxHeartbeats 4000000 in
set_option maxRecDepth 100000 in
theorem lc_put {p : Program} {l : Launch} {e : Env} {s : State} {m : MethodId} {below : List Frame} {meth : Method} {c : Code} {Q : State → Prop} {D : va_G} {A : Nat → Prop} {ad g q : Nat → Nat} {cQ cI cI2 cJ cZ : ClassId} {b L : Nat} {xs : Nat → Int32} (C : CallFix p m c code 4 s #[Value.ref b] wG "LockerRowsLaw") (hX : va_X b L xs s s.heap) (hbl : b < s.heap.size) (hbA : ¬ A b) (hA : ∀ q : Nat, s.heap.size ≤ q → A q) (hKx : va_K D classes (tyX cQ cI) s) (hKm : va_K D classes (tyM cI2 cJ cZ) s) (hC : CX (some ad) A s s.heap) (hL : L ≤ 2560) {i c0 cells slots : Nat} {S : SS} {bx : Nat → Nat} {H : Heap} {locs : List Loc} {ls : Array Slot} (hI : Inv c0 S) (hc0 : c0 < 1000000) (hi : 5 * i + 5 ≤ L) (hcs : cells + 1 ≤ 600000 ∧ slots + 10 ≤ 7302250) (h : ST D A (WX g cQ cI ad bx S ++ WM q cI2 cJ cZ S) s.heap H locs) (hl : lv_has ls 4 [(3, .int (nI (5 * i))), (0, .ref b), (1, .ref (g 0)), (2, .ref (q 0))]) (K : ∀ (S' : SS) (bx' : Nat → Nat) (H : Heap) (locs : List Loc), Inv (c0 + 1) S' → ST D A (WX g cQ cI ad bx' S' ++ WM q cI2 cJ cZ S') s.heap H locs → ∀ ls : Array Slot, lv_has ls 4 [(3, .int (nI (5 * i))), (0, .ref b), (1, .ref (g 0)), (2, .ref (q 0))] → W p l e room_1 s m #[Value.ref b] below meth c H locs (cells + 1) (slots + 10) Q (F0 m 632 ls [])) : W p l e room_1 s m #[Value.ref b] below meth c H locs cells slots Q (F0 m 205 ls []) := by
  have hx := C.1
  have hb := C.2.1
  refine lv_aload_n hx hb de_L_law_205 rfl (lv_at hl 2 rfl) ?_
  refine lv_aload_n hx hb de_L_law_206 rfl (lv_at hl 1 rfl) ?_
  refine lv_iload_n hx hb de_L_law_207 rfl (lv_at hl 0 rfl) ?_
  refine lv_iconst (v := 1) hx hb de_L_law_208 (by decide) ?_
  refine lv_iadd hx hb de_L_law_209 ?_
  refine zi_top (y := (nI ((5 * i) + 1))) (nI_add _ 1) ?_
  refine lw_ld hx hb hX hbl hbA h.2.2 (ix_nI (k := ((5 * i) + 1)) (by omega) (by omega)) de_L_law_210 ?_
  refine lv_aload_n hx hb de_L_law_211 rfl (lv_at hl 1 rfl) ?_
  refine lv_iload_n hx hb de_L_law_212 rfl (lv_at hl 0 rfl) ?_
  refine lv_iconst (v := 2) hx hb de_L_law_213 (by decide) ?_
  refine lv_iadd hx hb de_L_law_214 ?_
  refine zi_top (y := (nI ((5 * i) + 2))) (nI_add _ 2) ?_
  refine lw_ld hx hb hX hbl hbA h.2.2 (ix_nI (k := ((5 * i) + 2)) (by omega) (by omega)) de_L_law_215 ?_
  refine lv_aload_n hx hb de_L_law_216 rfl (lv_at hl 1 rfl) ?_
  refine lv_iload_n hx hb de_L_law_217 rfl (lv_at hl 0 rfl) ?_
  refine lv_iconst (v := 3) hx hb de_L_law_218 (by decide) ?_
  refine lv_iadd hx hb de_L_law_219 ?_
  refine zi_top (y := (nI ((5 * i) + 3))) (nI_add _ 3) ?_
  refine lw_ld hx hb hX hbl hbA h.2.2 (ix_nI (k := ((5 * i) + 3)) (by omega) (by omega)) de_L_law_220 ?_
  refine lv_i2l hx hb de_L_law_221 rfl ?_
  refine lv_bipush (v := 32) hx hb de_L_law_222 (by decide) ?_
  refine lv_lshl hx hb de_L_law_224 rfl ?_
  refine lv_aload_n hx hb de_L_law_225 rfl (lv_at hl 1 rfl) ?_
  refine lv_iload_n hx hb de_L_law_226 rfl (lv_at hl 0 rfl) ?_
  refine lv_iconst (v := 4) hx hb de_L_law_227 (by decide) ?_
  refine lv_iadd hx hb de_L_law_228 ?_
  refine zi_top (y := (nI ((5 * i) + 4))) (nI_add _ 4) ?_
  refine lw_ld hx hb hX hbl hbA h.2.2 (ix_nI (k := ((5 * i) + 4)) (by omega) (by omega)) de_L_law_229 ?_
  refine lv_i2l hx hb de_L_law_230 rfl ?_
  refine lv_ldc2 (v := 4294967295) hx hb C.2.2.2.1 (C.2.2.2.2 _ kw_370) de_L_law_231 ?_
  refine lv_land hx hb de_L_law_234 ?_
  refine lv_lor hx hb de_L_law_235 ?_
  refine lx_call (As := [.int (xs ((5 * i) + 1)), .int (xs ((5 * i) + 2)), .long ((((xs ((5 * i) + 3)).toInt64) <<< ((32 : Int32).toInt64 &&& 63)) ||| (((xs ((5 * i) + 4)).toInt64) &&& 4294967295))]) (ct_X_put l D g cQ cI ad bx S c0 hI (xs ((5 * i) + 1)) (xs ((5 * i) + 2)) ((((xs ((5 * i) + 3)).toInt64) <<< ((32 : Int32).toInt64 &&& 63)) ||| (((xs ((5 * i) + 4)).toInt64) &&& 4294967295))) mi_X_put mv_X_put rfl C kw_121 ⟨Nat.le_of_ble_eq_true rfl, Nat.le_of_ble_eq_true rfl⟩ h hKx hC hA hl.1 rfl (Nat.le_of_ble_eq_true rfl) de_L_law_236 ⟨Nat.le_of_succ_le hcs.1, Nat.le_trans (Nat.le_add_right _ 10) hcs.2⟩ (fun r w H locs hp h => ?_)
  obtain ⟨S', e1, rfl⟩ := hp
  refine lv_aload_n hx hb de_L_law_239 rfl (lv_at hl 3 rfl) ?_
  refine lv_aload_n hx hb de_L_law_240 rfl (lv_at hl 1 rfl) ?_
  refine lv_iload_n hx hb de_L_law_241 rfl (lv_at hl 0 rfl) ?_
  refine lv_iconst (v := 1) hx hb de_L_law_242 (by decide) ?_
  refine lv_iadd hx hb de_L_law_243 ?_
  refine zi_top (y := (nI ((5 * i) + 1))) (nI_add _ 1) ?_
  refine lw_ld hx hb hX hbl hbA h.2.2 (ix_nI (k := ((5 * i) + 1)) (by omega) (by omega)) de_L_law_244 ?_
  refine lv_aload_n hx hb de_L_law_245 rfl (lv_at hl 1 rfl) ?_
  refine lv_iload_n hx hb de_L_law_246 rfl (lv_at hl 0 rfl) ?_
  refine lv_iconst (v := 2) hx hb de_L_law_247 (by decide) ?_
  refine lv_iadd hx hb de_L_law_248 ?_
  refine zi_top (y := (nI ((5 * i) + 2))) (nI_add _ 2) ?_
  refine lw_ld hx hb hX hbl hbA h.2.2 (ix_nI (k := ((5 * i) + 2)) (by omega) (by omega)) de_L_law_249 ?_
  refine lv_aload_n hx hb de_L_law_250 rfl (lv_at hl 1 rfl) ?_
  refine lv_iload_n hx hb de_L_law_251 rfl (lv_at hl 0 rfl) ?_
  refine lv_iconst (v := 3) hx hb de_L_law_252 (by decide) ?_
  refine lv_iadd hx hb de_L_law_253 ?_
  refine zi_top (y := (nI ((5 * i) + 3))) (nI_add _ 3) ?_
  refine lw_ld hx hb hX hbl hbA h.2.2 (ix_nI (k := ((5 * i) + 3)) (by omega) (by omega)) de_L_law_254 ?_
  refine lv_i2l hx hb de_L_law_255 rfl ?_
  refine lv_bipush (v := 32) hx hb de_L_law_256 (by decide) ?_
  refine lv_lshl hx hb de_L_law_258 rfl ?_
  refine lv_aload_n hx hb de_L_law_259 rfl (lv_at hl 1 rfl) ?_
  refine lv_iload_n hx hb de_L_law_260 rfl (lv_at hl 0 rfl) ?_
  refine lv_iconst (v := 4) hx hb de_L_law_261 (by decide) ?_
  refine lv_iadd hx hb de_L_law_262 ?_
  refine zi_top (y := (nI ((5 * i) + 4))) (nI_add _ 4) ?_
  refine lw_ld hx hb hX hbl hbA h.2.2 (ix_nI (k := ((5 * i) + 4)) (by omega) (by omega)) de_L_law_263 ?_
  refine lv_i2l hx hb de_L_law_264 rfl ?_
  refine lv_ldc2 (v := 4294967295) hx hb C.2.2.2.1 (C.2.2.2.2 _ kw_370) de_L_law_265 ?_
  refine lv_land hx hb de_L_law_268 ?_
  refine lv_lor hx hb de_L_law_269 ?_
  refine lm_call (As := [.int (xs ((5 * i) + 1)), .int (xs ((5 * i) + 2)), .long ((((xs ((5 * i) + 3)).toInt64) <<< ((32 : Int32).toInt64 &&& 63)) ||| (((xs ((5 * i) + 4)).toInt64) &&& 4294967295))]) (ct_M_put l D q cI2 cJ cZ S c0 hI (xs ((5 * i) + 1)) (xs ((5 * i) + 2)) ((((xs ((5 * i) + 3)).toInt64) <<< ((32 : Int32).toInt64 &&& 63)) ||| (((xs ((5 * i) + 4)).toInt64) &&& 4294967295))) mi_M_put mv_M_put rfl C kw_304 ⟨Nat.le_of_ble_eq_true rfl, Nat.le_of_ble_eq_true rfl⟩ h hKm hA hl.1 rfl (Nat.le_of_ble_eq_true rfl) de_L_law_270 ⟨Nat.le_of_succ_le hcs.1, Nat.le_trans (Nat.le_add_right _ 10) hcs.2⟩ (fun r2 w H locs hp h => ?_)
  obtain ⟨S2, e2, rfl⟩ := hp
  obtain ⟨rfl, rfl⟩ := Prod.mk.inj (e1.symm.trans e2)
  refine lv_icmp_eq (tgt := 632) hx hb de_L_law_273 (by decide) (fun _ => ?_) (fun z => absurd rfl z)
  have hI2 := inv_oPut hI (xs ((5 * i) + 1)) (xs ((5 * i) + 2)) ((((xs ((5 * i) + 3)).toInt64) <<< ((32 : Int32).toInt64 &&& 63)) ||| (((xs ((5 * i) + 4)).toInt64) &&& 4294967295))
  rw [e1] at hI2
  refine W.widen (k := cells + 1) (n := slots + 10) (Nat.le_succ _) (Nat.le_add_right _ _) ?_
  exact K _ bx _ _ (hI2.mono (Nat.le_succ _)) h ls hl
set_option maxHeartbeats 4000000 in
set_option maxRecDepth 100000 in
theorem lc_close {p : Program} {l : Launch} {e : Env} {s : State} {m : MethodId} {below : List Frame} {meth : Method} {c : Code} {Q : State → Prop} {D : va_G} {A : Nat → Prop} {ad g q : Nat → Nat} {cQ cI cI2 cJ cZ : ClassId} {b L : Nat} {xs : Nat → Int32} (C : CallFix p m c code 4 s #[Value.ref b] wG "LockerRowsLaw") (hX : va_X b L xs s s.heap) (hbl : b < s.heap.size) (hbA : ¬ A b) (hA : ∀ q : Nat, s.heap.size ≤ q → A q) (hKx : va_K D classes (tyX cQ cI) s) (hKm : va_K D classes (tyM cI2 cJ cZ) s) (hC : CX (some ad) A s s.heap) (hL : L ≤ 2560) {i c0 cells slots : Nat} {S : SS} {bx : Nat → Nat} {H : Heap} {locs : List Loc} {ls : Array Slot} (hI : Inv c0 S) (hc0 : c0 < 1000000) (hi : 5 * i + 5 ≤ L) (hcs : cells + 1 ≤ 600000 ∧ slots + 10 ≤ 7302250) (h : ST D A (WX g cQ cI ad bx S ++ WM q cI2 cJ cZ S) s.heap H locs) (hl : lv_has ls 4 [(3, .int (nI (5 * i))), (0, .ref b), (1, .ref (g 0)), (2, .ref (q 0))]) (K : ∀ (S' : SS) (bx' : Nat → Nat) (H : Heap) (locs : List Loc), Inv (c0 + 1) S' → ST D A (WX g cQ cI ad bx' S' ++ WM q cI2 cJ cZ S') s.heap H locs → ∀ ls : Array Slot, lv_has ls 4 [(3, .int (nI (5 * i))), (0, .ref b), (1, .ref (g 0)), (2, .ref (q 0))] → W p l e room_1 s m #[Value.ref b] below meth c H locs (cells + 1) (slots + 10) Q (F0 m 632 ls [])) : W p l e room_1 s m #[Value.ref b] below meth c H locs cells slots Q (F0 m 278 ls []) := by
  have hx := C.1
  have hb := C.2.1
  refine lv_aload_n hx hb de_L_law_278 rfl (lv_at hl 2 rfl) ?_
  refine lv_aload_n hx hb de_L_law_279 rfl (lv_at hl 1 rfl) ?_
  refine lv_iload_n hx hb de_L_law_280 rfl (lv_at hl 0 rfl) ?_
  refine lv_iconst (v := 1) hx hb de_L_law_281 (by decide) ?_
  refine lv_iadd hx hb de_L_law_282 ?_
  refine zi_top (y := (nI ((5 * i) + 1))) (nI_add _ 1) ?_
  refine lw_ld hx hb hX hbl hbA h.2.2 (ix_nI (k := ((5 * i) + 1)) (by omega) (by omega)) de_L_law_283 ?_
  refine lv_aload_n hx hb de_L_law_284 rfl (lv_at hl 1 rfl) ?_
  refine lv_iload_n hx hb de_L_law_285 rfl (lv_at hl 0 rfl) ?_
  refine lv_iconst (v := 2) hx hb de_L_law_286 (by decide) ?_
  refine lv_iadd hx hb de_L_law_287 ?_
  refine zi_top (y := (nI ((5 * i) + 2))) (nI_add _ 2) ?_
  refine lw_ld hx hb hX hbl hbA h.2.2 (ix_nI (k := ((5 * i) + 2)) (by omega) (by omega)) de_L_law_288 ?_
  refine lv_i2l hx hb de_L_law_289 rfl ?_
  refine lv_bipush (v := 32) hx hb de_L_law_290 (by decide) ?_
  refine lv_lshl hx hb de_L_law_292 rfl ?_
  refine lv_aload_n hx hb de_L_law_293 rfl (lv_at hl 1 rfl) ?_
  refine lv_iload_n hx hb de_L_law_294 rfl (lv_at hl 0 rfl) ?_
  refine lv_iconst (v := 3) hx hb de_L_law_295 (by decide) ?_
  refine lv_iadd hx hb de_L_law_296 ?_
  refine zi_top (y := (nI ((5 * i) + 3))) (nI_add _ 3) ?_
  refine lw_ld hx hb hX hbl hbA h.2.2 (ix_nI (k := ((5 * i) + 3)) (by omega) (by omega)) de_L_law_297 ?_
  refine lv_i2l hx hb de_L_law_298 rfl ?_
  refine lv_ldc2 (v := 4294967295) hx hb C.2.2.2.1 (C.2.2.2.2 _ kw_370) de_L_law_299 ?_
  refine lv_land hx hb de_L_law_302 ?_
  refine lv_lor hx hb de_L_law_303 ?_
  refine lx_call (As := [.int (xs ((5 * i) + 1)), .long ((((xs ((5 * i) + 2)).toInt64) <<< ((32 : Int32).toInt64 &&& 63)) ||| (((xs ((5 * i) + 3)).toInt64) &&& 4294967295))]) (ct_X_close l D g cQ cI ad bx S c0 hI (xs ((5 * i) + 1)) ((((xs ((5 * i) + 2)).toInt64) <<< ((32 : Int32).toInt64 &&& 63)) ||| (((xs ((5 * i) + 3)).toInt64) &&& 4294967295))) mi_X_close mv_X_close rfl C kw_158 ⟨Nat.le_of_ble_eq_true rfl, Nat.le_of_ble_eq_true rfl⟩ h hKx hC hA hl.1 rfl (Nat.le_of_ble_eq_true rfl) de_L_law_304 ⟨Nat.le_of_succ_le hcs.1, Nat.le_trans (Nat.le_add_right _ 10) hcs.2⟩ (fun r w H locs hp h => ?_)
  obtain ⟨S', e1, rfl⟩ := hp
  refine lv_aload_n hx hb de_L_law_307 rfl (lv_at hl 3 rfl) ?_
  refine lv_aload_n hx hb de_L_law_308 rfl (lv_at hl 1 rfl) ?_
  refine lv_iload_n hx hb de_L_law_309 rfl (lv_at hl 0 rfl) ?_
  refine lv_iconst (v := 1) hx hb de_L_law_310 (by decide) ?_
  refine lv_iadd hx hb de_L_law_311 ?_
  refine zi_top (y := (nI ((5 * i) + 1))) (nI_add _ 1) ?_
  refine lw_ld hx hb hX hbl hbA h.2.2 (ix_nI (k := ((5 * i) + 1)) (by omega) (by omega)) de_L_law_312 ?_
  refine lv_aload_n hx hb de_L_law_313 rfl (lv_at hl 1 rfl) ?_
  refine lv_iload_n hx hb de_L_law_314 rfl (lv_at hl 0 rfl) ?_
  refine lv_iconst (v := 2) hx hb de_L_law_315 (by decide) ?_
  refine lv_iadd hx hb de_L_law_316 ?_
  refine zi_top (y := (nI ((5 * i) + 2))) (nI_add _ 2) ?_
  refine lw_ld hx hb hX hbl hbA h.2.2 (ix_nI (k := ((5 * i) + 2)) (by omega) (by omega)) de_L_law_317 ?_
  refine lv_i2l hx hb de_L_law_318 rfl ?_
  refine lv_bipush (v := 32) hx hb de_L_law_319 (by decide) ?_
  refine lv_lshl hx hb de_L_law_321 rfl ?_
  refine lv_aload_n hx hb de_L_law_322 rfl (lv_at hl 1 rfl) ?_
  refine lv_iload_n hx hb de_L_law_323 rfl (lv_at hl 0 rfl) ?_
  refine lv_iconst (v := 3) hx hb de_L_law_324 (by decide) ?_
  refine lv_iadd hx hb de_L_law_325 ?_
  refine zi_top (y := (nI ((5 * i) + 3))) (nI_add _ 3) ?_
  refine lw_ld hx hb hX hbl hbA h.2.2 (ix_nI (k := ((5 * i) + 3)) (by omega) (by omega)) de_L_law_326 ?_
  refine lv_i2l hx hb de_L_law_327 rfl ?_
  refine lv_ldc2 (v := 4294967295) hx hb C.2.2.2.1 (C.2.2.2.2 _ kw_370) de_L_law_328 ?_
  refine lv_land hx hb de_L_law_331 ?_
  refine lv_lor hx hb de_L_law_332 ?_
  refine lm_call (As := [.int (xs ((5 * i) + 1)), .long ((((xs ((5 * i) + 2)).toInt64) <<< ((32 : Int32).toInt64 &&& 63)) ||| (((xs ((5 * i) + 3)).toInt64) &&& 4294967295))]) (ct_M_close l D q cI2 cJ cZ S c0 hI (xs ((5 * i) + 1)) ((((xs ((5 * i) + 2)).toInt64) <<< ((32 : Int32).toInt64 &&& 63)) ||| (((xs ((5 * i) + 3)).toInt64) &&& 4294967295))) mi_M_close mv_M_close rfl C kw_323 ⟨Nat.le_of_ble_eq_true rfl, Nat.le_of_ble_eq_true rfl⟩ h hKm hA hl.1 rfl (Nat.le_of_ble_eq_true rfl) de_L_law_333 ⟨Nat.le_of_succ_le hcs.1, Nat.le_trans (Nat.le_add_right _ 10) hcs.2⟩ (fun r2 w H locs hp h => ?_)
  obtain ⟨S2, e2, rfl⟩ := hp
  obtain ⟨rfl, rfl⟩ := Prod.mk.inj (e1.symm.trans e2)
  refine lv_icmp_eq (tgt := 632) hx hb de_L_law_336 (by decide) (fun _ => ?_) (fun z => absurd rfl z)
  have hI2 := inv_oClose hI (xs ((5 * i) + 1)) ((((xs ((5 * i) + 2)).toInt64) <<< ((32 : Int32).toInt64 &&& 63)) ||| (((xs ((5 * i) + 3)).toInt64) &&& 4294967295))
  rw [e1] at hI2
  refine W.widen (k := cells + 1) (n := slots + 10) (Nat.le_succ _) (Nat.le_add_right _ _) ?_
  exact K _ bx _ _ (hI2.mono (Nat.le_succ _)) h ls hl
set_option maxHeartbeats 4000000 in
set_option maxRecDepth 100000 in
theorem lc_type {p : Program} {l : Launch} {e : Env} {s : State} {m : MethodId} {below : List Frame} {meth : Method} {c : Code} {Q : State → Prop} {D : va_G} {A : Nat → Prop} {ad g q : Nat → Nat} {cQ cI cI2 cJ cZ : ClassId} {b L : Nat} {xs : Nat → Int32} (C : CallFix p m c code 4 s #[Value.ref b] wG "LockerRowsLaw") (hX : va_X b L xs s s.heap) (hbl : b < s.heap.size) (hbA : ¬ A b) (hA : ∀ q : Nat, s.heap.size ≤ q → A q) (hKx : va_K D classes (tyX cQ cI) s) (hKm : va_K D classes (tyM cI2 cJ cZ) s) (hC : CX (some ad) A s s.heap) (hL : L ≤ 2560) {i c0 cells slots : Nat} {S : SS} {bx : Nat → Nat} {H : Heap} {locs : List Loc} {ls : Array Slot} (hI : Inv c0 S) (hc0 : c0 < 1000000) (hi : 5 * i + 5 ≤ L) (hcs : cells + 1 ≤ 600000 ∧ slots + 10 ≤ 7302250) (h : ST D A (WX g cQ cI ad bx S ++ WM q cI2 cJ cZ S) s.heap H locs) (hl : lv_has ls 4 [(3, .int (nI (5 * i))), (0, .ref b), (1, .ref (g 0)), (2, .ref (q 0))]) (K : ∀ (S' : SS) (bx' : Nat → Nat) (H : Heap) (locs : List Loc), Inv (c0 + 1) S' → ST D A (WX g cQ cI ad bx' S' ++ WM q cI2 cJ cZ S') s.heap H locs → ∀ ls : Array Slot, lv_has ls 4 [(3, .int (nI (5 * i))), (0, .ref b), (1, .ref (g 0)), (2, .ref (q 0))] → W p l e room_1 s m #[Value.ref b] below meth c H locs (cells + 1) (slots + 10) Q (F0 m 632 ls [])) : W p l e room_1 s m #[Value.ref b] below meth c H locs cells slots Q (F0 m 341 ls []) := by
  have hx := C.1
  have hb := C.2.1
  refine lv_aload_n hx hb de_L_law_341 rfl (lv_at hl 2 rfl) ?_
  refine lv_aload_n hx hb de_L_law_342 rfl (lv_at hl 1 rfl) ?_
  refine lv_iload_n hx hb de_L_law_343 rfl (lv_at hl 0 rfl) ?_
  refine lv_iconst (v := 1) hx hb de_L_law_344 (by decide) ?_
  refine lv_iadd hx hb de_L_law_345 ?_
  refine zi_top (y := (nI ((5 * i) + 1))) (nI_add _ 1) ?_
  refine lw_ld hx hb hX hbl hbA h.2.2 (ix_nI (k := ((5 * i) + 1)) (by omega) (by omega)) de_L_law_346 ?_
  refine lv_aload_n hx hb de_L_law_347 rfl (lv_at hl 1 rfl) ?_
  refine lv_iload_n hx hb de_L_law_348 rfl (lv_at hl 0 rfl) ?_
  refine lv_iconst (v := 2) hx hb de_L_law_349 (by decide) ?_
  refine lv_iadd hx hb de_L_law_350 ?_
  refine zi_top (y := (nI ((5 * i) + 2))) (nI_add _ 2) ?_
  refine lw_ld hx hb hX hbl hbA h.2.2 (ix_nI (k := ((5 * i) + 2)) (by omega) (by omega)) de_L_law_351 ?_
  refine lv_i2l hx hb de_L_law_352 rfl ?_
  refine lv_bipush (v := 32) hx hb de_L_law_353 (by decide) ?_
  refine lv_lshl hx hb de_L_law_355 rfl ?_
  refine lv_aload_n hx hb de_L_law_356 rfl (lv_at hl 1 rfl) ?_
  refine lv_iload_n hx hb de_L_law_357 rfl (lv_at hl 0 rfl) ?_
  refine lv_iconst (v := 3) hx hb de_L_law_358 (by decide) ?_
  refine lv_iadd hx hb de_L_law_359 ?_
  refine zi_top (y := (nI ((5 * i) + 3))) (nI_add _ 3) ?_
  refine lw_ld hx hb hX hbl hbA h.2.2 (ix_nI (k := ((5 * i) + 3)) (by omega) (by omega)) de_L_law_360 ?_
  refine lv_i2l hx hb de_L_law_361 rfl ?_
  refine lv_ldc2 (v := 4294967295) hx hb C.2.2.2.1 (C.2.2.2.2 _ kw_370) de_L_law_362 ?_
  refine lv_land hx hb de_L_law_365 ?_
  refine lv_lor hx hb de_L_law_366 ?_
  refine lx_call (As := [.int (xs ((5 * i) + 1)), .long ((((xs ((5 * i) + 2)).toInt64) <<< ((32 : Int32).toInt64 &&& 63)) ||| (((xs ((5 * i) + 3)).toInt64) &&& 4294967295))]) (ct_X_type l D g cQ cI ad bx S c0 hI hc0 (xs ((5 * i) + 1)) ((((xs ((5 * i) + 2)).toInt64) <<< ((32 : Int32).toInt64 &&& 63)) ||| (((xs ((5 * i) + 3)).toInt64) &&& 4294967295))) mi_X_type mv_X_type rfl C kw_174 ⟨Nat.le_of_ble_eq_true rfl, Nat.le_of_ble_eq_true rfl⟩ h hKx hC hA hl.1 rfl (Nat.le_of_ble_eq_true rfl) de_L_law_367 ⟨Nat.le_of_succ_le hcs.1, Nat.le_trans (Nat.le_add_right _ 10) hcs.2⟩ (fun r w H locs hp h => ?_)
  obtain ⟨S', e1, rfl⟩ := hp
  refine lv_aload_n hx hb de_L_law_370 rfl (lv_at hl 3 rfl) ?_
  refine lv_aload_n hx hb de_L_law_371 rfl (lv_at hl 1 rfl) ?_
  refine lv_iload_n hx hb de_L_law_372 rfl (lv_at hl 0 rfl) ?_
  refine lv_iconst (v := 1) hx hb de_L_law_373 (by decide) ?_
  refine lv_iadd hx hb de_L_law_374 ?_
  refine zi_top (y := (nI ((5 * i) + 1))) (nI_add _ 1) ?_
  refine lw_ld hx hb hX hbl hbA h.2.2 (ix_nI (k := ((5 * i) + 1)) (by omega) (by omega)) de_L_law_375 ?_
  refine lv_aload_n hx hb de_L_law_376 rfl (lv_at hl 1 rfl) ?_
  refine lv_iload_n hx hb de_L_law_377 rfl (lv_at hl 0 rfl) ?_
  refine lv_iconst (v := 2) hx hb de_L_law_378 (by decide) ?_
  refine lv_iadd hx hb de_L_law_379 ?_
  refine zi_top (y := (nI ((5 * i) + 2))) (nI_add _ 2) ?_
  refine lw_ld hx hb hX hbl hbA h.2.2 (ix_nI (k := ((5 * i) + 2)) (by omega) (by omega)) de_L_law_380 ?_
  refine lv_i2l hx hb de_L_law_381 rfl ?_
  refine lv_bipush (v := 32) hx hb de_L_law_382 (by decide) ?_
  refine lv_lshl hx hb de_L_law_384 rfl ?_
  refine lv_aload_n hx hb de_L_law_385 rfl (lv_at hl 1 rfl) ?_
  refine lv_iload_n hx hb de_L_law_386 rfl (lv_at hl 0 rfl) ?_
  refine lv_iconst (v := 3) hx hb de_L_law_387 (by decide) ?_
  refine lv_iadd hx hb de_L_law_388 ?_
  refine zi_top (y := (nI ((5 * i) + 3))) (nI_add _ 3) ?_
  refine lw_ld hx hb hX hbl hbA h.2.2 (ix_nI (k := ((5 * i) + 3)) (by omega) (by omega)) de_L_law_389 ?_
  refine lv_i2l hx hb de_L_law_390 rfl ?_
  refine lv_ldc2 (v := 4294967295) hx hb C.2.2.2.1 (C.2.2.2.2 _ kw_370) de_L_law_391 ?_
  refine lv_land hx hb de_L_law_394 ?_
  refine lv_lor hx hb de_L_law_395 ?_
  refine lm_call (As := [.int (xs ((5 * i) + 1)), .long ((((xs ((5 * i) + 2)).toInt64) <<< ((32 : Int32).toInt64 &&& 63)) ||| (((xs ((5 * i) + 3)).toInt64) &&& 4294967295))]) (ct_M_type l D q cI2 cJ cZ S c0 hI hc0 (xs ((5 * i) + 1)) ((((xs ((5 * i) + 2)).toInt64) <<< ((32 : Int32).toInt64 &&& 63)) ||| (((xs ((5 * i) + 3)).toInt64) &&& 4294967295))) mi_M_type mv_M_type rfl C kw_331 ⟨Nat.le_of_ble_eq_true rfl, Nat.le_of_ble_eq_true rfl⟩ h hKm hA hl.1 rfl (Nat.le_of_ble_eq_true rfl) de_L_law_396 ⟨Nat.le_of_succ_le hcs.1, Nat.le_trans (Nat.le_add_right _ 10) hcs.2⟩ (fun r2 w H locs hp h => ?_)
  obtain ⟨S2, e2, rfl⟩ := hp
  obtain ⟨rfl, rfl⟩ := Prod.mk.inj (e1.symm.trans e2)
  refine lv_icmp_eq (tgt := 632) hx hb de_L_law_399 (by decide) (fun _ => ?_) (fun z => absurd rfl z)
  have hI2 := inv_oType hI (xs ((5 * i) + 1)) ((((xs ((5 * i) + 2)).toInt64) <<< ((32 : Int32).toInt64 &&& 63)) ||| (((xs ((5 * i) + 3)).toInt64) &&& 4294967295))
  rw [e1] at hI2
  refine W.widen (k := cells + 1) (n := slots + 10) (Nat.le_succ _) (Nat.le_add_right _ _) ?_
  exact K _ bx _ _ hI2 h ls hl
set_option maxHeartbeats 4000000 in
set_option maxRecDepth 100000 in
theorem lc_code {p : Program} {l : Launch} {e : Env} {s : State} {m : MethodId} {below : List Frame} {meth : Method} {c : Code} {Q : State → Prop} {D : va_G} {A : Nat → Prop} {ad g q : Nat → Nat} {cQ cI cI2 cJ cZ : ClassId} {b L : Nat} {xs : Nat → Int32} (C : CallFix p m c code 4 s #[Value.ref b] wG "LockerRowsLaw") (hX : va_X b L xs s s.heap) (hbl : b < s.heap.size) (hbA : ¬ A b) (hA : ∀ q : Nat, s.heap.size ≤ q → A q) (hKx : va_K D classes (tyX cQ cI) s) (hKm : va_K D classes (tyM cI2 cJ cZ) s) (hC : CX (some ad) A s s.heap) (hL : L ≤ 2560) {i c0 cells slots : Nat} {S : SS} {bx : Nat → Nat} {H : Heap} {locs : List Loc} {ls : Array Slot} (hI : Inv c0 S) (hc0 : c0 < 1000000) (hi : 5 * i + 5 ≤ L) (hcs : cells + 1 ≤ 600000 ∧ slots + 10 ≤ 7302250) (h : ST D A (WX g cQ cI ad bx S ++ WM q cI2 cJ cZ S) s.heap H locs) (hl : lv_has ls 4 [(3, .int (nI (5 * i))), (0, .ref b), (1, .ref (g 0)), (2, .ref (q 0))]) (K : ∀ (S' : SS) (bx' : Nat → Nat) (H : Heap) (locs : List Loc), Inv (c0 + 1) S' → ST D A (WX g cQ cI ad bx' S' ++ WM q cI2 cJ cZ S') s.heap H locs → ∀ ls : Array Slot, lv_has ls 4 [(3, .int (nI (5 * i))), (0, .ref b), (1, .ref (g 0)), (2, .ref (q 0))] → W p l e room_1 s m #[Value.ref b] below meth c H locs (cells + 1) (slots + 10) Q (F0 m 632 ls [])) : W p l e room_1 s m #[Value.ref b] below meth c H locs cells slots Q (F0 m 404 ls []) := by
  have hx := C.1
  have hb := C.2.1
  refine lv_aload_n hx hb de_L_law_404 rfl (lv_at hl 2 rfl) ?_
  refine lv_aload_n hx hb de_L_law_405 rfl (lv_at hl 1 rfl) ?_
  refine lv_iload_n hx hb de_L_law_406 rfl (lv_at hl 0 rfl) ?_
  refine lv_iconst (v := 1) hx hb de_L_law_407 (by decide) ?_
  refine lv_iadd hx hb de_L_law_408 ?_
  refine zi_top (y := (nI ((5 * i) + 1))) (nI_add _ 1) ?_
  refine lw_ld hx hb hX hbl hbA h.2.2 (ix_nI (k := ((5 * i) + 1)) (by omega) (by omega)) de_L_law_409 ?_
  refine lx_read (As := [.int (xs ((5 * i) + 1))]) (ct_X_code l D g cQ cI ad bx S c0 hI (xs ((5 * i) + 1))) mi_X_code mv_X_code rfl C kw_187 ⟨Nat.le_of_ble_eq_true rfl, Nat.le_of_ble_eq_true rfl⟩ h hKx hC hl.1 rfl (Nat.le_of_ble_eq_true rfl) de_L_law_410 ⟨Nat.le_of_succ_le hcs.1, Nat.le_trans (Nat.le_add_right _ 10) hcs.2⟩ (fun r e1 => ?_)
  refine lv_aload_n hx hb de_L_law_413 rfl (lv_at hl 3 rfl) ?_
  refine lv_aload_n hx hb de_L_law_414 rfl (lv_at hl 1 rfl) ?_
  refine lv_iload_n hx hb de_L_law_415 rfl (lv_at hl 0 rfl) ?_
  refine lv_iconst (v := 1) hx hb de_L_law_416 (by decide) ?_
  refine lv_iadd hx hb de_L_law_417 ?_
  refine zi_top (y := (nI ((5 * i) + 1))) (nI_add _ 1) ?_
  refine lw_ld hx hb hX hbl hbA h.2.2 (ix_nI (k := ((5 * i) + 1)) (by omega) (by omega)) de_L_law_418 ?_
  refine lm_read (As := [.int (xs ((5 * i) + 1))]) (ct_M_code l D q cI2 cJ cZ S c0 hI (xs ((5 * i) + 1))) mi_M_code mv_M_code rfl C kw_344 ⟨Nat.le_of_ble_eq_true rfl, Nat.le_of_ble_eq_true rfl⟩ h hKm hl.1 rfl (Nat.le_of_ble_eq_true rfl) de_L_law_419 ⟨Nat.le_of_succ_le hcs.1, Nat.le_trans (Nat.le_add_right _ 10) hcs.2⟩ (fun r2 e2 => ?_)
  obtain rfl := e1.trans e2.symm
  refine lv_icmp_eq (tgt := 632) hx hb de_L_law_422 (by decide) (fun _ => ?_) (fun z => absurd rfl z)
  refine W.widen (k := cells + 1) (n := slots + 10) (Nat.le_succ _) (Nat.le_add_right _ _) ?_
  exact K S bx _ _ (hI.mono (Nat.le_succ _)) h ls hl
set_option maxHeartbeats 4000000 in
set_option maxRecDepth 100000 in
theorem lc_door {p : Program} {l : Launch} {e : Env} {s : State} {m : MethodId} {below : List Frame} {meth : Method} {c : Code} {Q : State → Prop} {D : va_G} {A : Nat → Prop} {ad g q : Nat → Nat} {cQ cI cI2 cJ cZ : ClassId} {b L : Nat} {xs : Nat → Int32} (C : CallFix p m c code 4 s #[Value.ref b] wG "LockerRowsLaw") (hX : va_X b L xs s s.heap) (hbl : b < s.heap.size) (hbA : ¬ A b) (hA : ∀ q : Nat, s.heap.size ≤ q → A q) (hKx : va_K D classes (tyX cQ cI) s) (hKm : va_K D classes (tyM cI2 cJ cZ) s) (hC : CX (some ad) A s s.heap) (hL : L ≤ 2560) {i c0 cells slots : Nat} {S : SS} {bx : Nat → Nat} {H : Heap} {locs : List Loc} {ls : Array Slot} (hI : Inv c0 S) (hc0 : c0 < 1000000) (hi : 5 * i + 5 ≤ L) (hcs : cells + 1 ≤ 600000 ∧ slots + 10 ≤ 7302250) (h : ST D A (WX g cQ cI ad bx S ++ WM q cI2 cJ cZ S) s.heap H locs) (hl : lv_has ls 4 [(3, .int (nI (5 * i))), (0, .ref b), (1, .ref (g 0)), (2, .ref (q 0))]) (K : ∀ (S' : SS) (bx' : Nat → Nat) (H : Heap) (locs : List Loc), Inv (c0 + 1) S' → ST D A (WX g cQ cI ad bx' S' ++ WM q cI2 cJ cZ S') s.heap H locs → ∀ ls : Array Slot, lv_has ls 4 [(3, .int (nI (5 * i))), (0, .ref b), (1, .ref (g 0)), (2, .ref (q 0))] → W p l e room_1 s m #[Value.ref b] below meth c H locs (cells + 1) (slots + 10) Q (F0 m 632 ls [])) : W p l e room_1 s m #[Value.ref b] below meth c H locs cells slots Q (F0 m 427 ls []) := by
  have hx := C.1
  have hb := C.2.1
  refine lv_aload_n hx hb de_L_law_427 rfl (lv_at hl 2 rfl) ?_
  refine lv_aload_n hx hb de_L_law_428 rfl (lv_at hl 1 rfl) ?_
  refine lv_iload_n hx hb de_L_law_429 rfl (lv_at hl 0 rfl) ?_
  refine lv_iconst (v := 1) hx hb de_L_law_430 (by decide) ?_
  refine lv_iadd hx hb de_L_law_431 ?_
  refine zi_top (y := (nI ((5 * i) + 1))) (nI_add _ 1) ?_
  refine lw_ld hx hb hX hbl hbA h.2.2 (ix_nI (k := ((5 * i) + 1)) (by omega) (by omega)) de_L_law_432 ?_
  refine lv_aload_n hx hb de_L_law_433 rfl (lv_at hl 1 rfl) ?_
  refine lv_iload_n hx hb de_L_law_434 rfl (lv_at hl 0 rfl) ?_
  refine lv_iconst (v := 2) hx hb de_L_law_435 (by decide) ?_
  refine lv_iadd hx hb de_L_law_436 ?_
  refine zi_top (y := (nI ((5 * i) + 2))) (nI_add _ 2) ?_
  refine lw_ld hx hb hX hbl hbA h.2.2 (ix_nI (k := ((5 * i) + 2)) (by omega) (by omega)) de_L_law_437 ?_
  refine lv_aload_n hx hb de_L_law_438 rfl (lv_at hl 1 rfl) ?_
  refine lv_iload_n hx hb de_L_law_439 rfl (lv_at hl 0 rfl) ?_
  refine lv_iconst (v := 3) hx hb de_L_law_440 (by decide) ?_
  refine lv_iadd hx hb de_L_law_441 ?_
  refine zi_top (y := (nI ((5 * i) + 3))) (nI_add _ 3) ?_
  refine lw_ld hx hb hX hbl hbA h.2.2 (ix_nI (k := ((5 * i) + 3)) (by omega) (by omega)) de_L_law_442 ?_
  refine lv_i2l hx hb de_L_law_443 rfl ?_
  refine lv_bipush (v := 32) hx hb de_L_law_444 (by decide) ?_
  refine lv_lshl hx hb de_L_law_446 rfl ?_
  refine lv_aload_n hx hb de_L_law_447 rfl (lv_at hl 1 rfl) ?_
  refine lv_iload_n hx hb de_L_law_448 rfl (lv_at hl 0 rfl) ?_
  refine lv_iconst (v := 4) hx hb de_L_law_449 (by decide) ?_
  refine lv_iadd hx hb de_L_law_450 ?_
  refine zi_top (y := (nI ((5 * i) + 4))) (nI_add _ 4) ?_
  refine lw_ld hx hb hX hbl hbA h.2.2 (ix_nI (k := ((5 * i) + 4)) (by omega) (by omega)) de_L_law_451 ?_
  refine lv_i2l hx hb de_L_law_452 rfl ?_
  refine lv_ldc2 (v := 4294967295) hx hb C.2.2.2.1 (C.2.2.2.2 _ kw_370) de_L_law_453 ?_
  refine lv_land hx hb de_L_law_456 ?_
  refine lv_lor hx hb de_L_law_457 ?_
  refine lx_call (As := [.int (xs ((5 * i) + 1)), .int (xs ((5 * i) + 2)), .long ((((xs ((5 * i) + 3)).toInt64) <<< ((32 : Int32).toInt64 &&& 63)) ||| (((xs ((5 * i) + 4)).toInt64) &&& 4294967295))]) (ct_X_door l D g cQ cI ad bx S c0 hI (xs ((5 * i) + 1)) (xs ((5 * i) + 2)) ((((xs ((5 * i) + 3)).toInt64) <<< ((32 : Int32).toInt64 &&& 63)) ||| (((xs ((5 * i) + 4)).toInt64) &&& 4294967295))) mi_X_door mv_X_door rfl C kw_191 ⟨Nat.le_of_ble_eq_true rfl, Nat.le_of_ble_eq_true rfl⟩ h hKx hC hA hl.1 rfl (Nat.le_of_ble_eq_true rfl) de_L_law_458 ⟨Nat.le_of_succ_le hcs.1, Nat.le_trans (Nat.le_add_right _ 10) hcs.2⟩ (fun r w H locs hp h => ?_)
  obtain ⟨S', e1, rfl⟩ := hp
  refine lv_aload_n hx hb de_L_law_461 rfl (lv_at hl 3 rfl) ?_
  refine lv_aload_n hx hb de_L_law_462 rfl (lv_at hl 1 rfl) ?_
  refine lv_iload_n hx hb de_L_law_463 rfl (lv_at hl 0 rfl) ?_
  refine lv_iconst (v := 1) hx hb de_L_law_464 (by decide) ?_
  refine lv_iadd hx hb de_L_law_465 ?_
  refine zi_top (y := (nI ((5 * i) + 1))) (nI_add _ 1) ?_
  refine lw_ld hx hb hX hbl hbA h.2.2 (ix_nI (k := ((5 * i) + 1)) (by omega) (by omega)) de_L_law_466 ?_
  refine lv_aload_n hx hb de_L_law_467 rfl (lv_at hl 1 rfl) ?_
  refine lv_iload_n hx hb de_L_law_468 rfl (lv_at hl 0 rfl) ?_
  refine lv_iconst (v := 2) hx hb de_L_law_469 (by decide) ?_
  refine lv_iadd hx hb de_L_law_470 ?_
  refine zi_top (y := (nI ((5 * i) + 2))) (nI_add _ 2) ?_
  refine lw_ld hx hb hX hbl hbA h.2.2 (ix_nI (k := ((5 * i) + 2)) (by omega) (by omega)) de_L_law_471 ?_
  refine lv_aload_n hx hb de_L_law_472 rfl (lv_at hl 1 rfl) ?_
  refine lv_iload_n hx hb de_L_law_473 rfl (lv_at hl 0 rfl) ?_
  refine lv_iconst (v := 3) hx hb de_L_law_474 (by decide) ?_
  refine lv_iadd hx hb de_L_law_475 ?_
  refine zi_top (y := (nI ((5 * i) + 3))) (nI_add _ 3) ?_
  refine lw_ld hx hb hX hbl hbA h.2.2 (ix_nI (k := ((5 * i) + 3)) (by omega) (by omega)) de_L_law_476 ?_
  refine lv_i2l hx hb de_L_law_477 rfl ?_
  refine lv_bipush (v := 32) hx hb de_L_law_478 (by decide) ?_
  refine lv_lshl hx hb de_L_law_480 rfl ?_
  refine lv_aload_n hx hb de_L_law_481 rfl (lv_at hl 1 rfl) ?_
  refine lv_iload_n hx hb de_L_law_482 rfl (lv_at hl 0 rfl) ?_
  refine lv_iconst (v := 4) hx hb de_L_law_483 (by decide) ?_
  refine lv_iadd hx hb de_L_law_484 ?_
  refine zi_top (y := (nI ((5 * i) + 4))) (nI_add _ 4) ?_
  refine lw_ld hx hb hX hbl hbA h.2.2 (ix_nI (k := ((5 * i) + 4)) (by omega) (by omega)) de_L_law_485 ?_
  refine lv_i2l hx hb de_L_law_486 rfl ?_
  refine lv_ldc2 (v := 4294967295) hx hb C.2.2.2.1 (C.2.2.2.2 _ kw_370) de_L_law_487 ?_
  refine lv_land hx hb de_L_law_490 ?_
  refine lv_lor hx hb de_L_law_491 ?_
  refine lm_call (As := [.int (xs ((5 * i) + 1)), .int (xs ((5 * i) + 2)), .long ((((xs ((5 * i) + 3)).toInt64) <<< ((32 : Int32).toInt64 &&& 63)) ||| (((xs ((5 * i) + 4)).toInt64) &&& 4294967295))]) (ct_M_door l D q cI2 cJ cZ S c0 hI (xs ((5 * i) + 1)) (xs ((5 * i) + 2)) ((((xs ((5 * i) + 3)).toInt64) <<< ((32 : Int32).toInt64 &&& 63)) ||| (((xs ((5 * i) + 4)).toInt64) &&& 4294967295))) mi_M_door mv_M_door rfl C kw_348 ⟨Nat.le_of_ble_eq_true rfl, Nat.le_of_ble_eq_true rfl⟩ h hKm hA hl.1 rfl (Nat.le_of_ble_eq_true rfl) de_L_law_492 ⟨Nat.le_of_succ_le hcs.1, Nat.le_trans (Nat.le_add_right _ 10) hcs.2⟩ (fun r2 w H locs hp h => ?_)
  obtain ⟨S2, e2, rfl⟩ := hp
  obtain ⟨rfl, rfl⟩ := Prod.mk.inj (e1.symm.trans e2)
  refine lv_icmp_eq (tgt := 632) hx hb de_L_law_495 (by decide) (fun _ => ?_) (fun z => absurd rfl z)
  have hI2 := inv_oDoor hI (xs ((5 * i) + 1)) (xs ((5 * i) + 2)) ((((xs ((5 * i) + 3)).toInt64) <<< ((32 : Int32).toInt64 &&& 63)) ||| (((xs ((5 * i) + 4)).toInt64) &&& 4294967295))
  rw [e1] at hI2
  refine W.widen (k := cells + 1) (n := slots + 10) (Nat.le_succ _) (Nat.le_add_right _ _) ?_
  exact K _ bx _ _ (hI2.mono (Nat.le_succ _)) h ls hl
set_option maxHeartbeats 4000000 in
set_option maxRecDepth 100000 in
theorem lc_tick {p : Program} {l : Launch} {e : Env} {s : State} {m : MethodId} {below : List Frame} {meth : Method} {c : Code} {Q : State → Prop} {D : va_G} {A : Nat → Prop} {ad g q : Nat → Nat} {cQ cI cI2 cJ cZ : ClassId} {b L : Nat} {xs : Nat → Int32} (C : CallFix p m c code 4 s #[Value.ref b] wG "LockerRowsLaw") (hX : va_X b L xs s s.heap) (hbl : b < s.heap.size) (hbA : ¬ A b) (hA : ∀ q : Nat, s.heap.size ≤ q → A q) (hKx : va_K D classes (tyX cQ cI) s) (hKm : va_K D classes (tyM cI2 cJ cZ) s) (hC : CX (some ad) A s s.heap) (hL : L ≤ 2560) {i c0 cells slots : Nat} {S : SS} {bx : Nat → Nat} {H : Heap} {locs : List Loc} {ls : Array Slot} (hI : Inv c0 S) (hc0 : c0 < 1000000) (hi : 5 * i + 5 ≤ L) (hcs : cells + 1 ≤ 600000 ∧ slots + 10 ≤ 7302250) (h : ST D A (WX g cQ cI ad bx S ++ WM q cI2 cJ cZ S) s.heap H locs) (hl : lv_has ls 4 [(3, .int (nI (5 * i))), (0, .ref b), (1, .ref (g 0)), (2, .ref (q 0))]) (K : ∀ (S' : SS) (bx' : Nat → Nat) (H : Heap) (locs : List Loc), Inv (c0 + 1) S' → ST D A (WX g cQ cI ad bx' S' ++ WM q cI2 cJ cZ S') s.heap H locs → ∀ ls : Array Slot, lv_has ls 4 [(3, .int (nI (5 * i))), (0, .ref b), (1, .ref (g 0)), (2, .ref (q 0))] → W p l e room_1 s m #[Value.ref b] below meth c H locs (cells + 1) (slots + 10) Q (F0 m 632 ls [])) : W p l e room_1 s m #[Value.ref b] below meth c H locs cells slots Q (F0 m 500 ls []) := by
  have hx := C.1
  have hb := C.2.1
  refine lv_aload_n hx hb de_L_law_500 rfl (lv_at hl 2 rfl) ?_
  refine lv_aload_n hx hb de_L_law_501 rfl (lv_at hl 1 rfl) ?_
  refine lv_iload_n hx hb de_L_law_502 rfl (lv_at hl 0 rfl) ?_
  refine lv_iconst (v := 1) hx hb de_L_law_503 (by decide) ?_
  refine lv_iadd hx hb de_L_law_504 ?_
  refine zi_top (y := (nI ((5 * i) + 1))) (nI_add _ 1) ?_
  refine lw_ld hx hb hX hbl hbA h.2.2 (ix_nI (k := ((5 * i) + 1)) (by omega) (by omega)) de_L_law_505 ?_
  refine lv_i2l hx hb de_L_law_506 rfl ?_
  refine lv_bipush (v := 32) hx hb de_L_law_507 (by decide) ?_
  refine lv_lshl hx hb de_L_law_509 rfl ?_
  refine lv_aload_n hx hb de_L_law_510 rfl (lv_at hl 1 rfl) ?_
  refine lv_iload_n hx hb de_L_law_511 rfl (lv_at hl 0 rfl) ?_
  refine lv_iconst (v := 2) hx hb de_L_law_512 (by decide) ?_
  refine lv_iadd hx hb de_L_law_513 ?_
  refine zi_top (y := (nI ((5 * i) + 2))) (nI_add _ 2) ?_
  refine lw_ld hx hb hX hbl hbA h.2.2 (ix_nI (k := ((5 * i) + 2)) (by omega) (by omega)) de_L_law_514 ?_
  refine lv_i2l hx hb de_L_law_515 rfl ?_
  refine lv_ldc2 (v := 4294967295) hx hb C.2.2.2.1 (C.2.2.2.2 _ kw_370) de_L_law_516 ?_
  refine lv_land hx hb de_L_law_519 ?_
  refine lv_lor hx hb de_L_law_520 ?_
  refine lx_call (As := [.long ((((xs ((5 * i) + 1)).toInt64) <<< ((32 : Int32).toInt64 &&& 63)) ||| (((xs ((5 * i) + 2)).toInt64) &&& 4294967295))]) (ct_X_tick l D g cQ cI ad bx S c0 hI ((((xs ((5 * i) + 1)).toInt64) <<< ((32 : Int32).toInt64 &&& 63)) ||| (((xs ((5 * i) + 2)).toInt64) &&& 4294967295))) mi_X_tick mv_X_tick rfl C kw_205 ⟨Nat.le_of_ble_eq_true rfl, Nat.le_of_ble_eq_true rfl⟩ h hKx hC hA hl.1 rfl (Nat.le_of_ble_eq_true rfl) de_L_law_521 ⟨Nat.le_of_succ_le hcs.1, Nat.le_trans (Nat.le_add_right _ 10) hcs.2⟩ (fun r w H locs hp h => ?_)
  obtain ⟨S', e1, rfl⟩ := hp
  refine lv_aload_n hx hb de_L_law_524 rfl (lv_at hl 3 rfl) ?_
  refine lv_aload_n hx hb de_L_law_525 rfl (lv_at hl 1 rfl) ?_
  refine lv_iload_n hx hb de_L_law_526 rfl (lv_at hl 0 rfl) ?_
  refine lv_iconst (v := 1) hx hb de_L_law_527 (by decide) ?_
  refine lv_iadd hx hb de_L_law_528 ?_
  refine zi_top (y := (nI ((5 * i) + 1))) (nI_add _ 1) ?_
  refine lw_ld hx hb hX hbl hbA h.2.2 (ix_nI (k := ((5 * i) + 1)) (by omega) (by omega)) de_L_law_529 ?_
  refine lv_i2l hx hb de_L_law_530 rfl ?_
  refine lv_bipush (v := 32) hx hb de_L_law_531 (by decide) ?_
  refine lv_lshl hx hb de_L_law_533 rfl ?_
  refine lv_aload_n hx hb de_L_law_534 rfl (lv_at hl 1 rfl) ?_
  refine lv_iload_n hx hb de_L_law_535 rfl (lv_at hl 0 rfl) ?_
  refine lv_iconst (v := 2) hx hb de_L_law_536 (by decide) ?_
  refine lv_iadd hx hb de_L_law_537 ?_
  refine zi_top (y := (nI ((5 * i) + 2))) (nI_add _ 2) ?_
  refine lw_ld hx hb hX hbl hbA h.2.2 (ix_nI (k := ((5 * i) + 2)) (by omega) (by omega)) de_L_law_538 ?_
  refine lv_i2l hx hb de_L_law_539 rfl ?_
  refine lv_ldc2 (v := 4294967295) hx hb C.2.2.2.1 (C.2.2.2.2 _ kw_370) de_L_law_540 ?_
  refine lv_land hx hb de_L_law_543 ?_
  refine lv_lor hx hb de_L_law_544 ?_
  refine lm_call (As := [.long ((((xs ((5 * i) + 1)).toInt64) <<< ((32 : Int32).toInt64 &&& 63)) ||| (((xs ((5 * i) + 2)).toInt64) &&& 4294967295))]) (ct_M_tick l D q cI2 cJ cZ S c0 hI ((((xs ((5 * i) + 1)).toInt64) <<< ((32 : Int32).toInt64 &&& 63)) ||| (((xs ((5 * i) + 2)).toInt64) &&& 4294967295))) mi_M_tick mv_M_tick rfl C kw_353 ⟨Nat.le_of_ble_eq_true rfl, Nat.le_of_ble_eq_true rfl⟩ h hKm hA hl.1 rfl (Nat.le_of_ble_eq_true rfl) de_L_law_545 ⟨Nat.le_of_succ_le hcs.1, Nat.le_trans (Nat.le_add_right _ 10) hcs.2⟩ (fun r2 w H locs hp h => ?_)
  obtain ⟨S2, e2, rfl⟩ := hp
  obtain ⟨rfl, rfl⟩ := Prod.mk.inj (e1.symm.trans e2)
  refine lv_icmp_eq (tgt := 632) hx hb de_L_law_548 (by decide) (fun _ => ?_) (fun z => absurd rfl z)
  have hI2 := inv_oTick hI ((((xs ((5 * i) + 1)).toInt64) <<< ((32 : Int32).toInt64 &&& 63)) ||| (((xs ((5 * i) + 2)).toInt64) &&& 4294967295))
  rw [e1] at hI2
  refine W.widen (k := cells + 1) (n := slots + 10) (Nat.le_succ _) (Nat.le_add_right _ _) ?_
  exact K _ bx _ _ (hI2.mono (Nat.le_succ _)) h ls hl
set_option maxHeartbeats 4000000 in
set_option maxRecDepth 100000 in
theorem lc_take {p : Program} {l : Launch} {e : Env} {s : State} {m : MethodId} {below : List Frame} {meth : Method} {c : Code} {Q : State → Prop} {D : va_G} {A : Nat → Prop} {ad g q : Nat → Nat} {cQ cI cI2 cJ cZ : ClassId} {b L : Nat} {xs : Nat → Int32} (C : CallFix p m c code 4 s #[Value.ref b] wG "LockerRowsLaw") (hX : va_X b L xs s s.heap) (hbl : b < s.heap.size) (hbA : ¬ A b) (hA : ∀ q : Nat, s.heap.size ≤ q → A q) (hKx : va_K D classes (tyX cQ cI) s) (hKm : va_K D classes (tyM cI2 cJ cZ) s) (hC : CX (some ad) A s s.heap) (hL : L ≤ 2560) {i c0 cells slots : Nat} {S : SS} {bx : Nat → Nat} {H : Heap} {locs : List Loc} {ls : Array Slot} (hI : Inv c0 S) (hc0 : c0 < 1000000) (hi : 5 * i + 5 ≤ L) (hcs : cells + 1 ≤ 600000 ∧ slots + 10 ≤ 7302250) (h : ST D A (WX g cQ cI ad bx S ++ WM q cI2 cJ cZ S) s.heap H locs) (hl : lv_has ls 4 [(3, .int (nI (5 * i))), (0, .ref b), (1, .ref (g 0)), (2, .ref (q 0))]) (K : ∀ (S' : SS) (bx' : Nat → Nat) (H : Heap) (locs : List Loc), Inv (c0 + 1) S' → ST D A (WX g cQ cI ad bx' S' ++ WM q cI2 cJ cZ S') s.heap H locs → ∀ ls : Array Slot, lv_has ls 4 [(3, .int (nI (5 * i))), (0, .ref b), (1, .ref (g 0)), (2, .ref (q 0))] → W p l e room_1 s m #[Value.ref b] below meth c H locs (cells + 1) (slots + 10) Q (F0 m 632 ls [])) : W p l e room_1 s m #[Value.ref b] below meth c H locs cells slots Q (F0 m 553 ls []) := by
  have hx := C.1
  have hb := C.2.1
  refine lv_aload_n hx hb de_L_law_553 rfl (lv_at hl 2 rfl) ?_
  refine lv_aload_n hx hb de_L_law_554 rfl (lv_at hl 1 rfl) ?_
  refine lv_iload_n hx hb de_L_law_555 rfl (lv_at hl 0 rfl) ?_
  refine lv_iconst (v := 1) hx hb de_L_law_556 (by decide) ?_
  refine lv_iadd hx hb de_L_law_557 ?_
  refine zi_top (y := (nI ((5 * i) + 1))) (nI_add _ 1) ?_
  refine lw_ld hx hb hX hbl hbA h.2.2 (ix_nI (k := ((5 * i) + 1)) (by omega) (by omega)) de_L_law_558 ?_
  refine lv_aload_n hx hb de_L_law_559 rfl (lv_at hl 1 rfl) ?_
  refine lv_iload_n hx hb de_L_law_560 rfl (lv_at hl 0 rfl) ?_
  refine lv_iconst (v := 2) hx hb de_L_law_561 (by decide) ?_
  refine lv_iadd hx hb de_L_law_562 ?_
  refine zi_top (y := (nI ((5 * i) + 2))) (nI_add _ 2) ?_
  refine lw_ld hx hb hX hbl hbA h.2.2 (ix_nI (k := ((5 * i) + 2)) (by omega) (by omega)) de_L_law_563 ?_
  refine lx_call (As := [.int (xs ((5 * i) + 1)), .int (xs ((5 * i) + 2))]) (ct_X_take l D g cQ cI ad bx S c0 hI (xs ((5 * i) + 1)) (xs ((5 * i) + 2))) mi_X_take mv_X_take rfl C kw_209 ⟨Nat.le_of_ble_eq_true rfl, Nat.le_of_ble_eq_true rfl⟩ h hKx hC hA hl.1 rfl (Nat.le_of_ble_eq_true rfl) de_L_law_564 ⟨Nat.le_of_succ_le hcs.1, Nat.le_trans (Nat.le_add_right _ 10) hcs.2⟩ (fun r w H locs hp h => ?_)
  obtain ⟨S', e1, rfl⟩ := hp
  refine lv_aload_n hx hb de_L_law_567 rfl (lv_at hl 3 rfl) ?_
  refine lv_aload_n hx hb de_L_law_568 rfl (lv_at hl 1 rfl) ?_
  refine lv_iload_n hx hb de_L_law_569 rfl (lv_at hl 0 rfl) ?_
  refine lv_iconst (v := 1) hx hb de_L_law_570 (by decide) ?_
  refine lv_iadd hx hb de_L_law_571 ?_
  refine zi_top (y := (nI ((5 * i) + 1))) (nI_add _ 1) ?_
  refine lw_ld hx hb hX hbl hbA h.2.2 (ix_nI (k := ((5 * i) + 1)) (by omega) (by omega)) de_L_law_572 ?_
  refine lv_aload_n hx hb de_L_law_573 rfl (lv_at hl 1 rfl) ?_
  refine lv_iload_n hx hb de_L_law_574 rfl (lv_at hl 0 rfl) ?_
  refine lv_iconst (v := 2) hx hb de_L_law_575 (by decide) ?_
  refine lv_iadd hx hb de_L_law_576 ?_
  refine zi_top (y := (nI ((5 * i) + 2))) (nI_add _ 2) ?_
  refine lw_ld hx hb hX hbl hbA h.2.2 (ix_nI (k := ((5 * i) + 2)) (by omega) (by omega)) de_L_law_577 ?_
  refine lm_call (As := [.int (xs ((5 * i) + 1)), .int (xs ((5 * i) + 2))]) (ct_M_take l D q cI2 cJ cZ S c0 hI (xs ((5 * i) + 1)) (xs ((5 * i) + 2))) mi_M_take mv_M_take rfl C kw_357 ⟨Nat.le_of_ble_eq_true rfl, Nat.le_of_ble_eq_true rfl⟩ h hKm hA hl.1 rfl (Nat.le_of_ble_eq_true rfl) de_L_law_578 ⟨Nat.le_of_succ_le hcs.1, Nat.le_trans (Nat.le_add_right _ 10) hcs.2⟩ (fun r2 w H locs hp h => ?_)
  obtain ⟨S2, e2, rfl⟩ := hp
  obtain ⟨rfl, rfl⟩ := Prod.mk.inj (e1.symm.trans e2)
  refine lv_icmp_eq (tgt := 632) hx hb de_L_law_581 (by decide) (fun _ => ?_) (fun z => absurd rfl z)
  have hI2 := inv_oTake hI (xs ((5 * i) + 1)) (xs ((5 * i) + 2))
  rw [e1] at hI2
  refine W.widen (k := cells + 1) (n := slots + 10) (Nat.le_succ _) (Nat.le_add_right _ _) ?_
  exact K _ bx _ _ (hI2.mono (Nat.le_succ _)) h ls hl
set_option maxHeartbeats 4000000 in
set_option maxRecDepth 100000 in
theorem lc_item {p : Program} {l : Launch} {e : Env} {s : State} {m : MethodId} {below : List Frame} {meth : Method} {c : Code} {Q : State → Prop} {D : va_G} {A : Nat → Prop} {ad g q : Nat → Nat} {cQ cI cI2 cJ cZ : ClassId} {b L : Nat} {xs : Nat → Int32} (C : CallFix p m c code 4 s #[Value.ref b] wG "LockerRowsLaw") (hX : va_X b L xs s s.heap) (hbl : b < s.heap.size) (hbA : ¬ A b) (hA : ∀ q : Nat, s.heap.size ≤ q → A q) (hKx : va_K D classes (tyX cQ cI) s) (hKm : va_K D classes (tyM cI2 cJ cZ) s) (hC : CX (some ad) A s s.heap) (hL : L ≤ 2560) {i c0 cells slots : Nat} {S : SS} {bx : Nat → Nat} {H : Heap} {locs : List Loc} {ls : Array Slot} (hI : Inv c0 S) (hc0 : c0 < 1000000) (hi : 5 * i + 5 ≤ L) (hcs : cells + 1 ≤ 600000 ∧ slots + 10 ≤ 7302250) (h : ST D A (WX g cQ cI ad bx S ++ WM q cI2 cJ cZ S) s.heap H locs) (hl : lv_has ls 4 [(3, .int (nI (5 * i))), (0, .ref b), (1, .ref (g 0)), (2, .ref (q 0))]) (K : ∀ (S' : SS) (bx' : Nat → Nat) (H : Heap) (locs : List Loc), Inv (c0 + 1) S' → ST D A (WX g cQ cI ad bx' S' ++ WM q cI2 cJ cZ S') s.heap H locs → ∀ ls : Array Slot, lv_has ls 4 [(3, .int (nI (5 * i))), (0, .ref b), (1, .ref (g 0)), (2, .ref (q 0))] → W p l e room_1 s m #[Value.ref b] below meth c H locs (cells + 1) (slots + 10) Q (F0 m 632 ls [])) : W p l e room_1 s m #[Value.ref b] below meth c H locs cells slots Q (F0 m 586 ls []) := by
  have hx := C.1
  have hb := C.2.1
  refine lv_aload_n hx hb de_L_law_586 rfl (lv_at hl 2 rfl) ?_
  refine lv_aload_n hx hb de_L_law_587 rfl (lv_at hl 1 rfl) ?_
  refine lv_iload_n hx hb de_L_law_588 rfl (lv_at hl 0 rfl) ?_
  refine lv_iconst (v := 1) hx hb de_L_law_589 (by decide) ?_
  refine lv_iadd hx hb de_L_law_590 ?_
  refine zi_top (y := (nI ((5 * i) + 1))) (nI_add _ 1) ?_
  refine lw_ld hx hb hX hbl hbA h.2.2 (ix_nI (k := ((5 * i) + 1)) (by omega) (by omega)) de_L_law_591 ?_
  refine lx_read (As := [.int (xs ((5 * i) + 1))]) (ct_X_item l D g cQ cI ad bx S c0 hI (xs ((5 * i) + 1))) mi_X_item mv_X_item rfl C kw_215 ⟨Nat.le_of_ble_eq_true rfl, Nat.le_of_ble_eq_true rfl⟩ h hKx hC hl.1 rfl (Nat.le_of_ble_eq_true rfl) de_L_law_592 ⟨Nat.le_of_succ_le hcs.1, Nat.le_trans (Nat.le_add_right _ 10) hcs.2⟩ (fun r e1 => ?_)
  refine lv_aload_n hx hb de_L_law_595 rfl (lv_at hl 3 rfl) ?_
  refine lv_aload_n hx hb de_L_law_596 rfl (lv_at hl 1 rfl) ?_
  refine lv_iload_n hx hb de_L_law_597 rfl (lv_at hl 0 rfl) ?_
  refine lv_iconst (v := 1) hx hb de_L_law_598 (by decide) ?_
  refine lv_iadd hx hb de_L_law_599 ?_
  refine zi_top (y := (nI ((5 * i) + 1))) (nI_add _ 1) ?_
  refine lw_ld hx hb hX hbl hbA h.2.2 (ix_nI (k := ((5 * i) + 1)) (by omega) (by omega)) de_L_law_600 ?_
  refine lm_read (As := [.int (xs ((5 * i) + 1))]) (ct_M_item l D q cI2 cJ cZ S c0 hI (xs ((5 * i) + 1))) mi_M_item mv_M_item rfl C kw_362 ⟨Nat.le_of_ble_eq_true rfl, Nat.le_of_ble_eq_true rfl⟩ h hKm hl.1 rfl (Nat.le_of_ble_eq_true rfl) de_L_law_601 ⟨Nat.le_of_succ_le hcs.1, Nat.le_trans (Nat.le_add_right _ 10) hcs.2⟩ (fun r2 e2 => ?_)
  obtain rfl := e1.trans e2.symm
  refine lv_icmp_eq (tgt := 632) hx hb de_L_law_604 (by decide) (fun _ => ?_) (fun z => absurd rfl z)
  refine W.widen (k := cells + 1) (n := slots + 10) (Nat.le_succ _) (Nat.le_add_right _ _) ?_
  exact K S bx _ _ (hI.mono (Nat.le_succ _)) h ls hl
set_option maxHeartbeats 4000000 in
set_option maxRecDepth 100000 in
theorem lc_freed {p : Program} {l : Launch} {e : Env} {s : State} {m : MethodId} {below : List Frame} {meth : Method} {c : Code} {Q : State → Prop} {D : va_G} {A : Nat → Prop} {ad g q : Nat → Nat} {cQ cI cI2 cJ cZ : ClassId} {b L : Nat} {xs : Nat → Int32} (C : CallFix p m c code 4 s #[Value.ref b] wG "LockerRowsLaw") (hX : va_X b L xs s s.heap) (hbl : b < s.heap.size) (hbA : ¬ A b) (hA : ∀ q : Nat, s.heap.size ≤ q → A q) (hKx : va_K D classes (tyX cQ cI) s) (hKm : va_K D classes (tyM cI2 cJ cZ) s) (hC : CX (some ad) A s s.heap) (hL : L ≤ 2560) {i c0 cells slots : Nat} {S : SS} {bx : Nat → Nat} {H : Heap} {locs : List Loc} {ls : Array Slot} (hI : Inv c0 S) (hc0 : c0 < 1000000) (hi : 5 * i + 5 ≤ L) (hcs : cells + 1 ≤ 600000 ∧ slots + 10 ≤ 7302250) (h : ST D A (WX g cQ cI ad bx S ++ WM q cI2 cJ cZ S) s.heap H locs) (hl : lv_has ls 4 [(3, .int (nI (5 * i))), (0, .ref b), (1, .ref (g 0)), (2, .ref (q 0))]) (K : ∀ (S' : SS) (bx' : Nat → Nat) (H : Heap) (locs : List Loc), Inv (c0 + 1) S' → ST D A (WX g cQ cI ad bx' S' ++ WM q cI2 cJ cZ S') s.heap H locs → ∀ ls : Array Slot, lv_has ls 4 [(3, .int (nI (5 * i))), (0, .ref b), (1, .ref (g 0)), (2, .ref (q 0))] → W p l e room_1 s m #[Value.ref b] below meth c H locs (cells + 1) (slots + 10) Q (F0 m 632 ls [])) : W p l e room_1 s m #[Value.ref b] below meth c H locs cells slots Q (F0 m 609 ls []) := by
  have hx := C.1
  have hb := C.2.1
  refine lv_aload_n hx hb de_L_law_609 rfl (lv_at hl 2 rfl) ?_
  refine lv_aload_n hx hb de_L_law_610 rfl (lv_at hl 1 rfl) ?_
  refine lv_iload_n hx hb de_L_law_611 rfl (lv_at hl 0 rfl) ?_
  refine lv_iconst (v := 1) hx hb de_L_law_612 (by decide) ?_
  refine lv_iadd hx hb de_L_law_613 ?_
  refine zi_top (y := (nI ((5 * i) + 1))) (nI_add _ 1) ?_
  refine lw_ld hx hb hX hbl hbA h.2.2 (ix_nI (k := ((5 * i) + 1)) (by omega) (by omega)) de_L_law_614 ?_
  refine lx_read (As := [.int (xs ((5 * i) + 1))]) (ct_X_freed l D g cQ cI ad bx S c0 hI (xs ((5 * i) + 1))) mi_X_freed mv_X_freed rfl C kw_219 ⟨Nat.le_of_ble_eq_true rfl, Nat.le_of_ble_eq_true rfl⟩ h hKx hC hl.1 rfl (Nat.le_of_ble_eq_true rfl) de_L_law_615 ⟨Nat.le_of_succ_le hcs.1, Nat.le_trans (Nat.le_add_right _ 10) hcs.2⟩ (fun r e1 => ?_)
  refine lv_aload_n hx hb de_L_law_618 rfl (lv_at hl 3 rfl) ?_
  refine lv_aload_n hx hb de_L_law_619 rfl (lv_at hl 1 rfl) ?_
  refine lv_iload_n hx hb de_L_law_620 rfl (lv_at hl 0 rfl) ?_
  refine lv_iconst (v := 1) hx hb de_L_law_621 (by decide) ?_
  refine lv_iadd hx hb de_L_law_622 ?_
  refine zi_top (y := (nI ((5 * i) + 1))) (nI_add _ 1) ?_
  refine lw_ld hx hb hX hbl hbA h.2.2 (ix_nI (k := ((5 * i) + 1)) (by omega) (by omega)) de_L_law_623 ?_
  refine lm_read (As := [.int (xs ((5 * i) + 1))]) (ct_M_freed l D q cI2 cJ cZ S c0 hI (xs ((5 * i) + 1))) mi_M_freed mv_M_freed rfl C kw_366 ⟨Nat.le_of_ble_eq_true rfl, Nat.le_of_ble_eq_true rfl⟩ h hKm hl.1 rfl (Nat.le_of_ble_eq_true rfl) de_L_law_624 ⟨Nat.le_of_succ_le hcs.1, Nat.le_trans (Nat.le_add_right _ 10) hcs.2⟩ (fun r2 e2 => ?_)
  obtain rfl := e1.trans e2.symm
  refine lv_icmp_eq (tgt := 632) hx hb de_L_law_627 (by decide) (fun _ => ?_) (fun z => absurd rfl z)
  refine W.widen (k := cells + 1) (n := slots + 10) (Nat.le_succ _) (Nat.le_add_right _ _) ?_
  exact K S bx _ _ (hI.mono (Nat.le_succ _)) h ls hl
end
section
/-! ===== the law: loop and start: printed by gen/law2.py ===== -/
set_option maxHeartbeats 4000000 in
set_option maxRecDepth 100000 in
theorem law_loop {p : Program} {l : Launch} {e : Env} {s : State} {m : MethodId} {below : List Frame} {meth : Method} {c : Code} {D : va_G} {ad g q : Nat → Nat} {cQ cI cI2 cJ cZ : ClassId} {b L : Nat} {xs : Nat → Int32} (C : CallFix p m c code 4 s #[Value.ref b] wG "LockerRowsLaw") (hX : va_X b L xs s s.heap) (hbl : b < s.heap.size) (hKx : va_K D classes (tyX cQ cI) s) (hKm : va_K D classes (tyM cI2 cJ cZ) s) (hC : CX (some ad) (fun q : Nat => s.heap.size ≤ q) s s.heap) (hL : L ≤ 2560) (hr : meth.sig.returnType = ret) (hlk : meth.locks = false) : ∀ (r i : Nat), i ≤ 512 → L ≤ 5 * i + 5 * r → ∀ (S : SS) (bx : Nat → Nat) (H : Heap) (locs : List Loc), Inv i S → ST D (fun q : Nat => s.heap.size ≤ q) (WX g cQ cI ad bx S ++ WM q cI2 cJ cZ S) s.heap H locs → ∀ ls : Array Slot, lv_has ls 4 [(3, .int (nI (5 * i))), (0, .ref b), (1, .ref (g 0)), (2, .ref (q 0))] → W p l e room_1 s m #[Value.ref b] below meth c H locs (20 + i) (2000 + 10 * i) (lw_Z below #[Value.ref b] s) (F0 m 18 ls []) := by
  have hx := C.1
  have hb := C.2.1
  have hA : ∀ q : Nat, s.heap.size ≤ q → (fun q : Nat => s.heap.size ≤ q) q := fun _ h => h
  have hbA : ¬ (fun q : Nat => s.heap.size ≤ q) b := Nat.not_le.mpr hbl
  have key : ∀ i : Nat, i ≤ 512 → (Int32.ofNat L - 5 < nI (5 * i) ↔ ¬ 5 * i + 5 ≤ L) := by
    intro i hi
    rw [Int32.lt_iff_toInt_lt, nI_toInt (by omega), show (Int32.ofNat L - 5).toInt = (L : Int) - 5 from pk_sub_toInt (a := L) (b := 5) (by omega) (by decide)]
    omega
  intro r
  induction r with
  | zero =>
    intro i hi hLi S bx H locs hI h ls hl
    refine lv_iload_n hx hb de_L_law_18 rfl (lv_at hl 0 rfl) ?_
    refine lv_aload_n hx hb de_L_law_19 rfl (lv_at hl 1 rfl) ?_
    refine va_slen hx hb hX hbl hbA h.2.2 de_L_law_20 ?_
    refine lv_iconst (v := 5) hx hb de_L_law_21 (by decide) ?_
    refine lv_isub hx hb de_L_law_22 ?_
    refine lv_icmp_gt (tgt := 638) hx hb de_L_law_23 (by decide) (fun c_23 => ?_) (fun c_23 => ?_)
    · refine lv_iconst (v := 1) hx hb de_L_law_638 (by decide) ?_
      refine va_forget (fun q hq => h.2.2.2.2 q hq) ?_
      refine W.widen (k := 600000) (n := 7302250) (by omega) (by omega) ?_
      exact lw_ret hx hb hr hlk de_L_law_639
    · exact absurd ((key i hi).mpr (by omega)) c_23
  | succ r ih =>
    intro i hi hLi S bx H locs hI h ls hl
    refine lv_iload_n hx hb de_L_law_18 rfl (lv_at hl 0 rfl) ?_
    refine lv_aload_n hx hb de_L_law_19 rfl (lv_at hl 1 rfl) ?_
    refine va_slen hx hb hX hbl hbA h.2.2 de_L_law_20 ?_
    refine lv_iconst (v := 5) hx hb de_L_law_21 (by decide) ?_
    refine lv_isub hx hb de_L_law_22 ?_
    refine lv_icmp_gt (tgt := 638) hx hb de_L_law_23 (by decide) (fun c_23 => ?_) (fun c_23 => ?_)
    · refine lv_iconst (v := 1) hx hb de_L_law_638 (by decide) ?_
      refine va_forget (fun q hq => h.2.2.2.2 q hq) ?_
      refine W.widen (k := 600000) (n := 7302250) (by omega) (by omega) ?_
      exact lw_ret hx hb hr hlk de_L_law_639
    · have hin : 5 * i + 5 ≤ L := Classical.not_not.mp (fun z => c_23 ((key i hi).mpr z))
      have K : ∀ (S' : SS) (bx' : Nat → Nat) (H : Heap) (locs : List Loc), Inv (i + 1) S' → ST D (fun q : Nat => s.heap.size ≤ q) (WX g cQ cI ad bx' S' ++ WM q cI2 cJ cZ S') s.heap H locs → ∀ ls : Array Slot, lv_has ls 4 [(3, .int (nI (5 * i))), (0, .ref b), (1, .ref (g 0)), (2, .ref (q 0))] → W p l e room_1 s m #[Value.ref b] below meth c H locs (20 + i + 1) (2000 + 10 * i + 10) (lw_Z below #[Value.ref b] s) (F0 m 632 ls []) := by
        intro S' bx' H locs hI h ls hl
        refine lv_iinc (v := nI (5 * (i + 1))) (lv' := [(3, .int (nI (5 * (i + 1)))), (0, .ref b), (1, .ref (g 0)), (2, .ref (q 0))]) hx hb de_L_law_632 hl (k := 0) rfl (by rw [show 5 * (i + 1) = 5 * i + 5 by omega]; exact nI_add (5 * i) 5) (by decide) rfl (fun ls hl => ?_)
        refine lv_goto (tgt := 18) hx hb de_L_law_635 (by decide) ?_
        refine W.widen (k := 20 + (i + 1)) (n := 2000 + 10 * (i + 1)) (by omega) (by omega) ?_
        exact ih (i + 1) (by omega) (by omega) S' bx' H locs hI h ls hl
      have hcs : 20 + i + 1 ≤ 600000 ∧ 2000 + 10 * i + 10 ≤ 7302250 := ⟨by omega, by omega⟩
      have hc0 : i < 1000000 := by omega
      refine lv_aload_n hx hb de_L_law_26 rfl (lv_at hl 1 rfl) ?_
      refine lv_iload_n hx hb de_L_law_27 rfl (lv_at hl 0 rfl) ?_
      refine lw_ld hx hb hX hbl hbA h.2.2 (ix_nI (k := 5 * i) (by omega) (by omega)) de_L_law_28 ?_
      refine lv_bipush (v := 15) hx hb de_L_law_29 (by decide) ?_
      refine lv_iand hx hb de_L_law_31 ?_
      obtain ⟨z, hz, ez⟩ := pk_andE (xs (5 * i)) (m := 15) 4 (by decide)
      refine zi_top ez ?_
      have hz : z < 16 := hz
      rcases (show z = 0 ∨ z = 1 ∨ z = 2 ∨ z = 3 ∨ z = 4 ∨ z = 5 ∨ z = 6 ∨ z = 7 ∨ z = 8 ∨ z = 9 ∨ z = 10 ∨ z = 11 ∨ z = 12 ∨ z = 13 ∨ z = 14 ∨ z = 15 by omega) with rfl | rfl | rfl | rfl | rfl | rfl | rfl | rfl | rfl | rfl | rfl | rfl | rfl | rfl | rfl | rfl
      · refine lv_tableIn (tgt := 96) (off := 64) hx hb de_L_law_32 (by decide) (by decide) (by decide) (by decide) ?_
        exact lc_box C hX hbl hbA hA hKx hKm hC hL hI hc0 hin hcs h hl K
      · refine lv_tableIn (tgt := 119) (off := 87) hx hb de_L_law_32 (by decide) (by decide) (by decide) (by decide) ?_
        exact lc_tape C hX hbl hbA hA hKx hKm hC hL hI hc0 hin hcs h hl K
      · refine lv_tableIn (tgt := 142) (off := 110) hx hb de_L_law_32 (by decide) (by decide) (by decide) (by decide) ?_
        exact lc_reserve C hX hbl hbA hA hKx hKm hC hL hI hc0 hin hcs h hl K
      · refine lv_tableIn (tgt := 205) (off := 173) hx hb de_L_law_32 (by decide) (by decide) (by decide) (by decide) ?_
        exact lc_put C hX hbl hbA hA hKx hKm hC hL hI hc0 hin hcs h hl K
      · refine lv_tableIn (tgt := 278) (off := 246) hx hb de_L_law_32 (by decide) (by decide) (by decide) (by decide) ?_
        exact lc_close C hX hbl hbA hA hKx hKm hC hL hI hc0 hin hcs h hl K
      · refine lv_tableIn (tgt := 341) (off := 309) hx hb de_L_law_32 (by decide) (by decide) (by decide) (by decide) ?_
        exact lc_type C hX hbl hbA hA hKx hKm hC hL hI hc0 hin hcs h hl K
      · refine lv_tableIn (tgt := 404) (off := 372) hx hb de_L_law_32 (by decide) (by decide) (by decide) (by decide) ?_
        exact lc_code C hX hbl hbA hA hKx hKm hC hL hI hc0 hin hcs h hl K
      · refine lv_tableIn (tgt := 427) (off := 395) hx hb de_L_law_32 (by decide) (by decide) (by decide) (by decide) ?_
        exact lc_door C hX hbl hbA hA hKx hKm hC hL hI hc0 hin hcs h hl K
      · refine lv_tableIn (tgt := 500) (off := 468) hx hb de_L_law_32 (by decide) (by decide) (by decide) (by decide) ?_
        exact lc_tick C hX hbl hbA hA hKx hKm hC hL hI hc0 hin hcs h hl K
      · refine lv_tableIn (tgt := 553) (off := 521) hx hb de_L_law_32 (by decide) (by decide) (by decide) (by decide) ?_
        exact lc_take C hX hbl hbA hA hKx hKm hC hL hI hc0 hin hcs h hl K
      · refine lv_tableIn (tgt := 586) (off := 554) hx hb de_L_law_32 (by decide) (by decide) (by decide) (by decide) ?_
        exact lc_item C hX hbl hbA hA hKx hKm hC hL hI hc0 hin hcs h hl K
      · refine lv_tableIn (tgt := 609) (off := 577) hx hb de_L_law_32 (by decide) (by decide) (by decide) (by decide) ?_
        exact lc_freed C hX hbl hbA hA hKx hKm hC hL hI hc0 hin hcs h hl K
      · refine lv_tableOut (tgt := 632) hx hb de_L_law_32 (by decide) (by decide) ?_
        refine W.widen (k := 20 + i + 1) (n := 2000 + 10 * i + 10) (Nat.le_succ _) (Nat.le_add_right _ _) ?_
        exact K S bx _ _ (hI.mono (Nat.le_succ _)) h ls hl
      · refine lv_tableOut (tgt := 632) hx hb de_L_law_32 (by decide) (by decide) ?_
        refine W.widen (k := 20 + i + 1) (n := 2000 + 10 * i + 10) (Nat.le_succ _) (Nat.le_add_right _ _) ?_
        exact K S bx _ _ (hI.mono (Nat.le_succ _)) h ls hl
      · refine lv_tableOut (tgt := 632) hx hb de_L_law_32 (by decide) (by decide) ?_
        refine W.widen (k := 20 + i + 1) (n := 2000 + 10 * i + 10) (Nat.le_succ _) (Nat.le_add_right _ _) ?_
        exact K S bx _ _ (hI.mono (Nat.le_succ _)) h ls hl
      · refine lv_tableOut (tgt := 632) hx hb de_L_law_32 (by decide) (by decide) ?_
        refine W.widen (k := 20 + i + 1) (n := 2000 + 10 * i + 10) (Nat.le_succ _) (Nat.le_add_right _ _) ?_
        exact K S bx _ _ (hI.mono (Nat.le_succ _)) h ls hl
set_option maxHeartbeats 4000000 in
set_option maxRecDepth 100000 in
/-- THE LAW, from its entry -/
theorem whole_start {p : Program} {e : Env} {s : State} {m : MethodId} {below : List Frame} {meth : Method} {c : Code} (l : Launch) {b L : Nat} {xs : Nat → Int32} (hL : L ≤ 2560) (C0 : lw_At p s m meth c b L xs) : W p l e room_1 s m #[Value.ref b] below meth c s.heap [] 0 0 (lw_Z below #[Value.ref b] s) (entryFrame m ([Value.ref b] : List Value).toArray 4) := by
  obtain ⟨hx, hb, hr, hml, hown, hts, hX, hbl, hlk, hgv⟩ := id C0
  have C : CallFix p m c code 4 s #[Value.ref b] wG "LockerRowsLaw" := ⟨hx, hb, hml, hown, fun w hw => hts w (List.mem_filter.mp hw).1⟩
  have hA : ∀ q : Nat, s.heap.size ≤ q → (fun q : Nat => s.heap.size ≤ q) q := fun _ h => h
  have hAn : ∀ a : Nat, a < s.heap.size → ¬ (fun q : Nat => s.heap.size ≤ q) a := fun a h => Nat.not_le.mpr h
  obtain ⟨k0, iS0, hKn0⟩ := u_known (C := R_X) (T := F_X) (N := 10) (n := 10) C.2.2.2.2 i_X (C.2.2.2.2 _ kw_8)
  obtain ⟨k1, iS1, hKn1⟩ := u_known (C := R_B) (T := F_B) (N := 10) (n := 10) C.2.2.2.2 i_B (C.2.2.2.2 _ kw_57)
  obtain ⟨k2, iS2, hKn2⟩ := u_known (C := R_M) (T := F_M) (N := 18) (n := 18) C.2.2.2.2 i_M (C.2.2.2.2 _ kw_224)
  obtain ⟨D, hKc⟩ : ∃ D : va_G, ∀ (k : Nat) (q : vw_C), classes[k]? = some q → u_Kn s q.1 q.2.1 q.2.2 (D.1 k) (D.2 k) := by
    refine ⟨(fun k => if k = 0 then k0 else if k = 1 then k1 else k2, fun k => if k = 0 then iS0 else if k = 1 then iS1 else iS2), ?_⟩
    intro k q hq
    match k, hq with
    | 0, hq => cases hq; exact hKn0
    | 1, hq => cases hq; exact hKn1
    | 2, hq => cases hq; exact hKn2
    | k + 3, hq => simp [classes] at hq
  have hK0 : va_K D classes [] s := ⟨hKc, fun k q h => by simp at h⟩
  have hs := flat_of_before _ hgv
  obtain ⟨ad, hE⟩ : ∃ ad : Nat → Nat, EN ad (fun q : Nat => s.heap.size ≤ q) s s.heap := by
    refine va_Enof (args := #[Value.ref b]) (fun i hi => ?_) (C.2.2.2.2 _ kw_5) (fun i hi => ?_) (fun f hf i hi => ?_) (fun i j hi hj hne => ?_) hAn
    · rcases (show i = 0 ∨ i = 1 ∨ i = 2 ∨ i = 3 by simp at hi; omega) with rfl | rfl | rfl | rfl
      · exact hts (.laysStatic R_D "SHUT" "LLockerRows$Door;") (by decide +kernel)
      · exact hts (.laysStatic R_D "OPEN" "LLockerRows$Door;") (by decide +kernel)
      · exact hts (.laysStatic R_D "FORCED" "LLockerRows$Door;") (by decide +kernel)
      · exact hts (.laysStatic R_D "OUT" "LLockerRows$Door;") (by decide +kernel)
    · rcases (show i = 0 ∨ i = 1 ∨ i = 2 ∨ i = 3 by simp at hi; omega) with rfl | rfl | rfl | rfl
      · exact hs (.exactly (.static R_D "SHUT" "LLockerRows$Door;") R_D) (by decide +kernel)
      · exact hs (.exactly (.static R_D "OPEN" "LLockerRows$Door;") R_D) (by decide +kernel)
      · exact hs (.exactly (.static R_D "FORCED" "LLockerRows$Door;") R_D) (by decide +kernel)
      · exact hs (.exactly (.static R_D "OUT" "LLockerRows$Door;") R_D) (by decide +kernel)
    · obtain rfl : f = ("java/lang/Enum", "ordinal", "I", [0, 1, 2, 3]) := by simpa using hf
      rcases (show i = 0 ∨ i = 1 ∨ i = 2 ∨ i = 3 by simp at hi; omega) with rfl | rfl | rfl | rfl
      · exact hs (.eq (.field (.static R_D "SHUT" "LLockerRows$Door;") "java/lang/Enum" "ordinal" "I") (.int 0)) (by decide +kernel)
      · exact hs (.eq (.field (.static R_D "OPEN" "LLockerRows$Door;") "java/lang/Enum" "ordinal" "I") (.int 1)) (by decide +kernel)
      · exact hs (.eq (.field (.static R_D "FORCED" "LLockerRows$Door;") "java/lang/Enum" "ordinal" "I") (.int 2)) (by decide +kernel)
      · exact hs (.eq (.field (.static R_D "OUT" "LLockerRows$Door;") "java/lang/Enum" "ordinal" "I") (.int 3)) (by decide +kernel)
    · have h01 := hs (.not (.eq (.static R_D "SHUT" "LLockerRows$Door;") (.static R_D "OPEN" "LLockerRows$Door;"))) (by decide +kernel)
      have h02 := hs (.not (.eq (.static R_D "SHUT" "LLockerRows$Door;") (.static R_D "FORCED" "LLockerRows$Door;"))) (by decide +kernel)
      have h03 := hs (.not (.eq (.static R_D "SHUT" "LLockerRows$Door;") (.static R_D "OUT" "LLockerRows$Door;"))) (by decide +kernel)
      have h12 := hs (.not (.eq (.static R_D "OPEN" "LLockerRows$Door;") (.static R_D "FORCED" "LLockerRows$Door;"))) (by decide +kernel)
      have h13 := hs (.not (.eq (.static R_D "OPEN" "LLockerRows$Door;") (.static R_D "OUT" "LLockerRows$Door;"))) (by decide +kernel)
      have h23 := hs (.not (.eq (.static R_D "FORCED" "LLockerRows$Door;") (.static R_D "OUT" "LLockerRows$Door;"))) (by decide +kernel)
      rcases (show i = 0 ∨ i = 1 ∨ i = 2 ∨ i = 3 by simp at hi; omega) with rfl | rfl | rfl | rfl <;> rcases (show j = 0 ∨ j = 1 ∨ j = 2 ∨ j = 3 by simp at hj; omega) with rfl | rfl | rfl | rfl
      · exact absurd rfl hne
      · exact Or.inl h01
      · exact Or.inl h02
      · exact Or.inl h03
      · exact Or.inr h01
      · exact absurd rfl hne
      · exact Or.inl h12
      · exact Or.inl h13
      · exact Or.inr h02
      · exact Or.inr h12
      · exact absurd rfl hne
      · exact Or.inl h23
      · exact Or.inr h03
      · exact Or.inr h13
      · exact Or.inr h23
      · exact absurd rfl hne
  have hNW : NW s := by
    intro q hq
    simp only [nwQ, List.mem_cons, List.not_mem_nil, or_false] at hq
    rcases hq with rfl | rfl | rfl | rfl | rfl | rfl | rfl | rfl
    · exact va_Nw.of rfl (hts (.fieldLinkNest "LockerRows" 66 "LockerRows$Box" "size" "I" "LockerRows") (by decide +kernel))
    · exact va_Nw.of rfl (hts (.fieldLinkNest "LockerRows" 85 "LockerRows$Box" "door" "LLockerRows$Door;" "LockerRows") (by decide +kernel))
    · exact va_Nw.of rfl (hts (.fieldLinkNest "LockerRows" 40 "LockerRows$Box" "until" "J" "LockerRows") (by decide +kernel))
    · exact va_Nw.of rfl (hts (.fieldLinkNest "LockerRows" 69 "LockerRows$Box" "item" "I" "LockerRows") (by decide +kernel))
    · exact va_Nw.of rfl (hts (.fieldLinkNest "LockerRows" 110 "LockerRows$Box" "lies" "Z" "LockerRows") (by decide +kernel))
    · exact va_Nw.of rfl (hts (.fieldLinkNest "LockerRows" 121 "LockerRows$Box" "lain" "J" "LockerRows") (by decide +kernel))
    · exact va_Nw.of rfl (hts (.fieldLinkNest "LockerRows" 155 "LockerRows$Box" "late" "Z" "LockerRows") (by decide +kernel))
    · exact va_Nw.of rfl (hts (.fieldLinkNest "LockerRows" 98 "LockerRows$Box" "code" "I" "LockerRows") (by decide +kernel))
  have hAO : va_AO R_B s := va_AO.of (hts (.arrayOver (.object "LockerRows$Box")) (by decide +kernel))
  have hC : CX (some ad) (fun q : Nat => s.heap.size ≤ q) s s.heap := ⟨hE, hNW, hAO⟩
  have hl := lv_entry ([.ref b]) (n := 4) (Nat.le_of_ble_eq_true rfl)
  rw [lg_entry_eq]
  generalize (lg_sl ([.ref b]) ++ List.replicate (4 - (lg_sl ([.ref b])).length) Slot.unset).toArray = ls at hl ⊢
  have hl : lv_has ls 4 [(0, .ref b)] := hl
  have h0S : va_S (fun q : Nat => s.heap.size ≤ q) s.heap s.heap [] := va_S.rf
  have h0P : va_P D classes [] s.heap := fun k q h => by simp at h
  have h0D : va_D (fun q : Nat => s.heap.size ≤ q) [] := ⟨fun i j p q h => by simp at h, fun k q h => by simp at h⟩
  refine va_new (ci := 0) (fs := [.null, .int 0, .null, .int 0, .long 0, .int 0, .int 0, .long 0, .null, .int 0]) (C := R_X) (T := F_X) (N := 10) hx hb C.2.2.2.2 i_X t_X t_X_ok C.2.2.2.1 (C.2.2.2.2 _ kw_7) (C.2.2.2.2 _ kw_8) (C.2.2.2.2 _ kw_1) hK0 h0P h0D h0S hA rfl (fun j hj => by rcases (show j = 0 ∨ j = 1 ∨ j = 2 ∨ j = 3 ∨ j = 4 ∨ j = 5 ∨ j = 6 ∨ j = 7 ∨ j = 8 ∨ j = 9 by omega) with rfl | rfl | rfl | rfl | rfl | rfl | rfl | rfl | rfl | rfl <;> rfl) (Nat.le_of_ble_eq_true rfl) (Nat.le_of_ble_eq_true rfl) de_L_law_0 (fun x0 H h1 h2 h3 => ?_)
  have h : ST D (fun q : Nat => s.heap.size ≤ q) [(x0, .inr (0, [.null, .int 0, .null, .int 0, .long 0, .int 0, .int 0, .long 0, .null, .int 0]))] s.heap H [] := ⟨h1, h2, h3⟩
  refine lv_dup hx hb de_L_law_3 rfl ?_
  refine (ct_X_init l D ad x0).coreI (As := []) mi_X_init rfl kw_10 C kw_9 ⟨Nat.le_of_ble_eq_true rfl, Nat.le_of_ble_eq_true rfl⟩ h.1 h.2.1 hK0 hC h.2.2 hA hl.1 rfl (Nat.le_of_ble_eq_true rfl) de_L_law_4 ⟨Nat.le_of_ble_eq_true rfl, Nat.le_of_ble_eq_true rfl⟩ (fun u H1 locs1 hp hP1 hD1 hKx hk hS1 => ?_)
  obtain ⟨w, ty⟩ := u
  obtain ⟨g, cQ, cI, g0, e1, e2⟩ := hp
  dsimp only at e1 e2 hP1 hD1 hKx
  subst e1 e2 g0
  have h := h.all (sub_A h.2.1 h.2.2 hA) hP1 hD1 hS1
  generalize H1 = H at h ⊢
  generalize locs1 = locs at h ⊢
  refine lv_astore_n (lv' := [(1, .ref (g 0)), (0, .ref b)]) hx hb de_L_law_7 rfl hl (by decide) rfl (fun ls hl => ?_)
  refine va_new (ci := 2) (fs := [.int 0, .null, .null, .null, .null, .null, .null, .null, .null, .null, .long 0, .int 0, .int 0, .long 0, .int 0, .null, .int 0, .null]) (C := R_M) (T := F_M) (N := 18) hx hb C.2.2.2.2 i_M t_M t_M_ok C.2.2.2.1 (C.2.2.2.2 _ kw_223) (C.2.2.2.2 _ kw_224) (C.2.2.2.2 _ kw_2) hKx h.1 h.2.1 h.2.2 hA rfl (fun j hj => by rcases (show j = 0 ∨ j = 1 ∨ j = 2 ∨ j = 3 ∨ j = 4 ∨ j = 5 ∨ j = 6 ∨ j = 7 ∨ j = 8 ∨ j = 9 ∨ j = 10 ∨ j = 11 ∨ j = 12 ∨ j = 13 ∨ j = 14 ∨ j = 15 ∨ j = 16 ∨ j = 17 by omega) with rfl | rfl | rfl | rfl | rfl | rfl | rfl | rfl | rfl | rfl | rfl | rfl | rfl | rfl | rfl | rfl | rfl | rfl <;> rfl) (Nat.le_of_ble_eq_true rfl) (Nat.le_of_ble_eq_true rfl) de_L_law_8 (fun m0 H h1 h2 h3 => ?_)
  have h : ST D (fun q : Nat => s.heap.size ≤ q) (WX g cQ cI ad (fun _ => 0) S0 ++ [(m0, .inr (2, [.int 0, .null, .null, .null, .null, .null, .null, .null, .null, .null, .long 0, .int 0, .int 0, .long 0, .int 0, .null, .int 0, .null]))]) s.heap H locs := ⟨h1, h2, h3⟩
  refine lv_dup hx hb de_L_law_11 rfl ?_
  refine (ct_M_init l D m0).coreI (As := []) mi_M_init rfl kw_226 C kw_225 ⟨Nat.le_of_ble_eq_true rfl, Nat.le_of_ble_eq_true rfl⟩ h.1.right h.2.1.right hK0 (o := none) trivial h.2.2 hA hl.1 rfl (Nat.le_of_ble_eq_true rfl) de_L_law_12 ⟨Nat.le_of_ble_eq_true rfl, Nat.le_of_ble_eq_true rfl⟩ (fun u H1 locs1 hp hP1 hD1 hKm hk hS1 => ?_)
  obtain ⟨w, ty⟩ := u
  obtain ⟨q, cI2, cJ, cZ, q0, e1, e2⟩ := hp
  dsimp only at e1 e2 hP1 hD1 hKm
  subst e1 e2 q0
  have h := (h.comm.side (sub_A h.2.1.right h.2.2 hA) hk hP1 hD1 hS1).comm
  generalize H1 = H at h ⊢
  generalize locs1 = locs at h ⊢
  refine lv_astore_n (lv' := [(2, .ref (q 0)), (1, .ref (g 0)), (0, .ref b)]) hx hb de_L_law_15 rfl hl (by decide) rfl (fun ls hl => ?_)
  refine lv_iconst (v := nI (5 * 0)) hx hb de_L_law_16 (by decide) ?_
  refine lv_istore_n (lv' := [(3, .int (nI (5 * 0))), (2, .ref (q 0)), (1, .ref (g 0)), (0, .ref b)]) hx hb de_L_law_17 rfl hl (by decide) rfl (fun ls hl => ?_)
  refine W.widen (k := 20 + 0) (n := 2000 + 10 * 0) (Nat.le_of_ble_eq_true rfl) (Nat.le_of_ble_eq_true rfl) ?_
  exact law_loop C hX hbl hKx hKm hC hL hr hlk 512 0 (by decide) (by omega) S0 (fun _ => 0) H locs inv_S0 h ls (lv_sub hl [0, 3, 2, 1] rfl)
end
section
-- ===== YOUR PART ENDS =====
set_option maxHeartbeats 4000000 in
theorem lw_walk (l : Launch) (b : Addr) (xs : List Int32) : MetFree l x (headSpec (Jvm.Cond.code x code maxLocals ret :: tables_1) room_1) (lw_P b xs) (fun _ _ _ _ _ => True) lw_Q := by
  refine MetFree.of_bodyS (code := code) (maxLocals := maxLocals) (ret := ret) (by decide) ?_ ?_
  · intro args s m h hn
    obtain ⟨meth, c, h1, h2, h3, h4, h5, h6, -, -⟩ := Cond.code_spec hn (atoms_spec (ws := Jvm.Cond.code x code maxLocals ret :: tables_1) h _ List.mem_cons_self)
    exact ⟨meth, c, h1, h2, h3, h4, h5, h6⟩
  · intro p e s m args below meth c s₁ B hml0 hP _
    obtain ⟨rfl, hx, hbd, hgv⟩ := hP
    obtain ⟨scr, harrAt, hlist, hof, hsmall⟩ := hx
    obtain ⟨hcb, hkn, -, -⟩ := State.arrayAt?_spec harrAt
    have hown : s.vm.findClass R_law = some m.cls := findClass_of_methodNamed B.named
    have hts0 : ∀ c ∈ (Jvm.Cond.code x code maxLocals ret :: tables_1), c.before #[Value.ref b] s = true := atoms_spec (ws := Jvm.Cond.code x code maxLocals ret :: tables_1) B.pre
    have hts : ∀ w ∈ lw_tbl, w.before #[Value.ref b] s = true := k2_hts_sels lw_privs (fun w hw => hts0 w (List.mem_cons_of_mem _ hw)) lw_privs_ok
    have hml : c.maxLocals = 4 := B.maxLocals_eq (hts0 _ List.mem_cons_self)
    have X₀ : Stand p l e room_1 s m #[Value.ref b] below meth c s₁ [] 0 0 := Stand.of_body B
    have hh0 : s₁.heap = s.heap := by rw [B.state]; rfl
    have hsz : scr.slots.size = xs.length := by rw [← Array.length_toList, hlist, List.length_map]
    have hval : ∀ j : Nat, j < xs.length → scr.slots[j]? = some (.int (xs.getD j 0)) := fun j hj => by
      rw [← Array.getElem?_toList, hlist]
      simp [hj]
    have hbl : b < s.heap.size := (Array.getElem?_eq_some_iff.mp hcb).1
    have hX : va_X b xs.length (fun j => xs.getD j 0) s s.heap := ⟨scr, hcb, hof, hkn, hsz, hval⟩
    have K : W p l e room_1 s m #[Value.ref b] below meth c s₁.heap [] 0 0 (lw_Z below #[Value.ref b] s) (entryFrame m ([Value.ref b] : List Value).toArray 4) := by
      rw [hh0]
      exact whole_start l hbd ⟨B.exec, B.bytes, B.returns, hml, hown, hts, hX, hbl, B.notSynchronized, hgv⟩
    obtain ⟨t, a1, o, b1, b2, b3⟩ := K s₁ rfl X₀
    exact ⟨t, o, a1, b1, b2, b3⟩
theorem lw_pre_spec {args : Array Value} {s : State} (h : (Jvm.Cond.and given_1 narrow_1).before args s = true) (hr : rest_1_c.before args s = true) : ∃ (b : Addr) (xs : List Int32), lw_P b xs args s := by
  have hs := flat_of_before _ h
  have hq := flat_of_before _ hr
  have hc : (Cond.count 1).before args s = true := hs _ (by decide +kernel)
  have harr : (Cond.arrayOf (.arg 0) .int).before args s = true := hs _ (by decide +kernel)
  have hle : (Cond.le (.length (.arg 0)) (.int 2560)).before args s = true := hs _ (by decide +kernel)
  have hlen : (Cond.isInt (.length (.arg 0))).before args s = true := hq _ (by decide +kernel)
  have hall : (Cond.all (.arg 0) (.isInt (.elem (.arg 0) (.index 0)))).before args s = true := hq _ (by decide +kernel)
  obtain ⟨b, xs, hb, hx⟩ := State.ints_of_pre rfl harr hlen hall
  have hsm : xs.length < 2 ^ 31 := hx.choose_spec.2.2.2
  have hev : (Term.length (.arg 0)).eval args s none [] s = some (.int xs.length.toInt32) := hx.length_eval hb
  have hv := Cond.le_ints hev (show (Term.int 2560).eval args s none [] s = some (.int 2560) from rfl)
  have hd : xs.length.toInt32 ≤ 2560 := by
    simpa [Cond.before, Cond.holds, hv] using hle
  have hN : xs.length ≤ 2560 := (Int32.ofNat_le_ofNat hsm (by decide)).mp (show Int32.ofNat xs.length ≤ Int32.ofNat 2560 from hd)
  exact ⟨b, xs, Cond.one_arg hc (show args[0]? = some (.ref b) from hb), hx, hN, h⟩
theorem lw_comes (l : Launch) : Comes l x (Jvm.Cond.code x code maxLocals ret :: tables_1) room_1 (fun tb e args s => Calls_1 tb e args s ∧ rest_1 tb e args s ∧ Pre_1 tb e args s)
    (fun _ _ args s o t => lw_Q args s o t) := by
  intro p e ha hc hk s m args below hf hfit hheap happ hpre
  obtain ⟨b, xs, hP⟩ := lw_pre_spec hpre.2.2 hpre.2.1
  obtain ⟨k, o, h1, h2, h3, hQ⟩ := lw_walk l b xs p e ha hc hk s m args below hf ((Spec.applies_iff_loose hf).mp happ).1 hP trivial
  exact ⟨k, o, h1, h2, h3, hQ⟩
theorem lw_frame {s t : State} {o : Outcome} {args : Array Value} (h : Framed s o t [] 600000 7302250) :
    Framed s o t (fieldLocs frame_1_writes args s ++ arrayLocs frame_1_arrays args s ++ staticLocs frame_1_statics s) 600000 7302250 := h
theorem lw_limb (L : Cond) (hL : ∀ (args : Array Value) (s t : State), L.after args s (.returned (some (.int 1))) t = true) :
    ArmFor flags0 classFile x code maxLocals ret World_1 tables_1 room_1 Calls_1 rest_1 Pre_1
      (fun tb e a s o t => postC L tb e a s o t ∧ Framed s o t (fieldLocs frame_1_writes a s ++ arrayLocs frame_1_arrays a s ++ staticLocs frame_1_statics s) 600000 7302250) := by
  intro l _ _ _ p e ha hc hk s m args below hf hfit hheap happ hpre
  obtain ⟨k, o, h1, h2, h3, rfl, hF⟩ := lw_comes l p e ha hc hk s m args below hf hfit hheap happ hpre
  exact ⟨k, _, h1, h2, h3, hL args s _, lw_frame hF⟩
theorem i_vc : Claimed_1_1 ∧ Claimed_1_2 := ⟨lw_limb limb_1_1 (fun args s t => by simp [limb_1_1, Cond.after, Cond.holds, Cond.value]), lw_limb limb_1_2 (fun args s t => Cond.after_iff.mpr (by
  first | (rw [show limb_1_2 = Cond.eq .result (.int 1) from rfl, Cond.eq_ints (x := 1) (y := 1) rfl rfl]; simp; done) | (simp [limb_1_2, Cond.value, Term.eval]; done)))⟩
end
