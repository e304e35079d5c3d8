section
-- ===== PART A: goes FIRST, ahead of the names: the tables' words, and 'selects' of the private methods out of them =====
/-- a private method of a class that the tables say can be made, by its rows of tables_1 -/
def lw_okq (q : MethodName × Nat) : Prop := (q.1.cls ≠ "java/lang/invoke/MethodHandle" ∧ q.1.cls ≠ "java/lang/invoke/VarHandle") ∧ Cond.instantiable q.1.cls q.2 ∈ tables_1 ∧ Cond.privateMethod q.1 ∈ tables_1 ∧ Cond.instanceMethod q.1 ∈ tables_1
theorem lw_p0 : lw_okq (⟨"KrylovDesk", "mod", "(J)I"⟩, 21) := ⟨⟨by decide +kernel, by decide +kernel⟩, List.mem_of_getElem? (i := 5) (by decide +kernel), List.mem_of_getElem? (i := 93) (by decide +kernel), List.mem_of_getElem? (i := 94) (by decide +kernel)⟩
theorem lw_p1 : lw_okq (⟨"KrylovDesk", "forget", "()V"⟩, 21) := ⟨⟨by decide +kernel, by decide +kernel⟩, List.mem_of_getElem? (i := 5) (by decide +kernel), List.mem_of_getElem? (i := 97) (by decide +kernel), List.mem_of_getElem? (i := 98) (by decide +kernel)⟩
theorem lw_p2 : lw_okq (⟨"KrylovDesk", "drawRow", "()V"⟩, 21) := ⟨⟨by decide +kernel, by decide +kernel⟩, List.mem_of_getElem? (i := 5) (by decide +kernel), List.mem_of_getElem? (i := 114) (by decide +kernel), List.mem_of_getElem? (i := 115) (by decide +kernel)⟩
theorem lw_p3 : lw_okq (⟨"KrylovDesk", "draw", "()I"⟩, 21) := ⟨⟨by decide +kernel, by decide +kernel⟩, List.mem_of_getElem? (i := 5) (by decide +kernel), List.mem_of_getElem? (i := 118) (by decide +kernel), List.mem_of_getElem? (i := 119) (by decide +kernel)⟩
theorem lw_p4 : lw_okq (⟨"KrylovDesk", "multiply", "([J)V"⟩, 21) := ⟨⟨by decide +kernel, by decide +kernel⟩, List.mem_of_getElem? (i := 5) (by decide +kernel), List.mem_of_getElem? (i := 124) (by decide +kernel), List.mem_of_getElem? (i := 125) (by decide +kernel)⟩
theorem lw_p5 : lw_okq (⟨"KrylovDesk", "findRecurrence", "()V"⟩, 21) := ⟨⟨by decide +kernel, by decide +kernel⟩, List.mem_of_getElem? (i := 5) (by decide +kernel), List.mem_of_getElem? (i := 128) (by decide +kernel), List.mem_of_getElem? (i := 129) (by decide +kernel)⟩
theorem lw_p6 : lw_okq (⟨"KrylovDesk", "inverse", "(J)J"⟩, 21) := ⟨⟨by decide +kernel, by decide +kernel⟩, List.mem_of_getElem? (i := 5) (by decide +kernel), List.mem_of_getElem? (i := 138) (by decide +kernel), List.mem_of_getElem? (i := 139) (by decide +kernel)⟩
theorem lw_p7 : lw_okq (⟨"KrylovDesk", "findCandidate", "()V"⟩, 21) := ⟨⟨by decide +kernel, by decide +kernel⟩, List.mem_of_getElem? (i := 5) (by decide +kernel), List.mem_of_getElem? (i := 142) (by decide +kernel), List.mem_of_getElem? (i := 143) (by decide +kernel)⟩
theorem lw_p8 : lw_okq (⟨"KrylovDesk", "isRight", "()Z"⟩, 21) := ⟨⟨by decide +kernel, by decide +kernel⟩, List.mem_of_getElem? (i := 5) (by decide +kernel), List.mem_of_getElem? (i := 146) (by decide +kernel), List.mem_of_getElem? (i := 147) (by decide +kernel)⟩
theorem lw_p9 : lw_okq (⟨"KrylovDeskModel", "within", "(J)J"⟩, 22) := ⟨⟨by decide +kernel, by decide +kernel⟩, List.mem_of_getElem? (i := 186) (by decide +kernel), List.mem_of_getElem? (i := 267) (by decide +kernel), List.mem_of_getElem? (i := 268) (by decide +kernel)⟩
theorem lw_p10 : lw_okq (⟨"KrylovDeskModel", "forget", "()V"⟩, 22) := ⟨⟨by decide +kernel, by decide +kernel⟩, List.mem_of_getElem? (i := 186) (by decide +kernel), List.mem_of_getElem? (i := 271) (by decide +kernel), List.mem_of_getElem? (i := 272) (by decide +kernel)⟩
theorem lw_p11 : lw_okq (⟨"KrylovDeskModel", "makeRow", "()V"⟩, 22) := ⟨⟨by decide +kernel, by decide +kernel⟩, List.mem_of_getElem? (i := 186) (by decide +kernel), List.mem_of_getElem? (i := 288) (by decide +kernel), List.mem_of_getElem? (i := 289) (by decide +kernel)⟩
theorem lw_p12 : lw_okq (⟨"KrylovDeskModel", "draw", "()J"⟩, 22) := ⟨⟨by decide +kernel, by decide +kernel⟩, List.mem_of_getElem? (i := 186) (by decide +kernel), List.mem_of_getElem? (i := 292) (by decide +kernel), List.mem_of_getElem? (i := 293) (by decide +kernel)⟩
theorem lw_p13 : lw_okq (⟨"KrylovDeskModel", "product", "()V"⟩, 22) := ⟨⟨by decide +kernel, by decide +kernel⟩, List.mem_of_getElem? (i := 186) (by decide +kernel), List.mem_of_getElem? (i := 300) (by decide +kernel), List.mem_of_getElem? (i := 301) (by decide +kernel)⟩
theorem lw_p14 : lw_okq (⟨"KrylovDeskModel", "recur", "()V"⟩, 22) := ⟨⟨by decide +kernel, by decide +kernel⟩, List.mem_of_getElem? (i := 186) (by decide +kernel), List.mem_of_getElem? (i := 304) (by decide +kernel), List.mem_of_getElem? (i := 305) (by decide +kernel)⟩
theorem lw_p15 : lw_okq (⟨"KrylovDeskModel", "inverse", "(J)J"⟩, 22) := ⟨⟨by decide +kernel, by decide +kernel⟩, List.mem_of_getElem? (i := 186) (by decide +kernel), List.mem_of_getElem? (i := 308) (by decide +kernel), List.mem_of_getElem? (i := 309) (by decide +kernel)⟩
def lw_privs_1 : List (MethodName × Nat) := [(⟨"KrylovDesk", "mod", "(J)I"⟩, 21), (⟨"KrylovDesk", "forget", "()V"⟩, 21), (⟨"KrylovDesk", "drawRow", "()V"⟩, 21), (⟨"KrylovDesk", "draw", "()I"⟩, 21), (⟨"KrylovDesk", "multiply", "([J)V"⟩, 21), (⟨"KrylovDesk", "findRecurrence", "()V"⟩, 21), (⟨"KrylovDesk", "inverse", "(J)J"⟩, 21), (⟨"KrylovDesk", "findCandidate", "()V"⟩, 21), (⟨"KrylovDesk", "isRight", "()Z"⟩, 21), (⟨"KrylovDeskModel", "within", "(J)J"⟩, 22), (⟨"KrylovDeskModel", "forget", "()V"⟩, 22), (⟨"KrylovDeskModel", "makeRow", "()V"⟩, 22), (⟨"KrylovDeskModel", "draw", "()J"⟩, 22), (⟨"KrylovDeskModel", "product", "()V"⟩, 22), (⟨"KrylovDeskModel", "recur", "()V"⟩, 22), (⟨"KrylovDeskModel", "inverse", "(J)J"⟩, 22)]
theorem lw_r1 : ∀ q ∈ lw_privs_1, lw_okq q := List.forall_mem_cons.mpr ⟨lw_p0, List.forall_mem_cons.mpr ⟨lw_p1, List.forall_mem_cons.mpr ⟨lw_p2, List.forall_mem_cons.mpr ⟨lw_p3, List.forall_mem_cons.mpr ⟨lw_p4, List.forall_mem_cons.mpr ⟨lw_p5, List.forall_mem_cons.mpr ⟨lw_p6, List.forall_mem_cons.mpr ⟨lw_p7, List.forall_mem_cons.mpr ⟨lw_p8, List.forall_mem_cons.mpr ⟨lw_p9, List.forall_mem_cons.mpr ⟨lw_p10, List.forall_mem_cons.mpr ⟨lw_p11, List.forall_mem_cons.mpr ⟨lw_p12, List.forall_mem_cons.mpr ⟨lw_p13, List.forall_mem_cons.mpr ⟨lw_p14, List.forall_mem_cons.mpr ⟨lw_p15, fun _ h => absurd h List.not_mem_nil⟩⟩⟩⟩⟩⟩⟩⟩⟩⟩⟩⟩⟩⟩⟩⟩
theorem lw_p16 : lw_okq (⟨"KrylovDeskModel", "power", "(JI)J"⟩, 22) := ⟨⟨by decide +kernel, by decide +kernel⟩, List.mem_of_getElem? (i := 186) (by decide +kernel), List.mem_of_getElem? (i := 312) (by decide +kernel), List.mem_of_getElem? (i := 313) (by decide +kernel)⟩
theorem lw_p17 : lw_okq (⟨"KrylovDeskModel", "makeCandidate", "()V"⟩, 22) := ⟨⟨by decide +kernel, by decide +kernel⟩, List.mem_of_getElem? (i := 186) (by decide +kernel), List.mem_of_getElem? (i := 316) (by decide +kernel), List.mem_of_getElem? (i := 317) (by decide +kernel)⟩
theorem lw_p18 : lw_okq (⟨"KrylovDeskModel", "holds", "()Z"⟩, 22) := ⟨⟨by decide +kernel, by decide +kernel⟩, List.mem_of_getElem? (i := 186) (by decide +kernel), List.mem_of_getElem? (i := 320) (by decide +kernel), List.mem_of_getElem? (i := 321) (by decide +kernel)⟩
def lw_privs_2 : List (MethodName × Nat) := [(⟨"KrylovDeskModel", "power", "(JI)J"⟩, 22), (⟨"KrylovDeskModel", "makeCandidate", "()V"⟩, 22), (⟨"KrylovDeskModel", "holds", "()Z"⟩, 22)]
theorem lw_r2 : ∀ q ∈ lw_privs_2, lw_okq q := List.forall_mem_cons.mpr ⟨lw_p16, List.forall_mem_cons.mpr ⟨lw_p17, List.forall_mem_cons.mpr ⟨lw_p18, fun _ h => absurd h List.not_mem_nil⟩⟩⟩
def lw_privs : List (MethodName × Nat) := lw_privs_1 ++ (lw_privs_2)
def lw_tbl : List Cond := k2_sels lw_privs ++ tables_1
theorem lw_privs_ok : ∀ q ∈ lw_privs, lw_okq q := by
  show ∀ q ∈ lw_privs_1 ++ (lw_privs_2), lw_okq q
  exact List.forall_mem_append.mpr ⟨lw_r1, lw_r2⟩
-- ===== end of PART A; then your names; then what follows =====
/-! THE CLAIM OUT OF ONE WALK OF THE LAW'S BODY. Your part is whole_start (and what it stands on); all else here is the same for every law, but numbers. -/
def R_law : String := "KrylovDeskLaw"
def lw_P (b : Addr) (xs : List Int32) (args : Array Value) (s : State) : Prop := args = #[.ref b] ∧ s.IntsAt b xs ∧ xs.length ≤ 2051 ∧ (Jvm.Cond.and given_1 narrow_1).before args s = true
def lw_Q (_ : Array Value) (s : State) (o : Outcome) (t : State) : Prop := o = .returned (some (.int 1)) ∧ Framed s o t [] 600000 7302250
def lw_Z (below : List Frame) (a : Array Value) (s : State) : State → Prop := fun t => ∃ o, t.status = .running ∧ Ended t below o ∧ lw_Q a s o t
/-- the law's own end, with 1 on the stack, nothing written that was there before, its room as the claim has it -/
theorem lw_ret {p : Program} {l : Launch} {e : Env} {s : State} {m : MethodId} {below : List Frame} {meth : Method} {c : Code} {b : Nat} (hx : p.tables.exec = Jvm.exec) (hb : c.code = code) (hr : meth.sig.returnType = ret) (hlocks : meth.locks = false) {pc : Nat} {H : Heap} {ls : Array Slot} (hdg : decode code pc = .ok (.ireturn, 1)) : W p l e room_1 s m #[Value.ref b] below meth c H [] 600000 7302250 (lw_Z below #[Value.ref b] s) (F0 m pc ls [.int 1]) := by
  intro T hT X
  obtain ⟨fs, hret, hrun, hended, hW, hframe⟩ := X.leave (v := some (.int 1)) (hlocks := hlocks) (fun h => by rw [hr] at h; cases h)
  have hmeth' : T.vm.method? m = some meth := X.method'
  refine ⟨T.setFrames fs, ?_, .returned (some (.int 1)), hrun, hended, rfl, ⟨_, rfl⟩, hW, hframe⟩
  jvm_step X.here [X.here.top, hx, hb, hdg, hmeth', hr, ret, narrow_b1]
  (try refine ⟨rfl, ?_⟩); (try refine ⟨rfl, ?_⟩)
  first | (intro acts; rw [hret _ acts rfl rfl rfl]) | rw [hret _ _ rfl rfl rfl]
  exact Steps.refl _
/-- what holds at the law's entry: the machine, the code, the tables' words (any of lw_tbl by 'hts w (by decide +kernel)'), the script of L ints xs at the cell b, what the Statement gives of the start (any of its parts by flat_of_before) -/
def lw_At (p : Program) (s : State) (m : MethodId) (meth : Method) (c : Code) (b L : Nat) (xs : Nat → Int32) : Prop :=
  p.tables.exec = Jvm.exec ∧ c.code = code ∧ meth.sig.returnType = ret ∧ c.maxLocals = 4 ∧ s.vm.findClass R_law = some m.cls ∧ (∀ w ∈ lw_tbl, w.before #[Value.ref b] s = true) ∧ va_X b L xs s s.heap ∧ b < s.heap.size ∧ meth.locks = false ∧ (Jvm.Cond.and given_1 narrow_1).before #[Value.ref b] s = true
end
section
/-! names: the classes, their fields, the methods, and the rows of the tables -/
def lw_g : List Cond := lw_tbl.filter goodWord
def R_D : String := "KrylovDesk"
def R_M : String := "KrylovDeskModel"
def F_D : u_T := fun k => match k with
  | 0 => ("KrylovDesk", "p", "I", true)
  | 1 => ("KrylovDesk", "n", "I", true)
  | 2 => ("KrylovDesk", "most", "I", true)
  | 3 => ("KrylovDesk", "rows", "[I", true)
  | 4 => ("KrylovDesk", "columns", "[I", true)
  | 5 => ("KrylovDesk", "values", "[I", true)
  | 6 => ("KrylovDesk", "b", "[J", true)
  | 7 => ("KrylovDesk", "u", "[J", true)
  | 8 => ("KrylovDesk", "v", "[J", true)
  | 9 => ("KrylovDesk", "w", "[J", true)
  | 10 => ("KrylovDesk", "x", "[J", true)
  | 11 => ("KrylovDesk", "row", "[J", true)
  | 12 => ("KrylovDesk", "now", "[J", true)
  | 13 => ("KrylovDesk", "before", "[J", true)
  | 14 => ("KrylovDesk", "kept", "[J", true)
  | 15 => ("KrylovDesk", "many", "I", false)
  | 16 => ("KrylovDesk", "degree", "I", false)
  | 17 => ("KrylovDesk", "solved", "Z", false)
  | 18 => ("KrylovDesk", "generator", "J", false)
  | 19 => ("KrylovDesk", "products", "I", false)
  | _ => ("KrylovDesk", "attempts", "I", false)
def t_D : Nat → FieldType := fun k => match k with
  | 0 => .int
  | 1 => .int
  | 2 => .int
  | 3 => .array .int
  | 4 => .array .int
  | 5 => .array .int
  | 6 => .array .long
  | 7 => .array .long
  | 8 => .array .long
  | 9 => .array .long
  | 10 => .array .long
  | 11 => .array .long
  | 12 => .array .long
  | 13 => .array .long
  | 14 => .array .long
  | 15 => .int
  | 16 => .int
  | 17 => .boolean
  | 18 => .long
  | 19 => .int
  | _ => .int
abbrev w_D : List Cond := u_ws R_D F_D 21
theorem n_D : ∀ a, a < 21 → ∀ b, b < 21 → a ≠ b → (F_D a).2.1 ≠ (F_D b).2.1 := by decide +kernel
theorem t_D_ok : ∀ k, k < 21 → parseFieldDescriptor (F_D k).2.2.1 = some (t_D k) := by decide +kernel
theorem i_D : ∀ w ∈ w_D, w ∈ lw_g := by decide +kernel
def F_M : u_T := fun k => match k with
  | 0 => ("KrylovDeskModel", "prime", "I", true)
  | 1 => ("KrylovDeskModel", "n", "I", true)
  | 2 => ("KrylovDeskModel", "room", "I", true)
  | 3 => ("KrylovDeskModel", "rows", "[I", true)
  | 4 => ("KrylovDeskModel", "columns", "[I", true)
  | 5 => ("KrylovDeskModel", "values", "[J", true)
  | 6 => ("KrylovDeskModel", "entries", "I", false)
  | 7 => ("KrylovDeskModel", "right", "[J", true)
  | 8 => ("KrylovDeskModel", "generator", "J", false)
  | 9 => ("KrylovDeskModel", "attempts", "I", false)
  | 10 => ("KrylovDeskModel", "products", "I", false)
  | 11 => ("KrylovDeskModel", "drawn", "[J", true)
  | 12 => ("KrylovDeskModel", "vector", "[J", true)
  | 13 => ("KrylovDeskModel", "made", "[J", true)
  | 14 => ("KrylovDeskModel", "row", "[J", true)
  | 15 => ("KrylovDeskModel", "hasRow", "Z", false)
  | 16 => ("KrylovDeskModel", "c", "[J", true)
  | 17 => ("KrylovDeskModel", "b", "[J", true)
  | 18 => ("KrylovDeskModel", "t", "[J", true)
  | 19 => ("KrylovDeskModel", "degree", "I", false)
  | 20 => ("KrylovDeskModel", "solution", "[J", true)
  | _ => ("KrylovDeskModel", "solved", "Z", false)
def t_M : Nat → FieldType := fun k => match k with
  | 0 => .int
  | 1 => .int
  | 2 => .int
  | 3 => .array .int
  | 4 => .array .int
  | 5 => .array .long
  | 6 => .int
  | 7 => .array .long
  | 8 => .long
  | 9 => .int
  | 10 => .int
  | 11 => .array .long
  | 12 => .array .long
  | 13 => .array .long
  | 14 => .array .long
  | 15 => .boolean
  | 16 => .array .long
  | 17 => .array .long
  | 18 => .array .long
  | 19 => .int
  | 20 => .array .long
  | _ => .boolean
abbrev w_M : List Cond := u_ws R_M F_M 22
theorem n_M : ∀ a, a < 22 → ∀ b, b < 22 → a ≠ b → (F_M a).2.1 ≠ (F_M b).2.1 := by decide +kernel
theorem t_M_ok : ∀ k, k < 22 → parseFieldDescriptor (F_M k).2.2.1 = some (t_M k) := by decide +kernel
theorem i_M : ∀ w ∈ w_M, w ∈ lw_g := by decide +kernel
abbrev classes : List vw_C := [(R_D, F_D, 21), (R_M, F_M, 22)]
abbrev b_D_init : ByteArray := prog_1_method_4_code
def y_D_init : MethodName := ⟨R_D, "<init>", "(III)V"⟩
abbrev b_D_bring : ByteArray := prog_1_method_1_code
def y_D_bring : MethodName := ⟨R_D, "bring", "(III)I"⟩
abbrev b_D_isPrime : ByteArray := prog_1_method_3_code
def y_D_isPrime : MethodName := ⟨R_D, "isPrime", "(I)Z"⟩
abbrev b_D_entry : ByteArray := prog_1_method_7_code
def y_D_entry : MethodName := ⟨R_D, "entry", "(III)I"⟩
abbrev b_D_within : ByteArray := prog_1_method_2_code
def y_D_within : MethodName := ⟨R_D, "within", "(III)Z"⟩
abbrev b_D_mod : ByteArray := prog_1_method_5_code
def y_D_mod : MethodName := ⟨R_D, "mod", "(J)I"⟩
abbrev b_D_forget : ByteArray := prog_1_method_6_code
def y_D_forget : MethodName := ⟨R_D, "forget", "()V"⟩
abbrev b_D_side : ByteArray := prog_1_method_8_code
def y_D_side : MethodName := ⟨R_D, "side", "(II)I"⟩
abbrev b_D_seed : ByteArray := prog_1_method_9_code
def y_D_seed : MethodName := ⟨R_D, "seed", "(I)V"⟩
abbrev b_D_attempt : ByteArray := prog_1_method_18_code
def y_D_attempt : MethodName := ⟨R_D, "attempt", "()I"⟩
abbrev b_D_drawRow : ByteArray := prog_1_method_13_code
def y_D_drawRow : MethodName := ⟨R_D, "drawRow", "()V"⟩
abbrev b_D_draw : ByteArray := prog_1_method_10_code
def y_D_draw : MethodName := ⟨R_D, "draw", "()I"⟩
abbrev b_D_multiply : ByteArray := prog_1_method_11_code
def y_D_multiply : MethodName := ⟨R_D, "multiply", "([J)V"⟩
abbrev b_D_findRecurrence : ByteArray := prog_1_method_15_code
def y_D_findRecurrence : MethodName := ⟨R_D, "findRecurrence", "()V"⟩
abbrev b_D_copy : ByteArray := prog_1_method_14_code
def y_D_copy : MethodName := ⟨R_D, "copy", "([J[J)V"⟩
abbrev b_D_inverse : ByteArray := prog_1_method_12_code
def y_D_inverse : MethodName := ⟨R_D, "inverse", "(J)J"⟩
abbrev b_D_findCandidate : ByteArray := prog_1_method_16_code
def y_D_findCandidate : MethodName := ⟨R_D, "findCandidate", "()V"⟩
abbrev b_D_isRight : ByteArray := prog_1_method_17_code
def y_D_isRight : MethodName := ⟨R_D, "isRight", "()Z"⟩
abbrev b_D_solve : ByteArray := prog_1_method_19_code
def y_D_solve : MethodName := ⟨R_D, "solve", "(I)I"⟩
abbrev b_D_solution : ByteArray := prog_1_method_20_code
def y_D_solution : MethodName := ⟨R_D, "solution", "(I)I"⟩
abbrev b_D_degree : ByteArray := prog_1_method_21_code
def y_D_degree : MethodName := ⟨R_D, "degree", "()I"⟩
abbrev b_D_coefficient : ByteArray := prog_1_method_22_code
def y_D_coefficient : MethodName := ⟨R_D, "coefficient", "(I)I"⟩
abbrev b_D_number : ByteArray := prog_1_method_23_code
def y_D_number : MethodName := ⟨R_D, "number", "(I)I"⟩
abbrev b_D_verify : ByteArray := prog_1_method_24_code
def y_D_verify : MethodName := ⟨R_D, "verify", "()Z"⟩
abbrev b_D_products : ByteArray := prog_1_method_25_code
def y_D_products : MethodName := ⟨R_D, "products", "()I"⟩
abbrev b_D_count : ByteArray := prog_1_method_26_code
def y_D_count : MethodName := ⟨R_D, "count", "(I)I"⟩
abbrev b_L_cell : ByteArray := method_2_code
def y_L_cell : MethodName := ⟨R_law, "cell", "([II)I"⟩
abbrev b_M_init : ByteArray := prog_3_method_1_code
def y_M_init : MethodName := ⟨R_M, "<init>", "(III)V"⟩
abbrev b_M_isPrime : ByteArray := prog_3_method_3_code
def y_M_isPrime : MethodName := ⟨R_M, "isPrime", "(I)Z"⟩
abbrev b_M_entry : ByteArray := prog_3_method_6_code
def y_M_entry : MethodName := ⟨R_M, "entry", "(III)I"⟩
abbrev b_M_within : ByteArray := prog_3_method_4_code
def y_M_within : MethodName := ⟨R_M, "within", "(J)J"⟩
abbrev b_M_forget : ByteArray := prog_3_method_5_code
def y_M_forget : MethodName := ⟨R_M, "forget", "()V"⟩
abbrev b_M_side : ByteArray := prog_3_method_7_code
def y_M_side : MethodName := ⟨R_M, "side", "(II)I"⟩
abbrev b_M_seed : ByteArray := prog_3_method_8_code
def y_M_seed : MethodName := ⟨R_M, "seed", "(I)V"⟩
abbrev b_M_attempt : ByteArray := prog_3_method_17_code
def y_M_attempt : MethodName := ⟨R_M, "attempt", "()I"⟩
abbrev b_M_makeRow : ByteArray := prog_3_method_13_code
def y_M_makeRow : MethodName := ⟨R_M, "makeRow", "()V"⟩
abbrev b_M_draw : ByteArray := prog_3_method_9_code
def y_M_draw : MethodName := ⟨R_M, "draw", "()J"⟩
abbrev b_M_product : ByteArray := prog_3_method_10_code
def y_M_product : MethodName := ⟨R_M, "product", "()V"⟩
abbrev b_M_recur : ByteArray := prog_3_method_14_code
def y_M_recur : MethodName := ⟨R_M, "recur", "()V"⟩
abbrev b_M_inverse : ByteArray := prog_3_method_12_code
def y_M_inverse : MethodName := ⟨R_M, "inverse", "(J)J"⟩
abbrev b_M_power : ByteArray := prog_3_method_11_code
def y_M_power : MethodName := ⟨R_M, "power", "(JI)J"⟩
abbrev b_M_makeCandidate : ByteArray := prog_3_method_16_code
def y_M_makeCandidate : MethodName := ⟨R_M, "makeCandidate", "()V"⟩
abbrev b_M_holds : ByteArray := prog_3_method_15_code
def y_M_holds : MethodName := ⟨R_M, "holds", "()Z"⟩
abbrev b_M_solve : ByteArray := prog_3_method_18_code
def y_M_solve : MethodName := ⟨R_M, "solve", "(I)I"⟩
abbrev b_M_solution : ByteArray := prog_3_method_19_code
def y_M_solution : MethodName := ⟨R_M, "solution", "(I)I"⟩
abbrev b_M_degree : ByteArray := prog_3_method_20_code
def y_M_degree : MethodName := ⟨R_M, "degree", "()I"⟩
abbrev b_M_coefficient : ByteArray := prog_3_method_21_code
def y_M_coefficient : MethodName := ⟨R_M, "coefficient", "(I)I"⟩
abbrev b_M_number : ByteArray := prog_3_method_22_code
def y_M_number : MethodName := ⟨R_M, "number", "(I)I"⟩
abbrev b_M_verify : ByteArray := prog_3_method_23_code
def y_M_verify : MethodName := ⟨R_M, "verify", "()Z"⟩
abbrev b_M_products : ByteArray := prog_3_method_24_code
def y_M_products : MethodName := ⟨R_M, "products", "()I"⟩
abbrev b_M_count : ByteArray := prog_3_method_25_code
def y_M_count : MethodName := ⟨R_M, "count", "(I)I"⟩
theorem lw_1 {w : Cond} (h : w ∈ tables_1_1) (hg : goodWord w = true) : w ∈ lw_g := List.mem_filter.mpr ⟨List.mem_append_right _ (List.mem_append_left _ h), hg⟩
theorem lw_2 {w : Cond} (h : w ∈ tables_1_2) (hg : goodWord w = true) : w ∈ lw_g := List.mem_filter.mpr ⟨List.mem_append_right _ (List.mem_append_right _ h), hg⟩
theorem lw_0 {w : Cond} (h : w ∈ k2_sels lw_privs) (hg : goodWord w = true) : w ∈ lw_g := List.mem_filter.mpr ⟨List.mem_append_left _ h, hg⟩
theorem lw_good : ∀ w ∈ lw_g, goodWord w = true := fun w h => (List.mem_filter.mp h).2
theorem lw_in : ∀ w ∈ lw_g, w ∈ lw_tbl := fun w h => (List.mem_filter.mp h).1
theorem q1_0 : (Cond.initialized R_law) ∈ lw_g := lw_1 (List.mem_of_getElem? (i := 0) rfl) rfl
theorem q1_1 : (Cond.initialized R_D) ∈ lw_g := lw_1 (List.mem_of_getElem? (i := 1) rfl) rfl
theorem q1_2 : (Cond.initialized R_M) ∈ lw_g := lw_1 (List.mem_of_getElem? (i := 2) rfl) rfl
theorem q1_3 : (Cond.initialized "java/lang/System") ∈ lw_g := lw_1 (List.mem_of_getElem? (i := 3) rfl) rfl
theorem q1_4 : (Cond.classLink R_law 7 R_D) ∈ lw_g := lw_1 (List.mem_of_getElem? (i := 4) rfl) rfl
theorem q1_5 : (Cond.instantiable R_D 21) ∈ lw_g := lw_1 (List.mem_of_getElem? (i := 5) rfl) rfl
theorem q1_6 : (Cond.methodLink R_law 15 y_D_init) ∈ lw_g := lw_1 (List.mem_of_getElem? (i := 6) rfl) rfl
theorem q1_7 : (Cond.instanceMethod y_D_init) ∈ lw_g := lw_1 (List.mem_of_getElem? (i := 7) rfl) rfl
theorem q1_8 : (Cond.code y_D_init prog_1_method_4_code 5 none) ∈ lw_g := lw_1 (List.mem_of_getElem? (i := 8) rfl) rfl
theorem q1_9 : (Cond.methodLink R_D 1 objectInit) ∈ lw_g := lw_1 (List.mem_of_getElem? (i := 9) rfl) rfl
theorem q1_10 : (Cond.instanceMethod objectInit) ∈ lw_g := lw_1 (List.mem_of_getElem? (i := 10) rfl) rfl
theorem q1_11 : (Cond.code objectInit ⟨#[0xb1]⟩ 1 none) ∈ lw_g := lw_1 (List.mem_of_getElem? (i := 11) rfl) rfl
theorem q1_12 : (Cond.constant R_D 45 (46337 : Int32)) ∈ lw_g := lw_1 (List.mem_of_getElem? (i := 12) rfl) rfl
theorem q1_13 : (Cond.methodLink R_D 46 y_D_bring) ∈ lw_g := lw_1 (List.mem_of_getElem? (i := 13) rfl) rfl
theorem q1_14 : (Cond.static y_D_bring) ∈ lw_g := lw_1 (List.mem_of_getElem? (i := 14) rfl) rfl
theorem q1_15 : (Cond.code y_D_bring prog_1_method_1_code 3 (some .int)) ∈ lw_g := lw_1 (List.mem_of_getElem? (i := 15) rfl) rfl
theorem q1_16 : (Cond.methodLink R_D 50 y_D_isPrime) ∈ lw_g := lw_1 (List.mem_of_getElem? (i := 16) rfl) rfl
theorem q1_17 : (Cond.static y_D_isPrime) ∈ lw_g := lw_1 (List.mem_of_getElem? (i := 17) rfl) rfl
theorem q1_18 : (Cond.code y_D_isPrime prog_1_method_3_code 3 (some .boolean)) ∈ lw_g := lw_1 (List.mem_of_getElem? (i := 18) rfl) rfl
theorem q1_19 : (Cond.fieldLink R_D 54 R_D "p" "I") ∈ lw_g := lw_1 (List.mem_of_getElem? (i := 19) rfl) rfl
theorem q1_20 : (Cond.fieldLink R_D 57 R_D "n" "I") ∈ lw_g := lw_1 (List.mem_of_getElem? (i := 20) rfl) rfl
theorem q1_21 : (Cond.fieldLink R_D 60 R_D "most" "I") ∈ lw_g := lw_1 (List.mem_of_getElem? (i := 21) rfl) rfl
theorem q1_22 : (Cond.fieldLink R_D 63 R_D "rows" "[I") ∈ lw_g := lw_1 (List.mem_of_getElem? (i := 22) rfl) rfl
theorem q1_23 : (Cond.fieldLink R_D 67 R_D "columns" "[I") ∈ lw_g := lw_1 (List.mem_of_getElem? (i := 23) rfl) rfl
theorem q1_24 : (Cond.fieldLink R_D 70 R_D "values" "[I") ∈ lw_g := lw_1 (List.mem_of_getElem? (i := 24) rfl) rfl
theorem q1_25 : (Cond.fieldLink R_D 7 R_D "b" "[J") ∈ lw_g := lw_1 (List.mem_of_getElem? (i := 25) rfl) rfl
theorem q1_26 : (Cond.fieldLink R_D 13 R_D "u" "[J") ∈ lw_g := lw_1 (List.mem_of_getElem? (i := 26) rfl) rfl
theorem q1_27 : (Cond.fieldLink R_D 16 R_D "v" "[J") ∈ lw_g := lw_1 (List.mem_of_getElem? (i := 27) rfl) rfl
theorem q1_28 : (Cond.fieldLink R_D 19 R_D "w" "[J") ∈ lw_g := lw_1 (List.mem_of_getElem? (i := 28) rfl) rfl
theorem q1_29 : (Cond.fieldLink R_D 22 R_D "x" "[J") ∈ lw_g := lw_1 (List.mem_of_getElem? (i := 29) rfl) rfl
theorem q1_30 : (Cond.fieldLink R_D 25 R_D "row" "[J") ∈ lw_g := lw_1 (List.mem_of_getElem? (i := 30) rfl) rfl
theorem q1_31 : (Cond.fieldLink R_D 28 R_D "now" "[J") ∈ lw_g := lw_1 (List.mem_of_getElem? (i := 31) rfl) rfl
theorem q1_32 : (Cond.fieldLink R_D 31 R_D "before" "[J") ∈ lw_g := lw_1 (List.mem_of_getElem? (i := 32) rfl) rfl
theorem q1_33 : (Cond.fieldLink R_D 34 R_D "kept" "[J") ∈ lw_g := lw_1 (List.mem_of_getElem? (i := 33) rfl) rfl
theorem q1_34 : (Cond.fieldLink R_D 81 R_D "many" "I") ∈ lw_g := lw_1 (List.mem_of_getElem? (i := 34) rfl) rfl
theorem q1_35 : (Cond.fieldLink R_D 37 R_D "degree" "I") ∈ lw_g := lw_1 (List.mem_of_getElem? (i := 35) rfl) rfl
theorem q1_36 : (Cond.fieldLink R_D 73 R_D "solved" "Z") ∈ lw_g := lw_1 (List.mem_of_getElem? (i := 36) rfl) rfl
theorem q1_37 : (Cond.fieldLink R_D 41 R_D "generator" "J") ∈ lw_g := lw_1 (List.mem_of_getElem? (i := 37) rfl) rfl
theorem q1_38 : (Cond.fieldLink R_D 97 R_D "products" "I") ∈ lw_g := lw_1 (List.mem_of_getElem? (i := 38) rfl) rfl
theorem q1_39 : (Cond.fieldLink R_D 122 R_D "attempts" "I") ∈ lw_g := lw_1 (List.mem_of_getElem? (i := 39) rfl) rfl
theorem q1_83 : (Cond.arrayClass FieldType.long) ∈ lw_g := lw_1 (List.mem_of_getElem? (i := 83) rfl) rfl
theorem q1_84 : (Cond.arrayClass FieldType.int) ∈ lw_g := lw_1 (List.mem_of_getElem? (i := 84) rfl) rfl
theorem q1_85 : (Cond.methodLink R_law 21 y_D_entry) ∈ lw_g := lw_1 (List.mem_of_getElem? (i := 85) rfl) rfl
theorem q1_86 : (Cond.instanceMethod y_D_entry) ∈ lw_g := lw_1 (List.mem_of_getElem? (i := 86) rfl) rfl
theorem q1_87 : (Cond.selects R_D y_D_entry y_D_entry) ∈ lw_g := lw_1 (List.mem_of_getElem? (i := 87) rfl) rfl
theorem q1_88 : (Cond.code y_D_entry prog_1_method_7_code 4 (some .int)) ∈ lw_g := lw_1 (List.mem_of_getElem? (i := 88) rfl) rfl
theorem q1_89 : (Cond.methodLink R_D 77 y_D_within) ∈ lw_g := lw_1 (List.mem_of_getElem? (i := 89) rfl) rfl
theorem q1_90 : (Cond.static y_D_within) ∈ lw_g := lw_1 (List.mem_of_getElem? (i := 90) rfl) rfl
theorem q1_91 : (Cond.code y_D_within prog_1_method_2_code 3 (some .boolean)) ∈ lw_g := lw_1 (List.mem_of_getElem? (i := 91) rfl) rfl
theorem q1_92 : (Cond.methodLink R_D 84 y_D_mod) ∈ lw_g := lw_1 (List.mem_of_getElem? (i := 92) rfl) rfl
theorem q1_94 : (Cond.instanceMethod y_D_mod) ∈ lw_g := lw_1 (List.mem_of_getElem? (i := 94) rfl) rfl
theorem q1_95 : (Cond.code y_D_mod prog_1_method_5_code 5 (some .int)) ∈ lw_g := lw_1 (List.mem_of_getElem? (i := 95) rfl) rfl
theorem q1_96 : (Cond.methodLink R_D 88 y_D_forget) ∈ lw_g := lw_1 (List.mem_of_getElem? (i := 96) rfl) rfl
theorem q1_98 : (Cond.instanceMethod y_D_forget) ∈ lw_g := lw_1 (List.mem_of_getElem? (i := 98) rfl) rfl
theorem q1_99 : (Cond.code y_D_forget prog_1_method_6_code 1 none) ∈ lw_g := lw_1 (List.mem_of_getElem? (i := 99) rfl) rfl
theorem q1_100 : (Cond.methodLink R_law 26 y_D_side) ∈ lw_g := lw_1 (List.mem_of_getElem? (i := 100) rfl) rfl
theorem q1_101 : (Cond.instanceMethod y_D_side) ∈ lw_g := lw_1 (List.mem_of_getElem? (i := 101) rfl) rfl
theorem q1_102 : (Cond.selects R_D y_D_side y_D_side) ∈ lw_g := lw_1 (List.mem_of_getElem? (i := 102) rfl) rfl
theorem q1_103 : (Cond.code y_D_side prog_1_method_8_code 3 (some .int)) ∈ lw_g := lw_1 (List.mem_of_getElem? (i := 103) rfl) rfl
theorem q1_104 : (Cond.methodLink R_law 31 y_D_seed) ∈ lw_g := lw_1 (List.mem_of_getElem? (i := 104) rfl) rfl
theorem q1_105 : (Cond.instanceMethod y_D_seed) ∈ lw_g := lw_1 (List.mem_of_getElem? (i := 105) rfl) rfl
theorem q1_106 : (Cond.selects R_D y_D_seed y_D_seed) ∈ lw_g := lw_1 (List.mem_of_getElem? (i := 106) rfl) rfl
theorem q1_107 : (Cond.code y_D_seed prog_1_method_9_code 2 none) ∈ lw_g := lw_1 (List.mem_of_getElem? (i := 107) rfl) rfl
theorem q1_108 : (Cond.constantLong R_D 91 (2147483647 : Int64)) ∈ lw_g := lw_1 (List.mem_of_getElem? (i := 108) rfl) rfl
theorem q1_109 : (Cond.methodLink R_law 36 y_D_attempt) ∈ lw_g := lw_1 (List.mem_of_getElem? (i := 109) rfl) rfl
theorem q1_110 : (Cond.instanceMethod y_D_attempt) ∈ lw_g := lw_1 (List.mem_of_getElem? (i := 110) rfl) rfl
theorem q1_111 : (Cond.selects R_D y_D_attempt y_D_attempt) ∈ lw_g := lw_1 (List.mem_of_getElem? (i := 111) rfl) rfl
theorem q1_112 : (Cond.code y_D_attempt prog_1_method_18_code 1 (some .int)) ∈ lw_g := lw_1 (List.mem_of_getElem? (i := 112) rfl) rfl
theorem q1_113 : (Cond.methodLink R_D 125 y_D_drawRow) ∈ lw_g := lw_1 (List.mem_of_getElem? (i := 113) rfl) rfl
theorem q1_115 : (Cond.instanceMethod y_D_drawRow) ∈ lw_g := lw_1 (List.mem_of_getElem? (i := 115) rfl) rfl
theorem q1_116 : (Cond.code y_D_drawRow prog_1_method_13_code 3 none) ∈ lw_g := lw_1 (List.mem_of_getElem? (i := 116) rfl) rfl
theorem q1_117 : (Cond.methodLink R_D 100 y_D_draw) ∈ lw_g := lw_1 (List.mem_of_getElem? (i := 117) rfl) rfl
theorem q1_119 : (Cond.instanceMethod y_D_draw) ∈ lw_g := lw_1 (List.mem_of_getElem? (i := 119) rfl) rfl
theorem q1_120 : (Cond.code y_D_draw prog_1_method_10_code 1 (some .int)) ∈ lw_g := lw_1 (List.mem_of_getElem? (i := 120) rfl) rfl
theorem q1_121 : (Cond.constantLong R_D 93 (1103515245 : Int64)) ∈ lw_g := lw_1 (List.mem_of_getElem? (i := 121) rfl) rfl
theorem q1_122 : (Cond.constantLong R_D 95 (12345 : Int64)) ∈ lw_g := lw_1 (List.mem_of_getElem? (i := 122) rfl) rfl
theorem q1_123 : (Cond.methodLink R_D 104 y_D_multiply) ∈ lw_g := lw_1 (List.mem_of_getElem? (i := 123) rfl) rfl
theorem q1_125 : (Cond.instanceMethod y_D_multiply) ∈ lw_g := lw_1 (List.mem_of_getElem? (i := 125) rfl) rfl
theorem q1_126 : (Cond.code y_D_multiply prog_1_method_11_code 3 none) ∈ lw_g := lw_1 (List.mem_of_getElem? (i := 126) rfl) rfl
theorem q1_127 : (Cond.methodLink R_D 128 y_D_findRecurrence) ∈ lw_g := lw_1 (List.mem_of_getElem? (i := 127) rfl) rfl
theorem q1_129 : (Cond.instanceMethod y_D_findRecurrence) ∈ lw_g := lw_1 (List.mem_of_getElem? (i := 129) rfl) rfl
theorem q1_130 : (Cond.code y_D_findRecurrence prog_1_method_15_code 11 none) ∈ lw_g := lw_1 (List.mem_of_getElem? (i := 130) rfl) rfl
theorem q1_131 : (Cond.methodLink R_D 114 y_D_copy) ∈ lw_g := lw_1 (List.mem_of_getElem? (i := 131) rfl) rfl
theorem q1_132 : (Cond.static y_D_copy) ∈ lw_g := lw_1 (List.mem_of_getElem? (i := 132) rfl) rfl
theorem q1_133 : (Cond.code y_D_copy prog_1_method_14_code 2 none) ∈ lw_g := lw_1 (List.mem_of_getElem? (i := 133) rfl) rfl
theorem q1_134 : (Cond.methodLink R_D 108 arraycopyName) ∈ lw_g := lw_1 (List.mem_of_getElem? (i := 134) rfl) rfl
theorem q1_135 : (Cond.static arraycopyName) ∈ lw_g := lw_1 (List.mem_of_getElem? (i := 135) rfl) rfl
theorem q1_136 : (Cond.native arraycopyName) ∈ lw_g := lw_1 (List.mem_of_getElem? (i := 136) rfl) rfl
theorem q1_137 : (Cond.methodLink R_D 118 y_D_inverse) ∈ lw_g := lw_1 (List.mem_of_getElem? (i := 137) rfl) rfl
theorem q1_139 : (Cond.instanceMethod y_D_inverse) ∈ lw_g := lw_1 (List.mem_of_getElem? (i := 139) rfl) rfl
theorem q1_140 : (Cond.code y_D_inverse prog_1_method_12_code 8 (some .long)) ∈ lw_g := lw_1 (List.mem_of_getElem? (i := 140) rfl) rfl
theorem q1_141 : (Cond.methodLink R_D 131 y_D_findCandidate) ∈ lw_g := lw_1 (List.mem_of_getElem? (i := 141) rfl) rfl
theorem q1_143 : (Cond.instanceMethod y_D_findCandidate) ∈ lw_g := lw_1 (List.mem_of_getElem? (i := 143) rfl) rfl
theorem q1_144 : (Cond.code y_D_findCandidate prog_1_method_16_code 4 none) ∈ lw_g := lw_1 (List.mem_of_getElem? (i := 144) rfl) rfl
theorem q1_145 : (Cond.methodLink R_D 134 y_D_isRight) ∈ lw_g := lw_1 (List.mem_of_getElem? (i := 145) rfl) rfl
theorem q1_147 : (Cond.instanceMethod y_D_isRight) ∈ lw_g := lw_1 (List.mem_of_getElem? (i := 147) rfl) rfl
theorem q1_148 : (Cond.code y_D_isRight prog_1_method_17_code 3 (some .boolean)) ∈ lw_g := lw_1 (List.mem_of_getElem? (i := 148) rfl) rfl
theorem q1_149 : (Cond.methodLink R_law 41 y_D_solve) ∈ lw_g := lw_1 (List.mem_of_getElem? (i := 149) rfl) rfl
theorem q1_150 : (Cond.instanceMethod y_D_solve) ∈ lw_g := lw_1 (List.mem_of_getElem? (i := 150) rfl) rfl
theorem q1_151 : (Cond.selects R_D y_D_solve y_D_solve) ∈ lw_g := lw_1 (List.mem_of_getElem? (i := 151) rfl) rfl
theorem q1_152 : (Cond.code y_D_solve prog_1_method_19_code 4 (some .int)) ∈ lw_g := lw_1 (List.mem_of_getElem? (i := 152) rfl) rfl
theorem q1_153 : (Cond.methodLink R_D 138 y_D_attempt) ∈ lw_g := lw_1 (List.mem_of_getElem? (i := 153) rfl) rfl
theorem q1_154 : (Cond.methodLink R_law 46 y_D_solution) ∈ lw_g := lw_1 (List.mem_of_getElem? (i := 154) rfl) rfl
theorem q1_155 : (Cond.instanceMethod y_D_solution) ∈ lw_g := lw_1 (List.mem_of_getElem? (i := 155) rfl) rfl
theorem q1_156 : (Cond.selects R_D y_D_solution y_D_solution) ∈ lw_g := lw_1 (List.mem_of_getElem? (i := 156) rfl) rfl
theorem q1_157 : (Cond.code y_D_solution prog_1_method_20_code 2 (some .int)) ∈ lw_g := lw_1 (List.mem_of_getElem? (i := 157) rfl) rfl
theorem q1_158 : (Cond.methodLink R_law 50 y_D_degree) ∈ lw_g := lw_1 (List.mem_of_getElem? (i := 158) rfl) rfl
theorem q1_159 : (Cond.instanceMethod y_D_degree) ∈ lw_g := lw_1 (List.mem_of_getElem? (i := 159) rfl) rfl
theorem q1_160 : (Cond.selects R_D y_D_degree y_D_degree) ∈ lw_g := lw_1 (List.mem_of_getElem? (i := 160) rfl) rfl
theorem q1_161 : (Cond.code y_D_degree prog_1_method_21_code 1 (some .int)) ∈ lw_g := lw_1 (List.mem_of_getElem? (i := 161) rfl) rfl
theorem q1_162 : (Cond.methodLink R_law 54 y_D_coefficient) ∈ lw_g := lw_1 (List.mem_of_getElem? (i := 162) rfl) rfl
theorem q1_163 : (Cond.instanceMethod y_D_coefficient) ∈ lw_g := lw_1 (List.mem_of_getElem? (i := 163) rfl) rfl
theorem q1_164 : (Cond.selects R_D y_D_coefficient y_D_coefficient) ∈ lw_g := lw_1 (List.mem_of_getElem? (i := 164) rfl) rfl
theorem q1_165 : (Cond.code y_D_coefficient prog_1_method_22_code 2 (some .int)) ∈ lw_g := lw_1 (List.mem_of_getElem? (i := 165) rfl) rfl
theorem q1_166 : (Cond.methodLink R_law 58 y_D_number) ∈ lw_g := lw_1 (List.mem_of_getElem? (i := 166) rfl) rfl
theorem q1_167 : (Cond.instanceMethod y_D_number) ∈ lw_g := lw_1 (List.mem_of_getElem? (i := 167) rfl) rfl
theorem q1_168 : (Cond.selects R_D y_D_number y_D_number) ∈ lw_g := lw_1 (List.mem_of_getElem? (i := 168) rfl) rfl
theorem q1_169 : (Cond.code y_D_number prog_1_method_23_code 2 (some .int)) ∈ lw_g := lw_1 (List.mem_of_getElem? (i := 169) rfl) rfl
theorem q1_170 : (Cond.methodLink R_law 62 y_D_verify) ∈ lw_g := lw_1 (List.mem_of_getElem? (i := 170) rfl) rfl
theorem q1_171 : (Cond.instanceMethod y_D_verify) ∈ lw_g := lw_1 (List.mem_of_getElem? (i := 171) rfl) rfl
theorem q1_172 : (Cond.selects R_D y_D_verify y_D_verify) ∈ lw_g := lw_1 (List.mem_of_getElem? (i := 172) rfl) rfl
theorem q1_173 : (Cond.code y_D_verify prog_1_method_24_code 1 (some .boolean)) ∈ lw_g := lw_1 (List.mem_of_getElem? (i := 173) rfl) rfl
theorem q1_174 : (Cond.methodLink R_law 67 y_D_products) ∈ lw_g := lw_1 (List.mem_of_getElem? (i := 174) rfl) rfl
theorem q1_175 : (Cond.instanceMethod y_D_products) ∈ lw_g := lw_1 (List.mem_of_getElem? (i := 175) rfl) rfl
theorem q1_176 : (Cond.selects R_D y_D_products y_D_products) ∈ lw_g := lw_1 (List.mem_of_getElem? (i := 176) rfl) rfl
theorem q1_177 : (Cond.code y_D_products prog_1_method_25_code 1 (some .int)) ∈ lw_g := lw_1 (List.mem_of_getElem? (i := 177) rfl) rfl
theorem q1_178 : (Cond.methodLink R_law 71 y_D_count) ∈ lw_g := lw_1 (List.mem_of_getElem? (i := 178) rfl) rfl
theorem q1_179 : (Cond.instanceMethod y_D_count) ∈ lw_g := lw_1 (List.mem_of_getElem? (i := 179) rfl) rfl
theorem q1_180 : (Cond.selects R_D y_D_count y_D_count) ∈ lw_g := lw_1 (List.mem_of_getElem? (i := 180) rfl) rfl
theorem q1_181 : (Cond.code y_D_count prog_1_method_26_code 2 (some .int)) ∈ lw_g := lw_1 (List.mem_of_getElem? (i := 181) rfl) rfl
theorem q1_182 : (Cond.methodLink R_law 9 y_L_cell) ∈ lw_g := lw_1 (List.mem_of_getElem? (i := 182) rfl) rfl
theorem q1_183 : (Cond.static y_L_cell) ∈ lw_g := lw_1 (List.mem_of_getElem? (i := 183) rfl) rfl
theorem q1_184 : (Cond.code y_L_cell method_2_code 2 (some .int)) ∈ lw_g := lw_1 (List.mem_of_getElem? (i := 184) rfl) rfl
theorem q1_185 : (Cond.classLink R_law 18 R_M) ∈ lw_g := lw_1 (List.mem_of_getElem? (i := 185) rfl) rfl
theorem q1_186 : (Cond.instantiable R_M 22) ∈ lw_g := lw_1 (List.mem_of_getElem? (i := 186) rfl) rfl
theorem q1_187 : (Cond.methodLink R_law 20 y_M_init) ∈ lw_g := lw_1 (List.mem_of_getElem? (i := 187) rfl) rfl
theorem q1_188 : (Cond.instanceMethod y_M_init) ∈ lw_g := lw_1 (List.mem_of_getElem? (i := 188) rfl) rfl
theorem q1_189 : (Cond.code y_M_init prog_3_method_1_code 5 none) ∈ lw_g := lw_1 (List.mem_of_getElem? (i := 189) rfl) rfl
theorem q1_190 : (Cond.methodLink R_M 1 objectInit) ∈ lw_g := lw_1 (List.mem_of_getElem? (i := 190) rfl) rfl
theorem q1_191 : (Cond.constant R_M 55 (46337 : Int32)) ∈ lw_g := lw_1 (List.mem_of_getElem? (i := 191) rfl) rfl
theorem q1_192 : (Cond.methodLink R_M 56 y_M_isPrime) ∈ lw_g := lw_1 (List.mem_of_getElem? (i := 192) rfl) rfl
theorem q1_193 : (Cond.static y_M_isPrime) ∈ lw_g := lw_1 (List.mem_of_getElem? (i := 193) rfl) rfl
theorem q1_194 : (Cond.code y_M_isPrime prog_3_method_3_code 3 (some .boolean)) ∈ lw_g := lw_1 (List.mem_of_getElem? (i := 194) rfl) rfl
theorem q1_195 : (Cond.fieldLink R_M 60 R_M "prime" "I") ∈ lw_g := lw_1 (List.mem_of_getElem? (i := 195) rfl) rfl
theorem q1_196 : (Cond.fieldLink R_M 63 R_M "n" "I") ∈ lw_g := lw_1 (List.mem_of_getElem? (i := 196) rfl) rfl
theorem q1_197 : (Cond.fieldLink R_M 66 R_M "room" "I") ∈ lw_g := lw_1 (List.mem_of_getElem? (i := 197) rfl) rfl
theorem q1_198 : (Cond.fieldLink R_M 7 R_M "rows" "[I") ∈ lw_g := lw_1 (List.mem_of_getElem? (i := 198) rfl) rfl
theorem q1_199 : (Cond.fieldLink R_M 13 R_M "columns" "[I") ∈ lw_g := lw_1 (List.mem_of_getElem? (i := 199) rfl) rfl
theorem q1_200 : (Cond.fieldLink R_M 16 R_M "values" "[J") ∈ lw_g := lw_1 (List.mem_of_getElem? (i := 200) rfl) rfl
theorem q1_201 : (Cond.fieldLink R_M 76 R_M "entries" "I") ∈ lw_g := lw_1 (List.mem_of_getElem? (i := 201) rfl) rfl
theorem q1_202 : (Cond.fieldLink R_M 20 R_M "right" "[J") ∈ lw_g := lw_1 (List.mem_of_getElem? (i := 202) rfl) rfl
theorem q1_203 : (Cond.fieldLink R_M 23 R_M "generator" "J") ∈ lw_g := lw_1 (List.mem_of_getElem? (i := 203) rfl) rfl
theorem q1_204 : (Cond.fieldLink R_M 112 R_M "attempts" "I") ∈ lw_g := lw_1 (List.mem_of_getElem? (i := 204) rfl) rfl
theorem q1_205 : (Cond.fieldLink R_M 95 R_M "products" "I") ∈ lw_g := lw_1 (List.mem_of_getElem? (i := 205) rfl) rfl
theorem q1_206 : (Cond.fieldLink R_M 27 R_M "drawn" "[J") ∈ lw_g := lw_1 (List.mem_of_getElem? (i := 206) rfl) rfl
theorem q1_207 : (Cond.fieldLink R_M 30 R_M "vector" "[J") ∈ lw_g := lw_1 (List.mem_of_getElem? (i := 207) rfl) rfl
theorem q1_208 : (Cond.fieldLink R_M 33 R_M "made" "[J") ∈ lw_g := lw_1 (List.mem_of_getElem? (i := 208) rfl) rfl
theorem q1_209 : (Cond.fieldLink R_M 36 R_M "row" "[J") ∈ lw_g := lw_1 (List.mem_of_getElem? (i := 209) rfl) rfl
theorem q1_210 : (Cond.fieldLink R_M 73 R_M "hasRow" "Z") ∈ lw_g := lw_1 (List.mem_of_getElem? (i := 210) rfl) rfl
theorem q1_211 : (Cond.fieldLink R_M 39 R_M "c" "[J") ∈ lw_g := lw_1 (List.mem_of_getElem? (i := 211) rfl) rfl
theorem q1_212 : (Cond.fieldLink R_M 42 R_M "b" "[J") ∈ lw_g := lw_1 (List.mem_of_getElem? (i := 212) rfl) rfl
theorem q1_213 : (Cond.fieldLink R_M 45 R_M "t" "[J") ∈ lw_g := lw_1 (List.mem_of_getElem? (i := 213) rfl) rfl
theorem q1_214 : (Cond.fieldLink R_M 48 R_M "degree" "I") ∈ lw_g := lw_1 (List.mem_of_getElem? (i := 214) rfl) rfl
theorem q1_215 : (Cond.fieldLink R_M 52 R_M "solution" "[J") ∈ lw_g := lw_1 (List.mem_of_getElem? (i := 215) rfl) rfl
theorem q1_216 : (Cond.fieldLink R_M 69 R_M "solved" "Z") ∈ lw_g := lw_1 (List.mem_of_getElem? (i := 216) rfl) rfl
theorem q2_22 : (Cond.methodLink R_law 25 y_M_entry) ∈ lw_g := lw_2 (List.mem_of_getElem? (i := 22) rfl) rfl
theorem q2_23 : (Cond.instanceMethod y_M_entry) ∈ lw_g := lw_2 (List.mem_of_getElem? (i := 23) rfl) rfl
theorem q2_24 : (Cond.selects R_M y_M_entry y_M_entry) ∈ lw_g := lw_2 (List.mem_of_getElem? (i := 24) rfl) rfl
theorem q2_25 : (Cond.code y_M_entry prog_3_method_6_code 4 (some .int)) ∈ lw_g := lw_2 (List.mem_of_getElem? (i := 25) rfl) rfl
theorem q2_26 : (Cond.methodLink R_M 79 y_M_within) ∈ lw_g := lw_2 (List.mem_of_getElem? (i := 26) rfl) rfl
theorem q2_28 : (Cond.instanceMethod y_M_within) ∈ lw_g := lw_2 (List.mem_of_getElem? (i := 28) rfl) rfl
theorem q2_29 : (Cond.code y_M_within prog_3_method_4_code 5 (some .long)) ∈ lw_g := lw_2 (List.mem_of_getElem? (i := 29) rfl) rfl
theorem q2_30 : (Cond.methodLink R_M 83 y_M_forget) ∈ lw_g := lw_2 (List.mem_of_getElem? (i := 30) rfl) rfl
theorem q2_32 : (Cond.instanceMethod y_M_forget) ∈ lw_g := lw_2 (List.mem_of_getElem? (i := 32) rfl) rfl
theorem q2_33 : (Cond.code y_M_forget prog_3_method_5_code 1 none) ∈ lw_g := lw_2 (List.mem_of_getElem? (i := 33) rfl) rfl
theorem q2_34 : (Cond.methodLink R_law 30 y_M_side) ∈ lw_g := lw_2 (List.mem_of_getElem? (i := 34) rfl) rfl
theorem q2_35 : (Cond.instanceMethod y_M_side) ∈ lw_g := lw_2 (List.mem_of_getElem? (i := 35) rfl) rfl
theorem q2_36 : (Cond.selects R_M y_M_side y_M_side) ∈ lw_g := lw_2 (List.mem_of_getElem? (i := 36) rfl) rfl
theorem q2_37 : (Cond.code y_M_side prog_3_method_7_code 3 (some .int)) ∈ lw_g := lw_2 (List.mem_of_getElem? (i := 37) rfl) rfl
theorem q2_38 : (Cond.methodLink R_law 35 y_M_seed) ∈ lw_g := lw_2 (List.mem_of_getElem? (i := 38) rfl) rfl
theorem q2_39 : (Cond.instanceMethod y_M_seed) ∈ lw_g := lw_2 (List.mem_of_getElem? (i := 39) rfl) rfl
theorem q2_40 : (Cond.selects R_M y_M_seed y_M_seed) ∈ lw_g := lw_2 (List.mem_of_getElem? (i := 40) rfl) rfl
theorem q2_41 : (Cond.code y_M_seed prog_3_method_8_code 2 none) ∈ lw_g := lw_2 (List.mem_of_getElem? (i := 41) rfl) rfl
theorem q2_42 : (Cond.constant R_M 86 (2147483647 : Int32)) ∈ lw_g := lw_2 (List.mem_of_getElem? (i := 42) rfl) rfl
theorem q2_43 : (Cond.methodLink R_law 40 y_M_attempt) ∈ lw_g := lw_2 (List.mem_of_getElem? (i := 43) rfl) rfl
theorem q2_44 : (Cond.instanceMethod y_M_attempt) ∈ lw_g := lw_2 (List.mem_of_getElem? (i := 44) rfl) rfl
theorem q2_45 : (Cond.selects R_M y_M_attempt y_M_attempt) ∈ lw_g := lw_2 (List.mem_of_getElem? (i := 45) rfl) rfl
theorem q2_46 : (Cond.code y_M_attempt prog_3_method_17_code 1 (some .int)) ∈ lw_g := lw_2 (List.mem_of_getElem? (i := 46) rfl) rfl
theorem q2_47 : (Cond.methodLink R_M 115 y_M_makeRow) ∈ lw_g := lw_2 (List.mem_of_getElem? (i := 47) rfl) rfl
theorem q2_49 : (Cond.instanceMethod y_M_makeRow) ∈ lw_g := lw_2 (List.mem_of_getElem? (i := 49) rfl) rfl
theorem q2_50 : (Cond.code y_M_makeRow prog_3_method_13_code 5 none) ∈ lw_g := lw_2 (List.mem_of_getElem? (i := 50) rfl) rfl
theorem q2_51 : (Cond.methodLink R_M 102 y_M_draw) ∈ lw_g := lw_2 (List.mem_of_getElem? (i := 51) rfl) rfl
theorem q2_53 : (Cond.instanceMethod y_M_draw) ∈ lw_g := lw_2 (List.mem_of_getElem? (i := 53) rfl) rfl
theorem q2_54 : (Cond.code y_M_draw prog_3_method_9_code 1 (some .long)) ∈ lw_g := lw_2 (List.mem_of_getElem? (i := 54) rfl) rfl
theorem q2_55 : (Cond.constantLong R_M 87 (1103515245 : Int64)) ∈ lw_g := lw_2 (List.mem_of_getElem? (i := 55) rfl) rfl
theorem q2_56 : (Cond.constantLong R_M 89 (12345 : Int64)) ∈ lw_g := lw_2 (List.mem_of_getElem? (i := 56) rfl) rfl
theorem q2_57 : (Cond.constantLong R_M 91 (2147483648 : Int64)) ∈ lw_g := lw_2 (List.mem_of_getElem? (i := 57) rfl) rfl
theorem q2_58 : (Cond.constantLong R_M 93 (65536 : Int64)) ∈ lw_g := lw_2 (List.mem_of_getElem? (i := 58) rfl) rfl
theorem q2_59 : (Cond.methodLink R_M 106 y_M_product) ∈ lw_g := lw_2 (List.mem_of_getElem? (i := 59) rfl) rfl
theorem q2_61 : (Cond.instanceMethod y_M_product) ∈ lw_g := lw_2 (List.mem_of_getElem? (i := 61) rfl) rfl
theorem q2_62 : (Cond.code y_M_product prog_3_method_10_code 2 none) ∈ lw_g := lw_2 (List.mem_of_getElem? (i := 62) rfl) rfl
theorem q2_63 : (Cond.methodLink R_M 118 y_M_recur) ∈ lw_g := lw_2 (List.mem_of_getElem? (i := 63) rfl) rfl
theorem q2_65 : (Cond.instanceMethod y_M_recur) ∈ lw_g := lw_2 (List.mem_of_getElem? (i := 65) rfl) rfl
theorem q2_66 : (Cond.code y_M_recur prog_3_method_14_code 11 none) ∈ lw_g := lw_2 (List.mem_of_getElem? (i := 66) rfl) rfl
theorem q2_67 : (Cond.methodLink R_M 109 y_M_inverse) ∈ lw_g := lw_2 (List.mem_of_getElem? (i := 67) rfl) rfl
theorem q2_69 : (Cond.instanceMethod y_M_inverse) ∈ lw_g := lw_2 (List.mem_of_getElem? (i := 69) rfl) rfl
theorem q2_70 : (Cond.code y_M_inverse prog_3_method_12_code 3 (some .long)) ∈ lw_g := lw_2 (List.mem_of_getElem? (i := 70) rfl) rfl
theorem q2_71 : (Cond.methodLink R_M 98 y_M_power) ∈ lw_g := lw_2 (List.mem_of_getElem? (i := 71) rfl) rfl
theorem q2_73 : (Cond.instanceMethod y_M_power) ∈ lw_g := lw_2 (List.mem_of_getElem? (i := 73) rfl) rfl
theorem q2_74 : (Cond.code y_M_power prog_3_method_11_code 7 (some .long)) ∈ lw_g := lw_2 (List.mem_of_getElem? (i := 74) rfl) rfl
theorem q2_75 : (Cond.methodLink R_M 121 y_M_makeCandidate) ∈ lw_g := lw_2 (List.mem_of_getElem? (i := 75) rfl) rfl
theorem q2_77 : (Cond.instanceMethod y_M_makeCandidate) ∈ lw_g := lw_2 (List.mem_of_getElem? (i := 77) rfl) rfl
theorem q2_78 : (Cond.code y_M_makeCandidate prog_3_method_16_code 4 none) ∈ lw_g := lw_2 (List.mem_of_getElem? (i := 78) rfl) rfl
theorem q2_79 : (Cond.methodLink R_M 124 y_M_holds) ∈ lw_g := lw_2 (List.mem_of_getElem? (i := 79) rfl) rfl
theorem q2_81 : (Cond.instanceMethod y_M_holds) ∈ lw_g := lw_2 (List.mem_of_getElem? (i := 81) rfl) rfl
theorem q2_82 : (Cond.code y_M_holds prog_3_method_15_code 3 (some .boolean)) ∈ lw_g := lw_2 (List.mem_of_getElem? (i := 82) rfl) rfl
theorem q2_83 : (Cond.methodLink R_law 45 y_M_solve) ∈ lw_g := lw_2 (List.mem_of_getElem? (i := 83) rfl) rfl
theorem q2_84 : (Cond.instanceMethod y_M_solve) ∈ lw_g := lw_2 (List.mem_of_getElem? (i := 84) rfl) rfl
theorem q2_85 : (Cond.selects R_M y_M_solve y_M_solve) ∈ lw_g := lw_2 (List.mem_of_getElem? (i := 85) rfl) rfl
theorem q2_86 : (Cond.code y_M_solve prog_3_method_18_code 4 (some .int)) ∈ lw_g := lw_2 (List.mem_of_getElem? (i := 86) rfl) rfl
theorem q2_87 : (Cond.methodLink R_M 128 y_M_attempt) ∈ lw_g := lw_2 (List.mem_of_getElem? (i := 87) rfl) rfl
theorem q2_88 : (Cond.methodLink R_law 49 y_M_solution) ∈ lw_g := lw_2 (List.mem_of_getElem? (i := 88) rfl) rfl
theorem q2_89 : (Cond.instanceMethod y_M_solution) ∈ lw_g := lw_2 (List.mem_of_getElem? (i := 89) rfl) rfl
theorem q2_90 : (Cond.selects R_M y_M_solution y_M_solution) ∈ lw_g := lw_2 (List.mem_of_getElem? (i := 90) rfl) rfl
theorem q2_91 : (Cond.code y_M_solution prog_3_method_19_code 2 (some .int)) ∈ lw_g := lw_2 (List.mem_of_getElem? (i := 91) rfl) rfl
theorem q2_92 : (Cond.methodLink R_law 53 y_M_degree) ∈ lw_g := lw_2 (List.mem_of_getElem? (i := 92) rfl) rfl
theorem q2_93 : (Cond.instanceMethod y_M_degree) ∈ lw_g := lw_2 (List.mem_of_getElem? (i := 93) rfl) rfl
theorem q2_94 : (Cond.selects R_M y_M_degree y_M_degree) ∈ lw_g := lw_2 (List.mem_of_getElem? (i := 94) rfl) rfl
theorem q2_95 : (Cond.code y_M_degree prog_3_method_20_code 1 (some .int)) ∈ lw_g := lw_2 (List.mem_of_getElem? (i := 95) rfl) rfl
theorem q2_96 : (Cond.methodLink R_law 57 y_M_coefficient) ∈ lw_g := lw_2 (List.mem_of_getElem? (i := 96) rfl) rfl
theorem q2_97 : (Cond.instanceMethod y_M_coefficient) ∈ lw_g := lw_2 (List.mem_of_getElem? (i := 97) rfl) rfl
theorem q2_98 : (Cond.selects R_M y_M_coefficient y_M_coefficient) ∈ lw_g := lw_2 (List.mem_of_getElem? (i := 98) rfl) rfl
theorem q2_99 : (Cond.code y_M_coefficient prog_3_method_21_code 2 (some .int)) ∈ lw_g := lw_2 (List.mem_of_getElem? (i := 99) rfl) rfl
theorem q2_100 : (Cond.methodLink R_law 61 y_M_number) ∈ lw_g := lw_2 (List.mem_of_getElem? (i := 100) rfl) rfl
theorem q2_101 : (Cond.instanceMethod y_M_number) ∈ lw_g := lw_2 (List.mem_of_getElem? (i := 101) rfl) rfl
theorem q2_102 : (Cond.selects R_M y_M_number y_M_number) ∈ lw_g := lw_2 (List.mem_of_getElem? (i := 102) rfl) rfl
theorem q2_103 : (Cond.code y_M_number prog_3_method_22_code 2 (some .int)) ∈ lw_g := lw_2 (List.mem_of_getElem? (i := 103) rfl) rfl
theorem q2_104 : (Cond.methodLink R_law 66 y_M_verify) ∈ lw_g := lw_2 (List.mem_of_getElem? (i := 104) rfl) rfl
theorem q2_105 : (Cond.instanceMethod y_M_verify) ∈ lw_g := lw_2 (List.mem_of_getElem? (i := 105) rfl) rfl
theorem q2_106 : (Cond.selects R_M y_M_verify y_M_verify) ∈ lw_g := lw_2 (List.mem_of_getElem? (i := 106) rfl) rfl
theorem q2_107 : (Cond.code y_M_verify prog_3_method_23_code 1 (some .boolean)) ∈ lw_g := lw_2 (List.mem_of_getElem? (i := 107) rfl) rfl
theorem q2_108 : (Cond.methodLink R_law 70 y_M_products) ∈ lw_g := lw_2 (List.mem_of_getElem? (i := 108) rfl) rfl
theorem q2_109 : (Cond.instanceMethod y_M_products) ∈ lw_g := lw_2 (List.mem_of_getElem? (i := 109) rfl) rfl
theorem q2_110 : (Cond.selects R_M y_M_products y_M_products) ∈ lw_g := lw_2 (List.mem_of_getElem? (i := 110) rfl) rfl
theorem q2_111 : (Cond.code y_M_products prog_3_method_24_code 1 (some .int)) ∈ lw_g := lw_2 (List.mem_of_getElem? (i := 111) rfl) rfl
theorem q2_112 : (Cond.methodLink R_law 74 y_M_count) ∈ lw_g := lw_2 (List.mem_of_getElem? (i := 112) rfl) rfl
theorem q2_113 : (Cond.instanceMethod y_M_count) ∈ lw_g := lw_2 (List.mem_of_getElem? (i := 113) rfl) rfl
theorem q2_114 : (Cond.selects R_M y_M_count y_M_count) ∈ lw_g := lw_2 (List.mem_of_getElem? (i := 114) rfl) rfl
theorem q2_115 : (Cond.code y_M_count prog_3_method_25_code 2 (some .int)) ∈ lw_g := lw_2 (List.mem_of_getElem? (i := 115) rfl) rfl
theorem q0_0 : Cond.selects R_D y_D_mod y_D_mod ∈ lw_g := lw_0 (List.mem_of_getElem? (i := 0) rfl) rfl
theorem q0_1 : Cond.selects R_D y_D_forget y_D_forget ∈ lw_g := lw_0 (List.mem_of_getElem? (i := 1) rfl) rfl
theorem q0_2 : Cond.selects R_D y_D_drawRow y_D_drawRow ∈ lw_g := lw_0 (List.mem_of_getElem? (i := 2) rfl) rfl
theorem q0_3 : Cond.selects R_D y_D_draw y_D_draw ∈ lw_g := lw_0 (List.mem_of_getElem? (i := 3) rfl) rfl
theorem q0_4 : Cond.selects R_D y_D_multiply y_D_multiply ∈ lw_g := lw_0 (List.mem_of_getElem? (i := 4) rfl) rfl
theorem q0_5 : Cond.selects R_D y_D_findRecurrence y_D_findRecurrence ∈ lw_g := lw_0 (List.mem_of_getElem? (i := 5) rfl) rfl
theorem q0_6 : Cond.selects R_D y_D_inverse y_D_inverse ∈ lw_g := lw_0 (List.mem_of_getElem? (i := 6) rfl) rfl
theorem q0_7 : Cond.selects R_D y_D_findCandidate y_D_findCandidate ∈ lw_g := lw_0 (List.mem_of_getElem? (i := 7) rfl) rfl
theorem q0_8 : Cond.selects R_D y_D_isRight y_D_isRight ∈ lw_g := lw_0 (List.mem_of_getElem? (i := 8) rfl) rfl
theorem q0_9 : Cond.selects R_M y_M_within y_M_within ∈ lw_g := lw_0 (List.mem_of_getElem? (i := 9) rfl) rfl
theorem q0_10 : Cond.selects R_M y_M_forget y_M_forget ∈ lw_g := lw_0 (List.mem_of_getElem? (i := 10) rfl) rfl
theorem q0_11 : Cond.selects R_M y_M_makeRow y_M_makeRow ∈ lw_g := lw_0 (List.mem_of_getElem? (i := 11) rfl) rfl
theorem q0_12 : Cond.selects R_M y_M_draw y_M_draw ∈ lw_g := lw_0 (List.mem_of_getElem? (i := 12) rfl) rfl
theorem q0_13 : Cond.selects R_M y_M_product y_M_product ∈ lw_g := lw_0 (List.mem_of_getElem? (i := 13) rfl) rfl
theorem q0_14 : Cond.selects R_M y_M_recur y_M_recur ∈ lw_g := lw_0 (List.mem_of_getElem? (i := 14) rfl) rfl
theorem q0_15 : Cond.selects R_M y_M_inverse y_M_inverse ∈ lw_g := lw_0 (List.mem_of_getElem? (i := 15) rfl) rfl
theorem q0_16 : Cond.selects R_M y_M_power y_M_power ∈ lw_g := lw_0 (List.mem_of_getElem? (i := 16) rfl) rfl
theorem q0_17 : Cond.selects R_M y_M_makeCandidate y_M_makeCandidate ∈ lw_g := lw_0 (List.mem_of_getElem? (i := 17) rfl) rfl
theorem q0_18 : Cond.selects R_M y_M_holds y_M_holds ∈ lw_g := lw_0 (List.mem_of_getElem? (i := 18) rfl) rfl
/-- what the tables say of a call: of an instance method, of a static one, of a constructor -/
def LkV (own : String) (index : Nat) (y : MethodName) (b : ByteArray) (nL : Nat) (ret : Option FieldType) (n : Nat) : Prop :=
  (Cond.methodLink own index y ∈ lw_g ∧ Cond.instanceMethod y ∈ lw_g ∧ Cond.selects y.cls y y ∈ lw_g ∧ Cond.initialized y.cls ∈ lw_g ∧ Cond.code y b nL ret ∈ lw_g) ∧ (y.cls ≠ "java/lang/invoke/MethodHandle" ∧ y.cls ≠ "java/lang/invoke/VarHandle" ∧ (parseMethodDescriptor y.desc).map (fun d => d.parameters.length) = some n)
def LkS (own : String) (index : Nat) (y : MethodName) (b : ByteArray) (nL : Nat) (ret : Option FieldType) (n : Nat) : Prop :=
  (Cond.methodLink own index y ∈ lw_g ∧ Cond.static y ∈ lw_g ∧ Cond.initialized y.cls ∈ lw_g ∧ Cond.code y b nL ret ∈ lw_g) ∧ (y.cls ≠ "java/lang/invoke/MethodHandle" ∧ y.cls ≠ "java/lang/invoke/VarHandle" ∧ (parseMethodDescriptor y.desc).map (fun d => d.parameters.length) = some n)
def LkI (own : String) (index : Nat) (y : MethodName) (b : ByteArray) (nL : Nat) (n : Nat) : Prop :=
  (Cond.methodLink own index y ∈ lw_g ∧ Cond.instanceMethod y ∈ lw_g ∧ Cond.initialized y.cls ∈ lw_g ∧ Cond.code y b nL none ∈ lw_g) ∧ (y.cls ≠ "java/lang/invoke/MethodHandle" ∧ y.cls ≠ "java/lang/invoke/VarHandle" ∧ (parseMethodDescriptor y.desc).map (fun d => d.parameters.length) = some n)
theorem k_law_15 : LkI R_law 15 y_D_init b_D_init 5 3 := ⟨⟨q1_6, q1_7, q1_1, q1_8⟩, ⟨by decide +kernel, by decide +kernel, by decide +kernel⟩⟩
theorem k_D_46 : LkS R_D 46 y_D_bring b_D_bring 3 (some .int) 3 := ⟨⟨q1_13, q1_14, q1_1, q1_15⟩, ⟨by decide +kernel, by decide +kernel, by decide +kernel⟩⟩
theorem k_D_50 : LkS R_D 50 y_D_isPrime b_D_isPrime 3 (some .boolean) 1 := ⟨⟨q1_16, q1_17, q1_1, q1_18⟩, ⟨by decide +kernel, by decide +kernel, by decide +kernel⟩⟩
theorem k_law_21 : LkV R_law 21 y_D_entry b_D_entry 4 (some .int) 3 := ⟨⟨q1_85, q1_86, q1_87, q1_1, q1_88⟩, ⟨by decide +kernel, by decide +kernel, by decide +kernel⟩⟩
theorem k_D_77 : LkS R_D 77 y_D_within b_D_within 3 (some .boolean) 3 := ⟨⟨q1_89, q1_90, q1_1, q1_91⟩, ⟨by decide +kernel, by decide +kernel, by decide +kernel⟩⟩
theorem k_D_84 : LkV R_D 84 y_D_mod b_D_mod 5 (some .int) 1 := ⟨⟨q1_92, q1_94, q0_0, q1_1, q1_95⟩, ⟨by decide +kernel, by decide +kernel, by decide +kernel⟩⟩
theorem k_D_88 : LkV R_D 88 y_D_forget b_D_forget 1 none 0 := ⟨⟨q1_96, q1_98, q0_1, q1_1, q1_99⟩, ⟨by decide +kernel, by decide +kernel, by decide +kernel⟩⟩
theorem k_law_26 : LkV R_law 26 y_D_side b_D_side 3 (some .int) 2 := ⟨⟨q1_100, q1_101, q1_102, q1_1, q1_103⟩, ⟨by decide +kernel, by decide +kernel, by decide +kernel⟩⟩
theorem k_law_31 : LkV R_law 31 y_D_seed b_D_seed 2 none 1 := ⟨⟨q1_104, q1_105, q1_106, q1_1, q1_107⟩, ⟨by decide +kernel, by decide +kernel, by decide +kernel⟩⟩
theorem k_law_36 : LkV R_law 36 y_D_attempt b_D_attempt 1 (some .int) 0 := ⟨⟨q1_109, q1_110, q1_111, q1_1, q1_112⟩, ⟨by decide +kernel, by decide +kernel, by decide +kernel⟩⟩
theorem k_D_125 : LkV R_D 125 y_D_drawRow b_D_drawRow 3 none 0 := ⟨⟨q1_113, q1_115, q0_2, q1_1, q1_116⟩, ⟨by decide +kernel, by decide +kernel, by decide +kernel⟩⟩
theorem k_D_100 : LkV R_D 100 y_D_draw b_D_draw 1 (some .int) 0 := ⟨⟨q1_117, q1_119, q0_3, q1_1, q1_120⟩, ⟨by decide +kernel, by decide +kernel, by decide +kernel⟩⟩
theorem k_D_104 : LkV R_D 104 y_D_multiply b_D_multiply 3 none 1 := ⟨⟨q1_123, q1_125, q0_4, q1_1, q1_126⟩, ⟨by decide +kernel, by decide +kernel, by decide +kernel⟩⟩
theorem k_D_128 : LkV R_D 128 y_D_findRecurrence b_D_findRecurrence 11 none 0 := ⟨⟨q1_127, q1_129, q0_5, q1_1, q1_130⟩, ⟨by decide +kernel, by decide +kernel, by decide +kernel⟩⟩
theorem k_D_114 : LkS R_D 114 y_D_copy b_D_copy 2 none 2 := ⟨⟨q1_131, q1_132, q1_1, q1_133⟩, ⟨by decide +kernel, by decide +kernel, by decide +kernel⟩⟩
theorem k_D_118 : LkV R_D 118 y_D_inverse b_D_inverse 8 (some .long) 1 := ⟨⟨q1_137, q1_139, q0_6, q1_1, q1_140⟩, ⟨by decide +kernel, by decide +kernel, by decide +kernel⟩⟩
theorem k_D_131 : LkV R_D 131 y_D_findCandidate b_D_findCandidate 4 none 0 := ⟨⟨q1_141, q1_143, q0_7, q1_1, q1_144⟩, ⟨by decide +kernel, by decide +kernel, by decide +kernel⟩⟩
theorem k_D_134 : LkV R_D 134 y_D_isRight b_D_isRight 3 (some .boolean) 0 := ⟨⟨q1_145, q1_147, q0_8, q1_1, q1_148⟩, ⟨by decide +kernel, by decide +kernel, by decide +kernel⟩⟩
theorem k_law_41 : LkV R_law 41 y_D_solve b_D_solve 4 (some .int) 1 := ⟨⟨q1_149, q1_150, q1_151, q1_1, q1_152⟩, ⟨by decide +kernel, by decide +kernel, by decide +kernel⟩⟩
theorem k_D_138 : LkV R_D 138 y_D_attempt b_D_attempt 1 (some .int) 0 := ⟨⟨q1_153, q1_110, q1_111, q1_1, q1_112⟩, ⟨by decide +kernel, by decide +kernel, by decide +kernel⟩⟩
theorem k_law_46 : LkV R_law 46 y_D_solution b_D_solution 2 (some .int) 1 := ⟨⟨q1_154, q1_155, q1_156, q1_1, q1_157⟩, ⟨by decide +kernel, by decide +kernel, by decide +kernel⟩⟩
theorem k_law_50 : LkV R_law 50 y_D_degree b_D_degree 1 (some .int) 0 := ⟨⟨q1_158, q1_159, q1_160, q1_1, q1_161⟩, ⟨by decide +kernel, by decide +kernel, by decide +kernel⟩⟩
theorem k_law_54 : LkV R_law 54 y_D_coefficient b_D_coefficient 2 (some .int) 1 := ⟨⟨q1_162, q1_163, q1_164, q1_1, q1_165⟩, ⟨by decide +kernel, by decide +kernel, by decide +kernel⟩⟩
theorem k_law_58 : LkV R_law 58 y_D_number b_D_number 2 (some .int) 1 := ⟨⟨q1_166, q1_167, q1_168, q1_1, q1_169⟩, ⟨by decide +kernel, by decide +kernel, by decide +kernel⟩⟩
theorem k_law_62 : LkV R_law 62 y_D_verify b_D_verify 1 (some .boolean) 0 := ⟨⟨q1_170, q1_171, q1_172, q1_1, q1_173⟩, ⟨by decide +kernel, by decide +kernel, by decide +kernel⟩⟩
theorem k_law_67 : LkV R_law 67 y_D_products b_D_products 1 (some .int) 0 := ⟨⟨q1_174, q1_175, q1_176, q1_1, q1_177⟩, ⟨by decide +kernel, by decide +kernel, by decide +kernel⟩⟩
theorem k_law_71 : LkV R_law 71 y_D_count b_D_count 2 (some .int) 1 := ⟨⟨q1_178, q1_179, q1_180, q1_1, q1_181⟩, ⟨by decide +kernel, by decide +kernel, by decide +kernel⟩⟩
theorem k_law_9 : LkS R_law 9 y_L_cell b_L_cell 2 (some .int) 2 := ⟨⟨q1_182, q1_183, q1_0, q1_184⟩, ⟨by decide +kernel, by decide +kernel, by decide +kernel⟩⟩
theorem k_law_20 : LkI R_law 20 y_M_init b_M_init 5 3 := ⟨⟨q1_187, q1_188, q1_2, q1_189⟩, ⟨by decide +kernel, by decide +kernel, by decide +kernel⟩⟩
theorem k_M_56 : LkS R_M 56 y_M_isPrime b_M_isPrime 3 (some .boolean) 1 := ⟨⟨q1_192, q1_193, q1_2, q1_194⟩, ⟨by decide +kernel, by decide +kernel, by decide +kernel⟩⟩
theorem k_law_25 : LkV R_law 25 y_M_entry b_M_entry 4 (some .int) 3 := ⟨⟨q2_22, q2_23, q2_24, q1_2, q2_25⟩, ⟨by decide +kernel, by decide +kernel, by decide +kernel⟩⟩
theorem k_M_79 : LkV R_M 79 y_M_within b_M_within 5 (some .long) 1 := ⟨⟨q2_26, q2_28, q0_9, q1_2, q2_29⟩, ⟨by decide +kernel, by decide +kernel, by decide +kernel⟩⟩
theorem k_M_83 : LkV R_M 83 y_M_forget b_M_forget 1 none 0 := ⟨⟨q2_30, q2_32, q0_10, q1_2, q2_33⟩, ⟨by decide +kernel, by decide +kernel, by decide +kernel⟩⟩
theorem k_law_30 : LkV R_law 30 y_M_side b_M_side 3 (some .int) 2 := ⟨⟨q2_34, q2_35, q2_36, q1_2, q2_37⟩, ⟨by decide +kernel, by decide +kernel, by decide +kernel⟩⟩
theorem k_law_35 : LkV R_law 35 y_M_seed b_M_seed 2 none 1 := ⟨⟨q2_38, q2_39, q2_40, q1_2, q2_41⟩, ⟨by decide +kernel, by decide +kernel, by decide +kernel⟩⟩
theorem k_law_40 : LkV R_law 40 y_M_attempt b_M_attempt 1 (some .int) 0 := ⟨⟨q2_43, q2_44, q2_45, q1_2, q2_46⟩, ⟨by decide +kernel, by decide +kernel, by decide +kernel⟩⟩
theorem k_M_115 : LkV R_M 115 y_M_makeRow b_M_makeRow 5 none 0 := ⟨⟨q2_47, q2_49, q0_11, q1_2, q2_50⟩, ⟨by decide +kernel, by decide +kernel, by decide +kernel⟩⟩
theorem k_M_102 : LkV R_M 102 y_M_draw b_M_draw 1 (some .long) 0 := ⟨⟨q2_51, q2_53, q0_12, q1_2, q2_54⟩, ⟨by decide +kernel, by decide +kernel, by decide +kernel⟩⟩
theorem k_M_106 : LkV R_M 106 y_M_product b_M_product 2 none 0 := ⟨⟨q2_59, q2_61, q0_13, q1_2, q2_62⟩, ⟨by decide +kernel, by decide +kernel, by decide +kernel⟩⟩
theorem k_M_118 : LkV R_M 118 y_M_recur b_M_recur 11 none 0 := ⟨⟨q2_63, q2_65, q0_14, q1_2, q2_66⟩, ⟨by decide +kernel, by decide +kernel, by decide +kernel⟩⟩
theorem k_M_109 : LkV R_M 109 y_M_inverse b_M_inverse 3 (some .long) 1 := ⟨⟨q2_67, q2_69, q0_15, q1_2, q2_70⟩, ⟨by decide +kernel, by decide +kernel, by decide +kernel⟩⟩
theorem k_M_98 : LkV R_M 98 y_M_power b_M_power 7 (some .long) 2 := ⟨⟨q2_71, q2_73, q0_16, q1_2, q2_74⟩, ⟨by decide +kernel, by decide +kernel, by decide +kernel⟩⟩
theorem k_M_121 : LkV R_M 121 y_M_makeCandidate b_M_makeCandidate 4 none 0 := ⟨⟨q2_75, q2_77, q0_17, q1_2, q2_78⟩, ⟨by decide +kernel, by decide +kernel, by decide +kernel⟩⟩
theorem k_M_124 : LkV R_M 124 y_M_holds b_M_holds 3 (some .boolean) 0 := ⟨⟨q2_79, q2_81, q0_18, q1_2, q2_82⟩, ⟨by decide +kernel, by decide +kernel, by decide +kernel⟩⟩
theorem k_law_45 : LkV R_law 45 y_M_solve b_M_solve 4 (some .int) 1 := ⟨⟨q2_83, q2_84, q2_85, q1_2, q2_86⟩, ⟨by decide +kernel, by decide +kernel, by decide +kernel⟩⟩
theorem k_M_128 : LkV R_M 128 y_M_attempt b_M_attempt 1 (some .int) 0 := ⟨⟨q2_87, q2_44, q2_45, q1_2, q2_46⟩, ⟨by decide +kernel, by decide +kernel, by decide +kernel⟩⟩
theorem k_law_49 : LkV R_law 49 y_M_solution b_M_solution 2 (some .int) 1 := ⟨⟨q2_88, q2_89, q2_90, q1_2, q2_91⟩, ⟨by decide +kernel, by decide +kernel, by decide +kernel⟩⟩
theorem k_law_53 : LkV R_law 53 y_M_degree b_M_degree 1 (some .int) 0 := ⟨⟨q2_92, q2_93, q2_94, q1_2, q2_95⟩, ⟨by decide +kernel, by decide +kernel, by decide +kernel⟩⟩
theorem k_law_57 : LkV R_law 57 y_M_coefficient b_M_coefficient 2 (some .int) 1 := ⟨⟨q2_96, q2_97, q2_98, q1_2, q2_99⟩, ⟨by decide +kernel, by decide +kernel, by decide +kernel⟩⟩
theorem k_law_61 : LkV R_law 61 y_M_number b_M_number 2 (some .int) 1 := ⟨⟨q2_100, q2_101, q2_102, q1_2, q2_103⟩, ⟨by decide +kernel, by decide +kernel, by decide +kernel⟩⟩
theorem k_law_66 : LkV R_law 66 y_M_verify b_M_verify 1 (some .boolean) 0 := ⟨⟨q2_104, q2_105, q2_106, q1_2, q2_107⟩, ⟨by decide +kernel, by decide +kernel, by decide +kernel⟩⟩
theorem k_law_70 : LkV R_law 70 y_M_products b_M_products 1 (some .int) 0 := ⟨⟨q2_108, q2_109, q2_110, q1_2, q2_111⟩, ⟨by decide +kernel, by decide +kernel, by decide +kernel⟩⟩
theorem k_law_74 : LkV R_law 74 y_M_count b_M_count 2 (some .int) 1 := ⟨⟨q2_112, q2_113, q2_114, q1_2, q2_115⟩, ⟨by decide +kernel, by decide +kernel, by decide +kernel⟩⟩
end
section
theorem d_D_bring_0 : decode b_D_bring 0 = .ok (.iload_n 0, 1) := by decide +kernel
theorem d_D_bring_1 : decode b_D_bring 1 = .ok (.iload_n 1, 1) := by decide +kernel
theorem d_D_bring_2 : decode b_D_bring 2 = .ok (.if_icmp .ge 7, 3) := by decide +kernel
theorem d_D_bring_5 : decode b_D_bring 5 = .ok (.iload_n 1, 1) := by decide +kernel
theorem d_D_bring_6 : decode b_D_bring 6 = .ok (.goto 13, 3) := by decide +kernel
theorem d_D_bring_9 : decode b_D_bring 9 = .ok (.iload_n 0, 1) := by decide +kernel
theorem d_D_bring_10 : decode b_D_bring 10 = .ok (.iload_n 2, 1) := by decide +kernel
theorem d_D_bring_11 : decode b_D_bring 11 = .ok (.if_icmp .le 7, 3) := by decide +kernel
theorem d_D_bring_14 : decode b_D_bring 14 = .ok (.iload_n 2, 1) := by decide +kernel
theorem d_D_bring_15 : decode b_D_bring 15 = .ok (.goto 4, 3) := by decide +kernel
theorem d_D_bring_18 : decode b_D_bring 18 = .ok (.iload_n 0, 1) := by decide +kernel
theorem d_D_bring_19 : decode b_D_bring 19 = .ok (.ireturn, 1) := by decide +kernel
theorem d_D_within_0 : decode b_D_within 0 = .ok (.iload_n 0, 1) := by decide +kernel
theorem d_D_within_1 : decode b_D_within 1 = .ok (.iload_n 1, 1) := by decide +kernel
theorem d_D_within_2 : decode b_D_within 2 = .ok (.if_icmp .lt 12, 3) := by decide +kernel
theorem d_D_within_5 : decode b_D_within 5 = .ok (.iload_n 0, 1) := by decide +kernel
theorem d_D_within_6 : decode b_D_within 6 = .ok (.iload_n 2, 1) := by decide +kernel
theorem d_D_within_7 : decode b_D_within 7 = .ok (.if_icmp .gt 7, 3) := by decide +kernel
theorem d_D_within_10 : decode b_D_within 10 = .ok (.iconst 1, 1) := by decide +kernel
theorem d_D_within_11 : decode b_D_within 11 = .ok (.goto 4, 3) := by decide +kernel
theorem d_D_within_14 : decode b_D_within 14 = .ok (.iconst 0, 1) := by decide +kernel
theorem d_D_within_15 : decode b_D_within 15 = .ok (.ireturn, 1) := by decide +kernel
theorem d_D_isPrime_0 : decode b_D_isPrime 0 = .ok (.iload_n 0, 1) := by decide +kernel
theorem d_D_isPrime_1 : decode b_D_isPrime 1 = .ok (.iconst 1, 1) := by decide +kernel
theorem d_D_isPrime_2 : decode b_D_isPrime 2 = .ok (.if_icmp .le 7, 3) := by decide +kernel
theorem d_D_isPrime_5 : decode b_D_isPrime 5 = .ok (.iconst 1, 1) := by decide +kernel
theorem d_D_isPrime_6 : decode b_D_isPrime 6 = .ok (.goto 4, 3) := by decide +kernel
theorem d_D_isPrime_9 : decode b_D_isPrime 9 = .ok (.iconst 0, 1) := by decide +kernel
theorem d_D_isPrime_10 : decode b_D_isPrime 10 = .ok (.istore_n 1, 1) := by decide +kernel
theorem d_D_isPrime_11 : decode b_D_isPrime 11 = .ok (.iconst 2, 1) := by decide +kernel
theorem d_D_isPrime_12 : decode b_D_isPrime 12 = .ok (.istore_n 2, 1) := by decide +kernel
theorem d_D_isPrime_13 : decode b_D_isPrime 13 = .ok (.iload_n 2, 1) := by decide +kernel
theorem d_D_isPrime_14 : decode b_D_isPrime 14 = .ok (.iload_n 2, 1) := by decide +kernel
theorem d_D_isPrime_15 : decode b_D_isPrime 15 = .ok (.imul, 1) := by decide +kernel
theorem d_D_isPrime_16 : decode b_D_isPrime 16 = .ok (.iload_n 0, 1) := by decide +kernel
theorem d_D_isPrime_17 : decode b_D_isPrime 17 = .ok (.if_icmp .gt 25, 3) := by decide +kernel
theorem d_D_isPrime_20 : decode b_D_isPrime 20 = .ok (.iload_n 1, 1) := by decide +kernel
theorem d_D_isPrime_21 : decode b_D_isPrime 21 = .ok (.ifCond .eq 21, 3) := by decide +kernel
theorem d_D_isPrime_24 : decode b_D_isPrime 24 = .ok (.iload_n 0, 1) := by decide +kernel
theorem d_D_isPrime_25 : decode b_D_isPrime 25 = .ok (.iload_n 2, 1) := by decide +kernel
theorem d_D_isPrime_26 : decode b_D_isPrime 26 = .ok (.irem, 1) := by decide +kernel
theorem d_D_isPrime_27 : decode b_D_isPrime 27 = .ok (.ifCond .eq 7, 3) := by decide +kernel
theorem d_D_isPrime_30 : decode b_D_isPrime 30 = .ok (.iconst 1, 1) := by decide +kernel
theorem d_D_isPrime_31 : decode b_D_isPrime 31 = .ok (.goto 4, 3) := by decide +kernel
theorem d_D_isPrime_34 : decode b_D_isPrime 34 = .ok (.iconst 0, 1) := by decide +kernel
theorem d_D_isPrime_35 : decode b_D_isPrime 35 = .ok (.istore_n 1, 1) := by decide +kernel
theorem d_D_isPrime_36 : decode b_D_isPrime 36 = .ok (.iinc 2 1, 3) := by decide +kernel
theorem d_D_isPrime_39 : decode b_D_isPrime 39 = .ok (.goto (-26), 3) := by decide +kernel
theorem d_D_isPrime_42 : decode b_D_isPrime 42 = .ok (.iload_n 1, 1) := by decide +kernel
theorem d_D_isPrime_43 : decode b_D_isPrime 43 = .ok (.ireturn, 1) := by decide +kernel
theorem d_D_init_0 : decode b_D_init 0 = .ok (.aload_n 0, 1) := by decide +kernel
theorem d_D_init_1 : decode b_D_init 1 = .ok (.invokespecial 1, 3) := by decide +kernel
theorem d_D_init_4 : decode b_D_init 4 = .ok (.aload_n 0, 1) := by decide +kernel
theorem d_D_init_5 : decode b_D_init 5 = .ok (.bipush 16, 2) := by decide +kernel
theorem d_D_init_7 : decode b_D_init 7 = .ok (.newarray .long, 2) := by decide +kernel
theorem d_D_init_9 : decode b_D_init 9 = .ok (.putfield 7, 3) := by decide +kernel
theorem d_D_init_12 : decode b_D_init 12 = .ok (.aload_n 0, 1) := by decide +kernel
theorem d_D_init_13 : decode b_D_init 13 = .ok (.bipush 16, 2) := by decide +kernel
theorem d_D_init_15 : decode b_D_init 15 = .ok (.newarray .long, 2) := by decide +kernel
theorem d_D_init_17 : decode b_D_init 17 = .ok (.putfield 13, 3) := by decide +kernel
theorem d_D_init_20 : decode b_D_init 20 = .ok (.aload_n 0, 1) := by decide +kernel
theorem d_D_init_21 : decode b_D_init 21 = .ok (.bipush 16, 2) := by decide +kernel
theorem d_D_init_23 : decode b_D_init 23 = .ok (.newarray .long, 2) := by decide +kernel
theorem d_D_init_25 : decode b_D_init 25 = .ok (.putfield 16, 3) := by decide +kernel
theorem d_D_init_28 : decode b_D_init 28 = .ok (.aload_n 0, 1) := by decide +kernel
theorem d_D_init_29 : decode b_D_init 29 = .ok (.bipush 16, 2) := by decide +kernel
theorem d_D_init_31 : decode b_D_init 31 = .ok (.newarray .long, 2) := by decide +kernel
theorem d_D_init_33 : decode b_D_init 33 = .ok (.putfield 19, 3) := by decide +kernel
theorem d_D_init_36 : decode b_D_init 36 = .ok (.aload_n 0, 1) := by decide +kernel
theorem d_D_init_37 : decode b_D_init 37 = .ok (.bipush 16, 2) := by decide +kernel
theorem d_D_init_39 : decode b_D_init 39 = .ok (.newarray .long, 2) := by decide +kernel
theorem d_D_init_41 : decode b_D_init 41 = .ok (.putfield 22, 3) := by decide +kernel
theorem d_D_init_44 : decode b_D_init 44 = .ok (.aload_n 0, 1) := by decide +kernel
theorem d_D_init_45 : decode b_D_init 45 = .ok (.bipush 32, 2) := by decide +kernel
theorem d_D_init_47 : decode b_D_init 47 = .ok (.newarray .long, 2) := by decide +kernel
theorem d_D_init_49 : decode b_D_init 49 = .ok (.putfield 25, 3) := by decide +kernel
theorem d_D_init_52 : decode b_D_init 52 = .ok (.aload_n 0, 1) := by decide +kernel
theorem d_D_init_53 : decode b_D_init 53 = .ok (.bipush 34, 2) := by decide +kernel
theorem d_D_init_55 : decode b_D_init 55 = .ok (.newarray .long, 2) := by decide +kernel
theorem d_D_init_57 : decode b_D_init 57 = .ok (.putfield 28, 3) := by decide +kernel
theorem d_D_init_60 : decode b_D_init 60 = .ok (.aload_n 0, 1) := by decide +kernel
theorem d_D_init_61 : decode b_D_init 61 = .ok (.bipush 34, 2) := by decide +kernel
theorem d_D_init_63 : decode b_D_init 63 = .ok (.newarray .long, 2) := by decide +kernel
theorem d_D_init_65 : decode b_D_init 65 = .ok (.putfield 31, 3) := by decide +kernel
theorem d_D_init_68 : decode b_D_init 68 = .ok (.aload_n 0, 1) := by decide +kernel
theorem d_D_init_69 : decode b_D_init 69 = .ok (.bipush 34, 2) := by decide +kernel
theorem d_D_init_71 : decode b_D_init 71 = .ok (.newarray .long, 2) := by decide +kernel
theorem d_D_init_73 : decode b_D_init 73 = .ok (.putfield 34, 3) := by decide +kernel
theorem d_D_init_76 : decode b_D_init 76 = .ok (.aload_n 0, 1) := by decide +kernel
theorem d_D_init_77 : decode b_D_init 77 = .ok (.iconst (-1), 1) := by decide +kernel
theorem d_D_init_78 : decode b_D_init 78 = .ok (.putfield 37, 3) := by decide +kernel
theorem d_D_init_81 : decode b_D_init 81 = .ok (.aload_n 0, 1) := by decide +kernel
theorem d_D_init_82 : decode b_D_init 82 = .ok (.lconst 1, 1) := by decide +kernel
theorem d_D_init_83 : decode b_D_init 83 = .ok (.putfield 41, 3) := by decide +kernel
theorem d_D_init_86 : decode b_D_init 86 = .ok (.iload_n 1, 1) := by decide +kernel
theorem d_D_init_87 : decode b_D_init 87 = .ok (.iconst 2, 1) := by decide +kernel
theorem d_D_init_88 : decode b_D_init 88 = .ok (.ldc 45, 2) := by decide +kernel
theorem d_D_init_90 : decode b_D_init 90 = .ok (.invokestatic 46, 3) := by decide +kernel
theorem d_D_init_93 : decode b_D_init 93 = .ok (.istore 4, 2) := by decide +kernel
theorem d_D_init_95 : decode b_D_init 95 = .ok (.iload 4, 2) := by decide +kernel
theorem d_D_init_97 : decode b_D_init 97 = .ok (.invokestatic 50, 3) := by decide +kernel
theorem d_D_init_100 : decode b_D_init 100 = .ok (.ifCond .ne 9, 3) := by decide +kernel
theorem d_D_init_103 : decode b_D_init 103 = .ok (.iinc 4 1, 3) := by decide +kernel
theorem d_D_init_106 : decode b_D_init 106 = .ok (.goto (-11), 3) := by decide +kernel
theorem d_D_init_109 : decode b_D_init 109 = .ok (.aload_n 0, 1) := by decide +kernel
theorem d_D_init_110 : decode b_D_init 110 = .ok (.iload 4, 2) := by decide +kernel
theorem d_D_init_112 : decode b_D_init 112 = .ok (.putfield 54, 3) := by decide +kernel
theorem d_D_init_115 : decode b_D_init 115 = .ok (.aload_n 0, 1) := by decide +kernel
theorem d_D_init_116 : decode b_D_init 116 = .ok (.iload_n 2, 1) := by decide +kernel
theorem d_D_init_117 : decode b_D_init 117 = .ok (.iconst 1, 1) := by decide +kernel
theorem d_D_init_118 : decode b_D_init 118 = .ok (.bipush 16, 2) := by decide +kernel
theorem d_D_init_120 : decode b_D_init 120 = .ok (.invokestatic 46, 3) := by decide +kernel
theorem d_D_init_123 : decode b_D_init 123 = .ok (.putfield 57, 3) := by decide +kernel
theorem d_D_init_126 : decode b_D_init 126 = .ok (.aload_n 0, 1) := by decide +kernel
theorem d_D_init_127 : decode b_D_init 127 = .ok (.iload_n 3, 1) := by decide +kernel
theorem d_D_init_128 : decode b_D_init 128 = .ok (.iconst 1, 1) := by decide +kernel
theorem d_D_init_129 : decode b_D_init 129 = .ok (.bipush 100, 2) := by decide +kernel
theorem d_D_init_131 : decode b_D_init 131 = .ok (.invokestatic 46, 3) := by decide +kernel
theorem d_D_init_134 : decode b_D_init 134 = .ok (.putfield 60, 3) := by decide +kernel
theorem d_D_init_137 : decode b_D_init 137 = .ok (.aload_n 0, 1) := by decide +kernel
theorem d_D_init_138 : decode b_D_init 138 = .ok (.aload_n 0, 1) := by decide +kernel
theorem d_D_init_139 : decode b_D_init 139 = .ok (.getfield 60, 3) := by decide +kernel
theorem d_D_init_142 : decode b_D_init 142 = .ok (.newarray .int, 2) := by decide +kernel
theorem d_D_init_144 : decode b_D_init 144 = .ok (.putfield 63, 3) := by decide +kernel
theorem d_D_init_147 : decode b_D_init 147 = .ok (.aload_n 0, 1) := by decide +kernel
theorem d_D_init_148 : decode b_D_init 148 = .ok (.aload_n 0, 1) := by decide +kernel
theorem d_D_init_149 : decode b_D_init 149 = .ok (.getfield 60, 3) := by decide +kernel
theorem d_D_init_152 : decode b_D_init 152 = .ok (.newarray .int, 2) := by decide +kernel
theorem d_D_init_154 : decode b_D_init 154 = .ok (.putfield 67, 3) := by decide +kernel
theorem d_D_init_157 : decode b_D_init 157 = .ok (.aload_n 0, 1) := by decide +kernel
theorem d_D_init_158 : decode b_D_init 158 = .ok (.aload_n 0, 1) := by decide +kernel
theorem d_D_init_159 : decode b_D_init 159 = .ok (.getfield 60, 3) := by decide +kernel
theorem d_D_init_162 : decode b_D_init 162 = .ok (.newarray .int, 2) := by decide +kernel
theorem d_D_init_164 : decode b_D_init 164 = .ok (.putfield 70, 3) := by decide +kernel
theorem d_D_init_167 : decode b_D_init 167 = .ok (.return_, 1) := by decide +kernel
theorem d_D_mod_0 : decode b_D_mod 0 = .ok (.lload_n 1, 1) := by decide +kernel
theorem d_D_mod_1 : decode b_D_mod 1 = .ok (.aload_n 0, 1) := by decide +kernel
theorem d_D_mod_2 : decode b_D_mod 2 = .ok (.getfield 54, 3) := by decide +kernel
theorem d_D_mod_5 : decode b_D_mod 5 = .ok (.i2l, 1) := by decide +kernel
theorem d_D_mod_6 : decode b_D_mod 6 = .ok (.lrem, 1) := by decide +kernel
theorem d_D_mod_7 : decode b_D_mod 7 = .ok (.lstore_n 3, 1) := by decide +kernel
theorem d_D_mod_8 : decode b_D_mod 8 = .ok (.lload_n 3, 1) := by decide +kernel
theorem d_D_mod_9 : decode b_D_mod 9 = .ok (.lconst 0, 1) := by decide +kernel
theorem d_D_mod_10 : decode b_D_mod 10 = .ok (.lcmp, 1) := by decide +kernel
theorem d_D_mod_11 : decode b_D_mod 11 = .ok (.ifCond .ge 13, 3) := by decide +kernel
theorem d_D_mod_14 : decode b_D_mod 14 = .ok (.lload_n 3, 1) := by decide +kernel
theorem d_D_mod_15 : decode b_D_mod 15 = .ok (.aload_n 0, 1) := by decide +kernel
theorem d_D_mod_16 : decode b_D_mod 16 = .ok (.getfield 54, 3) := by decide +kernel
theorem d_D_mod_19 : decode b_D_mod 19 = .ok (.i2l, 1) := by decide +kernel
theorem d_D_mod_20 : decode b_D_mod 20 = .ok (.ladd, 1) := by decide +kernel
theorem d_D_mod_21 : decode b_D_mod 21 = .ok (.goto 4, 3) := by decide +kernel
theorem d_D_mod_24 : decode b_D_mod 24 = .ok (.lload_n 3, 1) := by decide +kernel
theorem d_D_mod_25 : decode b_D_mod 25 = .ok (.l2i, 1) := by decide +kernel
theorem d_D_mod_26 : decode b_D_mod 26 = .ok (.ireturn, 1) := by decide +kernel
theorem d_D_forget_0 : decode b_D_forget 0 = .ok (.aload_n 0, 1) := by decide +kernel
theorem d_D_forget_1 : decode b_D_forget 1 = .ok (.iconst 0, 1) := by decide +kernel
theorem d_D_forget_2 : decode b_D_forget 2 = .ok (.putfield 73, 3) := by decide +kernel
theorem d_D_forget_5 : decode b_D_forget 5 = .ok (.aload_n 0, 1) := by decide +kernel
theorem d_D_forget_6 : decode b_D_forget 6 = .ok (.iconst (-1), 1) := by decide +kernel
theorem d_D_forget_7 : decode b_D_forget 7 = .ok (.putfield 37, 3) := by decide +kernel
theorem d_D_forget_10 : decode b_D_forget 10 = .ok (.return_, 1) := by decide +kernel
theorem d_D_entry_0 : decode b_D_entry 0 = .ok (.iload_n 1, 1) := by decide +kernel
theorem d_D_entry_1 : decode b_D_entry 1 = .ok (.iconst 0, 1) := by decide +kernel
theorem d_D_entry_2 : decode b_D_entry 2 = .ok (.aload_n 0, 1) := by decide +kernel
theorem d_D_entry_3 : decode b_D_entry 3 = .ok (.getfield 57, 3) := by decide +kernel
theorem d_D_entry_6 : decode b_D_entry 6 = .ok (.iconst 1, 1) := by decide +kernel
theorem d_D_entry_7 : decode b_D_entry 7 = .ok (.isub, 1) := by decide +kernel
theorem d_D_entry_8 : decode b_D_entry 8 = .ok (.invokestatic 77, 3) := by decide +kernel
theorem d_D_entry_11 : decode b_D_entry 11 = .ok (.ifCond .eq 17, 3) := by decide +kernel
theorem d_D_entry_14 : decode b_D_entry 14 = .ok (.iload_n 2, 1) := by decide +kernel
theorem d_D_entry_15 : decode b_D_entry 15 = .ok (.iconst 0, 1) := by decide +kernel
theorem d_D_entry_16 : decode b_D_entry 16 = .ok (.aload_n 0, 1) := by decide +kernel
theorem d_D_entry_17 : decode b_D_entry 17 = .ok (.getfield 57, 3) := by decide +kernel
theorem d_D_entry_20 : decode b_D_entry 20 = .ok (.iconst 1, 1) := by decide +kernel
theorem d_D_entry_21 : decode b_D_entry 21 = .ok (.isub, 1) := by decide +kernel
theorem d_D_entry_22 : decode b_D_entry 22 = .ok (.invokestatic 77, 3) := by decide +kernel
theorem d_D_entry_25 : decode b_D_entry 25 = .ok (.ifCond .ne 5, 3) := by decide +kernel
theorem d_D_entry_28 : decode b_D_entry 28 = .ok (.iconst 1, 1) := by decide +kernel
theorem d_D_entry_29 : decode b_D_entry 29 = .ok (.ireturn, 1) := by decide +kernel
theorem d_D_entry_30 : decode b_D_entry 30 = .ok (.aload_n 0, 1) := by decide +kernel
theorem d_D_entry_31 : decode b_D_entry 31 = .ok (.getfield 81, 3) := by decide +kernel
theorem d_D_entry_34 : decode b_D_entry 34 = .ok (.aload_n 0, 1) := by decide +kernel
theorem d_D_entry_35 : decode b_D_entry 35 = .ok (.getfield 60, 3) := by decide +kernel
theorem d_D_entry_38 : decode b_D_entry 38 = .ok (.if_icmp .ne 5, 3) := by decide +kernel
theorem d_D_entry_41 : decode b_D_entry 41 = .ok (.iconst 2, 1) := by decide +kernel
theorem d_D_entry_42 : decode b_D_entry 42 = .ok (.ireturn, 1) := by decide +kernel
theorem d_D_entry_43 : decode b_D_entry 43 = .ok (.aload_n 0, 1) := by decide +kernel
theorem d_D_entry_44 : decode b_D_entry 44 = .ok (.getfield 63, 3) := by decide +kernel
theorem d_D_entry_47 : decode b_D_entry 47 = .ok (.aload_n 0, 1) := by decide +kernel
theorem d_D_entry_48 : decode b_D_entry 48 = .ok (.getfield 81, 3) := by decide +kernel
theorem d_D_entry_51 : decode b_D_entry 51 = .ok (.iload_n 1, 1) := by decide +kernel
theorem d_D_entry_52 : decode b_D_entry 52 = .ok (.iastore, 1) := by decide +kernel
theorem d_D_entry_53 : decode b_D_entry 53 = .ok (.aload_n 0, 1) := by decide +kernel
theorem d_D_entry_54 : decode b_D_entry 54 = .ok (.getfield 67, 3) := by decide +kernel
theorem d_D_entry_57 : decode b_D_entry 57 = .ok (.aload_n 0, 1) := by decide +kernel
theorem d_D_entry_58 : decode b_D_entry 58 = .ok (.getfield 81, 3) := by decide +kernel
theorem d_D_entry_61 : decode b_D_entry 61 = .ok (.iload_n 2, 1) := by decide +kernel
theorem d_D_entry_62 : decode b_D_entry 62 = .ok (.iastore, 1) := by decide +kernel
theorem d_D_entry_63 : decode b_D_entry 63 = .ok (.aload_n 0, 1) := by decide +kernel
theorem d_D_entry_64 : decode b_D_entry 64 = .ok (.getfield 70, 3) := by decide +kernel
theorem d_D_entry_67 : decode b_D_entry 67 = .ok (.aload_n 0, 1) := by decide +kernel
theorem d_D_entry_68 : decode b_D_entry 68 = .ok (.getfield 81, 3) := by decide +kernel
theorem d_D_entry_71 : decode b_D_entry 71 = .ok (.aload_n 0, 1) := by decide +kernel
theorem d_D_entry_72 : decode b_D_entry 72 = .ok (.iload_n 3, 1) := by decide +kernel
theorem d_D_entry_73 : decode b_D_entry 73 = .ok (.i2l, 1) := by decide +kernel
theorem d_D_entry_74 : decode b_D_entry 74 = .ok (.invokevirtual 84, 3) := by decide +kernel
theorem d_D_entry_77 : decode b_D_entry 77 = .ok (.iastore, 1) := by decide +kernel
theorem d_D_entry_78 : decode b_D_entry 78 = .ok (.aload_n 0, 1) := by decide +kernel
theorem d_D_entry_79 : decode b_D_entry 79 = .ok (.dup, 1) := by decide +kernel
theorem d_D_entry_80 : decode b_D_entry 80 = .ok (.getfield 81, 3) := by decide +kernel
theorem d_D_entry_83 : decode b_D_entry 83 = .ok (.iconst 1, 1) := by decide +kernel
theorem d_D_entry_84 : decode b_D_entry 84 = .ok (.iadd, 1) := by decide +kernel
theorem d_D_entry_85 : decode b_D_entry 85 = .ok (.putfield 81, 3) := by decide +kernel
theorem d_D_entry_88 : decode b_D_entry 88 = .ok (.aload_n 0, 1) := by decide +kernel
theorem d_D_entry_89 : decode b_D_entry 89 = .ok (.invokevirtual 88, 3) := by decide +kernel
theorem d_D_entry_92 : decode b_D_entry 92 = .ok (.iconst 0, 1) := by decide +kernel
theorem d_D_entry_93 : decode b_D_entry 93 = .ok (.ireturn, 1) := by decide +kernel
theorem d_D_side_0 : decode b_D_side 0 = .ok (.iload_n 1, 1) := by decide +kernel
theorem d_D_side_1 : decode b_D_side 1 = .ok (.iconst 0, 1) := by decide +kernel
theorem d_D_side_2 : decode b_D_side 2 = .ok (.aload_n 0, 1) := by decide +kernel
theorem d_D_side_3 : decode b_D_side 3 = .ok (.getfield 57, 3) := by decide +kernel
theorem d_D_side_6 : decode b_D_side 6 = .ok (.iconst 1, 1) := by decide +kernel
theorem d_D_side_7 : decode b_D_side 7 = .ok (.isub, 1) := by decide +kernel
theorem d_D_side_8 : decode b_D_side 8 = .ok (.invokestatic 77, 3) := by decide +kernel
theorem d_D_side_11 : decode b_D_side 11 = .ok (.ifCond .ne 5, 3) := by decide +kernel
theorem d_D_side_14 : decode b_D_side 14 = .ok (.iconst 1, 1) := by decide +kernel
theorem d_D_side_15 : decode b_D_side 15 = .ok (.ireturn, 1) := by decide +kernel
theorem d_D_side_16 : decode b_D_side 16 = .ok (.aload_n 0, 1) := by decide +kernel
theorem d_D_side_17 : decode b_D_side 17 = .ok (.getfield 7, 3) := by decide +kernel
theorem d_D_side_20 : decode b_D_side 20 = .ok (.iload_n 1, 1) := by decide +kernel
theorem d_D_side_21 : decode b_D_side 21 = .ok (.aload_n 0, 1) := by decide +kernel
theorem d_D_side_22 : decode b_D_side 22 = .ok (.iload_n 2, 1) := by decide +kernel
theorem d_D_side_23 : decode b_D_side 23 = .ok (.i2l, 1) := by decide +kernel
theorem d_D_side_24 : decode b_D_side 24 = .ok (.invokevirtual 84, 3) := by decide +kernel
theorem d_D_side_27 : decode b_D_side 27 = .ok (.i2l, 1) := by decide +kernel
theorem d_D_side_28 : decode b_D_side 28 = .ok (.lastore, 1) := by decide +kernel
theorem d_D_side_29 : decode b_D_side 29 = .ok (.aload_n 0, 1) := by decide +kernel
theorem d_D_side_30 : decode b_D_side 30 = .ok (.invokevirtual 88, 3) := by decide +kernel
theorem d_D_side_33 : decode b_D_side 33 = .ok (.iconst 0, 1) := by decide +kernel
theorem d_D_side_34 : decode b_D_side 34 = .ok (.ireturn, 1) := by decide +kernel
theorem d_D_seed_0 : decode b_D_seed 0 = .ok (.aload_n 0, 1) := by decide +kernel
theorem d_D_seed_1 : decode b_D_seed 1 = .ok (.iload_n 1, 1) := by decide +kernel
theorem d_D_seed_2 : decode b_D_seed 2 = .ok (.i2l, 1) := by decide +kernel
theorem d_D_seed_3 : decode b_D_seed 3 = .ok (.ldc2_w 91, 3) := by decide +kernel
theorem d_D_seed_6 : decode b_D_seed 6 = .ok (.land, 1) := by decide +kernel
theorem d_D_seed_7 : decode b_D_seed 7 = .ok (.putfield 41, 3) := by decide +kernel
theorem d_D_seed_10 : decode b_D_seed 10 = .ok (.return_, 1) := by decide +kernel
theorem d_D_draw_0 : decode b_D_draw 0 = .ok (.aload_n 0, 1) := by decide +kernel
theorem d_D_draw_1 : decode b_D_draw 1 = .ok (.ldc2_w 93, 3) := by decide +kernel
theorem d_D_draw_4 : decode b_D_draw 4 = .ok (.aload_n 0, 1) := by decide +kernel
theorem d_D_draw_5 : decode b_D_draw 5 = .ok (.getfield 41, 3) := by decide +kernel
theorem d_D_draw_8 : decode b_D_draw 8 = .ok (.lmul, 1) := by decide +kernel
theorem d_D_draw_9 : decode b_D_draw 9 = .ok (.ldc2_w 95, 3) := by decide +kernel
theorem d_D_draw_12 : decode b_D_draw 12 = .ok (.ladd, 1) := by decide +kernel
theorem d_D_draw_13 : decode b_D_draw 13 = .ok (.ldc2_w 91, 3) := by decide +kernel
theorem d_D_draw_16 : decode b_D_draw 16 = .ok (.land, 1) := by decide +kernel
theorem d_D_draw_17 : decode b_D_draw 17 = .ok (.putfield 41, 3) := by decide +kernel
theorem d_D_draw_20 : decode b_D_draw 20 = .ok (.aload_n 0, 1) := by decide +kernel
theorem d_D_draw_21 : decode b_D_draw 21 = .ok (.getfield 41, 3) := by decide +kernel
theorem d_D_draw_24 : decode b_D_draw 24 = .ok (.bipush 16, 2) := by decide +kernel
theorem d_D_draw_26 : decode b_D_draw 26 = .ok (.lshr, 1) := by decide +kernel
theorem d_D_draw_27 : decode b_D_draw 27 = .ok (.aload_n 0, 1) := by decide +kernel
theorem d_D_draw_28 : decode b_D_draw 28 = .ok (.getfield 54, 3) := by decide +kernel
theorem d_D_draw_31 : decode b_D_draw 31 = .ok (.i2l, 1) := by decide +kernel
theorem d_D_draw_32 : decode b_D_draw 32 = .ok (.lrem, 1) := by decide +kernel
theorem d_D_draw_33 : decode b_D_draw 33 = .ok (.l2i, 1) := by decide +kernel
theorem d_D_draw_34 : decode b_D_draw 34 = .ok (.ireturn, 1) := by decide +kernel
theorem d_D_multiply_0 : decode b_D_multiply 0 = .ok (.iconst 0, 1) := by decide +kernel
theorem d_D_multiply_1 : decode b_D_multiply 1 = .ok (.istore_n 2, 1) := by decide +kernel
theorem d_D_multiply_2 : decode b_D_multiply 2 = .ok (.iload_n 2, 1) := by decide +kernel
theorem d_D_multiply_3 : decode b_D_multiply 3 = .ok (.aload_n 0, 1) := by decide +kernel
theorem d_D_multiply_4 : decode b_D_multiply 4 = .ok (.getfield 57, 3) := by decide +kernel
theorem d_D_multiply_7 : decode b_D_multiply 7 = .ok (.if_icmp .ge 16, 3) := by decide +kernel
theorem d_D_multiply_10 : decode b_D_multiply 10 = .ok (.aload_n 0, 1) := by decide +kernel
theorem d_D_multiply_11 : decode b_D_multiply 11 = .ok (.getfield 19, 3) := by decide +kernel
theorem d_D_multiply_14 : decode b_D_multiply 14 = .ok (.iload_n 2, 1) := by decide +kernel
theorem d_D_multiply_15 : decode b_D_multiply 15 = .ok (.lconst 0, 1) := by decide +kernel
theorem d_D_multiply_16 : decode b_D_multiply 16 = .ok (.lastore, 1) := by decide +kernel
theorem d_D_multiply_17 : decode b_D_multiply 17 = .ok (.iinc 2 1, 3) := by decide +kernel
theorem d_D_multiply_20 : decode b_D_multiply 20 = .ok (.goto (-18), 3) := by decide +kernel
theorem d_D_multiply_23 : decode b_D_multiply 23 = .ok (.iconst 0, 1) := by decide +kernel
theorem d_D_multiply_24 : decode b_D_multiply 24 = .ok (.istore_n 2, 1) := by decide +kernel
theorem d_D_multiply_25 : decode b_D_multiply 25 = .ok (.iload_n 2, 1) := by decide +kernel
theorem d_D_multiply_26 : decode b_D_multiply 26 = .ok (.aload_n 0, 1) := by decide +kernel
theorem d_D_multiply_27 : decode b_D_multiply 27 = .ok (.getfield 81, 3) := by decide +kernel
theorem d_D_multiply_30 : decode b_D_multiply 30 = .ok (.if_icmp .ge 54, 3) := by decide +kernel
theorem d_D_multiply_33 : decode b_D_multiply 33 = .ok (.aload_n 0, 1) := by decide +kernel
theorem d_D_multiply_34 : decode b_D_multiply 34 = .ok (.getfield 19, 3) := by decide +kernel
theorem d_D_multiply_37 : decode b_D_multiply 37 = .ok (.aload_n 0, 1) := by decide +kernel
theorem d_D_multiply_38 : decode b_D_multiply 38 = .ok (.getfield 63, 3) := by decide +kernel
theorem d_D_multiply_41 : decode b_D_multiply 41 = .ok (.iload_n 2, 1) := by decide +kernel
theorem d_D_multiply_42 : decode b_D_multiply 42 = .ok (.iaload, 1) := by decide +kernel
theorem d_D_multiply_43 : decode b_D_multiply 43 = .ok (.aload_n 0, 1) := by decide +kernel
theorem d_D_multiply_44 : decode b_D_multiply 44 = .ok (.getfield 19, 3) := by decide +kernel
theorem d_D_multiply_47 : decode b_D_multiply 47 = .ok (.aload_n 0, 1) := by decide +kernel
theorem d_D_multiply_48 : decode b_D_multiply 48 = .ok (.getfield 63, 3) := by decide +kernel
theorem d_D_multiply_51 : decode b_D_multiply 51 = .ok (.iload_n 2, 1) := by decide +kernel
theorem d_D_multiply_52 : decode b_D_multiply 52 = .ok (.iaload, 1) := by decide +kernel
theorem d_D_multiply_53 : decode b_D_multiply 53 = .ok (.laload, 1) := by decide +kernel
theorem d_D_multiply_54 : decode b_D_multiply 54 = .ok (.aload_n 0, 1) := by decide +kernel
theorem d_D_multiply_55 : decode b_D_multiply 55 = .ok (.getfield 70, 3) := by decide +kernel
theorem d_D_multiply_58 : decode b_D_multiply 58 = .ok (.iload_n 2, 1) := by decide +kernel
theorem d_D_multiply_59 : decode b_D_multiply 59 = .ok (.iaload, 1) := by decide +kernel
theorem d_D_multiply_60 : decode b_D_multiply 60 = .ok (.i2l, 1) := by decide +kernel
theorem d_D_multiply_61 : decode b_D_multiply 61 = .ok (.aload_n 1, 1) := by decide +kernel
theorem d_D_multiply_62 : decode b_D_multiply 62 = .ok (.aload_n 0, 1) := by decide +kernel
theorem d_D_multiply_63 : decode b_D_multiply 63 = .ok (.getfield 67, 3) := by decide +kernel
theorem d_D_multiply_66 : decode b_D_multiply 66 = .ok (.iload_n 2, 1) := by decide +kernel
theorem d_D_multiply_67 : decode b_D_multiply 67 = .ok (.iaload, 1) := by decide +kernel
theorem d_D_multiply_68 : decode b_D_multiply 68 = .ok (.laload, 1) := by decide +kernel
theorem d_D_multiply_69 : decode b_D_multiply 69 = .ok (.lmul, 1) := by decide +kernel
theorem d_D_multiply_70 : decode b_D_multiply 70 = .ok (.ladd, 1) := by decide +kernel
theorem d_D_multiply_71 : decode b_D_multiply 71 = .ok (.aload_n 0, 1) := by decide +kernel
theorem d_D_multiply_72 : decode b_D_multiply 72 = .ok (.getfield 54, 3) := by decide +kernel
theorem d_D_multiply_75 : decode b_D_multiply 75 = .ok (.i2l, 1) := by decide +kernel
theorem d_D_multiply_76 : decode b_D_multiply 76 = .ok (.lrem, 1) := by decide +kernel
theorem d_D_multiply_77 : decode b_D_multiply 77 = .ok (.lastore, 1) := by decide +kernel
theorem d_D_multiply_78 : decode b_D_multiply 78 = .ok (.iinc 2 1, 3) := by decide +kernel
theorem d_D_multiply_81 : decode b_D_multiply 81 = .ok (.goto (-56), 3) := by decide +kernel
theorem d_D_multiply_84 : decode b_D_multiply 84 = .ok (.iconst 0, 1) := by decide +kernel
theorem d_D_multiply_85 : decode b_D_multiply 85 = .ok (.istore_n 2, 1) := by decide +kernel
theorem d_D_multiply_86 : decode b_D_multiply 86 = .ok (.iload_n 2, 1) := by decide +kernel
theorem d_D_multiply_87 : decode b_D_multiply 87 = .ok (.aload_n 0, 1) := by decide +kernel
theorem d_D_multiply_88 : decode b_D_multiply 88 = .ok (.getfield 57, 3) := by decide +kernel
theorem d_D_multiply_91 : decode b_D_multiply 91 = .ok (.if_icmp .ge 18, 3) := by decide +kernel
theorem d_D_multiply_94 : decode b_D_multiply 94 = .ok (.aload_n 1, 1) := by decide +kernel
theorem d_D_multiply_95 : decode b_D_multiply 95 = .ok (.iload_n 2, 1) := by decide +kernel
theorem d_D_multiply_96 : decode b_D_multiply 96 = .ok (.aload_n 0, 1) := by decide +kernel
theorem d_D_multiply_97 : decode b_D_multiply 97 = .ok (.getfield 19, 3) := by decide +kernel
theorem d_D_multiply_100 : decode b_D_multiply 100 = .ok (.iload_n 2, 1) := by decide +kernel
theorem d_D_multiply_101 : decode b_D_multiply 101 = .ok (.laload, 1) := by decide +kernel
theorem d_D_multiply_102 : decode b_D_multiply 102 = .ok (.lastore, 1) := by decide +kernel
theorem d_D_multiply_103 : decode b_D_multiply 103 = .ok (.iinc 2 1, 3) := by decide +kernel
theorem d_D_multiply_106 : decode b_D_multiply 106 = .ok (.goto (-20), 3) := by decide +kernel
theorem d_D_multiply_109 : decode b_D_multiply 109 = .ok (.aload_n 0, 1) := by decide +kernel
theorem d_D_multiply_110 : decode b_D_multiply 110 = .ok (.dup, 1) := by decide +kernel
theorem d_D_multiply_111 : decode b_D_multiply 111 = .ok (.getfield 97, 3) := by decide +kernel
theorem d_D_multiply_114 : decode b_D_multiply 114 = .ok (.iconst 1, 1) := by decide +kernel
theorem d_D_multiply_115 : decode b_D_multiply 115 = .ok (.iadd, 1) := by decide +kernel
theorem d_D_multiply_116 : decode b_D_multiply 116 = .ok (.putfield 97, 3) := by decide +kernel
theorem d_D_multiply_119 : decode b_D_multiply 119 = .ok (.return_, 1) := by decide +kernel
theorem d_D_inverse_0 : decode b_D_inverse 0 = .ok (.lload_n 1, 1) := by decide +kernel
theorem d_D_inverse_1 : decode b_D_inverse 1 = .ok (.lstore_n 3, 1) := by decide +kernel
theorem d_D_inverse_2 : decode b_D_inverse 2 = .ok (.lconst 1, 1) := by decide +kernel
theorem d_D_inverse_3 : decode b_D_inverse 3 = .ok (.lstore 5, 2) := by decide +kernel
theorem d_D_inverse_5 : decode b_D_inverse 5 = .ok (.aload_n 0, 1) := by decide +kernel
theorem d_D_inverse_6 : decode b_D_inverse 6 = .ok (.getfield 54, 3) := by decide +kernel
theorem d_D_inverse_9 : decode b_D_inverse 9 = .ok (.iconst 2, 1) := by decide +kernel
theorem d_D_inverse_10 : decode b_D_inverse 10 = .ok (.isub, 1) := by decide +kernel
theorem d_D_inverse_11 : decode b_D_inverse 11 = .ok (.istore 7, 2) := by decide +kernel
theorem d_D_inverse_13 : decode b_D_inverse 13 = .ok (.iload 7, 2) := by decide +kernel
theorem d_D_inverse_15 : decode b_D_inverse 15 = .ok (.ifCond .le 47, 3) := by decide +kernel
theorem d_D_inverse_18 : decode b_D_inverse 18 = .ok (.iload 7, 2) := by decide +kernel
theorem d_D_inverse_20 : decode b_D_inverse 20 = .ok (.iconst 1, 1) := by decide +kernel
theorem d_D_inverse_21 : decode b_D_inverse 21 = .ok (.iand, 1) := by decide +kernel
theorem d_D_inverse_22 : decode b_D_inverse 22 = .ok (.iconst 1, 1) := by decide +kernel
theorem d_D_inverse_23 : decode b_D_inverse 23 = .ok (.if_icmp .ne 16, 3) := by decide +kernel
theorem d_D_inverse_26 : decode b_D_inverse 26 = .ok (.lload 5, 2) := by decide +kernel
theorem d_D_inverse_28 : decode b_D_inverse 28 = .ok (.lload_n 3, 1) := by decide +kernel
theorem d_D_inverse_29 : decode b_D_inverse 29 = .ok (.lmul, 1) := by decide +kernel
theorem d_D_inverse_30 : decode b_D_inverse 30 = .ok (.aload_n 0, 1) := by decide +kernel
theorem d_D_inverse_31 : decode b_D_inverse 31 = .ok (.getfield 54, 3) := by decide +kernel
theorem d_D_inverse_34 : decode b_D_inverse 34 = .ok (.i2l, 1) := by decide +kernel
theorem d_D_inverse_35 : decode b_D_inverse 35 = .ok (.lrem, 1) := by decide +kernel
theorem d_D_inverse_36 : decode b_D_inverse 36 = .ok (.goto 5, 3) := by decide +kernel
theorem d_D_inverse_39 : decode b_D_inverse 39 = .ok (.lload 5, 2) := by decide +kernel
theorem d_D_inverse_41 : decode b_D_inverse 41 = .ok (.lstore 5, 2) := by decide +kernel
theorem d_D_inverse_43 : decode b_D_inverse 43 = .ok (.lload_n 3, 1) := by decide +kernel
theorem d_D_inverse_44 : decode b_D_inverse 44 = .ok (.lload_n 3, 1) := by decide +kernel
theorem d_D_inverse_45 : decode b_D_inverse 45 = .ok (.lmul, 1) := by decide +kernel
theorem d_D_inverse_46 : decode b_D_inverse 46 = .ok (.aload_n 0, 1) := by decide +kernel
theorem d_D_inverse_47 : decode b_D_inverse 47 = .ok (.getfield 54, 3) := by decide +kernel
theorem d_D_inverse_50 : decode b_D_inverse 50 = .ok (.i2l, 1) := by decide +kernel
theorem d_D_inverse_51 : decode b_D_inverse 51 = .ok (.lrem, 1) := by decide +kernel
theorem d_D_inverse_52 : decode b_D_inverse 52 = .ok (.lstore_n 3, 1) := by decide +kernel
theorem d_D_inverse_53 : decode b_D_inverse 53 = .ok (.iload 7, 2) := by decide +kernel
theorem d_D_inverse_55 : decode b_D_inverse 55 = .ok (.iconst 1, 1) := by decide +kernel
theorem d_D_inverse_56 : decode b_D_inverse 56 = .ok (.ishr, 1) := by decide +kernel
theorem d_D_inverse_57 : decode b_D_inverse 57 = .ok (.istore 7, 2) := by decide +kernel
theorem d_D_inverse_59 : decode b_D_inverse 59 = .ok (.goto (-46), 3) := by decide +kernel
theorem d_D_inverse_62 : decode b_D_inverse 62 = .ok (.lload 5, 2) := by decide +kernel
theorem d_D_inverse_64 : decode b_D_inverse 64 = .ok (.lreturn, 1) := by decide +kernel
theorem d_D_drawRow_0 : decode b_D_drawRow 0 = .ok (.iconst 0, 1) := by decide +kernel
theorem d_D_drawRow_1 : decode b_D_drawRow 1 = .ok (.istore_n 1, 1) := by decide +kernel
theorem d_D_drawRow_2 : decode b_D_drawRow 2 = .ok (.iload_n 1, 1) := by decide +kernel
theorem d_D_drawRow_3 : decode b_D_drawRow 3 = .ok (.aload_n 0, 1) := by decide +kernel
theorem d_D_drawRow_4 : decode b_D_drawRow 4 = .ok (.getfield 57, 3) := by decide +kernel
theorem d_D_drawRow_7 : decode b_D_drawRow 7 = .ok (.if_icmp .ge 32, 3) := by decide +kernel
theorem d_D_drawRow_10 : decode b_D_drawRow 10 = .ok (.aload_n 0, 1) := by decide +kernel
theorem d_D_drawRow_11 : decode b_D_drawRow 11 = .ok (.getfield 13, 3) := by decide +kernel
theorem d_D_drawRow_14 : decode b_D_drawRow 14 = .ok (.iload_n 1, 1) := by decide +kernel
theorem d_D_drawRow_15 : decode b_D_drawRow 15 = .ok (.aload_n 0, 1) := by decide +kernel
theorem d_D_drawRow_16 : decode b_D_drawRow 16 = .ok (.invokevirtual 100, 3) := by decide +kernel
theorem d_D_drawRow_19 : decode b_D_drawRow 19 = .ok (.i2l, 1) := by decide +kernel
theorem d_D_drawRow_20 : decode b_D_drawRow 20 = .ok (.lastore, 1) := by decide +kernel
theorem d_D_drawRow_21 : decode b_D_drawRow 21 = .ok (.aload_n 0, 1) := by decide +kernel
theorem d_D_drawRow_22 : decode b_D_drawRow 22 = .ok (.getfield 16, 3) := by decide +kernel
theorem d_D_drawRow_25 : decode b_D_drawRow 25 = .ok (.iload_n 1, 1) := by decide +kernel
theorem d_D_drawRow_26 : decode b_D_drawRow 26 = .ok (.aload_n 0, 1) := by decide +kernel
theorem d_D_drawRow_27 : decode b_D_drawRow 27 = .ok (.getfield 7, 3) := by decide +kernel
theorem d_D_drawRow_30 : decode b_D_drawRow 30 = .ok (.iload_n 1, 1) := by decide +kernel
theorem d_D_drawRow_31 : decode b_D_drawRow 31 = .ok (.laload, 1) := by decide +kernel
theorem d_D_drawRow_32 : decode b_D_drawRow 32 = .ok (.lastore, 1) := by decide +kernel
theorem d_D_drawRow_33 : decode b_D_drawRow 33 = .ok (.iinc 1 1, 3) := by decide +kernel
theorem d_D_drawRow_36 : decode b_D_drawRow 36 = .ok (.goto (-34), 3) := by decide +kernel
theorem d_D_drawRow_39 : decode b_D_drawRow 39 = .ok (.iconst 0, 1) := by decide +kernel
theorem d_D_drawRow_40 : decode b_D_drawRow 40 = .ok (.istore_n 1, 1) := by decide +kernel
theorem d_D_drawRow_41 : decode b_D_drawRow 41 = .ok (.iload_n 1, 1) := by decide +kernel
theorem d_D_drawRow_42 : decode b_D_drawRow 42 = .ok (.iconst 2, 1) := by decide +kernel
theorem d_D_drawRow_43 : decode b_D_drawRow 43 = .ok (.aload_n 0, 1) := by decide +kernel
theorem d_D_drawRow_44 : decode b_D_drawRow 44 = .ok (.getfield 57, 3) := by decide +kernel
theorem d_D_drawRow_47 : decode b_D_drawRow 47 = .ok (.imul, 1) := by decide +kernel
theorem d_D_drawRow_48 : decode b_D_drawRow 48 = .ok (.if_icmp .ge 76, 3) := by decide +kernel
theorem d_D_drawRow_51 : decode b_D_drawRow 51 = .ok (.iload_n 1, 1) := by decide +kernel
theorem d_D_drawRow_52 : decode b_D_drawRow 52 = .ok (.ifCond .le 11, 3) := by decide +kernel
theorem d_D_drawRow_55 : decode b_D_drawRow 55 = .ok (.aload_n 0, 1) := by decide +kernel
theorem d_D_drawRow_56 : decode b_D_drawRow 56 = .ok (.aload_n 0, 1) := by decide +kernel
theorem d_D_drawRow_57 : decode b_D_drawRow 57 = .ok (.getfield 16, 3) := by decide +kernel
theorem d_D_drawRow_60 : decode b_D_drawRow 60 = .ok (.invokevirtual 104, 3) := by decide +kernel
theorem d_D_drawRow_63 : decode b_D_drawRow 63 = .ok (.aload_n 0, 1) := by decide +kernel
theorem d_D_drawRow_64 : decode b_D_drawRow 64 = .ok (.getfield 25, 3) := by decide +kernel
theorem d_D_drawRow_67 : decode b_D_drawRow 67 = .ok (.iload_n 1, 1) := by decide +kernel
theorem d_D_drawRow_68 : decode b_D_drawRow 68 = .ok (.lconst 0, 1) := by decide +kernel
theorem d_D_drawRow_69 : decode b_D_drawRow 69 = .ok (.lastore, 1) := by decide +kernel
theorem d_D_drawRow_70 : decode b_D_drawRow 70 = .ok (.iconst 0, 1) := by decide +kernel
theorem d_D_drawRow_71 : decode b_D_drawRow 71 = .ok (.istore_n 2, 1) := by decide +kernel
theorem d_D_drawRow_72 : decode b_D_drawRow 72 = .ok (.iload_n 2, 1) := by decide +kernel
theorem d_D_drawRow_73 : decode b_D_drawRow 73 = .ok (.aload_n 0, 1) := by decide +kernel
theorem d_D_drawRow_74 : decode b_D_drawRow 74 = .ok (.getfield 57, 3) := by decide +kernel
theorem d_D_drawRow_77 : decode b_D_drawRow 77 = .ok (.if_icmp .ge 41, 3) := by decide +kernel
theorem d_D_drawRow_80 : decode b_D_drawRow 80 = .ok (.aload_n 0, 1) := by decide +kernel
theorem d_D_drawRow_81 : decode b_D_drawRow 81 = .ok (.getfield 25, 3) := by decide +kernel
theorem d_D_drawRow_84 : decode b_D_drawRow 84 = .ok (.iload_n 1, 1) := by decide +kernel
theorem d_D_drawRow_85 : decode b_D_drawRow 85 = .ok (.aload_n 0, 1) := by decide +kernel
theorem d_D_drawRow_86 : decode b_D_drawRow 86 = .ok (.getfield 25, 3) := by decide +kernel
theorem d_D_drawRow_89 : decode b_D_drawRow 89 = .ok (.iload_n 1, 1) := by decide +kernel
theorem d_D_drawRow_90 : decode b_D_drawRow 90 = .ok (.laload, 1) := by decide +kernel
theorem d_D_drawRow_91 : decode b_D_drawRow 91 = .ok (.aload_n 0, 1) := by decide +kernel
theorem d_D_drawRow_92 : decode b_D_drawRow 92 = .ok (.getfield 13, 3) := by decide +kernel
theorem d_D_drawRow_95 : decode b_D_drawRow 95 = .ok (.iload_n 2, 1) := by decide +kernel
theorem d_D_drawRow_96 : decode b_D_drawRow 96 = .ok (.laload, 1) := by decide +kernel
theorem d_D_drawRow_97 : decode b_D_drawRow 97 = .ok (.aload_n 0, 1) := by decide +kernel
theorem d_D_drawRow_98 : decode b_D_drawRow 98 = .ok (.getfield 16, 3) := by decide +kernel
theorem d_D_drawRow_101 : decode b_D_drawRow 101 = .ok (.iload_n 2, 1) := by decide +kernel
theorem d_D_drawRow_102 : decode b_D_drawRow 102 = .ok (.laload, 1) := by decide +kernel
theorem d_D_drawRow_103 : decode b_D_drawRow 103 = .ok (.lmul, 1) := by decide +kernel
theorem d_D_drawRow_104 : decode b_D_drawRow 104 = .ok (.ladd, 1) := by decide +kernel
theorem d_D_drawRow_105 : decode b_D_drawRow 105 = .ok (.aload_n 0, 1) := by decide +kernel
theorem d_D_drawRow_106 : decode b_D_drawRow 106 = .ok (.getfield 54, 3) := by decide +kernel
theorem d_D_drawRow_109 : decode b_D_drawRow 109 = .ok (.i2l, 1) := by decide +kernel
theorem d_D_drawRow_110 : decode b_D_drawRow 110 = .ok (.lrem, 1) := by decide +kernel
theorem d_D_drawRow_111 : decode b_D_drawRow 111 = .ok (.lastore, 1) := by decide +kernel
theorem d_D_drawRow_112 : decode b_D_drawRow 112 = .ok (.iinc 2 1, 3) := by decide +kernel
theorem d_D_drawRow_115 : decode b_D_drawRow 115 = .ok (.goto (-43), 3) := by decide +kernel
theorem d_D_drawRow_118 : decode b_D_drawRow 118 = .ok (.iinc 1 1, 3) := by decide +kernel
theorem d_D_drawRow_121 : decode b_D_drawRow 121 = .ok (.goto (-80), 3) := by decide +kernel
theorem d_D_drawRow_124 : decode b_D_drawRow 124 = .ok (.return_, 1) := by decide +kernel
theorem d_D_copy_0 : decode b_D_copy 0 = .ok (.aload_n 0, 1) := by decide +kernel
theorem d_D_copy_1 : decode b_D_copy 1 = .ok (.iconst 0, 1) := by decide +kernel
theorem d_D_copy_2 : decode b_D_copy 2 = .ok (.aload_n 1, 1) := by decide +kernel
theorem d_D_copy_3 : decode b_D_copy 3 = .ok (.iconst 0, 1) := by decide +kernel
theorem d_D_copy_4 : decode b_D_copy 4 = .ok (.aload_n 0, 1) := by decide +kernel
theorem d_D_copy_5 : decode b_D_copy 5 = .ok (.arraylength, 1) := by decide +kernel
theorem d_D_copy_6 : decode b_D_copy 6 = .ok (.invokestatic 108, 3) := by decide +kernel
theorem d_D_copy_9 : decode b_D_copy 9 = .ok (.return_, 1) := by decide +kernel
theorem d_D_findRecurrence_0 : decode b_D_findRecurrence 0 = .ok (.iconst 0, 1) := by decide +kernel
theorem d_D_findRecurrence_1 : decode b_D_findRecurrence 1 = .ok (.istore_n 1, 1) := by decide +kernel
theorem d_D_findRecurrence_2 : decode b_D_findRecurrence 2 = .ok (.iload_n 1, 1) := by decide +kernel
theorem d_D_findRecurrence_3 : decode b_D_findRecurrence 3 = .ok (.aload_n 0, 1) := by decide +kernel
theorem d_D_findRecurrence_4 : decode b_D_findRecurrence 4 = .ok (.getfield 28, 3) := by decide +kernel
theorem d_D_findRecurrence_7 : decode b_D_findRecurrence 7 = .ok (.arraylength, 1) := by decide +kernel
theorem d_D_findRecurrence_8 : decode b_D_findRecurrence 8 = .ok (.if_icmp .ge 36, 3) := by decide +kernel
theorem d_D_findRecurrence_11 : decode b_D_findRecurrence 11 = .ok (.aload_n 0, 1) := by decide +kernel
theorem d_D_findRecurrence_12 : decode b_D_findRecurrence 12 = .ok (.getfield 28, 3) := by decide +kernel
theorem d_D_findRecurrence_15 : decode b_D_findRecurrence 15 = .ok (.iload_n 1, 1) := by decide +kernel
theorem d_D_findRecurrence_16 : decode b_D_findRecurrence 16 = .ok (.iload_n 1, 1) := by decide +kernel
theorem d_D_findRecurrence_17 : decode b_D_findRecurrence 17 = .ok (.ifCond .ne 7, 3) := by decide +kernel
theorem d_D_findRecurrence_20 : decode b_D_findRecurrence 20 = .ok (.lconst 1, 1) := by decide +kernel
theorem d_D_findRecurrence_21 : decode b_D_findRecurrence 21 = .ok (.goto 4, 3) := by decide +kernel
theorem d_D_findRecurrence_24 : decode b_D_findRecurrence 24 = .ok (.lconst 0, 1) := by decide +kernel
theorem d_D_findRecurrence_25 : decode b_D_findRecurrence 25 = .ok (.lastore, 1) := by decide +kernel
theorem d_D_findRecurrence_26 : decode b_D_findRecurrence 26 = .ok (.aload_n 0, 1) := by decide +kernel
theorem d_D_findRecurrence_27 : decode b_D_findRecurrence 27 = .ok (.getfield 31, 3) := by decide +kernel
theorem d_D_findRecurrence_30 : decode b_D_findRecurrence 30 = .ok (.iload_n 1, 1) := by decide +kernel
theorem d_D_findRecurrence_31 : decode b_D_findRecurrence 31 = .ok (.aload_n 0, 1) := by decide +kernel
theorem d_D_findRecurrence_32 : decode b_D_findRecurrence 32 = .ok (.getfield 28, 3) := by decide +kernel
theorem d_D_findRecurrence_35 : decode b_D_findRecurrence 35 = .ok (.iload_n 1, 1) := by decide +kernel
theorem d_D_findRecurrence_36 : decode b_D_findRecurrence 36 = .ok (.laload, 1) := by decide +kernel
theorem d_D_findRecurrence_37 : decode b_D_findRecurrence 37 = .ok (.lastore, 1) := by decide +kernel
theorem d_D_findRecurrence_38 : decode b_D_findRecurrence 38 = .ok (.iinc 1 1, 3) := by decide +kernel
theorem d_D_findRecurrence_41 : decode b_D_findRecurrence 41 = .ok (.goto (-39), 3) := by decide +kernel
theorem d_D_findRecurrence_44 : decode b_D_findRecurrence 44 = .ok (.iconst 0, 1) := by decide +kernel
theorem d_D_findRecurrence_45 : decode b_D_findRecurrence 45 = .ok (.istore_n 1, 1) := by decide +kernel
theorem d_D_findRecurrence_46 : decode b_D_findRecurrence 46 = .ok (.iconst 1, 1) := by decide +kernel
theorem d_D_findRecurrence_47 : decode b_D_findRecurrence 47 = .ok (.istore_n 2, 1) := by decide +kernel
theorem d_D_findRecurrence_48 : decode b_D_findRecurrence 48 = .ok (.lconst 1, 1) := by decide +kernel
theorem d_D_findRecurrence_49 : decode b_D_findRecurrence 49 = .ok (.lstore_n 3, 1) := by decide +kernel
theorem d_D_findRecurrence_50 : decode b_D_findRecurrence 50 = .ok (.iconst 0, 1) := by decide +kernel
theorem d_D_findRecurrence_51 : decode b_D_findRecurrence 51 = .ok (.istore 5, 2) := by decide +kernel
theorem d_D_findRecurrence_53 : decode b_D_findRecurrence 53 = .ok (.iload 5, 2) := by decide +kernel
theorem d_D_findRecurrence_55 : decode b_D_findRecurrence 55 = .ok (.iconst 2, 1) := by decide +kernel
theorem d_D_findRecurrence_56 : decode b_D_findRecurrence 56 = .ok (.aload_n 0, 1) := by decide +kernel
theorem d_D_findRecurrence_57 : decode b_D_findRecurrence 57 = .ok (.getfield 57, 3) := by decide +kernel
theorem d_D_findRecurrence_60 : decode b_D_findRecurrence 60 = .ok (.imul, 1) := by decide +kernel
theorem d_D_findRecurrence_61 : decode b_D_findRecurrence 61 = .ok (.if_icmp .ge 190, 3) := by decide +kernel
theorem d_D_findRecurrence_64 : decode b_D_findRecurrence 64 = .ok (.aload_n 0, 1) := by decide +kernel
theorem d_D_findRecurrence_65 : decode b_D_findRecurrence 65 = .ok (.getfield 25, 3) := by decide +kernel
theorem d_D_findRecurrence_68 : decode b_D_findRecurrence 68 = .ok (.iload 5, 2) := by decide +kernel
theorem d_D_findRecurrence_70 : decode b_D_findRecurrence 70 = .ok (.laload, 1) := by decide +kernel
theorem d_D_findRecurrence_71 : decode b_D_findRecurrence 71 = .ok (.lstore 6, 2) := by decide +kernel
theorem d_D_findRecurrence_73 : decode b_D_findRecurrence 73 = .ok (.iconst 1, 1) := by decide +kernel
theorem d_D_findRecurrence_74 : decode b_D_findRecurrence 74 = .ok (.istore 8, 2) := by decide +kernel
theorem d_D_findRecurrence_76 : decode b_D_findRecurrence 76 = .ok (.iload 8, 2) := by decide +kernel
theorem d_D_findRecurrence_78 : decode b_D_findRecurrence 78 = .ok (.iload_n 1, 1) := by decide +kernel
theorem d_D_findRecurrence_79 : decode b_D_findRecurrence 79 = .ok (.if_icmp .gt 38, 3) := by decide +kernel
theorem d_D_findRecurrence_82 : decode b_D_findRecurrence 82 = .ok (.lload 6, 2) := by decide +kernel
theorem d_D_findRecurrence_84 : decode b_D_findRecurrence 84 = .ok (.aload_n 0, 1) := by decide +kernel
theorem d_D_findRecurrence_85 : decode b_D_findRecurrence 85 = .ok (.getfield 28, 3) := by decide +kernel
theorem d_D_findRecurrence_88 : decode b_D_findRecurrence 88 = .ok (.iload 8, 2) := by decide +kernel
theorem d_D_findRecurrence_90 : decode b_D_findRecurrence 90 = .ok (.laload, 1) := by decide +kernel
theorem d_D_findRecurrence_91 : decode b_D_findRecurrence 91 = .ok (.aload_n 0, 1) := by decide +kernel
theorem d_D_findRecurrence_92 : decode b_D_findRecurrence 92 = .ok (.getfield 25, 3) := by decide +kernel
theorem d_D_findRecurrence_95 : decode b_D_findRecurrence 95 = .ok (.iload 5, 2) := by decide +kernel
theorem d_D_findRecurrence_97 : decode b_D_findRecurrence 97 = .ok (.iload 8, 2) := by decide +kernel
theorem d_D_findRecurrence_99 : decode b_D_findRecurrence 99 = .ok (.isub, 1) := by decide +kernel
theorem d_D_findRecurrence_100 : decode b_D_findRecurrence 100 = .ok (.laload, 1) := by decide +kernel
theorem d_D_findRecurrence_101 : decode b_D_findRecurrence 101 = .ok (.lmul, 1) := by decide +kernel
theorem d_D_findRecurrence_102 : decode b_D_findRecurrence 102 = .ok (.ladd, 1) := by decide +kernel
theorem d_D_findRecurrence_103 : decode b_D_findRecurrence 103 = .ok (.aload_n 0, 1) := by decide +kernel
theorem d_D_findRecurrence_104 : decode b_D_findRecurrence 104 = .ok (.getfield 54, 3) := by decide +kernel
theorem d_D_findRecurrence_107 : decode b_D_findRecurrence 107 = .ok (.i2l, 1) := by decide +kernel
theorem d_D_findRecurrence_108 : decode b_D_findRecurrence 108 = .ok (.lrem, 1) := by decide +kernel
theorem d_D_findRecurrence_109 : decode b_D_findRecurrence 109 = .ok (.lstore 6, 2) := by decide +kernel
theorem d_D_findRecurrence_111 : decode b_D_findRecurrence 111 = .ok (.iinc 8 1, 3) := by decide +kernel
theorem d_D_findRecurrence_114 : decode b_D_findRecurrence 114 = .ok (.goto (-38), 3) := by decide +kernel
theorem d_D_findRecurrence_117 : decode b_D_findRecurrence 117 = .ok (.lload 6, 2) := by decide +kernel
theorem d_D_findRecurrence_119 : decode b_D_findRecurrence 119 = .ok (.lconst 0, 1) := by decide +kernel
theorem d_D_findRecurrence_120 : decode b_D_findRecurrence 120 = .ok (.lcmp, 1) := by decide +kernel
theorem d_D_findRecurrence_121 : decode b_D_findRecurrence 121 = .ok (.ifCond .ne 9, 3) := by decide +kernel
theorem d_D_findRecurrence_124 : decode b_D_findRecurrence 124 = .ok (.iinc 2 1, 3) := by decide +kernel
theorem d_D_findRecurrence_127 : decode b_D_findRecurrence 127 = .ok (.goto 118, 3) := by decide +kernel
theorem d_D_findRecurrence_130 : decode b_D_findRecurrence 130 = .ok (.aload_n 0, 1) := by decide +kernel
theorem d_D_findRecurrence_131 : decode b_D_findRecurrence 131 = .ok (.getfield 28, 3) := by decide +kernel
theorem d_D_findRecurrence_134 : decode b_D_findRecurrence 134 = .ok (.aload_n 0, 1) := by decide +kernel
theorem d_D_findRecurrence_135 : decode b_D_findRecurrence 135 = .ok (.getfield 34, 3) := by decide +kernel
theorem d_D_findRecurrence_138 : decode b_D_findRecurrence 138 = .ok (.invokestatic 114, 3) := by decide +kernel
theorem d_D_findRecurrence_141 : decode b_D_findRecurrence 141 = .ok (.lload 6, 2) := by decide +kernel
theorem d_D_findRecurrence_143 : decode b_D_findRecurrence 143 = .ok (.aload_n 0, 1) := by decide +kernel
theorem d_D_findRecurrence_144 : decode b_D_findRecurrence 144 = .ok (.lload_n 3, 1) := by decide +kernel
theorem d_D_findRecurrence_145 : decode b_D_findRecurrence 145 = .ok (.invokevirtual 118, 3) := by decide +kernel
theorem d_D_findRecurrence_148 : decode b_D_findRecurrence 148 = .ok (.lmul, 1) := by decide +kernel
theorem d_D_findRecurrence_149 : decode b_D_findRecurrence 149 = .ok (.aload_n 0, 1) := by decide +kernel
theorem d_D_findRecurrence_150 : decode b_D_findRecurrence 150 = .ok (.getfield 54, 3) := by decide +kernel
theorem d_D_findRecurrence_153 : decode b_D_findRecurrence 153 = .ok (.i2l, 1) := by decide +kernel
theorem d_D_findRecurrence_154 : decode b_D_findRecurrence 154 = .ok (.lrem, 1) := by decide +kernel
theorem d_D_findRecurrence_155 : decode b_D_findRecurrence 155 = .ok (.lstore 8, 2) := by decide +kernel
theorem d_D_findRecurrence_157 : decode b_D_findRecurrence 157 = .ok (.iload_n 2, 1) := by decide +kernel
theorem d_D_findRecurrence_158 : decode b_D_findRecurrence 158 = .ok (.istore 10, 2) := by decide +kernel
theorem d_D_findRecurrence_160 : decode b_D_findRecurrence 160 = .ok (.iload 10, 2) := by decide +kernel
theorem d_D_findRecurrence_162 : decode b_D_findRecurrence 162 = .ok (.aload_n 0, 1) := by decide +kernel
theorem d_D_findRecurrence_163 : decode b_D_findRecurrence 163 = .ok (.getfield 28, 3) := by decide +kernel
theorem d_D_findRecurrence_166 : decode b_D_findRecurrence 166 = .ok (.arraylength, 1) := by decide +kernel
theorem d_D_findRecurrence_167 : decode b_D_findRecurrence 167 = .ok (.if_icmp .ge 41, 3) := by decide +kernel
theorem d_D_findRecurrence_170 : decode b_D_findRecurrence 170 = .ok (.aload_n 0, 1) := by decide +kernel
theorem d_D_findRecurrence_171 : decode b_D_findRecurrence 171 = .ok (.getfield 28, 3) := by decide +kernel
theorem d_D_findRecurrence_174 : decode b_D_findRecurrence 174 = .ok (.iload 10, 2) := by decide +kernel
theorem d_D_findRecurrence_176 : decode b_D_findRecurrence 176 = .ok (.aload_n 0, 1) := by decide +kernel
theorem d_D_findRecurrence_177 : decode b_D_findRecurrence 177 = .ok (.aload_n 0, 1) := by decide +kernel
theorem d_D_findRecurrence_178 : decode b_D_findRecurrence 178 = .ok (.getfield 28, 3) := by decide +kernel
theorem d_D_findRecurrence_181 : decode b_D_findRecurrence 181 = .ok (.iload 10, 2) := by decide +kernel
theorem d_D_findRecurrence_183 : decode b_D_findRecurrence 183 = .ok (.laload, 1) := by decide +kernel
theorem d_D_findRecurrence_184 : decode b_D_findRecurrence 184 = .ok (.lload 8, 2) := by decide +kernel
theorem d_D_findRecurrence_186 : decode b_D_findRecurrence 186 = .ok (.aload_n 0, 1) := by decide +kernel
theorem d_D_findRecurrence_187 : decode b_D_findRecurrence 187 = .ok (.getfield 31, 3) := by decide +kernel
theorem d_D_findRecurrence_190 : decode b_D_findRecurrence 190 = .ok (.iload 10, 2) := by decide +kernel
theorem d_D_findRecurrence_192 : decode b_D_findRecurrence 192 = .ok (.iload_n 2, 1) := by decide +kernel
theorem d_D_findRecurrence_193 : decode b_D_findRecurrence 193 = .ok (.isub, 1) := by decide +kernel
theorem d_D_findRecurrence_194 : decode b_D_findRecurrence 194 = .ok (.laload, 1) := by decide +kernel
theorem d_D_findRecurrence_195 : decode b_D_findRecurrence 195 = .ok (.lmul, 1) := by decide +kernel
theorem d_D_findRecurrence_196 : decode b_D_findRecurrence 196 = .ok (.lsub, 1) := by decide +kernel
theorem d_D_findRecurrence_197 : decode b_D_findRecurrence 197 = .ok (.invokevirtual 84, 3) := by decide +kernel
theorem d_D_findRecurrence_200 : decode b_D_findRecurrence 200 = .ok (.i2l, 1) := by decide +kernel
theorem d_D_findRecurrence_201 : decode b_D_findRecurrence 201 = .ok (.lastore, 1) := by decide +kernel
theorem d_D_findRecurrence_202 : decode b_D_findRecurrence 202 = .ok (.iinc 10 1, 3) := by decide +kernel
theorem d_D_findRecurrence_205 : decode b_D_findRecurrence 205 = .ok (.goto (-45), 3) := by decide +kernel
theorem d_D_findRecurrence_208 : decode b_D_findRecurrence 208 = .ok (.iconst 2, 1) := by decide +kernel
theorem d_D_findRecurrence_209 : decode b_D_findRecurrence 209 = .ok (.iload_n 1, 1) := by decide +kernel
theorem d_D_findRecurrence_210 : decode b_D_findRecurrence 210 = .ok (.imul, 1) := by decide +kernel
theorem d_D_findRecurrence_211 : decode b_D_findRecurrence 211 = .ok (.iload 5, 2) := by decide +kernel
theorem d_D_findRecurrence_213 : decode b_D_findRecurrence 213 = .ok (.if_icmp .gt 29, 3) := by decide +kernel
theorem d_D_findRecurrence_216 : decode b_D_findRecurrence 216 = .ok (.iload 5, 2) := by decide +kernel
theorem d_D_findRecurrence_218 : decode b_D_findRecurrence 218 = .ok (.iconst 1, 1) := by decide +kernel
theorem d_D_findRecurrence_219 : decode b_D_findRecurrence 219 = .ok (.iadd, 1) := by decide +kernel
theorem d_D_findRecurrence_220 : decode b_D_findRecurrence 220 = .ok (.iload_n 1, 1) := by decide +kernel
theorem d_D_findRecurrence_221 : decode b_D_findRecurrence 221 = .ok (.isub, 1) := by decide +kernel
theorem d_D_findRecurrence_222 : decode b_D_findRecurrence 222 = .ok (.istore_n 1, 1) := by decide +kernel
theorem d_D_findRecurrence_223 : decode b_D_findRecurrence 223 = .ok (.aload_n 0, 1) := by decide +kernel
theorem d_D_findRecurrence_224 : decode b_D_findRecurrence 224 = .ok (.getfield 34, 3) := by decide +kernel
theorem d_D_findRecurrence_227 : decode b_D_findRecurrence 227 = .ok (.aload_n 0, 1) := by decide +kernel
theorem d_D_findRecurrence_228 : decode b_D_findRecurrence 228 = .ok (.getfield 31, 3) := by decide +kernel
theorem d_D_findRecurrence_231 : decode b_D_findRecurrence 231 = .ok (.invokestatic 114, 3) := by decide +kernel
theorem d_D_findRecurrence_234 : decode b_D_findRecurrence 234 = .ok (.lload 6, 2) := by decide +kernel
theorem d_D_findRecurrence_236 : decode b_D_findRecurrence 236 = .ok (.lstore_n 3, 1) := by decide +kernel
theorem d_D_findRecurrence_237 : decode b_D_findRecurrence 237 = .ok (.iconst 1, 1) := by decide +kernel
theorem d_D_findRecurrence_238 : decode b_D_findRecurrence 238 = .ok (.istore_n 2, 1) := by decide +kernel
theorem d_D_findRecurrence_239 : decode b_D_findRecurrence 239 = .ok (.goto 6, 3) := by decide +kernel
theorem d_D_findRecurrence_242 : decode b_D_findRecurrence 242 = .ok (.iinc 2 1, 3) := by decide +kernel
theorem d_D_findRecurrence_245 : decode b_D_findRecurrence 245 = .ok (.iinc 5 1, 3) := by decide +kernel
theorem d_D_findRecurrence_248 : decode b_D_findRecurrence 248 = .ok (.goto (-195), 3) := by decide +kernel
theorem d_D_findRecurrence_251 : decode b_D_findRecurrence 251 = .ok (.aload_n 0, 1) := by decide +kernel
theorem d_D_findRecurrence_252 : decode b_D_findRecurrence 252 = .ok (.iload_n 1, 1) := by decide +kernel
theorem d_D_findRecurrence_253 : decode b_D_findRecurrence 253 = .ok (.putfield 37, 3) := by decide +kernel
theorem d_D_findRecurrence_256 : decode b_D_findRecurrence 256 = .ok (.return_, 1) := by decide +kernel
theorem d_D_findCandidate_0 : decode b_D_findCandidate 0 = .ok (.iconst 0, 1) := by decide +kernel
theorem d_D_findCandidate_1 : decode b_D_findCandidate 1 = .ok (.istore_n 1, 1) := by decide +kernel
theorem d_D_findCandidate_2 : decode b_D_findCandidate 2 = .ok (.iload_n 1, 1) := by decide +kernel
theorem d_D_findCandidate_3 : decode b_D_findCandidate 3 = .ok (.aload_n 0, 1) := by decide +kernel
theorem d_D_findCandidate_4 : decode b_D_findCandidate 4 = .ok (.getfield 57, 3) := by decide +kernel
theorem d_D_findCandidate_7 : decode b_D_findCandidate 7 = .ok (.if_icmp .ge 32, 3) := by decide +kernel
theorem d_D_findCandidate_10 : decode b_D_findCandidate 10 = .ok (.aload_n 0, 1) := by decide +kernel
theorem d_D_findCandidate_11 : decode b_D_findCandidate 11 = .ok (.getfield 22, 3) := by decide +kernel
theorem d_D_findCandidate_14 : decode b_D_findCandidate 14 = .ok (.iload_n 1, 1) := by decide +kernel
theorem d_D_findCandidate_15 : decode b_D_findCandidate 15 = .ok (.aload_n 0, 1) := by decide +kernel
theorem d_D_findCandidate_16 : decode b_D_findCandidate 16 = .ok (.getfield 37, 3) := by decide +kernel
theorem d_D_findCandidate_19 : decode b_D_findCandidate 19 = .ok (.ifCond .ne 7, 3) := by decide +kernel
theorem d_D_findCandidate_22 : decode b_D_findCandidate 22 = .ok (.lconst 0, 1) := by decide +kernel
theorem d_D_findCandidate_23 : decode b_D_findCandidate 23 = .ok (.goto 9, 3) := by decide +kernel
theorem d_D_findCandidate_26 : decode b_D_findCandidate 26 = .ok (.aload_n 0, 1) := by decide +kernel
theorem d_D_findCandidate_27 : decode b_D_findCandidate 27 = .ok (.getfield 7, 3) := by decide +kernel
theorem d_D_findCandidate_30 : decode b_D_findCandidate 30 = .ok (.iload_n 1, 1) := by decide +kernel
theorem d_D_findCandidate_31 : decode b_D_findCandidate 31 = .ok (.laload, 1) := by decide +kernel
theorem d_D_findCandidate_32 : decode b_D_findCandidate 32 = .ok (.lastore, 1) := by decide +kernel
theorem d_D_findCandidate_33 : decode b_D_findCandidate 33 = .ok (.iinc 1 1, 3) := by decide +kernel
theorem d_D_findCandidate_36 : decode b_D_findCandidate 36 = .ok (.goto (-34), 3) := by decide +kernel
theorem d_D_findCandidate_39 : decode b_D_findCandidate 39 = .ok (.iconst 1, 1) := by decide +kernel
theorem d_D_findCandidate_40 : decode b_D_findCandidate 40 = .ok (.istore_n 1, 1) := by decide +kernel
theorem d_D_findCandidate_41 : decode b_D_findCandidate 41 = .ok (.iload_n 1, 1) := by decide +kernel
theorem d_D_findCandidate_42 : decode b_D_findCandidate 42 = .ok (.aload_n 0, 1) := by decide +kernel
theorem d_D_findCandidate_43 : decode b_D_findCandidate 43 = .ok (.getfield 37, 3) := by decide +kernel
theorem d_D_findCandidate_46 : decode b_D_findCandidate 46 = .ok (.if_icmp .ge 65, 3) := by decide +kernel
theorem d_D_findCandidate_49 : decode b_D_findCandidate 49 = .ok (.aload_n 0, 1) := by decide +kernel
theorem d_D_findCandidate_50 : decode b_D_findCandidate 50 = .ok (.aload_n 0, 1) := by decide +kernel
theorem d_D_findCandidate_51 : decode b_D_findCandidate 51 = .ok (.getfield 22, 3) := by decide +kernel
theorem d_D_findCandidate_54 : decode b_D_findCandidate 54 = .ok (.invokevirtual 104, 3) := by decide +kernel
theorem d_D_findCandidate_57 : decode b_D_findCandidate 57 = .ok (.iconst 0, 1) := by decide +kernel
theorem d_D_findCandidate_58 : decode b_D_findCandidate 58 = .ok (.istore_n 2, 1) := by decide +kernel
theorem d_D_findCandidate_59 : decode b_D_findCandidate 59 = .ok (.iload_n 2, 1) := by decide +kernel
theorem d_D_findCandidate_60 : decode b_D_findCandidate 60 = .ok (.aload_n 0, 1) := by decide +kernel
theorem d_D_findCandidate_61 : decode b_D_findCandidate 61 = .ok (.getfield 57, 3) := by decide +kernel
theorem d_D_findCandidate_64 : decode b_D_findCandidate 64 = .ok (.if_icmp .ge 41, 3) := by decide +kernel
theorem d_D_findCandidate_67 : decode b_D_findCandidate 67 = .ok (.aload_n 0, 1) := by decide +kernel
theorem d_D_findCandidate_68 : decode b_D_findCandidate 68 = .ok (.getfield 22, 3) := by decide +kernel
theorem d_D_findCandidate_71 : decode b_D_findCandidate 71 = .ok (.iload_n 2, 1) := by decide +kernel
theorem d_D_findCandidate_72 : decode b_D_findCandidate 72 = .ok (.aload_n 0, 1) := by decide +kernel
theorem d_D_findCandidate_73 : decode b_D_findCandidate 73 = .ok (.getfield 22, 3) := by decide +kernel
theorem d_D_findCandidate_76 : decode b_D_findCandidate 76 = .ok (.iload_n 2, 1) := by decide +kernel
theorem d_D_findCandidate_77 : decode b_D_findCandidate 77 = .ok (.laload, 1) := by decide +kernel
theorem d_D_findCandidate_78 : decode b_D_findCandidate 78 = .ok (.aload_n 0, 1) := by decide +kernel
theorem d_D_findCandidate_79 : decode b_D_findCandidate 79 = .ok (.getfield 28, 3) := by decide +kernel
theorem d_D_findCandidate_82 : decode b_D_findCandidate 82 = .ok (.iload_n 1, 1) := by decide +kernel
theorem d_D_findCandidate_83 : decode b_D_findCandidate 83 = .ok (.laload, 1) := by decide +kernel
theorem d_D_findCandidate_84 : decode b_D_findCandidate 84 = .ok (.aload_n 0, 1) := by decide +kernel
theorem d_D_findCandidate_85 : decode b_D_findCandidate 85 = .ok (.getfield 7, 3) := by decide +kernel
theorem d_D_findCandidate_88 : decode b_D_findCandidate 88 = .ok (.iload_n 2, 1) := by decide +kernel
theorem d_D_findCandidate_89 : decode b_D_findCandidate 89 = .ok (.laload, 1) := by decide +kernel
theorem d_D_findCandidate_90 : decode b_D_findCandidate 90 = .ok (.lmul, 1) := by decide +kernel
theorem d_D_findCandidate_91 : decode b_D_findCandidate 91 = .ok (.ladd, 1) := by decide +kernel
theorem d_D_findCandidate_92 : decode b_D_findCandidate 92 = .ok (.aload_n 0, 1) := by decide +kernel
theorem d_D_findCandidate_93 : decode b_D_findCandidate 93 = .ok (.getfield 54, 3) := by decide +kernel
theorem d_D_findCandidate_96 : decode b_D_findCandidate 96 = .ok (.i2l, 1) := by decide +kernel
theorem d_D_findCandidate_97 : decode b_D_findCandidate 97 = .ok (.lrem, 1) := by decide +kernel
theorem d_D_findCandidate_98 : decode b_D_findCandidate 98 = .ok (.lastore, 1) := by decide +kernel
theorem d_D_findCandidate_99 : decode b_D_findCandidate 99 = .ok (.iinc 2 1, 3) := by decide +kernel
theorem d_D_findCandidate_102 : decode b_D_findCandidate 102 = .ok (.goto (-43), 3) := by decide +kernel
theorem d_D_findCandidate_105 : decode b_D_findCandidate 105 = .ok (.iinc 1 1, 3) := by decide +kernel
theorem d_D_findCandidate_108 : decode b_D_findCandidate 108 = .ok (.goto (-67), 3) := by decide +kernel
theorem d_D_findCandidate_111 : decode b_D_findCandidate 111 = .ok (.aload_n 0, 1) := by decide +kernel
theorem d_D_findCandidate_112 : decode b_D_findCandidate 112 = .ok (.getfield 37, 3) := by decide +kernel
theorem d_D_findCandidate_115 : decode b_D_findCandidate 115 = .ok (.ifCond .ne 7, 3) := by decide +kernel
theorem d_D_findCandidate_118 : decode b_D_findCandidate 118 = .ok (.lconst 0, 1) := by decide +kernel
theorem d_D_findCandidate_119 : decode b_D_findCandidate 119 = .ok (.goto 22, 3) := by decide +kernel
theorem d_D_findCandidate_122 : decode b_D_findCandidate 122 = .ok (.aload_n 0, 1) := by decide +kernel
theorem d_D_findCandidate_123 : decode b_D_findCandidate 123 = .ok (.aload_n 0, 1) := by decide +kernel
theorem d_D_findCandidate_124 : decode b_D_findCandidate 124 = .ok (.aload_n 0, 1) := by decide +kernel
theorem d_D_findCandidate_125 : decode b_D_findCandidate 125 = .ok (.getfield 28, 3) := by decide +kernel
theorem d_D_findCandidate_128 : decode b_D_findCandidate 128 = .ok (.aload_n 0, 1) := by decide +kernel
theorem d_D_findCandidate_129 : decode b_D_findCandidate 129 = .ok (.getfield 37, 3) := by decide +kernel
theorem d_D_findCandidate_132 : decode b_D_findCandidate 132 = .ok (.laload, 1) := by decide +kernel
theorem d_D_findCandidate_133 : decode b_D_findCandidate 133 = .ok (.invokevirtual 118, 3) := by decide +kernel
theorem d_D_findCandidate_136 : decode b_D_findCandidate 136 = .ok (.lneg, 1) := by decide +kernel
theorem d_D_findCandidate_137 : decode b_D_findCandidate 137 = .ok (.invokevirtual 84, 3) := by decide +kernel
theorem d_D_findCandidate_140 : decode b_D_findCandidate 140 = .ok (.i2l, 1) := by decide +kernel
theorem d_D_findCandidate_141 : decode b_D_findCandidate 141 = .ok (.lstore_n 1, 1) := by decide +kernel
theorem d_D_findCandidate_142 : decode b_D_findCandidate 142 = .ok (.iconst 0, 1) := by decide +kernel
theorem d_D_findCandidate_143 : decode b_D_findCandidate 143 = .ok (.istore_n 3, 1) := by decide +kernel
theorem d_D_findCandidate_144 : decode b_D_findCandidate 144 = .ok (.iload_n 3, 1) := by decide +kernel
theorem d_D_findCandidate_145 : decode b_D_findCandidate 145 = .ok (.aload_n 0, 1) := by decide +kernel
theorem d_D_findCandidate_146 : decode b_D_findCandidate 146 = .ok (.getfield 57, 3) := by decide +kernel
theorem d_D_findCandidate_149 : decode b_D_findCandidate 149 = .ok (.if_icmp .ge 29, 3) := by decide +kernel
theorem d_D_findCandidate_152 : decode b_D_findCandidate 152 = .ok (.aload_n 0, 1) := by decide +kernel
theorem d_D_findCandidate_153 : decode b_D_findCandidate 153 = .ok (.getfield 22, 3) := by decide +kernel
theorem d_D_findCandidate_156 : decode b_D_findCandidate 156 = .ok (.iload_n 3, 1) := by decide +kernel
theorem d_D_findCandidate_157 : decode b_D_findCandidate 157 = .ok (.aload_n 0, 1) := by decide +kernel
theorem d_D_findCandidate_158 : decode b_D_findCandidate 158 = .ok (.getfield 22, 3) := by decide +kernel
theorem d_D_findCandidate_161 : decode b_D_findCandidate 161 = .ok (.iload_n 3, 1) := by decide +kernel
theorem d_D_findCandidate_162 : decode b_D_findCandidate 162 = .ok (.laload, 1) := by decide +kernel
theorem d_D_findCandidate_163 : decode b_D_findCandidate 163 = .ok (.lload_n 1, 1) := by decide +kernel
theorem d_D_findCandidate_164 : decode b_D_findCandidate 164 = .ok (.lmul, 1) := by decide +kernel
theorem d_D_findCandidate_165 : decode b_D_findCandidate 165 = .ok (.aload_n 0, 1) := by decide +kernel
theorem d_D_findCandidate_166 : decode b_D_findCandidate 166 = .ok (.getfield 54, 3) := by decide +kernel
theorem d_D_findCandidate_169 : decode b_D_findCandidate 169 = .ok (.i2l, 1) := by decide +kernel
theorem d_D_findCandidate_170 : decode b_D_findCandidate 170 = .ok (.lrem, 1) := by decide +kernel
theorem d_D_findCandidate_171 : decode b_D_findCandidate 171 = .ok (.lastore, 1) := by decide +kernel
theorem d_D_findCandidate_172 : decode b_D_findCandidate 172 = .ok (.iinc 3 1, 3) := by decide +kernel
theorem d_D_findCandidate_175 : decode b_D_findCandidate 175 = .ok (.goto (-31), 3) := by decide +kernel
theorem d_D_findCandidate_178 : decode b_D_findCandidate 178 = .ok (.return_, 1) := by decide +kernel
theorem d_D_isRight_0 : decode b_D_isRight 0 = .ok (.iconst 0, 1) := by decide +kernel
theorem d_D_isRight_1 : decode b_D_isRight 1 = .ok (.istore_n 1, 1) := by decide +kernel
theorem d_D_isRight_2 : decode b_D_isRight 2 = .ok (.iload_n 1, 1) := by decide +kernel
theorem d_D_isRight_3 : decode b_D_isRight 3 = .ok (.aload_n 0, 1) := by decide +kernel
theorem d_D_isRight_4 : decode b_D_isRight 4 = .ok (.getfield 57, 3) := by decide +kernel
theorem d_D_isRight_7 : decode b_D_isRight 7 = .ok (.if_icmp .ge 21, 3) := by decide +kernel
theorem d_D_isRight_10 : decode b_D_isRight 10 = .ok (.aload_n 0, 1) := by decide +kernel
theorem d_D_isRight_11 : decode b_D_isRight 11 = .ok (.getfield 16, 3) := by decide +kernel
theorem d_D_isRight_14 : decode b_D_isRight 14 = .ok (.iload_n 1, 1) := by decide +kernel
theorem d_D_isRight_15 : decode b_D_isRight 15 = .ok (.aload_n 0, 1) := by decide +kernel
theorem d_D_isRight_16 : decode b_D_isRight 16 = .ok (.getfield 22, 3) := by decide +kernel
theorem d_D_isRight_19 : decode b_D_isRight 19 = .ok (.iload_n 1, 1) := by decide +kernel
theorem d_D_isRight_20 : decode b_D_isRight 20 = .ok (.laload, 1) := by decide +kernel
theorem d_D_isRight_21 : decode b_D_isRight 21 = .ok (.lastore, 1) := by decide +kernel
theorem d_D_isRight_22 : decode b_D_isRight 22 = .ok (.iinc 1 1, 3) := by decide +kernel
theorem d_D_isRight_25 : decode b_D_isRight 25 = .ok (.goto (-23), 3) := by decide +kernel
theorem d_D_isRight_28 : decode b_D_isRight 28 = .ok (.aload_n 0, 1) := by decide +kernel
theorem d_D_isRight_29 : decode b_D_isRight 29 = .ok (.aload_n 0, 1) := by decide +kernel
theorem d_D_isRight_30 : decode b_D_isRight 30 = .ok (.getfield 16, 3) := by decide +kernel
theorem d_D_isRight_33 : decode b_D_isRight 33 = .ok (.invokevirtual 104, 3) := by decide +kernel
theorem d_D_isRight_36 : decode b_D_isRight 36 = .ok (.iconst 1, 1) := by decide +kernel
theorem d_D_isRight_37 : decode b_D_isRight 37 = .ok (.istore_n 1, 1) := by decide +kernel
theorem d_D_isRight_38 : decode b_D_isRight 38 = .ok (.iconst 0, 1) := by decide +kernel
theorem d_D_isRight_39 : decode b_D_isRight 39 = .ok (.istore_n 2, 1) := by decide +kernel
theorem d_D_isRight_40 : decode b_D_isRight 40 = .ok (.iload_n 2, 1) := by decide +kernel
theorem d_D_isRight_41 : decode b_D_isRight 41 = .ok (.aload_n 0, 1) := by decide +kernel
theorem d_D_isRight_42 : decode b_D_isRight 42 = .ok (.getfield 57, 3) := by decide +kernel
theorem d_D_isRight_45 : decode b_D_isRight 45 = .ok (.if_icmp .ge 33, 3) := by decide +kernel
theorem d_D_isRight_48 : decode b_D_isRight 48 = .ok (.iload_n 1, 1) := by decide +kernel
theorem d_D_isRight_49 : decode b_D_isRight 49 = .ok (.aload_n 0, 1) := by decide +kernel
theorem d_D_isRight_50 : decode b_D_isRight 50 = .ok (.getfield 16, 3) := by decide +kernel
theorem d_D_isRight_53 : decode b_D_isRight 53 = .ok (.iload_n 2, 1) := by decide +kernel
theorem d_D_isRight_54 : decode b_D_isRight 54 = .ok (.laload, 1) := by decide +kernel
theorem d_D_isRight_55 : decode b_D_isRight 55 = .ok (.aload_n 0, 1) := by decide +kernel
theorem d_D_isRight_56 : decode b_D_isRight 56 = .ok (.getfield 7, 3) := by decide +kernel
theorem d_D_isRight_59 : decode b_D_isRight 59 = .ok (.iload_n 2, 1) := by decide +kernel
theorem d_D_isRight_60 : decode b_D_isRight 60 = .ok (.laload, 1) := by decide +kernel
theorem d_D_isRight_61 : decode b_D_isRight 61 = .ok (.lcmp, 1) := by decide +kernel
theorem d_D_isRight_62 : decode b_D_isRight 62 = .ok (.ifCond .ne 7, 3) := by decide +kernel
theorem d_D_isRight_65 : decode b_D_isRight 65 = .ok (.iconst 1, 1) := by decide +kernel
theorem d_D_isRight_66 : decode b_D_isRight 66 = .ok (.goto 4, 3) := by decide +kernel
theorem d_D_isRight_69 : decode b_D_isRight 69 = .ok (.iconst 0, 1) := by decide +kernel
theorem d_D_isRight_70 : decode b_D_isRight 70 = .ok (.iand, 1) := by decide +kernel
theorem d_D_isRight_71 : decode b_D_isRight 71 = .ok (.istore_n 1, 1) := by decide +kernel
theorem d_D_isRight_72 : decode b_D_isRight 72 = .ok (.iinc 2 1, 3) := by decide +kernel
theorem d_D_isRight_75 : decode b_D_isRight 75 = .ok (.goto (-35), 3) := by decide +kernel
theorem d_D_isRight_78 : decode b_D_isRight 78 = .ok (.iload_n 1, 1) := by decide +kernel
theorem d_D_isRight_79 : decode b_D_isRight 79 = .ok (.ireturn, 1) := by decide +kernel
theorem d_D_attempt_0 : decode b_D_attempt 0 = .ok (.aload_n 0, 1) := by decide +kernel
theorem d_D_attempt_1 : decode b_D_attempt 1 = .ok (.dup, 1) := by decide +kernel
theorem d_D_attempt_2 : decode b_D_attempt 2 = .ok (.getfield 122, 3) := by decide +kernel
theorem d_D_attempt_5 : decode b_D_attempt 5 = .ok (.iconst 1, 1) := by decide +kernel
theorem d_D_attempt_6 : decode b_D_attempt 6 = .ok (.iadd, 1) := by decide +kernel
theorem d_D_attempt_7 : decode b_D_attempt 7 = .ok (.putfield 122, 3) := by decide +kernel
theorem d_D_attempt_10 : decode b_D_attempt 10 = .ok (.aload_n 0, 1) := by decide +kernel
theorem d_D_attempt_11 : decode b_D_attempt 11 = .ok (.iconst 0, 1) := by decide +kernel
theorem d_D_attempt_12 : decode b_D_attempt 12 = .ok (.putfield 73, 3) := by decide +kernel
theorem d_D_attempt_15 : decode b_D_attempt 15 = .ok (.aload_n 0, 1) := by decide +kernel
theorem d_D_attempt_16 : decode b_D_attempt 16 = .ok (.invokevirtual 125, 3) := by decide +kernel
theorem d_D_attempt_19 : decode b_D_attempt 19 = .ok (.aload_n 0, 1) := by decide +kernel
theorem d_D_attempt_20 : decode b_D_attempt 20 = .ok (.invokevirtual 128, 3) := by decide +kernel
theorem d_D_attempt_23 : decode b_D_attempt 23 = .ok (.aload_n 0, 1) := by decide +kernel
theorem d_D_attempt_24 : decode b_D_attempt 24 = .ok (.getfield 37, 3) := by decide +kernel
theorem d_D_attempt_27 : decode b_D_attempt 27 = .ok (.ifCond .le 19, 3) := by decide +kernel
theorem d_D_attempt_30 : decode b_D_attempt 30 = .ok (.aload_n 0, 1) := by decide +kernel
theorem d_D_attempt_31 : decode b_D_attempt 31 = .ok (.getfield 28, 3) := by decide +kernel
theorem d_D_attempt_34 : decode b_D_attempt 34 = .ok (.aload_n 0, 1) := by decide +kernel
theorem d_D_attempt_35 : decode b_D_attempt 35 = .ok (.getfield 37, 3) := by decide +kernel
theorem d_D_attempt_38 : decode b_D_attempt 38 = .ok (.laload, 1) := by decide +kernel
theorem d_D_attempt_39 : decode b_D_attempt 39 = .ok (.lconst 0, 1) := by decide +kernel
theorem d_D_attempt_40 : decode b_D_attempt 40 = .ok (.lcmp, 1) := by decide +kernel
theorem d_D_attempt_41 : decode b_D_attempt 41 = .ok (.ifCond .ne 5, 3) := by decide +kernel
theorem d_D_attempt_44 : decode b_D_attempt 44 = .ok (.iconst 3, 1) := by decide +kernel
theorem d_D_attempt_45 : decode b_D_attempt 45 = .ok (.ireturn, 1) := by decide +kernel
theorem d_D_attempt_46 : decode b_D_attempt 46 = .ok (.aload_n 0, 1) := by decide +kernel
theorem d_D_attempt_47 : decode b_D_attempt 47 = .ok (.invokevirtual 131, 3) := by decide +kernel
theorem d_D_attempt_50 : decode b_D_attempt 50 = .ok (.aload_n 0, 1) := by decide +kernel
theorem d_D_attempt_51 : decode b_D_attempt 51 = .ok (.aload_n 0, 1) := by decide +kernel
theorem d_D_attempt_52 : decode b_D_attempt 52 = .ok (.invokevirtual 134, 3) := by decide +kernel
theorem d_D_attempt_55 : decode b_D_attempt 55 = .ok (.putfield 73, 3) := by decide +kernel
theorem d_D_attempt_58 : decode b_D_attempt 58 = .ok (.aload_n 0, 1) := by decide +kernel
theorem d_D_attempt_59 : decode b_D_attempt 59 = .ok (.getfield 73, 3) := by decide +kernel
theorem d_D_attempt_62 : decode b_D_attempt 62 = .ok (.ifCond .eq 7, 3) := by decide +kernel
theorem d_D_attempt_65 : decode b_D_attempt 65 = .ok (.iconst 0, 1) := by decide +kernel
theorem d_D_attempt_66 : decode b_D_attempt 66 = .ok (.goto 4, 3) := by decide +kernel
theorem d_D_attempt_69 : decode b_D_attempt 69 = .ok (.iconst 4, 1) := by decide +kernel
theorem d_D_attempt_70 : decode b_D_attempt 70 = .ok (.ireturn, 1) := by decide +kernel
theorem d_D_solve_0 : decode b_D_solve 0 = .ok (.iload_n 1, 1) := by decide +kernel
theorem d_D_solve_1 : decode b_D_solve 1 = .ok (.iconst 1, 1) := by decide +kernel
theorem d_D_solve_2 : decode b_D_solve 2 = .ok (.bipush 50, 2) := by decide +kernel
theorem d_D_solve_4 : decode b_D_solve 4 = .ok (.invokestatic 77, 3) := by decide +kernel
theorem d_D_solve_7 : decode b_D_solve 7 = .ok (.ifCond .ne 5, 3) := by decide +kernel
theorem d_D_solve_10 : decode b_D_solve 10 = .ok (.iconst 5, 1) := by decide +kernel
theorem d_D_solve_11 : decode b_D_solve 11 = .ok (.ireturn, 1) := by decide +kernel
theorem d_D_solve_12 : decode b_D_solve 12 = .ok (.aload_n 0, 1) := by decide +kernel
theorem d_D_solve_13 : decode b_D_solve 13 = .ok (.invokevirtual 138, 3) := by decide +kernel
theorem d_D_solve_16 : decode b_D_solve 16 = .ok (.istore_n 2, 1) := by decide +kernel
theorem d_D_solve_17 : decode b_D_solve 17 = .ok (.iconst 1, 1) := by decide +kernel
theorem d_D_solve_18 : decode b_D_solve 18 = .ok (.istore_n 3, 1) := by decide +kernel
theorem d_D_solve_19 : decode b_D_solve 19 = .ok (.iload_n 3, 1) := by decide +kernel
theorem d_D_solve_20 : decode b_D_solve 20 = .ok (.iload_n 1, 1) := by decide +kernel
theorem d_D_solve_21 : decode b_D_solve 21 = .ok (.if_icmp .ge 18, 3) := by decide +kernel
theorem d_D_solve_24 : decode b_D_solve 24 = .ok (.iload_n 2, 1) := by decide +kernel
theorem d_D_solve_25 : decode b_D_solve 25 = .ok (.ifCond .eq 14, 3) := by decide +kernel
theorem d_D_solve_28 : decode b_D_solve 28 = .ok (.aload_n 0, 1) := by decide +kernel
theorem d_D_solve_29 : decode b_D_solve 29 = .ok (.invokevirtual 138, 3) := by decide +kernel
theorem d_D_solve_32 : decode b_D_solve 32 = .ok (.istore_n 2, 1) := by decide +kernel
theorem d_D_solve_33 : decode b_D_solve 33 = .ok (.iinc 3 1, 3) := by decide +kernel
theorem d_D_solve_36 : decode b_D_solve 36 = .ok (.goto (-17), 3) := by decide +kernel
theorem d_D_solve_39 : decode b_D_solve 39 = .ok (.iload_n 2, 1) := by decide +kernel
theorem d_D_solve_40 : decode b_D_solve 40 = .ok (.ireturn, 1) := by decide +kernel
theorem d_D_solution_0 : decode b_D_solution 0 = .ok (.aload_n 0, 1) := by decide +kernel
theorem d_D_solution_1 : decode b_D_solution 1 = .ok (.getfield 73, 3) := by decide +kernel
theorem d_D_solution_4 : decode b_D_solution 4 = .ok (.ifCond .eq 27, 3) := by decide +kernel
theorem d_D_solution_7 : decode b_D_solution 7 = .ok (.iload_n 1, 1) := by decide +kernel
theorem d_D_solution_8 : decode b_D_solution 8 = .ok (.iconst 0, 1) := by decide +kernel
theorem d_D_solution_9 : decode b_D_solution 9 = .ok (.aload_n 0, 1) := by decide +kernel
theorem d_D_solution_10 : decode b_D_solution 10 = .ok (.getfield 57, 3) := by decide +kernel
theorem d_D_solution_13 : decode b_D_solution 13 = .ok (.iconst 1, 1) := by decide +kernel
theorem d_D_solution_14 : decode b_D_solution 14 = .ok (.isub, 1) := by decide +kernel
theorem d_D_solution_15 : decode b_D_solution 15 = .ok (.invokestatic 77, 3) := by decide +kernel
theorem d_D_solution_18 : decode b_D_solution 18 = .ok (.ifCond .eq 13, 3) := by decide +kernel
theorem d_D_solution_21 : decode b_D_solution 21 = .ok (.aload_n 0, 1) := by decide +kernel
theorem d_D_solution_22 : decode b_D_solution 22 = .ok (.getfield 22, 3) := by decide +kernel
theorem d_D_solution_25 : decode b_D_solution 25 = .ok (.iload_n 1, 1) := by decide +kernel
theorem d_D_solution_26 : decode b_D_solution 26 = .ok (.laload, 1) := by decide +kernel
theorem d_D_solution_27 : decode b_D_solution 27 = .ok (.l2i, 1) := by decide +kernel
theorem d_D_solution_28 : decode b_D_solution 28 = .ok (.goto 4, 3) := by decide +kernel
theorem d_D_solution_31 : decode b_D_solution 31 = .ok (.iconst (-1), 1) := by decide +kernel
theorem d_D_solution_32 : decode b_D_solution 32 = .ok (.ireturn, 1) := by decide +kernel
theorem d_D_degree_0 : decode b_D_degree 0 = .ok (.aload_n 0, 1) := by decide +kernel
theorem d_D_degree_1 : decode b_D_degree 1 = .ok (.getfield 37, 3) := by decide +kernel
theorem d_D_degree_4 : decode b_D_degree 4 = .ok (.ireturn, 1) := by decide +kernel
theorem d_D_coefficient_0 : decode b_D_coefficient 0 = .ok (.iload_n 1, 1) := by decide +kernel
theorem d_D_coefficient_1 : decode b_D_coefficient 1 = .ok (.iconst 0, 1) := by decide +kernel
theorem d_D_coefficient_2 : decode b_D_coefficient 2 = .ok (.aload_n 0, 1) := by decide +kernel
theorem d_D_coefficient_3 : decode b_D_coefficient 3 = .ok (.getfield 37, 3) := by decide +kernel
theorem d_D_coefficient_6 : decode b_D_coefficient 6 = .ok (.invokestatic 77, 3) := by decide +kernel
theorem d_D_coefficient_9 : decode b_D_coefficient 9 = .ok (.ifCond .eq 18, 3) := by decide +kernel
theorem d_D_coefficient_12 : decode b_D_coefficient 12 = .ok (.aload_n 0, 1) := by decide +kernel
theorem d_D_coefficient_13 : decode b_D_coefficient 13 = .ok (.getfield 28, 3) := by decide +kernel
theorem d_D_coefficient_16 : decode b_D_coefficient 16 = .ok (.aload_n 0, 1) := by decide +kernel
theorem d_D_coefficient_17 : decode b_D_coefficient 17 = .ok (.getfield 37, 3) := by decide +kernel
theorem d_D_coefficient_20 : decode b_D_coefficient 20 = .ok (.iload_n 1, 1) := by decide +kernel
theorem d_D_coefficient_21 : decode b_D_coefficient 21 = .ok (.isub, 1) := by decide +kernel
theorem d_D_coefficient_22 : decode b_D_coefficient 22 = .ok (.laload, 1) := by decide +kernel
theorem d_D_coefficient_23 : decode b_D_coefficient 23 = .ok (.l2i, 1) := by decide +kernel
theorem d_D_coefficient_24 : decode b_D_coefficient 24 = .ok (.goto 4, 3) := by decide +kernel
theorem d_D_coefficient_27 : decode b_D_coefficient 27 = .ok (.iconst (-1), 1) := by decide +kernel
theorem d_D_coefficient_28 : decode b_D_coefficient 28 = .ok (.ireturn, 1) := by decide +kernel
theorem d_D_number_0 : decode b_D_number 0 = .ok (.aload_n 0, 1) := by decide +kernel
theorem d_D_number_1 : decode b_D_number 1 = .ok (.getfield 37, 3) := by decide +kernel
theorem d_D_number_4 : decode b_D_number 4 = .ok (.iconst (-1), 1) := by decide +kernel
theorem d_D_number_5 : decode b_D_number 5 = .ok (.if_icmp .eq 29, 3) := by decide +kernel
theorem d_D_number_8 : decode b_D_number 8 = .ok (.iload_n 1, 1) := by decide +kernel
theorem d_D_number_9 : decode b_D_number 9 = .ok (.iconst 0, 1) := by decide +kernel
theorem d_D_number_10 : decode b_D_number 10 = .ok (.iconst 2, 1) := by decide +kernel
theorem d_D_number_11 : decode b_D_number 11 = .ok (.aload_n 0, 1) := by decide +kernel
theorem d_D_number_12 : decode b_D_number 12 = .ok (.getfield 57, 3) := by decide +kernel
theorem d_D_number_15 : decode b_D_number 15 = .ok (.imul, 1) := by decide +kernel
theorem d_D_number_16 : decode b_D_number 16 = .ok (.iconst 1, 1) := by decide +kernel
theorem d_D_number_17 : decode b_D_number 17 = .ok (.isub, 1) := by decide +kernel
theorem d_D_number_18 : decode b_D_number 18 = .ok (.invokestatic 77, 3) := by decide +kernel
theorem d_D_number_21 : decode b_D_number 21 = .ok (.ifCond .eq 13, 3) := by decide +kernel
theorem d_D_number_24 : decode b_D_number 24 = .ok (.aload_n 0, 1) := by decide +kernel
theorem d_D_number_25 : decode b_D_number 25 = .ok (.getfield 25, 3) := by decide +kernel
theorem d_D_number_28 : decode b_D_number 28 = .ok (.iload_n 1, 1) := by decide +kernel
theorem d_D_number_29 : decode b_D_number 29 = .ok (.laload, 1) := by decide +kernel
theorem d_D_number_30 : decode b_D_number 30 = .ok (.l2i, 1) := by decide +kernel
theorem d_D_number_31 : decode b_D_number 31 = .ok (.goto 4, 3) := by decide +kernel
theorem d_D_number_34 : decode b_D_number 34 = .ok (.iconst (-1), 1) := by decide +kernel
theorem d_D_number_35 : decode b_D_number 35 = .ok (.ireturn, 1) := by decide +kernel
theorem d_D_verify_0 : decode b_D_verify 0 = .ok (.aload_n 0, 1) := by decide +kernel
theorem d_D_verify_1 : decode b_D_verify 1 = .ok (.getfield 73, 3) := by decide +kernel
theorem d_D_verify_4 : decode b_D_verify 4 = .ok (.ifCond .eq 14, 3) := by decide +kernel
theorem d_D_verify_7 : decode b_D_verify 7 = .ok (.aload_n 0, 1) := by decide +kernel
theorem d_D_verify_8 : decode b_D_verify 8 = .ok (.invokevirtual 134, 3) := by decide +kernel
theorem d_D_verify_11 : decode b_D_verify 11 = .ok (.ifCond .eq 7, 3) := by decide +kernel
theorem d_D_verify_14 : decode b_D_verify 14 = .ok (.iconst 1, 1) := by decide +kernel
theorem d_D_verify_15 : decode b_D_verify 15 = .ok (.goto 4, 3) := by decide +kernel
theorem d_D_verify_18 : decode b_D_verify 18 = .ok (.iconst 0, 1) := by decide +kernel
theorem d_D_verify_19 : decode b_D_verify 19 = .ok (.ireturn, 1) := by decide +kernel
theorem d_D_products_0 : decode b_D_products 0 = .ok (.aload_n 0, 1) := by decide +kernel
theorem d_D_products_1 : decode b_D_products 1 = .ok (.getfield 97, 3) := by decide +kernel
theorem d_D_products_4 : decode b_D_products 4 = .ok (.ireturn, 1) := by decide +kernel
theorem d_D_count_0 : decode b_D_count 0 = .ok (.iload_n 1, 1) := by decide +kernel
theorem d_D_count_1 : decode b_D_count 1 = .ok (.tableswitch 61 0 4 #[35, 40, 45, 50, 56], 35) := by decide +kernel
theorem d_D_count_36 : decode b_D_count 36 = .ok (.aload_n 0, 1) := by decide +kernel
theorem d_D_count_37 : decode b_D_count 37 = .ok (.getfield 54, 3) := by decide +kernel
theorem d_D_count_40 : decode b_D_count 40 = .ok (.ireturn, 1) := by decide +kernel
theorem d_D_count_41 : decode b_D_count 41 = .ok (.aload_n 0, 1) := by decide +kernel
theorem d_D_count_42 : decode b_D_count 42 = .ok (.getfield 57, 3) := by decide +kernel
theorem d_D_count_45 : decode b_D_count 45 = .ok (.ireturn, 1) := by decide +kernel
theorem d_D_count_46 : decode b_D_count 46 = .ok (.aload_n 0, 1) := by decide +kernel
theorem d_D_count_47 : decode b_D_count 47 = .ok (.getfield 81, 3) := by decide +kernel
theorem d_D_count_50 : decode b_D_count 50 = .ok (.ireturn, 1) := by decide +kernel
theorem d_D_count_51 : decode b_D_count 51 = .ok (.aload_n 0, 1) := by decide +kernel
theorem d_D_count_52 : decode b_D_count 52 = .ok (.getfield 41, 3) := by decide +kernel
theorem d_D_count_55 : decode b_D_count 55 = .ok (.l2i, 1) := by decide +kernel
theorem d_D_count_56 : decode b_D_count 56 = .ok (.ireturn, 1) := by decide +kernel
theorem d_D_count_57 : decode b_D_count 57 = .ok (.aload_n 0, 1) := by decide +kernel
theorem d_D_count_58 : decode b_D_count 58 = .ok (.getfield 122, 3) := by decide +kernel
theorem d_D_count_61 : decode b_D_count 61 = .ok (.ireturn, 1) := by decide +kernel
theorem d_D_count_62 : decode b_D_count 62 = .ok (.iconst (-1), 1) := by decide +kernel
theorem d_D_count_63 : decode b_D_count 63 = .ok (.ireturn, 1) := by decide +kernel
end
section
theorem d_M_init_0 : decode b_M_init 0 = .ok (.aload_n 0, 1) := by decide +kernel
theorem d_M_init_1 : decode b_M_init 1 = .ok (.invokespecial 1, 3) := by decide +kernel
theorem d_M_init_4 : decode b_M_init 4 = .ok (.aload_n 0, 1) := by decide +kernel
theorem d_M_init_5 : decode b_M_init 5 = .ok (.bipush 100, 2) := by decide +kernel
theorem d_M_init_7 : decode b_M_init 7 = .ok (.newarray .int, 2) := by decide +kernel
theorem d_M_init_9 : decode b_M_init 9 = .ok (.putfield 7, 3) := by decide +kernel
theorem d_M_init_12 : decode b_M_init 12 = .ok (.aload_n 0, 1) := by decide +kernel
theorem d_M_init_13 : decode b_M_init 13 = .ok (.bipush 100, 2) := by decide +kernel
theorem d_M_init_15 : decode b_M_init 15 = .ok (.newarray .int, 2) := by decide +kernel
theorem d_M_init_17 : decode b_M_init 17 = .ok (.putfield 13, 3) := by decide +kernel
theorem d_M_init_20 : decode b_M_init 20 = .ok (.aload_n 0, 1) := by decide +kernel
theorem d_M_init_21 : decode b_M_init 21 = .ok (.bipush 100, 2) := by decide +kernel
theorem d_M_init_23 : decode b_M_init 23 = .ok (.newarray .long, 2) := by decide +kernel
theorem d_M_init_25 : decode b_M_init 25 = .ok (.putfield 16, 3) := by decide +kernel
theorem d_M_init_28 : decode b_M_init 28 = .ok (.aload_n 0, 1) := by decide +kernel
theorem d_M_init_29 : decode b_M_init 29 = .ok (.bipush 16, 2) := by decide +kernel
theorem d_M_init_31 : decode b_M_init 31 = .ok (.newarray .long, 2) := by decide +kernel
theorem d_M_init_33 : decode b_M_init 33 = .ok (.putfield 20, 3) := by decide +kernel
theorem d_M_init_36 : decode b_M_init 36 = .ok (.aload_n 0, 1) := by decide +kernel
theorem d_M_init_37 : decode b_M_init 37 = .ok (.lconst 1, 1) := by decide +kernel
theorem d_M_init_38 : decode b_M_init 38 = .ok (.putfield 23, 3) := by decide +kernel
theorem d_M_init_41 : decode b_M_init 41 = .ok (.aload_n 0, 1) := by decide +kernel
theorem d_M_init_42 : decode b_M_init 42 = .ok (.bipush 16, 2) := by decide +kernel
theorem d_M_init_44 : decode b_M_init 44 = .ok (.newarray .long, 2) := by decide +kernel
theorem d_M_init_46 : decode b_M_init 46 = .ok (.putfield 27, 3) := by decide +kernel
theorem d_M_init_49 : decode b_M_init 49 = .ok (.aload_n 0, 1) := by decide +kernel
theorem d_M_init_50 : decode b_M_init 50 = .ok (.bipush 16, 2) := by decide +kernel
theorem d_M_init_52 : decode b_M_init 52 = .ok (.newarray .long, 2) := by decide +kernel
theorem d_M_init_54 : decode b_M_init 54 = .ok (.putfield 30, 3) := by decide +kernel
theorem d_M_init_57 : decode b_M_init 57 = .ok (.aload_n 0, 1) := by decide +kernel
theorem d_M_init_58 : decode b_M_init 58 = .ok (.bipush 16, 2) := by decide +kernel
theorem d_M_init_60 : decode b_M_init 60 = .ok (.newarray .long, 2) := by decide +kernel
theorem d_M_init_62 : decode b_M_init 62 = .ok (.putfield 33, 3) := by decide +kernel
theorem d_M_init_65 : decode b_M_init 65 = .ok (.aload_n 0, 1) := by decide +kernel
theorem d_M_init_66 : decode b_M_init 66 = .ok (.bipush 32, 2) := by decide +kernel
theorem d_M_init_68 : decode b_M_init 68 = .ok (.newarray .long, 2) := by decide +kernel
theorem d_M_init_70 : decode b_M_init 70 = .ok (.putfield 36, 3) := by decide +kernel
theorem d_M_init_73 : decode b_M_init 73 = .ok (.aload_n 0, 1) := by decide +kernel
theorem d_M_init_74 : decode b_M_init 74 = .ok (.bipush 100, 2) := by decide +kernel
theorem d_M_init_76 : decode b_M_init 76 = .ok (.newarray .long, 2) := by decide +kernel
theorem d_M_init_78 : decode b_M_init 78 = .ok (.putfield 39, 3) := by decide +kernel
theorem d_M_init_81 : decode b_M_init 81 = .ok (.aload_n 0, 1) := by decide +kernel
theorem d_M_init_82 : decode b_M_init 82 = .ok (.bipush 100, 2) := by decide +kernel
theorem d_M_init_84 : decode b_M_init 84 = .ok (.newarray .long, 2) := by decide +kernel
theorem d_M_init_86 : decode b_M_init 86 = .ok (.putfield 42, 3) := by decide +kernel
theorem d_M_init_89 : decode b_M_init 89 = .ok (.aload_n 0, 1) := by decide +kernel
theorem d_M_init_90 : decode b_M_init 90 = .ok (.bipush 100, 2) := by decide +kernel
theorem d_M_init_92 : decode b_M_init 92 = .ok (.newarray .long, 2) := by decide +kernel
theorem d_M_init_94 : decode b_M_init 94 = .ok (.putfield 45, 3) := by decide +kernel
theorem d_M_init_97 : decode b_M_init 97 = .ok (.aload_n 0, 1) := by decide +kernel
theorem d_M_init_98 : decode b_M_init 98 = .ok (.iconst (-1), 1) := by decide +kernel
theorem d_M_init_99 : decode b_M_init 99 = .ok (.putfield 48, 3) := by decide +kernel
theorem d_M_init_102 : decode b_M_init 102 = .ok (.aload_n 0, 1) := by decide +kernel
theorem d_M_init_103 : decode b_M_init 103 = .ok (.bipush 16, 2) := by decide +kernel
theorem d_M_init_105 : decode b_M_init 105 = .ok (.newarray .long, 2) := by decide +kernel
theorem d_M_init_107 : decode b_M_init 107 = .ok (.putfield 52, 3) := by decide +kernel
theorem d_M_init_110 : decode b_M_init 110 = .ok (.iload_n 1, 1) := by decide +kernel
theorem d_M_init_111 : decode b_M_init 111 = .ok (.iconst 2, 1) := by decide +kernel
theorem d_M_init_112 : decode b_M_init 112 = .ok (.if_icmp .ge 7, 3) := by decide +kernel
theorem d_M_init_115 : decode b_M_init 115 = .ok (.iconst 2, 1) := by decide +kernel
theorem d_M_init_116 : decode b_M_init 116 = .ok (.goto 15, 3) := by decide +kernel
theorem d_M_init_119 : decode b_M_init 119 = .ok (.iload_n 1, 1) := by decide +kernel
theorem d_M_init_120 : decode b_M_init 120 = .ok (.ldc 55, 2) := by decide +kernel
theorem d_M_init_122 : decode b_M_init 122 = .ok (.if_icmp .le 8, 3) := by decide +kernel
theorem d_M_init_125 : decode b_M_init 125 = .ok (.ldc 55, 2) := by decide +kernel
theorem d_M_init_127 : decode b_M_init 127 = .ok (.goto 4, 3) := by decide +kernel
theorem d_M_init_130 : decode b_M_init 130 = .ok (.iload_n 1, 1) := by decide +kernel
theorem d_M_init_131 : decode b_M_init 131 = .ok (.istore 4, 2) := by decide +kernel
theorem d_M_init_133 : decode b_M_init 133 = .ok (.iload 4, 2) := by decide +kernel
theorem d_M_init_135 : decode b_M_init 135 = .ok (.invokestatic 56, 3) := by decide +kernel
theorem d_M_init_138 : decode b_M_init 138 = .ok (.ifCond .ne 9, 3) := by decide +kernel
theorem d_M_init_141 : decode b_M_init 141 = .ok (.iinc 4 1, 3) := by decide +kernel
theorem d_M_init_144 : decode b_M_init 144 = .ok (.goto (-11), 3) := by decide +kernel
theorem d_M_init_147 : decode b_M_init 147 = .ok (.aload_n 0, 1) := by decide +kernel
theorem d_M_init_148 : decode b_M_init 148 = .ok (.iload 4, 2) := by decide +kernel
theorem d_M_init_150 : decode b_M_init 150 = .ok (.putfield 60, 3) := by decide +kernel
theorem d_M_init_153 : decode b_M_init 153 = .ok (.aload_n 0, 1) := by decide +kernel
theorem d_M_init_154 : decode b_M_init 154 = .ok (.iload_n 2, 1) := by decide +kernel
theorem d_M_init_155 : decode b_M_init 155 = .ok (.iconst 1, 1) := by decide +kernel
theorem d_M_init_156 : decode b_M_init 156 = .ok (.if_icmp .ge 7, 3) := by decide +kernel
theorem d_M_init_159 : decode b_M_init 159 = .ok (.iconst 1, 1) := by decide +kernel
theorem d_M_init_160 : decode b_M_init 160 = .ok (.goto 15, 3) := by decide +kernel
theorem d_M_init_163 : decode b_M_init 163 = .ok (.iload_n 2, 1) := by decide +kernel
theorem d_M_init_164 : decode b_M_init 164 = .ok (.bipush 16, 2) := by decide +kernel
theorem d_M_init_166 : decode b_M_init 166 = .ok (.if_icmp .le 8, 3) := by decide +kernel
theorem d_M_init_169 : decode b_M_init 169 = .ok (.bipush 16, 2) := by decide +kernel
theorem d_M_init_171 : decode b_M_init 171 = .ok (.goto 4, 3) := by decide +kernel
theorem d_M_init_174 : decode b_M_init 174 = .ok (.iload_n 2, 1) := by decide +kernel
theorem d_M_init_175 : decode b_M_init 175 = .ok (.putfield 63, 3) := by decide +kernel
theorem d_M_init_178 : decode b_M_init 178 = .ok (.aload_n 0, 1) := by decide +kernel
theorem d_M_init_179 : decode b_M_init 179 = .ok (.iload_n 3, 1) := by decide +kernel
theorem d_M_init_180 : decode b_M_init 180 = .ok (.iconst 1, 1) := by decide +kernel
theorem d_M_init_181 : decode b_M_init 181 = .ok (.if_icmp .ge 7, 3) := by decide +kernel
theorem d_M_init_184 : decode b_M_init 184 = .ok (.iconst 1, 1) := by decide +kernel
theorem d_M_init_185 : decode b_M_init 185 = .ok (.goto 15, 3) := by decide +kernel
theorem d_M_init_188 : decode b_M_init 188 = .ok (.iload_n 3, 1) := by decide +kernel
theorem d_M_init_189 : decode b_M_init 189 = .ok (.bipush 100, 2) := by decide +kernel
theorem d_M_init_191 : decode b_M_init 191 = .ok (.if_icmp .le 8, 3) := by decide +kernel
theorem d_M_init_194 : decode b_M_init 194 = .ok (.bipush 100, 2) := by decide +kernel
theorem d_M_init_196 : decode b_M_init 196 = .ok (.goto 4, 3) := by decide +kernel
theorem d_M_init_199 : decode b_M_init 199 = .ok (.iload_n 3, 1) := by decide +kernel
theorem d_M_init_200 : decode b_M_init 200 = .ok (.putfield 66, 3) := by decide +kernel
theorem d_M_init_203 : decode b_M_init 203 = .ok (.return_, 1) := by decide +kernel
theorem d_M_isPrime_0 : decode b_M_isPrime 0 = .ok (.iconst 1, 1) := by decide +kernel
theorem d_M_isPrime_1 : decode b_M_isPrime 1 = .ok (.istore_n 1, 1) := by decide +kernel
theorem d_M_isPrime_2 : decode b_M_isPrime 2 = .ok (.iconst 2, 1) := by decide +kernel
theorem d_M_isPrime_3 : decode b_M_isPrime 3 = .ok (.istore_n 2, 1) := by decide +kernel
theorem d_M_isPrime_4 : decode b_M_isPrime 4 = .ok (.iload_n 2, 1) := by decide +kernel
theorem d_M_isPrime_5 : decode b_M_isPrime 5 = .ok (.iload_n 2, 1) := by decide +kernel
theorem d_M_isPrime_6 : decode b_M_isPrime 6 = .ok (.imul, 1) := by decide +kernel
theorem d_M_isPrime_7 : decode b_M_isPrime 7 = .ok (.iload_n 0, 1) := by decide +kernel
theorem d_M_isPrime_8 : decode b_M_isPrime 8 = .ok (.if_icmp .gt 25, 3) := by decide +kernel
theorem d_M_isPrime_11 : decode b_M_isPrime 11 = .ok (.iload_n 1, 1) := by decide +kernel
theorem d_M_isPrime_12 : decode b_M_isPrime 12 = .ok (.ifCond .eq 21, 3) := by decide +kernel
theorem d_M_isPrime_15 : decode b_M_isPrime 15 = .ok (.iload_n 0, 1) := by decide +kernel
theorem d_M_isPrime_16 : decode b_M_isPrime 16 = .ok (.iload_n 2, 1) := by decide +kernel
theorem d_M_isPrime_17 : decode b_M_isPrime 17 = .ok (.irem, 1) := by decide +kernel
theorem d_M_isPrime_18 : decode b_M_isPrime 18 = .ok (.ifCond .eq 7, 3) := by decide +kernel
theorem d_M_isPrime_21 : decode b_M_isPrime 21 = .ok (.iconst 1, 1) := by decide +kernel
theorem d_M_isPrime_22 : decode b_M_isPrime 22 = .ok (.goto 4, 3) := by decide +kernel
theorem d_M_isPrime_25 : decode b_M_isPrime 25 = .ok (.iconst 0, 1) := by decide +kernel
theorem d_M_isPrime_26 : decode b_M_isPrime 26 = .ok (.istore_n 1, 1) := by decide +kernel
theorem d_M_isPrime_27 : decode b_M_isPrime 27 = .ok (.iinc 2 1, 3) := by decide +kernel
theorem d_M_isPrime_30 : decode b_M_isPrime 30 = .ok (.goto (-26), 3) := by decide +kernel
theorem d_M_isPrime_33 : decode b_M_isPrime 33 = .ok (.iload_n 1, 1) := by decide +kernel
theorem d_M_isPrime_34 : decode b_M_isPrime 34 = .ok (.ireturn, 1) := by decide +kernel
theorem d_M_within_0 : decode b_M_within 0 = .ok (.lload_n 1, 1) := by decide +kernel
theorem d_M_within_1 : decode b_M_within 1 = .ok (.aload_n 0, 1) := by decide +kernel
theorem d_M_within_2 : decode b_M_within 2 = .ok (.getfield 60, 3) := by decide +kernel
theorem d_M_within_5 : decode b_M_within 5 = .ok (.i2l, 1) := by decide +kernel
theorem d_M_within_6 : decode b_M_within 6 = .ok (.lrem, 1) := by decide +kernel
theorem d_M_within_7 : decode b_M_within 7 = .ok (.lstore_n 3, 1) := by decide +kernel
theorem d_M_within_8 : decode b_M_within 8 = .ok (.lload_n 3, 1) := by decide +kernel
theorem d_M_within_9 : decode b_M_within 9 = .ok (.lconst 0, 1) := by decide +kernel
theorem d_M_within_10 : decode b_M_within 10 = .ok (.lcmp, 1) := by decide +kernel
theorem d_M_within_11 : decode b_M_within 11 = .ok (.ifCond .ge 13, 3) := by decide +kernel
theorem d_M_within_14 : decode b_M_within 14 = .ok (.lload_n 3, 1) := by decide +kernel
theorem d_M_within_15 : decode b_M_within 15 = .ok (.aload_n 0, 1) := by decide +kernel
theorem d_M_within_16 : decode b_M_within 16 = .ok (.getfield 60, 3) := by decide +kernel
theorem d_M_within_19 : decode b_M_within 19 = .ok (.i2l, 1) := by decide +kernel
theorem d_M_within_20 : decode b_M_within 20 = .ok (.ladd, 1) := by decide +kernel
theorem d_M_within_21 : decode b_M_within 21 = .ok (.goto 4, 3) := by decide +kernel
theorem d_M_within_24 : decode b_M_within 24 = .ok (.lload_n 3, 1) := by decide +kernel
theorem d_M_within_25 : decode b_M_within 25 = .ok (.lreturn, 1) := by decide +kernel
theorem d_M_forget_0 : decode b_M_forget 0 = .ok (.aload_n 0, 1) := by decide +kernel
theorem d_M_forget_1 : decode b_M_forget 1 = .ok (.iconst 0, 1) := by decide +kernel
theorem d_M_forget_2 : decode b_M_forget 2 = .ok (.putfield 69, 3) := by decide +kernel
theorem d_M_forget_5 : decode b_M_forget 5 = .ok (.aload_n 0, 1) := by decide +kernel
theorem d_M_forget_6 : decode b_M_forget 6 = .ok (.iconst 0, 1) := by decide +kernel
theorem d_M_forget_7 : decode b_M_forget 7 = .ok (.putfield 73, 3) := by decide +kernel
theorem d_M_forget_10 : decode b_M_forget 10 = .ok (.aload_n 0, 1) := by decide +kernel
theorem d_M_forget_11 : decode b_M_forget 11 = .ok (.iconst (-1), 1) := by decide +kernel
theorem d_M_forget_12 : decode b_M_forget 12 = .ok (.putfield 48, 3) := by decide +kernel
theorem d_M_forget_15 : decode b_M_forget 15 = .ok (.return_, 1) := by decide +kernel
theorem d_M_entry_0 : decode b_M_entry 0 = .ok (.iload_n 1, 1) := by decide +kernel
theorem d_M_entry_1 : decode b_M_entry 1 = .ok (.ifCond .lt 23, 3) := by decide +kernel
theorem d_M_entry_4 : decode b_M_entry 4 = .ok (.iload_n 1, 1) := by decide +kernel
theorem d_M_entry_5 : decode b_M_entry 5 = .ok (.aload_n 0, 1) := by decide +kernel
theorem d_M_entry_6 : decode b_M_entry 6 = .ok (.getfield 63, 3) := by decide +kernel
theorem d_M_entry_9 : decode b_M_entry 9 = .ok (.if_icmp .ge 15, 3) := by decide +kernel
theorem d_M_entry_12 : decode b_M_entry 12 = .ok (.iload_n 2, 1) := by decide +kernel
theorem d_M_entry_13 : decode b_M_entry 13 = .ok (.ifCond .lt 11, 3) := by decide +kernel
theorem d_M_entry_16 : decode b_M_entry 16 = .ok (.iload_n 2, 1) := by decide +kernel
theorem d_M_entry_17 : decode b_M_entry 17 = .ok (.aload_n 0, 1) := by decide +kernel
theorem d_M_entry_18 : decode b_M_entry 18 = .ok (.getfield 63, 3) := by decide +kernel
theorem d_M_entry_21 : decode b_M_entry 21 = .ok (.if_icmp .lt 5, 3) := by decide +kernel
theorem d_M_entry_24 : decode b_M_entry 24 = .ok (.iconst 1, 1) := by decide +kernel
theorem d_M_entry_25 : decode b_M_entry 25 = .ok (.ireturn, 1) := by decide +kernel
theorem d_M_entry_26 : decode b_M_entry 26 = .ok (.aload_n 0, 1) := by decide +kernel
theorem d_M_entry_27 : decode b_M_entry 27 = .ok (.getfield 76, 3) := by decide +kernel
theorem d_M_entry_30 : decode b_M_entry 30 = .ok (.aload_n 0, 1) := by decide +kernel
theorem d_M_entry_31 : decode b_M_entry 31 = .ok (.getfield 66, 3) := by decide +kernel
theorem d_M_entry_34 : decode b_M_entry 34 = .ok (.if_icmp .ne 5, 3) := by decide +kernel
theorem d_M_entry_37 : decode b_M_entry 37 = .ok (.iconst 2, 1) := by decide +kernel
theorem d_M_entry_38 : decode b_M_entry 38 = .ok (.ireturn, 1) := by decide +kernel
theorem d_M_entry_39 : decode b_M_entry 39 = .ok (.aload_n 0, 1) := by decide +kernel
theorem d_M_entry_40 : decode b_M_entry 40 = .ok (.getfield 7, 3) := by decide +kernel
theorem d_M_entry_43 : decode b_M_entry 43 = .ok (.aload_n 0, 1) := by decide +kernel
theorem d_M_entry_44 : decode b_M_entry 44 = .ok (.getfield 76, 3) := by decide +kernel
theorem d_M_entry_47 : decode b_M_entry 47 = .ok (.iload_n 1, 1) := by decide +kernel
theorem d_M_entry_48 : decode b_M_entry 48 = .ok (.iastore, 1) := by decide +kernel
theorem d_M_entry_49 : decode b_M_entry 49 = .ok (.aload_n 0, 1) := by decide +kernel
theorem d_M_entry_50 : decode b_M_entry 50 = .ok (.getfield 13, 3) := by decide +kernel
theorem d_M_entry_53 : decode b_M_entry 53 = .ok (.aload_n 0, 1) := by decide +kernel
theorem d_M_entry_54 : decode b_M_entry 54 = .ok (.getfield 76, 3) := by decide +kernel
theorem d_M_entry_57 : decode b_M_entry 57 = .ok (.iload_n 2, 1) := by decide +kernel
theorem d_M_entry_58 : decode b_M_entry 58 = .ok (.iastore, 1) := by decide +kernel
theorem d_M_entry_59 : decode b_M_entry 59 = .ok (.aload_n 0, 1) := by decide +kernel
theorem d_M_entry_60 : decode b_M_entry 60 = .ok (.getfield 16, 3) := by decide +kernel
theorem d_M_entry_63 : decode b_M_entry 63 = .ok (.aload_n 0, 1) := by decide +kernel
theorem d_M_entry_64 : decode b_M_entry 64 = .ok (.getfield 76, 3) := by decide +kernel
theorem d_M_entry_67 : decode b_M_entry 67 = .ok (.aload_n 0, 1) := by decide +kernel
theorem d_M_entry_68 : decode b_M_entry 68 = .ok (.iload_n 3, 1) := by decide +kernel
theorem d_M_entry_69 : decode b_M_entry 69 = .ok (.i2l, 1) := by decide +kernel
theorem d_M_entry_70 : decode b_M_entry 70 = .ok (.invokevirtual 79, 3) := by decide +kernel
theorem d_M_entry_73 : decode b_M_entry 73 = .ok (.lastore, 1) := by decide +kernel
theorem d_M_entry_74 : decode b_M_entry 74 = .ok (.aload_n 0, 1) := by decide +kernel
theorem d_M_entry_75 : decode b_M_entry 75 = .ok (.dup, 1) := by decide +kernel
theorem d_M_entry_76 : decode b_M_entry 76 = .ok (.getfield 76, 3) := by decide +kernel
theorem d_M_entry_79 : decode b_M_entry 79 = .ok (.iconst 1, 1) := by decide +kernel
theorem d_M_entry_80 : decode b_M_entry 80 = .ok (.iadd, 1) := by decide +kernel
theorem d_M_entry_81 : decode b_M_entry 81 = .ok (.putfield 76, 3) := by decide +kernel
theorem d_M_entry_84 : decode b_M_entry 84 = .ok (.aload_n 0, 1) := by decide +kernel
theorem d_M_entry_85 : decode b_M_entry 85 = .ok (.invokevirtual 83, 3) := by decide +kernel
theorem d_M_entry_88 : decode b_M_entry 88 = .ok (.iconst 0, 1) := by decide +kernel
theorem d_M_entry_89 : decode b_M_entry 89 = .ok (.ireturn, 1) := by decide +kernel
theorem d_M_side_0 : decode b_M_side 0 = .ok (.iload_n 1, 1) := by decide +kernel
theorem d_M_side_1 : decode b_M_side 1 = .ok (.ifCond .lt 11, 3) := by decide +kernel
theorem d_M_side_4 : decode b_M_side 4 = .ok (.iload_n 1, 1) := by decide +kernel
theorem d_M_side_5 : decode b_M_side 5 = .ok (.aload_n 0, 1) := by decide +kernel
theorem d_M_side_6 : decode b_M_side 6 = .ok (.getfield 63, 3) := by decide +kernel
theorem d_M_side_9 : decode b_M_side 9 = .ok (.if_icmp .lt 5, 3) := by decide +kernel
theorem d_M_side_12 : decode b_M_side 12 = .ok (.iconst 1, 1) := by decide +kernel
theorem d_M_side_13 : decode b_M_side 13 = .ok (.ireturn, 1) := by decide +kernel
theorem d_M_side_14 : decode b_M_side 14 = .ok (.aload_n 0, 1) := by decide +kernel
theorem d_M_side_15 : decode b_M_side 15 = .ok (.getfield 20, 3) := by decide +kernel
theorem d_M_side_18 : decode b_M_side 18 = .ok (.iload_n 1, 1) := by decide +kernel
theorem d_M_side_19 : decode b_M_side 19 = .ok (.aload_n 0, 1) := by decide +kernel
theorem d_M_side_20 : decode b_M_side 20 = .ok (.iload_n 2, 1) := by decide +kernel
theorem d_M_side_21 : decode b_M_side 21 = .ok (.i2l, 1) := by decide +kernel
theorem d_M_side_22 : decode b_M_side 22 = .ok (.invokevirtual 79, 3) := by decide +kernel
theorem d_M_side_25 : decode b_M_side 25 = .ok (.lastore, 1) := by decide +kernel
theorem d_M_side_26 : decode b_M_side 26 = .ok (.aload_n 0, 1) := by decide +kernel
theorem d_M_side_27 : decode b_M_side 27 = .ok (.invokevirtual 83, 3) := by decide +kernel
theorem d_M_side_30 : decode b_M_side 30 = .ok (.iconst 0, 1) := by decide +kernel
theorem d_M_side_31 : decode b_M_side 31 = .ok (.ireturn, 1) := by decide +kernel
theorem d_M_seed_0 : decode b_M_seed 0 = .ok (.aload_n 0, 1) := by decide +kernel
theorem d_M_seed_1 : decode b_M_seed 1 = .ok (.iload_n 1, 1) := by decide +kernel
theorem d_M_seed_2 : decode b_M_seed 2 = .ok (.ldc 86, 2) := by decide +kernel
theorem d_M_seed_4 : decode b_M_seed 4 = .ok (.iand, 1) := by decide +kernel
theorem d_M_seed_5 : decode b_M_seed 5 = .ok (.i2l, 1) := by decide +kernel
theorem d_M_seed_6 : decode b_M_seed 6 = .ok (.putfield 23, 3) := by decide +kernel
theorem d_M_seed_9 : decode b_M_seed 9 = .ok (.return_, 1) := by decide +kernel
theorem d_M_draw_0 : decode b_M_draw 0 = .ok (.aload_n 0, 1) := by decide +kernel
theorem d_M_draw_1 : decode b_M_draw 1 = .ok (.ldc2_w 87, 3) := by decide +kernel
theorem d_M_draw_4 : decode b_M_draw 4 = .ok (.aload_n 0, 1) := by decide +kernel
theorem d_M_draw_5 : decode b_M_draw 5 = .ok (.getfield 23, 3) := by decide +kernel
theorem d_M_draw_8 : decode b_M_draw 8 = .ok (.lmul, 1) := by decide +kernel
theorem d_M_draw_9 : decode b_M_draw 9 = .ok (.ldc2_w 89, 3) := by decide +kernel
theorem d_M_draw_12 : decode b_M_draw 12 = .ok (.ladd, 1) := by decide +kernel
theorem d_M_draw_13 : decode b_M_draw 13 = .ok (.ldc2_w 91, 3) := by decide +kernel
theorem d_M_draw_16 : decode b_M_draw 16 = .ok (.lrem, 1) := by decide +kernel
theorem d_M_draw_17 : decode b_M_draw 17 = .ok (.putfield 23, 3) := by decide +kernel
theorem d_M_draw_20 : decode b_M_draw 20 = .ok (.aload_n 0, 1) := by decide +kernel
theorem d_M_draw_21 : decode b_M_draw 21 = .ok (.getfield 23, 3) := by decide +kernel
theorem d_M_draw_24 : decode b_M_draw 24 = .ok (.ldc2_w 93, 3) := by decide +kernel
theorem d_M_draw_27 : decode b_M_draw 27 = .ok (.ldiv, 1) := by decide +kernel
theorem d_M_draw_28 : decode b_M_draw 28 = .ok (.aload_n 0, 1) := by decide +kernel
theorem d_M_draw_29 : decode b_M_draw 29 = .ok (.getfield 60, 3) := by decide +kernel
theorem d_M_draw_32 : decode b_M_draw 32 = .ok (.i2l, 1) := by decide +kernel
theorem d_M_draw_33 : decode b_M_draw 33 = .ok (.lrem, 1) := by decide +kernel
theorem d_M_draw_34 : decode b_M_draw 34 = .ok (.lreturn, 1) := by decide +kernel
theorem d_M_product_0 : decode b_M_product 0 = .ok (.aload_n 0, 1) := by decide +kernel
theorem d_M_product_1 : decode b_M_product 1 = .ok (.dup, 1) := by decide +kernel
theorem d_M_product_2 : decode b_M_product 2 = .ok (.getfield 95, 3) := by decide +kernel
theorem d_M_product_5 : decode b_M_product 5 = .ok (.iconst 1, 1) := by decide +kernel
theorem d_M_product_6 : decode b_M_product 6 = .ok (.iadd, 1) := by decide +kernel
theorem d_M_product_7 : decode b_M_product 7 = .ok (.putfield 95, 3) := by decide +kernel
theorem d_M_product_10 : decode b_M_product 10 = .ok (.iconst 0, 1) := by decide +kernel
theorem d_M_product_11 : decode b_M_product 11 = .ok (.istore_n 1, 1) := by decide +kernel
theorem d_M_product_12 : decode b_M_product 12 = .ok (.iload_n 1, 1) := by decide +kernel
theorem d_M_product_13 : decode b_M_product 13 = .ok (.aload_n 0, 1) := by decide +kernel
theorem d_M_product_14 : decode b_M_product 14 = .ok (.getfield 63, 3) := by decide +kernel
theorem d_M_product_17 : decode b_M_product 17 = .ok (.if_icmp .ge 16, 3) := by decide +kernel
theorem d_M_product_20 : decode b_M_product 20 = .ok (.aload_n 0, 1) := by decide +kernel
theorem d_M_product_21 : decode b_M_product 21 = .ok (.getfield 33, 3) := by decide +kernel
theorem d_M_product_24 : decode b_M_product 24 = .ok (.iload_n 1, 1) := by decide +kernel
theorem d_M_product_25 : decode b_M_product 25 = .ok (.lconst 0, 1) := by decide +kernel
theorem d_M_product_26 : decode b_M_product 26 = .ok (.lastore, 1) := by decide +kernel
theorem d_M_product_27 : decode b_M_product 27 = .ok (.iinc 1 1, 3) := by decide +kernel
theorem d_M_product_30 : decode b_M_product 30 = .ok (.goto (-18), 3) := by decide +kernel
theorem d_M_product_33 : decode b_M_product 33 = .ok (.iconst 0, 1) := by decide +kernel
theorem d_M_product_34 : decode b_M_product 34 = .ok (.istore_n 1, 1) := by decide +kernel
theorem d_M_product_35 : decode b_M_product 35 = .ok (.iload_n 1, 1) := by decide +kernel
theorem d_M_product_36 : decode b_M_product 36 = .ok (.aload_n 0, 1) := by decide +kernel
theorem d_M_product_37 : decode b_M_product 37 = .ok (.getfield 76, 3) := by decide +kernel
theorem d_M_product_40 : decode b_M_product 40 = .ok (.if_icmp .ge 56, 3) := by decide +kernel
theorem d_M_product_43 : decode b_M_product 43 = .ok (.aload_n 0, 1) := by decide +kernel
theorem d_M_product_44 : decode b_M_product 44 = .ok (.getfield 33, 3) := by decide +kernel
theorem d_M_product_47 : decode b_M_product 47 = .ok (.aload_n 0, 1) := by decide +kernel
theorem d_M_product_48 : decode b_M_product 48 = .ok (.getfield 7, 3) := by decide +kernel
theorem d_M_product_51 : decode b_M_product 51 = .ok (.iload_n 1, 1) := by decide +kernel
theorem d_M_product_52 : decode b_M_product 52 = .ok (.iaload, 1) := by decide +kernel
theorem d_M_product_53 : decode b_M_product 53 = .ok (.aload_n 0, 1) := by decide +kernel
theorem d_M_product_54 : decode b_M_product 54 = .ok (.getfield 33, 3) := by decide +kernel
theorem d_M_product_57 : decode b_M_product 57 = .ok (.aload_n 0, 1) := by decide +kernel
theorem d_M_product_58 : decode b_M_product 58 = .ok (.getfield 7, 3) := by decide +kernel
theorem d_M_product_61 : decode b_M_product 61 = .ok (.iload_n 1, 1) := by decide +kernel
theorem d_M_product_62 : decode b_M_product 62 = .ok (.iaload, 1) := by decide +kernel
theorem d_M_product_63 : decode b_M_product 63 = .ok (.laload, 1) := by decide +kernel
theorem d_M_product_64 : decode b_M_product 64 = .ok (.aload_n 0, 1) := by decide +kernel
theorem d_M_product_65 : decode b_M_product 65 = .ok (.getfield 16, 3) := by decide +kernel
theorem d_M_product_68 : decode b_M_product 68 = .ok (.iload_n 1, 1) := by decide +kernel
theorem d_M_product_69 : decode b_M_product 69 = .ok (.laload, 1) := by decide +kernel
theorem d_M_product_70 : decode b_M_product 70 = .ok (.aload_n 0, 1) := by decide +kernel
theorem d_M_product_71 : decode b_M_product 71 = .ok (.getfield 30, 3) := by decide +kernel
theorem d_M_product_74 : decode b_M_product 74 = .ok (.aload_n 0, 1) := by decide +kernel
theorem d_M_product_75 : decode b_M_product 75 = .ok (.getfield 13, 3) := by decide +kernel
theorem d_M_product_78 : decode b_M_product 78 = .ok (.iload_n 1, 1) := by decide +kernel
theorem d_M_product_79 : decode b_M_product 79 = .ok (.iaload, 1) := by decide +kernel
theorem d_M_product_80 : decode b_M_product 80 = .ok (.laload, 1) := by decide +kernel
theorem d_M_product_81 : decode b_M_product 81 = .ok (.lmul, 1) := by decide +kernel
theorem d_M_product_82 : decode b_M_product 82 = .ok (.ladd, 1) := by decide +kernel
theorem d_M_product_83 : decode b_M_product 83 = .ok (.aload_n 0, 1) := by decide +kernel
theorem d_M_product_84 : decode b_M_product 84 = .ok (.getfield 60, 3) := by decide +kernel
theorem d_M_product_87 : decode b_M_product 87 = .ok (.i2l, 1) := by decide +kernel
theorem d_M_product_88 : decode b_M_product 88 = .ok (.lrem, 1) := by decide +kernel
theorem d_M_product_89 : decode b_M_product 89 = .ok (.lastore, 1) := by decide +kernel
theorem d_M_product_90 : decode b_M_product 90 = .ok (.iinc 1 1, 3) := by decide +kernel
theorem d_M_product_93 : decode b_M_product 93 = .ok (.goto (-58), 3) := by decide +kernel
theorem d_M_product_96 : decode b_M_product 96 = .ok (.iconst 0, 1) := by decide +kernel
theorem d_M_product_97 : decode b_M_product 97 = .ok (.istore_n 1, 1) := by decide +kernel
theorem d_M_product_98 : decode b_M_product 98 = .ok (.iload_n 1, 1) := by decide +kernel
theorem d_M_product_99 : decode b_M_product 99 = .ok (.aload_n 0, 1) := by decide +kernel
theorem d_M_product_100 : decode b_M_product 100 = .ok (.getfield 63, 3) := by decide +kernel
theorem d_M_product_103 : decode b_M_product 103 = .ok (.if_icmp .ge 21, 3) := by decide +kernel
theorem d_M_product_106 : decode b_M_product 106 = .ok (.aload_n 0, 1) := by decide +kernel
theorem d_M_product_107 : decode b_M_product 107 = .ok (.getfield 30, 3) := by decide +kernel
theorem d_M_product_110 : decode b_M_product 110 = .ok (.iload_n 1, 1) := by decide +kernel
theorem d_M_product_111 : decode b_M_product 111 = .ok (.aload_n 0, 1) := by decide +kernel
theorem d_M_product_112 : decode b_M_product 112 = .ok (.getfield 33, 3) := by decide +kernel
theorem d_M_product_115 : decode b_M_product 115 = .ok (.iload_n 1, 1) := by decide +kernel
theorem d_M_product_116 : decode b_M_product 116 = .ok (.laload, 1) := by decide +kernel
theorem d_M_product_117 : decode b_M_product 117 = .ok (.lastore, 1) := by decide +kernel
theorem d_M_product_118 : decode b_M_product 118 = .ok (.iinc 1 1, 3) := by decide +kernel
theorem d_M_product_121 : decode b_M_product 121 = .ok (.goto (-23), 3) := by decide +kernel
theorem d_M_product_124 : decode b_M_product 124 = .ok (.return_, 1) := by decide +kernel
theorem d_M_power_0 : decode b_M_power 0 = .ok (.lconst 1, 1) := by decide +kernel
theorem d_M_power_1 : decode b_M_power 1 = .ok (.lstore 4, 2) := by decide +kernel
theorem d_M_power_3 : decode b_M_power 3 = .ok (.bipush 30, 2) := by decide +kernel
theorem d_M_power_5 : decode b_M_power 5 = .ok (.istore 6, 2) := by decide +kernel
theorem d_M_power_7 : decode b_M_power 7 = .ok (.iload 6, 2) := by decide +kernel
theorem d_M_power_9 : decode b_M_power 9 = .ok (.ifCond .lt 44, 3) := by decide +kernel
theorem d_M_power_12 : decode b_M_power 12 = .ok (.lload 4, 2) := by decide +kernel
theorem d_M_power_14 : decode b_M_power 14 = .ok (.lload 4, 2) := by decide +kernel
theorem d_M_power_16 : decode b_M_power 16 = .ok (.lmul, 1) := by decide +kernel
theorem d_M_power_17 : decode b_M_power 17 = .ok (.aload_n 0, 1) := by decide +kernel
theorem d_M_power_18 : decode b_M_power 18 = .ok (.getfield 60, 3) := by decide +kernel
theorem d_M_power_21 : decode b_M_power 21 = .ok (.i2l, 1) := by decide +kernel
theorem d_M_power_22 : decode b_M_power 22 = .ok (.lrem, 1) := by decide +kernel
theorem d_M_power_23 : decode b_M_power 23 = .ok (.lstore 4, 2) := by decide +kernel
theorem d_M_power_25 : decode b_M_power 25 = .ok (.iload_n 3, 1) := by decide +kernel
theorem d_M_power_26 : decode b_M_power 26 = .ok (.iload 6, 2) := by decide +kernel
theorem d_M_power_28 : decode b_M_power 28 = .ok (.ishr, 1) := by decide +kernel
theorem d_M_power_29 : decode b_M_power 29 = .ok (.iconst 1, 1) := by decide +kernel
theorem d_M_power_30 : decode b_M_power 30 = .ok (.iand, 1) := by decide +kernel
theorem d_M_power_31 : decode b_M_power 31 = .ok (.iconst 1, 1) := by decide +kernel
theorem d_M_power_32 : decode b_M_power 32 = .ok (.if_icmp .ne 15, 3) := by decide +kernel
theorem d_M_power_35 : decode b_M_power 35 = .ok (.lload 4, 2) := by decide +kernel
theorem d_M_power_37 : decode b_M_power 37 = .ok (.lload_n 1, 1) := by decide +kernel
theorem d_M_power_38 : decode b_M_power 38 = .ok (.lmul, 1) := by decide +kernel
theorem d_M_power_39 : decode b_M_power 39 = .ok (.aload_n 0, 1) := by decide +kernel
theorem d_M_power_40 : decode b_M_power 40 = .ok (.getfield 60, 3) := by decide +kernel
theorem d_M_power_43 : decode b_M_power 43 = .ok (.i2l, 1) := by decide +kernel
theorem d_M_power_44 : decode b_M_power 44 = .ok (.lrem, 1) := by decide +kernel
theorem d_M_power_45 : decode b_M_power 45 = .ok (.lstore 4, 2) := by decide +kernel
theorem d_M_power_47 : decode b_M_power 47 = .ok (.iinc 6 (-1), 3) := by decide +kernel
theorem d_M_power_50 : decode b_M_power 50 = .ok (.goto (-43), 3) := by decide +kernel
theorem d_M_power_53 : decode b_M_power 53 = .ok (.lload 4, 2) := by decide +kernel
theorem d_M_power_55 : decode b_M_power 55 = .ok (.lreturn, 1) := by decide +kernel
theorem d_M_inverse_0 : decode b_M_inverse 0 = .ok (.aload_n 0, 1) := by decide +kernel
theorem d_M_inverse_1 : decode b_M_inverse 1 = .ok (.lload_n 1, 1) := by decide +kernel
theorem d_M_inverse_2 : decode b_M_inverse 2 = .ok (.aload_n 0, 1) := by decide +kernel
theorem d_M_inverse_3 : decode b_M_inverse 3 = .ok (.getfield 60, 3) := by decide +kernel
theorem d_M_inverse_6 : decode b_M_inverse 6 = .ok (.iconst 2, 1) := by decide +kernel
theorem d_M_inverse_7 : decode b_M_inverse 7 = .ok (.isub, 1) := by decide +kernel
theorem d_M_inverse_8 : decode b_M_inverse 8 = .ok (.invokevirtual 98, 3) := by decide +kernel
theorem d_M_inverse_11 : decode b_M_inverse 11 = .ok (.lreturn, 1) := by decide +kernel
theorem d_M_makeRow_0 : decode b_M_makeRow 0 = .ok (.iconst 0, 1) := by decide +kernel
theorem d_M_makeRow_1 : decode b_M_makeRow 1 = .ok (.istore_n 1, 1) := by decide +kernel
theorem d_M_makeRow_2 : decode b_M_makeRow 2 = .ok (.iload_n 1, 1) := by decide +kernel
theorem d_M_makeRow_3 : decode b_M_makeRow 3 = .ok (.aload_n 0, 1) := by decide +kernel
theorem d_M_makeRow_4 : decode b_M_makeRow 4 = .ok (.getfield 63, 3) := by decide +kernel
theorem d_M_makeRow_7 : decode b_M_makeRow 7 = .ok (.if_icmp .ge 19, 3) := by decide +kernel
theorem d_M_makeRow_10 : decode b_M_makeRow 10 = .ok (.aload_n 0, 1) := by decide +kernel
theorem d_M_makeRow_11 : decode b_M_makeRow 11 = .ok (.getfield 27, 3) := by decide +kernel
theorem d_M_makeRow_14 : decode b_M_makeRow 14 = .ok (.iload_n 1, 1) := by decide +kernel
theorem d_M_makeRow_15 : decode b_M_makeRow 15 = .ok (.aload_n 0, 1) := by decide +kernel
theorem d_M_makeRow_16 : decode b_M_makeRow 16 = .ok (.invokevirtual 102, 3) := by decide +kernel
theorem d_M_makeRow_19 : decode b_M_makeRow 19 = .ok (.lastore, 1) := by decide +kernel
theorem d_M_makeRow_20 : decode b_M_makeRow 20 = .ok (.iinc 1 1, 3) := by decide +kernel
theorem d_M_makeRow_23 : decode b_M_makeRow 23 = .ok (.goto (-21), 3) := by decide +kernel
theorem d_M_makeRow_26 : decode b_M_makeRow 26 = .ok (.iconst 0, 1) := by decide +kernel
theorem d_M_makeRow_27 : decode b_M_makeRow 27 = .ok (.istore_n 1, 1) := by decide +kernel
theorem d_M_makeRow_28 : decode b_M_makeRow 28 = .ok (.iload_n 1, 1) := by decide +kernel
theorem d_M_makeRow_29 : decode b_M_makeRow 29 = .ok (.aload_n 0, 1) := by decide +kernel
theorem d_M_makeRow_30 : decode b_M_makeRow 30 = .ok (.getfield 63, 3) := by decide +kernel
theorem d_M_makeRow_33 : decode b_M_makeRow 33 = .ok (.if_icmp .ge 21, 3) := by decide +kernel
theorem d_M_makeRow_36 : decode b_M_makeRow 36 = .ok (.aload_n 0, 1) := by decide +kernel
theorem d_M_makeRow_37 : decode b_M_makeRow 37 = .ok (.getfield 30, 3) := by decide +kernel
theorem d_M_makeRow_40 : decode b_M_makeRow 40 = .ok (.iload_n 1, 1) := by decide +kernel
theorem d_M_makeRow_41 : decode b_M_makeRow 41 = .ok (.aload_n 0, 1) := by decide +kernel
theorem d_M_makeRow_42 : decode b_M_makeRow 42 = .ok (.getfield 20, 3) := by decide +kernel
theorem d_M_makeRow_45 : decode b_M_makeRow 45 = .ok (.iload_n 1, 1) := by decide +kernel
theorem d_M_makeRow_46 : decode b_M_makeRow 46 = .ok (.laload, 1) := by decide +kernel
theorem d_M_makeRow_47 : decode b_M_makeRow 47 = .ok (.lastore, 1) := by decide +kernel
theorem d_M_makeRow_48 : decode b_M_makeRow 48 = .ok (.iinc 1 1, 3) := by decide +kernel
theorem d_M_makeRow_51 : decode b_M_makeRow 51 = .ok (.goto (-23), 3) := by decide +kernel
theorem d_M_makeRow_54 : decode b_M_makeRow 54 = .ok (.iconst 0, 1) := by decide +kernel
theorem d_M_makeRow_55 : decode b_M_makeRow 55 = .ok (.istore_n 1, 1) := by decide +kernel
theorem d_M_makeRow_56 : decode b_M_makeRow 56 = .ok (.iload_n 1, 1) := by decide +kernel
theorem d_M_makeRow_57 : decode b_M_makeRow 57 = .ok (.iconst 2, 1) := by decide +kernel
theorem d_M_makeRow_58 : decode b_M_makeRow 58 = .ok (.aload_n 0, 1) := by decide +kernel
theorem d_M_makeRow_59 : decode b_M_makeRow 59 = .ok (.getfield 63, 3) := by decide +kernel
theorem d_M_makeRow_62 : decode b_M_makeRow 62 = .ok (.imul, 1) := by decide +kernel
theorem d_M_makeRow_63 : decode b_M_makeRow 63 = .ok (.if_icmp .ge 68, 3) := by decide +kernel
theorem d_M_makeRow_66 : decode b_M_makeRow 66 = .ok (.iload_n 1, 1) := by decide +kernel
theorem d_M_makeRow_67 : decode b_M_makeRow 67 = .ok (.ifCond .le 7, 3) := by decide +kernel
theorem d_M_makeRow_70 : decode b_M_makeRow 70 = .ok (.aload_n 0, 1) := by decide +kernel
theorem d_M_makeRow_71 : decode b_M_makeRow 71 = .ok (.invokevirtual 106, 3) := by decide +kernel
theorem d_M_makeRow_74 : decode b_M_makeRow 74 = .ok (.lconst 0, 1) := by decide +kernel
theorem d_M_makeRow_75 : decode b_M_makeRow 75 = .ok (.lstore_n 2, 1) := by decide +kernel
theorem d_M_makeRow_76 : decode b_M_makeRow 76 = .ok (.iconst 0, 1) := by decide +kernel
theorem d_M_makeRow_77 : decode b_M_makeRow 77 = .ok (.istore 4, 2) := by decide +kernel
theorem d_M_makeRow_79 : decode b_M_makeRow 79 = .ok (.iload 4, 2) := by decide +kernel
theorem d_M_makeRow_81 : decode b_M_makeRow 81 = .ok (.aload_n 0, 1) := by decide +kernel
theorem d_M_makeRow_82 : decode b_M_makeRow 82 = .ok (.getfield 63, 3) := by decide +kernel
theorem d_M_makeRow_85 : decode b_M_makeRow 85 = .ok (.if_icmp .ge 33, 3) := by decide +kernel
theorem d_M_makeRow_88 : decode b_M_makeRow 88 = .ok (.lload_n 2, 1) := by decide +kernel
theorem d_M_makeRow_89 : decode b_M_makeRow 89 = .ok (.aload_n 0, 1) := by decide +kernel
theorem d_M_makeRow_90 : decode b_M_makeRow 90 = .ok (.getfield 27, 3) := by decide +kernel
theorem d_M_makeRow_93 : decode b_M_makeRow 93 = .ok (.iload 4, 2) := by decide +kernel
theorem d_M_makeRow_95 : decode b_M_makeRow 95 = .ok (.laload, 1) := by decide +kernel
theorem d_M_makeRow_96 : decode b_M_makeRow 96 = .ok (.aload_n 0, 1) := by decide +kernel
theorem d_M_makeRow_97 : decode b_M_makeRow 97 = .ok (.getfield 30, 3) := by decide +kernel
theorem d_M_makeRow_100 : decode b_M_makeRow 100 = .ok (.iload 4, 2) := by decide +kernel
theorem d_M_makeRow_102 : decode b_M_makeRow 102 = .ok (.laload, 1) := by decide +kernel
theorem d_M_makeRow_103 : decode b_M_makeRow 103 = .ok (.lmul, 1) := by decide +kernel
theorem d_M_makeRow_104 : decode b_M_makeRow 104 = .ok (.ladd, 1) := by decide +kernel
theorem d_M_makeRow_105 : decode b_M_makeRow 105 = .ok (.aload_n 0, 1) := by decide +kernel
theorem d_M_makeRow_106 : decode b_M_makeRow 106 = .ok (.getfield 60, 3) := by decide +kernel
theorem d_M_makeRow_109 : decode b_M_makeRow 109 = .ok (.i2l, 1) := by decide +kernel
theorem d_M_makeRow_110 : decode b_M_makeRow 110 = .ok (.lrem, 1) := by decide +kernel
theorem d_M_makeRow_111 : decode b_M_makeRow 111 = .ok (.lstore_n 2, 1) := by decide +kernel
theorem d_M_makeRow_112 : decode b_M_makeRow 112 = .ok (.iinc 4 1, 3) := by decide +kernel
theorem d_M_makeRow_115 : decode b_M_makeRow 115 = .ok (.goto (-36), 3) := by decide +kernel
theorem d_M_makeRow_118 : decode b_M_makeRow 118 = .ok (.aload_n 0, 1) := by decide +kernel
theorem d_M_makeRow_119 : decode b_M_makeRow 119 = .ok (.getfield 36, 3) := by decide +kernel
theorem d_M_makeRow_122 : decode b_M_makeRow 122 = .ok (.iload_n 1, 1) := by decide +kernel
theorem d_M_makeRow_123 : decode b_M_makeRow 123 = .ok (.lload_n 2, 1) := by decide +kernel
theorem d_M_makeRow_124 : decode b_M_makeRow 124 = .ok (.lastore, 1) := by decide +kernel
theorem d_M_makeRow_125 : decode b_M_makeRow 125 = .ok (.iinc 1 1, 3) := by decide +kernel
theorem d_M_makeRow_128 : decode b_M_makeRow 128 = .ok (.goto (-72), 3) := by decide +kernel
theorem d_M_makeRow_131 : decode b_M_makeRow 131 = .ok (.aload_n 0, 1) := by decide +kernel
theorem d_M_makeRow_132 : decode b_M_makeRow 132 = .ok (.iconst 1, 1) := by decide +kernel
theorem d_M_makeRow_133 : decode b_M_makeRow 133 = .ok (.putfield 73, 3) := by decide +kernel
theorem d_M_makeRow_136 : decode b_M_makeRow 136 = .ok (.return_, 1) := by decide +kernel
theorem d_M_recur_0 : decode b_M_recur 0 = .ok (.iconst 0, 1) := by decide +kernel
theorem d_M_recur_1 : decode b_M_recur 1 = .ok (.istore_n 1, 1) := by decide +kernel
theorem d_M_recur_2 : decode b_M_recur 2 = .ok (.iload_n 1, 1) := by decide +kernel
theorem d_M_recur_3 : decode b_M_recur 3 = .ok (.bipush 100, 2) := by decide +kernel
theorem d_M_recur_5 : decode b_M_recur 5 = .ok (.if_icmp .ge 23, 3) := by decide +kernel
theorem d_M_recur_8 : decode b_M_recur 8 = .ok (.aload_n 0, 1) := by decide +kernel
theorem d_M_recur_9 : decode b_M_recur 9 = .ok (.getfield 39, 3) := by decide +kernel
theorem d_M_recur_12 : decode b_M_recur 12 = .ok (.iload_n 1, 1) := by decide +kernel
theorem d_M_recur_13 : decode b_M_recur 13 = .ok (.lconst 0, 1) := by decide +kernel
theorem d_M_recur_14 : decode b_M_recur 14 = .ok (.lastore, 1) := by decide +kernel
theorem d_M_recur_15 : decode b_M_recur 15 = .ok (.aload_n 0, 1) := by decide +kernel
theorem d_M_recur_16 : decode b_M_recur 16 = .ok (.getfield 42, 3) := by decide +kernel
theorem d_M_recur_19 : decode b_M_recur 19 = .ok (.iload_n 1, 1) := by decide +kernel
theorem d_M_recur_20 : decode b_M_recur 20 = .ok (.lconst 0, 1) := by decide +kernel
theorem d_M_recur_21 : decode b_M_recur 21 = .ok (.lastore, 1) := by decide +kernel
theorem d_M_recur_22 : decode b_M_recur 22 = .ok (.iinc 1 1, 3) := by decide +kernel
theorem d_M_recur_25 : decode b_M_recur 25 = .ok (.goto (-23), 3) := by decide +kernel
theorem d_M_recur_28 : decode b_M_recur 28 = .ok (.aload_n 0, 1) := by decide +kernel
theorem d_M_recur_29 : decode b_M_recur 29 = .ok (.getfield 39, 3) := by decide +kernel
theorem d_M_recur_32 : decode b_M_recur 32 = .ok (.iconst 0, 1) := by decide +kernel
theorem d_M_recur_33 : decode b_M_recur 33 = .ok (.lconst 1, 1) := by decide +kernel
theorem d_M_recur_34 : decode b_M_recur 34 = .ok (.lastore, 1) := by decide +kernel
theorem d_M_recur_35 : decode b_M_recur 35 = .ok (.aload_n 0, 1) := by decide +kernel
theorem d_M_recur_36 : decode b_M_recur 36 = .ok (.getfield 42, 3) := by decide +kernel
theorem d_M_recur_39 : decode b_M_recur 39 = .ok (.iconst 0, 1) := by decide +kernel
theorem d_M_recur_40 : decode b_M_recur 40 = .ok (.lconst 1, 1) := by decide +kernel
theorem d_M_recur_41 : decode b_M_recur 41 = .ok (.lastore, 1) := by decide +kernel
theorem d_M_recur_42 : decode b_M_recur 42 = .ok (.iconst 0, 1) := by decide +kernel
theorem d_M_recur_43 : decode b_M_recur 43 = .ok (.istore_n 1, 1) := by decide +kernel
theorem d_M_recur_44 : decode b_M_recur 44 = .ok (.iconst 1, 1) := by decide +kernel
theorem d_M_recur_45 : decode b_M_recur 45 = .ok (.istore_n 2, 1) := by decide +kernel
theorem d_M_recur_46 : decode b_M_recur 46 = .ok (.lconst 1, 1) := by decide +kernel
theorem d_M_recur_47 : decode b_M_recur 47 = .ok (.lstore_n 3, 1) := by decide +kernel
theorem d_M_recur_48 : decode b_M_recur 48 = .ok (.iconst 0, 1) := by decide +kernel
theorem d_M_recur_49 : decode b_M_recur 49 = .ok (.istore 5, 2) := by decide +kernel
theorem d_M_recur_51 : decode b_M_recur 51 = .ok (.iload 5, 2) := by decide +kernel
theorem d_M_recur_53 : decode b_M_recur 53 = .ok (.iconst 2, 1) := by decide +kernel
theorem d_M_recur_54 : decode b_M_recur 54 = .ok (.aload_n 0, 1) := by decide +kernel
theorem d_M_recur_55 : decode b_M_recur 55 = .ok (.getfield 63, 3) := by decide +kernel
theorem d_M_recur_58 : decode b_M_recur 58 = .ok (.imul, 1) := by decide +kernel
theorem d_M_recur_59 : decode b_M_recur 59 = .ok (.if_icmp .ge 228, 3) := by decide +kernel
theorem d_M_recur_62 : decode b_M_recur 62 = .ok (.aload_n 0, 1) := by decide +kernel
theorem d_M_recur_63 : decode b_M_recur 63 = .ok (.getfield 36, 3) := by decide +kernel
theorem d_M_recur_66 : decode b_M_recur 66 = .ok (.iload 5, 2) := by decide +kernel
theorem d_M_recur_68 : decode b_M_recur 68 = .ok (.laload, 1) := by decide +kernel
theorem d_M_recur_69 : decode b_M_recur 69 = .ok (.lstore 6, 2) := by decide +kernel
theorem d_M_recur_71 : decode b_M_recur 71 = .ok (.iconst 1, 1) := by decide +kernel
theorem d_M_recur_72 : decode b_M_recur 72 = .ok (.istore 8, 2) := by decide +kernel
theorem d_M_recur_74 : decode b_M_recur 74 = .ok (.iload 8, 2) := by decide +kernel
theorem d_M_recur_76 : decode b_M_recur 76 = .ok (.iload_n 1, 1) := by decide +kernel
theorem d_M_recur_77 : decode b_M_recur 77 = .ok (.if_icmp .gt 38, 3) := by decide +kernel
theorem d_M_recur_80 : decode b_M_recur 80 = .ok (.lload 6, 2) := by decide +kernel
theorem d_M_recur_82 : decode b_M_recur 82 = .ok (.aload_n 0, 1) := by decide +kernel
theorem d_M_recur_83 : decode b_M_recur 83 = .ok (.getfield 39, 3) := by decide +kernel
theorem d_M_recur_86 : decode b_M_recur 86 = .ok (.iload 8, 2) := by decide +kernel
theorem d_M_recur_88 : decode b_M_recur 88 = .ok (.laload, 1) := by decide +kernel
theorem d_M_recur_89 : decode b_M_recur 89 = .ok (.aload_n 0, 1) := by decide +kernel
theorem d_M_recur_90 : decode b_M_recur 90 = .ok (.getfield 36, 3) := by decide +kernel
theorem d_M_recur_93 : decode b_M_recur 93 = .ok (.iload 5, 2) := by decide +kernel
theorem d_M_recur_95 : decode b_M_recur 95 = .ok (.iload 8, 2) := by decide +kernel
theorem d_M_recur_97 : decode b_M_recur 97 = .ok (.isub, 1) := by decide +kernel
theorem d_M_recur_98 : decode b_M_recur 98 = .ok (.laload, 1) := by decide +kernel
theorem d_M_recur_99 : decode b_M_recur 99 = .ok (.lmul, 1) := by decide +kernel
theorem d_M_recur_100 : decode b_M_recur 100 = .ok (.ladd, 1) := by decide +kernel
theorem d_M_recur_101 : decode b_M_recur 101 = .ok (.aload_n 0, 1) := by decide +kernel
theorem d_M_recur_102 : decode b_M_recur 102 = .ok (.getfield 60, 3) := by decide +kernel
theorem d_M_recur_105 : decode b_M_recur 105 = .ok (.i2l, 1) := by decide +kernel
theorem d_M_recur_106 : decode b_M_recur 106 = .ok (.lrem, 1) := by decide +kernel
theorem d_M_recur_107 : decode b_M_recur 107 = .ok (.lstore 6, 2) := by decide +kernel
theorem d_M_recur_109 : decode b_M_recur 109 = .ok (.iinc 8 1, 3) := by decide +kernel
theorem d_M_recur_112 : decode b_M_recur 112 = .ok (.goto (-38), 3) := by decide +kernel
theorem d_M_recur_115 : decode b_M_recur 115 = .ok (.lload 6, 2) := by decide +kernel
theorem d_M_recur_117 : decode b_M_recur 117 = .ok (.lconst 0, 1) := by decide +kernel
theorem d_M_recur_118 : decode b_M_recur 118 = .ok (.lcmp, 1) := by decide +kernel
theorem d_M_recur_119 : decode b_M_recur 119 = .ok (.ifCond .ne 9, 3) := by decide +kernel
theorem d_M_recur_122 : decode b_M_recur 122 = .ok (.iinc 2 1, 3) := by decide +kernel
theorem d_M_recur_125 : decode b_M_recur 125 = .ok (.goto 156, 3) := by decide +kernel
theorem d_M_recur_128 : decode b_M_recur 128 = .ok (.iconst 0, 1) := by decide +kernel
theorem d_M_recur_129 : decode b_M_recur 129 = .ok (.istore 8, 2) := by decide +kernel
theorem d_M_recur_131 : decode b_M_recur 131 = .ok (.iload 8, 2) := by decide +kernel
theorem d_M_recur_133 : decode b_M_recur 133 = .ok (.bipush 100, 2) := by decide +kernel
theorem d_M_recur_135 : decode b_M_recur 135 = .ok (.if_icmp .ge 23, 3) := by decide +kernel
theorem d_M_recur_138 : decode b_M_recur 138 = .ok (.aload_n 0, 1) := by decide +kernel
theorem d_M_recur_139 : decode b_M_recur 139 = .ok (.getfield 45, 3) := by decide +kernel
theorem d_M_recur_142 : decode b_M_recur 142 = .ok (.iload 8, 2) := by decide +kernel
theorem d_M_recur_144 : decode b_M_recur 144 = .ok (.aload_n 0, 1) := by decide +kernel
theorem d_M_recur_145 : decode b_M_recur 145 = .ok (.getfield 39, 3) := by decide +kernel
theorem d_M_recur_148 : decode b_M_recur 148 = .ok (.iload 8, 2) := by decide +kernel
theorem d_M_recur_150 : decode b_M_recur 150 = .ok (.laload, 1) := by decide +kernel
theorem d_M_recur_151 : decode b_M_recur 151 = .ok (.lastore, 1) := by decide +kernel
theorem d_M_recur_152 : decode b_M_recur 152 = .ok (.iinc 8 1, 3) := by decide +kernel
theorem d_M_recur_155 : decode b_M_recur 155 = .ok (.goto (-24), 3) := by decide +kernel
theorem d_M_recur_158 : decode b_M_recur 158 = .ok (.lload 6, 2) := by decide +kernel
theorem d_M_recur_160 : decode b_M_recur 160 = .ok (.aload_n 0, 1) := by decide +kernel
theorem d_M_recur_161 : decode b_M_recur 161 = .ok (.lload_n 3, 1) := by decide +kernel
theorem d_M_recur_162 : decode b_M_recur 162 = .ok (.invokevirtual 109, 3) := by decide +kernel
theorem d_M_recur_165 : decode b_M_recur 165 = .ok (.lmul, 1) := by decide +kernel
theorem d_M_recur_166 : decode b_M_recur 166 = .ok (.aload_n 0, 1) := by decide +kernel
theorem d_M_recur_167 : decode b_M_recur 167 = .ok (.getfield 60, 3) := by decide +kernel
theorem d_M_recur_170 : decode b_M_recur 170 = .ok (.i2l, 1) := by decide +kernel
theorem d_M_recur_171 : decode b_M_recur 171 = .ok (.lrem, 1) := by decide +kernel
theorem d_M_recur_172 : decode b_M_recur 172 = .ok (.lstore 8, 2) := by decide +kernel
theorem d_M_recur_174 : decode b_M_recur 174 = .ok (.iconst 0, 1) := by decide +kernel
theorem d_M_recur_175 : decode b_M_recur 175 = .ok (.istore 10, 2) := by decide +kernel
theorem d_M_recur_177 : decode b_M_recur 177 = .ok (.iload 10, 2) := by decide +kernel
theorem d_M_recur_179 : decode b_M_recur 179 = .ok (.iload_n 2, 1) := by decide +kernel
theorem d_M_recur_180 : decode b_M_recur 180 = .ok (.iadd, 1) := by decide +kernel
theorem d_M_recur_181 : decode b_M_recur 181 = .ok (.bipush 100, 2) := by decide +kernel
theorem d_M_recur_183 : decode b_M_recur 183 = .ok (.if_icmp .ge 42, 3) := by decide +kernel
theorem d_M_recur_186 : decode b_M_recur 186 = .ok (.aload_n 0, 1) := by decide +kernel
theorem d_M_recur_187 : decode b_M_recur 187 = .ok (.getfield 39, 3) := by decide +kernel
theorem d_M_recur_190 : decode b_M_recur 190 = .ok (.iload 10, 2) := by decide +kernel
theorem d_M_recur_192 : decode b_M_recur 192 = .ok (.iload_n 2, 1) := by decide +kernel
theorem d_M_recur_193 : decode b_M_recur 193 = .ok (.iadd, 1) := by decide +kernel
theorem d_M_recur_194 : decode b_M_recur 194 = .ok (.aload_n 0, 1) := by decide +kernel
theorem d_M_recur_195 : decode b_M_recur 195 = .ok (.aload_n 0, 1) := by decide +kernel
theorem d_M_recur_196 : decode b_M_recur 196 = .ok (.getfield 39, 3) := by decide +kernel
theorem d_M_recur_199 : decode b_M_recur 199 = .ok (.iload 10, 2) := by decide +kernel
theorem d_M_recur_201 : decode b_M_recur 201 = .ok (.iload_n 2, 1) := by decide +kernel
theorem d_M_recur_202 : decode b_M_recur 202 = .ok (.iadd, 1) := by decide +kernel
theorem d_M_recur_203 : decode b_M_recur 203 = .ok (.laload, 1) := by decide +kernel
theorem d_M_recur_204 : decode b_M_recur 204 = .ok (.lload 8, 2) := by decide +kernel
theorem d_M_recur_206 : decode b_M_recur 206 = .ok (.aload_n 0, 1) := by decide +kernel
theorem d_M_recur_207 : decode b_M_recur 207 = .ok (.getfield 42, 3) := by decide +kernel
theorem d_M_recur_210 : decode b_M_recur 210 = .ok (.iload 10, 2) := by decide +kernel
theorem d_M_recur_212 : decode b_M_recur 212 = .ok (.laload, 1) := by decide +kernel
theorem d_M_recur_213 : decode b_M_recur 213 = .ok (.lmul, 1) := by decide +kernel
theorem d_M_recur_214 : decode b_M_recur 214 = .ok (.lsub, 1) := by decide +kernel
theorem d_M_recur_215 : decode b_M_recur 215 = .ok (.invokevirtual 79, 3) := by decide +kernel
theorem d_M_recur_218 : decode b_M_recur 218 = .ok (.lastore, 1) := by decide +kernel
theorem d_M_recur_219 : decode b_M_recur 219 = .ok (.iinc 10 1, 3) := by decide +kernel
theorem d_M_recur_222 : decode b_M_recur 222 = .ok (.goto (-45), 3) := by decide +kernel
theorem d_M_recur_225 : decode b_M_recur 225 = .ok (.iconst 2, 1) := by decide +kernel
theorem d_M_recur_226 : decode b_M_recur 226 = .ok (.iload_n 1, 1) := by decide +kernel
theorem d_M_recur_227 : decode b_M_recur 227 = .ok (.imul, 1) := by decide +kernel
theorem d_M_recur_228 : decode b_M_recur 228 = .ok (.iload 5, 2) := by decide +kernel
theorem d_M_recur_230 : decode b_M_recur 230 = .ok (.if_icmp .gt 48, 3) := by decide +kernel
theorem d_M_recur_233 : decode b_M_recur 233 = .ok (.iload 5, 2) := by decide +kernel
theorem d_M_recur_235 : decode b_M_recur 235 = .ok (.iconst 1, 1) := by decide +kernel
theorem d_M_recur_236 : decode b_M_recur 236 = .ok (.iadd, 1) := by decide +kernel
theorem d_M_recur_237 : decode b_M_recur 237 = .ok (.iload_n 1, 1) := by decide +kernel
theorem d_M_recur_238 : decode b_M_recur 238 = .ok (.isub, 1) := by decide +kernel
theorem d_M_recur_239 : decode b_M_recur 239 = .ok (.istore_n 1, 1) := by decide +kernel
theorem d_M_recur_240 : decode b_M_recur 240 = .ok (.iconst 0, 1) := by decide +kernel
theorem d_M_recur_241 : decode b_M_recur 241 = .ok (.istore 10, 2) := by decide +kernel
theorem d_M_recur_243 : decode b_M_recur 243 = .ok (.iload 10, 2) := by decide +kernel
theorem d_M_recur_245 : decode b_M_recur 245 = .ok (.bipush 100, 2) := by decide +kernel
theorem d_M_recur_247 : decode b_M_recur 247 = .ok (.if_icmp .ge 23, 3) := by decide +kernel
theorem d_M_recur_250 : decode b_M_recur 250 = .ok (.aload_n 0, 1) := by decide +kernel
theorem d_M_recur_251 : decode b_M_recur 251 = .ok (.getfield 42, 3) := by decide +kernel
theorem d_M_recur_254 : decode b_M_recur 254 = .ok (.iload 10, 2) := by decide +kernel
theorem d_M_recur_256 : decode b_M_recur 256 = .ok (.aload_n 0, 1) := by decide +kernel
theorem d_M_recur_257 : decode b_M_recur 257 = .ok (.getfield 45, 3) := by decide +kernel
theorem d_M_recur_260 : decode b_M_recur 260 = .ok (.iload 10, 2) := by decide +kernel
theorem d_M_recur_262 : decode b_M_recur 262 = .ok (.laload, 1) := by decide +kernel
theorem d_M_recur_263 : decode b_M_recur 263 = .ok (.lastore, 1) := by decide +kernel
theorem d_M_recur_264 : decode b_M_recur 264 = .ok (.iinc 10 1, 3) := by decide +kernel
theorem d_M_recur_267 : decode b_M_recur 267 = .ok (.goto (-24), 3) := by decide +kernel
theorem d_M_recur_270 : decode b_M_recur 270 = .ok (.lload 6, 2) := by decide +kernel
theorem d_M_recur_272 : decode b_M_recur 272 = .ok (.lstore_n 3, 1) := by decide +kernel
theorem d_M_recur_273 : decode b_M_recur 273 = .ok (.iconst 1, 1) := by decide +kernel
theorem d_M_recur_274 : decode b_M_recur 274 = .ok (.istore_n 2, 1) := by decide +kernel
theorem d_M_recur_275 : decode b_M_recur 275 = .ok (.goto 6, 3) := by decide +kernel
theorem d_M_recur_278 : decode b_M_recur 278 = .ok (.iinc 2 1, 3) := by decide +kernel
theorem d_M_recur_281 : decode b_M_recur 281 = .ok (.iinc 5 1, 3) := by decide +kernel
theorem d_M_recur_284 : decode b_M_recur 284 = .ok (.goto (-233), 3) := by decide +kernel
theorem d_M_recur_287 : decode b_M_recur 287 = .ok (.aload_n 0, 1) := by decide +kernel
theorem d_M_recur_288 : decode b_M_recur 288 = .ok (.iload_n 1, 1) := by decide +kernel
theorem d_M_recur_289 : decode b_M_recur 289 = .ok (.putfield 48, 3) := by decide +kernel
theorem d_M_recur_292 : decode b_M_recur 292 = .ok (.return_, 1) := by decide +kernel
theorem d_M_holds_0 : decode b_M_holds 0 = .ok (.iconst 0, 1) := by decide +kernel
theorem d_M_holds_1 : decode b_M_holds 1 = .ok (.istore_n 1, 1) := by decide +kernel
theorem d_M_holds_2 : decode b_M_holds 2 = .ok (.iload_n 1, 1) := by decide +kernel
theorem d_M_holds_3 : decode b_M_holds 3 = .ok (.aload_n 0, 1) := by decide +kernel
theorem d_M_holds_4 : decode b_M_holds 4 = .ok (.getfield 63, 3) := by decide +kernel
theorem d_M_holds_7 : decode b_M_holds 7 = .ok (.if_icmp .ge 21, 3) := by decide +kernel
theorem d_M_holds_10 : decode b_M_holds 10 = .ok (.aload_n 0, 1) := by decide +kernel
theorem d_M_holds_11 : decode b_M_holds 11 = .ok (.getfield 30, 3) := by decide +kernel
theorem d_M_holds_14 : decode b_M_holds 14 = .ok (.iload_n 1, 1) := by decide +kernel
theorem d_M_holds_15 : decode b_M_holds 15 = .ok (.aload_n 0, 1) := by decide +kernel
theorem d_M_holds_16 : decode b_M_holds 16 = .ok (.getfield 52, 3) := by decide +kernel
theorem d_M_holds_19 : decode b_M_holds 19 = .ok (.iload_n 1, 1) := by decide +kernel
theorem d_M_holds_20 : decode b_M_holds 20 = .ok (.laload, 1) := by decide +kernel
theorem d_M_holds_21 : decode b_M_holds 21 = .ok (.lastore, 1) := by decide +kernel
theorem d_M_holds_22 : decode b_M_holds 22 = .ok (.iinc 1 1, 3) := by decide +kernel
theorem d_M_holds_25 : decode b_M_holds 25 = .ok (.goto (-23), 3) := by decide +kernel
theorem d_M_holds_28 : decode b_M_holds 28 = .ok (.aload_n 0, 1) := by decide +kernel
theorem d_M_holds_29 : decode b_M_holds 29 = .ok (.invokevirtual 106, 3) := by decide +kernel
theorem d_M_holds_32 : decode b_M_holds 32 = .ok (.iconst 1, 1) := by decide +kernel
theorem d_M_holds_33 : decode b_M_holds 33 = .ok (.istore_n 1, 1) := by decide +kernel
theorem d_M_holds_34 : decode b_M_holds 34 = .ok (.iconst 0, 1) := by decide +kernel
theorem d_M_holds_35 : decode b_M_holds 35 = .ok (.istore_n 2, 1) := by decide +kernel
theorem d_M_holds_36 : decode b_M_holds 36 = .ok (.iload_n 2, 1) := by decide +kernel
theorem d_M_holds_37 : decode b_M_holds 37 = .ok (.aload_n 0, 1) := by decide +kernel
theorem d_M_holds_38 : decode b_M_holds 38 = .ok (.getfield 63, 3) := by decide +kernel
theorem d_M_holds_41 : decode b_M_holds 41 = .ok (.if_icmp .ge 35, 3) := by decide +kernel
theorem d_M_holds_44 : decode b_M_holds 44 = .ok (.iload_n 1, 1) := by decide +kernel
theorem d_M_holds_45 : decode b_M_holds 45 = .ok (.ifCond .eq 23, 3) := by decide +kernel
theorem d_M_holds_48 : decode b_M_holds 48 = .ok (.aload_n 0, 1) := by decide +kernel
theorem d_M_holds_49 : decode b_M_holds 49 = .ok (.getfield 30, 3) := by decide +kernel
theorem d_M_holds_52 : decode b_M_holds 52 = .ok (.iload_n 2, 1) := by decide +kernel
theorem d_M_holds_53 : decode b_M_holds 53 = .ok (.laload, 1) := by decide +kernel
theorem d_M_holds_54 : decode b_M_holds 54 = .ok (.aload_n 0, 1) := by decide +kernel
theorem d_M_holds_55 : decode b_M_holds 55 = .ok (.getfield 20, 3) := by decide +kernel
theorem d_M_holds_58 : decode b_M_holds 58 = .ok (.iload_n 2, 1) := by decide +kernel
theorem d_M_holds_59 : decode b_M_holds 59 = .ok (.laload, 1) := by decide +kernel
theorem d_M_holds_60 : decode b_M_holds 60 = .ok (.lcmp, 1) := by decide +kernel
theorem d_M_holds_61 : decode b_M_holds 61 = .ok (.ifCond .ne 7, 3) := by decide +kernel
theorem d_M_holds_64 : decode b_M_holds 64 = .ok (.iconst 1, 1) := by decide +kernel
theorem d_M_holds_65 : decode b_M_holds 65 = .ok (.goto 4, 3) := by decide +kernel
theorem d_M_holds_68 : decode b_M_holds 68 = .ok (.iconst 0, 1) := by decide +kernel
theorem d_M_holds_69 : decode b_M_holds 69 = .ok (.istore_n 1, 1) := by decide +kernel
theorem d_M_holds_70 : decode b_M_holds 70 = .ok (.iinc 2 1, 3) := by decide +kernel
theorem d_M_holds_73 : decode b_M_holds 73 = .ok (.goto (-37), 3) := by decide +kernel
theorem d_M_holds_76 : decode b_M_holds 76 = .ok (.iload_n 1, 1) := by decide +kernel
theorem d_M_holds_77 : decode b_M_holds 77 = .ok (.ireturn, 1) := by decide +kernel
theorem d_M_makeCandidate_0 : decode b_M_makeCandidate 0 = .ok (.iconst 0, 1) := by decide +kernel
theorem d_M_makeCandidate_1 : decode b_M_makeCandidate 1 = .ok (.istore_n 1, 1) := by decide +kernel
theorem d_M_makeCandidate_2 : decode b_M_makeCandidate 2 = .ok (.iload_n 1, 1) := by decide +kernel
theorem d_M_makeCandidate_3 : decode b_M_makeCandidate 3 = .ok (.aload_n 0, 1) := by decide +kernel
theorem d_M_makeCandidate_4 : decode b_M_makeCandidate 4 = .ok (.getfield 63, 3) := by decide +kernel
theorem d_M_makeCandidate_7 : decode b_M_makeCandidate 7 = .ok (.if_icmp .ge 32, 3) := by decide +kernel
theorem d_M_makeCandidate_10 : decode b_M_makeCandidate 10 = .ok (.aload_n 0, 1) := by decide +kernel
theorem d_M_makeCandidate_11 : decode b_M_makeCandidate 11 = .ok (.getfield 30, 3) := by decide +kernel
theorem d_M_makeCandidate_14 : decode b_M_makeCandidate 14 = .ok (.iload_n 1, 1) := by decide +kernel
theorem d_M_makeCandidate_15 : decode b_M_makeCandidate 15 = .ok (.aload_n 0, 1) := by decide +kernel
theorem d_M_makeCandidate_16 : decode b_M_makeCandidate 16 = .ok (.getfield 48, 3) := by decide +kernel
theorem d_M_makeCandidate_19 : decode b_M_makeCandidate 19 = .ok (.ifCond .ne 7, 3) := by decide +kernel
theorem d_M_makeCandidate_22 : decode b_M_makeCandidate 22 = .ok (.lconst 0, 1) := by decide +kernel
theorem d_M_makeCandidate_23 : decode b_M_makeCandidate 23 = .ok (.goto 9, 3) := by decide +kernel
theorem d_M_makeCandidate_26 : decode b_M_makeCandidate 26 = .ok (.aload_n 0, 1) := by decide +kernel
theorem d_M_makeCandidate_27 : decode b_M_makeCandidate 27 = .ok (.getfield 20, 3) := by decide +kernel
theorem d_M_makeCandidate_30 : decode b_M_makeCandidate 30 = .ok (.iload_n 1, 1) := by decide +kernel
theorem d_M_makeCandidate_31 : decode b_M_makeCandidate 31 = .ok (.laload, 1) := by decide +kernel
theorem d_M_makeCandidate_32 : decode b_M_makeCandidate 32 = .ok (.lastore, 1) := by decide +kernel
theorem d_M_makeCandidate_33 : decode b_M_makeCandidate 33 = .ok (.iinc 1 1, 3) := by decide +kernel
theorem d_M_makeCandidate_36 : decode b_M_makeCandidate 36 = .ok (.goto (-34), 3) := by decide +kernel
theorem d_M_makeCandidate_39 : decode b_M_makeCandidate 39 = .ok (.iconst 1, 1) := by decide +kernel
theorem d_M_makeCandidate_40 : decode b_M_makeCandidate 40 = .ok (.istore_n 1, 1) := by decide +kernel
theorem d_M_makeCandidate_41 : decode b_M_makeCandidate 41 = .ok (.iload_n 1, 1) := by decide +kernel
theorem d_M_makeCandidate_42 : decode b_M_makeCandidate 42 = .ok (.aload_n 0, 1) := by decide +kernel
theorem d_M_makeCandidate_43 : decode b_M_makeCandidate 43 = .ok (.getfield 48, 3) := by decide +kernel
theorem d_M_makeCandidate_46 : decode b_M_makeCandidate 46 = .ok (.if_icmp .ge 61, 3) := by decide +kernel
theorem d_M_makeCandidate_49 : decode b_M_makeCandidate 49 = .ok (.aload_n 0, 1) := by decide +kernel
theorem d_M_makeCandidate_50 : decode b_M_makeCandidate 50 = .ok (.invokevirtual 106, 3) := by decide +kernel
theorem d_M_makeCandidate_53 : decode b_M_makeCandidate 53 = .ok (.iconst 0, 1) := by decide +kernel
theorem d_M_makeCandidate_54 : decode b_M_makeCandidate 54 = .ok (.istore_n 2, 1) := by decide +kernel
theorem d_M_makeCandidate_55 : decode b_M_makeCandidate 55 = .ok (.iload_n 2, 1) := by decide +kernel
theorem d_M_makeCandidate_56 : decode b_M_makeCandidate 56 = .ok (.aload_n 0, 1) := by decide +kernel
theorem d_M_makeCandidate_57 : decode b_M_makeCandidate 57 = .ok (.getfield 63, 3) := by decide +kernel
theorem d_M_makeCandidate_60 : decode b_M_makeCandidate 60 = .ok (.if_icmp .ge 41, 3) := by decide +kernel
theorem d_M_makeCandidate_63 : decode b_M_makeCandidate 63 = .ok (.aload_n 0, 1) := by decide +kernel
theorem d_M_makeCandidate_64 : decode b_M_makeCandidate 64 = .ok (.getfield 30, 3) := by decide +kernel
theorem d_M_makeCandidate_67 : decode b_M_makeCandidate 67 = .ok (.iload_n 2, 1) := by decide +kernel
theorem d_M_makeCandidate_68 : decode b_M_makeCandidate 68 = .ok (.aload_n 0, 1) := by decide +kernel
theorem d_M_makeCandidate_69 : decode b_M_makeCandidate 69 = .ok (.getfield 30, 3) := by decide +kernel
theorem d_M_makeCandidate_72 : decode b_M_makeCandidate 72 = .ok (.iload_n 2, 1) := by decide +kernel
theorem d_M_makeCandidate_73 : decode b_M_makeCandidate 73 = .ok (.laload, 1) := by decide +kernel
theorem d_M_makeCandidate_74 : decode b_M_makeCandidate 74 = .ok (.aload_n 0, 1) := by decide +kernel
theorem d_M_makeCandidate_75 : decode b_M_makeCandidate 75 = .ok (.getfield 39, 3) := by decide +kernel
theorem d_M_makeCandidate_78 : decode b_M_makeCandidate 78 = .ok (.iload_n 1, 1) := by decide +kernel
theorem d_M_makeCandidate_79 : decode b_M_makeCandidate 79 = .ok (.laload, 1) := by decide +kernel
theorem d_M_makeCandidate_80 : decode b_M_makeCandidate 80 = .ok (.aload_n 0, 1) := by decide +kernel
theorem d_M_makeCandidate_81 : decode b_M_makeCandidate 81 = .ok (.getfield 20, 3) := by decide +kernel
theorem d_M_makeCandidate_84 : decode b_M_makeCandidate 84 = .ok (.iload_n 2, 1) := by decide +kernel
theorem d_M_makeCandidate_85 : decode b_M_makeCandidate 85 = .ok (.laload, 1) := by decide +kernel
theorem d_M_makeCandidate_86 : decode b_M_makeCandidate 86 = .ok (.lmul, 1) := by decide +kernel
theorem d_M_makeCandidate_87 : decode b_M_makeCandidate 87 = .ok (.ladd, 1) := by decide +kernel
theorem d_M_makeCandidate_88 : decode b_M_makeCandidate 88 = .ok (.aload_n 0, 1) := by decide +kernel
theorem d_M_makeCandidate_89 : decode b_M_makeCandidate 89 = .ok (.getfield 60, 3) := by decide +kernel
theorem d_M_makeCandidate_92 : decode b_M_makeCandidate 92 = .ok (.i2l, 1) := by decide +kernel
theorem d_M_makeCandidate_93 : decode b_M_makeCandidate 93 = .ok (.lrem, 1) := by decide +kernel
theorem d_M_makeCandidate_94 : decode b_M_makeCandidate 94 = .ok (.lastore, 1) := by decide +kernel
theorem d_M_makeCandidate_95 : decode b_M_makeCandidate 95 = .ok (.iinc 2 1, 3) := by decide +kernel
theorem d_M_makeCandidate_98 : decode b_M_makeCandidate 98 = .ok (.goto (-43), 3) := by decide +kernel
theorem d_M_makeCandidate_101 : decode b_M_makeCandidate 101 = .ok (.iinc 1 1, 3) := by decide +kernel
theorem d_M_makeCandidate_104 : decode b_M_makeCandidate 104 = .ok (.goto (-63), 3) := by decide +kernel
theorem d_M_makeCandidate_107 : decode b_M_makeCandidate 107 = .ok (.aload_n 0, 1) := by decide +kernel
theorem d_M_makeCandidate_108 : decode b_M_makeCandidate 108 = .ok (.getfield 48, 3) := by decide +kernel
theorem d_M_makeCandidate_111 : decode b_M_makeCandidate 111 = .ok (.ifCond .ne 7, 3) := by decide +kernel
theorem d_M_makeCandidate_114 : decode b_M_makeCandidate 114 = .ok (.lconst 0, 1) := by decide +kernel
theorem d_M_makeCandidate_115 : decode b_M_makeCandidate 115 = .ok (.goto 21, 3) := by decide +kernel
theorem d_M_makeCandidate_118 : decode b_M_makeCandidate 118 = .ok (.aload_n 0, 1) := by decide +kernel
theorem d_M_makeCandidate_119 : decode b_M_makeCandidate 119 = .ok (.aload_n 0, 1) := by decide +kernel
theorem d_M_makeCandidate_120 : decode b_M_makeCandidate 120 = .ok (.aload_n 0, 1) := by decide +kernel
theorem d_M_makeCandidate_121 : decode b_M_makeCandidate 121 = .ok (.getfield 39, 3) := by decide +kernel
theorem d_M_makeCandidate_124 : decode b_M_makeCandidate 124 = .ok (.aload_n 0, 1) := by decide +kernel
theorem d_M_makeCandidate_125 : decode b_M_makeCandidate 125 = .ok (.getfield 48, 3) := by decide +kernel
theorem d_M_makeCandidate_128 : decode b_M_makeCandidate 128 = .ok (.laload, 1) := by decide +kernel
theorem d_M_makeCandidate_129 : decode b_M_makeCandidate 129 = .ok (.lneg, 1) := by decide +kernel
theorem d_M_makeCandidate_130 : decode b_M_makeCandidate 130 = .ok (.invokevirtual 79, 3) := by decide +kernel
theorem d_M_makeCandidate_133 : decode b_M_makeCandidate 133 = .ok (.invokevirtual 109, 3) := by decide +kernel
theorem d_M_makeCandidate_136 : decode b_M_makeCandidate 136 = .ok (.lstore_n 1, 1) := by decide +kernel
theorem d_M_makeCandidate_137 : decode b_M_makeCandidate 137 = .ok (.iconst 0, 1) := by decide +kernel
theorem d_M_makeCandidate_138 : decode b_M_makeCandidate 138 = .ok (.istore_n 3, 1) := by decide +kernel
theorem d_M_makeCandidate_139 : decode b_M_makeCandidate 139 = .ok (.iload_n 3, 1) := by decide +kernel
theorem d_M_makeCandidate_140 : decode b_M_makeCandidate 140 = .ok (.aload_n 0, 1) := by decide +kernel
theorem d_M_makeCandidate_141 : decode b_M_makeCandidate 141 = .ok (.getfield 63, 3) := by decide +kernel
theorem d_M_makeCandidate_144 : decode b_M_makeCandidate 144 = .ok (.if_icmp .ge 29, 3) := by decide +kernel
theorem d_M_makeCandidate_147 : decode b_M_makeCandidate 147 = .ok (.aload_n 0, 1) := by decide +kernel
theorem d_M_makeCandidate_148 : decode b_M_makeCandidate 148 = .ok (.getfield 52, 3) := by decide +kernel
theorem d_M_makeCandidate_151 : decode b_M_makeCandidate 151 = .ok (.iload_n 3, 1) := by decide +kernel
theorem d_M_makeCandidate_152 : decode b_M_makeCandidate 152 = .ok (.aload_n 0, 1) := by decide +kernel
theorem d_M_makeCandidate_153 : decode b_M_makeCandidate 153 = .ok (.getfield 30, 3) := by decide +kernel
theorem d_M_makeCandidate_156 : decode b_M_makeCandidate 156 = .ok (.iload_n 3, 1) := by decide +kernel
theorem d_M_makeCandidate_157 : decode b_M_makeCandidate 157 = .ok (.laload, 1) := by decide +kernel
theorem d_M_makeCandidate_158 : decode b_M_makeCandidate 158 = .ok (.lload_n 1, 1) := by decide +kernel
theorem d_M_makeCandidate_159 : decode b_M_makeCandidate 159 = .ok (.lmul, 1) := by decide +kernel
theorem d_M_makeCandidate_160 : decode b_M_makeCandidate 160 = .ok (.aload_n 0, 1) := by decide +kernel
theorem d_M_makeCandidate_161 : decode b_M_makeCandidate 161 = .ok (.getfield 60, 3) := by decide +kernel
theorem d_M_makeCandidate_164 : decode b_M_makeCandidate 164 = .ok (.i2l, 1) := by decide +kernel
theorem d_M_makeCandidate_165 : decode b_M_makeCandidate 165 = .ok (.lrem, 1) := by decide +kernel
theorem d_M_makeCandidate_166 : decode b_M_makeCandidate 166 = .ok (.lastore, 1) := by decide +kernel
theorem d_M_makeCandidate_167 : decode b_M_makeCandidate 167 = .ok (.iinc 3 1, 3) := by decide +kernel
theorem d_M_makeCandidate_170 : decode b_M_makeCandidate 170 = .ok (.goto (-31), 3) := by decide +kernel
theorem d_M_makeCandidate_173 : decode b_M_makeCandidate 173 = .ok (.return_, 1) := by decide +kernel
theorem d_M_attempt_0 : decode b_M_attempt 0 = .ok (.aload_n 0, 1) := by decide +kernel
theorem d_M_attempt_1 : decode b_M_attempt 1 = .ok (.dup, 1) := by decide +kernel
theorem d_M_attempt_2 : decode b_M_attempt 2 = .ok (.getfield 112, 3) := by decide +kernel
theorem d_M_attempt_5 : decode b_M_attempt 5 = .ok (.iconst 1, 1) := by decide +kernel
theorem d_M_attempt_6 : decode b_M_attempt 6 = .ok (.iadd, 1) := by decide +kernel
theorem d_M_attempt_7 : decode b_M_attempt 7 = .ok (.putfield 112, 3) := by decide +kernel
theorem d_M_attempt_10 : decode b_M_attempt 10 = .ok (.aload_n 0, 1) := by decide +kernel
theorem d_M_attempt_11 : decode b_M_attempt 11 = .ok (.iconst 0, 1) := by decide +kernel
theorem d_M_attempt_12 : decode b_M_attempt 12 = .ok (.putfield 69, 3) := by decide +kernel
theorem d_M_attempt_15 : decode b_M_attempt 15 = .ok (.aload_n 0, 1) := by decide +kernel
theorem d_M_attempt_16 : decode b_M_attempt 16 = .ok (.invokevirtual 115, 3) := by decide +kernel
theorem d_M_attempt_19 : decode b_M_attempt 19 = .ok (.aload_n 0, 1) := by decide +kernel
theorem d_M_attempt_20 : decode b_M_attempt 20 = .ok (.invokevirtual 118, 3) := by decide +kernel
theorem d_M_attempt_23 : decode b_M_attempt 23 = .ok (.aload_n 0, 1) := by decide +kernel
theorem d_M_attempt_24 : decode b_M_attempt 24 = .ok (.getfield 48, 3) := by decide +kernel
theorem d_M_attempt_27 : decode b_M_attempt 27 = .ok (.ifCond .le 19, 3) := by decide +kernel
theorem d_M_attempt_30 : decode b_M_attempt 30 = .ok (.aload_n 0, 1) := by decide +kernel
theorem d_M_attempt_31 : decode b_M_attempt 31 = .ok (.getfield 39, 3) := by decide +kernel
theorem d_M_attempt_34 : decode b_M_attempt 34 = .ok (.aload_n 0, 1) := by decide +kernel
theorem d_M_attempt_35 : decode b_M_attempt 35 = .ok (.getfield 48, 3) := by decide +kernel
theorem d_M_attempt_38 : decode b_M_attempt 38 = .ok (.laload, 1) := by decide +kernel
theorem d_M_attempt_39 : decode b_M_attempt 39 = .ok (.lconst 0, 1) := by decide +kernel
theorem d_M_attempt_40 : decode b_M_attempt 40 = .ok (.lcmp, 1) := by decide +kernel
theorem d_M_attempt_41 : decode b_M_attempt 41 = .ok (.ifCond .ne 5, 3) := by decide +kernel
theorem d_M_attempt_44 : decode b_M_attempt 44 = .ok (.iconst 3, 1) := by decide +kernel
theorem d_M_attempt_45 : decode b_M_attempt 45 = .ok (.ireturn, 1) := by decide +kernel
theorem d_M_attempt_46 : decode b_M_attempt 46 = .ok (.aload_n 0, 1) := by decide +kernel
theorem d_M_attempt_47 : decode b_M_attempt 47 = .ok (.invokevirtual 121, 3) := by decide +kernel
theorem d_M_attempt_50 : decode b_M_attempt 50 = .ok (.aload_n 0, 1) := by decide +kernel
theorem d_M_attempt_51 : decode b_M_attempt 51 = .ok (.aload_n 0, 1) := by decide +kernel
theorem d_M_attempt_52 : decode b_M_attempt 52 = .ok (.invokevirtual 124, 3) := by decide +kernel
theorem d_M_attempt_55 : decode b_M_attempt 55 = .ok (.putfield 69, 3) := by decide +kernel
theorem d_M_attempt_58 : decode b_M_attempt 58 = .ok (.aload_n 0, 1) := by decide +kernel
theorem d_M_attempt_59 : decode b_M_attempt 59 = .ok (.getfield 69, 3) := by decide +kernel
theorem d_M_attempt_62 : decode b_M_attempt 62 = .ok (.ifCond .eq 7, 3) := by decide +kernel
theorem d_M_attempt_65 : decode b_M_attempt 65 = .ok (.iconst 0, 1) := by decide +kernel
theorem d_M_attempt_66 : decode b_M_attempt 66 = .ok (.goto 4, 3) := by decide +kernel
theorem d_M_attempt_69 : decode b_M_attempt 69 = .ok (.iconst 4, 1) := by decide +kernel
theorem d_M_attempt_70 : decode b_M_attempt 70 = .ok (.ireturn, 1) := by decide +kernel
theorem d_M_solve_0 : decode b_M_solve 0 = .ok (.iload_n 1, 1) := by decide +kernel
theorem d_M_solve_1 : decode b_M_solve 1 = .ok (.iconst 1, 1) := by decide +kernel
theorem d_M_solve_2 : decode b_M_solve 2 = .ok (.if_icmp .lt 9, 3) := by decide +kernel
theorem d_M_solve_5 : decode b_M_solve 5 = .ok (.iload_n 1, 1) := by decide +kernel
theorem d_M_solve_6 : decode b_M_solve 6 = .ok (.bipush 50, 2) := by decide +kernel
theorem d_M_solve_8 : decode b_M_solve 8 = .ok (.if_icmp .le 5, 3) := by decide +kernel
theorem d_M_solve_11 : decode b_M_solve 11 = .ok (.iconst 5, 1) := by decide +kernel
theorem d_M_solve_12 : decode b_M_solve 12 = .ok (.ireturn, 1) := by decide +kernel
theorem d_M_solve_13 : decode b_M_solve 13 = .ok (.aload_n 0, 1) := by decide +kernel
theorem d_M_solve_14 : decode b_M_solve 14 = .ok (.invokevirtual 128, 3) := by decide +kernel
theorem d_M_solve_17 : decode b_M_solve 17 = .ok (.istore_n 2, 1) := by decide +kernel
theorem d_M_solve_18 : decode b_M_solve 18 = .ok (.iconst 1, 1) := by decide +kernel
theorem d_M_solve_19 : decode b_M_solve 19 = .ok (.istore_n 3, 1) := by decide +kernel
theorem d_M_solve_20 : decode b_M_solve 20 = .ok (.iload_n 3, 1) := by decide +kernel
theorem d_M_solve_21 : decode b_M_solve 21 = .ok (.iload_n 1, 1) := by decide +kernel
theorem d_M_solve_22 : decode b_M_solve 22 = .ok (.if_icmp .ge 18, 3) := by decide +kernel
theorem d_M_solve_25 : decode b_M_solve 25 = .ok (.iload_n 2, 1) := by decide +kernel
theorem d_M_solve_26 : decode b_M_solve 26 = .ok (.ifCond .eq 14, 3) := by decide +kernel
theorem d_M_solve_29 : decode b_M_solve 29 = .ok (.aload_n 0, 1) := by decide +kernel
theorem d_M_solve_30 : decode b_M_solve 30 = .ok (.invokevirtual 128, 3) := by decide +kernel
theorem d_M_solve_33 : decode b_M_solve 33 = .ok (.istore_n 2, 1) := by decide +kernel
theorem d_M_solve_34 : decode b_M_solve 34 = .ok (.iinc 3 1, 3) := by decide +kernel
theorem d_M_solve_37 : decode b_M_solve 37 = .ok (.goto (-17), 3) := by decide +kernel
theorem d_M_solve_40 : decode b_M_solve 40 = .ok (.iload_n 2, 1) := by decide +kernel
theorem d_M_solve_41 : decode b_M_solve 41 = .ok (.ireturn, 1) := by decide +kernel
theorem d_M_solution_0 : decode b_M_solution 0 = .ok (.aload_n 0, 1) := by decide +kernel
theorem d_M_solution_1 : decode b_M_solution 1 = .ok (.getfield 69, 3) := by decide +kernel
theorem d_M_solution_4 : decode b_M_solution 4 = .ok (.ifCond .eq 25, 3) := by decide +kernel
theorem d_M_solution_7 : decode b_M_solution 7 = .ok (.iload_n 1, 1) := by decide +kernel
theorem d_M_solution_8 : decode b_M_solution 8 = .ok (.ifCond .lt 21, 3) := by decide +kernel
theorem d_M_solution_11 : decode b_M_solution 11 = .ok (.iload_n 1, 1) := by decide +kernel
theorem d_M_solution_12 : decode b_M_solution 12 = .ok (.aload_n 0, 1) := by decide +kernel
theorem d_M_solution_13 : decode b_M_solution 13 = .ok (.getfield 63, 3) := by decide +kernel
theorem d_M_solution_16 : decode b_M_solution 16 = .ok (.if_icmp .ge 13, 3) := by decide +kernel
theorem d_M_solution_19 : decode b_M_solution 19 = .ok (.aload_n 0, 1) := by decide +kernel
theorem d_M_solution_20 : decode b_M_solution 20 = .ok (.getfield 52, 3) := by decide +kernel
theorem d_M_solution_23 : decode b_M_solution 23 = .ok (.iload_n 1, 1) := by decide +kernel
theorem d_M_solution_24 : decode b_M_solution 24 = .ok (.laload, 1) := by decide +kernel
theorem d_M_solution_25 : decode b_M_solution 25 = .ok (.l2i, 1) := by decide +kernel
theorem d_M_solution_26 : decode b_M_solution 26 = .ok (.goto 4, 3) := by decide +kernel
theorem d_M_solution_29 : decode b_M_solution 29 = .ok (.iconst (-1), 1) := by decide +kernel
theorem d_M_solution_30 : decode b_M_solution 30 = .ok (.ireturn, 1) := by decide +kernel
theorem d_M_degree_0 : decode b_M_degree 0 = .ok (.aload_n 0, 1) := by decide +kernel
theorem d_M_degree_1 : decode b_M_degree 1 = .ok (.getfield 48, 3) := by decide +kernel
theorem d_M_degree_4 : decode b_M_degree 4 = .ok (.ireturn, 1) := by decide +kernel
theorem d_M_coefficient_0 : decode b_M_coefficient 0 = .ok (.aload_n 0, 1) := by decide +kernel
theorem d_M_coefficient_1 : decode b_M_coefficient 1 = .ok (.getfield 48, 3) := by decide +kernel
theorem d_M_coefficient_4 : decode b_M_coefficient 4 = .ok (.ifCond .lt 15, 3) := by decide +kernel
theorem d_M_coefficient_7 : decode b_M_coefficient 7 = .ok (.iload_n 1, 1) := by decide +kernel
theorem d_M_coefficient_8 : decode b_M_coefficient 8 = .ok (.ifCond .lt 11, 3) := by decide +kernel
theorem d_M_coefficient_11 : decode b_M_coefficient 11 = .ok (.iload_n 1, 1) := by decide +kernel
theorem d_M_coefficient_12 : decode b_M_coefficient 12 = .ok (.aload_n 0, 1) := by decide +kernel
theorem d_M_coefficient_13 : decode b_M_coefficient 13 = .ok (.getfield 48, 3) := by decide +kernel
theorem d_M_coefficient_16 : decode b_M_coefficient 16 = .ok (.if_icmp .le 7, 3) := by decide +kernel
theorem d_M_coefficient_19 : decode b_M_coefficient 19 = .ok (.iconst (-1), 1) := by decide +kernel
theorem d_M_coefficient_20 : decode b_M_coefficient 20 = .ok (.goto 15, 3) := by decide +kernel
theorem d_M_coefficient_23 : decode b_M_coefficient 23 = .ok (.aload_n 0, 1) := by decide +kernel
theorem d_M_coefficient_24 : decode b_M_coefficient 24 = .ok (.getfield 39, 3) := by decide +kernel
theorem d_M_coefficient_27 : decode b_M_coefficient 27 = .ok (.aload_n 0, 1) := by decide +kernel
theorem d_M_coefficient_28 : decode b_M_coefficient 28 = .ok (.getfield 48, 3) := by decide +kernel
theorem d_M_coefficient_31 : decode b_M_coefficient 31 = .ok (.iload_n 1, 1) := by decide +kernel
theorem d_M_coefficient_32 : decode b_M_coefficient 32 = .ok (.isub, 1) := by decide +kernel
theorem d_M_coefficient_33 : decode b_M_coefficient 33 = .ok (.laload, 1) := by decide +kernel
theorem d_M_coefficient_34 : decode b_M_coefficient 34 = .ok (.l2i, 1) := by decide +kernel
theorem d_M_coefficient_35 : decode b_M_coefficient 35 = .ok (.ireturn, 1) := by decide +kernel
theorem d_M_number_0 : decode b_M_number 0 = .ok (.aload_n 0, 1) := by decide +kernel
theorem d_M_number_1 : decode b_M_number 1 = .ok (.getfield 73, 3) := by decide +kernel
theorem d_M_number_4 : decode b_M_number 4 = .ok (.ifCond .eq 27, 3) := by decide +kernel
theorem d_M_number_7 : decode b_M_number 7 = .ok (.iload_n 1, 1) := by decide +kernel
theorem d_M_number_8 : decode b_M_number 8 = .ok (.ifCond .lt 23, 3) := by decide +kernel
theorem d_M_number_11 : decode b_M_number 11 = .ok (.iload_n 1, 1) := by decide +kernel
theorem d_M_number_12 : decode b_M_number 12 = .ok (.iconst 2, 1) := by decide +kernel
theorem d_M_number_13 : decode b_M_number 13 = .ok (.aload_n 0, 1) := by decide +kernel
theorem d_M_number_14 : decode b_M_number 14 = .ok (.getfield 63, 3) := by decide +kernel
theorem d_M_number_17 : decode b_M_number 17 = .ok (.imul, 1) := by decide +kernel
theorem d_M_number_18 : decode b_M_number 18 = .ok (.if_icmp .ge 13, 3) := by decide +kernel
theorem d_M_number_21 : decode b_M_number 21 = .ok (.aload_n 0, 1) := by decide +kernel
theorem d_M_number_22 : decode b_M_number 22 = .ok (.getfield 36, 3) := by decide +kernel
theorem d_M_number_25 : decode b_M_number 25 = .ok (.iload_n 1, 1) := by decide +kernel
theorem d_M_number_26 : decode b_M_number 26 = .ok (.laload, 1) := by decide +kernel
theorem d_M_number_27 : decode b_M_number 27 = .ok (.l2i, 1) := by decide +kernel
theorem d_M_number_28 : decode b_M_number 28 = .ok (.goto 4, 3) := by decide +kernel
theorem d_M_number_31 : decode b_M_number 31 = .ok (.iconst (-1), 1) := by decide +kernel
theorem d_M_number_32 : decode b_M_number 32 = .ok (.ireturn, 1) := by decide +kernel
theorem d_M_verify_0 : decode b_M_verify 0 = .ok (.aload_n 0, 1) := by decide +kernel
theorem d_M_verify_1 : decode b_M_verify 1 = .ok (.getfield 69, 3) := by decide +kernel
theorem d_M_verify_4 : decode b_M_verify 4 = .ok (.ifCond .eq 14, 3) := by decide +kernel
theorem d_M_verify_7 : decode b_M_verify 7 = .ok (.aload_n 0, 1) := by decide +kernel
theorem d_M_verify_8 : decode b_M_verify 8 = .ok (.invokevirtual 124, 3) := by decide +kernel
theorem d_M_verify_11 : decode b_M_verify 11 = .ok (.ifCond .eq 7, 3) := by decide +kernel
theorem d_M_verify_14 : decode b_M_verify 14 = .ok (.iconst 1, 1) := by decide +kernel
theorem d_M_verify_15 : decode b_M_verify 15 = .ok (.goto 4, 3) := by decide +kernel
theorem d_M_verify_18 : decode b_M_verify 18 = .ok (.iconst 0, 1) := by decide +kernel
theorem d_M_verify_19 : decode b_M_verify 19 = .ok (.ireturn, 1) := by decide +kernel
theorem d_M_products_0 : decode b_M_products 0 = .ok (.aload_n 0, 1) := by decide +kernel
theorem d_M_products_1 : decode b_M_products 1 = .ok (.getfield 95, 3) := by decide +kernel
theorem d_M_products_4 : decode b_M_products 4 = .ok (.ireturn, 1) := by decide +kernel
theorem d_M_count_0 : decode b_M_count 0 = .ok (.iload_n 1, 1) := by decide +kernel
theorem d_M_count_1 : decode b_M_count 1 = .ok (.tableswitch 61 0 4 #[35, 40, 45, 50, 56], 35) := by decide +kernel
theorem d_M_count_36 : decode b_M_count 36 = .ok (.aload_n 0, 1) := by decide +kernel
theorem d_M_count_37 : decode b_M_count 37 = .ok (.getfield 60, 3) := by decide +kernel
theorem d_M_count_40 : decode b_M_count 40 = .ok (.ireturn, 1) := by decide +kernel
theorem d_M_count_41 : decode b_M_count 41 = .ok (.aload_n 0, 1) := by decide +kernel
theorem d_M_count_42 : decode b_M_count 42 = .ok (.getfield 63, 3) := by decide +kernel
theorem d_M_count_45 : decode b_M_count 45 = .ok (.ireturn, 1) := by decide +kernel
theorem d_M_count_46 : decode b_M_count 46 = .ok (.aload_n 0, 1) := by decide +kernel
theorem d_M_count_47 : decode b_M_count 47 = .ok (.getfield 76, 3) := by decide +kernel
theorem d_M_count_50 : decode b_M_count 50 = .ok (.ireturn, 1) := by decide +kernel
theorem d_M_count_51 : decode b_M_count 51 = .ok (.aload_n 0, 1) := by decide +kernel
theorem d_M_count_52 : decode b_M_count 52 = .ok (.getfield 23, 3) := by decide +kernel
theorem d_M_count_55 : decode b_M_count 55 = .ok (.l2i, 1) := by decide +kernel
theorem d_M_count_56 : decode b_M_count 56 = .ok (.ireturn, 1) := by decide +kernel
theorem d_M_count_57 : decode b_M_count 57 = .ok (.aload_n 0, 1) := by decide +kernel
theorem d_M_count_58 : decode b_M_count 58 = .ok (.getfield 112, 3) := by decide +kernel
theorem d_M_count_61 : decode b_M_count 61 = .ok (.ireturn, 1) := by decide +kernel
theorem d_M_count_62 : decode b_M_count 62 = .ok (.iconst (-1), 1) := by decide +kernel
theorem d_M_count_63 : decode b_M_count 63 = .ok (.ireturn, 1) := by decide +kernel
end
section
theorem d_L_cell_0 : decode b_L_cell 0 = .ok (.iload_n 1, 1) := by decide +kernel
theorem d_L_cell_1 : decode b_L_cell 1 = .ok (.aload_n 0, 1) := by decide +kernel
theorem d_L_cell_2 : decode b_L_cell 2 = .ok (.arraylength, 1) := by decide +kernel
theorem d_L_cell_3 : decode b_L_cell 3 = .ok (.if_icmp .ge 9, 3) := by decide +kernel
theorem d_L_cell_6 : decode b_L_cell 6 = .ok (.aload_n 0, 1) := by decide +kernel
theorem d_L_cell_7 : decode b_L_cell 7 = .ok (.iload_n 1, 1) := by decide +kernel
theorem d_L_cell_8 : decode b_L_cell 8 = .ok (.iaload, 1) := by decide +kernel
theorem d_L_cell_9 : decode b_L_cell 9 = .ok (.goto 4, 3) := by decide +kernel
theorem d_L_cell_12 : decode b_L_cell 12 = .ok (.iconst 0, 1) := by decide +kernel
theorem d_L_cell_13 : decode b_L_cell 13 = .ok (.ireturn, 1) := by decide +kernel
theorem d_L_law_0 : decode code 0 = .ok (.new 7, 3) := by decide +kernel
theorem d_L_law_3 : decode code 3 = .ok (.dup, 1) := by decide +kernel
theorem d_L_law_4 : decode code 4 = .ok (.aload_n 0, 1) := by decide +kernel
theorem d_L_law_5 : decode code 5 = .ok (.iconst 0, 1) := by decide +kernel
theorem d_L_law_6 : decode code 6 = .ok (.invokestatic 9, 3) := by decide +kernel
theorem d_L_law_9 : decode code 9 = .ok (.aload_n 0, 1) := by decide +kernel
theorem d_L_law_10 : decode code 10 = .ok (.iconst 1, 1) := by decide +kernel
theorem d_L_law_11 : decode code 11 = .ok (.invokestatic 9, 3) := by decide +kernel
theorem d_L_law_14 : decode code 14 = .ok (.aload_n 0, 1) := by decide +kernel
theorem d_L_law_15 : decode code 15 = .ok (.iconst 2, 1) := by decide +kernel
theorem d_L_law_16 : decode code 16 = .ok (.invokestatic 9, 3) := by decide +kernel
theorem d_L_law_19 : decode code 19 = .ok (.invokespecial 15, 3) := by decide +kernel
theorem d_L_law_22 : decode code 22 = .ok (.astore_n 1, 1) := by decide +kernel
theorem d_L_law_23 : decode code 23 = .ok (.new 18, 3) := by decide +kernel
theorem d_L_law_26 : decode code 26 = .ok (.dup, 1) := by decide +kernel
theorem d_L_law_27 : decode code 27 = .ok (.aload_n 0, 1) := by decide +kernel
theorem d_L_law_28 : decode code 28 = .ok (.iconst 0, 1) := by decide +kernel
theorem d_L_law_29 : decode code 29 = .ok (.invokestatic 9, 3) := by decide +kernel
theorem d_L_law_32 : decode code 32 = .ok (.aload_n 0, 1) := by decide +kernel
theorem d_L_law_33 : decode code 33 = .ok (.iconst 1, 1) := by decide +kernel
theorem d_L_law_34 : decode code 34 = .ok (.invokestatic 9, 3) := by decide +kernel
theorem d_L_law_37 : decode code 37 = .ok (.aload_n 0, 1) := by decide +kernel
theorem d_L_law_38 : decode code 38 = .ok (.iconst 2, 1) := by decide +kernel
theorem d_L_law_39 : decode code 39 = .ok (.invokestatic 9, 3) := by decide +kernel
theorem d_L_law_42 : decode code 42 = .ok (.invokespecial 20, 3) := by decide +kernel
theorem d_L_law_45 : decode code 45 = .ok (.astore_n 2, 1) := by decide +kernel
theorem d_L_law_46 : decode code 46 = .ok (.iconst 3, 1) := by decide +kernel
theorem d_L_law_47 : decode code 47 = .ok (.istore_n 3, 1) := by decide +kernel
theorem d_L_law_48 : decode code 48 = .ok (.iload_n 3, 1) := by decide +kernel
theorem d_L_law_49 : decode code 49 = .ok (.aload_n 0, 1) := by decide +kernel
theorem d_L_law_50 : decode code 50 = .ok (.arraylength, 1) := by decide +kernel
theorem d_L_law_51 : decode code 51 = .ok (.iconst 4, 1) := by decide +kernel
theorem d_L_law_52 : decode code 52 = .ok (.isub, 1) := by decide +kernel
theorem d_L_law_53 : decode code 53 = .ok (.if_icmp .gt 341, 3) := by decide +kernel
theorem d_L_law_56 : decode code 56 = .ok (.aload_n 0, 1) := by decide +kernel
theorem d_L_law_57 : decode code 57 = .ok (.iload_n 3, 1) := by decide +kernel
theorem d_L_law_58 : decode code 58 = .ok (.iaload, 1) := by decide +kernel
theorem d_L_law_59 : decode code 59 = .ok (.bipush 15, 2) := by decide +kernel
theorem d_L_law_61 : decode code 61 = .ok (.iand, 1) := by decide +kernel
theorem d_L_law_62 : decode code 62 = .ok (.tableswitch 326 0 11 #[62, 105, 138, 159, 172, 195, 218, 231, 254, 277, 290, 303], 62) := by decide +kernel
theorem d_L_law_124 : decode code 124 = .ok (.aload_n 1, 1) := by decide +kernel
theorem d_L_law_125 : decode code 125 = .ok (.aload_n 0, 1) := by decide +kernel
theorem d_L_law_126 : decode code 126 = .ok (.iload_n 3, 1) := by decide +kernel
theorem d_L_law_127 : decode code 127 = .ok (.iconst 1, 1) := by decide +kernel
theorem d_L_law_128 : decode code 128 = .ok (.iadd, 1) := by decide +kernel
theorem d_L_law_129 : decode code 129 = .ok (.iaload, 1) := by decide +kernel
theorem d_L_law_130 : decode code 130 = .ok (.aload_n 0, 1) := by decide +kernel
theorem d_L_law_131 : decode code 131 = .ok (.iload_n 3, 1) := by decide +kernel
theorem d_L_law_132 : decode code 132 = .ok (.iconst 2, 1) := by decide +kernel
theorem d_L_law_133 : decode code 133 = .ok (.iadd, 1) := by decide +kernel
theorem d_L_law_134 : decode code 134 = .ok (.iaload, 1) := by decide +kernel
theorem d_L_law_135 : decode code 135 = .ok (.aload_n 0, 1) := by decide +kernel
theorem d_L_law_136 : decode code 136 = .ok (.iload_n 3, 1) := by decide +kernel
theorem d_L_law_137 : decode code 137 = .ok (.iconst 3, 1) := by decide +kernel
theorem d_L_law_138 : decode code 138 = .ok (.iadd, 1) := by decide +kernel
theorem d_L_law_139 : decode code 139 = .ok (.iaload, 1) := by decide +kernel
theorem d_L_law_140 : decode code 140 = .ok (.invokevirtual 21, 3) := by decide +kernel
theorem d_L_law_143 : decode code 143 = .ok (.aload_n 2, 1) := by decide +kernel
theorem d_L_law_144 : decode code 144 = .ok (.aload_n 0, 1) := by decide +kernel
theorem d_L_law_145 : decode code 145 = .ok (.iload_n 3, 1) := by decide +kernel
theorem d_L_law_146 : decode code 146 = .ok (.iconst 1, 1) := by decide +kernel
theorem d_L_law_147 : decode code 147 = .ok (.iadd, 1) := by decide +kernel
theorem d_L_law_148 : decode code 148 = .ok (.iaload, 1) := by decide +kernel
theorem d_L_law_149 : decode code 149 = .ok (.aload_n 0, 1) := by decide +kernel
theorem d_L_law_150 : decode code 150 = .ok (.iload_n 3, 1) := by decide +kernel
theorem d_L_law_151 : decode code 151 = .ok (.iconst 2, 1) := by decide +kernel
theorem d_L_law_152 : decode code 152 = .ok (.iadd, 1) := by decide +kernel
theorem d_L_law_153 : decode code 153 = .ok (.iaload, 1) := by decide +kernel
theorem d_L_law_154 : decode code 154 = .ok (.aload_n 0, 1) := by decide +kernel
theorem d_L_law_155 : decode code 155 = .ok (.iload_n 3, 1) := by decide +kernel
theorem d_L_law_156 : decode code 156 = .ok (.iconst 3, 1) := by decide +kernel
theorem d_L_law_157 : decode code 157 = .ok (.iadd, 1) := by decide +kernel
theorem d_L_law_158 : decode code 158 = .ok (.iaload, 1) := by decide +kernel
theorem d_L_law_159 : decode code 159 = .ok (.invokevirtual 25, 3) := by decide +kernel
theorem d_L_law_162 : decode code 162 = .ok (.if_icmp .eq 226, 3) := by decide +kernel
theorem d_L_law_165 : decode code 165 = .ok (.iconst 0, 1) := by decide +kernel
theorem d_L_law_166 : decode code 166 = .ok (.ireturn, 1) := by decide +kernel
theorem d_L_law_167 : decode code 167 = .ok (.aload_n 1, 1) := by decide +kernel
theorem d_L_law_168 : decode code 168 = .ok (.aload_n 0, 1) := by decide +kernel
theorem d_L_law_169 : decode code 169 = .ok (.iload_n 3, 1) := by decide +kernel
theorem d_L_law_170 : decode code 170 = .ok (.iconst 1, 1) := by decide +kernel
theorem d_L_law_171 : decode code 171 = .ok (.iadd, 1) := by decide +kernel
theorem d_L_law_172 : decode code 172 = .ok (.iaload, 1) := by decide +kernel
theorem d_L_law_173 : decode code 173 = .ok (.aload_n 0, 1) := by decide +kernel
theorem d_L_law_174 : decode code 174 = .ok (.iload_n 3, 1) := by decide +kernel
theorem d_L_law_175 : decode code 175 = .ok (.iconst 2, 1) := by decide +kernel
theorem d_L_law_176 : decode code 176 = .ok (.iadd, 1) := by decide +kernel
theorem d_L_law_177 : decode code 177 = .ok (.iaload, 1) := by decide +kernel
theorem d_L_law_178 : decode code 178 = .ok (.invokevirtual 26, 3) := by decide +kernel
theorem d_L_law_181 : decode code 181 = .ok (.aload_n 2, 1) := by decide +kernel
theorem d_L_law_182 : decode code 182 = .ok (.aload_n 0, 1) := by decide +kernel
theorem d_L_law_183 : decode code 183 = .ok (.iload_n 3, 1) := by decide +kernel
theorem d_L_law_184 : decode code 184 = .ok (.iconst 1, 1) := by decide +kernel
theorem d_L_law_185 : decode code 185 = .ok (.iadd, 1) := by decide +kernel
theorem d_L_law_186 : decode code 186 = .ok (.iaload, 1) := by decide +kernel
theorem d_L_law_187 : decode code 187 = .ok (.aload_n 0, 1) := by decide +kernel
theorem d_L_law_188 : decode code 188 = .ok (.iload_n 3, 1) := by decide +kernel
theorem d_L_law_189 : decode code 189 = .ok (.iconst 2, 1) := by decide +kernel
theorem d_L_law_190 : decode code 190 = .ok (.iadd, 1) := by decide +kernel
theorem d_L_law_191 : decode code 191 = .ok (.iaload, 1) := by decide +kernel
theorem d_L_law_192 : decode code 192 = .ok (.invokevirtual 30, 3) := by decide +kernel
theorem d_L_law_195 : decode code 195 = .ok (.if_icmp .eq 193, 3) := by decide +kernel
theorem d_L_law_198 : decode code 198 = .ok (.iconst 0, 1) := by decide +kernel
theorem d_L_law_199 : decode code 199 = .ok (.ireturn, 1) := by decide +kernel
theorem d_L_law_200 : decode code 200 = .ok (.aload_n 1, 1) := by decide +kernel
theorem d_L_law_201 : decode code 201 = .ok (.aload_n 0, 1) := by decide +kernel
theorem d_L_law_202 : decode code 202 = .ok (.iload_n 3, 1) := by decide +kernel
theorem d_L_law_203 : decode code 203 = .ok (.iconst 1, 1) := by decide +kernel
theorem d_L_law_204 : decode code 204 = .ok (.iadd, 1) := by decide +kernel
theorem d_L_law_205 : decode code 205 = .ok (.iaload, 1) := by decide +kernel
theorem d_L_law_206 : decode code 206 = .ok (.invokevirtual 31, 3) := by decide +kernel
theorem d_L_law_209 : decode code 209 = .ok (.aload_n 2, 1) := by decide +kernel
theorem d_L_law_210 : decode code 210 = .ok (.aload_n 0, 1) := by decide +kernel
theorem d_L_law_211 : decode code 211 = .ok (.iload_n 3, 1) := by decide +kernel
theorem d_L_law_212 : decode code 212 = .ok (.iconst 1, 1) := by decide +kernel
theorem d_L_law_213 : decode code 213 = .ok (.iadd, 1) := by decide +kernel
theorem d_L_law_214 : decode code 214 = .ok (.iaload, 1) := by decide +kernel
theorem d_L_law_215 : decode code 215 = .ok (.invokevirtual 35, 3) := by decide +kernel
theorem d_L_law_218 : decode code 218 = .ok (.goto 170, 3) := by decide +kernel
theorem d_L_law_221 : decode code 221 = .ok (.aload_n 1, 1) := by decide +kernel
theorem d_L_law_222 : decode code 222 = .ok (.invokevirtual 36, 3) := by decide +kernel
theorem d_L_law_225 : decode code 225 = .ok (.aload_n 2, 1) := by decide +kernel
theorem d_L_law_226 : decode code 226 = .ok (.invokevirtual 40, 3) := by decide +kernel
theorem d_L_law_229 : decode code 229 = .ok (.if_icmp .eq 159, 3) := by decide +kernel
theorem d_L_law_232 : decode code 232 = .ok (.iconst 0, 1) := by decide +kernel
theorem d_L_law_233 : decode code 233 = .ok (.ireturn, 1) := by decide +kernel
theorem d_L_law_234 : decode code 234 = .ok (.aload_n 1, 1) := by decide +kernel
theorem d_L_law_235 : decode code 235 = .ok (.aload_n 0, 1) := by decide +kernel
theorem d_L_law_236 : decode code 236 = .ok (.iload_n 3, 1) := by decide +kernel
theorem d_L_law_237 : decode code 237 = .ok (.iconst 1, 1) := by decide +kernel
theorem d_L_law_238 : decode code 238 = .ok (.iadd, 1) := by decide +kernel
theorem d_L_law_239 : decode code 239 = .ok (.iaload, 1) := by decide +kernel
theorem d_L_law_240 : decode code 240 = .ok (.invokevirtual 41, 3) := by decide +kernel
theorem d_L_law_243 : decode code 243 = .ok (.aload_n 2, 1) := by decide +kernel
theorem d_L_law_244 : decode code 244 = .ok (.aload_n 0, 1) := by decide +kernel
theorem d_L_law_245 : decode code 245 = .ok (.iload_n 3, 1) := by decide +kernel
theorem d_L_law_246 : decode code 246 = .ok (.iconst 1, 1) := by decide +kernel
theorem d_L_law_247 : decode code 247 = .ok (.iadd, 1) := by decide +kernel
theorem d_L_law_248 : decode code 248 = .ok (.iaload, 1) := by decide +kernel
theorem d_L_law_249 : decode code 249 = .ok (.invokevirtual 45, 3) := by decide +kernel
theorem d_L_law_252 : decode code 252 = .ok (.if_icmp .eq 136, 3) := by decide +kernel
theorem d_L_law_255 : decode code 255 = .ok (.iconst 0, 1) := by decide +kernel
theorem d_L_law_256 : decode code 256 = .ok (.ireturn, 1) := by decide +kernel
theorem d_L_law_257 : decode code 257 = .ok (.aload_n 1, 1) := by decide +kernel
theorem d_L_law_258 : decode code 258 = .ok (.aload_n 0, 1) := by decide +kernel
theorem d_L_law_259 : decode code 259 = .ok (.iload_n 3, 1) := by decide +kernel
theorem d_L_law_260 : decode code 260 = .ok (.iconst 1, 1) := by decide +kernel
theorem d_L_law_261 : decode code 261 = .ok (.iadd, 1) := by decide +kernel
theorem d_L_law_262 : decode code 262 = .ok (.iaload, 1) := by decide +kernel
theorem d_L_law_263 : decode code 263 = .ok (.invokevirtual 46, 3) := by decide +kernel
theorem d_L_law_266 : decode code 266 = .ok (.aload_n 2, 1) := by decide +kernel
theorem d_L_law_267 : decode code 267 = .ok (.aload_n 0, 1) := by decide +kernel
theorem d_L_law_268 : decode code 268 = .ok (.iload_n 3, 1) := by decide +kernel
theorem d_L_law_269 : decode code 269 = .ok (.iconst 1, 1) := by decide +kernel
theorem d_L_law_270 : decode code 270 = .ok (.iadd, 1) := by decide +kernel
theorem d_L_law_271 : decode code 271 = .ok (.iaload, 1) := by decide +kernel
theorem d_L_law_272 : decode code 272 = .ok (.invokevirtual 49, 3) := by decide +kernel
theorem d_L_law_275 : decode code 275 = .ok (.if_icmp .eq 113, 3) := by decide +kernel
theorem d_L_law_278 : decode code 278 = .ok (.iconst 0, 1) := by decide +kernel
theorem d_L_law_279 : decode code 279 = .ok (.ireturn, 1) := by decide +kernel
theorem d_L_law_280 : decode code 280 = .ok (.aload_n 1, 1) := by decide +kernel
theorem d_L_law_281 : decode code 281 = .ok (.invokevirtual 50, 3) := by decide +kernel
theorem d_L_law_284 : decode code 284 = .ok (.aload_n 2, 1) := by decide +kernel
theorem d_L_law_285 : decode code 285 = .ok (.invokevirtual 53, 3) := by decide +kernel
theorem d_L_law_288 : decode code 288 = .ok (.if_icmp .eq 100, 3) := by decide +kernel
theorem d_L_law_291 : decode code 291 = .ok (.iconst 0, 1) := by decide +kernel
theorem d_L_law_292 : decode code 292 = .ok (.ireturn, 1) := by decide +kernel
theorem d_L_law_293 : decode code 293 = .ok (.aload_n 1, 1) := by decide +kernel
theorem d_L_law_294 : decode code 294 = .ok (.aload_n 0, 1) := by decide +kernel
theorem d_L_law_295 : decode code 295 = .ok (.iload_n 3, 1) := by decide +kernel
theorem d_L_law_296 : decode code 296 = .ok (.iconst 1, 1) := by decide +kernel
theorem d_L_law_297 : decode code 297 = .ok (.iadd, 1) := by decide +kernel
theorem d_L_law_298 : decode code 298 = .ok (.iaload, 1) := by decide +kernel
theorem d_L_law_299 : decode code 299 = .ok (.invokevirtual 54, 3) := by decide +kernel
theorem d_L_law_302 : decode code 302 = .ok (.aload_n 2, 1) := by decide +kernel
theorem d_L_law_303 : decode code 303 = .ok (.aload_n 0, 1) := by decide +kernel
theorem d_L_law_304 : decode code 304 = .ok (.iload_n 3, 1) := by decide +kernel
theorem d_L_law_305 : decode code 305 = .ok (.iconst 1, 1) := by decide +kernel
theorem d_L_law_306 : decode code 306 = .ok (.iadd, 1) := by decide +kernel
theorem d_L_law_307 : decode code 307 = .ok (.iaload, 1) := by decide +kernel
theorem d_L_law_308 : decode code 308 = .ok (.invokevirtual 57, 3) := by decide +kernel
theorem d_L_law_311 : decode code 311 = .ok (.if_icmp .eq 77, 3) := by decide +kernel
theorem d_L_law_314 : decode code 314 = .ok (.iconst 0, 1) := by decide +kernel
theorem d_L_law_315 : decode code 315 = .ok (.ireturn, 1) := by decide +kernel
theorem d_L_law_316 : decode code 316 = .ok (.aload_n 1, 1) := by decide +kernel
theorem d_L_law_317 : decode code 317 = .ok (.aload_n 0, 1) := by decide +kernel
theorem d_L_law_318 : decode code 318 = .ok (.iload_n 3, 1) := by decide +kernel
theorem d_L_law_319 : decode code 319 = .ok (.iconst 1, 1) := by decide +kernel
theorem d_L_law_320 : decode code 320 = .ok (.iadd, 1) := by decide +kernel
theorem d_L_law_321 : decode code 321 = .ok (.iaload, 1) := by decide +kernel
theorem d_L_law_322 : decode code 322 = .ok (.invokevirtual 58, 3) := by decide +kernel
theorem d_L_law_325 : decode code 325 = .ok (.aload_n 2, 1) := by decide +kernel
theorem d_L_law_326 : decode code 326 = .ok (.aload_n 0, 1) := by decide +kernel
theorem d_L_law_327 : decode code 327 = .ok (.iload_n 3, 1) := by decide +kernel
theorem d_L_law_328 : decode code 328 = .ok (.iconst 1, 1) := by decide +kernel
theorem d_L_law_329 : decode code 329 = .ok (.iadd, 1) := by decide +kernel
theorem d_L_law_330 : decode code 330 = .ok (.iaload, 1) := by decide +kernel
theorem d_L_law_331 : decode code 331 = .ok (.invokevirtual 61, 3) := by decide +kernel
theorem d_L_law_334 : decode code 334 = .ok (.if_icmp .eq 54, 3) := by decide +kernel
theorem d_L_law_337 : decode code 337 = .ok (.iconst 0, 1) := by decide +kernel
theorem d_L_law_338 : decode code 338 = .ok (.ireturn, 1) := by decide +kernel
theorem d_L_law_339 : decode code 339 = .ok (.aload_n 1, 1) := by decide +kernel
theorem d_L_law_340 : decode code 340 = .ok (.invokevirtual 62, 3) := by decide +kernel
theorem d_L_law_343 : decode code 343 = .ok (.aload_n 2, 1) := by decide +kernel
theorem d_L_law_344 : decode code 344 = .ok (.invokevirtual 66, 3) := by decide +kernel
theorem d_L_law_347 : decode code 347 = .ok (.if_icmp .eq 41, 3) := by decide +kernel
theorem d_L_law_350 : decode code 350 = .ok (.iconst 0, 1) := by decide +kernel
theorem d_L_law_351 : decode code 351 = .ok (.ireturn, 1) := by decide +kernel
theorem d_L_law_352 : decode code 352 = .ok (.aload_n 1, 1) := by decide +kernel
theorem d_L_law_353 : decode code 353 = .ok (.invokevirtual 67, 3) := by decide +kernel
theorem d_L_law_356 : decode code 356 = .ok (.aload_n 2, 1) := by decide +kernel
theorem d_L_law_357 : decode code 357 = .ok (.invokevirtual 70, 3) := by decide +kernel
theorem d_L_law_360 : decode code 360 = .ok (.if_icmp .eq 28, 3) := by decide +kernel
theorem d_L_law_363 : decode code 363 = .ok (.iconst 0, 1) := by decide +kernel
theorem d_L_law_364 : decode code 364 = .ok (.ireturn, 1) := by decide +kernel
theorem d_L_law_365 : decode code 365 = .ok (.aload_n 1, 1) := by decide +kernel
theorem d_L_law_366 : decode code 366 = .ok (.aload_n 0, 1) := by decide +kernel
theorem d_L_law_367 : decode code 367 = .ok (.iload_n 3, 1) := by decide +kernel
theorem d_L_law_368 : decode code 368 = .ok (.iconst 1, 1) := by decide +kernel
theorem d_L_law_369 : decode code 369 = .ok (.iadd, 1) := by decide +kernel
theorem d_L_law_370 : decode code 370 = .ok (.iaload, 1) := by decide +kernel
theorem d_L_law_371 : decode code 371 = .ok (.invokevirtual 71, 3) := by decide +kernel
theorem d_L_law_374 : decode code 374 = .ok (.aload_n 2, 1) := by decide +kernel
theorem d_L_law_375 : decode code 375 = .ok (.aload_n 0, 1) := by decide +kernel
theorem d_L_law_376 : decode code 376 = .ok (.iload_n 3, 1) := by decide +kernel
theorem d_L_law_377 : decode code 377 = .ok (.iconst 1, 1) := by decide +kernel
theorem d_L_law_378 : decode code 378 = .ok (.iadd, 1) := by decide +kernel
theorem d_L_law_379 : decode code 379 = .ok (.iaload, 1) := by decide +kernel
theorem d_L_law_380 : decode code 380 = .ok (.invokevirtual 74, 3) := by decide +kernel
theorem d_L_law_383 : decode code 383 = .ok (.if_icmp .eq 5, 3) := by decide +kernel
theorem d_L_law_386 : decode code 386 = .ok (.iconst 0, 1) := by decide +kernel
theorem d_L_law_387 : decode code 387 = .ok (.ireturn, 1) := by decide +kernel
theorem d_L_law_388 : decode code 388 = .ok (.iinc 3 4, 3) := by decide +kernel
theorem d_L_law_391 : decode code 391 = .ok (.goto (-343), 3) := by decide +kernel
theorem d_L_law_394 : decode code 394 = .ok (.iconst 1, 1) := by decide +kernel
theorem d_L_law_395 : decode code 395 = .ok (.ireturn, 1) := by decide +kernel
end
section
/-! rows of this claim's own: worlds, contracts, calls -/
abbrev kt (cI cJ : ClassId) : List (ClassId × FieldType) := [(cI, .int), (cJ, .long)]
/-- the world ws in the heap H: the cells hold it, they are apart and in A, nothing outside A has changed since H0 -/
def kw (D : va_G) (A : Nat → Prop) (H0 H : Heap) (locs : List Loc) (ws : va_W) : Prop := va_P D classes ws H ∧ va_D A ws ∧ va_S A H0 H locs
def bI (b : Bool) : Int32 := if b then 1 else 0
abbrev kr (f n : Nat) : Room := { frames := f, cells := 0, slots := 0, locals := n }
/-- the bytecode's remainder -/
def rmd (x y : Int64) : Int64 := x - x / y * y
def QI (D : va_G) (tys : List (ClassId × FieldType)) {G : Type} (post : Int32 → G → Prop) (w' : G → va_W) (A : Nat → Prop) : Array Value → State → Outcome → State → Prop := va_Qi post (fun u t => va_P D classes (w' u) t.heap ∧ va_K D classes tys t ∧ va_D A (w' u)) A
def QL (D : va_G) (tys : List (ClassId × FieldType)) {G : Type} (post : Int64 → G → Prop) (w' : G → va_W) (A : Nat → Prop) : Array Value → State → Outcome → State → Prop := va_Ql post (fun u t => va_P D classes (w' u) t.heap ∧ va_K D classes tys t ∧ va_D A (w' u)) A
def QV (D : va_G) (tys : List (ClassId × FieldType)) {G : Type} (post : G → Prop) (w' : G → va_W) (A : Nat → Prop) : Array Value → State → Outcome → State → Prop := va_Qv post (fun u t => va_P D classes (w' u) t.heap ∧ va_K D classes tys t ∧ va_D A (w' u)) A
/-- a contract: with the arguments av and the world wc the method ends as QF says; it makes no cell -/
def CT (l : Launch) (D : va_G) (tys : List (ClassId × FieldType)) (y : MethodName) (b : ByteArray) (nL : Nat) (ret : Option FieldType) (rm : Room) (av : List Value) (wc : va_W) (sz : Nat) (QF : (Nat → Prop) → Array Value → State → Outcome → State → Prop) : Prop :=
  Met l y (Cond.code y b nL ret :: lw_g) rm (va_Pc av (fun U => U.heap.size = sz ∧ va_P D classes wc U.heap ∧ va_K D classes tys U ∧ va_D (fun _ => True) wc)) (QF (va_A wc sz)) 0 0 (va_A wc sz)
theorem ct_start {l : Launch} {D : va_G} {tys : List (ClassId × FieldType)} {y : MethodName} {b : ByteArray} {nL : Nat} {ret : Option FieldType} {rm : Room} {av : List Value} {wc : va_W} {sz : Nat} {QF : (Nat → Prop) → Array Value → State → Outcome → State → Prop} (hy : plainName y.cls = true) (hav : (lg_sl av).length ≤ nL)
    (body : ∀ (p : Program) (e : Env) (s : State) (m : MethodId) (args : Array Value) (below : List Frame) (meth : Method) (c : Code) (A : Nat → Prop) (ls : Array Slot), CallFix p m c b nL s args lw_g y.cls → meth.sig.returnType = ret → meth.locks = false → (∀ q, s.heap.size ≤ q → A q) → va_K D classes tys s → kw D A s.heap s.heap [] wc → lv_has ls nL (lv_args 0 av) →
      W p l e rm s m args below meth c s.heap [] 0 0 (MQ below (QF A) args s 0 0 A) (F0 m 0 ls [])) : CT l D tys y b nL ret rm av wc sz QF := by
  refine Met.ofW (cc := b) (maxL := nL) (ret := ret) hy rfl ?_
  intro p e s m args below meth c s₁ B hml hv
  obtain ⟨rfl, hsz, hP, hK, hD0⟩ := hv
  have hts := atoms_spec (ws := Cond.code y b nL ret :: lw_g) B.pre
  have hown : s.vm.findClass y.cls = some m.cls := findClass_of_methodNamed B.named
  subst hsz
  have hD := hD0.self (sz := s.heap.size)
  generalize hAe : va_A wc s.heap.size = A at hD ⊢
  have hA : ∀ q : Nat, s.heap.size ≤ q → A q := fun q h => by rw [← hAe]; exact Or.inr h
  have hl := lv_entry av (n := nL) hav
  rw [lg_entry_eq]
  generalize (lg_sl av ++ List.replicate (nL - (lg_sl av).length) Slot.unset).toArray = ls at hl ⊢
  exact body p e s m _ below meth c A ls ⟨B.exec, B.bytes, hml, hown, fun w h => hts w (List.mem_cons_of_mem _ h)⟩ B.returns B.notSynchronized hA hK ⟨hP, hD, va_S.rf⟩ hl
theorem ky_good {y : MethodName} {b : ByteArray} {nL : Nat} {ret : Option FieldType} (h : Cond.code y b nL ret ∈ lw_g) : GoodIn lw_g (Cond.code y b nL ret :: lw_g) := by
  intro w hw
  have h1 : w ∈ lw_g := by
    rcases List.mem_cons.mp hw with rfl | h2
    · exact h
    · exact h2
  exact ⟨h1, good_of_word (lw_good w h1)⟩
section
variable {p : Program} {l : Launch} {e : Env} {R : Room} {s : State} {m : MethodId} {args : Array Value} {below : List Frame} {meth : Method} {c : Code} {H H0 : Heap} {locs : List Loc} {cells slots : Nat} {Q : State → Prop} {cc : ByteArray} {pc nL : Nat} {ls : Array Slot} {rest st0 : List Value} {D : va_G} {tys : List (ClassId × FieldType)} {ws wc : va_W} {A : Nat → Prop} {a : Nat} {own : String} {cI cJ : ClassId}
theorem kw.sub {ws' : va_W} (h : kw D A H0 H locs ws) (is : List Nat) (hn : va_nd is = true) (hs : is.map (fun i => ws[i]?) = ws'.map some) : kw D A H0 H locs ws' := by
  refine ⟨h.1.sub is ?_, h.2.1.sub is hn hs, h.2.2⟩
  have e : is.filterMap (fun i => ws[i]?) = (is.map (fun i => ws[i]?)).filterMap id := by rw [List.filterMap_map]; rfl
  rw [e, hs, List.filterMap_map]
  have e2 : (id ∘ some : Nat × va_E → Option (Nat × va_E)) = some := rfl
  rw [e2, List.filterMap_some]
theorem ky_free (hw : kw D A H0 H locs wc) (hA : ∀ q, H0.size ≤ q → A q) : ∀ q, va_A wc H.size q → A q := by
  rintro q (⟨k, e, h⟩ | h)
  · exact hw.2.1.2 k _ h
  · exact hA q (Nat.le_trans hw.2.2.1 h)
theorem ky_cwV {index n maxL : Nat} {y : MethodName} {b : ByteArray} {ret : Option FieldType} {rm : Room} (S : CallFix p m c cc nL s args lw_g own) (k : LkV own index y b maxL ret n) (hrc : rm.cells = 0) (hrs : rm.slots = 0) (hR : rm.frames + 1 ≤ R.frames ∧ 8 + (maxL + 11) + rm.locals ≤ R.locals) : CallW R s args own y.cls index y b maxL ret (Cond.code y b maxL ret :: lw_g) rm 0 0 n :=
  ⟨callB_of n S.2.2.2.2 (ky_good k.1.2.2.2.2) rfl hrc hrs (S.2.2.2.2 _ k.1.2.2.2.1) (S.2.2.2.2 _ k.1.1) k.2 hR, S.2.2.2.2 _ k.1.2.1, S.2.2.2.2 _ k.1.2.2.1⟩
theorem ky_cwS {index n maxL : Nat} {y : MethodName} {b : ByteArray} {ret : Option FieldType} {rm : Room} (S : CallFix p m c cc nL s args lw_g own) (k : LkS own index y b maxL ret n) (hrc : rm.cells = 0) (hrs : rm.slots = 0) (hR : rm.frames + 1 ≤ R.frames ∧ 8 + (maxL + 11) + rm.locals ≤ R.locals) : CallB R s args own index y b maxL ret (Cond.code y b maxL ret :: lw_g) rm 0 0 n ∧ (Cond.static y).before args s = true :=
  ⟨callB_of n S.2.2.2.2 (ky_good k.1.2.2.2) rfl hrc hrs (S.2.2.2.2 _ k.1.2.2.1) (S.2.2.2.2 _ k.1.1) k.2 hR, S.2.2.2.2 _ k.1.2.1⟩
theorem ky_blind {av : List Value} {sz : Nat} : FrameBlind (va_Pc av (fun U => U.heap.size = sz ∧ va_P D classes wc U.heap ∧ va_K D classes tys U ∧ va_D (fun _ => True) wc)) := fun a U g mk q => by
  obtain ⟨q0, q1, qP, qK, qD⟩ := q
  exact ⟨q0, q1, qP, va_K.moved (u := U) (U := U.calling g mk a) (Vm.Alike.refl U.vm) qK, qD⟩
theorem ky_preS {av : List Value} (hK : va_K D classes tys s) (hP : va_P D classes wc H) (hD : va_D A wc) : PreS s H (va_Pc av (fun U => U.heap.size = H.size ∧ va_P D classes wc U.heap ∧ va_K D classes tys U ∧ va_D (fun _ => True) wc)) av :=
  ⟨ky_blind, fun U hU hW => ⟨rfl, by rw [hU], by rw [hU]; exact hP, va_K.moved hW.alike hK, hD.weaken (fun _ _ _ _ => trivial)⟩⟩
theorem ky_preV {As : List Value} {ci N : Nat} {C : String} {T : u_T} {fs : List Value} (hK : va_K D classes tys s) (hP : va_P D classes wc H) (hD : va_D A wc) (hc : classes[ci]? = some (C, T, N)) (he : wc[0]? = some (a, .inr (ci, fs))) : PreV s H C a (va_Pc (.ref a :: As) (fun U => U.heap.size = H.size ∧ va_P D classes wc U.heap ∧ va_K D classes tys U ∧ va_D (fun _ => True) wc)) As :=
  ⟨ky_blind, va_recv hK hP hc he, fun U hU hW => ⟨rfl, by rw [hU], by rw [hU]; exact hP, va_K.moved hW.alike hK, hD.weaken (fun _ _ _ _ => trivial)⟩⟩
/-- a call of an instance method over the whole world of the receiver -/
theorem ky_callVi {index n maxL ci N : Nat} {y : MethodName} {b : ByteArray} {ret : Option FieldType} {rm : Room} {As : List Value} {T : u_T} {fs : List Value} {G : Type} {post : Int32 → G → Prop} {w' : G → va_W} (S : CallFix p m c cc nL s args lw_g own) (hK : va_K D classes tys s) (hw : kw D A H0 H locs wc) (hA : ∀ q, H0.size ≤ q → A q) (hls : ls.size = nL)
    (hM : CT l D tys y b maxL ret rm (.ref a :: As) wc H.size (QI D tys post w')) (k : LkV own index y b maxL ret n) (hc : classes[ci]? = some (y.cls, T, N)) (he : wc[0]? = some (a, .inr (ci, fs))) (hrc : rm.cells = 0) (hrs : rm.slots = 0) (hR : rm.frames + 1 ≤ R.frames ∧ 8 + (maxL + 11) + rm.locals ≤ R.locals) (hcs : cells ≤ R.cells ∧ slots ≤ R.slots) (hn : As.length = n) (hst : st0 = As.reverse ++ .ref a :: rest) (hW : (rest.map fun v => v.category).sum ≤ 8) (hdg : decode cc pc = .ok (.invokevirtual index, 3))
    (kk : ∀ (r : Int32) (u : G) (H1 : Heap) (locs1 : List Loc), post r u → kw D A H0 H1 locs1 (w' u) → W p l e R s m args below meth c H1 locs1 cells slots Q (F0 m (pc + 3) ls (.int r :: rest))) : W p l e R s m args below meth c H locs cells slots Q (F0 m pc ls st0) := by
  have hF := ky_free hw hA
  exact va_calli (va_runV (g := F0 m pc ls st0) (As := As) (rest := rest) S hM (ky_cwV S k hrc hrs hR) (ky_preV hK hw.1 hw.2.1 hc he) rfl hn hls hst (lv_room hW) hdg hcs) hw.2.2 (fun q _ h => hF q h) hF (fun r u t H1 locs1 ht hvm hp hB hz1 hk1 hS => kk r u H1 locs1 hp ⟨by rw [← ht]; exact hB.1, hB.2.2.weaken (fun _ _ _ h => hF _ h), hS⟩)
theorem ky_callVl {index n maxL ci N : Nat} {y : MethodName} {b : ByteArray} {ret : Option FieldType} {rm : Room} {As : List Value} {T : u_T} {fs : List Value} {G : Type} {post : Int64 → G → Prop} {w' : G → va_W} (S : CallFix p m c cc nL s args lw_g own) (hK : va_K D classes tys s) (hw : kw D A H0 H locs wc) (hA : ∀ q, H0.size ≤ q → A q) (hls : ls.size = nL)
    (hM : CT l D tys y b maxL ret rm (.ref a :: As) wc H.size (QL D tys post w')) (k : LkV own index y b maxL ret n) (hc : classes[ci]? = some (y.cls, T, N)) (he : wc[0]? = some (a, .inr (ci, fs))) (hrc : rm.cells = 0) (hrs : rm.slots = 0) (hR : rm.frames + 1 ≤ R.frames ∧ 8 + (maxL + 11) + rm.locals ≤ R.locals) (hcs : cells ≤ R.cells ∧ slots ≤ R.slots) (hn : As.length = n) (hst : st0 = As.reverse ++ .ref a :: rest) (hW : (rest.map fun v => v.category).sum ≤ 8) (hdg : decode cc pc = .ok (.invokevirtual index, 3))
    (kk : ∀ (r : Int64) (u : G) (H1 : Heap) (locs1 : List Loc), post r u → kw D A H0 H1 locs1 (w' u) → W p l e R s m args below meth c H1 locs1 cells slots Q (F0 m (pc + 3) ls (.long r :: rest))) : W p l e R s m args below meth c H locs cells slots Q (F0 m pc ls st0) := by
  have hF := ky_free hw hA
  exact va_calll (va_runV (g := F0 m pc ls st0) (As := As) (rest := rest) S hM (ky_cwV S k hrc hrs hR) (ky_preV hK hw.1 hw.2.1 hc he) rfl hn hls hst (lv_room hW) hdg hcs) hw.2.2 (fun q _ h => hF q h) hF (fun r u t H1 locs1 ht hvm hp hB hz1 hk1 hS => kk r u H1 locs1 hp ⟨by rw [← ht]; exact hB.1, hB.2.2.weaken (fun _ _ _ h => hF _ h), hS⟩)
theorem ky_callVv {index n maxL ci N : Nat} {y : MethodName} {b : ByteArray} {ret : Option FieldType} {rm : Room} {As : List Value} {T : u_T} {fs : List Value} {G : Type} {post : G → Prop} {w' : G → va_W} (S : CallFix p m c cc nL s args lw_g own) (hK : va_K D classes tys s) (hw : kw D A H0 H locs wc) (hA : ∀ q, H0.size ≤ q → A q) (hls : ls.size = nL)
    (hM : CT l D tys y b maxL ret rm (.ref a :: As) wc H.size (QV D tys post w')) (k : LkV own index y b maxL ret n) (hc : classes[ci]? = some (y.cls, T, N)) (he : wc[0]? = some (a, .inr (ci, fs))) (hrc : rm.cells = 0) (hrs : rm.slots = 0) (hR : rm.frames + 1 ≤ R.frames ∧ 8 + (maxL + 11) + rm.locals ≤ R.locals) (hcs : cells ≤ R.cells ∧ slots ≤ R.slots) (hn : As.length = n) (hst : st0 = As.reverse ++ .ref a :: rest) (hW : (rest.map fun v => v.category).sum ≤ 8) (hdg : decode cc pc = .ok (.invokevirtual index, 3))
    (kk : ∀ (u : G) (H1 : Heap) (locs1 : List Loc), post u → kw D A H0 H1 locs1 (w' u) → W p l e R s m args below meth c H1 locs1 cells slots Q (F0 m (pc + 3) ls rest)) : W p l e R s m args below meth c H locs cells slots Q (F0 m pc ls st0) := by
  have hF := ky_free hw hA
  exact va_callv (va_runV (g := F0 m pc ls st0) (As := As) (rest := rest) S hM (ky_cwV S k hrc hrs hR) (ky_preV hK hw.1 hw.2.1 hc he) rfl hn hls hst (lv_room hW) hdg hcs) hw.2.2 (fun q _ h => hF q h) hF (fun u t H1 locs1 ht hvm hp hB hz1 hk1 hS => kk u H1 locs1 hp ⟨by rw [← ht]; exact hB.1, hB.2.2.weaken (fun _ _ _ h => hF _ h), hS⟩)
/-- a call of a static method over the whole world -/
theorem ky_callSv {index n maxL : Nat} {y : MethodName} {b : ByteArray} {ret : Option FieldType} {rm : Room} {As : List Value} {G : Type} {post : G → Prop} {w' : G → va_W} (S : CallFix p m c cc nL s args lw_g own) (hK : va_K D classes tys s) (hw : kw D A H0 H locs wc) (hA : ∀ q, H0.size ≤ q → A q) (hls : ls.size = nL)
    (hM : CT l D tys y b maxL ret rm As wc H.size (QV D tys post w')) (k : LkS own index y b maxL ret n) (hrc : rm.cells = 0) (hrs : rm.slots = 0) (hR : rm.frames + 1 ≤ R.frames ∧ 8 + (maxL + 11) + rm.locals ≤ R.locals) (hcs : cells ≤ R.cells ∧ slots ≤ R.slots) (hn : As.length = n) (hst : st0 = As.reverse ++ rest) (hW : (rest.map fun v => v.category).sum ≤ 8) (hdg : decode cc pc = .ok (.invokestatic index, 3))
    (kk : ∀ (u : G) (H1 : Heap) (locs1 : List Loc), post u → kw D A H0 H1 locs1 (w' u) → W p l e R s m args below meth c H1 locs1 cells slots Q (F0 m (pc + 3) ls rest)) : W p l e R s m args below meth c H locs cells slots Q (F0 m pc ls st0) := by
  have hF := ky_free hw hA
  exact va_callv (va_runS (g := F0 m pc ls st0) (As := As) (rest := rest) S hM (ky_cwS S k hrc hrs hR) (ky_preS hK hw.1 hw.2.1) rfl hn hls hst (lv_room hW) hdg hcs) hw.2.2 (fun q _ h => hF q h) hF (fun u t H1 locs1 ht hvm hp hB hz1 hk1 hS => kk u H1 locs1 hp ⟨by rw [← ht]; exact hB.1, hB.2.2.weaken (fun _ _ _ h => hF _ h), hS⟩)
/-- a call of a static method that looks at no cell: the world stays -/
theorem ky_callSi {index n maxL : Nat} {y : MethodName} {b : ByteArray} {ret : Option FieldType} {rm : Room} {As : List Value} {G : Type} {post : Int32 → G → Prop} {w' : G → va_W} (S : CallFix p m c cc nL s args lw_g own) (hK : va_K D classes tys s) (hw : kw D A H0 H locs ws) (hA : ∀ q, H0.size ≤ q → A q) (hls : ls.size = nL)
    (hM : CT l D tys y b maxL ret rm As [] H.size (QI D tys post w')) (k : LkS own index y b maxL ret n) (hrc : rm.cells = 0) (hrs : rm.slots = 0) (hR : rm.frames + 1 ≤ R.frames ∧ 8 + (maxL + 11) + rm.locals ≤ R.locals) (hcs : cells ≤ R.cells ∧ slots ≤ R.slots) (hn : As.length = n) (hst : st0 = As.reverse ++ rest) (hW : (rest.map fun v => v.category).sum ≤ 8) (hdg : decode cc pc = .ok (.invokestatic index, 3))
    (kk : ∀ (r : Int32) (u : G) (H1 : Heap) (locs1 : List Loc), post r u → kw D A H0 H1 locs1 ws → W p l e R s m args below meth c H1 locs1 cells slots Q (F0 m (pc + 3) ls (.int r :: rest))) : W p l e R s m args below meth c H locs cells slots Q (F0 m pc ls st0) := by
  have hN : va_D A [] := ⟨fun i j p q h => by simp at h, fun k q h => by simp at h⟩
  have hPN : va_P D classes [] H := fun k q h => by simp at h
  have hF := ky_free (wc := []) ⟨hPN, hN, hw.2.2⟩ hA
  refine va_calli (va_runS (g := F0 m pc ls st0) (As := As) (rest := rest) S hM (ky_cwS S k hrc hrs hR) (ky_preS hK hPN hN) rfl hn hls hst (lv_room hW) hdg hcs) hw.2.2 (fun q _ h => hF q h) hF (fun r u t H1 locs1 ht hvm hp hB hz1 hk1 hS => kk r u H1 locs1 hp ⟨?_, hw.2.1, hS⟩)
  refine hw.1.kept (fun k q hq => ?_)
  have hlt : q.1 < H.size := va_at.lt (hw.1 k q hq)
  refine hk1 q.1 hlt ?_
  rintro (⟨k, e, h⟩ | h)
  · simp at h
  · omega
theorem ky_iret {G : Type} {post : Int32 → G → Prop} {w' : G → va_W} {r : Int32} (S : CallFix p m c cc nL s args lw_g own) (hr : meth.sig.returnType = some .int) (hlocks : meth.locks = false) (hK : va_K D classes tys s) (u : G) (hpost : post r u) (hw : kw D A s.heap H locs (w' u)) (hdg : decode cc pc = .ok (.ireturn, 1)) : W p l e R s m args below meth c H locs 0 0 (MQ below (QI D tys post w' A) args s 0 0 A) (F0 m pc ls [.int r]) :=
  W.iret (v := r) S.1 S.2.1 hr (fun t ht hW => ⟨⟨r, u, rfl, hpost, by rw [ht]; exact hw.1, va_K.moved hW.alike hK, hw.2.1⟩, hw.2.2.F ht⟩) hw.2.2.2.2 hdg
theorem ky_zret {G : Type} {post : Int32 → G → Prop} {w' : G → va_W} {b : Bool} (S : CallFix p m c cc nL s args lw_g own) (hr : meth.sig.returnType = some .boolean) (hlocks : meth.locks = false) (hK : va_K D classes tys s) (u : G) (hpost : post (bI b) u) (hw : kw D A s.heap H locs (w' u)) (hdg : decode cc pc = .ok (.ireturn, 1)) : W p l e R s m args below meth c H locs 0 0 (MQ below (QI D tys post w' A) args s 0 0 A) (F0 m pc ls [.int (bI b)]) :=
  W.zret (v := bI b) S.1 S.2.1 hr (by cases b <;> rfl) (fun t ht hW => ⟨⟨bI b, u, rfl, hpost, by rw [ht]; exact hw.1, va_K.moved hW.alike hK, hw.2.1⟩, hw.2.2.F ht⟩) hw.2.2.2.2 hdg
theorem ky_lret {G : Type} {post : Int64 → G → Prop} {w' : G → va_W} {r : Int64} (S : CallFix p m c cc nL s args lw_g own) (hr : meth.sig.returnType = some .long) (hlocks : meth.locks = false) (hK : va_K D classes tys s) (u : G) (hpost : post r u) (hw : kw D A s.heap H locs (w' u)) (hdg : decode cc pc = .ok (.lreturn, 1)) : W p l e R s m args below meth c H locs 0 0 (MQ below (QL D tys post w' A) args s 0 0 A) (F0 m pc ls [.long r]) :=
  W.lret (v := r) S.1 S.2.1 hr (fun t ht hW => ⟨⟨r, u, rfl, hpost, by rw [ht]; exact hw.1, va_K.moved hW.alike hK, hw.2.1⟩, hw.2.2.F ht⟩) hw.2.2.2.2 hdg
theorem ky_vret {G : Type} {post : G → Prop} {w' : G → va_W} (S : CallFix p m c cc nL s args lw_g own) (hr : meth.sig.returnType = none) (hlocks : meth.locks = false) (hK : va_K D classes tys s) (u : G) (hpost : post u) (hw : kw D A s.heap H locs (w' u)) (hdg : decode cc pc = .ok (.return_, 1)) : W p l e R s m args below meth c H locs 0 0 (MQ below (QV D tys post w' A) args s 0 0 A) (F0 m pc ls []) :=
  W.vret S.1 S.2.1 hr (fun t ht hW => ⟨⟨u, rfl, hpost, by rw [ht]; exact hw.1, va_K.moved hW.alike hK, hw.2.1⟩, hw.2.2.F ht⟩) hw.2.2.2.2 hdg
-- arrays
theorem ky_lald (S : CallFix p m c cc nL s args lw_g own) (hK : va_K D classes (kt cI cJ) s) (hw : kw D A H0 H locs ws) (q0 : Nat) {n : Nat} {f : Nat → Int64} (ha : ws[q0]? = some (a, .inl (cJ, n, .inr (.inl f)))) {j : Nat} (hj : j < n) (hn : n < 2147483648) (hdg : decode cc pc = .ok (.laload, 1)) (kk : W p l e R s m args below meth c H locs cells slots Q (F0 m (pc + 1) ls (.long (f j) :: rest))) : W p l e R s m args below meth c H locs cells slots Q (F0 m pc ls (.int (nI j) :: .ref a :: rest)) := by
  refine va_lald S.1 S.2.1 hK hw.1 q0 1 ha rfl (vp_in_nI hj hn) hdg ?_
  rw [nI_clamp (Nat.lt_trans hj hn)]
  exact kk
theorem ky_iald (S : CallFix p m c cc nL s args lw_g own) (hK : va_K D classes (kt cI cJ) s) (hw : kw D A H0 H locs ws) (q0 : Nat) {n : Nat} {f : Nat → Int32} (ha : ws[q0]? = some (a, .inl (cI, n, .inl f))) {j : Nat} (hj : j < n) (hn : n < 2147483648) (hdg : decode cc pc = .ok (.iaload, 1)) (kk : W p l e R s m args below meth c H locs cells slots Q (F0 m (pc + 1) ls (.int (f j) :: rest))) : W p l e R s m args below meth c H locs cells slots Q (F0 m pc ls (.int (nI j) :: .ref a :: rest)) := by
  refine va_iald S.1 S.2.1 hK hw.1 q0 0 ha rfl (vp_in_nI hj hn) hdg ?_
  rw [nI_clamp (Nat.lt_trans hj hn)]
  exact kk
theorem ky_nald (S : CallFix p m c cc nL s args lw_g own) (hK : va_K D classes (kt cI cJ) s) (hw : kw D A H0 H locs ws) (q0 : Nat) {n : Nat} {f : Nat → Nat} (ha : ws[q0]? = some (a, .inl (cI, n, .inl (fun k => nI (f k))))) {j : Nat} (hj : j < n) (hn : n < 2147483648) (hdg : decode cc pc = .ok (.iaload, 1)) (kk : W p l e R s m args below meth c H locs cells slots Q (F0 m (pc + 1) ls (.int (nI (f j)) :: rest))) : W p l e R s m args below meth c H locs cells slots Q (F0 m pc ls (.int (nI j) :: .ref a :: rest)) :=
  ky_iald S hK hw q0 ha hj hn hdg kk
theorem ky_last (S : CallFix p m c cc nL s args lw_g own) (hK : va_K D classes (kt cI cJ) s) (hw : kw D A H0 H locs ws) (q0 : Nat) {n : Nat} {f : Nat → Int64} (ha : ws[q0]? = some (a, .inl (cJ, n, .inr (.inl f)))) {j : Nat} {x : Int64} (hj : j < n) (hn : n < 2147483648) (hdg : decode cc pc = .ok (.lastore, 1)) (kk : ∀ (H1 : Heap) (locs1 : List Loc), kw D A H0 H1 locs1 (ws.set q0 (a, .inl (cJ, n, .inr (.inl (vp_updL f j x))))) → W p l e R s m args below meth c H1 locs1 cells slots Q (F0 m (pc + 1) ls rest)) : W p l e R s m args below meth c H locs cells slots Q (F0 m pc ls (.long x :: .int (nI j) :: .ref a :: rest)) := by
  have hcl := nI_clamp (Nat.lt_trans hj hn)
  refine va_last S.1 S.2.1 hK hw.1 hw.2.1 hw.2.2 q0 1 ha rfl (vp_in_nI hj hn) hdg (fun H1 locs1 h1 h2 h3 => ?_)
  rw [hcl] at h1 h2
  exact kk H1 locs1 ⟨h1, h2, h3⟩
theorem ky_iast (S : CallFix p m c cc nL s args lw_g own) (hK : va_K D classes (kt cI cJ) s) (hw : kw D A H0 H locs ws) (q0 : Nat) {n : Nat} {f : Nat → Int32} (ha : ws[q0]? = some (a, .inl (cI, n, .inl f))) {j : Nat} {x : Int32} (hj : j < n) (hn : n < 2147483648) (hdg : decode cc pc = .ok (.iastore, 1)) (kk : ∀ (H1 : Heap) (locs1 : List Loc), kw D A H0 H1 locs1 (ws.set q0 (a, .inl (cI, n, .inl (upd f j x)))) → W p l e R s m args below meth c H1 locs1 cells slots Q (F0 m (pc + 1) ls rest)) : W p l e R s m args below meth c H locs cells slots Q (F0 m pc ls (.int x :: .int (nI j) :: .ref a :: rest)) := by
  have hcl := nI_clamp (Nat.lt_trans hj hn)
  refine va_iast S.1 S.2.1 hK hw.1 hw.2.1 hw.2.2 q0 0 ha rfl (vp_in_nI hj hn) hdg (fun H1 locs1 h1 h2 h3 => ?_)
  rw [hcl] at h1 h2
  exact kk H1 locs1 ⟨h1, h2, h3⟩
theorem ky_upn {f : Nat → Nat} {j r : Nat} : upd (fun k => nI (f k)) j (nI r) = fun k => nI (va_up f j r k) := by
  funext k
  unfold upd va_up
  split <;> rfl
theorem ky_nast (S : CallFix p m c cc nL s args lw_g own) (hK : va_K D classes (kt cI cJ) s) (hw : kw D A H0 H locs ws) (q0 : Nat) {n : Nat} {f : Nat → Nat} (ha : ws[q0]? = some (a, .inl (cI, n, .inl (fun k => nI (f k))))) {j r : Nat} (hj : j < n) (hn : n < 2147483648) (hdg : decode cc pc = .ok (.iastore, 1)) (kk : ∀ (H1 : Heap) (locs1 : List Loc), kw D A H0 H1 locs1 (ws.set q0 (a, .inl (cI, n, .inl (fun k => nI (va_up f j r k))))) → W p l e R s m args below meth c H1 locs1 cells slots Q (F0 m (pc + 1) ls rest)) : W p l e R s m args below meth c H locs cells slots Q (F0 m pc ls (.int (nI r) :: .int (nI j) :: .ref a :: rest)) := by
  refine ky_iast S hK hw q0 ha hj hn hdg (fun H1 locs1 h => ?_)
  rw [ky_upn] at h
  exact kk H1 locs1 h
theorem ky_alenL (S : CallFix p m c cc nL s args lw_g own) (hK : va_K D classes (kt cI cJ) s) (hw : kw D A H0 H locs ws) (q0 : Nat) {n : Nat} {f : Nat → Int64} (ha : ws[q0]? = some (a, .inl (cJ, n, .inr (.inl f)))) (hdg : decode cc pc = .ok (.arraylength, 1)) (kk : W p l e R s m args below meth c H locs cells slots Q (F0 m (pc + 1) ls (.int (nI n) :: rest))) : W p l e R s m args below meth c H locs cells slots Q (F0 m pc ls (.ref a :: rest)) :=
  va_alen S.1 S.2.1 hK hw.1 q0 1 ha (ty := .long) rfl rfl hdg kk
-- numbers and branches
theorem ky_ti {x y : Int32} (h : x = y) (k : W p l e R s m args below meth c H locs cells slots Q (F0 m pc ls (.int y :: rest))) : W p l e R s m args below meth c H locs cells slots Q (F0 m pc ls (.int x :: rest)) := h ▸ k
theorem ky_tl {x y : Int64} (h : x = y) (k : W p l e R s m args below meth c H locs cells slots Q (F0 m pc ls (.long y :: rest))) : W p l e R s m args below meth c H locs cells slots Q (F0 m pc ls (.long x :: rest)) := h ▸ k
theorem ky_lrem (hx : p.tables.exec = Jvm.exec) (hb : c.code = cc) {x y : Int64} (hdg : decode cc pc = .ok (.lrem, 1)) (hne : ¬ y = 0) (k : W p l e R s m args below meth c H locs cells slots Q (F0 m (pc + 1) ls (.long (rmd x y) :: rest))) : W p l e R s m args below meth c H locs cells slots Q (F0 m pc ls (.long y :: .long x :: rest)) := lv_lrem hx hb hdg hne k
theorem ky_i2l (hx : p.tables.exec = Jvm.exec) (hb : c.code = cc) {a : Nat} (h : a < 2147483648) (hdg : decode cc pc = .ok (.i2l, 1)) (k : W p l e R s m args below meth c H locs cells slots Q (F0 m (pc + 1) ls (.long (lN a) :: rest))) : W p l e R s m args below meth c H locs cells slots Q (F0 m pc ls (.int (nI a) :: rest)) := lv_i2l hx hb hdg (nI_l h) k
theorem lN_ne0 {a : Nat} (h0 : 0 < a) (h : a < 2147483648) : ¬ lN a = 0 := by
  intro q
  have e := lN_toInt h
  rw [q] at e
  simp at e
  omega
theorem ky_ge (hx : p.tables.exec = Jvm.exec) (hb : c.code = cc) {a b : Nat} (h1 : a < 2147483648) (h2 : b < 2147483648) {off : Int} {tgt : Nat} (hdg : decode cc pc = .ok (.if_icmp .ge off, 3)) (ht : (pc : Int) + off = (tgt : Int)) (kt : b ≤ a → W p l e R s m args below meth c H locs cells slots Q (F0 m tgt ls rest)) (kf : a < b → W p l e R s m args below meth c H locs cells slots Q (F0 m (pc + 3) ls rest)) : W p l e R s m args below meth c H locs cells slots Q (F0 m pc ls (.int (nI b) :: .int (nI a) :: rest)) :=
  lv_icmp_ge hx hb hdg ht (fun h => kt ((nI_leI h2 h1).mp h)) (fun h => kf (Nat.lt_of_not_le (fun h3 => h ((nI_leI h2 h1).mpr h3))))
theorem ky_gt (hx : p.tables.exec = Jvm.exec) (hb : c.code = cc) {a b : Nat} (h1 : a < 2147483648) (h2 : b < 2147483648) {off : Int} {tgt : Nat} (hdg : decode cc pc = .ok (.if_icmp .gt off, 3)) (ht : (pc : Int) + off = (tgt : Int)) (kt : b < a → W p l e R s m args below meth c H locs cells slots Q (F0 m tgt ls rest)) (kf : a ≤ b → W p l e R s m args below meth c H locs cells slots Q (F0 m (pc + 3) ls rest)) : W p l e R s m args below meth c H locs cells slots Q (F0 m pc ls (.int (nI b) :: .int (nI a) :: rest)) :=
  lv_icmp_gt hx hb hdg ht (fun h => kt ((nI_ltI h2 h1).mp h)) (fun h => kf (Nat.le_of_not_lt (fun h3 => h ((nI_ltI h2 h1).mpr h3))))
theorem ky_ne (hx : p.tables.exec = Jvm.exec) (hb : c.code = cc) {a b : Nat} (h1 : a < 2147483648) (h2 : b < 2147483648) {off : Int} {tgt : Nat} (hdg : decode cc pc = .ok (.if_icmp .ne off, 3)) (ht : (pc : Int) + off = (tgt : Int)) (kt : a ≠ b → W p l e R s m args below meth c H locs cells slots Q (F0 m tgt ls rest)) (kf : a = b → W p l e R s m args below meth c H locs cells slots Q (F0 m (pc + 3) ls rest)) : W p l e R s m args below meth c H locs cells slots Q (F0 m pc ls (.int (nI b) :: .int (nI a) :: rest)) :=
  lv_icmp_ne hx hb hdg ht (fun h => kt (fun h3 => h ((nI_eq h1 h2).mpr h3))) (fun h => kf ((nI_eq h1 h2).mp h))
theorem ky_ifle (hx : p.tables.exec = Jvm.exec) (hb : c.code = cc) {a : Nat} (h1 : a < 2147483648) {off : Int} {tgt : Nat} (hdg : decode cc pc = .ok (.ifCond .le off, 3)) (ht : (pc : Int) + off = (tgt : Int)) (kt : a = 0 → W p l e R s m args below meth c H locs cells slots Q (F0 m tgt ls rest)) (kf : 0 < a → W p l e R s m args below meth c H locs cells slots Q (F0 m (pc + 3) ls rest)) : W p l e R s m args below meth c H locs cells slots Q (F0 m pc ls (.int (nI a) :: rest)) :=
  lv_if_le hx hb hdg ht (fun h => kt (Nat.eq_zero_of_le_zero ((nI_leI h1 (by decide)).mp (show nI a ≤ nI 0 from h)))) (fun h => kf (Nat.pos_of_ne_zero (fun h3 => h (by rw [h3]; decide))))
theorem ky_ifne (hx : p.tables.exec = Jvm.exec) (hb : c.code = cc) {a : Nat} (h1 : a < 2147483648) {off : Int} {tgt : Nat} (hdg : decode cc pc = .ok (.ifCond .ne off, 3)) (ht : (pc : Int) + off = (tgt : Int)) (kt : a ≠ 0 → W p l e R s m args below meth c H locs cells slots Q (F0 m tgt ls rest)) (kf : a = 0 → W p l e R s m args below meth c H locs cells slots Q (F0 m (pc + 3) ls rest)) : W p l e R s m args below meth c H locs cells slots Q (F0 m pc ls (.int (nI a) :: rest)) :=
  lv_if_ne hx hb hdg ht (fun h => kt (fun h3 => h (by rw [h3]; rfl))) (fun h => kf ((nI_eq h1 (by decide)).mp (show nI a = nI 0 from h)))
theorem ky_bne (hx : p.tables.exec = Jvm.exec) (hb : c.code = cc) {b : Bool} {off : Int} {tgt : Nat} (hdg : decode cc pc = .ok (.ifCond .ne off, 3)) (ht : (pc : Int) + off = (tgt : Int)) (kt : b = true → W p l e R s m args below meth c H locs cells slots Q (F0 m tgt ls rest)) (kf : b = false → W p l e R s m args below meth c H locs cells slots Q (F0 m (pc + 3) ls rest)) : W p l e R s m args below meth c H locs cells slots Q (F0 m pc ls (.int (bI b) :: rest)) :=
  lv_if_ne hx hb hdg ht (fun h => kt (by cases b; exact absurd rfl h; rfl)) (fun h => kf (by cases b; rfl; exact absurd h (by decide)))
theorem ky_beq (hx : p.tables.exec = Jvm.exec) (hb : c.code = cc) {b : Bool} {off : Int} {tgt : Nat} (hdg : decode cc pc = .ok (.ifCond .eq off, 3)) (ht : (pc : Int) + off = (tgt : Int)) (kt : b = false → W p l e R s m args below meth c H locs cells slots Q (F0 m tgt ls rest)) (kf : b = true → W p l e R s m args below meth c H locs cells slots Q (F0 m (pc + 3) ls rest)) : W p l e R s m args below meth c H locs cells slots Q (F0 m pc ls (.int (bI b) :: rest)) :=
  lv_if_eq hx hb hdg ht (fun h => kt (by cases b; rfl; exact absurd h (by decide))) (fun h => kf (by cases b; exact absurd rfl h; rfl))
theorem ky_lge (hx : p.tables.exec = Jvm.exec) (hb : c.code = cc) {x y : Int64} {off : Int} {tgt : Nat} (hdg : decode cc pc = .ok (.ifCond .ge off, 3)) (ht : (pc : Int) + off = (tgt : Int)) (kt : ¬ x < y → W p l e R s m args below meth c H locs cells slots Q (F0 m tgt ls rest)) (kf : x < y → W p l e R s m args below meth c H locs cells slots Q (F0 m (pc + 3) ls rest)) : W p l e R s m args below meth c H locs cells slots Q (F0 m pc ls (.int (lg_cmp x y) :: rest)) :=
  lv_if_ge hx hb hdg ht (fun h => kt (Int64.not_lt.mpr ((lg_cmp_ge x y).mp h))) (fun h => kf (Int64.not_le.mp (fun h3 => h ((lg_cmp_ge x y).mpr h3))))
theorem ky_lne (hx : p.tables.exec = Jvm.exec) (hb : c.code = cc) {x y : Int64} {off : Int} {tgt : Nat} (hdg : decode cc pc = .ok (.ifCond .ne off, 3)) (ht : (pc : Int) + off = (tgt : Int)) (kt : ¬ x = y → W p l e R s m args below meth c H locs cells slots Q (F0 m tgt ls rest)) (kf : x = y → W p l e R s m args below meth c H locs cells slots Q (F0 m (pc + 3) ls rest)) : W p l e R s m args below meth c H locs cells slots Q (F0 m pc ls (.int (lg_cmp x y) :: rest)) :=
  lv_if_ne hx hb hdg ht (fun h => kt (fun h3 => h ((lg_cmp_eq x y).mpr h3))) (fun h => kf ((lg_cmp_eq x y).mp h))
theorem ky_ifeq (hx : p.tables.exec = Jvm.exec) (hb : c.code = cc) {a : Nat} (h1 : a < 2147483648) {off : Int} {tgt : Nat} (hdg : decode cc pc = .ok (.ifCond .eq off, 3)) (ht : (pc : Int) + off = (tgt : Int)) (kt : a = 0 → W p l e R s m args below meth c H locs cells slots Q (F0 m tgt ls rest)) (kf : a ≠ 0 → W p l e R s m args below meth c H locs cells slots Q (F0 m (pc + 3) ls rest)) : W p l e R s m args below meth c H locs cells slots Q (F0 m pc ls (.int (nI a) :: rest)) :=
  lv_if_eq hx hb hdg ht (fun h => kt ((nI_eq h1 (by decide)).mp (show nI a = nI 0 from h))) (fun h => kf (fun h3 => h (by rw [h3]; rfl)))
theorem ky_le (hx : p.tables.exec = Jvm.exec) (hb : c.code = cc) {a b : Nat} (h1 : a < 2147483648) (h2 : b < 2147483648) {off : Int} {tgt : Nat} (hdg : decode cc pc = .ok (.if_icmp .le off, 3)) (ht : (pc : Int) + off = (tgt : Int)) (kt : a ≤ b → W p l e R s m args below meth c H locs cells slots Q (F0 m tgt ls rest)) (kf : b < a → W p l e R s m args below meth c H locs cells slots Q (F0 m (pc + 3) ls rest)) : W p l e R s m args below meth c H locs cells slots Q (F0 m pc ls (.int (nI b) :: .int (nI a) :: rest)) :=
  lv_icmp_le hx hb hdg ht (fun h => kt ((nI_leI h1 h2).mp h)) (fun h => kf (Nat.lt_of_not_le (fun h3 => h ((nI_leI h1 h2).mpr h3))))
theorem ky_lt (hx : p.tables.exec = Jvm.exec) (hb : c.code = cc) {a b : Nat} (h1 : a < 2147483648) (h2 : b < 2147483648) {off : Int} {tgt : Nat} (hdg : decode cc pc = .ok (.if_icmp .lt off, 3)) (ht : (pc : Int) + off = (tgt : Int)) (kt : a < b → W p l e R s m args below meth c H locs cells slots Q (F0 m tgt ls rest)) (kf : b ≤ a → W p l e R s m args below meth c H locs cells slots Q (F0 m (pc + 3) ls rest)) : W p l e R s m args below meth c H locs cells slots Q (F0 m pc ls (.int (nI b) :: .int (nI a) :: rest)) :=
  lv_icmp_lt hx hb hdg ht (fun h => kt ((nI_ltI h1 h2).mp h)) (fun h => kf (Nat.le_of_not_lt (fun h3 => h ((nI_ltI h1 h2).mpr h3))))
theorem gD_p {fs : List Value} {v : Value} (S : CallFix p m c cc nL s args lw_g R_D) (hK : va_K D classes tys s) (hw : kw D A H0 H locs ws) (he : ws[0]? = some (a, .inr (0, fs))) (hv : fs[0]? = some v) (hdg : decode cc pc = .ok (.getfield 54, 3)) (kk : W p l e R s m args below meth c H locs cells slots Q (F0 m (pc + 3) ls (v :: rest))) : W p l e R s m args below meth c H locs cells slots Q (F0 m pc ls (.ref a :: rest)) := va_get S.1 S.2.1 S.2.2.2.2 i_D S.2.2.2.1 hK hw.1 0 he rfl 0 (by decide) (S.2.2.2.2 _ q1_19) (fun _ h => h) hv hdg kk
theorem pD_p {fs : List Value} {v : Int32} (S : CallFix p m c cc nL s args lw_g R_D) (hin : meth.name = "<init>") (hK : va_K D classes tys s) (hw : kw D A H0 H locs ws) (he : ws[0]? = some (a, .inr (0, fs))) (hl : 0 < fs.length) (hdg : decode cc pc = .ok (.putfield 54, 3)) (kk : ∀ (H1 : Heap) (locs1 : List Loc), kw D A H0 H1 locs1 (ws.set 0 (a, .inr (0, fs.set 0 (.int v)))) → W p l e R s m args below meth c H1 locs1 cells slots Q (F0 m (pc + 3) ls rest)) : W p l e R s m args below meth c H locs cells slots Q (F0 m pc ls (.int v :: .ref a :: rest)) := va_putF S.1 S.2.1 S.2.2.2.2 i_D t_D t_D_ok n_D S.2.2.2.1 hK hw.1 hw.2.1 hw.2.2 0 he rfl 0 (by decide) (S.2.2.2.2 _ q1_19) (fun _ h => h) rfl hin rfl (ty := .int) (by decide +kernel) rfl rfl hl hdg (fun H1 locs1 h1 h2 h3 => kk H1 locs1 ⟨h1, h2, h3⟩)
theorem gD_n {fs : List Value} {v : Value} (S : CallFix p m c cc nL s args lw_g R_D) (hK : va_K D classes tys s) (hw : kw D A H0 H locs ws) (he : ws[0]? = some (a, .inr (0, fs))) (hv : fs[1]? = some v) (hdg : decode cc pc = .ok (.getfield 57, 3)) (kk : W p l e R s m args below meth c H locs cells slots Q (F0 m (pc + 3) ls (v :: rest))) : W p l e R s m args below meth c H locs cells slots Q (F0 m pc ls (.ref a :: rest)) := va_get S.1 S.2.1 S.2.2.2.2 i_D S.2.2.2.1 hK hw.1 0 he rfl 1 (by decide) (S.2.2.2.2 _ q1_20) (fun _ h => h) hv hdg kk
theorem pD_n {fs : List Value} {v : Int32} (S : CallFix p m c cc nL s args lw_g R_D) (hin : meth.name = "<init>") (hK : va_K D classes tys s) (hw : kw D A H0 H locs ws) (he : ws[0]? = some (a, .inr (0, fs))) (hl : 1 < fs.length) (hdg : decode cc pc = .ok (.putfield 57, 3)) (kk : ∀ (H1 : Heap) (locs1 : List Loc), kw D A H0 H1 locs1 (ws.set 0 (a, .inr (0, fs.set 1 (.int v)))) → W p l e R s m args below meth c H1 locs1 cells slots Q (F0 m (pc + 3) ls rest)) : W p l e R s m args below meth c H locs cells slots Q (F0 m pc ls (.int v :: .ref a :: rest)) := va_putF S.1 S.2.1 S.2.2.2.2 i_D t_D t_D_ok n_D S.2.2.2.1 hK hw.1 hw.2.1 hw.2.2 0 he rfl 1 (by decide) (S.2.2.2.2 _ q1_20) (fun _ h => h) rfl hin rfl (ty := .int) (by decide +kernel) rfl rfl hl hdg (fun H1 locs1 h1 h2 h3 => kk H1 locs1 ⟨h1, h2, h3⟩)
theorem gD_most {fs : List Value} {v : Value} (S : CallFix p m c cc nL s args lw_g R_D) (hK : va_K D classes tys s) (hw : kw D A H0 H locs ws) (he : ws[0]? = some (a, .inr (0, fs))) (hv : fs[2]? = some v) (hdg : decode cc pc = .ok (.getfield 60, 3)) (kk : W p l e R s m args below meth c H locs cells slots Q (F0 m (pc + 3) ls (v :: rest))) : W p l e R s m args below meth c H locs cells slots Q (F0 m pc ls (.ref a :: rest)) := va_get S.1 S.2.1 S.2.2.2.2 i_D S.2.2.2.1 hK hw.1 0 he rfl 2 (by decide) (S.2.2.2.2 _ q1_21) (fun _ h => h) hv hdg kk
theorem pD_most {fs : List Value} {v : Int32} (S : CallFix p m c cc nL s args lw_g R_D) (hin : meth.name = "<init>") (hK : va_K D classes tys s) (hw : kw D A H0 H locs ws) (he : ws[0]? = some (a, .inr (0, fs))) (hl : 2 < fs.length) (hdg : decode cc pc = .ok (.putfield 60, 3)) (kk : ∀ (H1 : Heap) (locs1 : List Loc), kw D A H0 H1 locs1 (ws.set 0 (a, .inr (0, fs.set 2 (.int v)))) → W p l e R s m args below meth c H1 locs1 cells slots Q (F0 m (pc + 3) ls rest)) : W p l e R s m args below meth c H locs cells slots Q (F0 m pc ls (.int v :: .ref a :: rest)) := va_putF S.1 S.2.1 S.2.2.2.2 i_D t_D t_D_ok n_D S.2.2.2.1 hK hw.1 hw.2.1 hw.2.2 0 he rfl 2 (by decide) (S.2.2.2.2 _ q1_21) (fun _ h => h) rfl hin rfl (ty := .int) (by decide +kernel) rfl rfl hl hdg (fun H1 locs1 h1 h2 h3 => kk H1 locs1 ⟨h1, h2, h3⟩)
theorem gD_rows {fs : List Value} {v : Value} (S : CallFix p m c cc nL s args lw_g R_D) (hK : va_K D classes tys s) (hw : kw D A H0 H locs ws) (he : ws[0]? = some (a, .inr (0, fs))) (hv : fs[3]? = some v) (hdg : decode cc pc = .ok (.getfield 63, 3)) (kk : W p l e R s m args below meth c H locs cells slots Q (F0 m (pc + 3) ls (v :: rest))) : W p l e R s m args below meth c H locs cells slots Q (F0 m pc ls (.ref a :: rest)) := va_get S.1 S.2.1 S.2.2.2.2 i_D S.2.2.2.1 hK hw.1 0 he rfl 3 (by decide) (S.2.2.2.2 _ q1_22) (fun _ h => h) hv hdg kk
theorem pD_rows {fs : List Value} {v : Nat} (S : CallFix p m c cc nL s args lw_g R_D) (hin : meth.name = "<init>") (hK : va_K D classes tys s) (hw : kw D A H0 H locs ws) (he : ws[0]? = some (a, .inr (0, fs))) (hl : 3 < fs.length) (hdg : decode cc pc = .ok (.putfield 63, 3)) (kk : ∀ (H1 : Heap) (locs1 : List Loc), kw D A H0 H1 locs1 (ws.set 0 (a, .inr (0, fs.set 3 (.ref v)))) → W p l e R s m args below meth c H1 locs1 cells slots Q (F0 m (pc + 3) ls rest)) : W p l e R s m args below meth c H locs cells slots Q (F0 m pc ls (.ref v :: .ref a :: rest)) := va_putF S.1 S.2.1 S.2.2.2.2 i_D t_D t_D_ok n_D S.2.2.2.1 hK hw.1 hw.2.1 hw.2.2 0 he rfl 3 (by decide) (S.2.2.2.2 _ q1_22) (fun _ h => h) rfl hin rfl (ty := .array .int) (by decide +kernel) rfl rfl hl hdg (fun H1 locs1 h1 h2 h3 => kk H1 locs1 ⟨h1, h2, h3⟩)
theorem gD_columns {fs : List Value} {v : Value} (S : CallFix p m c cc nL s args lw_g R_D) (hK : va_K D classes tys s) (hw : kw D A H0 H locs ws) (he : ws[0]? = some (a, .inr (0, fs))) (hv : fs[4]? = some v) (hdg : decode cc pc = .ok (.getfield 67, 3)) (kk : W p l e R s m args below meth c H locs cells slots Q (F0 m (pc + 3) ls (v :: rest))) : W p l e R s m args below meth c H locs cells slots Q (F0 m pc ls (.ref a :: rest)) := va_get S.1 S.2.1 S.2.2.2.2 i_D S.2.2.2.1 hK hw.1 0 he rfl 4 (by decide) (S.2.2.2.2 _ q1_23) (fun _ h => h) hv hdg kk
theorem pD_columns {fs : List Value} {v : Nat} (S : CallFix p m c cc nL s args lw_g R_D) (hin : meth.name = "<init>") (hK : va_K D classes tys s) (hw : kw D A H0 H locs ws) (he : ws[0]? = some (a, .inr (0, fs))) (hl : 4 < fs.length) (hdg : decode cc pc = .ok (.putfield 67, 3)) (kk : ∀ (H1 : Heap) (locs1 : List Loc), kw D A H0 H1 locs1 (ws.set 0 (a, .inr (0, fs.set 4 (.ref v)))) → W p l e R s m args below meth c H1 locs1 cells slots Q (F0 m (pc + 3) ls rest)) : W p l e R s m args below meth c H locs cells slots Q (F0 m pc ls (.ref v :: .ref a :: rest)) := va_putF S.1 S.2.1 S.2.2.2.2 i_D t_D t_D_ok n_D S.2.2.2.1 hK hw.1 hw.2.1 hw.2.2 0 he rfl 4 (by decide) (S.2.2.2.2 _ q1_23) (fun _ h => h) rfl hin rfl (ty := .array .int) (by decide +kernel) rfl rfl hl hdg (fun H1 locs1 h1 h2 h3 => kk H1 locs1 ⟨h1, h2, h3⟩)
theorem gD_values {fs : List Value} {v : Value} (S : CallFix p m c cc nL s args lw_g R_D) (hK : va_K D classes tys s) (hw : kw D A H0 H locs ws) (he : ws[0]? = some (a, .inr (0, fs))) (hv : fs[5]? = some v) (hdg : decode cc pc = .ok (.getfield 70, 3)) (kk : W p l e R s m args below meth c H locs cells slots Q (F0 m (pc + 3) ls (v :: rest))) : W p l e R s m args below meth c H locs cells slots Q (F0 m pc ls (.ref a :: rest)) := va_get S.1 S.2.1 S.2.2.2.2 i_D S.2.2.2.1 hK hw.1 0 he rfl 5 (by decide) (S.2.2.2.2 _ q1_24) (fun _ h => h) hv hdg kk
theorem pD_values {fs : List Value} {v : Nat} (S : CallFix p m c cc nL s args lw_g R_D) (hin : meth.name = "<init>") (hK : va_K D classes tys s) (hw : kw D A H0 H locs ws) (he : ws[0]? = some (a, .inr (0, fs))) (hl : 5 < fs.length) (hdg : decode cc pc = .ok (.putfield 70, 3)) (kk : ∀ (H1 : Heap) (locs1 : List Loc), kw D A H0 H1 locs1 (ws.set 0 (a, .inr (0, fs.set 5 (.ref v)))) → W p l e R s m args below meth c H1 locs1 cells slots Q (F0 m (pc + 3) ls rest)) : W p l e R s m args below meth c H locs cells slots Q (F0 m pc ls (.ref v :: .ref a :: rest)) := va_putF S.1 S.2.1 S.2.2.2.2 i_D t_D t_D_ok n_D S.2.2.2.1 hK hw.1 hw.2.1 hw.2.2 0 he rfl 5 (by decide) (S.2.2.2.2 _ q1_24) (fun _ h => h) rfl hin rfl (ty := .array .int) (by decide +kernel) rfl rfl hl hdg (fun H1 locs1 h1 h2 h3 => kk H1 locs1 ⟨h1, h2, h3⟩)
theorem gD_b {fs : List Value} {v : Value} (S : CallFix p m c cc nL s args lw_g R_D) (hK : va_K D classes tys s) (hw : kw D A H0 H locs ws) (he : ws[0]? = some (a, .inr (0, fs))) (hv : fs[6]? = some v) (hdg : decode cc pc = .ok (.getfield 7, 3)) (kk : W p l e R s m args below meth c H locs cells slots Q (F0 m (pc + 3) ls (v :: rest))) : W p l e R s m args below meth c H locs cells slots Q (F0 m pc ls (.ref a :: rest)) := va_get S.1 S.2.1 S.2.2.2.2 i_D S.2.2.2.1 hK hw.1 0 he rfl 6 (by decide) (S.2.2.2.2 _ q1_25) (fun _ h => h) hv hdg kk
theorem pD_b {fs : List Value} {v : Nat} (S : CallFix p m c cc nL s args lw_g R_D) (hin : meth.name = "<init>") (hK : va_K D classes tys s) (hw : kw D A H0 H locs ws) (he : ws[0]? = some (a, .inr (0, fs))) (hl : 6 < fs.length) (hdg : decode cc pc = .ok (.putfield 7, 3)) (kk : ∀ (H1 : Heap) (locs1 : List Loc), kw D A H0 H1 locs1 (ws.set 0 (a, .inr (0, fs.set 6 (.ref v)))) → W p l e R s m args below meth c H1 locs1 cells slots Q (F0 m (pc + 3) ls rest)) : W p l e R s m args below meth c H locs cells slots Q (F0 m pc ls (.ref v :: .ref a :: rest)) := va_putF S.1 S.2.1 S.2.2.2.2 i_D t_D t_D_ok n_D S.2.2.2.1 hK hw.1 hw.2.1 hw.2.2 0 he rfl 6 (by decide) (S.2.2.2.2 _ q1_25) (fun _ h => h) rfl hin rfl (ty := .array .long) (by decide +kernel) rfl rfl hl hdg (fun H1 locs1 h1 h2 h3 => kk H1 locs1 ⟨h1, h2, h3⟩)
theorem gD_u {fs : List Value} {v : Value} (S : CallFix p m c cc nL s args lw_g R_D) (hK : va_K D classes tys s) (hw : kw D A H0 H locs ws) (he : ws[0]? = some (a, .inr (0, fs))) (hv : fs[7]? = some v) (hdg : decode cc pc = .ok (.getfield 13, 3)) (kk : W p l e R s m args below meth c H locs cells slots Q (F0 m (pc + 3) ls (v :: rest))) : W p l e R s m args below meth c H locs cells slots Q (F0 m pc ls (.ref a :: rest)) := va_get S.1 S.2.1 S.2.2.2.2 i_D S.2.2.2.1 hK hw.1 0 he rfl 7 (by decide) (S.2.2.2.2 _ q1_26) (fun _ h => h) hv hdg kk
theorem pD_u {fs : List Value} {v : Nat} (S : CallFix p m c cc nL s args lw_g R_D) (hin : meth.name = "<init>") (hK : va_K D classes tys s) (hw : kw D A H0 H locs ws) (he : ws[0]? = some (a, .inr (0, fs))) (hl : 7 < fs.length) (hdg : decode cc pc = .ok (.putfield 13, 3)) (kk : ∀ (H1 : Heap) (locs1 : List Loc), kw D A H0 H1 locs1 (ws.set 0 (a, .inr (0, fs.set 7 (.ref v)))) → W p l e R s m args below meth c H1 locs1 cells slots Q (F0 m (pc + 3) ls rest)) : W p l e R s m args below meth c H locs cells slots Q (F0 m pc ls (.ref v :: .ref a :: rest)) := va_putF S.1 S.2.1 S.2.2.2.2 i_D t_D t_D_ok n_D S.2.2.2.1 hK hw.1 hw.2.1 hw.2.2 0 he rfl 7 (by decide) (S.2.2.2.2 _ q1_26) (fun _ h => h) rfl hin rfl (ty := .array .long) (by decide +kernel) rfl rfl hl hdg (fun H1 locs1 h1 h2 h3 => kk H1 locs1 ⟨h1, h2, h3⟩)
theorem gD_v {fs : List Value} {v : Value} (S : CallFix p m c cc nL s args lw_g R_D) (hK : va_K D classes tys s) (hw : kw D A H0 H locs ws) (he : ws[0]? = some (a, .inr (0, fs))) (hv : fs[8]? = some v) (hdg : decode cc pc = .ok (.getfield 16, 3)) (kk : W p l e R s m args below meth c H locs cells slots Q (F0 m (pc + 3) ls (v :: rest))) : W p l e R s m args below meth c H locs cells slots Q (F0 m pc ls (.ref a :: rest)) := va_get S.1 S.2.1 S.2.2.2.2 i_D S.2.2.2.1 hK hw.1 0 he rfl 8 (by decide) (S.2.2.2.2 _ q1_27) (fun _ h => h) hv hdg kk
theorem pD_v {fs : List Value} {v : Nat} (S : CallFix p m c cc nL s args lw_g R_D) (hin : meth.name = "<init>") (hK : va_K D classes tys s) (hw : kw D A H0 H locs ws) (he : ws[0]? = some (a, .inr (0, fs))) (hl : 8 < fs.length) (hdg : decode cc pc = .ok (.putfield 16, 3)) (kk : ∀ (H1 : Heap) (locs1 : List Loc), kw D A H0 H1 locs1 (ws.set 0 (a, .inr (0, fs.set 8 (.ref v)))) → W p l e R s m args below meth c H1 locs1 cells slots Q (F0 m (pc + 3) ls rest)) : W p l e R s m args below meth c H locs cells slots Q (F0 m pc ls (.ref v :: .ref a :: rest)) := va_putF S.1 S.2.1 S.2.2.2.2 i_D t_D t_D_ok n_D S.2.2.2.1 hK hw.1 hw.2.1 hw.2.2 0 he rfl 8 (by decide) (S.2.2.2.2 _ q1_27) (fun _ h => h) rfl hin rfl (ty := .array .long) (by decide +kernel) rfl rfl hl hdg (fun H1 locs1 h1 h2 h3 => kk H1 locs1 ⟨h1, h2, h3⟩)
theorem gD_w {fs : List Value} {v : Value} (S : CallFix p m c cc nL s args lw_g R_D) (hK : va_K D classes tys s) (hw : kw D A H0 H locs ws) (he : ws[0]? = some (a, .inr (0, fs))) (hv : fs[9]? = some v) (hdg : decode cc pc = .ok (.getfield 19, 3)) (kk : W p l e R s m args below meth c H locs cells slots Q (F0 m (pc + 3) ls (v :: rest))) : W p l e R s m args below meth c H locs cells slots Q (F0 m pc ls (.ref a :: rest)) := va_get S.1 S.2.1 S.2.2.2.2 i_D S.2.2.2.1 hK hw.1 0 he rfl 9 (by decide) (S.2.2.2.2 _ q1_28) (fun _ h => h) hv hdg kk
theorem pD_w {fs : List Value} {v : Nat} (S : CallFix p m c cc nL s args lw_g R_D) (hin : meth.name = "<init>") (hK : va_K D classes tys s) (hw : kw D A H0 H locs ws) (he : ws[0]? = some (a, .inr (0, fs))) (hl : 9 < fs.length) (hdg : decode cc pc = .ok (.putfield 19, 3)) (kk : ∀ (H1 : Heap) (locs1 : List Loc), kw D A H0 H1 locs1 (ws.set 0 (a, .inr (0, fs.set 9 (.ref v)))) → W p l e R s m args below meth c H1 locs1 cells slots Q (F0 m (pc + 3) ls rest)) : W p l e R s m args below meth c H locs cells slots Q (F0 m pc ls (.ref v :: .ref a :: rest)) := va_putF S.1 S.2.1 S.2.2.2.2 i_D t_D t_D_ok n_D S.2.2.2.1 hK hw.1 hw.2.1 hw.2.2 0 he rfl 9 (by decide) (S.2.2.2.2 _ q1_28) (fun _ h => h) rfl hin rfl (ty := .array .long) (by decide +kernel) rfl rfl hl hdg (fun H1 locs1 h1 h2 h3 => kk H1 locs1 ⟨h1, h2, h3⟩)
theorem gD_x {fs : List Value} {v : Value} (S : CallFix p m c cc nL s args lw_g R_D) (hK : va_K D classes tys s) (hw : kw D A H0 H locs ws) (he : ws[0]? = some (a, .inr (0, fs))) (hv : fs[10]? = some v) (hdg : decode cc pc = .ok (.getfield 22, 3)) (kk : W p l e R s m args below meth c H locs cells slots Q (F0 m (pc + 3) ls (v :: rest))) : W p l e R s m args below meth c H locs cells slots Q (F0 m pc ls (.ref a :: rest)) := va_get S.1 S.2.1 S.2.2.2.2 i_D S.2.2.2.1 hK hw.1 0 he rfl 10 (by decide) (S.2.2.2.2 _ q1_29) (fun _ h => h) hv hdg kk
theorem pD_x {fs : List Value} {v : Nat} (S : CallFix p m c cc nL s args lw_g R_D) (hin : meth.name = "<init>") (hK : va_K D classes tys s) (hw : kw D A H0 H locs ws) (he : ws[0]? = some (a, .inr (0, fs))) (hl : 10 < fs.length) (hdg : decode cc pc = .ok (.putfield 22, 3)) (kk : ∀ (H1 : Heap) (locs1 : List Loc), kw D A H0 H1 locs1 (ws.set 0 (a, .inr (0, fs.set 10 (.ref v)))) → W p l e R s m args below meth c H1 locs1 cells slots Q (F0 m (pc + 3) ls rest)) : W p l e R s m args below meth c H locs cells slots Q (F0 m pc ls (.ref v :: .ref a :: rest)) := va_putF S.1 S.2.1 S.2.2.2.2 i_D t_D t_D_ok n_D S.2.2.2.1 hK hw.1 hw.2.1 hw.2.2 0 he rfl 10 (by decide) (S.2.2.2.2 _ q1_29) (fun _ h => h) rfl hin rfl (ty := .array .long) (by decide +kernel) rfl rfl hl hdg (fun H1 locs1 h1 h2 h3 => kk H1 locs1 ⟨h1, h2, h3⟩)
theorem gD_row {fs : List Value} {v : Value} (S : CallFix p m c cc nL s args lw_g R_D) (hK : va_K D classes tys s) (hw : kw D A H0 H locs ws) (he : ws[0]? = some (a, .inr (0, fs))) (hv : fs[11]? = some v) (hdg : decode cc pc = .ok (.getfield 25, 3)) (kk : W p l e R s m args below meth c H locs cells slots Q (F0 m (pc + 3) ls (v :: rest))) : W p l e R s m args below meth c H locs cells slots Q (F0 m pc ls (.ref a :: rest)) := va_get S.1 S.2.1 S.2.2.2.2 i_D S.2.2.2.1 hK hw.1 0 he rfl 11 (by decide) (S.2.2.2.2 _ q1_30) (fun _ h => h) hv hdg kk
theorem pD_row {fs : List Value} {v : Nat} (S : CallFix p m c cc nL s args lw_g R_D) (hin : meth.name = "<init>") (hK : va_K D classes tys s) (hw : kw D A H0 H locs ws) (he : ws[0]? = some (a, .inr (0, fs))) (hl : 11 < fs.length) (hdg : decode cc pc = .ok (.putfield 25, 3)) (kk : ∀ (H1 : Heap) (locs1 : List Loc), kw D A H0 H1 locs1 (ws.set 0 (a, .inr (0, fs.set 11 (.ref v)))) → W p l e R s m args below meth c H1 locs1 cells slots Q (F0 m (pc + 3) ls rest)) : W p l e R s m args below meth c H locs cells slots Q (F0 m pc ls (.ref v :: .ref a :: rest)) := va_putF S.1 S.2.1 S.2.2.2.2 i_D t_D t_D_ok n_D S.2.2.2.1 hK hw.1 hw.2.1 hw.2.2 0 he rfl 11 (by decide) (S.2.2.2.2 _ q1_30) (fun _ h => h) rfl hin rfl (ty := .array .long) (by decide +kernel) rfl rfl hl hdg (fun H1 locs1 h1 h2 h3 => kk H1 locs1 ⟨h1, h2, h3⟩)
theorem gD_now {fs : List Value} {v : Value} (S : CallFix p m c cc nL s args lw_g R_D) (hK : va_K D classes tys s) (hw : kw D A H0 H locs ws) (he : ws[0]? = some (a, .inr (0, fs))) (hv : fs[12]? = some v) (hdg : decode cc pc = .ok (.getfield 28, 3)) (kk : W p l e R s m args below meth c H locs cells slots Q (F0 m (pc + 3) ls (v :: rest))) : W p l e R s m args below meth c H locs cells slots Q (F0 m pc ls (.ref a :: rest)) := va_get S.1 S.2.1 S.2.2.2.2 i_D S.2.2.2.1 hK hw.1 0 he rfl 12 (by decide) (S.2.2.2.2 _ q1_31) (fun _ h => h) hv hdg kk
theorem pD_now {fs : List Value} {v : Nat} (S : CallFix p m c cc nL s args lw_g R_D) (hin : meth.name = "<init>") (hK : va_K D classes tys s) (hw : kw D A H0 H locs ws) (he : ws[0]? = some (a, .inr (0, fs))) (hl : 12 < fs.length) (hdg : decode cc pc = .ok (.putfield 28, 3)) (kk : ∀ (H1 : Heap) (locs1 : List Loc), kw D A H0 H1 locs1 (ws.set 0 (a, .inr (0, fs.set 12 (.ref v)))) → W p l e R s m args below meth c H1 locs1 cells slots Q (F0 m (pc + 3) ls rest)) : W p l e R s m args below meth c H locs cells slots Q (F0 m pc ls (.ref v :: .ref a :: rest)) := va_putF S.1 S.2.1 S.2.2.2.2 i_D t_D t_D_ok n_D S.2.2.2.1 hK hw.1 hw.2.1 hw.2.2 0 he rfl 12 (by decide) (S.2.2.2.2 _ q1_31) (fun _ h => h) rfl hin rfl (ty := .array .long) (by decide +kernel) rfl rfl hl hdg (fun H1 locs1 h1 h2 h3 => kk H1 locs1 ⟨h1, h2, h3⟩)
theorem gD_before {fs : List Value} {v : Value} (S : CallFix p m c cc nL s args lw_g R_D) (hK : va_K D classes tys s) (hw : kw D A H0 H locs ws) (he : ws[0]? = some (a, .inr (0, fs))) (hv : fs[13]? = some v) (hdg : decode cc pc = .ok (.getfield 31, 3)) (kk : W p l e R s m args below meth c H locs cells slots Q (F0 m (pc + 3) ls (v :: rest))) : W p l e R s m args below meth c H locs cells slots Q (F0 m pc ls (.ref a :: rest)) := va_get S.1 S.2.1 S.2.2.2.2 i_D S.2.2.2.1 hK hw.1 0 he rfl 13 (by decide) (S.2.2.2.2 _ q1_32) (fun _ h => h) hv hdg kk
theorem pD_before {fs : List Value} {v : Nat} (S : CallFix p m c cc nL s args lw_g R_D) (hin : meth.name = "<init>") (hK : va_K D classes tys s) (hw : kw D A H0 H locs ws) (he : ws[0]? = some (a, .inr (0, fs))) (hl : 13 < fs.length) (hdg : decode cc pc = .ok (.putfield 31, 3)) (kk : ∀ (H1 : Heap) (locs1 : List Loc), kw D A H0 H1 locs1 (ws.set 0 (a, .inr (0, fs.set 13 (.ref v)))) → W p l e R s m args below meth c H1 locs1 cells slots Q (F0 m (pc + 3) ls rest)) : W p l e R s m args below meth c H locs cells slots Q (F0 m pc ls (.ref v :: .ref a :: rest)) := va_putF S.1 S.2.1 S.2.2.2.2 i_D t_D t_D_ok n_D S.2.2.2.1 hK hw.1 hw.2.1 hw.2.2 0 he rfl 13 (by decide) (S.2.2.2.2 _ q1_32) (fun _ h => h) rfl hin rfl (ty := .array .long) (by decide +kernel) rfl rfl hl hdg (fun H1 locs1 h1 h2 h3 => kk H1 locs1 ⟨h1, h2, h3⟩)
theorem gD_kept {fs : List Value} {v : Value} (S : CallFix p m c cc nL s args lw_g R_D) (hK : va_K D classes tys s) (hw : kw D A H0 H locs ws) (he : ws[0]? = some (a, .inr (0, fs))) (hv : fs[14]? = some v) (hdg : decode cc pc = .ok (.getfield 34, 3)) (kk : W p l e R s m args below meth c H locs cells slots Q (F0 m (pc + 3) ls (v :: rest))) : W p l e R s m args below meth c H locs cells slots Q (F0 m pc ls (.ref a :: rest)) := va_get S.1 S.2.1 S.2.2.2.2 i_D S.2.2.2.1 hK hw.1 0 he rfl 14 (by decide) (S.2.2.2.2 _ q1_33) (fun _ h => h) hv hdg kk
theorem pD_kept {fs : List Value} {v : Nat} (S : CallFix p m c cc nL s args lw_g R_D) (hin : meth.name = "<init>") (hK : va_K D classes tys s) (hw : kw D A H0 H locs ws) (he : ws[0]? = some (a, .inr (0, fs))) (hl : 14 < fs.length) (hdg : decode cc pc = .ok (.putfield 34, 3)) (kk : ∀ (H1 : Heap) (locs1 : List Loc), kw D A H0 H1 locs1 (ws.set 0 (a, .inr (0, fs.set 14 (.ref v)))) → W p l e R s m args below meth c H1 locs1 cells slots Q (F0 m (pc + 3) ls rest)) : W p l e R s m args below meth c H locs cells slots Q (F0 m pc ls (.ref v :: .ref a :: rest)) := va_putF S.1 S.2.1 S.2.2.2.2 i_D t_D t_D_ok n_D S.2.2.2.1 hK hw.1 hw.2.1 hw.2.2 0 he rfl 14 (by decide) (S.2.2.2.2 _ q1_33) (fun _ h => h) rfl hin rfl (ty := .array .long) (by decide +kernel) rfl rfl hl hdg (fun H1 locs1 h1 h2 h3 => kk H1 locs1 ⟨h1, h2, h3⟩)
theorem gD_many {fs : List Value} {v : Value} (S : CallFix p m c cc nL s args lw_g R_D) (hK : va_K D classes tys s) (hw : kw D A H0 H locs ws) (he : ws[0]? = some (a, .inr (0, fs))) (hv : fs[15]? = some v) (hdg : decode cc pc = .ok (.getfield 81, 3)) (kk : W p l e R s m args below meth c H locs cells slots Q (F0 m (pc + 3) ls (v :: rest))) : W p l e R s m args below meth c H locs cells slots Q (F0 m pc ls (.ref a :: rest)) := va_get S.1 S.2.1 S.2.2.2.2 i_D S.2.2.2.1 hK hw.1 0 he rfl 15 (by decide) (S.2.2.2.2 _ q1_34) (fun _ h => h) hv hdg kk
theorem pD_many {fs : List Value} {v : Int32} (S : CallFix p m c cc nL s args lw_g R_D) (hK : va_K D classes tys s) (hw : kw D A H0 H locs ws) (he : ws[0]? = some (a, .inr (0, fs))) (hl : 15 < fs.length) (hdg : decode cc pc = .ok (.putfield 81, 3)) (kk : ∀ (H1 : Heap) (locs1 : List Loc), kw D A H0 H1 locs1 (ws.set 0 (a, .inr (0, fs.set 15 (.int v)))) → W p l e R s m args below meth c H1 locs1 cells slots Q (F0 m (pc + 3) ls rest)) : W p l e R s m args below meth c H locs cells slots Q (F0 m pc ls (.int v :: .ref a :: rest)) := va_put S.1 S.2.1 S.2.2.2.2 i_D t_D t_D_ok n_D S.2.2.2.1 hK hw.1 hw.2.1 hw.2.2 0 he rfl 15 (by decide) (S.2.2.2.2 _ q1_34) (fun _ h => h) rfl (ty := .int) (by decide +kernel) rfl rfl hl hdg (fun H1 locs1 h1 h2 h3 => kk H1 locs1 ⟨h1, h2, h3⟩)
theorem gD_degree {fs : List Value} {v : Value} (S : CallFix p m c cc nL s args lw_g R_D) (hK : va_K D classes tys s) (hw : kw D A H0 H locs ws) (he : ws[0]? = some (a, .inr (0, fs))) (hv : fs[16]? = some v) (hdg : decode cc pc = .ok (.getfield 37, 3)) (kk : W p l e R s m args below meth c H locs cells slots Q (F0 m (pc + 3) ls (v :: rest))) : W p l e R s m args below meth c H locs cells slots Q (F0 m pc ls (.ref a :: rest)) := va_get S.1 S.2.1 S.2.2.2.2 i_D S.2.2.2.1 hK hw.1 0 he rfl 16 (by decide) (S.2.2.2.2 _ q1_35) (fun _ h => h) hv hdg kk
theorem pD_degree {fs : List Value} {v : Int32} (S : CallFix p m c cc nL s args lw_g R_D) (hK : va_K D classes tys s) (hw : kw D A H0 H locs ws) (he : ws[0]? = some (a, .inr (0, fs))) (hl : 16 < fs.length) (hdg : decode cc pc = .ok (.putfield 37, 3)) (kk : ∀ (H1 : Heap) (locs1 : List Loc), kw D A H0 H1 locs1 (ws.set 0 (a, .inr (0, fs.set 16 (.int v)))) → W p l e R s m args below meth c H1 locs1 cells slots Q (F0 m (pc + 3) ls rest)) : W p l e R s m args below meth c H locs cells slots Q (F0 m pc ls (.int v :: .ref a :: rest)) := va_put S.1 S.2.1 S.2.2.2.2 i_D t_D t_D_ok n_D S.2.2.2.1 hK hw.1 hw.2.1 hw.2.2 0 he rfl 16 (by decide) (S.2.2.2.2 _ q1_35) (fun _ h => h) rfl (ty := .int) (by decide +kernel) rfl rfl hl hdg (fun H1 locs1 h1 h2 h3 => kk H1 locs1 ⟨h1, h2, h3⟩)
theorem gD_solved {fs : List Value} {v : Value} (S : CallFix p m c cc nL s args lw_g R_D) (hK : va_K D classes tys s) (hw : kw D A H0 H locs ws) (he : ws[0]? = some (a, .inr (0, fs))) (hv : fs[17]? = some v) (hdg : decode cc pc = .ok (.getfield 73, 3)) (kk : W p l e R s m args below meth c H locs cells slots Q (F0 m (pc + 3) ls (v :: rest))) : W p l e R s m args below meth c H locs cells slots Q (F0 m pc ls (.ref a :: rest)) := va_get S.1 S.2.1 S.2.2.2.2 i_D S.2.2.2.1 hK hw.1 0 he rfl 17 (by decide) (S.2.2.2.2 _ q1_36) (fun _ h => h) hv hdg kk
theorem pD_solved {fs : List Value} {v : Bool} (S : CallFix p m c cc nL s args lw_g R_D) (hK : va_K D classes tys s) (hw : kw D A H0 H locs ws) (he : ws[0]? = some (a, .inr (0, fs))) (hl : 17 < fs.length) (hdg : decode cc pc = .ok (.putfield 73, 3)) (kk : ∀ (H1 : Heap) (locs1 : List Loc), kw D A H0 H1 locs1 (ws.set 0 (a, .inr (0, fs.set 17 (.int (bI v))))) → W p l e R s m args below meth c H1 locs1 cells slots Q (F0 m (pc + 3) ls rest)) : W p l e R s m args below meth c H locs cells slots Q (F0 m pc ls (.int (bI v) :: .ref a :: rest)) := va_put S.1 S.2.1 S.2.2.2.2 i_D t_D t_D_ok n_D S.2.2.2.1 hK hw.1 hw.2.1 hw.2.2 0 he rfl 17 (by decide) (S.2.2.2.2 _ q1_36) (fun _ h => h) rfl (ty := .boolean) (by decide +kernel) (by cases v <;> rfl) (by cases v <;> rfl) hl hdg (fun H1 locs1 h1 h2 h3 => kk H1 locs1 ⟨h1, h2, h3⟩)
theorem gD_generator {fs : List Value} {v : Value} (S : CallFix p m c cc nL s args lw_g R_D) (hK : va_K D classes tys s) (hw : kw D A H0 H locs ws) (he : ws[0]? = some (a, .inr (0, fs))) (hv : fs[18]? = some v) (hdg : decode cc pc = .ok (.getfield 41, 3)) (kk : W p l e R s m args below meth c H locs cells slots Q (F0 m (pc + 3) ls (v :: rest))) : W p l e R s m args below meth c H locs cells slots Q (F0 m pc ls (.ref a :: rest)) := va_get S.1 S.2.1 S.2.2.2.2 i_D S.2.2.2.1 hK hw.1 0 he rfl 18 (by decide) (S.2.2.2.2 _ q1_37) (fun _ h => h) hv hdg kk
theorem pD_generator {fs : List Value} {v : Int64} (S : CallFix p m c cc nL s args lw_g R_D) (hK : va_K D classes tys s) (hw : kw D A H0 H locs ws) (he : ws[0]? = some (a, .inr (0, fs))) (hl : 18 < fs.length) (hdg : decode cc pc = .ok (.putfield 41, 3)) (kk : ∀ (H1 : Heap) (locs1 : List Loc), kw D A H0 H1 locs1 (ws.set 0 (a, .inr (0, fs.set 18 (.long v)))) → W p l e R s m args below meth c H1 locs1 cells slots Q (F0 m (pc + 3) ls rest)) : W p l e R s m args below meth c H locs cells slots Q (F0 m pc ls (.long v :: .ref a :: rest)) := va_put S.1 S.2.1 S.2.2.2.2 i_D t_D t_D_ok n_D S.2.2.2.1 hK hw.1 hw.2.1 hw.2.2 0 he rfl 18 (by decide) (S.2.2.2.2 _ q1_37) (fun _ h => h) rfl (ty := .long) (by decide +kernel) rfl rfl hl hdg (fun H1 locs1 h1 h2 h3 => kk H1 locs1 ⟨h1, h2, h3⟩)
theorem gD_products {fs : List Value} {v : Value} (S : CallFix p m c cc nL s args lw_g R_D) (hK : va_K D classes tys s) (hw : kw D A H0 H locs ws) (he : ws[0]? = some (a, .inr (0, fs))) (hv : fs[19]? = some v) (hdg : decode cc pc = .ok (.getfield 97, 3)) (kk : W p l e R s m args below meth c H locs cells slots Q (F0 m (pc + 3) ls (v :: rest))) : W p l e R s m args below meth c H locs cells slots Q (F0 m pc ls (.ref a :: rest)) := va_get S.1 S.2.1 S.2.2.2.2 i_D S.2.2.2.1 hK hw.1 0 he rfl 19 (by decide) (S.2.2.2.2 _ q1_38) (fun _ h => h) hv hdg kk
theorem pD_products {fs : List Value} {v : Int32} (S : CallFix p m c cc nL s args lw_g R_D) (hK : va_K D classes tys s) (hw : kw D A H0 H locs ws) (he : ws[0]? = some (a, .inr (0, fs))) (hl : 19 < fs.length) (hdg : decode cc pc = .ok (.putfield 97, 3)) (kk : ∀ (H1 : Heap) (locs1 : List Loc), kw D A H0 H1 locs1 (ws.set 0 (a, .inr (0, fs.set 19 (.int v)))) → W p l e R s m args below meth c H1 locs1 cells slots Q (F0 m (pc + 3) ls rest)) : W p l e R s m args below meth c H locs cells slots Q (F0 m pc ls (.int v :: .ref a :: rest)) := va_put S.1 S.2.1 S.2.2.2.2 i_D t_D t_D_ok n_D S.2.2.2.1 hK hw.1 hw.2.1 hw.2.2 0 he rfl 19 (by decide) (S.2.2.2.2 _ q1_38) (fun _ h => h) rfl (ty := .int) (by decide +kernel) rfl rfl hl hdg (fun H1 locs1 h1 h2 h3 => kk H1 locs1 ⟨h1, h2, h3⟩)
theorem gD_attempts {fs : List Value} {v : Value} (S : CallFix p m c cc nL s args lw_g R_D) (hK : va_K D classes tys s) (hw : kw D A H0 H locs ws) (he : ws[0]? = some (a, .inr (0, fs))) (hv : fs[20]? = some v) (hdg : decode cc pc = .ok (.getfield 122, 3)) (kk : W p l e R s m args below meth c H locs cells slots Q (F0 m (pc + 3) ls (v :: rest))) : W p l e R s m args below meth c H locs cells slots Q (F0 m pc ls (.ref a :: rest)) := va_get S.1 S.2.1 S.2.2.2.2 i_D S.2.2.2.1 hK hw.1 0 he rfl 20 (by decide) (S.2.2.2.2 _ q1_39) (fun _ h => h) hv hdg kk
theorem pD_attempts {fs : List Value} {v : Int32} (S : CallFix p m c cc nL s args lw_g R_D) (hK : va_K D classes tys s) (hw : kw D A H0 H locs ws) (he : ws[0]? = some (a, .inr (0, fs))) (hl : 20 < fs.length) (hdg : decode cc pc = .ok (.putfield 122, 3)) (kk : ∀ (H1 : Heap) (locs1 : List Loc), kw D A H0 H1 locs1 (ws.set 0 (a, .inr (0, fs.set 20 (.int v)))) → W p l e R s m args below meth c H1 locs1 cells slots Q (F0 m (pc + 3) ls rest)) : W p l e R s m args below meth c H locs cells slots Q (F0 m pc ls (.int v :: .ref a :: rest)) := va_put S.1 S.2.1 S.2.2.2.2 i_D t_D t_D_ok n_D S.2.2.2.1 hK hw.1 hw.2.1 hw.2.2 0 he rfl 20 (by decide) (S.2.2.2.2 _ q1_39) (fun _ h => h) rfl (ty := .int) (by decide +kernel) rfl rfl hl hdg (fun H1 locs1 h1 h2 h3 => kk H1 locs1 ⟨h1, h2, h3⟩)
theorem gM_prime {fs : List Value} {v : Value} (S : CallFix p m c cc nL s args lw_g R_M) (hK : va_K D classes tys s) (hw : kw D A H0 H locs ws) (he : ws[0]? = some (a, .inr (1, fs))) (hv : fs[0]? = some v) (hdg : decode cc pc = .ok (.getfield 60, 3)) (kk : W p l e R s m args below meth c H locs cells slots Q (F0 m (pc + 3) ls (v :: rest))) : W p l e R s m args below meth c H locs cells slots Q (F0 m pc ls (.ref a :: rest)) := va_get S.1 S.2.1 S.2.2.2.2 i_M S.2.2.2.1 hK hw.1 0 he rfl 0 (by decide) (S.2.2.2.2 _ q1_195) (fun _ h => h) hv hdg kk
theorem pM_prime {fs : List Value} {v : Int32} (S : CallFix p m c cc nL s args lw_g R_M) (hin : meth.name = "<init>") (hK : va_K D classes tys s) (hw : kw D A H0 H locs ws) (he : ws[0]? = some (a, .inr (1, fs))) (hl : 0 < fs.length) (hdg : decode cc pc = .ok (.putfield 60, 3)) (kk : ∀ (H1 : Heap) (locs1 : List Loc), kw D A H0 H1 locs1 (ws.set 0 (a, .inr (1, fs.set 0 (.int v)))) → W p l e R s m args below meth c H1 locs1 cells slots Q (F0 m (pc + 3) ls rest)) : W p l e R s m args below meth c H locs cells slots Q (F0 m pc ls (.int v :: .ref a :: rest)) := va_putF S.1 S.2.1 S.2.2.2.2 i_M t_M t_M_ok n_M S.2.2.2.1 hK hw.1 hw.2.1 hw.2.2 0 he rfl 0 (by decide) (S.2.2.2.2 _ q1_195) (fun _ h => h) rfl hin rfl (ty := .int) (by decide +kernel) rfl rfl hl hdg (fun H1 locs1 h1 h2 h3 => kk H1 locs1 ⟨h1, h2, h3⟩)
theorem gM_n {fs : List Value} {v : Value} (S : CallFix p m c cc nL s args lw_g R_M) (hK : va_K D classes tys s) (hw : kw D A H0 H locs ws) (he : ws[0]? = some (a, .inr (1, fs))) (hv : fs[1]? = some v) (hdg : decode cc pc = .ok (.getfield 63, 3)) (kk : W p l e R s m args below meth c H locs cells slots Q (F0 m (pc + 3) ls (v :: rest))) : W p l e R s m args below meth c H locs cells slots Q (F0 m pc ls (.ref a :: rest)) := va_get S.1 S.2.1 S.2.2.2.2 i_M S.2.2.2.1 hK hw.1 0 he rfl 1 (by decide) (S.2.2.2.2 _ q1_196) (fun _ h => h) hv hdg kk
theorem pM_n {fs : List Value} {v : Int32} (S : CallFix p m c cc nL s args lw_g R_M) (hin : meth.name = "<init>") (hK : va_K D classes tys s) (hw : kw D A H0 H locs ws) (he : ws[0]? = some (a, .inr (1, fs))) (hl : 1 < fs.length) (hdg : decode cc pc = .ok (.putfield 63, 3)) (kk : ∀ (H1 : Heap) (locs1 : List Loc), kw D A H0 H1 locs1 (ws.set 0 (a, .inr (1, fs.set 1 (.int v)))) → W p l e R s m args below meth c H1 locs1 cells slots Q (F0 m (pc + 3) ls rest)) : W p l e R s m args below meth c H locs cells slots Q (F0 m pc ls (.int v :: .ref a :: rest)) := va_putF S.1 S.2.1 S.2.2.2.2 i_M t_M t_M_ok n_M S.2.2.2.1 hK hw.1 hw.2.1 hw.2.2 0 he rfl 1 (by decide) (S.2.2.2.2 _ q1_196) (fun _ h => h) rfl hin rfl (ty := .int) (by decide +kernel) rfl rfl hl hdg (fun H1 locs1 h1 h2 h3 => kk H1 locs1 ⟨h1, h2, h3⟩)
theorem gM_room {fs : List Value} {v : Value} (S : CallFix p m c cc nL s args lw_g R_M) (hK : va_K D classes tys s) (hw : kw D A H0 H locs ws) (he : ws[0]? = some (a, .inr (1, fs))) (hv : fs[2]? = some v) (hdg : decode cc pc = .ok (.getfield 66, 3)) (kk : W p l e R s m args below meth c H locs cells slots Q (F0 m (pc + 3) ls (v :: rest))) : W p l e R s m args below meth c H locs cells slots Q (F0 m pc ls (.ref a :: rest)) := va_get S.1 S.2.1 S.2.2.2.2 i_M S.2.2.2.1 hK hw.1 0 he rfl 2 (by decide) (S.2.2.2.2 _ q1_197) (fun _ h => h) hv hdg kk
theorem pM_room {fs : List Value} {v : Int32} (S : CallFix p m c cc nL s args lw_g R_M) (hin : meth.name = "<init>") (hK : va_K D classes tys s) (hw : kw D A H0 H locs ws) (he : ws[0]? = some (a, .inr (1, fs))) (hl : 2 < fs.length) (hdg : decode cc pc = .ok (.putfield 66, 3)) (kk : ∀ (H1 : Heap) (locs1 : List Loc), kw D A H0 H1 locs1 (ws.set 0 (a, .inr (1, fs.set 2 (.int v)))) → W p l e R s m args below meth c H1 locs1 cells slots Q (F0 m (pc + 3) ls rest)) : W p l e R s m args below meth c H locs cells slots Q (F0 m pc ls (.int v :: .ref a :: rest)) := va_putF S.1 S.2.1 S.2.2.2.2 i_M t_M t_M_ok n_M S.2.2.2.1 hK hw.1 hw.2.1 hw.2.2 0 he rfl 2 (by decide) (S.2.2.2.2 _ q1_197) (fun _ h => h) rfl hin rfl (ty := .int) (by decide +kernel) rfl rfl hl hdg (fun H1 locs1 h1 h2 h3 => kk H1 locs1 ⟨h1, h2, h3⟩)
theorem gM_rows {fs : List Value} {v : Value} (S : CallFix p m c cc nL s args lw_g R_M) (hK : va_K D classes tys s) (hw : kw D A H0 H locs ws) (he : ws[0]? = some (a, .inr (1, fs))) (hv : fs[3]? = some v) (hdg : decode cc pc = .ok (.getfield 7, 3)) (kk : W p l e R s m args below meth c H locs cells slots Q (F0 m (pc + 3) ls (v :: rest))) : W p l e R s m args below meth c H locs cells slots Q (F0 m pc ls (.ref a :: rest)) := va_get S.1 S.2.1 S.2.2.2.2 i_M S.2.2.2.1 hK hw.1 0 he rfl 3 (by decide) (S.2.2.2.2 _ q1_198) (fun _ h => h) hv hdg kk
theorem pM_rows {fs : List Value} {v : Nat} (S : CallFix p m c cc nL s args lw_g R_M) (hin : meth.name = "<init>") (hK : va_K D classes tys s) (hw : kw D A H0 H locs ws) (he : ws[0]? = some (a, .inr (1, fs))) (hl : 3 < fs.length) (hdg : decode cc pc = .ok (.putfield 7, 3)) (kk : ∀ (H1 : Heap) (locs1 : List Loc), kw D A H0 H1 locs1 (ws.set 0 (a, .inr (1, fs.set 3 (.ref v)))) → W p l e R s m args below meth c H1 locs1 cells slots Q (F0 m (pc + 3) ls rest)) : W p l e R s m args below meth c H locs cells slots Q (F0 m pc ls (.ref v :: .ref a :: rest)) := va_putF S.1 S.2.1 S.2.2.2.2 i_M t_M t_M_ok n_M S.2.2.2.1 hK hw.1 hw.2.1 hw.2.2 0 he rfl 3 (by decide) (S.2.2.2.2 _ q1_198) (fun _ h => h) rfl hin rfl (ty := .array .int) (by decide +kernel) rfl rfl hl hdg (fun H1 locs1 h1 h2 h3 => kk H1 locs1 ⟨h1, h2, h3⟩)
theorem gM_columns {fs : List Value} {v : Value} (S : CallFix p m c cc nL s args lw_g R_M) (hK : va_K D classes tys s) (hw : kw D A H0 H locs ws) (he : ws[0]? = some (a, .inr (1, fs))) (hv : fs[4]? = some v) (hdg : decode cc pc = .ok (.getfield 13, 3)) (kk : W p l e R s m args below meth c H locs cells slots Q (F0 m (pc + 3) ls (v :: rest))) : W p l e R s m args below meth c H locs cells slots Q (F0 m pc ls (.ref a :: rest)) := va_get S.1 S.2.1 S.2.2.2.2 i_M S.2.2.2.1 hK hw.1 0 he rfl 4 (by decide) (S.2.2.2.2 _ q1_199) (fun _ h => h) hv hdg kk
theorem pM_columns {fs : List Value} {v : Nat} (S : CallFix p m c cc nL s args lw_g R_M) (hin : meth.name = "<init>") (hK : va_K D classes tys s) (hw : kw D A H0 H locs ws) (he : ws[0]? = some (a, .inr (1, fs))) (hl : 4 < fs.length) (hdg : decode cc pc = .ok (.putfield 13, 3)) (kk : ∀ (H1 : Heap) (locs1 : List Loc), kw D A H0 H1 locs1 (ws.set 0 (a, .inr (1, fs.set 4 (.ref v)))) → W p l e R s m args below meth c H1 locs1 cells slots Q (F0 m (pc + 3) ls rest)) : W p l e R s m args below meth c H locs cells slots Q (F0 m pc ls (.ref v :: .ref a :: rest)) := va_putF S.1 S.2.1 S.2.2.2.2 i_M t_M t_M_ok n_M S.2.2.2.1 hK hw.1 hw.2.1 hw.2.2 0 he rfl 4 (by decide) (S.2.2.2.2 _ q1_199) (fun _ h => h) rfl hin rfl (ty := .array .int) (by decide +kernel) rfl rfl hl hdg (fun H1 locs1 h1 h2 h3 => kk H1 locs1 ⟨h1, h2, h3⟩)
theorem gM_values {fs : List Value} {v : Value} (S : CallFix p m c cc nL s args lw_g R_M) (hK : va_K D classes tys s) (hw : kw D A H0 H locs ws) (he : ws[0]? = some (a, .inr (1, fs))) (hv : fs[5]? = some v) (hdg : decode cc pc = .ok (.getfield 16, 3)) (kk : W p l e R s m args below meth c H locs cells slots Q (F0 m (pc + 3) ls (v :: rest))) : W p l e R s m args below meth c H locs cells slots Q (F0 m pc ls (.ref a :: rest)) := va_get S.1 S.2.1 S.2.2.2.2 i_M S.2.2.2.1 hK hw.1 0 he rfl 5 (by decide) (S.2.2.2.2 _ q1_200) (fun _ h => h) hv hdg kk
theorem pM_values {fs : List Value} {v : Nat} (S : CallFix p m c cc nL s args lw_g R_M) (hin : meth.name = "<init>") (hK : va_K D classes tys s) (hw : kw D A H0 H locs ws) (he : ws[0]? = some (a, .inr (1, fs))) (hl : 5 < fs.length) (hdg : decode cc pc = .ok (.putfield 16, 3)) (kk : ∀ (H1 : Heap) (locs1 : List Loc), kw D A H0 H1 locs1 (ws.set 0 (a, .inr (1, fs.set 5 (.ref v)))) → W p l e R s m args below meth c H1 locs1 cells slots Q (F0 m (pc + 3) ls rest)) : W p l e R s m args below meth c H locs cells slots Q (F0 m pc ls (.ref v :: .ref a :: rest)) := va_putF S.1 S.2.1 S.2.2.2.2 i_M t_M t_M_ok n_M S.2.2.2.1 hK hw.1 hw.2.1 hw.2.2 0 he rfl 5 (by decide) (S.2.2.2.2 _ q1_200) (fun _ h => h) rfl hin rfl (ty := .array .long) (by decide +kernel) rfl rfl hl hdg (fun H1 locs1 h1 h2 h3 => kk H1 locs1 ⟨h1, h2, h3⟩)
theorem gM_entries {fs : List Value} {v : Value} (S : CallFix p m c cc nL s args lw_g R_M) (hK : va_K D classes tys s) (hw : kw D A H0 H locs ws) (he : ws[0]? = some (a, .inr (1, fs))) (hv : fs[6]? = some v) (hdg : decode cc pc = .ok (.getfield 76, 3)) (kk : W p l e R s m args below meth c H locs cells slots Q (F0 m (pc + 3) ls (v :: rest))) : W p l e R s m args below meth c H locs cells slots Q (F0 m pc ls (.ref a :: rest)) := va_get S.1 S.2.1 S.2.2.2.2 i_M S.2.2.2.1 hK hw.1 0 he rfl 6 (by decide) (S.2.2.2.2 _ q1_201) (fun _ h => h) hv hdg kk
theorem pM_entries {fs : List Value} {v : Int32} (S : CallFix p m c cc nL s args lw_g R_M) (hK : va_K D classes tys s) (hw : kw D A H0 H locs ws) (he : ws[0]? = some (a, .inr (1, fs))) (hl : 6 < fs.length) (hdg : decode cc pc = .ok (.putfield 76, 3)) (kk : ∀ (H1 : Heap) (locs1 : List Loc), kw D A H0 H1 locs1 (ws.set 0 (a, .inr (1, fs.set 6 (.int v)))) → W p l e R s m args below meth c H1 locs1 cells slots Q (F0 m (pc + 3) ls rest)) : W p l e R s m args below meth c H locs cells slots Q (F0 m pc ls (.int v :: .ref a :: rest)) := va_put S.1 S.2.1 S.2.2.2.2 i_M t_M t_M_ok n_M S.2.2.2.1 hK hw.1 hw.2.1 hw.2.2 0 he rfl 6 (by decide) (S.2.2.2.2 _ q1_201) (fun _ h => h) rfl (ty := .int) (by decide +kernel) rfl rfl hl hdg (fun H1 locs1 h1 h2 h3 => kk H1 locs1 ⟨h1, h2, h3⟩)
theorem gM_right {fs : List Value} {v : Value} (S : CallFix p m c cc nL s args lw_g R_M) (hK : va_K D classes tys s) (hw : kw D A H0 H locs ws) (he : ws[0]? = some (a, .inr (1, fs))) (hv : fs[7]? = some v) (hdg : decode cc pc = .ok (.getfield 20, 3)) (kk : W p l e R s m args below meth c H locs cells slots Q (F0 m (pc + 3) ls (v :: rest))) : W p l e R s m args below meth c H locs cells slots Q (F0 m pc ls (.ref a :: rest)) := va_get S.1 S.2.1 S.2.2.2.2 i_M S.2.2.2.1 hK hw.1 0 he rfl 7 (by decide) (S.2.2.2.2 _ q1_202) (fun _ h => h) hv hdg kk
theorem pM_right {fs : List Value} {v : Nat} (S : CallFix p m c cc nL s args lw_g R_M) (hin : meth.name = "<init>") (hK : va_K D classes tys s) (hw : kw D A H0 H locs ws) (he : ws[0]? = some (a, .inr (1, fs))) (hl : 7 < fs.length) (hdg : decode cc pc = .ok (.putfield 20, 3)) (kk : ∀ (H1 : Heap) (locs1 : List Loc), kw D A H0 H1 locs1 (ws.set 0 (a, .inr (1, fs.set 7 (.ref v)))) → W p l e R s m args below meth c H1 locs1 cells slots Q (F0 m (pc + 3) ls rest)) : W p l e R s m args below meth c H locs cells slots Q (F0 m pc ls (.ref v :: .ref a :: rest)) := va_putF S.1 S.2.1 S.2.2.2.2 i_M t_M t_M_ok n_M S.2.2.2.1 hK hw.1 hw.2.1 hw.2.2 0 he rfl 7 (by decide) (S.2.2.2.2 _ q1_202) (fun _ h => h) rfl hin rfl (ty := .array .long) (by decide +kernel) rfl rfl hl hdg (fun H1 locs1 h1 h2 h3 => kk H1 locs1 ⟨h1, h2, h3⟩)
theorem gM_generator {fs : List Value} {v : Value} (S : CallFix p m c cc nL s args lw_g R_M) (hK : va_K D classes tys s) (hw : kw D A H0 H locs ws) (he : ws[0]? = some (a, .inr (1, fs))) (hv : fs[8]? = some v) (hdg : decode cc pc = .ok (.getfield 23, 3)) (kk : W p l e R s m args below meth c H locs cells slots Q (F0 m (pc + 3) ls (v :: rest))) : W p l e R s m args below meth c H locs cells slots Q (F0 m pc ls (.ref a :: rest)) := va_get S.1 S.2.1 S.2.2.2.2 i_M S.2.2.2.1 hK hw.1 0 he rfl 8 (by decide) (S.2.2.2.2 _ q1_203) (fun _ h => h) hv hdg kk
theorem pM_generator {fs : List Value} {v : Int64} (S : CallFix p m c cc nL s args lw_g R_M) (hK : va_K D classes tys s) (hw : kw D A H0 H locs ws) (he : ws[0]? = some (a, .inr (1, fs))) (hl : 8 < fs.length) (hdg : decode cc pc = .ok (.putfield 23, 3)) (kk : ∀ (H1 : Heap) (locs1 : List Loc), kw D A H0 H1 locs1 (ws.set 0 (a, .inr (1, fs.set 8 (.long v)))) → W p l e R s m args below meth c H1 locs1 cells slots Q (F0 m (pc + 3) ls rest)) : W p l e R s m args below meth c H locs cells slots Q (F0 m pc ls (.long v :: .ref a :: rest)) := va_put S.1 S.2.1 S.2.2.2.2 i_M t_M t_M_ok n_M S.2.2.2.1 hK hw.1 hw.2.1 hw.2.2 0 he rfl 8 (by decide) (S.2.2.2.2 _ q1_203) (fun _ h => h) rfl (ty := .long) (by decide +kernel) rfl rfl hl hdg (fun H1 locs1 h1 h2 h3 => kk H1 locs1 ⟨h1, h2, h3⟩)
theorem gM_attempts {fs : List Value} {v : Value} (S : CallFix p m c cc nL s args lw_g R_M) (hK : va_K D classes tys s) (hw : kw D A H0 H locs ws) (he : ws[0]? = some (a, .inr (1, fs))) (hv : fs[9]? = some v) (hdg : decode cc pc = .ok (.getfield 112, 3)) (kk : W p l e R s m args below meth c H locs cells slots Q (F0 m (pc + 3) ls (v :: rest))) : W p l e R s m args below meth c H locs cells slots Q (F0 m pc ls (.ref a :: rest)) := va_get S.1 S.2.1 S.2.2.2.2 i_M S.2.2.2.1 hK hw.1 0 he rfl 9 (by decide) (S.2.2.2.2 _ q1_204) (fun _ h => h) hv hdg kk
theorem pM_attempts {fs : List Value} {v : Int32} (S : CallFix p m c cc nL s args lw_g R_M) (hK : va_K D classes tys s) (hw : kw D A H0 H locs ws) (he : ws[0]? = some (a, .inr (1, fs))) (hl : 9 < fs.length) (hdg : decode cc pc = .ok (.putfield 112, 3)) (kk : ∀ (H1 : Heap) (locs1 : List Loc), kw D A H0 H1 locs1 (ws.set 0 (a, .inr (1, fs.set 9 (.int v)))) → W p l e R s m args below meth c H1 locs1 cells slots Q (F0 m (pc + 3) ls rest)) : W p l e R s m args below meth c H locs cells slots Q (F0 m pc ls (.int v :: .ref a :: rest)) := va_put S.1 S.2.1 S.2.2.2.2 i_M t_M t_M_ok n_M S.2.2.2.1 hK hw.1 hw.2.1 hw.2.2 0 he rfl 9 (by decide) (S.2.2.2.2 _ q1_204) (fun _ h => h) rfl (ty := .int) (by decide +kernel) rfl rfl hl hdg (fun H1 locs1 h1 h2 h3 => kk H1 locs1 ⟨h1, h2, h3⟩)
theorem gM_products {fs : List Value} {v : Value} (S : CallFix p m c cc nL s args lw_g R_M) (hK : va_K D classes tys s) (hw : kw D A H0 H locs ws) (he : ws[0]? = some (a, .inr (1, fs))) (hv : fs[10]? = some v) (hdg : decode cc pc = .ok (.getfield 95, 3)) (kk : W p l e R s m args below meth c H locs cells slots Q (F0 m (pc + 3) ls (v :: rest))) : W p l e R s m args below meth c H locs cells slots Q (F0 m pc ls (.ref a :: rest)) := va_get S.1 S.2.1 S.2.2.2.2 i_M S.2.2.2.1 hK hw.1 0 he rfl 10 (by decide) (S.2.2.2.2 _ q1_205) (fun _ h => h) hv hdg kk
theorem pM_products {fs : List Value} {v : Int32} (S : CallFix p m c cc nL s args lw_g R_M) (hK : va_K D classes tys s) (hw : kw D A H0 H locs ws) (he : ws[0]? = some (a, .inr (1, fs))) (hl : 10 < fs.length) (hdg : decode cc pc = .ok (.putfield 95, 3)) (kk : ∀ (H1 : Heap) (locs1 : List Loc), kw D A H0 H1 locs1 (ws.set 0 (a, .inr (1, fs.set 10 (.int v)))) → W p l e R s m args below meth c H1 locs1 cells slots Q (F0 m (pc + 3) ls rest)) : W p l e R s m args below meth c H locs cells slots Q (F0 m pc ls (.int v :: .ref a :: rest)) := va_put S.1 S.2.1 S.2.2.2.2 i_M t_M t_M_ok n_M S.2.2.2.1 hK hw.1 hw.2.1 hw.2.2 0 he rfl 10 (by decide) (S.2.2.2.2 _ q1_205) (fun _ h => h) rfl (ty := .int) (by decide +kernel) rfl rfl hl hdg (fun H1 locs1 h1 h2 h3 => kk H1 locs1 ⟨h1, h2, h3⟩)
theorem gM_drawn {fs : List Value} {v : Value} (S : CallFix p m c cc nL s args lw_g R_M) (hK : va_K D classes tys s) (hw : kw D A H0 H locs ws) (he : ws[0]? = some (a, .inr (1, fs))) (hv : fs[11]? = some v) (hdg : decode cc pc = .ok (.getfield 27, 3)) (kk : W p l e R s m args below meth c H locs cells slots Q (F0 m (pc + 3) ls (v :: rest))) : W p l e R s m args below meth c H locs cells slots Q (F0 m pc ls (.ref a :: rest)) := va_get S.1 S.2.1 S.2.2.2.2 i_M S.2.2.2.1 hK hw.1 0 he rfl 11 (by decide) (S.2.2.2.2 _ q1_206) (fun _ h => h) hv hdg kk
theorem pM_drawn {fs : List Value} {v : Nat} (S : CallFix p m c cc nL s args lw_g R_M) (hin : meth.name = "<init>") (hK : va_K D classes tys s) (hw : kw D A H0 H locs ws) (he : ws[0]? = some (a, .inr (1, fs))) (hl : 11 < fs.length) (hdg : decode cc pc = .ok (.putfield 27, 3)) (kk : ∀ (H1 : Heap) (locs1 : List Loc), kw D A H0 H1 locs1 (ws.set 0 (a, .inr (1, fs.set 11 (.ref v)))) → W p l e R s m args below meth c H1 locs1 cells slots Q (F0 m (pc + 3) ls rest)) : W p l e R s m args below meth c H locs cells slots Q (F0 m pc ls (.ref v :: .ref a :: rest)) := va_putF S.1 S.2.1 S.2.2.2.2 i_M t_M t_M_ok n_M S.2.2.2.1 hK hw.1 hw.2.1 hw.2.2 0 he rfl 11 (by decide) (S.2.2.2.2 _ q1_206) (fun _ h => h) rfl hin rfl (ty := .array .long) (by decide +kernel) rfl rfl hl hdg (fun H1 locs1 h1 h2 h3 => kk H1 locs1 ⟨h1, h2, h3⟩)
theorem gM_vector {fs : List Value} {v : Value} (S : CallFix p m c cc nL s args lw_g R_M) (hK : va_K D classes tys s) (hw : kw D A H0 H locs ws) (he : ws[0]? = some (a, .inr (1, fs))) (hv : fs[12]? = some v) (hdg : decode cc pc = .ok (.getfield 30, 3)) (kk : W p l e R s m args below meth c H locs cells slots Q (F0 m (pc + 3) ls (v :: rest))) : W p l e R s m args below meth c H locs cells slots Q (F0 m pc ls (.ref a :: rest)) := va_get S.1 S.2.1 S.2.2.2.2 i_M S.2.2.2.1 hK hw.1 0 he rfl 12 (by decide) (S.2.2.2.2 _ q1_207) (fun _ h => h) hv hdg kk
theorem pM_vector {fs : List Value} {v : Nat} (S : CallFix p m c cc nL s args lw_g R_M) (hin : meth.name = "<init>") (hK : va_K D classes tys s) (hw : kw D A H0 H locs ws) (he : ws[0]? = some (a, .inr (1, fs))) (hl : 12 < fs.length) (hdg : decode cc pc = .ok (.putfield 30, 3)) (kk : ∀ (H1 : Heap) (locs1 : List Loc), kw D A H0 H1 locs1 (ws.set 0 (a, .inr (1, fs.set 12 (.ref v)))) → W p l e R s m args below meth c H1 locs1 cells slots Q (F0 m (pc + 3) ls rest)) : W p l e R s m args below meth c H locs cells slots Q (F0 m pc ls (.ref v :: .ref a :: rest)) := va_putF S.1 S.2.1 S.2.2.2.2 i_M t_M t_M_ok n_M S.2.2.2.1 hK hw.1 hw.2.1 hw.2.2 0 he rfl 12 (by decide) (S.2.2.2.2 _ q1_207) (fun _ h => h) rfl hin rfl (ty := .array .long) (by decide +kernel) rfl rfl hl hdg (fun H1 locs1 h1 h2 h3 => kk H1 locs1 ⟨h1, h2, h3⟩)
theorem gM_made {fs : List Value} {v : Value} (S : CallFix p m c cc nL s args lw_g R_M) (hK : va_K D classes tys s) (hw : kw D A H0 H locs ws) (he : ws[0]? = some (a, .inr (1, fs))) (hv : fs[13]? = some v) (hdg : decode cc pc = .ok (.getfield 33, 3)) (kk : W p l e R s m args below meth c H locs cells slots Q (F0 m (pc + 3) ls (v :: rest))) : W p l e R s m args below meth c H locs cells slots Q (F0 m pc ls (.ref a :: rest)) := va_get S.1 S.2.1 S.2.2.2.2 i_M S.2.2.2.1 hK hw.1 0 he rfl 13 (by decide) (S.2.2.2.2 _ q1_208) (fun _ h => h) hv hdg kk
theorem pM_made {fs : List Value} {v : Nat} (S : CallFix p m c cc nL s args lw_g R_M) (hin : meth.name = "<init>") (hK : va_K D classes tys s) (hw : kw D A H0 H locs ws) (he : ws[0]? = some (a, .inr (1, fs))) (hl : 13 < fs.length) (hdg : decode cc pc = .ok (.putfield 33, 3)) (kk : ∀ (H1 : Heap) (locs1 : List Loc), kw D A H0 H1 locs1 (ws.set 0 (a, .inr (1, fs.set 13 (.ref v)))) → W p l e R s m args below meth c H1 locs1 cells slots Q (F0 m (pc + 3) ls rest)) : W p l e R s m args below meth c H locs cells slots Q (F0 m pc ls (.ref v :: .ref a :: rest)) := va_putF S.1 S.2.1 S.2.2.2.2 i_M t_M t_M_ok n_M S.2.2.2.1 hK hw.1 hw.2.1 hw.2.2 0 he rfl 13 (by decide) (S.2.2.2.2 _ q1_208) (fun _ h => h) rfl hin rfl (ty := .array .long) (by decide +kernel) rfl rfl hl hdg (fun H1 locs1 h1 h2 h3 => kk H1 locs1 ⟨h1, h2, h3⟩)
theorem gM_row {fs : List Value} {v : Value} (S : CallFix p m c cc nL s args lw_g R_M) (hK : va_K D classes tys s) (hw : kw D A H0 H locs ws) (he : ws[0]? = some (a, .inr (1, fs))) (hv : fs[14]? = some v) (hdg : decode cc pc = .ok (.getfield 36, 3)) (kk : W p l e R s m args below meth c H locs cells slots Q (F0 m (pc + 3) ls (v :: rest))) : W p l e R s m args below meth c H locs cells slots Q (F0 m pc ls (.ref a :: rest)) := va_get S.1 S.2.1 S.2.2.2.2 i_M S.2.2.2.1 hK hw.1 0 he rfl 14 (by decide) (S.2.2.2.2 _ q1_209) (fun _ h => h) hv hdg kk
theorem pM_row {fs : List Value} {v : Nat} (S : CallFix p m c cc nL s args lw_g R_M) (hin : meth.name = "<init>") (hK : va_K D classes tys s) (hw : kw D A H0 H locs ws) (he : ws[0]? = some (a, .inr (1, fs))) (hl : 14 < fs.length) (hdg : decode cc pc = .ok (.putfield 36, 3)) (kk : ∀ (H1 : Heap) (locs1 : List Loc), kw D A H0 H1 locs1 (ws.set 0 (a, .inr (1, fs.set 14 (.ref v)))) → W p l e R s m args below meth c H1 locs1 cells slots Q (F0 m (pc + 3) ls rest)) : W p l e R s m args below meth c H locs cells slots Q (F0 m pc ls (.ref v :: .ref a :: rest)) := va_putF S.1 S.2.1 S.2.2.2.2 i_M t_M t_M_ok n_M S.2.2.2.1 hK hw.1 hw.2.1 hw.2.2 0 he rfl 14 (by decide) (S.2.2.2.2 _ q1_209) (fun _ h => h) rfl hin rfl (ty := .array .long) (by decide +kernel) rfl rfl hl hdg (fun H1 locs1 h1 h2 h3 => kk H1 locs1 ⟨h1, h2, h3⟩)
theorem gM_hasRow {fs : List Value} {v : Value} (S : CallFix p m c cc nL s args lw_g R_M) (hK : va_K D classes tys s) (hw : kw D A H0 H locs ws) (he : ws[0]? = some (a, .inr (1, fs))) (hv : fs[15]? = some v) (hdg : decode cc pc = .ok (.getfield 73, 3)) (kk : W p l e R s m args below meth c H locs cells slots Q (F0 m (pc + 3) ls (v :: rest))) : W p l e R s m args below meth c H locs cells slots Q (F0 m pc ls (.ref a :: rest)) := va_get S.1 S.2.1 S.2.2.2.2 i_M S.2.2.2.1 hK hw.1 0 he rfl 15 (by decide) (S.2.2.2.2 _ q1_210) (fun _ h => h) hv hdg kk
theorem pM_hasRow {fs : List Value} {v : Bool} (S : CallFix p m c cc nL s args lw_g R_M) (hK : va_K D classes tys s) (hw : kw D A H0 H locs ws) (he : ws[0]? = some (a, .inr (1, fs))) (hl : 15 < fs.length) (hdg : decode cc pc = .ok (.putfield 73, 3)) (kk : ∀ (H1 : Heap) (locs1 : List Loc), kw D A H0 H1 locs1 (ws.set 0 (a, .inr (1, fs.set 15 (.int (bI v))))) → W p l e R s m args below meth c H1 locs1 cells slots Q (F0 m (pc + 3) ls rest)) : W p l e R s m args below meth c H locs cells slots Q (F0 m pc ls (.int (bI v) :: .ref a :: rest)) := va_put S.1 S.2.1 S.2.2.2.2 i_M t_M t_M_ok n_M S.2.2.2.1 hK hw.1 hw.2.1 hw.2.2 0 he rfl 15 (by decide) (S.2.2.2.2 _ q1_210) (fun _ h => h) rfl (ty := .boolean) (by decide +kernel) (by cases v <;> rfl) (by cases v <;> rfl) hl hdg (fun H1 locs1 h1 h2 h3 => kk H1 locs1 ⟨h1, h2, h3⟩)
theorem gM_c {fs : List Value} {v : Value} (S : CallFix p m c cc nL s args lw_g R_M) (hK : va_K D classes tys s) (hw : kw D A H0 H locs ws) (he : ws[0]? = some (a, .inr (1, fs))) (hv : fs[16]? = some v) (hdg : decode cc pc = .ok (.getfield 39, 3)) (kk : W p l e R s m args below meth c H locs cells slots Q (F0 m (pc + 3) ls (v :: rest))) : W p l e R s m args below meth c H locs cells slots Q (F0 m pc ls (.ref a :: rest)) := va_get S.1 S.2.1 S.2.2.2.2 i_M S.2.2.2.1 hK hw.1 0 he rfl 16 (by decide) (S.2.2.2.2 _ q1_211) (fun _ h => h) hv hdg kk
theorem pM_c {fs : List Value} {v : Nat} (S : CallFix p m c cc nL s args lw_g R_M) (hin : meth.name = "<init>") (hK : va_K D classes tys s) (hw : kw D A H0 H locs ws) (he : ws[0]? = some (a, .inr (1, fs))) (hl : 16 < fs.length) (hdg : decode cc pc = .ok (.putfield 39, 3)) (kk : ∀ (H1 : Heap) (locs1 : List Loc), kw D A H0 H1 locs1 (ws.set 0 (a, .inr (1, fs.set 16 (.ref v)))) → W p l e R s m args below meth c H1 locs1 cells slots Q (F0 m (pc + 3) ls rest)) : W p l e R s m args below meth c H locs cells slots Q (F0 m pc ls (.ref v :: .ref a :: rest)) := va_putF S.1 S.2.1 S.2.2.2.2 i_M t_M t_M_ok n_M S.2.2.2.1 hK hw.1 hw.2.1 hw.2.2 0 he rfl 16 (by decide) (S.2.2.2.2 _ q1_211) (fun _ h => h) rfl hin rfl (ty := .array .long) (by decide +kernel) rfl rfl hl hdg (fun H1 locs1 h1 h2 h3 => kk H1 locs1 ⟨h1, h2, h3⟩)
theorem gM_b {fs : List Value} {v : Value} (S : CallFix p m c cc nL s args lw_g R_M) (hK : va_K D classes tys s) (hw : kw D A H0 H locs ws) (he : ws[0]? = some (a, .inr (1, fs))) (hv : fs[17]? = some v) (hdg : decode cc pc = .ok (.getfield 42, 3)) (kk : W p l e R s m args below meth c H locs cells slots Q (F0 m (pc + 3) ls (v :: rest))) : W p l e R s m args below meth c H locs cells slots Q (F0 m pc ls (.ref a :: rest)) := va_get S.1 S.2.1 S.2.2.2.2 i_M S.2.2.2.1 hK hw.1 0 he rfl 17 (by decide) (S.2.2.2.2 _ q1_212) (fun _ h => h) hv hdg kk
theorem pM_b {fs : List Value} {v : Nat} (S : CallFix p m c cc nL s args lw_g R_M) (hin : meth.name = "<init>") (hK : va_K D classes tys s) (hw : kw D A H0 H locs ws) (he : ws[0]? = some (a, .inr (1, fs))) (hl : 17 < fs.length) (hdg : decode cc pc = .ok (.putfield 42, 3)) (kk : ∀ (H1 : Heap) (locs1 : List Loc), kw D A H0 H1 locs1 (ws.set 0 (a, .inr (1, fs.set 17 (.ref v)))) → W p l e R s m args below meth c H1 locs1 cells slots Q (F0 m (pc + 3) ls rest)) : W p l e R s m args below meth c H locs cells slots Q (F0 m pc ls (.ref v :: .ref a :: rest)) := va_putF S.1 S.2.1 S.2.2.2.2 i_M t_M t_M_ok n_M S.2.2.2.1 hK hw.1 hw.2.1 hw.2.2 0 he rfl 17 (by decide) (S.2.2.2.2 _ q1_212) (fun _ h => h) rfl hin rfl (ty := .array .long) (by decide +kernel) rfl rfl hl hdg (fun H1 locs1 h1 h2 h3 => kk H1 locs1 ⟨h1, h2, h3⟩)
theorem gM_t {fs : List Value} {v : Value} (S : CallFix p m c cc nL s args lw_g R_M) (hK : va_K D classes tys s) (hw : kw D A H0 H locs ws) (he : ws[0]? = some (a, .inr (1, fs))) (hv : fs[18]? = some v) (hdg : decode cc pc = .ok (.getfield 45, 3)) (kk : W p l e R s m args below meth c H locs cells slots Q (F0 m (pc + 3) ls (v :: rest))) : W p l e R s m args below meth c H locs cells slots Q (F0 m pc ls (.ref a :: rest)) := va_get S.1 S.2.1 S.2.2.2.2 i_M S.2.2.2.1 hK hw.1 0 he rfl 18 (by decide) (S.2.2.2.2 _ q1_213) (fun _ h => h) hv hdg kk
theorem pM_t {fs : List Value} {v : Nat} (S : CallFix p m c cc nL s args lw_g R_M) (hin : meth.name = "<init>") (hK : va_K D classes tys s) (hw : kw D A H0 H locs ws) (he : ws[0]? = some (a, .inr (1, fs))) (hl : 18 < fs.length) (hdg : decode cc pc = .ok (.putfield 45, 3)) (kk : ∀ (H1 : Heap) (locs1 : List Loc), kw D A H0 H1 locs1 (ws.set 0 (a, .inr (1, fs.set 18 (.ref v)))) → W p l e R s m args below meth c H1 locs1 cells slots Q (F0 m (pc + 3) ls rest)) : W p l e R s m args below meth c H locs cells slots Q (F0 m pc ls (.ref v :: .ref a :: rest)) := va_putF S.1 S.2.1 S.2.2.2.2 i_M t_M t_M_ok n_M S.2.2.2.1 hK hw.1 hw.2.1 hw.2.2 0 he rfl 18 (by decide) (S.2.2.2.2 _ q1_213) (fun _ h => h) rfl hin rfl (ty := .array .long) (by decide +kernel) rfl rfl hl hdg (fun H1 locs1 h1 h2 h3 => kk H1 locs1 ⟨h1, h2, h3⟩)
theorem gM_degree {fs : List Value} {v : Value} (S : CallFix p m c cc nL s args lw_g R_M) (hK : va_K D classes tys s) (hw : kw D A H0 H locs ws) (he : ws[0]? = some (a, .inr (1, fs))) (hv : fs[19]? = some v) (hdg : decode cc pc = .ok (.getfield 48, 3)) (kk : W p l e R s m args below meth c H locs cells slots Q (F0 m (pc + 3) ls (v :: rest))) : W p l e R s m args below meth c H locs cells slots Q (F0 m pc ls (.ref a :: rest)) := va_get S.1 S.2.1 S.2.2.2.2 i_M S.2.2.2.1 hK hw.1 0 he rfl 19 (by decide) (S.2.2.2.2 _ q1_214) (fun _ h => h) hv hdg kk
theorem pM_degree {fs : List Value} {v : Int32} (S : CallFix p m c cc nL s args lw_g R_M) (hK : va_K D classes tys s) (hw : kw D A H0 H locs ws) (he : ws[0]? = some (a, .inr (1, fs))) (hl : 19 < fs.length) (hdg : decode cc pc = .ok (.putfield 48, 3)) (kk : ∀ (H1 : Heap) (locs1 : List Loc), kw D A H0 H1 locs1 (ws.set 0 (a, .inr (1, fs.set 19 (.int v)))) → W p l e R s m args below meth c H1 locs1 cells slots Q (F0 m (pc + 3) ls rest)) : W p l e R s m args below meth c H locs cells slots Q (F0 m pc ls (.int v :: .ref a :: rest)) := va_put S.1 S.2.1 S.2.2.2.2 i_M t_M t_M_ok n_M S.2.2.2.1 hK hw.1 hw.2.1 hw.2.2 0 he rfl 19 (by decide) (S.2.2.2.2 _ q1_214) (fun _ h => h) rfl (ty := .int) (by decide +kernel) rfl rfl hl hdg (fun H1 locs1 h1 h2 h3 => kk H1 locs1 ⟨h1, h2, h3⟩)
theorem gM_solution {fs : List Value} {v : Value} (S : CallFix p m c cc nL s args lw_g R_M) (hK : va_K D classes tys s) (hw : kw D A H0 H locs ws) (he : ws[0]? = some (a, .inr (1, fs))) (hv : fs[20]? = some v) (hdg : decode cc pc = .ok (.getfield 52, 3)) (kk : W p l e R s m args below meth c H locs cells slots Q (F0 m (pc + 3) ls (v :: rest))) : W p l e R s m args below meth c H locs cells slots Q (F0 m pc ls (.ref a :: rest)) := va_get S.1 S.2.1 S.2.2.2.2 i_M S.2.2.2.1 hK hw.1 0 he rfl 20 (by decide) (S.2.2.2.2 _ q1_215) (fun _ h => h) hv hdg kk
theorem pM_solution {fs : List Value} {v : Nat} (S : CallFix p m c cc nL s args lw_g R_M) (hin : meth.name = "<init>") (hK : va_K D classes tys s) (hw : kw D A H0 H locs ws) (he : ws[0]? = some (a, .inr (1, fs))) (hl : 20 < fs.length) (hdg : decode cc pc = .ok (.putfield 52, 3)) (kk : ∀ (H1 : Heap) (locs1 : List Loc), kw D A H0 H1 locs1 (ws.set 0 (a, .inr (1, fs.set 20 (.ref v)))) → W p l e R s m args below meth c H1 locs1 cells slots Q (F0 m (pc + 3) ls rest)) : W p l e R s m args below meth c H locs cells slots Q (F0 m pc ls (.ref v :: .ref a :: rest)) := va_putF S.1 S.2.1 S.2.2.2.2 i_M t_M t_M_ok n_M S.2.2.2.1 hK hw.1 hw.2.1 hw.2.2 0 he rfl 20 (by decide) (S.2.2.2.2 _ q1_215) (fun _ h => h) rfl hin rfl (ty := .array .long) (by decide +kernel) rfl rfl hl hdg (fun H1 locs1 h1 h2 h3 => kk H1 locs1 ⟨h1, h2, h3⟩)
theorem gM_solved {fs : List Value} {v : Value} (S : CallFix p m c cc nL s args lw_g R_M) (hK : va_K D classes tys s) (hw : kw D A H0 H locs ws) (he : ws[0]? = some (a, .inr (1, fs))) (hv : fs[21]? = some v) (hdg : decode cc pc = .ok (.getfield 69, 3)) (kk : W p l e R s m args below meth c H locs cells slots Q (F0 m (pc + 3) ls (v :: rest))) : W p l e R s m args below meth c H locs cells slots Q (F0 m pc ls (.ref a :: rest)) := va_get S.1 S.2.1 S.2.2.2.2 i_M S.2.2.2.1 hK hw.1 0 he rfl 21 (by decide) (S.2.2.2.2 _ q1_216) (fun _ h => h) hv hdg kk
theorem pM_solved {fs : List Value} {v : Bool} (S : CallFix p m c cc nL s args lw_g R_M) (hK : va_K D classes tys s) (hw : kw D A H0 H locs ws) (he : ws[0]? = some (a, .inr (1, fs))) (hl : 21 < fs.length) (hdg : decode cc pc = .ok (.putfield 69, 3)) (kk : ∀ (H1 : Heap) (locs1 : List Loc), kw D A H0 H1 locs1 (ws.set 0 (a, .inr (1, fs.set 21 (.int (bI v))))) → W p l e R s m args below meth c H1 locs1 cells slots Q (F0 m (pc + 3) ls rest)) : W p l e R s m args below meth c H locs cells slots Q (F0 m pc ls (.int (bI v) :: .ref a :: rest)) := va_put S.1 S.2.1 S.2.2.2.2 i_M t_M t_M_ok n_M S.2.2.2.1 hK hw.1 hw.2.1 hw.2.2 0 he rfl 21 (by decide) (S.2.2.2.2 _ q1_216) (fun _ h => h) rfl (ty := .boolean) (by decide +kernel) (by cases v <;> rfl) (by cases v <;> rfl) hl hdg (fun H1 locs1 h1 h2 h3 => kk H1 locs1 ⟨h1, h2, h3⟩)
end
/-- KrylovDesk's object: its fields -/
abbrev oD (ad : Nat → Nat) (P N O M : Nat) (dg : Int32) (sv : Bool) (g : Int64) (pr ta : Int32) : List Value := [.int (nI P), .int (nI N), .int (nI O), .ref (ad 1), .ref (ad 2), .ref (ad 3), .ref (ad 4), .ref (ad 5), .ref (ad 6), .ref (ad 7), .ref (ad 8), .ref (ad 9), .ref (ad 10), .ref (ad 11), .ref (ad 12), .int (nI M), .int dg, .int (bI sv), .long g, .int pr, .int ta]
/-- KrylovDesk's world: the object; rows, columns, values; b u v w x; row; now before kept -/
abbrev wD (ad : Nat → Nat) (cI cJ : ClassId) (P N O M : Nat) (dg : Int32) (sv : Bool) (g : Int64) (pr ta : Int32) (fr fc : Nat → Nat) (fv : Nat → Int32) (b u v w x r c f t : Nat → Int64) : va_W := [(ad 0, .inr (0, oD ad P N O M dg sv g pr ta)), (ad 1, .inl (cI, O, .inl (fun k => nI (fr k)))), (ad 2, .inl (cI, O, .inl (fun k => nI (fc k)))), (ad 3, .inl (cI, O, .inl fv)), (ad 4, .inl (cJ, 16, .inr (.inl b))), (ad 5, .inl (cJ, 16, .inr (.inl u))), (ad 6, .inl (cJ, 16, .inr (.inl v))), (ad 7, .inl (cJ, 16, .inr (.inl w))), (ad 8, .inl (cJ, 16, .inr (.inl x))), (ad 9, .inl (cJ, 32, .inr (.inl r))), (ad 10, .inl (cJ, 34, .inr (.inl c))), (ad 11, .inl (cJ, 34, .inr (.inl f))), (ad 12, .inl (cJ, 34, .inr (.inl t)))]
/-- KrylovDeskModel's object -/
abbrev oM (ad : Nat → Nat) (P N O M : Nat) (g : Int64) (ta pr : Int32) (hr : Bool) (dg : Int32) (sv : Bool) : List Value := [.int (nI P), .int (nI N), .int (nI O), .ref (ad 1), .ref (ad 2), .ref (ad 3), .int (nI M), .ref (ad 4), .long g, .int ta, .int pr, .ref (ad 5), .ref (ad 6), .ref (ad 7), .ref (ad 8), .int (bI hr), .ref (ad 9), .ref (ad 10), .ref (ad 11), .int dg, .ref (ad 12), .int (bI sv)]
/-- KrylovDeskModel's world: the object; rows, columns, values; right drawn vector made; row; c b t; solution -/
abbrev wM (ad : Nat → Nat) (cI cJ : ClassId) (P N O M : Nat) (g : Int64) (ta pr : Int32) (hr : Bool) (dg : Int32) (sv : Bool) (fr fc : Nat → Nat) (fv b u v w r c f t x : Nat → Int64) : va_W := [(ad 0, .inr (1, oM ad P N O M g ta pr hr dg sv)), (ad 1, .inl (cI, 100, .inl (fun k => nI (fr k)))), (ad 2, .inl (cI, 100, .inl (fun k => nI (fc k)))), (ad 3, .inl (cJ, 100, .inr (.inl fv))), (ad 4, .inl (cJ, 16, .inr (.inl b))), (ad 5, .inl (cJ, 16, .inr (.inl u))), (ad 6, .inl (cJ, 16, .inr (.inl v))), (ad 7, .inl (cJ, 16, .inr (.inl w))), (ad 8, .inl (cJ, 32, .inr (.inl r))), (ad 9, .inl (cJ, 100, .inr (.inl c))), (ad 10, .inl (cJ, 100, .inr (.inl f))), (ad 11, .inl (cJ, 100, .inr (.inl t))), (ad 12, .inl (cJ, 16, .inr (.inl x)))]
end
section
/-! entries of contracts with their ends as a hypothesis; loops; the pure words -/
section
variable {l : Launch} {D : va_G} {tys : List (ClassId × FieldType)} {y : MethodName} {b : ByteArray} {nL : Nat} {rm : Room} {av : List Value} {wc : va_W} {sz : Nat} {G : Type}
theorem ct_void {post : G → Prop} {w' : G → va_W} (hy : plainName y.cls = true) (hav : (lg_sl av).length ≤ nL)
    (body : ∀ (p : Program) (e : Env) (s : State) (m : MethodId) (args : Array Value) (below : List Frame) (meth : Method) (c : Code) (A : Nat → Prop) (ls : Array Slot) (Z : State → Prop), CallFix p m c b nL s args lw_g y.cls → (∀ q, s.heap.size ≤ q → A q) → va_K D classes tys s → kw D A s.heap s.heap [] wc → lv_has ls nL (lv_args 0 av) →
      (∀ {H : Heap} {locs : List Loc} {pc : Nat} {ls : Array Slot} (u : G), post u → kw D A s.heap H locs (w' u) → decode b pc = .ok (.return_, 1) → W p l e rm s m args below meth c H locs 0 0 Z (F0 m pc ls [])) → W p l e rm s m args below meth c s.heap [] 0 0 Z (F0 m 0 ls [])) : CT l D tys y b nL none rm av wc sz (QV D tys post w') :=
  ct_start hy hav (fun p e s m args below meth c A ls S hr hlocks hA hK hw hl => body p e s m args below meth c A ls _ S hA hK hw hl (fun u hp hw hdg => ky_vret S hr hlocks hK u hp hw hdg))
theorem ct_int {post : Int32 → G → Prop} {w' : G → va_W} (hy : plainName y.cls = true) (hav : (lg_sl av).length ≤ nL)
    (body : ∀ (p : Program) (e : Env) (s : State) (m : MethodId) (args : Array Value) (below : List Frame) (meth : Method) (c : Code) (A : Nat → Prop) (ls : Array Slot) (Z : State → Prop), CallFix p m c b nL s args lw_g y.cls → (∀ q, s.heap.size ≤ q → A q) → va_K D classes tys s → kw D A s.heap s.heap [] wc → lv_has ls nL (lv_args 0 av) →
      (∀ {H : Heap} {locs : List Loc} {pc : Nat} {ls : Array Slot} {r : Int32} (u : G), post r u → kw D A s.heap H locs (w' u) → decode b pc = .ok (.ireturn, 1) → W p l e rm s m args below meth c H locs 0 0 Z (F0 m pc ls [.int r])) → W p l e rm s m args below meth c s.heap [] 0 0 Z (F0 m 0 ls [])) : CT l D tys y b nL (some .int) rm av wc sz (QI D tys post w') :=
  ct_start hy hav (fun p e s m args below meth c A ls S hr hlocks hA hK hw hl => body p e s m args below meth c A ls _ S hA hK hw hl (fun u hp hw hdg => ky_iret S hr hlocks hK u hp hw hdg))
theorem ct_bool {post : Int32 → G → Prop} {w' : G → va_W} (hy : plainName y.cls = true) (hav : (lg_sl av).length ≤ nL)
    (body : ∀ (p : Program) (e : Env) (s : State) (m : MethodId) (args : Array Value) (below : List Frame) (meth : Method) (c : Code) (A : Nat → Prop) (ls : Array Slot) (Z : State → Prop), CallFix p m c b nL s args lw_g y.cls → (∀ q, s.heap.size ≤ q → A q) → va_K D classes tys s → kw D A s.heap s.heap [] wc → lv_has ls nL (lv_args 0 av) →
      (∀ {H : Heap} {locs : List Loc} {pc : Nat} {ls : Array Slot} {r : Bool} (u : G), post (bI r) u → kw D A s.heap H locs (w' u) → decode b pc = .ok (.ireturn, 1) → W p l e rm s m args below meth c H locs 0 0 Z (F0 m pc ls [.int (bI r)])) → W p l e rm s m args below meth c s.heap [] 0 0 Z (F0 m 0 ls [])) : CT l D tys y b nL (some .boolean) rm av wc sz (QI D tys post w') :=
  ct_start hy hav (fun p e s m args below meth c A ls S hr hlocks hA hK hw hl => body p e s m args below meth c A ls _ S hA hK hw hl (fun u hp hw hdg => ky_zret S hr hlocks hK u hp hw hdg))
theorem ct_long {post : Int64 → G → Prop} {w' : G → va_W} (hy : plainName y.cls = true) (hav : (lg_sl av).length ≤ nL)
    (body : ∀ (p : Program) (e : Env) (s : State) (m : MethodId) (args : Array Value) (below : List Frame) (meth : Method) (c : Code) (A : Nat → Prop) (ls : Array Slot) (Z : State → Prop), CallFix p m c b nL s args lw_g y.cls → (∀ q, s.heap.size ≤ q → A q) → va_K D classes tys s → kw D A s.heap s.heap [] wc → lv_has ls nL (lv_args 0 av) →
      (∀ {H : Heap} {locs : List Loc} {pc : Nat} {ls : Array Slot} {r : Int64} (u : G), post r u → kw D A s.heap H locs (w' u) → decode b pc = .ok (.lreturn, 1) → W p l e rm s m args below meth c H locs 0 0 Z (F0 m pc ls [.long r])) → W p l e rm s m args below meth c s.heap [] 0 0 Z (F0 m 0 ls [])) : CT l D tys y b nL (some .long) rm av wc sz (QL D tys post w') :=
  ct_start hy hav (fun p e s m args below meth c A ls S hr hlocks hA hK hw hl => body p e s m args below meth c A ls _ S hA hK hw hl (fun u hp hw hdg => ky_lret S hr hlocks hK u hp hw hdg))
end
/-- a loop from i0 up to N with an invariant -/
theorem for_ri {σ : Type} (Hd : Nat → σ → Prop) (I : Nat → σ → Prop) {N i0 : Nat} {st : σ} (h0 : i0 ≤ N) (hI : I i0 st) (step : ∀ i st, i0 ≤ i → i < N → I i st → (∀ st', I (i + 1) st' → Hd (i + 1) st') → Hd i st) (hx : ∀ st', I N st' → Hd N st') : Hd i0 st := by
  have h : ∀ (k i : Nat) (st : σ), i0 ≤ i → i + k = N → I i st → Hd i st := by
    intro k
    induction k with
    | zero =>
      intro i st _ h2 h3
      have e : i = N := by omega
      subst e
      exact hx st h3
    | succ k ih =>
      intro i st h1 h2 h3
      exact step i st h1 (by omega) h3 (fun st' h4 => ih (i + 1) st' (by omega) (by omega) h4)
  exact h (N - i0) i0 st (Nat.le_refl _) (by omega) hI
-- pure words
def wi (P : Nat) (z : Int64) : Int64 := if rmd z (lN P) < 0 then rmd z (lN P) + lN P else rmd z (lN P)
def md (P : Nat) (z : Int64) : Int32 := (wi P z).toInt32
def gD (g : Int64) : Int64 := 1103515245 * g + 12345 &&& 2147483647
def gM (g : Int64) : Int64 := rmd (1103515245 * g + 12345) 2147483648
def dD (P : Nat) (g : Int64) : Int32 := (rmd (gD g >>> ((nI 16).toInt64 &&& 63)) (lN P)).toInt32
def dM (P : Nat) (g : Int64) : Int64 := rmd (gM g / 65536) (lN P)
/-- n draws on -/
def gS (G : Int64 → Int64) (g : Int64) : Nat → Int64
  | 0 => g
  | i + 1 => G (gS G g i)
/-- the matrix times vec, after k entries -/
def muK (P : Nat) (fr fc : Nat → Nat) (V vec : Nat → Int64) : Nat → Nat → Int64
  | 0, _ => 0
  | k + 1, i => if i = fr k then rmd (muK P fr fc V vec k i + V k * vec (fc k)) (lN P) else muK P fr fc V vec k i
def dot (P : Nat) (u v : Nat → Int64) : Nat → Int64
  | 0 => 0
  | i + 1 => rmd (dot P u v i + u i * v i) (lN P)
/-- the k-th power of the matrix times b -/
def vK (P M : Nat) (fr fc : Nat → Nat) (V b : Nat → Int64) : Nat → Nat → Int64
  | 0 => b
  | k + 1 => muK P fr fc V (vK P M fr fc V b k) M
def offF (P : Nat) (c row : Nat → Int64) (k : Nat) : Nat → Int64
  | 0 => row k
  | i + 1 => rmd (offF P c row k i + c (i + 1) * row (k - (i + 1))) (lN P)
def cUp (P : Nat) (by_ : Int64) (sh : Nat) (c f : Nat → Int64) : Nat → Int64 := fun i => if sh ≤ i then wi P (c i - by_ * f (i - sh)) else c i
/-- the recurrence: what it is, what it was, its length, the shift, the last discrepancy -/
abbrev BS : Type := (Nat → Int64) × (Nat → Int64) × Nat × Nat × Int64
def bmS (P : Nat) (inv : Int64 → Int64) (row : Nat → Int64) (k : Nat) : BS → BS := fun q => match q with
  | (c, f, len, sh, last) =>
    if offF P c row k len = 0 then (c, f, len, sh + 1, last)
    else if 2 * len ≤ k then (cUp P (rmd (offF P c row k len * inv last) (lN P)) sh c f, c, k + 1 - len, 1, offF P c row k len)
    else (cUp P (rmd (offF P c row k len * inv last) (lN P)) sh c f, f, len, sh + 1, last)
def dl0 : Nat → Int64 := fun i => if i = 0 then 1 else 0
def bm (P : Nat) (inv : Int64 → Int64) (row : Nat → Int64) : Nat → BS
  | 0 => (dl0, dl0, 0, 1, 1)
  | k + 1 => bmS P inv row k (bm P inv row k)
def xK (P M : Nat) (fr fc : Nat → Nat) (V b c : Nat → Int64) (d : Nat) : Nat → Nat → Int64
  | 0 => fun i => if d = 0 then 0 else b i
  | k + 1 => fun i => rmd (muK P fr fc V (xK P M fr fc V b c d k) M i + c (k + 1) * b i) (lN P)
/-- desk's inverse: power by the bits of the exponent, low ones first; e: what is left -/
def ivl (q : Int64) : Nat → Nat → Int64 → Int64 → Int64
  | 0, _, _, r => r
  | n + 1, e, x, r => ivl q n (e / 2) (rmd (x * x) q) (if e % 2 = 1 then rmd (r * x) q else r)
def ivD (P : Nat) (z : Int64) : Int64 := ivl (lN P) 31 (P - 2) z 1
/-- model's power: bits of the exponent, high ones first; n: bits to come -/
def pwl (q x : Int64) (e : Nat) : Nat → Int64 → Int64
  | 0, r => r
  | n + 1, r => pwl q x e n (if e / 2 ^ n % 2 = 1 then rmd (rmd (r * r) q * x) q else rmd (r * r) q)
def ivM (P : Nat) (z : Int64) : Int64 := pwl (lN P) z (P - 2) 31 1
def eqN (N : Nat) (f b : Nat → Int64) : Bool := decide (∀ i, i < N → f i = b i)
/-- what holds of the numbers of both objects -/
def okD (P N O M : Nat) (fr fc : Nat → Nat) : Prop := 2 ≤ P ∧ P ≤ 46337 ∧ 1 ≤ N ∧ N ≤ 16 ∧ 1 ≤ O ∧ O ≤ 100 ∧ M ≤ O ∧ ∀ k, k < M → fr k < N ∧ fc k < N
theorem upL_s {f : Nat → Int64} {k : Nat} {x : Int64} : vp_updL f k x k = x := pk_uLs
theorem upL_n {f : Nat → Int64} {k j : Nat} {x : Int64} (h : j ≠ k) : vp_updL f k x j = f j := pk_uLn h
theorem nI_lt31 {a : Nat} (h : a ≤ 100000) : a < 2147483648 := by omega
end
section
section
variable {l : Launch} {D : va_G} {tys : List (ClassId × FieldType)} {sz : Nat}
def brg (v lo hi : Int32) : Int32 := if lo ≤ v then (if v ≤ hi then v else hi) else lo
def wth (v lo hi : Int32) : Bool := decide (¬ v < lo ∧ ¬ hi < v)
/-- bring: v held between lo and hi -/
theorem c_D_bring {v lo hi : Int32}  : CT l D tys y_D_bring b_D_bring 3 (some .int) (kr 0 0) [.int v, .int lo, .int hi] [] sz (QI D tys (G := Unit) (fun r _ => r = brg v lo hi) (fun _ => [])) := by
  refine ct_int (by decide) (Nat.le_of_ble_eq_true rfl) ?_
  intro p e s m args below meth c A ls Z S hA hK hw hl hret
  have S : CallFix p m c b_D_bring 3 s args lw_g R_D := S
  have hx := S.1
  have hb := S.2.1
  have hown := S.2.2.2.1
  have hts := S.2.2.2.2
  have hl : lv_has ls 3 [(0, .int v), (1, .int lo), (2, .int hi)] := hl
  refine lv_iload_n hx hb d_D_bring_0 rfl (lv_at hl 0 rfl) ?_
  refine lv_iload_n hx hb d_D_bring_1 rfl (lv_at hl 1 rfl) ?_
  refine lv_icmp_ge (tgt := 9) hx hb d_D_bring_2 (by decide) (fun h => ?_) (fun h => ?_)
  · refine lv_iload_n hx hb d_D_bring_9 rfl (lv_at hl 0 rfl) ?_
    refine lv_iload_n hx hb d_D_bring_10 rfl (lv_at hl 2 rfl) ?_
    refine lv_icmp_le (tgt := 18) hx hb d_D_bring_11 (by decide) (fun h2 => ?_) (fun h2 => ?_)
    · refine lv_iload_n hx hb d_D_bring_18 rfl (lv_at hl 0 rfl) ?_
      exact hret () (by simp [brg, h, h2]) hw d_D_bring_19
    · refine lv_iload_n hx hb d_D_bring_14 rfl (lv_at hl 2 rfl) ?_
      refine lv_goto (tgt := 19) hx hb d_D_bring_15 (by decide) ?_
      exact hret () (by simp [brg, h, h2]) hw d_D_bring_19
  · refine lv_iload_n hx hb d_D_bring_5 rfl (lv_at hl 1 rfl) ?_
    refine lv_goto (tgt := 19) hx hb d_D_bring_6 (by decide) ?_
    exact hret () (by simp [brg, h]) hw d_D_bring_19
/-- within -/
theorem c_D_within {v lo hi : Int32}  : CT l D tys y_D_within b_D_within 3 (some .boolean) (kr 0 0) [.int v, .int lo, .int hi] [] sz (QI D tys (G := Unit) (fun r _ => r = bI (wth v lo hi)) (fun _ => [])) := by
  refine ct_bool (by decide) (Nat.le_of_ble_eq_true rfl) ?_
  intro p e s m args below meth c A ls Z S hA hK hw hl hret
  have S : CallFix p m c b_D_within 3 s args lw_g R_D := S
  have hx := S.1
  have hb := S.2.1
  have hown := S.2.2.2.1
  have hts := S.2.2.2.2
  have hl : lv_has ls 3 [(0, .int v), (1, .int lo), (2, .int hi)] := hl
  refine lv_iload_n hx hb d_D_within_0 rfl (lv_at hl 0 rfl) ?_
  refine lv_iload_n hx hb d_D_within_1 rfl (lv_at hl 1 rfl) ?_
  refine lv_icmp_lt (tgt := 14) hx hb d_D_within_2 (by decide) (fun h => ?_) (fun h => ?_)
  · refine lv_iconst (v := nI 0) hx hb d_D_within_14 (by decide) ?_
    refine ky_ti (y := bI (wth v lo hi)) ((by simp [wth, h]; rfl : nI 0 = bI (wth v lo hi))) ?_
    exact hret () rfl hw d_D_within_15
  · refine lv_iload_n hx hb d_D_within_5 rfl (lv_at hl 0 rfl) ?_
    refine lv_iload_n hx hb d_D_within_6 rfl (lv_at hl 2 rfl) ?_
    refine lv_icmp_gt (tgt := 14) hx hb d_D_within_7 (by decide) (fun h2 => ?_) (fun h2 => ?_)
    · refine lv_iconst (v := nI 0) hx hb d_D_within_14 (by decide) ?_
      refine ky_ti (y := bI (wth v lo hi)) ((by simp [wth, h, h2]; rfl : nI 0 = bI (wth v lo hi))) ?_
      exact hret () rfl hw d_D_within_15
    · refine lv_iconst (v := nI 1) hx hb d_D_within_10 (by decide) ?_
      refine lv_goto (tgt := 15) hx hb d_D_within_11 (by decide) ?_
      refine ky_ti (y := bI (wth v lo hi)) ((by simp [wth, h, h2]; rfl : nI 1 = bI (wth v lo hi))) ?_
      exact hret () rfl hw d_D_within_15
/-- k has no divisor from 2 up to its root -/
def isPr (k : Nat) : Bool := (List.range 300).all (fun d => decide (d < 2 ∨ k < d * d ∨ k % d ≠ 0))
theorem isPr_iff (k : Nat) : isPr k = true ↔ ∀ d, d < 300 → 2 ≤ d → d * d ≤ k → k % d ≠ 0 := by
  unfold isPr
  rw [List.all_eq_true]
  constructor
  · intro h d h1 h2 h3
    rcases of_decide_eq_true (h d (List.mem_range.mpr h1)) with q | q | q
    · omega
    · omega
    · exact q
  · intro h d h1
    refine decide_eq_true ?_
    rcases Nat.lt_or_ge d 2 with q | q
    · exact Or.inl q
    · rcases Nat.lt_or_ge k (d * d) with q2 | q2
      · exact Or.inr (Or.inl q2)
      · exact Or.inr (Or.inr (h d (List.mem_range.mp h1) q q2))
def prI (k d : Nat) (is_ : Bool) : Prop := (is_ = true ↔ ∀ j, 2 ≤ j → j < d → k % j ≠ 0) ∧ ∀ j, 2 ≤ j → j < d → j * j ≤ k
theorem prI_0 (k : Nat) : prI k 2 true := ⟨⟨fun _ j h1 h2 => absurd h1 (by omega), fun _ => rfl⟩, fun j h1 h2 => absurd h1 (by omega)⟩
theorem prI_s {k d : Nat} (h : prI k d true) (h2 : 2 ≤ d) (hd : d * d ≤ k) : prI k (d + 1) (decide (k % d ≠ 0)) := by
  refine ⟨⟨fun e j h1 h3 => ?_, fun e => decide_eq_true (e d h2 (by omega))⟩, fun j h1 h3 => ?_⟩
  · rcases Nat.lt_or_ge j d with q | q
    · exact (h.1.mp rfl) j h1 q
    · have : j = d := by omega
      subst this
      exact of_decide_eq_true e
  · rcases Nat.lt_or_ge j d with q | q
    · exact h.2 j h1 q
    · have : j = d := by omega
      subst this
      exact hd
theorem prI_x {k d : Nat} {i : Bool} (h : prI k d i) (hk : k ≤ 46337) (hd : k < d * d) : i = isPr k := by
  rw [Bool.eq_iff_iff]
  constructor
  · intro e
    refine (isPr_iff k).mpr (fun j _ h1 h3 => (h.1.mp e) j h1 ?_)
    rcases Nat.lt_or_ge j d with q | q
    · exact q
    · exact absurd (Nat.mul_le_mul q q) (by omega)
  · intro e
    refine h.1.mpr (fun j h1 h3 => ((isPr_iff k).mp e) j ?_ h1 (h.2 j h1 h3))
    rcases Nat.lt_or_ge j 300 with q | q
    · exact q
    · have := h.2 j h1 h3
      exact absurd (Nat.mul_le_mul q q) (by omega)
theorem prI_f {k d : Nat} (h : prI k d false) (hk : k ≤ 46337) : isPr k = false := by
  rcases hb : isPr k with _ | _
  · rfl
  · have : false = true := h.1.mpr (fun j h1 h3 => ((isPr_iff k).mp hb) j (by
      rcases Nat.lt_or_ge j 300 with q | q
      · exact q
      · have := h.2 j h1 h3
        exact absurd (Nat.mul_le_mul q q) (by omega)) h1 (h.2 j h1 h3))
    exact absurd this (by decide)
/-- isPrime -/
theorem c_D_isPrime {k : Nat} (h2 : 2 ≤ k) (hk : k ≤ 46337) : CT l D tys y_D_isPrime b_D_isPrime 3 (some .boolean) (kr 0 0) [.int (nI k)] [] sz (QI D tys (G := Unit) (fun r _ => r = bI (isPr k)) (fun _ => [])) := by
  refine ct_bool (by decide) (Nat.le_of_ble_eq_true rfl) ?_
  intro p e s m args below meth c A ls Z S hA hK hw hl hret
  have S : CallFix p m c b_D_isPrime 3 s args lw_g R_D := S
  have hx := S.1
  have hb := S.2.1
  have hown := S.2.2.2.1
  have hts := S.2.2.2.2
  have hl : lv_has ls 3 [(0, .int (nI k))] := hl
  refine lv_iload_n hx hb d_D_isPrime_0 rfl (lv_at hl 0 rfl) ?_
  refine lv_iconst (v := nI 1) hx hb d_D_isPrime_1 (by decide) ?_
  refine ky_le (a := k) (b := 1) (tgt := 9) hx hb (by omega) (by omega) d_D_isPrime_2 (by decide) (fun h => absurd h (by omega)) (fun h => ?_)
  refine lv_iconst (v := nI 1) hx hb d_D_isPrime_5 (by decide) ?_
  refine lv_goto (tgt := 10) hx hb d_D_isPrime_6 (by decide) ?_
  refine ky_ti (y := bI true) ((rfl : nI 1 = bI true)) ?_
  refine lv_istore_n (lv' := [(1, .int (bI true)), (0, .int (nI k))]) hx hb d_D_isPrime_10 rfl hl (by decide) rfl (fun ls hl => ?_)
  refine lv_iconst (v := nI 2) hx hb d_D_isPrime_11 (by decide) ?_
  refine lv_istore_n (lv' := [(2, .int (nI 2)), (1, .int (bI true)), (0, .int (nI k))]) hx hb d_D_isPrime_12 rfl hl (by decide) rfl (fun ls hl => ?_)
  have hl := lv_sub (l' := [(0, .int (nI k)), (1, .int (bI true)), (2, .int (nI 2))]) hl [2, 1, 0] rfl
  refine for_ri (i0 := 2) (N := 217) (st := true)
    (fun (i : Nat) (is_ : Bool) => ∀ (H : Heap) (locs : List Loc) (ls : Array Slot), kw D A s.heap H locs ([]) → lv_has ls 3 [(0, .int (nI k)), (1, .int (bI is_)), (2, .int (nI i))] → W p l e (kr 0 0) s m args below meth c H locs 0 0 Z (F0 m 13 ls []))
    (fun (i : Nat) (is_ : Bool) => prI k i is_)
    (by omega) ?_ ?_ ?_ s.heap [] ls hw hl
  · exact prI_0 k
  · rintro i is_ hi0 hi hI ih H locs ls hw hl
    have hsq : i * i < 47089 := Nat.mul_self_lt_mul_self (n := 217) hi
    have hmo : k % i < i := Nat.mod_lt _ (by omega)
    refine lv_iload_n hx hb d_D_isPrime_13 rfl (lv_at hl 2 rfl) ?_
    refine lv_iload_n hx hb d_D_isPrime_14 rfl (lv_at hl 2 rfl) ?_
    refine lv_imul hx hb d_D_isPrime_15 ?_
    refine ky_ti (y := nI (i * i)) (pk_mul i i) ?_
    refine lv_iload_n hx hb d_D_isPrime_16 rfl (lv_at hl 0 rfl) ?_
    refine ky_gt (a := i * i) (b := k) (tgt := 42) hx hb (by omega) (by omega) d_D_isPrime_17 (by decide) (fun hd => ?_) (fun hd => ?_)
    · refine lv_iload_n hx hb d_D_isPrime_42 rfl (lv_at hl 1 rfl) ?_
      refine ky_ti (y := bI (isPr k)) (by rw [prI_x hI hk hd]) ?_
      exact hret () rfl hw d_D_isPrime_43
    · refine lv_iload_n hx hb d_D_isPrime_20 rfl (lv_at hl 1 rfl) ?_
      refine ky_beq (tgt := 42) hx hb d_D_isPrime_21 (by decide) (fun he => ?_) (fun he => ?_)
      · subst he
        refine lv_iload_n hx hb d_D_isPrime_42 rfl (lv_at hl 1 rfl) ?_
        refine ky_ti (y := bI (isPr k)) (by rw [prI_f hI hk]) ?_
        exact hret () rfl hw d_D_isPrime_43
      · subst he
        refine lv_iload_n hx hb d_D_isPrime_24 rfl (lv_at hl 0 rfl) ?_
        refine lv_iload_n hx hb d_D_isPrime_25 rfl (lv_at hl 2 rfl) ?_
        refine lv_irem hx hb d_D_isPrime_26 (nI_ne0 (by omega) (by omega)) ?_
        refine ky_ti (y := nI (k % i)) (pk_rem (by omega) (by omega) (by omega)) ?_
        refine ky_ifeq (tgt := 34) hx hb (by omega) d_D_isPrime_27 (by decide) (fun hm => ?_) (fun hm => ?_)
        · refine lv_iconst (v := nI 0) hx hb d_D_isPrime_34 (by decide) ?_
          refine ky_ti (y := bI (decide (k % i ≠ 0))) ((by simp [hm]; rfl : nI 0 = bI (decide (k % i ≠ 0)))) ?_
          refine lv_istore_n (lv' := [(1, .int (bI (decide (k % i ≠ 0)))), (0, .int (nI k)), (2, .int (nI i))]) hx hb d_D_isPrime_35 rfl hl (by decide) rfl (fun ls hl => ?_)
          refine lv_iinc (v := nI (i + 1)) (lv' := [(2, .int (nI (i + 1))), (1, .int (bI (decide (k % i ≠ 0)))), (0, .int (nI k))]) hx hb d_D_isPrime_36 hl (k := 2) rfl (nI_1 i) (by decide) rfl (fun ls hl => ?_)
          refine lv_goto (tgt := 13) hx hb d_D_isPrime_39 (by decide) ?_
          have hl := lv_sub (l' := [(0, .int (nI k)), (1, .int (bI (decide (k % i ≠ 0)))), (2, .int (nI (i + 1)))]) hl [2, 1, 0] rfl
          exact ih _ (prI_s hI hi0 hd) H locs ls hw hl
        · refine lv_iconst (v := nI 1) hx hb d_D_isPrime_30 (by decide) ?_
          refine lv_goto (tgt := 35) hx hb d_D_isPrime_31 (by decide) ?_
          refine ky_ti (y := bI (decide (k % i ≠ 0))) ((by simp [hm]; rfl : nI 1 = bI (decide (k % i ≠ 0)))) ?_
          refine lv_istore_n (lv' := [(1, .int (bI (decide (k % i ≠ 0)))), (0, .int (nI k)), (2, .int (nI i))]) hx hb d_D_isPrime_35 rfl hl (by decide) rfl (fun ls hl => ?_)
          refine lv_iinc (v := nI (i + 1)) (lv' := [(2, .int (nI (i + 1))), (1, .int (bI (decide (k % i ≠ 0)))), (0, .int (nI k))]) hx hb d_D_isPrime_36 hl (k := 2) rfl (nI_1 i) (by decide) rfl (fun ls hl => ?_)
          refine lv_goto (tgt := 13) hx hb d_D_isPrime_39 (by decide) ?_
          have hl := lv_sub (l' := [(0, .int (nI k)), (1, .int (bI (decide (k % i ≠ 0)))), (2, .int (nI (i + 1)))]) hl [2, 1, 0] rfl
          exact ih _ (prI_s hI hi0 hd) H locs ls hw hl
  · rintro is_ hI H locs ls hw hl
    refine lv_iload_n hx hb d_D_isPrime_13 rfl (lv_at hl 2 rfl) ?_
    refine lv_iload_n hx hb d_D_isPrime_14 rfl (lv_at hl 2 rfl) ?_
    refine lv_imul hx hb d_D_isPrime_15 ?_
    refine ky_ti (y := nI (217 * 217)) (pk_mul 217 217) ?_
    refine lv_iload_n hx hb d_D_isPrime_16 rfl (lv_at hl 0 rfl) ?_
    refine ky_gt (a := 217 * 217) (b := k) (tgt := 42) hx hb (by omega) (by omega) d_D_isPrime_17 (by decide) (fun hd => ?_) (fun hd => absurd hd (by omega))
    refine lv_iload_n hx hb d_D_isPrime_42 rfl (lv_at hl 1 rfl) ?_
    refine ky_ti (y := bI (isPr k)) (by rw [prI_x hI hk (by omega)]) ?_
    exact hret () rfl hw d_D_isPrime_43
/-- isPrime -/
theorem c_M_isPrime {k : Nat} (h2 : 2 ≤ k) (hk : k ≤ 46337) : CT l D tys y_M_isPrime b_M_isPrime 3 (some .boolean) (kr 0 0) [.int (nI k)] [] sz (QI D tys (G := Unit) (fun r _ => r = bI (isPr k)) (fun _ => [])) := by
  refine ct_bool (by decide) (Nat.le_of_ble_eq_true rfl) ?_
  intro p e s m args below meth c A ls Z S hA hK hw hl hret
  have S : CallFix p m c b_M_isPrime 3 s args lw_g R_M := S
  have hx := S.1
  have hb := S.2.1
  have hown := S.2.2.2.1
  have hts := S.2.2.2.2
  have hl : lv_has ls 3 [(0, .int (nI k))] := hl
  refine lv_iconst (v := nI 1) hx hb d_M_isPrime_0 (by decide) ?_
  refine ky_ti (y := bI true) ((rfl : nI 1 = bI true)) ?_
  refine lv_istore_n (lv' := [(1, .int (bI true)), (0, .int (nI k))]) hx hb d_M_isPrime_1 rfl hl (by decide) rfl (fun ls hl => ?_)
  refine lv_iconst (v := nI 2) hx hb d_M_isPrime_2 (by decide) ?_
  refine lv_istore_n (lv' := [(2, .int (nI 2)), (1, .int (bI true)), (0, .int (nI k))]) hx hb d_M_isPrime_3 rfl hl (by decide) rfl (fun ls hl => ?_)
  have hl := lv_sub (l' := [(0, .int (nI k)), (1, .int (bI true)), (2, .int (nI 2))]) hl [2, 1, 0] rfl
  refine for_ri (i0 := 2) (N := 217) (st := true)
    (fun (i : Nat) (is_ : Bool) => ∀ (H : Heap) (locs : List Loc) (ls : Array Slot), kw D A s.heap H locs ([]) → lv_has ls 3 [(0, .int (nI k)), (1, .int (bI is_)), (2, .int (nI i))] → W p l e (kr 0 0) s m args below meth c H locs 0 0 Z (F0 m 4 ls []))
    (fun (i : Nat) (is_ : Bool) => prI k i is_)
    (by omega) ?_ ?_ ?_ s.heap [] ls hw hl
  · exact prI_0 k
  · rintro i is_ hi0 hi hI ih H locs ls hw hl
    have hsq : i * i < 47089 := Nat.mul_self_lt_mul_self (n := 217) hi
    have hmo : k % i < i := Nat.mod_lt _ (by omega)
    refine lv_iload_n hx hb d_M_isPrime_4 rfl (lv_at hl 2 rfl) ?_
    refine lv_iload_n hx hb d_M_isPrime_5 rfl (lv_at hl 2 rfl) ?_
    refine lv_imul hx hb d_M_isPrime_6 ?_
    refine ky_ti (y := nI (i * i)) (pk_mul i i) ?_
    refine lv_iload_n hx hb d_M_isPrime_7 rfl (lv_at hl 0 rfl) ?_
    refine ky_gt (a := i * i) (b := k) (tgt := 33) hx hb (by omega) (by omega) d_M_isPrime_8 (by decide) (fun hd => ?_) (fun hd => ?_)
    · refine lv_iload_n hx hb d_M_isPrime_33 rfl (lv_at hl 1 rfl) ?_
      refine ky_ti (y := bI (isPr k)) (by rw [prI_x hI hk hd]) ?_
      exact hret () rfl hw d_M_isPrime_34
    · refine lv_iload_n hx hb d_M_isPrime_11 rfl (lv_at hl 1 rfl) ?_
      refine ky_beq (tgt := 33) hx hb d_M_isPrime_12 (by decide) (fun he => ?_) (fun he => ?_)
      · subst he
        refine lv_iload_n hx hb d_M_isPrime_33 rfl (lv_at hl 1 rfl) ?_
        refine ky_ti (y := bI (isPr k)) (by rw [prI_f hI hk]) ?_
        exact hret () rfl hw d_M_isPrime_34
      · subst he
        refine lv_iload_n hx hb d_M_isPrime_15 rfl (lv_at hl 0 rfl) ?_
        refine lv_iload_n hx hb d_M_isPrime_16 rfl (lv_at hl 2 rfl) ?_
        refine lv_irem hx hb d_M_isPrime_17 (nI_ne0 (by omega) (by omega)) ?_
        refine ky_ti (y := nI (k % i)) (pk_rem (by omega) (by omega) (by omega)) ?_
        refine ky_ifeq (tgt := 25) hx hb (by omega) d_M_isPrime_18 (by decide) (fun hm => ?_) (fun hm => ?_)
        · refine lv_iconst (v := nI 0) hx hb d_M_isPrime_25 (by decide) ?_
          refine ky_ti (y := bI (decide (k % i ≠ 0))) ((by simp [hm]; rfl : nI 0 = bI (decide (k % i ≠ 0)))) ?_
          refine lv_istore_n (lv' := [(1, .int (bI (decide (k % i ≠ 0)))), (0, .int (nI k)), (2, .int (nI i))]) hx hb d_M_isPrime_26 rfl hl (by decide) rfl (fun ls hl => ?_)
          refine lv_iinc (v := nI (i + 1)) (lv' := [(2, .int (nI (i + 1))), (1, .int (bI (decide (k % i ≠ 0)))), (0, .int (nI k))]) hx hb d_M_isPrime_27 hl (k := 2) rfl (nI_1 i) (by decide) rfl (fun ls hl => ?_)
          refine lv_goto (tgt := 4) hx hb d_M_isPrime_30 (by decide) ?_
          have hl := lv_sub (l' := [(0, .int (nI k)), (1, .int (bI (decide (k % i ≠ 0)))), (2, .int (nI (i + 1)))]) hl [2, 1, 0] rfl
          exact ih _ (prI_s hI hi0 hd) H locs ls hw hl
        · refine lv_iconst (v := nI 1) hx hb d_M_isPrime_21 (by decide) ?_
          refine lv_goto (tgt := 26) hx hb d_M_isPrime_22 (by decide) ?_
          refine ky_ti (y := bI (decide (k % i ≠ 0))) ((by simp [hm]; rfl : nI 1 = bI (decide (k % i ≠ 0)))) ?_
          refine lv_istore_n (lv' := [(1, .int (bI (decide (k % i ≠ 0)))), (0, .int (nI k)), (2, .int (nI i))]) hx hb d_M_isPrime_26 rfl hl (by decide) rfl (fun ls hl => ?_)
          refine lv_iinc (v := nI (i + 1)) (lv' := [(2, .int (nI (i + 1))), (1, .int (bI (decide (k % i ≠ 0)))), (0, .int (nI k))]) hx hb d_M_isPrime_27 hl (k := 2) rfl (nI_1 i) (by decide) rfl (fun ls hl => ?_)
          refine lv_goto (tgt := 4) hx hb d_M_isPrime_30 (by decide) ?_
          have hl := lv_sub (l' := [(0, .int (nI k)), (1, .int (bI (decide (k % i ≠ 0)))), (2, .int (nI (i + 1)))]) hl [2, 1, 0] rfl
          exact ih _ (prI_s hI hi0 hd) H locs ls hw hl
  · rintro is_ hI H locs ls hw hl
    refine lv_iload_n hx hb d_M_isPrime_4 rfl (lv_at hl 2 rfl) ?_
    refine lv_iload_n hx hb d_M_isPrime_5 rfl (lv_at hl 2 rfl) ?_
    refine lv_imul hx hb d_M_isPrime_6 ?_
    refine ky_ti (y := nI (217 * 217)) (pk_mul 217 217) ?_
    refine lv_iload_n hx hb d_M_isPrime_7 rfl (lv_at hl 0 rfl) ?_
    refine ky_gt (a := 217 * 217) (b := k) (tgt := 33) hx hb (by omega) (by omega) d_M_isPrime_8 (by decide) (fun hd => ?_) (fun hd => absurd hd (by omega))
    refine lv_iload_n hx hb d_M_isPrime_33 rfl (lv_at hl 1 rfl) ?_
    refine ky_ti (y := bI (isPr k)) (by rw [prI_x hI hk (by omega)]) ?_
    exact hret () rfl hw d_M_isPrime_34
end
end
section
section
variable {l : Launch} {D : va_G} {cI cJ : ClassId} {ad : Nat → Nat} {sz P N O M : Nat} {dg : Int32} {sv : Bool} {g : Int64} {pr ta : Int32} {fr fc : Nat → Nat} {fv : Nat → Int32} {ab au av aw ax ar ac af ak : Nat → Int64}
/-- mod -/
theorem c_D_mod {z : Int64} (hP2 : 2 ≤ P) (hP : P ≤ 46337) : CT l D (kt cI cJ) y_D_mod b_D_mod 5 (some .int) (kr 0 0) [.ref (ad 0), .long z] (wD ad cI cJ P N O M dg sv g pr ta fr fc fv ab au av aw ax ar ac af ak) sz (QI D (kt cI cJ) (G := Unit) (fun r _ => r = md P z) (fun u => wD ad cI cJ P N O M dg sv g pr ta fr fc fv ab au av aw ax ar ac af ak)) := by
  refine ct_int (by decide) (Nat.le_of_ble_eq_true rfl) ?_
  intro p e s m args below meth c A ls Z S hA hK hw hl hret
  have S : CallFix p m c b_D_mod 5 s args lw_g R_D := S
  have hx := S.1
  have hb := S.2.1
  have hown := S.2.2.2.1
  have hts := S.2.2.2.2
  have hl : lv_has ls 5 [(0, .ref (ad 0)), (1, .long z)] := hl
  refine lv_lload_n hx hb d_D_mod_0 rfl (lv_at hl 1 rfl) ?_
  refine lv_aload_n hx hb d_D_mod_1 rfl (lv_at hl 0 rfl) ?_
  refine gD_p S hK hw rfl rfl d_D_mod_2 ?_
  refine ky_i2l hx hb (by omega) d_D_mod_5 ?_
  refine ky_lrem hx hb d_D_mod_6 (lN_ne0 (by omega) (by omega)) ?_
  refine lv_lstore_n (lv' := [(3, .long (rmd z (lN P))), (0, .ref (ad 0)), (1, .long z)]) hx hb d_D_mod_7 rfl hl (by decide) rfl (fun ls hl => ?_)
  refine lv_lload_n hx hb d_D_mod_8 rfl (lv_at hl 0 rfl) ?_
  refine lv_lconst (v := 0) hx hb d_D_mod_9 (by decide) ?_
  refine W.lcmp hx hb d_D_mod_10 ?_
  refine ky_lge (tgt := 24) hx hb d_D_mod_11 (by decide) (fun h => ?_) (fun h => ?_)
  · refine lv_lload_n hx hb d_D_mod_24 rfl (lv_at hl 0 rfl) ?_
    refine lv_l2i hx hb d_D_mod_25 rfl ?_
    exact hret () (by simp [md, wi, h]) hw d_D_mod_26
  · refine lv_lload_n hx hb d_D_mod_14 rfl (lv_at hl 0 rfl) ?_
    refine lv_aload_n hx hb d_D_mod_15 rfl (lv_at hl 1 rfl) ?_
    refine gD_p S hK hw rfl rfl d_D_mod_16 ?_
    refine ky_i2l hx hb (by omega) d_D_mod_19 ?_
    refine lv_ladd hx hb d_D_mod_20 ?_
    refine lv_goto (tgt := 25) hx hb d_D_mod_21 (by decide) ?_
    refine lv_l2i hx hb d_D_mod_25 rfl ?_
    exact hret () (by simp [md, wi, h]) hw d_D_mod_26
/-- forget -/
theorem c_D_forget   : CT l D (kt cI cJ) y_D_forget b_D_forget 1 none (kr 0 0) [.ref (ad 0)] (wD ad cI cJ P N O M dg sv g pr ta fr fc fv ab au av aw ax ar ac af ak) sz (QV D (kt cI cJ) (G := Unit) (fun _ => True) (fun u => wD ad cI cJ P N O M (-1) false g pr ta fr fc fv ab au av aw ax ar ac af ak)) := by
  refine ct_void (by decide) (Nat.le_of_ble_eq_true rfl) ?_
  intro p e s m args below meth c A ls Z S hA hK hw hl hret
  have S : CallFix p m c b_D_forget 1 s args lw_g R_D := S
  have hx := S.1
  have hb := S.2.1
  have hown := S.2.2.2.1
  have hts := S.2.2.2.2
  have hl : lv_has ls 1 [(0, .ref (ad 0))] := hl
  refine lv_aload_n hx hb d_D_forget_0 rfl (lv_at hl 0 rfl) ?_
  refine lv_iconst (v := nI 0) hx hb d_D_forget_1 (by decide) ?_
  refine ky_ti (y := bI false) (rfl) ?_
  refine pD_solved (v := false) S hK hw rfl (Nat.le_of_ble_eq_true rfl) d_D_forget_2 (fun H locs hw => ?_)
  have hw : kw D A s.heap H locs (wD ad cI cJ P N O M dg false g pr ta fr fc fv ab au av aw ax ar ac af ak) := hw
  refine lv_aload_n hx hb d_D_forget_5 rfl (lv_at hl 0 rfl) ?_
  refine lv_iconst (v := -1) hx hb d_D_forget_6 (by decide) ?_
  refine pD_degree S hK hw rfl (Nat.le_of_ble_eq_true rfl) d_D_forget_7 (fun H locs hw => ?_)
  have hw : kw D A s.heap H locs (wD ad cI cJ P N O M (-1) false g pr ta fr fc fv ab au av aw ax ar ac af ak) := hw
  exact hret () trivial hw d_D_forget_10
/-- seed -/
theorem c_D_seed {k : Int32}  : CT l D (kt cI cJ) y_D_seed b_D_seed 2 none (kr 0 0) [.ref (ad 0), .int k] (wD ad cI cJ P N O M dg sv g pr ta fr fc fv ab au av aw ax ar ac af ak) sz (QV D (kt cI cJ) (G := Unit) (fun _ => True) (fun u => wD ad cI cJ P N O M dg sv (k.toInt64 &&& 2147483647) pr ta fr fc fv ab au av aw ax ar ac af ak)) := by
  refine ct_void (by decide) (Nat.le_of_ble_eq_true rfl) ?_
  intro p e s m args below meth c A ls Z S hA hK hw hl hret
  have S : CallFix p m c b_D_seed 2 s args lw_g R_D := S
  have hx := S.1
  have hb := S.2.1
  have hown := S.2.2.2.1
  have hts := S.2.2.2.2
  have hl : lv_has ls 2 [(0, .ref (ad 0)), (1, .int k)] := hl
  refine lv_aload_n hx hb d_D_seed_0 rfl (lv_at hl 0 rfl) ?_
  refine lv_iload_n hx hb d_D_seed_1 rfl (lv_at hl 1 rfl) ?_
  refine lv_i2l hx hb d_D_seed_2 rfl ?_
  refine lv_ldc2 (v := 2147483647) hx hb hown (hts _ q1_108) d_D_seed_3 ?_
  refine lv_land hx hb d_D_seed_6 ?_
  refine pD_generator S hK hw rfl (Nat.le_of_ble_eq_true rfl) d_D_seed_7 (fun H locs hw => ?_)
  have hw : kw D A s.heap H locs (wD ad cI cJ P N O M dg sv ((k.toInt64) &&& 2147483647) pr ta fr fc fv ab au av aw ax ar ac af ak) := hw
  exact hret () trivial hw d_D_seed_10
/-- draw -/
theorem c_D_draw  (hP2 : 2 ≤ P) (hP : P ≤ 46337) : CT l D (kt cI cJ) y_D_draw b_D_draw 1 (some .int) (kr 0 0) [.ref (ad 0)] (wD ad cI cJ P N O M dg sv g pr ta fr fc fv ab au av aw ax ar ac af ak) sz (QI D (kt cI cJ) (G := Unit) (fun r _ => r = dD P g) (fun u => wD ad cI cJ P N O M dg sv (gD g) pr ta fr fc fv ab au av aw ax ar ac af ak)) := by
  refine ct_int (by decide) (Nat.le_of_ble_eq_true rfl) ?_
  intro p e s m args below meth c A ls Z S hA hK hw hl hret
  have S : CallFix p m c b_D_draw 1 s args lw_g R_D := S
  have hx := S.1
  have hb := S.2.1
  have hown := S.2.2.2.1
  have hts := S.2.2.2.2
  have hl : lv_has ls 1 [(0, .ref (ad 0))] := hl
  refine lv_aload_n hx hb d_D_draw_0 rfl (lv_at hl 0 rfl) ?_
  refine lv_ldc2 (v := 1103515245) hx hb hown (hts _ q1_121) d_D_draw_1 ?_
  refine lv_aload_n hx hb d_D_draw_4 rfl (lv_at hl 0 rfl) ?_
  refine gD_generator S hK hw rfl rfl d_D_draw_5 ?_
  refine lv_lmul hx hb d_D_draw_8 ?_
  refine lv_ldc2 (v := 12345) hx hb hown (hts _ q1_122) d_D_draw_9 ?_
  refine lv_ladd hx hb d_D_draw_12 ?_
  refine lv_ldc2 (v := 2147483647) hx hb hown (hts _ q1_108) d_D_draw_13 ?_
  refine lv_land hx hb d_D_draw_16 ?_
  refine pD_generator S hK hw rfl (Nat.le_of_ble_eq_true rfl) d_D_draw_17 (fun H locs hw => ?_)
  have hw : kw D A s.heap H locs (wD ad cI cJ P N O M dg sv (((1103515245 * g) + 12345) &&& 2147483647) pr ta fr fc fv ab au av aw ax ar ac af ak) := hw
  refine lv_aload_n hx hb d_D_draw_20 rfl (lv_at hl 0 rfl) ?_
  refine gD_generator S hK hw rfl rfl d_D_draw_21 ?_
  refine lv_bipush (v := nI 16) hx hb d_D_draw_24 (by decide) ?_
  refine lv_lshr hx hb d_D_draw_26 rfl ?_
  refine lv_aload_n hx hb d_D_draw_27 rfl (lv_at hl 0 rfl) ?_
  refine gD_p S hK hw rfl rfl d_D_draw_28 ?_
  refine ky_i2l hx hb (by omega) d_D_draw_31 ?_
  refine ky_lrem hx hb d_D_draw_32 (lN_ne0 (by omega) (by omega)) ?_
  refine lv_l2i hx hb d_D_draw_33 rfl ?_
  exact hret () rfl hw d_D_draw_34
/-- degree -/
theorem c_D_degree   : CT l D (kt cI cJ) y_D_degree b_D_degree 1 (some .int) (kr 0 0) [.ref (ad 0)] (wD ad cI cJ P N O M dg sv g pr ta fr fc fv ab au av aw ax ar ac af ak) sz (QI D (kt cI cJ) (G := Unit) (fun r _ => r = dg) (fun u => wD ad cI cJ P N O M dg sv g pr ta fr fc fv ab au av aw ax ar ac af ak)) := by
  refine ct_int (by decide) (Nat.le_of_ble_eq_true rfl) ?_
  intro p e s m args below meth c A ls Z S hA hK hw hl hret
  have S : CallFix p m c b_D_degree 1 s args lw_g R_D := S
  have hx := S.1
  have hb := S.2.1
  have hown := S.2.2.2.1
  have hts := S.2.2.2.2
  have hl : lv_has ls 1 [(0, .ref (ad 0))] := hl
  refine lv_aload_n hx hb d_D_degree_0 rfl (lv_at hl 0 rfl) ?_
  refine gD_degree S hK hw rfl rfl d_D_degree_1 ?_
  exact hret () rfl hw d_D_degree_4
/-- products -/
theorem c_D_products   : CT l D (kt cI cJ) y_D_products b_D_products 1 (some .int) (kr 0 0) [.ref (ad 0)] (wD ad cI cJ P N O M dg sv g pr ta fr fc fv ab au av aw ax ar ac af ak) sz (QI D (kt cI cJ) (G := Unit) (fun r _ => r = pr) (fun u => wD ad cI cJ P N O M dg sv g pr ta fr fc fv ab au av aw ax ar ac af ak)) := by
  refine ct_int (by decide) (Nat.le_of_ble_eq_true rfl) ?_
  intro p e s m args below meth c A ls Z S hA hK hw hl hret
  have S : CallFix p m c b_D_products 1 s args lw_g R_D := S
  have hx := S.1
  have hb := S.2.1
  have hown := S.2.2.2.1
  have hts := S.2.2.2.2
  have hl : lv_has ls 1 [(0, .ref (ad 0))] := hl
  refine lv_aload_n hx hb d_D_products_0 rfl (lv_at hl 0 rfl) ?_
  refine gD_products S hK hw rfl rfl d_D_products_1 ?_
  exact hret () rfl hw d_D_products_4
/-- multiply -/
theorem c_D_multiply_v  (h : okD P N O M fr fc) : CT l D (kt cI cJ) y_D_multiply b_D_multiply 3 none (kr 0 0) [.ref (ad 0), .ref (ad 6)] (wD ad cI cJ P N O M dg sv g pr ta fr fc fv ab au av aw ax ar ac af ak) sz (QV D (kt cI cJ) (G := Int32 × (Nat → Int64) × (Nat → Int64)) (fun u => u.1 = pr + 1 ∧ ∀ i, i < N → u.2.2 i = muK P fr fc (fun k => (fv k).toInt64) av M i) (fun u => wD ad cI cJ P N O M dg sv g (u.1) ta fr fc fv ab au (u.2.2) (u.2.1) ax ar ac af ak)) := by
  refine ct_void (by decide) (Nat.le_of_ble_eq_true rfl) ?_
  intro p e s m args below meth c A ls Z S hA hK hw hl hret
  have S : CallFix p m c b_D_multiply 3 s args lw_g R_D := S
  have hx := S.1
  have hb := S.2.1
  have hown := S.2.2.2.1
  have hts := S.2.2.2.2
  have hl : lv_has ls 3 [(0, .ref (ad 0)), (1, .ref (ad 6))] := hl
  obtain ⟨hP2, hP, hN1, hN, hO1, hO, hM, hrc⟩ := h
  refine lv_iconst (v := nI 0) hx hb d_D_multiply_0 (by decide) ?_
  refine lv_istore_n (lv' := [(2, .int (nI 0)), (0, .ref (ad 0)), (1, .ref (ad 6))]) hx hb d_D_multiply_1 rfl hl (by decide) rfl (fun ls hl => ?_)
  have hl := lv_sub (l' := [(0, .ref (ad 0)), (1, .ref (ad 6)), (2, .int (nI 0))]) hl [1, 2, 0] rfl
  refine for_ri (i0 := 0) (N := N) (st := aw)
    (fun (i : Nat) (aw : Nat → Int64) => ∀ (H : Heap) (locs : List Loc) (ls : Array Slot), kw D A s.heap H locs (wD ad cI cJ P N O M dg sv g pr ta fr fc fv ab au av aw ax ar ac af ak) → lv_has ls 3 [(0, .ref (ad 0)), (1, .ref (ad 6)), (2, .int (nI i))] → W p l e (kr 0 0) s m args below meth c H locs 0 0 Z (F0 m 2 ls []))
    (fun (i : Nat) (aw : Nat → Int64) => ∀ j, j < i → aw j = 0)
    (by omega) ?_ ?_ ?_ s.heap [] ls hw hl
  · exact fun j hj => absurd hj (by omega)
  · rintro i aw hi0 hi hI ih H locs ls hw hl
    refine lv_iload_n hx hb d_D_multiply_2 rfl (lv_at hl 2 rfl) ?_
    refine lv_aload_n hx hb d_D_multiply_3 rfl (lv_at hl 0 rfl) ?_
    refine gD_n S hK hw rfl rfl d_D_multiply_4 ?_
    refine ky_ge (a := i) (b := N) (tgt := 23) hx hb (by omega) (by omega) d_D_multiply_7 (by decide) (fun h => absurd h (by omega)) (fun h => ?_)
    refine lv_aload_n hx hb d_D_multiply_10 rfl (lv_at hl 0 rfl) ?_
    refine gD_w S hK hw rfl rfl d_D_multiply_11 ?_
    refine lv_iload_n hx hb d_D_multiply_14 rfl (lv_at hl 2 rfl) ?_
    refine lv_lconst (v := 0) hx hb d_D_multiply_15 (by decide) ?_
    refine ky_last S hK hw 7 rfl (by omega) (by omega) d_D_multiply_16 (fun H locs hw => ?_)
    have hw : kw D A s.heap H locs (wD ad cI cJ P N O M dg sv g pr ta fr fc fv ab au av (vp_updL aw i 0) ax ar ac af ak) := hw
    refine lv_iinc (v := nI (i + 1)) (lv' := [(2, .int (nI (i + 1))), (0, .ref (ad 0)), (1, .ref (ad 6))]) hx hb d_D_multiply_17 hl (k := 2) rfl (nI_1 i) (by decide) rfl (fun ls hl => ?_)
    refine lv_goto (tgt := 2) hx hb d_D_multiply_20 (by decide) ?_
    have hl := lv_sub (l' := [(0, .ref (ad 0)), (1, .ref (ad 6)), (2, .int (nI (i + 1)))]) hl [1, 2, 0] rfl
    refine ih _ (fun j hj => ?_) H locs ls hw hl
    rcases Nat.lt_or_ge j i with q | q
    · rw [upL_n (by omega)]; exact hI j q
    · have e : j = i := by omega
      rw [e, upL_s]
  · rintro aw hI H locs ls hw hl
    refine lv_iload_n hx hb d_D_multiply_2 rfl (lv_at hl 2 rfl) ?_
    refine lv_aload_n hx hb d_D_multiply_3 rfl (lv_at hl 0 rfl) ?_
    refine gD_n S hK hw rfl rfl d_D_multiply_4 ?_
    refine ky_ge (a := N) (b := N) (tgt := 23) hx hb (by omega) (by omega) d_D_multiply_7 (by decide) (fun h => ?_) (fun h => absurd h (by omega))
    refine lv_iconst (v := nI 0) hx hb d_D_multiply_23 (by decide) ?_
    refine lv_istore_n (lv' := [(2, .int (nI 0)), (0, .ref (ad 0)), (1, .ref (ad 6))]) hx hb d_D_multiply_24 rfl hl (by decide) rfl (fun ls hl => ?_)
    have hl := lv_sub (l' := [(0, .ref (ad 0)), (1, .ref (ad 6)), (2, .int (nI 0))]) hl [1, 2, 0] rfl
    refine for_ri (i0 := 0) (N := M) (st := aw)
      (fun (i : Nat) (aw : Nat → Int64) => ∀ (H : Heap) (locs : List Loc) (ls : Array Slot), kw D A s.heap H locs (wD ad cI cJ P N O M dg sv g pr ta fr fc fv ab au av aw ax ar ac af ak) → lv_has ls 3 [(0, .ref (ad 0)), (1, .ref (ad 6)), (2, .int (nI i))] → W p l e (kr 0 0) s m args below meth c H locs 0 0 Z (F0 m 25 ls []))
      (fun (i : Nat) (aw : Nat → Int64) => ∀ j, j < N → aw j = muK P fr fc (fun k => (fv k).toInt64) av i j)
      (by omega) ?_ ?_ ?_ H locs ls hw hl
    · exact fun j hj => hI j hj
    · rintro i aw hi0 hi hI ih H locs ls hw hl
      obtain ⟨hr1, hc1⟩ := hrc i hi
      refine lv_iload_n hx hb d_D_multiply_25 rfl (lv_at hl 2 rfl) ?_
      refine lv_aload_n hx hb d_D_multiply_26 rfl (lv_at hl 0 rfl) ?_
      refine gD_many S hK hw rfl rfl d_D_multiply_27 ?_
      refine ky_ge (a := i) (b := M) (tgt := 84) hx hb (by omega) (by omega) d_D_multiply_30 (by decide) (fun h => absurd h (by omega)) (fun h => ?_)
      refine lv_aload_n hx hb d_D_multiply_33 rfl (lv_at hl 0 rfl) ?_
      refine gD_w S hK hw rfl rfl d_D_multiply_34 ?_
      refine lv_aload_n hx hb d_D_multiply_37 rfl (lv_at hl 0 rfl) ?_
      refine gD_rows S hK hw rfl rfl d_D_multiply_38 ?_
      refine lv_iload_n hx hb d_D_multiply_41 rfl (lv_at hl 2 rfl) ?_
      refine ky_nald S hK hw 1 rfl (by omega) (by omega) d_D_multiply_42 ?_
      refine lv_aload_n hx hb d_D_multiply_43 rfl (lv_at hl 0 rfl) ?_
      refine gD_w S hK hw rfl rfl d_D_multiply_44 ?_
      refine lv_aload_n hx hb d_D_multiply_47 rfl (lv_at hl 0 rfl) ?_
      refine gD_rows S hK hw rfl rfl d_D_multiply_48 ?_
      refine lv_iload_n hx hb d_D_multiply_51 rfl (lv_at hl 2 rfl) ?_
      refine ky_nald S hK hw 1 rfl (by omega) (by omega) d_D_multiply_52 ?_
      refine ky_lald S hK hw 7 rfl (by omega) (by omega) d_D_multiply_53 ?_
      refine lv_aload_n hx hb d_D_multiply_54 rfl (lv_at hl 0 rfl) ?_
      refine gD_values S hK hw rfl rfl d_D_multiply_55 ?_
      refine lv_iload_n hx hb d_D_multiply_58 rfl (lv_at hl 2 rfl) ?_
      refine ky_iald S hK hw 3 rfl (by omega) (by omega) d_D_multiply_59 ?_
      refine lv_i2l hx hb d_D_multiply_60 rfl ?_
      refine lv_aload_n hx hb d_D_multiply_61 rfl (lv_at hl 1 rfl) ?_
      refine lv_aload_n hx hb d_D_multiply_62 rfl (lv_at hl 0 rfl) ?_
      refine gD_columns S hK hw rfl rfl d_D_multiply_63 ?_
      refine lv_iload_n hx hb d_D_multiply_66 rfl (lv_at hl 2 rfl) ?_
      refine ky_nald S hK hw 2 rfl (by omega) (by omega) d_D_multiply_67 ?_
      refine ky_lald S hK hw 6 rfl (by omega) (by omega) d_D_multiply_68 ?_
      refine lv_lmul hx hb d_D_multiply_69 ?_
      refine lv_ladd hx hb d_D_multiply_70 ?_
      refine lv_aload_n hx hb d_D_multiply_71 rfl (lv_at hl 0 rfl) ?_
      refine gD_p S hK hw rfl rfl d_D_multiply_72 ?_
      refine ky_i2l hx hb (by omega) d_D_multiply_75 ?_
      refine ky_lrem hx hb d_D_multiply_76 (lN_ne0 (by omega) (by omega)) ?_
      refine ky_last S hK hw 7 rfl (by omega) (by omega) d_D_multiply_77 (fun H locs hw => ?_)
      have hw : kw D A s.heap H locs (wD ad cI cJ P N O M dg sv g pr ta fr fc fv ab au av (vp_updL aw (fr i) (rmd ((aw (fr i)) + (((fv i).toInt64) * (av (fc i)))) (lN P))) ax ar ac af ak) := hw
      refine lv_iinc (v := nI (i + 1)) (lv' := [(2, .int (nI (i + 1))), (0, .ref (ad 0)), (1, .ref (ad 6))]) hx hb d_D_multiply_78 hl (k := 2) rfl (nI_1 i) (by decide) rfl (fun ls hl => ?_)
      refine lv_goto (tgt := 25) hx hb d_D_multiply_81 (by decide) ?_
      have hl := lv_sub (l' := [(0, .ref (ad 0)), (1, .ref (ad 6)), (2, .int (nI (i + 1)))]) hl [1, 2, 0] rfl
      refine ih _ (fun j hj => ?_) H locs ls hw hl
      show _ = if j = fr i then _ else _
      by_cases q : j = fr i
      · rw [if_pos q, q, upL_s, hI _ hr1]
      · rw [if_neg q, upL_n q]; exact hI j hj
    · rintro aw hI H locs ls hw hl
      refine lv_iload_n hx hb d_D_multiply_25 rfl (lv_at hl 2 rfl) ?_
      refine lv_aload_n hx hb d_D_multiply_26 rfl (lv_at hl 0 rfl) ?_
      refine gD_many S hK hw rfl rfl d_D_multiply_27 ?_
      refine ky_ge (a := M) (b := M) (tgt := 84) hx hb (by omega) (by omega) d_D_multiply_30 (by decide) (fun h => ?_) (fun h => absurd h (by omega))
      refine lv_iconst (v := nI 0) hx hb d_D_multiply_84 (by decide) ?_
      refine lv_istore_n (lv' := [(2, .int (nI 0)), (0, .ref (ad 0)), (1, .ref (ad 6))]) hx hb d_D_multiply_85 rfl hl (by decide) rfl (fun ls hl => ?_)
      have hl := lv_sub (l' := [(0, .ref (ad 0)), (1, .ref (ad 6)), (2, .int (nI 0))]) hl [1, 2, 0] rfl
      refine for_ri (i0 := 0) (N := N) (st := av)
        (fun (i : Nat) (ve : Nat → Int64) => ∀ (H : Heap) (locs : List Loc) (ls : Array Slot), kw D A s.heap H locs (wD ad cI cJ P N O M dg sv g pr ta fr fc fv ab au ve aw ax ar ac af ak) → lv_has ls 3 [(0, .ref (ad 0)), (1, .ref (ad 6)), (2, .int (nI i))] → W p l e (kr 0 0) s m args below meth c H locs 0 0 Z (F0 m 86 ls []))
        (fun (i : Nat) (ve : Nat → Int64) => ∀ j, j < i → ve j = muK P fr fc (fun k => (fv k).toInt64) av M j)
        (by omega) ?_ ?_ ?_ H locs ls hw hl
      · exact fun j hj => absurd hj (by omega)
      · rintro i ve hi0 hi hJ ih H locs ls hw hl
        refine lv_iload_n hx hb d_D_multiply_86 rfl (lv_at hl 2 rfl) ?_
        refine lv_aload_n hx hb d_D_multiply_87 rfl (lv_at hl 0 rfl) ?_
        refine gD_n S hK hw rfl rfl d_D_multiply_88 ?_
        refine ky_ge (a := i) (b := N) (tgt := 109) hx hb (by omega) (by omega) d_D_multiply_91 (by decide) (fun h => absurd h (by omega)) (fun h => ?_)
        refine lv_aload_n hx hb d_D_multiply_94 rfl (lv_at hl 1 rfl) ?_
        refine lv_iload_n hx hb d_D_multiply_95 rfl (lv_at hl 2 rfl) ?_
        refine lv_aload_n hx hb d_D_multiply_96 rfl (lv_at hl 0 rfl) ?_
        refine gD_w S hK hw rfl rfl d_D_multiply_97 ?_
        refine lv_iload_n hx hb d_D_multiply_100 rfl (lv_at hl 2 rfl) ?_
        refine ky_lald S hK hw 7 rfl (by omega) (by omega) d_D_multiply_101 ?_
        refine ky_last S hK hw 6 rfl (by omega) (by omega) d_D_multiply_102 (fun H locs hw => ?_)
        have hw : kw D A s.heap H locs (wD ad cI cJ P N O M dg sv g pr ta fr fc fv ab au (vp_updL ve i (aw i)) aw ax ar ac af ak) := hw
        refine lv_iinc (v := nI (i + 1)) (lv' := [(2, .int (nI (i + 1))), (0, .ref (ad 0)), (1, .ref (ad 6))]) hx hb d_D_multiply_103 hl (k := 2) rfl (nI_1 i) (by decide) rfl (fun ls hl => ?_)
        refine lv_goto (tgt := 86) hx hb d_D_multiply_106 (by decide) ?_
        have hl := lv_sub (l' := [(0, .ref (ad 0)), (1, .ref (ad 6)), (2, .int (nI (i + 1)))]) hl [1, 2, 0] rfl
        refine ih _ (fun j hj => ?_) H locs ls hw hl
        rcases Nat.lt_or_ge j i with q | q
        · rw [upL_n (by omega)]; exact hJ j q
        · have e : j = i := by omega
          rw [e, upL_s]; exact hI i hi
      · rintro ve hJ H locs ls hw hl
        refine lv_iload_n hx hb d_D_multiply_86 rfl (lv_at hl 2 rfl) ?_
        refine lv_aload_n hx hb d_D_multiply_87 rfl (lv_at hl 0 rfl) ?_
        refine gD_n S hK hw rfl rfl d_D_multiply_88 ?_
        refine ky_ge (a := N) (b := N) (tgt := 109) hx hb (by omega) (by omega) d_D_multiply_91 (by decide) (fun h => ?_) (fun h => absurd h (by omega))
        refine lv_aload_n hx hb d_D_multiply_109 rfl (lv_at hl 0 rfl) ?_
        refine lv_dup hx hb d_D_multiply_110 rfl ?_
        refine gD_products S hK hw rfl rfl d_D_multiply_111 ?_
        refine lv_iconst (v := nI 1) hx hb d_D_multiply_114 (by decide) ?_
        refine lv_iadd hx hb d_D_multiply_115 ?_
        refine pD_products S hK hw rfl (Nat.le_of_ble_eq_true rfl) d_D_multiply_116 (fun H locs hw => ?_)
        have hw : kw D A s.heap H locs (wD ad cI cJ P N O M dg sv g (pr + (nI 1)) ta fr fc fv ab au ve aw ax ar ac af ak) := hw
        exact hret (_, _, _) ⟨rfl, hJ⟩ hw d_D_multiply_119
/-- multiply -/
theorem c_D_multiply_x  (h : okD P N O M fr fc) : CT l D (kt cI cJ) y_D_multiply b_D_multiply 3 none (kr 0 0) [.ref (ad 0), .ref (ad 8)] (wD ad cI cJ P N O M dg sv g pr ta fr fc fv ab au av aw ax ar ac af ak) sz (QV D (kt cI cJ) (G := Int32 × (Nat → Int64) × (Nat → Int64)) (fun u => u.1 = pr + 1 ∧ ∀ i, i < N → u.2.2 i = muK P fr fc (fun k => (fv k).toInt64) ax M i) (fun u => wD ad cI cJ P N O M dg sv g (u.1) ta fr fc fv ab au av (u.2.1) (u.2.2) ar ac af ak)) := by
  refine ct_void (by decide) (Nat.le_of_ble_eq_true rfl) ?_
  intro p e s m args below meth c A ls Z S hA hK hw hl hret
  have S : CallFix p m c b_D_multiply 3 s args lw_g R_D := S
  have hx := S.1
  have hb := S.2.1
  have hown := S.2.2.2.1
  have hts := S.2.2.2.2
  have hl : lv_has ls 3 [(0, .ref (ad 0)), (1, .ref (ad 8))] := hl
  obtain ⟨hP2, hP, hN1, hN, hO1, hO, hM, hrc⟩ := h
  refine lv_iconst (v := nI 0) hx hb d_D_multiply_0 (by decide) ?_
  refine lv_istore_n (lv' := [(2, .int (nI 0)), (0, .ref (ad 0)), (1, .ref (ad 8))]) hx hb d_D_multiply_1 rfl hl (by decide) rfl (fun ls hl => ?_)
  have hl := lv_sub (l' := [(0, .ref (ad 0)), (1, .ref (ad 8)), (2, .int (nI 0))]) hl [1, 2, 0] rfl
  refine for_ri (i0 := 0) (N := N) (st := aw)
    (fun (i : Nat) (aw : Nat → Int64) => ∀ (H : Heap) (locs : List Loc) (ls : Array Slot), kw D A s.heap H locs (wD ad cI cJ P N O M dg sv g pr ta fr fc fv ab au av aw ax ar ac af ak) → lv_has ls 3 [(0, .ref (ad 0)), (1, .ref (ad 8)), (2, .int (nI i))] → W p l e (kr 0 0) s m args below meth c H locs 0 0 Z (F0 m 2 ls []))
    (fun (i : Nat) (aw : Nat → Int64) => ∀ j, j < i → aw j = 0)
    (by omega) ?_ ?_ ?_ s.heap [] ls hw hl
  · exact fun j hj => absurd hj (by omega)
  · rintro i aw hi0 hi hI ih H locs ls hw hl
    refine lv_iload_n hx hb d_D_multiply_2 rfl (lv_at hl 2 rfl) ?_
    refine lv_aload_n hx hb d_D_multiply_3 rfl (lv_at hl 0 rfl) ?_
    refine gD_n S hK hw rfl rfl d_D_multiply_4 ?_
    refine ky_ge (a := i) (b := N) (tgt := 23) hx hb (by omega) (by omega) d_D_multiply_7 (by decide) (fun h => absurd h (by omega)) (fun h => ?_)
    refine lv_aload_n hx hb d_D_multiply_10 rfl (lv_at hl 0 rfl) ?_
    refine gD_w S hK hw rfl rfl d_D_multiply_11 ?_
    refine lv_iload_n hx hb d_D_multiply_14 rfl (lv_at hl 2 rfl) ?_
    refine lv_lconst (v := 0) hx hb d_D_multiply_15 (by decide) ?_
    refine ky_last S hK hw 7 rfl (by omega) (by omega) d_D_multiply_16 (fun H locs hw => ?_)
    have hw : kw D A s.heap H locs (wD ad cI cJ P N O M dg sv g pr ta fr fc fv ab au av (vp_updL aw i 0) ax ar ac af ak) := hw
    refine lv_iinc (v := nI (i + 1)) (lv' := [(2, .int (nI (i + 1))), (0, .ref (ad 0)), (1, .ref (ad 8))]) hx hb d_D_multiply_17 hl (k := 2) rfl (nI_1 i) (by decide) rfl (fun ls hl => ?_)
    refine lv_goto (tgt := 2) hx hb d_D_multiply_20 (by decide) ?_
    have hl := lv_sub (l' := [(0, .ref (ad 0)), (1, .ref (ad 8)), (2, .int (nI (i + 1)))]) hl [1, 2, 0] rfl
    refine ih _ (fun j hj => ?_) H locs ls hw hl
    rcases Nat.lt_or_ge j i with q | q
    · rw [upL_n (by omega)]; exact hI j q
    · have e : j = i := by omega
      rw [e, upL_s]
  · rintro aw hI H locs ls hw hl
    refine lv_iload_n hx hb d_D_multiply_2 rfl (lv_at hl 2 rfl) ?_
    refine lv_aload_n hx hb d_D_multiply_3 rfl (lv_at hl 0 rfl) ?_
    refine gD_n S hK hw rfl rfl d_D_multiply_4 ?_
    refine ky_ge (a := N) (b := N) (tgt := 23) hx hb (by omega) (by omega) d_D_multiply_7 (by decide) (fun h => ?_) (fun h => absurd h (by omega))
    refine lv_iconst (v := nI 0) hx hb d_D_multiply_23 (by decide) ?_
    refine lv_istore_n (lv' := [(2, .int (nI 0)), (0, .ref (ad 0)), (1, .ref (ad 8))]) hx hb d_D_multiply_24 rfl hl (by decide) rfl (fun ls hl => ?_)
    have hl := lv_sub (l' := [(0, .ref (ad 0)), (1, .ref (ad 8)), (2, .int (nI 0))]) hl [1, 2, 0] rfl
    refine for_ri (i0 := 0) (N := M) (st := aw)
      (fun (i : Nat) (aw : Nat → Int64) => ∀ (H : Heap) (locs : List Loc) (ls : Array Slot), kw D A s.heap H locs (wD ad cI cJ P N O M dg sv g pr ta fr fc fv ab au av aw ax ar ac af ak) → lv_has ls 3 [(0, .ref (ad 0)), (1, .ref (ad 8)), (2, .int (nI i))] → W p l e (kr 0 0) s m args below meth c H locs 0 0 Z (F0 m 25 ls []))
      (fun (i : Nat) (aw : Nat → Int64) => ∀ j, j < N → aw j = muK P fr fc (fun k => (fv k).toInt64) ax i j)
      (by omega) ?_ ?_ ?_ H locs ls hw hl
    · exact fun j hj => hI j hj
    · rintro i aw hi0 hi hI ih H locs ls hw hl
      obtain ⟨hr1, hc1⟩ := hrc i hi
      refine lv_iload_n hx hb d_D_multiply_25 rfl (lv_at hl 2 rfl) ?_
      refine lv_aload_n hx hb d_D_multiply_26 rfl (lv_at hl 0 rfl) ?_
      refine gD_many S hK hw rfl rfl d_D_multiply_27 ?_
      refine ky_ge (a := i) (b := M) (tgt := 84) hx hb (by omega) (by omega) d_D_multiply_30 (by decide) (fun h => absurd h (by omega)) (fun h => ?_)
      refine lv_aload_n hx hb d_D_multiply_33 rfl (lv_at hl 0 rfl) ?_
      refine gD_w S hK hw rfl rfl d_D_multiply_34 ?_
      refine lv_aload_n hx hb d_D_multiply_37 rfl (lv_at hl 0 rfl) ?_
      refine gD_rows S hK hw rfl rfl d_D_multiply_38 ?_
      refine lv_iload_n hx hb d_D_multiply_41 rfl (lv_at hl 2 rfl) ?_
      refine ky_nald S hK hw 1 rfl (by omega) (by omega) d_D_multiply_42 ?_
      refine lv_aload_n hx hb d_D_multiply_43 rfl (lv_at hl 0 rfl) ?_
      refine gD_w S hK hw rfl rfl d_D_multiply_44 ?_
      refine lv_aload_n hx hb d_D_multiply_47 rfl (lv_at hl 0 rfl) ?_
      refine gD_rows S hK hw rfl rfl d_D_multiply_48 ?_
      refine lv_iload_n hx hb d_D_multiply_51 rfl (lv_at hl 2 rfl) ?_
      refine ky_nald S hK hw 1 rfl (by omega) (by omega) d_D_multiply_52 ?_
      refine ky_lald S hK hw 7 rfl (by omega) (by omega) d_D_multiply_53 ?_
      refine lv_aload_n hx hb d_D_multiply_54 rfl (lv_at hl 0 rfl) ?_
      refine gD_values S hK hw rfl rfl d_D_multiply_55 ?_
      refine lv_iload_n hx hb d_D_multiply_58 rfl (lv_at hl 2 rfl) ?_
      refine ky_iald S hK hw 3 rfl (by omega) (by omega) d_D_multiply_59 ?_
      refine lv_i2l hx hb d_D_multiply_60 rfl ?_
      refine lv_aload_n hx hb d_D_multiply_61 rfl (lv_at hl 1 rfl) ?_
      refine lv_aload_n hx hb d_D_multiply_62 rfl (lv_at hl 0 rfl) ?_
      refine gD_columns S hK hw rfl rfl d_D_multiply_63 ?_
      refine lv_iload_n hx hb d_D_multiply_66 rfl (lv_at hl 2 rfl) ?_
      refine ky_nald S hK hw 2 rfl (by omega) (by omega) d_D_multiply_67 ?_
      refine ky_lald S hK hw 8 rfl (by omega) (by omega) d_D_multiply_68 ?_
      refine lv_lmul hx hb d_D_multiply_69 ?_
      refine lv_ladd hx hb d_D_multiply_70 ?_
      refine lv_aload_n hx hb d_D_multiply_71 rfl (lv_at hl 0 rfl) ?_
      refine gD_p S hK hw rfl rfl d_D_multiply_72 ?_
      refine ky_i2l hx hb (by omega) d_D_multiply_75 ?_
      refine ky_lrem hx hb d_D_multiply_76 (lN_ne0 (by omega) (by omega)) ?_
      refine ky_last S hK hw 7 rfl (by omega) (by omega) d_D_multiply_77 (fun H locs hw => ?_)
      have hw : kw D A s.heap H locs (wD ad cI cJ P N O M dg sv g pr ta fr fc fv ab au av (vp_updL aw (fr i) (rmd ((aw (fr i)) + (((fv i).toInt64) * (ax (fc i)))) (lN P))) ax ar ac af ak) := hw
      refine lv_iinc (v := nI (i + 1)) (lv' := [(2, .int (nI (i + 1))), (0, .ref (ad 0)), (1, .ref (ad 8))]) hx hb d_D_multiply_78 hl (k := 2) rfl (nI_1 i) (by decide) rfl (fun ls hl => ?_)
      refine lv_goto (tgt := 25) hx hb d_D_multiply_81 (by decide) ?_
      have hl := lv_sub (l' := [(0, .ref (ad 0)), (1, .ref (ad 8)), (2, .int (nI (i + 1)))]) hl [1, 2, 0] rfl
      refine ih _ (fun j hj => ?_) H locs ls hw hl
      show _ = if j = fr i then _ else _
      by_cases q : j = fr i
      · rw [if_pos q, q, upL_s, hI _ hr1]
      · rw [if_neg q, upL_n q]; exact hI j hj
    · rintro aw hI H locs ls hw hl
      refine lv_iload_n hx hb d_D_multiply_25 rfl (lv_at hl 2 rfl) ?_
      refine lv_aload_n hx hb d_D_multiply_26 rfl (lv_at hl 0 rfl) ?_
      refine gD_many S hK hw rfl rfl d_D_multiply_27 ?_
      refine ky_ge (a := M) (b := M) (tgt := 84) hx hb (by omega) (by omega) d_D_multiply_30 (by decide) (fun h => ?_) (fun h => absurd h (by omega))
      refine lv_iconst (v := nI 0) hx hb d_D_multiply_84 (by decide) ?_
      refine lv_istore_n (lv' := [(2, .int (nI 0)), (0, .ref (ad 0)), (1, .ref (ad 8))]) hx hb d_D_multiply_85 rfl hl (by decide) rfl (fun ls hl => ?_)
      have hl := lv_sub (l' := [(0, .ref (ad 0)), (1, .ref (ad 8)), (2, .int (nI 0))]) hl [1, 2, 0] rfl
      refine for_ri (i0 := 0) (N := N) (st := ax)
        (fun (i : Nat) (ve : Nat → Int64) => ∀ (H : Heap) (locs : List Loc) (ls : Array Slot), kw D A s.heap H locs (wD ad cI cJ P N O M dg sv g pr ta fr fc fv ab au av aw ve ar ac af ak) → lv_has ls 3 [(0, .ref (ad 0)), (1, .ref (ad 8)), (2, .int (nI i))] → W p l e (kr 0 0) s m args below meth c H locs 0 0 Z (F0 m 86 ls []))
        (fun (i : Nat) (ve : Nat → Int64) => ∀ j, j < i → ve j = muK P fr fc (fun k => (fv k).toInt64) ax M j)
        (by omega) ?_ ?_ ?_ H locs ls hw hl
      · exact fun j hj => absurd hj (by omega)
      · rintro i ve hi0 hi hJ ih H locs ls hw hl
        refine lv_iload_n hx hb d_D_multiply_86 rfl (lv_at hl 2 rfl) ?_
        refine lv_aload_n hx hb d_D_multiply_87 rfl (lv_at hl 0 rfl) ?_
        refine gD_n S hK hw rfl rfl d_D_multiply_88 ?_
        refine ky_ge (a := i) (b := N) (tgt := 109) hx hb (by omega) (by omega) d_D_multiply_91 (by decide) (fun h => absurd h (by omega)) (fun h => ?_)
        refine lv_aload_n hx hb d_D_multiply_94 rfl (lv_at hl 1 rfl) ?_
        refine lv_iload_n hx hb d_D_multiply_95 rfl (lv_at hl 2 rfl) ?_
        refine lv_aload_n hx hb d_D_multiply_96 rfl (lv_at hl 0 rfl) ?_
        refine gD_w S hK hw rfl rfl d_D_multiply_97 ?_
        refine lv_iload_n hx hb d_D_multiply_100 rfl (lv_at hl 2 rfl) ?_
        refine ky_lald S hK hw 7 rfl (by omega) (by omega) d_D_multiply_101 ?_
        refine ky_last S hK hw 8 rfl (by omega) (by omega) d_D_multiply_102 (fun H locs hw => ?_)
        have hw : kw D A s.heap H locs (wD ad cI cJ P N O M dg sv g pr ta fr fc fv ab au av aw (vp_updL ve i (aw i)) ar ac af ak) := hw
        refine lv_iinc (v := nI (i + 1)) (lv' := [(2, .int (nI (i + 1))), (0, .ref (ad 0)), (1, .ref (ad 8))]) hx hb d_D_multiply_103 hl (k := 2) rfl (nI_1 i) (by decide) rfl (fun ls hl => ?_)
        refine lv_goto (tgt := 86) hx hb d_D_multiply_106 (by decide) ?_
        have hl := lv_sub (l' := [(0, .ref (ad 0)), (1, .ref (ad 8)), (2, .int (nI (i + 1)))]) hl [1, 2, 0] rfl
        refine ih _ (fun j hj => ?_) H locs ls hw hl
        rcases Nat.lt_or_ge j i with q | q
        · rw [upL_n (by omega)]; exact hJ j q
        · have e : j = i := by omega
          rw [e, upL_s]; exact hI i hi
      · rintro ve hJ H locs ls hw hl
        refine lv_iload_n hx hb d_D_multiply_86 rfl (lv_at hl 2 rfl) ?_
        refine lv_aload_n hx hb d_D_multiply_87 rfl (lv_at hl 0 rfl) ?_
        refine gD_n S hK hw rfl rfl d_D_multiply_88 ?_
        refine ky_ge (a := N) (b := N) (tgt := 109) hx hb (by omega) (by omega) d_D_multiply_91 (by decide) (fun h => ?_) (fun h => absurd h (by omega))
        refine lv_aload_n hx hb d_D_multiply_109 rfl (lv_at hl 0 rfl) ?_
        refine lv_dup hx hb d_D_multiply_110 rfl ?_
        refine gD_products S hK hw rfl rfl d_D_multiply_111 ?_
        refine lv_iconst (v := nI 1) hx hb d_D_multiply_114 (by decide) ?_
        refine lv_iadd hx hb d_D_multiply_115 ?_
        refine pD_products S hK hw rfl (Nat.le_of_ble_eq_true rfl) d_D_multiply_116 (fun H locs hw => ?_)
        have hw : kw D A s.heap H locs (wD ad cI cJ P N O M dg sv g (pr + (nI 1)) ta fr fc fv ab au av aw ve ar ac af ak) := hw
        exact hret (_, _, _) ⟨rfl, hJ⟩ hw d_D_multiply_119
end
end
section
/-! pure rows: remainders -/
theorem rmd_toInt {P : Nat} (h : P < 2147483648) (x : Int64) : (rmd x (lN P)).toInt = x.toInt.tmod P := by
  unfold rmd
  rw [Jvm.Kit.i64_rem, lN_toInt h]
theorem tm_emod (a P : Int) : (a.tmod P) % P = a % P := by
  have h := Int.mul_tdiv_add_tmod a P
  have h2 : (P * a.tdiv P + a.tmod P) % P = a % P := by rw [h]
  rw [Int.add_comm, Int.add_mul_emod_self_left] at h2
  exact h2
theorem tm_bd {P : Nat} (h : 0 < P) (a : Int) : -(P : Int) < a.tmod P ∧ a.tmod P < P := tmod_bounds (by omega)
theorem l_neg {x : Int64} : x < 0 ↔ x.toInt < 0 := by rw [Int64.lt_iff_toInt_lt, Int64.toInt_zero]
theorem l_add_toInt {x y : Int64} (h : -9223372036854775808 ≤ x.toInt + y.toInt) (h2 : x.toInt + y.toInt < 9223372036854775808) : (x + y).toInt = x.toInt + y.toInt := by
  rw [Int64.toInt_add, Int.bmod_eq_of_le (by omega) (by omega)]
theorem wi_toInt {P : Nat} (h0 : 0 < P) (h : P < 2147483648) (z : Int64) : (wi P z).toInt = z.toInt % P := by
  have hb := tm_bd h0 z.toInt
  have he := tm_emod z.toInt P
  unfold wi
  by_cases hn : rmd z (lN P) < 0
  · rw [if_pos hn]
    rw [l_neg, rmd_toInt h] at hn
    rw [l_add_toInt (by rw [rmd_toInt h, lN_toInt h]; omega) (by rw [rmd_toInt h, lN_toInt h]; omega), rmd_toInt h, lN_toInt h, ← he]
    have e : (z.toInt.tmod P) % (P : Int) = (z.toInt.tmod P + P) % P := by rw [Int.add_emod_right]
    rw [e, Int.emod_eq_of_lt (by omega) (by omega)]
  · rw [if_neg hn]
    rw [l_neg, rmd_toInt h] at hn
    rw [rmd_toInt h, ← he, Int.emod_eq_of_lt (by omega) (by omega)]
theorem wi_bd {P : Nat} (h0 : 0 < P) (h : P < 2147483648) (z : Int64) : 0 ≤ (wi P z).toInt ∧ (wi P z).toInt < P := by
  rw [wi_toInt h0 h]
  exact ⟨Int.emod_nonneg _ (by omega), Int.emod_lt_of_pos _ (by omega)⟩
theorem l_cast {x : Int64} (h : -2147483648 ≤ x.toInt) (h2 : x.toInt < 2147483648) : x.toInt32.toInt64 = x := by
  apply Int64.toInt_inj.mp
  rw [Int32.toInt_toInt64, Int64.toInt_toInt32, Int.bmod_eq_of_le (by omega) (by omega)]
theorem md_wi {P : Nat} (h2 : 2 ≤ P) (h : P ≤ 46337) (z : Int64) : (md P z).toInt64 = wi P z := by
  have hb := wi_bd (P := P) (by omega) (by omega) z
  exact l_cast (by omega) (by omega)
/-- vec counts only where the columns look -/
theorem muK_congr {P N M : Nat} {fr fc : Nat → Nat} {V v1 v2 : Nat → Int64} (hc : ∀ k, k < M → fr k < N ∧ fc k < N) (hv : ∀ i, i < N → v1 i = v2 i) : muK P fr fc V v1 M = muK P fr fc V v2 M := by
  have h : ∀ k, k ≤ M → ∀ i, muK P fr fc V v1 k i = muK P fr fc V v2 k i := by
    intro k
    induction k with
    | zero => intro _ i; rfl
    | succ k ih =>
      intro hk i
      show (if i = fr k then _ else _) = (if i = fr k then _ else _)
      rw [ih (by omega) i, hv (fc k) (hc k (by omega)).2]
  funext i
  exact h M (Nat.le_refl _) i
theorem muK_congrV {P M : Nat} {fr fc : Nat → Nat} {V V' v : Nat → Int64} (hv : ∀ k, k < M → V k = V' k) : muK P fr fc V v M = muK P fr fc V' v M := by
  have h : ∀ k, k ≤ M → ∀ i, muK P fr fc V v k i = muK P fr fc V' v k i := by
    intro k
    induction k with
    | zero => intro _ i; rfl
    | succ k ih =>
      intro hk i
      show (if i = fr k then _ else _) = (if i = fr k then _ else _)
      rw [ih (by omega) i, hv k (by omega)]
  funext i
  exact h M (Nat.le_refl _) i
theorem ivl_0 (q x r : Int64) (n : Nat) : ivl q n 0 x r = r := by
  induction n generalizing x with
  | zero => rfl
  | succ n ih =>
    show ivl q n (0 / 2) (rmd (x * x) q) (if 0 % 2 = 1 then rmd (r * x) q else r) = r
    rw [if_neg (by decide)]
    exact ih _
theorem i_nI1 (x : Int32) (n : Nat) : x + nI n + 1 = x + nI (n + 1) := by rw [Int32.add_assoc, nI_1]
section
variable {P k len sh : Nat} {inv : Int64 → Int64} {row c f : Nat → Int64} {la off : Int64}
theorem bm_z (h : bm P inv row k = (c, f, len, sh, la)) (ho : off = offF P c row k len) (h0 : off = 0) : bm P inv row (k + 1) = (c, f, len, sh + 1, la) := by
  show bmS P inv row k (bm P inv row k) = _
  rw [h]
  show (if offF P c row k len = 0 then _ else _) = _
  rw [if_pos (by rw [← ho]; exact h0)]
theorem bm_a (h : bm P inv row k = (c, f, len, sh, la)) (ho : off = offF P c row k len) (h0 : ¬ off = 0) (h2 : 2 * len ≤ k) : bm P inv row (k + 1) = (cUp P (rmd (off * inv la) (lN P)) sh c f, c, k + 1 - len, 1, off) := by
  show bmS P inv row k (bm P inv row k) = _
  rw [h]
  show (if offF P c row k len = 0 then _ else if 2 * len ≤ k then _ else _) = _
  rw [if_neg (by rw [← ho]; exact h0), if_pos h2, ← ho]
theorem bm_b (h : bm P inv row k = (c, f, len, sh, la)) (ho : off = offF P c row k len) (h0 : ¬ off = 0) (h2 : k < 2 * len) : bm P inv row (k + 1) = (cUp P (rmd (off * inv la) (lN P)) sh c f, f, len, sh + 1, la) := by
  show bmS P inv row k (bm P inv row k) = _
  rw [h]
  show (if offF P c row k len = 0 then _ else if 2 * len ≤ k then _ else _) = _
  rw [if_neg (by rw [← ho]; exact h0), if_neg (by omega), ← ho]
theorem off_s {i : Nat} (h1 : 1 ≤ i) (ho : off = offF P c row k (i - 1)) : rmd (off + c i * row (k - i)) (lN P) = offF P c row k (i + 1 - 1) := by
  have e : i + 1 - 1 = (i - 1) + 1 := by omega
  rw [e, ho]
  show _ = rmd (offF P c row k (i - 1) + c (i - 1 + 1) * row (k - (i - 1 + 1))) (lN P)
  rw [show i - 1 + 1 = i by omega]
end
end
section
section
variable {l : Launch} {D : va_G} {cI cJ : ClassId} {ad : Nat → Nat} {sz P N O M : Nat} {dg : Int32} {sv : Bool} {g : Int64} {pr ta : Int32} {fr fc : Nat → Nat} {fv : Nat → Int32} {ab au av aw ax ar ac af ak : Nat → Int64}
/-- inverse -/
theorem c_D_inverse {z : Int64} (hP2 : 2 ≤ P) (hP : P ≤ 46337) : CT l D (kt cI cJ) y_D_inverse b_D_inverse 8 (some .long) (kr 0 0) [.ref (ad 0), .long z] (wD ad cI cJ P N O M dg sv g pr ta fr fc fv ab au av aw ax ar ac af ak) sz (QL D (kt cI cJ) (G := Unit) (fun r _ => r = ivD P z) (fun u => wD ad cI cJ P N O M dg sv g pr ta fr fc fv ab au av aw ax ar ac af ak)) := by
  refine ct_long (by decide) (Nat.le_of_ble_eq_true rfl) ?_
  intro p e s m args below meth c A ls Z S hA hK hw hl hret
  have S : CallFix p m c b_D_inverse 8 s args lw_g R_D := S
  have hx := S.1
  have hb := S.2.1
  have hown := S.2.2.2.1
  have hts := S.2.2.2.2
  have hl : lv_has ls 8 [(0, .ref (ad 0)), (1, .long z)] := hl
  refine lv_lload_n hx hb d_D_inverse_0 rfl (lv_at hl 1 rfl) ?_
  refine lv_lstore_n (lv' := [(3, .long z), (0, .ref (ad 0)), (1, .long z)]) hx hb d_D_inverse_1 rfl hl (by decide) rfl (fun ls hl => ?_)
  refine lv_lconst (v := 1) hx hb d_D_inverse_2 (by decide) ?_
  refine lv_lstore (lv' := [(5, .long 1), (3, .long z), (0, .ref (ad 0)), (1, .long z)]) hx hb d_D_inverse_3 hl (by decide) rfl (fun ls hl => ?_)
  refine lv_aload_n hx hb d_D_inverse_5 rfl (lv_at hl 2 rfl) ?_
  refine gD_p S hK hw rfl rfl d_D_inverse_6 ?_
  refine lv_iconst (v := nI 2) hx hb d_D_inverse_9 (by decide) ?_
  refine lv_isub hx hb d_D_inverse_10 ?_
  refine ky_ti (y := nI (P - 2)) (pk_sub (by omega)) ?_
  refine lv_istore (lv' := [(7, .int (nI (P - 2))), (5, .long 1), (3, .long z), (0, .ref (ad 0)), (1, .long z)]) hx hb d_D_inverse_11 hl (by decide) rfl (fun ls hl => ?_)
  have hl := lv_sub (l' := [(0, .ref (ad 0)), (1, .long z), (3, .long z), (5, .long 1), (7, .int (nI (P - 2)))]) hl [3, 4, 2, 1, 0] rfl
  have loop : ∀ (n lf : Nat) (pw rs : Int64) (ls : Array Slot), n ≤ 31 → lf < 2 ^ n → lv_has ls 8 [(0, .ref (ad 0)), (1, .long z), (3, .long pw), (5, .long rs), (7, .int (nI lf))] → ivl (lN P) n lf pw rs = ivD P z → W p l e (kr 0 0) s m args below meth c s.heap [] 0 0 Z (F0 m 13 ls []) := by
    intro n
    induction n with
    | zero =>
      intro lf pw rs ls hn hlf hl he
      have hlf0 : lf < 2147483648 := by omega
      have hlf1 : lf < 1 := hlf
      refine lv_iload hx hb d_D_inverse_13 (lv_at hl 4 rfl) ?_
      refine ky_ifle (tgt := 62) hx hb (by omega) d_D_inverse_15 (by decide) (fun h => ?_) (fun h => absurd h (by omega))
      refine lv_lload hx hb d_D_inverse_62 (lv_at hl 3 rfl) ?_
      exact hret () he hw d_D_inverse_64
    | succ n ih =>
      intro lf pw rs ls hn hlf hl he
      have h31 : 2 ^ (n + 1) ≤ 2 ^ 31 := Nat.pow_le_pow_right (by decide) hn
      have hlf0 : lf < 2147483648 := Nat.lt_of_lt_of_le hlf h31
      have h2n : lf / 2 < 2 ^ n := by rw [Nat.pow_succ] at hlf; omega
      refine lv_iload hx hb d_D_inverse_13 (lv_at hl 4 rfl) ?_
      refine ky_ifle (tgt := 62) hx hb (by omega) d_D_inverse_15 (by decide) (fun h => ?_) (fun h => ?_)
      · refine lv_lload hx hb d_D_inverse_62 (lv_at hl 3 rfl) ?_
        subst h
        rw [ivl_0] at he
        exact hret () he hw d_D_inverse_64
      · refine lv_iload hx hb d_D_inverse_18 (lv_at hl 4 rfl) ?_
        refine lv_iconst (v := nI 1) hx hb d_D_inverse_20 (by decide) ?_
        refine lv_iand hx hb d_D_inverse_21 ?_
        refine ky_ti (y := nI (lf % 2)) (pk_andN (m := nI 1) (by omega) 1 (by decide)) ?_
        refine lv_iconst (v := nI 1) hx hb d_D_inverse_22 (by decide) ?_
        refine ky_ne (a := lf % 2) (b := 1) (tgt := 39) hx hb (by omega) (by omega) d_D_inverse_23 (by decide) (fun h2 => ?_) (fun h2 => ?_)
        · refine lv_lload hx hb d_D_inverse_39 (lv_at hl 3 rfl) ?_
          refine lv_lstore (lv' := [(5, .long rs), (0, .ref (ad 0)), (1, .long z), (3, .long pw), (7, .int (nI lf))]) hx hb d_D_inverse_41 hl (by decide) rfl (fun ls hl => ?_)
          refine lv_lload_n hx hb d_D_inverse_43 rfl (lv_at hl 3 rfl) ?_
          refine lv_lload_n hx hb d_D_inverse_44 rfl (lv_at hl 3 rfl) ?_
          refine lv_lmul hx hb d_D_inverse_45 ?_
          refine lv_aload_n hx hb d_D_inverse_46 rfl (lv_at hl 1 rfl) ?_
          refine gD_p S hK hw rfl rfl d_D_inverse_47 ?_
          refine ky_i2l hx hb (by omega) d_D_inverse_50 ?_
          refine ky_lrem hx hb d_D_inverse_51 (lN_ne0 (by omega) (by omega)) ?_
          refine lv_lstore_n (lv' := [(3, .long (rmd (pw * pw) (lN P))), (5, .long rs), (0, .ref (ad 0)), (1, .long z), (7, .int (nI lf))]) hx hb d_D_inverse_52 rfl hl (by decide) rfl (fun ls hl => ?_)
          refine lv_iload hx hb d_D_inverse_53 (lv_at hl 4 rfl) ?_
          refine lv_iconst (v := nI 1) hx hb d_D_inverse_55 (by decide) ?_
          refine lv_ishr hx hb d_D_inverse_56 ?_
          refine ky_ti (y := nI (lf / 2)) (pk_shrN (by omega) (nI 1 &&& 31) 1 (by decide)) ?_
          refine lv_istore (lv' := [(7, .int (nI (lf / 2))), (3, .long (rmd (pw * pw) (lN P))), (5, .long rs), (0, .ref (ad 0)), (1, .long z)]) hx hb d_D_inverse_57 hl (by decide) rfl (fun ls hl => ?_)
          refine lv_goto (tgt := 13) hx hb d_D_inverse_59 (by decide) ?_
          have hl := lv_sub (l' := [(0, .ref (ad 0)), (1, .long z), (3, .long (rmd (pw * pw) (lN P))), (5, .long rs), (7, .int (nI (lf / 2)))]) hl [3, 4, 1, 2, 0] rfl
          refine ih (lf / 2) _ _ ls (by omega) h2n hl ?_
          rw [← he]
          show _ = ivl (lN P) n (lf / 2) (rmd (pw * pw) (lN P)) (if lf % 2 = 1 then rmd (rs * pw) (lN P) else rs)
          rw [if_neg h2]
        · refine lv_lload hx hb d_D_inverse_26 (lv_at hl 3 rfl) ?_
          refine lv_lload_n hx hb d_D_inverse_28 rfl (lv_at hl 2 rfl) ?_
          refine lv_lmul hx hb d_D_inverse_29 ?_
          refine lv_aload_n hx hb d_D_inverse_30 rfl (lv_at hl 0 rfl) ?_
          refine gD_p S hK hw rfl rfl d_D_inverse_31 ?_
          refine ky_i2l hx hb (by omega) d_D_inverse_34 ?_
          refine ky_lrem hx hb d_D_inverse_35 (lN_ne0 (by omega) (by omega)) ?_
          refine lv_goto (tgt := 41) hx hb d_D_inverse_36 (by decide) ?_
          refine lv_lstore (lv' := [(5, .long (rmd (rs * pw) (lN P))), (0, .ref (ad 0)), (1, .long z), (3, .long pw), (7, .int (nI lf))]) hx hb d_D_inverse_41 hl (by decide) rfl (fun ls hl => ?_)
          refine lv_lload_n hx hb d_D_inverse_43 rfl (lv_at hl 3 rfl) ?_
          refine lv_lload_n hx hb d_D_inverse_44 rfl (lv_at hl 3 rfl) ?_
          refine lv_lmul hx hb d_D_inverse_45 ?_
          refine lv_aload_n hx hb d_D_inverse_46 rfl (lv_at hl 1 rfl) ?_
          refine gD_p S hK hw rfl rfl d_D_inverse_47 ?_
          refine ky_i2l hx hb (by omega) d_D_inverse_50 ?_
          refine ky_lrem hx hb d_D_inverse_51 (lN_ne0 (by omega) (by omega)) ?_
          refine lv_lstore_n (lv' := [(3, .long (rmd (pw * pw) (lN P))), (5, .long (rmd (rs * pw) (lN P))), (0, .ref (ad 0)), (1, .long z), (7, .int (nI lf))]) hx hb d_D_inverse_52 rfl hl (by decide) rfl (fun ls hl => ?_)
          refine lv_iload hx hb d_D_inverse_53 (lv_at hl 4 rfl) ?_
          refine lv_iconst (v := nI 1) hx hb d_D_inverse_55 (by decide) ?_
          refine lv_ishr hx hb d_D_inverse_56 ?_
          refine ky_ti (y := nI (lf / 2)) (pk_shrN (by omega) (nI 1 &&& 31) 1 (by decide)) ?_
          refine lv_istore (lv' := [(7, .int (nI (lf / 2))), (3, .long (rmd (pw * pw) (lN P))), (5, .long (rmd (rs * pw) (lN P))), (0, .ref (ad 0)), (1, .long z)]) hx hb d_D_inverse_57 hl (by decide) rfl (fun ls hl => ?_)
          refine lv_goto (tgt := 13) hx hb d_D_inverse_59 (by decide) ?_
          have hl := lv_sub (l' := [(0, .ref (ad 0)), (1, .long z), (3, .long (rmd (pw * pw) (lN P))), (5, .long (rmd (rs * pw) (lN P))), (7, .int (nI (lf / 2)))]) hl [3, 4, 1, 2, 0] rfl
          refine ih (lf / 2) _ _ ls (by omega) h2n hl ?_
          rw [← he]
          show _ = ivl (lN P) n (lf / 2) (rmd (pw * pw) (lN P)) (if lf % 2 = 1 then rmd (rs * pw) (lN P) else rs)
          rw [if_pos h2]
  exact loop 31 (P - 2) z 1 ls (by decide) (by omega) hl rfl
/-- copy -/
theorem c_D_copy_nk   : CT l D (kt cI cJ) y_D_copy b_D_copy 2 none (kr 1 18) [.ref (ad 10), .ref (ad 12)] (wD ad cI cJ P N O M dg sv g pr ta fr fc fv ab au av aw ax ar ac af ak) sz (QV D (kt cI cJ) (G := Nat → Int64) (fun u => ∀ i, i < 34 → u i = ac i) (fun u => wD ad cI cJ P N O M dg sv g pr ta fr fc fv ab au av aw ax ar ac af u)) := by
  refine ct_void (by decide) (Nat.le_of_ble_eq_true rfl) ?_
  intro p e s m args below meth c A ls Z S hA hK hw hl hret
  have S : CallFix p m c b_D_copy 2 s args lw_g R_D := S
  have hx := S.1
  have hb := S.2.1
  have hown := S.2.2.2.1
  have hts := S.2.2.2.2
  have hl : lv_has ls 2 [(0, .ref (ad 10)), (1, .ref (ad 12))] := hl
  refine lv_aload_n hx hb d_D_copy_0 rfl (lv_at hl 0 rfl) ?_
  refine lv_iconst (v := nI 0) hx hb d_D_copy_1 (by decide) ?_
  refine lv_aload_n hx hb d_D_copy_2 rfl (lv_at hl 1 rfl) ?_
  refine lv_iconst (v := nI 0) hx hb d_D_copy_3 (by decide) ?_
  refine lv_aload_n hx hb d_D_copy_4 rfl (lv_at hl 0 rfl) ?_
  refine ky_alenL S hK hw 10 rfl d_D_copy_5 ?_
  have e0 : (nI 0).toNatClampNeg = 0 := by decide
  have e34 : (nI 34).toNatClampNeg = 34 := by decide
  refine va_copyl hx hb (S.2.2.1.trans hl.1.symm) hown (hts _ q1_134) (hts _ q1_136) (hts _ q1_135) (hts _ q1_3) hK hw.1 hw.2.1 hw.2.2 10 12 1 1 rfl rfl rfl rfl rfl (by decide) (by decide) (by decide) (by decide) (by decide) (fun i _ => rfl) (Nat.le_of_ble_eq_true rfl) (Nat.le_of_ble_eq_true rfl) d_D_copy_6 (fun H locs h1 h2 h3 => ?_)
  rw [e0, e34] at h1 h2
  exact hret (va_cpy ac ak 0 0 34) (fun i hi => by rw [pk_cpy_in (by omega) (by omega)]; congr 1; omega) ⟨h1, h2, h3⟩ d_D_copy_9
/-- copy -/
theorem c_D_copy_kb   : CT l D (kt cI cJ) y_D_copy b_D_copy 2 none (kr 1 18) [.ref (ad 12), .ref (ad 11)] (wD ad cI cJ P N O M dg sv g pr ta fr fc fv ab au av aw ax ar ac af ak) sz (QV D (kt cI cJ) (G := Nat → Int64) (fun u => ∀ i, i < 34 → u i = ak i) (fun u => wD ad cI cJ P N O M dg sv g pr ta fr fc fv ab au av aw ax ar ac u ak)) := by
  refine ct_void (by decide) (Nat.le_of_ble_eq_true rfl) ?_
  intro p e s m args below meth c A ls Z S hA hK hw hl hret
  have S : CallFix p m c b_D_copy 2 s args lw_g R_D := S
  have hx := S.1
  have hb := S.2.1
  have hown := S.2.2.2.1
  have hts := S.2.2.2.2
  have hl : lv_has ls 2 [(0, .ref (ad 12)), (1, .ref (ad 11))] := hl
  refine lv_aload_n hx hb d_D_copy_0 rfl (lv_at hl 0 rfl) ?_
  refine lv_iconst (v := nI 0) hx hb d_D_copy_1 (by decide) ?_
  refine lv_aload_n hx hb d_D_copy_2 rfl (lv_at hl 1 rfl) ?_
  refine lv_iconst (v := nI 0) hx hb d_D_copy_3 (by decide) ?_
  refine lv_aload_n hx hb d_D_copy_4 rfl (lv_at hl 0 rfl) ?_
  refine ky_alenL S hK hw 12 rfl d_D_copy_5 ?_
  have e0 : (nI 0).toNatClampNeg = 0 := by decide
  have e34 : (nI 34).toNatClampNeg = 34 := by decide
  refine va_copyl hx hb (S.2.2.1.trans hl.1.symm) hown (hts _ q1_134) (hts _ q1_136) (hts _ q1_135) (hts _ q1_3) hK hw.1 hw.2.1 hw.2.2 12 11 1 1 rfl rfl rfl rfl rfl (by decide) (by decide) (by decide) (by decide) (by decide) (fun i _ => rfl) (Nat.le_of_ble_eq_true rfl) (Nat.le_of_ble_eq_true rfl) d_D_copy_6 (fun H locs h1 h2 h3 => ?_)
  rw [e0, e34] at h1 h2
  exact hret (va_cpy ak af 0 0 34) (fun i hi => by rw [pk_cpy_in (by omega) (by omega)]; congr 1; omega) ⟨h1, h2, h3⟩ d_D_copy_9
/-- drawRow -/
theorem c_D_drawRow  (h : okD P N O M fr fc) : CT l D (kt cI cJ) y_D_drawRow b_D_drawRow 3 none (kr 1 22) [.ref (ad 0)] (wD ad cI cJ P N O M dg sv g pr ta fr fc fv ab au av aw ax ar ac af ak) sz (QV D (kt cI cJ) (G := Int64 × Int32 × (Nat → Int64) × (Nat → Int64) × (Nat → Int64) × (Nat → Int64)) (fun u => u.1 = gS gD g N ∧ u.2.1 = pr + nI (2 * N - 1) ∧ ∀ k, k < 2 * N → u.2.2.2.2.2 k = dot P (fun j => (dD P (gS gD g j)).toInt64) (vK P M fr fc (fun k => (fv k).toInt64) ab k) N) (fun u => wD ad cI cJ P N O M dg sv (u.1) (u.2.1) ta fr fc fv ab (u.2.2.1) (u.2.2.2.1) (u.2.2.2.2.1) ax (u.2.2.2.2.2) ac af ak)) := by
  refine ct_void (by decide) (Nat.le_of_ble_eq_true rfl) ?_
  intro p e s m args below meth c A ls Z S hA hK hw hl hret
  have S : CallFix p m c b_D_drawRow 3 s args lw_g R_D := S
  have hx := S.1
  have hb := S.2.1
  have hown := S.2.2.2.1
  have hts := S.2.2.2.2
  have hl : lv_has ls 3 [(0, .ref (ad 0))] := hl
  obtain ⟨hP2, hP, hN1, hN, hO1, hO, hM, hrc⟩ := h
  have hok : okD P N O M fr fc := ⟨hP2, hP, hN1, hN, hO1, hO, hM, hrc⟩
  refine lv_iconst (v := nI 0) hx hb d_D_drawRow_0 (by decide) ?_
  refine lv_istore_n (lv' := [(1, .int (nI 0)), (0, .ref (ad 0))]) hx hb d_D_drawRow_1 rfl hl (by decide) rfl (fun ls hl => ?_)
  have hl := lv_sub (l' := [(0, .ref (ad 0)), (1, .int (nI 0))]) hl [1, 0] rfl
  refine for_ri (i0 := 0) (N := N) (st := ((g, au, av) : Int64 × (Nat → Int64) × (Nat → Int64)))
    (fun (i : Nat) (st : Int64 × (Nat → Int64) × (Nat → Int64)) => match st with | (g1, au, av) => ∀ (H : Heap) (locs : List Loc) (ls : Array Slot), kw D A s.heap H locs (wD ad cI cJ P N O M dg sv g1 pr ta fr fc fv ab au av aw ax ar ac af ak) → lv_has ls 3 [(0, .ref (ad 0)), (1, .int (nI i))] → W p l e (kr 1 22) s m args below meth c H locs 0 0 Z (F0 m 2 ls []))
    (fun (i : Nat) (st : Int64 × (Nat → Int64) × (Nat → Int64)) => match st with | (g1, au, av) => g1 = gS gD g i ∧ (∀ j, j < i → au j = (dD P (gS gD g j)).toInt64) ∧ ∀ j, j < i → av j = ab j)
    (by omega) ?_ ?_ ?_ s.heap [] ls hw hl
  · exact ⟨rfl, fun j hj => absurd hj (by omega), fun j hj => absurd hj (by omega)⟩
  · rintro i ⟨g1, au, av⟩ hi0 hi hI ih H locs ls hw hl
    obtain ⟨hg, hu, hv⟩ := hI
    refine lv_iload_n hx hb d_D_drawRow_2 rfl (lv_at hl 1 rfl) ?_
    refine lv_aload_n hx hb d_D_drawRow_3 rfl (lv_at hl 0 rfl) ?_
    refine gD_n S hK hw rfl rfl d_D_drawRow_4 ?_
    refine ky_ge (a := i) (b := N) (tgt := 39) hx hb (by omega) (by omega) d_D_drawRow_7 (by decide) (fun h => absurd h (by omega)) (fun h => ?_)
    refine lv_aload_n hx hb d_D_drawRow_10 rfl (lv_at hl 0 rfl) ?_
    refine gD_u S hK hw rfl rfl d_D_drawRow_11 ?_
    refine lv_iload_n hx hb d_D_drawRow_14 rfl (lv_at hl 1 rfl) ?_
    refine lv_aload_n hx hb d_D_drawRow_15 rfl (lv_at hl 0 rfl) ?_
    refine ky_callVi (As := []) (rest := [.int (nI i), .ref (ad 5)]) S hK hw hA hl.1 (c_D_draw hP2 hP) k_D_100 rfl rfl rfl rfl ⟨Nat.le_of_ble_eq_true rfl, Nat.le_of_ble_eq_true rfl⟩ ⟨Nat.zero_le _, Nat.zero_le _⟩ rfl rfl (Nat.le_of_ble_eq_true rfl) d_D_drawRow_16 (fun r u H locs hp hw => ?_)
    subst hp
    have hw : kw D A s.heap H locs (wD ad cI cJ P N O M dg sv (gD g1) pr ta fr fc fv ab au av aw ax ar ac af ak) := hw
    refine lv_i2l hx hb d_D_drawRow_19 rfl ?_
    refine ky_last S hK hw 5 rfl (by omega) (by omega) d_D_drawRow_20 (fun H locs hw => ?_)
    have hw : kw D A s.heap H locs (wD ad cI cJ P N O M dg sv (gD g1) pr ta fr fc fv ab (vp_updL au i ((dD P g1).toInt64)) av aw ax ar ac af ak) := hw
    refine lv_aload_n hx hb d_D_drawRow_21 rfl (lv_at hl 0 rfl) ?_
    refine gD_v S hK hw rfl rfl d_D_drawRow_22 ?_
    refine lv_iload_n hx hb d_D_drawRow_25 rfl (lv_at hl 1 rfl) ?_
    refine lv_aload_n hx hb d_D_drawRow_26 rfl (lv_at hl 0 rfl) ?_
    refine gD_b S hK hw rfl rfl d_D_drawRow_27 ?_
    refine lv_iload_n hx hb d_D_drawRow_30 rfl (lv_at hl 1 rfl) ?_
    refine ky_lald S hK hw 4 rfl (by omega) (by omega) d_D_drawRow_31 ?_
    refine ky_last S hK hw 6 rfl (by omega) (by omega) d_D_drawRow_32 (fun H locs hw => ?_)
    have hw : kw D A s.heap H locs (wD ad cI cJ P N O M dg sv (gD g1) pr ta fr fc fv ab (vp_updL au i ((dD P g1).toInt64)) (vp_updL av i (ab i)) aw ax ar ac af ak) := hw
    refine lv_iinc (v := nI (i + 1)) (lv' := [(1, .int (nI (i + 1))), (0, .ref (ad 0))]) hx hb d_D_drawRow_33 hl (k := 1) rfl (nI_1 i) (by decide) rfl (fun ls hl => ?_)
    refine lv_goto (tgt := 2) hx hb d_D_drawRow_36 (by decide) ?_
    have hl := lv_sub (l' := [(0, .ref (ad 0)), (1, .int (nI (i + 1)))]) hl [1, 0] rfl
    refine ih (_, _, _) ⟨by rw [hg]; rfl, fun j hj => ?_, fun j hj => ?_⟩ H locs ls hw hl
    · rcases Nat.lt_or_ge j i with q | q
      · rw [upL_n (by omega)]; exact hu j q
      · have e : j = i := by omega
        rw [e, upL_s, hg]
    · rcases Nat.lt_or_ge j i with q | q
      · rw [upL_n (by omega)]; exact hv j q
      · have e : j = i := by omega
        rw [e, upL_s]
  · rintro ⟨g1, au, av⟩ hI H locs ls hw hl
    obtain ⟨hg, hu, hv⟩ := hI
    refine lv_iload_n hx hb d_D_drawRow_2 rfl (lv_at hl 1 rfl) ?_
    refine lv_aload_n hx hb d_D_drawRow_3 rfl (lv_at hl 0 rfl) ?_
    refine gD_n S hK hw rfl rfl d_D_drawRow_4 ?_
    refine ky_ge (a := N) (b := N) (tgt := 39) hx hb (by omega) (by omega) d_D_drawRow_7 (by decide) (fun h => ?_) (fun h => absurd h (by omega))
    refine lv_iconst (v := nI 0) hx hb d_D_drawRow_39 (by decide) ?_
    refine lv_istore_n (lv' := [(1, .int (nI 0)), (0, .ref (ad 0))]) hx hb d_D_drawRow_40 rfl hl (by decide) rfl (fun ls hl => ?_)
    have hl := lv_sub (l' := [(0, .ref (ad 0)), (1, .int (nI 0))]) hl [1, 0] rfl
    refine for_ri (i0 := 0) (N := 2 * N) (st := ((pr, av, aw, ar) : Int32 × (Nat → Int64) × (Nat → Int64) × (Nat → Int64)))
      (fun (k : Nat) (st : Int32 × (Nat → Int64) × (Nat → Int64) × (Nat → Int64)) => match st with | (pr1, av, aw, ar) => ∀ (H : Heap) (locs : List Loc) (ls : Array Slot), kw D A s.heap H locs (wD ad cI cJ P N O M dg sv g1 pr1 ta fr fc fv ab au av aw ax ar ac af ak) → lv_has ls 3 [(0, .ref (ad 0)), (1, .int (nI k))] → W p l e (kr 1 22) s m args below meth c H locs 0 0 Z (F0 m 41 ls []))
      (fun (k : Nat) (st : Int32 × (Nat → Int64) × (Nat → Int64) × (Nat → Int64)) => match st with | (pr1, av, aw, ar) => pr1 = pr + nI (k - 1) ∧ (∀ j, j < N → av j = vK P M fr fc (fun k => (fv k).toInt64) ab (k - 1) j) ∧ ∀ j, j < k → ar j = dot P (fun j => (dD P (gS gD g j)).toInt64) (vK P M fr fc (fun k => (fv k).toInt64) ab j) N)
      (by omega) ?_ ?_ ?_ H locs ls hw hl
    · exact ⟨by rw [show (0 - 1 : Nat) = 0 from rfl, nI_0, Int32.add_zero], fun j hj => hv j hj, fun j hj => absurd hj (by omega)⟩
    · rintro k ⟨pr1, av, aw, ar⟩ hk0 hk hI ih H locs ls hw hl
      obtain ⟨hp1, hv1, hr1⟩ := hI
      refine lv_iload_n hx hb d_D_drawRow_41 rfl (lv_at hl 1 rfl) ?_
      refine lv_iconst (v := nI 2) hx hb d_D_drawRow_42 (by decide) ?_
      refine lv_aload_n hx hb d_D_drawRow_43 rfl (lv_at hl 0 rfl) ?_
      refine gD_n S hK hw rfl rfl d_D_drawRow_44 ?_
      refine lv_imul hx hb d_D_drawRow_47 ?_
      refine ky_ti (y := nI (2 * N)) (pk_mul 2 N) ?_
      refine ky_ge (a := k) (b := 2 * N) (tgt := 124) hx hb (by omega) (by omega) d_D_drawRow_48 (by decide) (fun h => absurd h (by omega)) (fun h => ?_)
      refine lv_iload_n hx hb d_D_drawRow_51 rfl (lv_at hl 1 rfl) ?_
      have key : ∀ (pr2 : Int32) (av aw : Nat → Int64) (H : Heap) (locs : List Loc), pr2 = pr + nI k → (∀ j, j < N → av j = vK P M fr fc (fun k => (fv k).toInt64) ab k j) → kw D A s.heap H locs (wD ad cI cJ P N O M dg sv g1 pr2 ta fr fc fv ab au av aw ax ar ac af ak) → W p l e (kr 1 22) s m args below meth c H locs 0 0 Z (F0 m 63 ls []) := by
        intro pr2 av aw H locs hp2 hv2 hw
        refine lv_aload_n hx hb d_D_drawRow_63 rfl (lv_at hl 0 rfl) ?_
        refine gD_row S hK hw rfl rfl d_D_drawRow_64 ?_
        refine lv_iload_n hx hb d_D_drawRow_67 rfl (lv_at hl 1 rfl) ?_
        refine lv_lconst (v := 0) hx hb d_D_drawRow_68 (by decide) ?_
        refine ky_last S hK hw 9 rfl (by omega) (by omega) d_D_drawRow_69 (fun H locs hw => ?_)
        have hw : kw D A s.heap H locs (wD ad cI cJ P N O M dg sv g1 pr2 ta fr fc fv ab au av aw ax (vp_updL ar k 0) ac af ak) := hw
        refine lv_iconst (v := nI 0) hx hb d_D_drawRow_70 (by decide) ?_
        refine lv_istore_n (lv' := [(2, .int (nI 0)), (0, .ref (ad 0)), (1, .int (nI k))]) hx hb d_D_drawRow_71 rfl hl (by decide) rfl (fun ls hl => ?_)
        have hl := lv_sub (l' := [(0, .ref (ad 0)), (1, .int (nI k)), (2, .int (nI 0))]) hl [1, 2, 0] rfl
        refine for_ri (i0 := 0) (N := N) (st := (vp_updL ar k 0 : Nat → Int64))
          (fun (i : Nat) (ar1 : Nat → Int64) => ∀ (H : Heap) (locs : List Loc) (ls : Array Slot), kw D A s.heap H locs (wD ad cI cJ P N O M dg sv g1 pr2 ta fr fc fv ab au av aw ax ar1 ac af ak) → lv_has ls 3 [(0, .ref (ad 0)), (1, .int (nI k)), (2, .int (nI i))] → W p l e (kr 1 22) s m args below meth c H locs 0 0 Z (F0 m 72 ls []))
          (fun (i : Nat) (ar1 : Nat → Int64) => (∀ j, j < k → ar1 j = dot P (fun j => (dD P (gS gD g j)).toInt64) (vK P M fr fc (fun k => (fv k).toInt64) ab j) N) ∧ ar1 k = dot P (fun j => (dD P (gS gD g j)).toInt64) (vK P M fr fc (fun k => (fv k).toInt64) ab k) i)
          (by omega) ?_ ?_ ?_ H locs ls hw hl
        · refine ⟨fun j hj => ?_, upL_s⟩
          rw [upL_n (by omega)]; exact hr1 j hj
        · rintro i ar1 hi0 hi hJ ih2 H locs ls hw hl
          obtain ⟨hJ1, hJ2⟩ := hJ
          refine lv_iload_n hx hb d_D_drawRow_72 rfl (lv_at hl 2 rfl) ?_
          refine lv_aload_n hx hb d_D_drawRow_73 rfl (lv_at hl 0 rfl) ?_
          refine gD_n S hK hw rfl rfl d_D_drawRow_74 ?_
          refine ky_ge (a := i) (b := N) (tgt := 118) hx hb (by omega) (by omega) d_D_drawRow_77 (by decide) (fun h3 => absurd h3 (by omega)) (fun h3 => ?_)
          refine lv_aload_n hx hb d_D_drawRow_80 rfl (lv_at hl 0 rfl) ?_
          refine gD_row S hK hw rfl rfl d_D_drawRow_81 ?_
          refine lv_iload_n hx hb d_D_drawRow_84 rfl (lv_at hl 1 rfl) ?_
          refine lv_aload_n hx hb d_D_drawRow_85 rfl (lv_at hl 0 rfl) ?_
          refine gD_row S hK hw rfl rfl d_D_drawRow_86 ?_
          refine lv_iload_n hx hb d_D_drawRow_89 rfl (lv_at hl 1 rfl) ?_
          refine ky_lald S hK hw 9 rfl (by omega) (by omega) d_D_drawRow_90 ?_
          refine lv_aload_n hx hb d_D_drawRow_91 rfl (lv_at hl 0 rfl) ?_
          refine gD_u S hK hw rfl rfl d_D_drawRow_92 ?_
          refine lv_iload_n hx hb d_D_drawRow_95 rfl (lv_at hl 2 rfl) ?_
          refine ky_lald S hK hw 5 rfl (by omega) (by omega) d_D_drawRow_96 ?_
          refine lv_aload_n hx hb d_D_drawRow_97 rfl (lv_at hl 0 rfl) ?_
          refine gD_v S hK hw rfl rfl d_D_drawRow_98 ?_
          refine lv_iload_n hx hb d_D_drawRow_101 rfl (lv_at hl 2 rfl) ?_
          refine ky_lald S hK hw 6 rfl (by omega) (by omega) d_D_drawRow_102 ?_
          refine lv_lmul hx hb d_D_drawRow_103 ?_
          refine lv_ladd hx hb d_D_drawRow_104 ?_
          refine lv_aload_n hx hb d_D_drawRow_105 rfl (lv_at hl 0 rfl) ?_
          refine gD_p S hK hw rfl rfl d_D_drawRow_106 ?_
          refine ky_i2l hx hb (by omega) d_D_drawRow_109 ?_
          refine ky_lrem hx hb d_D_drawRow_110 (lN_ne0 (by omega) (by omega)) ?_
          refine ky_last S hK hw 9 rfl (by omega) (by omega) d_D_drawRow_111 (fun H locs hw => ?_)
          have hw : kw D A s.heap H locs (wD ad cI cJ P N O M dg sv g1 pr2 ta fr fc fv ab au av aw ax (vp_updL ar1 k (rmd ((ar1 k) + ((au i) * (av i))) (lN P))) ac af ak) := hw
          refine lv_iinc (v := nI (i + 1)) (lv' := [(2, .int (nI (i + 1))), (0, .ref (ad 0)), (1, .int (nI k))]) hx hb d_D_drawRow_112 hl (k := 2) rfl (nI_1 i) (by decide) rfl (fun ls hl => ?_)
          refine lv_goto (tgt := 72) hx hb d_D_drawRow_115 (by decide) ?_
          have hl := lv_sub (l' := [(0, .ref (ad 0)), (1, .int (nI k)), (2, .int (nI (i + 1)))]) hl [1, 2, 0] rfl
          refine ih2 _ ⟨fun j hj => ?_, ?_⟩ H locs ls hw hl
          · rw [upL_n (by omega)]; exact hJ1 j hj
          · rw [upL_s, hJ2, hu _ hi, hv2 _ hi]; rfl
        · rintro ar1 hJ H locs ls hw hl
          obtain ⟨hJ1, hJ2⟩ := hJ
          refine lv_iload_n hx hb d_D_drawRow_72 rfl (lv_at hl 2 rfl) ?_
          refine lv_aload_n hx hb d_D_drawRow_73 rfl (lv_at hl 0 rfl) ?_
          refine gD_n S hK hw rfl rfl d_D_drawRow_74 ?_
          refine ky_ge (a := N) (b := N) (tgt := 118) hx hb (by omega) (by omega) d_D_drawRow_77 (by decide) (fun h3 => ?_) (fun h3 => absurd h3 (by omega))
          refine lv_iinc (v := nI (k + 1)) (lv' := [(1, .int (nI (k + 1))), (0, .ref (ad 0)), (2, .int (nI N))]) hx hb d_D_drawRow_118 hl (k := 1) rfl (nI_1 k) (by decide) rfl (fun ls hl => ?_)
          refine lv_goto (tgt := 41) hx hb d_D_drawRow_121 (by decide) ?_
          have hl := lv_sub (l' := [(0, .ref (ad 0)), (1, .int (nI (k + 1)))]) hl [1, 0] rfl
          refine ih (_, _, _, _) ⟨hp2, hv2, fun j hj => ?_⟩ H locs ls hw hl
          rcases Nat.lt_or_ge j k with q | q
          · exact hJ1 j q
          · have e : j = k := by omega
            rw [e]; exact hJ2
      refine ky_ifle (tgt := 63) hx hb (by omega) d_D_drawRow_52 (by decide) (fun h2 => ?_) (fun h2 => ?_)
      · subst h2
        exact key _ _ _ _ _ hp1 hv1 hw
      · refine lv_aload_n hx hb d_D_drawRow_55 rfl (lv_at hl 0 rfl) ?_
        refine lv_aload_n hx hb d_D_drawRow_56 rfl (lv_at hl 0 rfl) ?_
        refine gD_v S hK hw rfl rfl d_D_drawRow_57 ?_
        refine ky_callVv (As := [.ref (ad 6)]) (rest := []) S hK hw hA hl.1 (c_D_multiply_v hok) k_D_104 rfl rfl rfl rfl ⟨Nat.le_of_ble_eq_true rfl, Nat.le_of_ble_eq_true rfl⟩ ⟨Nat.zero_le _, Nat.zero_le _⟩ rfl rfl (Nat.le_of_ble_eq_true rfl) d_D_drawRow_60 (fun u H locs hp hw => ?_)
        obtain ⟨pr2, aw2, av2⟩ := u
        obtain ⟨hp2, hv2⟩ := hp
        dsimp only at hp2 hv2
        have hw : kw D A s.heap H locs (wD ad cI cJ P N O M dg sv g1 pr2 ta fr fc fv ab au av2 aw2 ax ar ac af ak) := hw
        refine key _ _ _ _ _ ?_ ?_ hw
        · rw [hp2, hp1, i_nI1]; congr 2; omega
        · intro j hj
          rw [hv2 j hj, muK_congr hrc hv1]
          have e : k = (k - 1) + 1 := by omega
          conv => rhs; rw [e]
          rfl
    · rintro ⟨pr1, av, aw, ar⟩ hI H locs ls hw hl
      obtain ⟨hp1, hv1, hr1⟩ := hI
      refine lv_iload_n hx hb d_D_drawRow_41 rfl (lv_at hl 1 rfl) ?_
      refine lv_iconst (v := nI 2) hx hb d_D_drawRow_42 (by decide) ?_
      refine lv_aload_n hx hb d_D_drawRow_43 rfl (lv_at hl 0 rfl) ?_
      refine gD_n S hK hw rfl rfl d_D_drawRow_44 ?_
      refine lv_imul hx hb d_D_drawRow_47 ?_
      refine ky_ti (y := nI (2 * N)) (pk_mul 2 N) ?_
      refine ky_ge (a := 2 * N) (b := 2 * N) (tgt := 124) hx hb (by omega) (by omega) d_D_drawRow_48 (by decide) (fun h => ?_) (fun h => absurd h (by omega))
      exact hret (_, _, _, _, _, _) ⟨hg, hp1, hr1⟩ hw d_D_drawRow_124
end
end
section
section
variable {l : Launch} {D : va_G} {cI cJ : ClassId} {ad : Nat → Nat} {sz P N O M : Nat} {dg : Int32} {sv : Bool} {g : Int64} {pr ta : Int32} {fr fc : Nat → Nat} {fv : Nat → Int32} {ab au av aw ax ar ac af ak : Nat → Int64}
/-- findRecurrence -/
theorem c_D_findRecurrence  (h : okD P N O M fr fc) : CT l D (kt cI cJ) y_D_findRecurrence b_D_findRecurrence 11 none (kr 2 39) [.ref (ad 0)] (wD ad cI cJ P N O M dg sv g pr ta fr fc fv ab au av aw ax ar ac af ak) sz (QV D (kt cI cJ) (G := Int32 × (Nat → Int64) × (Nat → Int64) × (Nat → Int64)) (fun u => u.1 = nI (bm P (ivD P) ar (2 * N)).2.2.1 ∧ (∀ j, j < 34 → u.2.1 j = (bm P (ivD P) ar (2 * N)).1 j) ∧ (bm P (ivD P) ar (2 * N)).2.2.1 ≤ 2 * N) (fun u => wD ad cI cJ P N O M (u.1) sv g pr ta fr fc fv ab au av aw ax ar (u.2.1) (u.2.2.1) (u.2.2.2))) := by
  refine ct_void (by decide) (Nat.le_of_ble_eq_true rfl) ?_
  intro p e s m args below meth c A ls Z S hA hK hw hl hret
  have S : CallFix p m c b_D_findRecurrence 11 s args lw_g R_D := S
  have hx := S.1
  have hb := S.2.1
  have hown := S.2.2.2.1
  have hts := S.2.2.2.2
  have hl : lv_has ls 11 [(0, .ref (ad 0))] := hl
  obtain ⟨hP2, hP, hN1, hN, hO1, hO, hM, hrc⟩ := h
  refine lv_iconst (v := nI 0) hx hb d_D_findRecurrence_0 (by decide) ?_
  refine lv_istore_n (lv' := [(1, .int (nI 0)), (0, .ref (ad 0))]) hx hb d_D_findRecurrence_1 rfl hl (by decide) rfl (fun ls hl => ?_)
  have hl := lv_sub (l' := [(0, .ref (ad 0)), (1, .int (nI 0))]) hl [1, 0] rfl
  refine for_ri (i0 := 0) (N := 34) (st := ((ac, af) : (Nat → Int64) × (Nat → Int64)))
    (fun (i : Nat) (st : (Nat → Int64) × (Nat → Int64)) => match st with | (ac, af) => ∀ (H : Heap) (locs : List Loc) (ls : Array Slot), kw D A s.heap H locs (wD ad cI cJ P N O M dg sv g pr ta fr fc fv ab au av aw ax ar ac af ak) → lv_has ls 11 [(0, .ref (ad 0)), (1, .int (nI i))] → W p l e (kr 2 39) s m args below meth c H locs 0 0 Z (F0 m 2 ls []))
    (fun (i : Nat) (st : (Nat → Int64) × (Nat → Int64)) => match st with | (ac, af) => ∀ j, j < i → ac j = dl0 j ∧ af j = dl0 j)
    (by omega) ?_ ?_ ?_ s.heap [] ls hw hl
  · exact fun j hj => absurd hj (by omega)
  · rintro i ⟨ac, af⟩ hi0 hi hI ih H locs ls hw hl
    refine lv_iload_n hx hb d_D_findRecurrence_2 rfl (lv_at hl 1 rfl) ?_
    refine lv_aload_n hx hb d_D_findRecurrence_3 rfl (lv_at hl 0 rfl) ?_
    refine gD_now S hK hw rfl rfl d_D_findRecurrence_4 ?_
    refine ky_alenL S hK hw 10 rfl d_D_findRecurrence_7 ?_
    refine ky_ge (a := i) (b := 34) (tgt := 44) hx hb (by omega) (by omega) d_D_findRecurrence_8 (by decide) (fun h => absurd h (by omega)) (fun h => ?_)
    refine lv_aload_n hx hb d_D_findRecurrence_11 rfl (lv_at hl 0 rfl) ?_
    refine gD_now S hK hw rfl rfl d_D_findRecurrence_12 ?_
    refine lv_iload_n hx hb d_D_findRecurrence_15 rfl (lv_at hl 1 rfl) ?_
    refine lv_iload_n hx hb d_D_findRecurrence_16 rfl (lv_at hl 1 rfl) ?_
    refine ky_ifne (tgt := 24) hx hb (by omega) d_D_findRecurrence_17 (by decide) (fun h2 => ?_) (fun h2 => ?_)
    · refine lv_lconst (v := 0) hx hb d_D_findRecurrence_24 (by decide) ?_
      refine ky_tl (y := dl0 i) (by unfold dl0; rw [if_neg h2]) ?_
      refine ky_last S hK hw 10 rfl (by omega) (by omega) d_D_findRecurrence_25 (fun H locs hw => ?_)
      have hw : kw D A s.heap H locs (wD ad cI cJ P N O M dg sv g pr ta fr fc fv ab au av aw ax ar (vp_updL ac i (dl0 i)) af ak) := hw
      refine lv_aload_n hx hb d_D_findRecurrence_26 rfl (lv_at hl 0 rfl) ?_
      refine gD_before S hK hw rfl rfl d_D_findRecurrence_27 ?_
      refine lv_iload_n hx hb d_D_findRecurrence_30 rfl (lv_at hl 1 rfl) ?_
      refine lv_aload_n hx hb d_D_findRecurrence_31 rfl (lv_at hl 0 rfl) ?_
      refine gD_now S hK hw rfl rfl d_D_findRecurrence_32 ?_
      refine lv_iload_n hx hb d_D_findRecurrence_35 rfl (lv_at hl 1 rfl) ?_
      refine ky_lald S hK hw 10 rfl (by omega) (by omega) d_D_findRecurrence_36 ?_
      refine ky_last S hK hw 11 rfl (by omega) (by omega) d_D_findRecurrence_37 (fun H locs hw => ?_)
      have hw : kw D A s.heap H locs (wD ad cI cJ P N O M dg sv g pr ta fr fc fv ab au av aw ax ar (vp_updL ac i (dl0 i)) (vp_updL af i ((vp_updL ac i (dl0 i)) i)) ak) := hw
      refine lv_iinc (v := nI (i + 1)) (lv' := [(1, .int (nI (i + 1))), (0, .ref (ad 0))]) hx hb d_D_findRecurrence_38 hl (k := 1) rfl (nI_1 i) (by decide) rfl (fun ls hl => ?_)
      refine lv_goto (tgt := 2) hx hb d_D_findRecurrence_41 (by decide) ?_
      have hl := lv_sub (l' := [(0, .ref (ad 0)), (1, .int (nI (i + 1)))]) hl [1, 0] rfl
      refine ih (_, _) (fun j hj => ?_) H locs ls hw hl
      rcases Nat.lt_or_ge j i with q | q
      · rw [upL_n (by omega), upL_n (by omega)]; exact hI j q
      · have e : j = i := by omega
        rw [e, upL_s, upL_s]; exact ⟨rfl, rfl⟩
    · refine lv_lconst (v := 1) hx hb d_D_findRecurrence_20 (by decide) ?_
      refine lv_goto (tgt := 25) hx hb d_D_findRecurrence_21 (by decide) ?_
      refine ky_tl (y := dl0 i) (by unfold dl0; rw [if_pos h2]) ?_
      refine ky_last S hK hw 10 rfl (by omega) (by omega) d_D_findRecurrence_25 (fun H locs hw => ?_)
      have hw : kw D A s.heap H locs (wD ad cI cJ P N O M dg sv g pr ta fr fc fv ab au av aw ax ar (vp_updL ac i (dl0 i)) af ak) := hw
      refine lv_aload_n hx hb d_D_findRecurrence_26 rfl (lv_at hl 0 rfl) ?_
      refine gD_before S hK hw rfl rfl d_D_findRecurrence_27 ?_
      refine lv_iload_n hx hb d_D_findRecurrence_30 rfl (lv_at hl 1 rfl) ?_
      refine lv_aload_n hx hb d_D_findRecurrence_31 rfl (lv_at hl 0 rfl) ?_
      refine gD_now S hK hw rfl rfl d_D_findRecurrence_32 ?_
      refine lv_iload_n hx hb d_D_findRecurrence_35 rfl (lv_at hl 1 rfl) ?_
      refine ky_lald S hK hw 10 rfl (by omega) (by omega) d_D_findRecurrence_36 ?_
      refine ky_last S hK hw 11 rfl (by omega) (by omega) d_D_findRecurrence_37 (fun H locs hw => ?_)
      have hw : kw D A s.heap H locs (wD ad cI cJ P N O M dg sv g pr ta fr fc fv ab au av aw ax ar (vp_updL ac i (dl0 i)) (vp_updL af i ((vp_updL ac i (dl0 i)) i)) ak) := hw
      refine lv_iinc (v := nI (i + 1)) (lv' := [(1, .int (nI (i + 1))), (0, .ref (ad 0))]) hx hb d_D_findRecurrence_38 hl (k := 1) rfl (nI_1 i) (by decide) rfl (fun ls hl => ?_)
      refine lv_goto (tgt := 2) hx hb d_D_findRecurrence_41 (by decide) ?_
      have hl := lv_sub (l' := [(0, .ref (ad 0)), (1, .int (nI (i + 1)))]) hl [1, 0] rfl
      refine ih (_, _) (fun j hj => ?_) H locs ls hw hl
      rcases Nat.lt_or_ge j i with q | q
      · rw [upL_n (by omega), upL_n (by omega)]; exact hI j q
      · have e : j = i := by omega
        rw [e, upL_s, upL_s]; exact ⟨rfl, rfl⟩
  · rintro ⟨ac, af⟩ hI H locs ls hw hl
    refine lv_iload_n hx hb d_D_findRecurrence_2 rfl (lv_at hl 1 rfl) ?_
    refine lv_aload_n hx hb d_D_findRecurrence_3 rfl (lv_at hl 0 rfl) ?_
    refine gD_now S hK hw rfl rfl d_D_findRecurrence_4 ?_
    refine ky_alenL S hK hw 10 rfl d_D_findRecurrence_7 ?_
    refine ky_ge (a := 34) (b := 34) (tgt := 44) hx hb (by omega) (by omega) d_D_findRecurrence_8 (by decide) (fun h => ?_) (fun h => absurd h (by omega))
    refine lv_iconst (v := nI 0) hx hb d_D_findRecurrence_44 (by decide) ?_
    refine lv_istore_n (lv' := [(1, .int (nI 0)), (0, .ref (ad 0))]) hx hb d_D_findRecurrence_45 rfl hl (by decide) rfl (fun ls hl => ?_)
    refine lv_iconst (v := nI 1) hx hb d_D_findRecurrence_46 (by decide) ?_
    refine lv_istore_n (lv' := [(2, .int (nI 1)), (1, .int (nI 0)), (0, .ref (ad 0))]) hx hb d_D_findRecurrence_47 rfl hl (by decide) rfl (fun ls hl => ?_)
    refine lv_lconst (v := 1) hx hb d_D_findRecurrence_48 (by decide) ?_
    refine lv_lstore_n (lv' := [(3, .long 1), (2, .int (nI 1)), (1, .int (nI 0)), (0, .ref (ad 0))]) hx hb d_D_findRecurrence_49 rfl hl (by decide) rfl (fun ls hl => ?_)
    refine lv_iconst (v := nI 0) hx hb d_D_findRecurrence_50 (by decide) ?_
    refine lv_istore (lv' := [(5, .int (nI 0)), (3, .long 1), (2, .int (nI 1)), (1, .int (nI 0)), (0, .ref (ad 0))]) hx hb d_D_findRecurrence_51 hl (by decide) rfl (fun ls hl => ?_)
    have hl := lv_sub (l' := [(0, .ref (ad 0)), (1, .int (nI 0)), (2, .int (nI 1)), (3, .long 1), (5, .int (nI 0))]) hl [4, 3, 2, 1, 0] rfl
    refine for_ri (i0 := 0) (N := 2 * N) (st := ((ac, af, ak, 0, 1, 1) : (Nat → Int64) × (Nat → Int64) × (Nat → Int64) × Nat × Nat × Int64))
      (fun (k : Nat) (st : (Nat → Int64) × (Nat → Int64) × (Nat → Int64) × Nat × Nat × Int64) => match st with | (ac, af, ak, len, sh, la) => ∀ (H : Heap) (locs : List Loc) (ls : Array Slot), kw D A s.heap H locs (wD ad cI cJ P N O M dg sv g pr ta fr fc fv ab au av aw ax ar ac af ak) → lv_has ls 11 [(0, .ref (ad 0)), (1, .int (nI len)), (2, .int (nI sh)), (3, .long la), (5, .int (nI k))] → W p l e (kr 2 39) s m args below meth c H locs 0 0 Z (F0 m 53 ls []))
      (fun (k : Nat) (st : (Nat → Int64) × (Nat → Int64) × (Nat → Int64) × Nat × Nat × Int64) => match st with | (ac, af, ak, len, sh, la) => ∃ cf ff, bm P (ivD P) ar k = (cf, ff, len, sh, la) ∧ (∀ j, j < 34 → ac j = cf j ∧ af j = ff j) ∧ len ≤ k ∧ 1 ≤ sh ∧ sh ≤ k + 1)
      (by omega) ?_ ?_ ?_ H locs ls hw hl
    · exact ⟨dl0, dl0, rfl, hI, by omega, by omega, by omega⟩
    · rintro k ⟨ac, af, ak, len, sh, la⟩ hk0 hk hI ih H locs ls hw hl
      obtain ⟨cf, ff, hbm, hcf, hlen, hsh1, hsh2⟩ := hI
      refine lv_iload hx hb d_D_findRecurrence_53 (lv_at hl 4 rfl) ?_
      refine lv_iconst (v := nI 2) hx hb d_D_findRecurrence_55 (by decide) ?_
      refine lv_aload_n hx hb d_D_findRecurrence_56 rfl (lv_at hl 0 rfl) ?_
      refine gD_n S hK hw rfl rfl d_D_findRecurrence_57 ?_
      refine lv_imul hx hb d_D_findRecurrence_60 ?_
      refine ky_ti (y := nI (2 * N)) (pk_mul 2 N) ?_
      refine ky_ge (a := k) (b := 2 * N) (tgt := 251) hx hb (by omega) (by omega) d_D_findRecurrence_61 (by decide) (fun h => absurd h (by omega)) (fun h => ?_)
      refine lv_aload_n hx hb d_D_findRecurrence_64 rfl (lv_at hl 0 rfl) ?_
      refine gD_row S hK hw rfl rfl d_D_findRecurrence_65 ?_
      refine lv_iload hx hb d_D_findRecurrence_68 (lv_at hl 4 rfl) ?_
      refine ky_lald S hK hw 9 rfl (by omega) (by omega) d_D_findRecurrence_70 ?_
      refine lv_lstore (lv' := [(6, .long (ar k)), (0, .ref (ad 0)), (1, .int (nI len)), (2, .int (nI sh)), (3, .long la), (5, .int (nI k))]) hx hb d_D_findRecurrence_71 hl (by decide) rfl (fun ls hl => ?_)
      refine lv_iconst (v := nI 1) hx hb d_D_findRecurrence_73 (by decide) ?_
      refine lv_istore (lv' := [(8, .int (nI 1)), (6, .long (ar k)), (0, .ref (ad 0)), (1, .int (nI len)), (2, .int (nI sh)), (3, .long la), (5, .int (nI k))]) hx hb d_D_findRecurrence_74 hl (by decide) rfl (fun ls hl => ?_)
      have hl := lv_sub (l' := [(0, .ref (ad 0)), (1, .int (nI len)), (2, .int (nI sh)), (3, .long la), (5, .int (nI k)), (6, .long (ar k)), (8, .int (nI 1))]) hl [2, 3, 4, 5, 6, 1, 0] rfl
      refine for_ri (i0 := 1) (N := len + 1) (st := (ar k : Int64))
        (fun (i : Nat) (off : Int64) => ∀ (H : Heap) (locs : List Loc) (ls : Array Slot), kw D A s.heap H locs (wD ad cI cJ P N O M dg sv g pr ta fr fc fv ab au av aw ax ar ac af ak) → lv_has ls 11 [(0, .ref (ad 0)), (1, .int (nI len)), (2, .int (nI sh)), (3, .long la), (5, .int (nI k)), (6, .long off), (8, .int (nI i))] → W p l e (kr 2 39) s m args below meth c H locs 0 0 Z (F0 m 76 ls []))
        (fun (i : Nat) (off : Int64) => off = offF P cf ar k (i - 1))
        (by omega) ?_ ?_ ?_ H locs ls hw hl
      · rfl
      · rintro i off hi0 hi hJ ih2 H locs ls hw hl
        refine lv_iload hx hb d_D_findRecurrence_76 (lv_at hl 6 rfl) ?_
        refine lv_iload_n hx hb d_D_findRecurrence_78 rfl (lv_at hl 1 rfl) ?_
        refine ky_gt (a := i) (b := len) (tgt := 117) hx hb (by omega) (by omega) d_D_findRecurrence_79 (by decide) (fun h3 => absurd h3 (by omega)) (fun h3 => ?_)
        refine lv_lload hx hb d_D_findRecurrence_82 (lv_at hl 5 rfl) ?_
        refine lv_aload_n hx hb d_D_findRecurrence_84 rfl (lv_at hl 0 rfl) ?_
        refine gD_now S hK hw rfl rfl d_D_findRecurrence_85 ?_
        refine lv_iload hx hb d_D_findRecurrence_88 (lv_at hl 6 rfl) ?_
        refine ky_lald S hK hw 10 rfl (by omega) (by omega) d_D_findRecurrence_90 ?_
        refine lv_aload_n hx hb d_D_findRecurrence_91 rfl (lv_at hl 0 rfl) ?_
        refine gD_row S hK hw rfl rfl d_D_findRecurrence_92 ?_
        refine lv_iload hx hb d_D_findRecurrence_95 (lv_at hl 4 rfl) ?_
        refine lv_iload hx hb d_D_findRecurrence_97 (lv_at hl 6 rfl) ?_
        refine lv_isub hx hb d_D_findRecurrence_99 ?_
        refine ky_ti (y := nI (k - i)) (pk_sub (by omega)) ?_
        refine ky_lald S hK hw 9 rfl (by omega) (by omega) d_D_findRecurrence_100 ?_
        refine lv_lmul hx hb d_D_findRecurrence_101 ?_
        refine lv_ladd hx hb d_D_findRecurrence_102 ?_
        refine lv_aload_n hx hb d_D_findRecurrence_103 rfl (lv_at hl 0 rfl) ?_
        refine gD_p S hK hw rfl rfl d_D_findRecurrence_104 ?_
        refine ky_i2l hx hb (by omega) d_D_findRecurrence_107 ?_
        refine ky_lrem hx hb d_D_findRecurrence_108 (lN_ne0 (by omega) (by omega)) ?_
        refine lv_lstore (lv' := [(6, .long (rmd (off + ((ac i) * (ar (k - i)))) (lN P))), (0, .ref (ad 0)), (1, .int (nI len)), (2, .int (nI sh)), (3, .long la), (5, .int (nI k)), (8, .int (nI i))]) hx hb d_D_findRecurrence_109 hl (by decide) rfl (fun ls hl => ?_)
        refine lv_iinc (v := nI (i + 1)) (lv' := [(8, .int (nI (i + 1))), (6, .long (rmd (off + ((ac i) * (ar (k - i)))) (lN P))), (0, .ref (ad 0)), (1, .int (nI len)), (2, .int (nI sh)), (3, .long la), (5, .int (nI k))]) hx hb d_D_findRecurrence_111 hl (k := 6) rfl (nI_1 i) (by decide) rfl (fun ls hl => ?_)
        refine lv_goto (tgt := 76) hx hb d_D_findRecurrence_114 (by decide) ?_
        have hl := lv_sub (l' := [(0, .ref (ad 0)), (1, .int (nI len)), (2, .int (nI sh)), (3, .long la), (5, .int (nI k)), (6, .long (rmd (off + ((ac i) * (ar (k - i)))) (lN P))), (8, .int (nI (i + 1)))]) hl [2, 3, 4, 5, 6, 1, 0] rfl
        refine ih2 _ ?_ H locs ls hw hl
        rw [(hcf i (by omega)).1]; exact off_s hi0 hJ
      · rintro off hJ H locs ls hw hl
        have hoff : off = offF P cf ar k len := hJ
        refine lv_iload hx hb d_D_findRecurrence_76 (lv_at hl 6 rfl) ?_
        refine lv_iload_n hx hb d_D_findRecurrence_78 rfl (lv_at hl 1 rfl) ?_
        refine ky_gt (a := len + 1) (b := len) (tgt := 117) hx hb (by omega) (by omega) d_D_findRecurrence_79 (by decide) (fun h3 => ?_) (fun h3 => absurd h3 (by omega))
        refine lv_lload hx hb d_D_findRecurrence_117 (lv_at hl 5 rfl) ?_
        refine lv_lconst (v := 0) hx hb d_D_findRecurrence_119 (by decide) ?_
        refine W.lcmp hx hb d_D_findRecurrence_120 ?_
        refine ky_lne (tgt := 130) hx hb d_D_findRecurrence_121 (by decide) (fun h0 => ?_) (fun h0 => ?_)
        · refine lv_aload_n hx hb d_D_findRecurrence_130 rfl (lv_at hl 0 rfl) ?_
          refine gD_now S hK hw rfl rfl d_D_findRecurrence_131 ?_
          refine lv_aload_n hx hb d_D_findRecurrence_134 rfl (lv_at hl 0 rfl) ?_
          refine gD_kept S hK hw rfl rfl d_D_findRecurrence_135 ?_
          refine ky_callSv (As := [.ref (ad 10), .ref (ad 12)]) (rest := []) S hK hw hA hl.1 (c_D_copy_nk) k_D_114 rfl rfl ⟨Nat.le_of_ble_eq_true rfl, Nat.le_of_ble_eq_true rfl⟩ ⟨Nat.zero_le _, Nat.zero_le _⟩ rfl rfl (Nat.le_of_ble_eq_true rfl) d_D_findRecurrence_138 (fun ak1 H locs hak hw => ?_)
          have hw : kw D A s.heap H locs (wD ad cI cJ P N O M dg sv g pr ta fr fc fv ab au av aw ax ar ac af ak1) := hw
          refine lv_lload hx hb d_D_findRecurrence_141 (lv_at hl 5 rfl) ?_
          refine lv_aload_n hx hb d_D_findRecurrence_143 rfl (lv_at hl 0 rfl) ?_
          refine lv_lload_n hx hb d_D_findRecurrence_144 rfl (lv_at hl 3 rfl) ?_
          refine ky_callVl (As := [.long la]) (rest := [.long off]) S hK hw hA hl.1 (c_D_inverse hP2 hP) k_D_118 rfl rfl rfl rfl ⟨Nat.le_of_ble_eq_true rfl, Nat.le_of_ble_eq_true rfl⟩ ⟨Nat.zero_le _, Nat.zero_le _⟩ rfl rfl (Nat.le_of_ble_eq_true rfl) d_D_findRecurrence_145 (fun r u H locs hp hw => ?_)
          subst hp
          have hw : kw D A s.heap H locs (wD ad cI cJ P N O M dg sv g pr ta fr fc fv ab au av aw ax ar ac af ak1) := hw
          refine lv_lmul hx hb d_D_findRecurrence_148 ?_
          refine lv_aload_n hx hb d_D_findRecurrence_149 rfl (lv_at hl 0 rfl) ?_
          refine gD_p S hK hw rfl rfl d_D_findRecurrence_150 ?_
          refine ky_i2l hx hb (by omega) d_D_findRecurrence_153 ?_
          refine ky_lrem hx hb d_D_findRecurrence_154 (lN_ne0 (by omega) (by omega)) ?_
          refine lv_lstore (lv' := [(8, .long (rmd (off * (ivD P la)) (lN P))), (0, .ref (ad 0)), (1, .int (nI len)), (2, .int (nI sh)), (3, .long la), (5, .int (nI k)), (6, .long off)]) hx hb d_D_findRecurrence_155 hl (by decide) rfl (fun ls hl => ?_)
          refine lv_iload_n hx hb d_D_findRecurrence_157 rfl (lv_at hl 3 rfl) ?_
          refine lv_istore (lv' := [(10, .int (nI sh)), (8, .long (rmd (off * (ivD P la)) (lN P))), (0, .ref (ad 0)), (1, .int (nI len)), (2, .int (nI sh)), (3, .long la), (5, .int (nI k)), (6, .long off)]) hx hb d_D_findRecurrence_158 hl (by decide) rfl (fun ls hl => ?_)
          have hl := lv_sub (l' := [(0, .ref (ad 0)), (1, .int (nI len)), (2, .int (nI sh)), (3, .long la), (5, .int (nI k)), (6, .long off), (8, .long (rmd (off * (ivD P la)) (lN P))), (10, .int (nI sh))]) hl [2, 3, 4, 5, 6, 7, 1, 0] rfl
          refine for_ri (i0 := sh) (N := 34) (st := (ac : Nat → Int64))
            (fun (i : Nat) (ac1 : Nat → Int64) => ∀ (H : Heap) (locs : List Loc) (ls : Array Slot), kw D A s.heap H locs (wD ad cI cJ P N O M dg sv g pr ta fr fc fv ab au av aw ax ar ac1 af ak1) → lv_has ls 11 [(0, .ref (ad 0)), (1, .int (nI len)), (2, .int (nI sh)), (3, .long la), (5, .int (nI k)), (6, .long off), (8, .long (rmd (off * (ivD P la)) (lN P))), (10, .int (nI i))] → W p l e (kr 2 39) s m args below meth c H locs 0 0 Z (F0 m 160 ls []))
            (fun (i : Nat) (ac1 : Nat → Int64) => ∀ j, j < 34 → ac1 j = if sh ≤ j ∧ j < i then wi P (cf j - rmd (off * ivD P la) (lN P) * ff (j - sh)) else cf j)
            (by omega) ?_ ?_ ?_ H locs ls hw hl
          · exact fun j hj => by rw [if_neg (by omega)]; exact (hcf j hj).1
          · rintro i ac1 hi0 hi hC ih3 H locs ls hw hl
            refine lv_iload hx hb d_D_findRecurrence_160 (lv_at hl 7 rfl) ?_
            refine lv_aload_n hx hb d_D_findRecurrence_162 rfl (lv_at hl 0 rfl) ?_
            refine gD_now S hK hw rfl rfl d_D_findRecurrence_163 ?_
            refine ky_alenL S hK hw 10 rfl d_D_findRecurrence_166 ?_
            refine ky_ge (a := i) (b := 34) (tgt := 208) hx hb (by omega) (by omega) d_D_findRecurrence_167 (by decide) (fun h4 => absurd h4 (by omega)) (fun h4 => ?_)
            refine lv_aload_n hx hb d_D_findRecurrence_170 rfl (lv_at hl 0 rfl) ?_
            refine gD_now S hK hw rfl rfl d_D_findRecurrence_171 ?_
            refine lv_iload hx hb d_D_findRecurrence_174 (lv_at hl 7 rfl) ?_
            refine lv_aload_n hx hb d_D_findRecurrence_176 rfl (lv_at hl 0 rfl) ?_
            refine lv_aload_n hx hb d_D_findRecurrence_177 rfl (lv_at hl 0 rfl) ?_
            refine gD_now S hK hw rfl rfl d_D_findRecurrence_178 ?_
            refine lv_iload hx hb d_D_findRecurrence_181 (lv_at hl 7 rfl) ?_
            refine ky_lald S hK hw 10 rfl (by omega) (by omega) d_D_findRecurrence_183 ?_
            refine lv_lload hx hb d_D_findRecurrence_184 (lv_at hl 6 rfl) ?_
            refine lv_aload_n hx hb d_D_findRecurrence_186 rfl (lv_at hl 0 rfl) ?_
            refine gD_before S hK hw rfl rfl d_D_findRecurrence_187 ?_
            refine lv_iload hx hb d_D_findRecurrence_190 (lv_at hl 7 rfl) ?_
            refine lv_iload_n hx hb d_D_findRecurrence_192 rfl (lv_at hl 2 rfl) ?_
            refine lv_isub hx hb d_D_findRecurrence_193 ?_
            refine ky_ti (y := nI (i - sh)) (pk_sub (by omega)) ?_
            refine ky_lald S hK hw 11 rfl (by omega) (by omega) d_D_findRecurrence_194 ?_
            refine lv_lmul hx hb d_D_findRecurrence_195 ?_
            refine lv_lsub hx hb d_D_findRecurrence_196 ?_
            refine ky_callVi (As := [.long ((ac1 i) - ((rmd (off * (ivD P la)) (lN P)) * (af (i - sh))))]) (rest := [.int (nI i), .ref (ad 10)]) S hK hw hA hl.1 (c_D_mod hP2 hP) k_D_84 rfl rfl rfl rfl ⟨Nat.le_of_ble_eq_true rfl, Nat.le_of_ble_eq_true rfl⟩ ⟨Nat.zero_le _, Nat.zero_le _⟩ rfl rfl (Nat.le_of_ble_eq_true rfl) d_D_findRecurrence_197 (fun r u H locs hp hw => ?_)
            subst hp
            have hw : kw D A s.heap H locs (wD ad cI cJ P N O M dg sv g pr ta fr fc fv ab au av aw ax ar ac1 af ak1) := hw
            refine lv_i2l hx hb d_D_findRecurrence_200 rfl ?_
            refine ky_tl (y := wi P (ac1 i - (rmd (off * ivD P la) (lN P)) * af (i - sh))) (md_wi hP2 hP _) ?_
            refine ky_last S hK hw 10 rfl (by omega) (by omega) d_D_findRecurrence_201 (fun H locs hw => ?_)
            have hw : kw D A s.heap H locs (wD ad cI cJ P N O M dg sv g pr ta fr fc fv ab au av aw ax ar (vp_updL ac1 i (wi P (ac1 i - (rmd (off * ivD P la) (lN P)) * af (i - sh)))) af ak1) := hw
            refine lv_iinc (v := nI (i + 1)) (lv' := [(10, .int (nI (i + 1))), (0, .ref (ad 0)), (1, .int (nI len)), (2, .int (nI sh)), (3, .long la), (5, .int (nI k)), (6, .long off), (8, .long (rmd (off * (ivD P la)) (lN P)))]) hx hb d_D_findRecurrence_202 hl (k := 7) rfl (nI_1 i) (by decide) rfl (fun ls hl => ?_)
            refine lv_goto (tgt := 160) hx hb d_D_findRecurrence_205 (by decide) ?_
            have hl := lv_sub (l' := [(0, .ref (ad 0)), (1, .int (nI len)), (2, .int (nI sh)), (3, .long la), (5, .int (nI k)), (6, .long off), (8, .long (rmd (off * (ivD P la)) (lN P))), (10, .int (nI (i + 1)))]) hl [1, 2, 3, 4, 5, 6, 7, 0] rfl
            refine ih3 _ (fun j hj => ?_) H locs ls hw hl
            by_cases q : j = i
            · rw [q, upL_s, if_pos ⟨hi0, by omega⟩, hC i (by omega), if_neg (by omega), (hcf (i - sh) (by omega)).2]
            · rw [upL_n q, hC j hj]
              by_cases q2 : sh ≤ j ∧ j < i
              · rw [if_pos q2, if_pos ⟨q2.1, by omega⟩]
              · rw [if_neg q2, if_neg (by omega)]
          · rintro ac1 hC H locs ls hw hl
            have hc2 : ∀ j, j < 34 → ac1 j = cUp P (rmd (off * ivD P la) (lN P)) sh cf ff j := by
              intro j hj
              rw [hC j hj]
              unfold cUp
              by_cases q : sh ≤ j
              · rw [if_pos q, if_pos ⟨q, hj⟩]
              · rw [if_neg q, if_neg (fun q2 => q q2.1)]
            refine lv_iload hx hb d_D_findRecurrence_160 (lv_at hl 7 rfl) ?_
            refine lv_aload_n hx hb d_D_findRecurrence_162 rfl (lv_at hl 0 rfl) ?_
            refine gD_now S hK hw rfl rfl d_D_findRecurrence_163 ?_
            refine ky_alenL S hK hw 10 rfl d_D_findRecurrence_166 ?_
            refine ky_ge (a := 34) (b := 34) (tgt := 208) hx hb (by omega) (by omega) d_D_findRecurrence_167 (by decide) (fun h4 => ?_) (fun h4 => absurd h4 (by omega))
            refine lv_iconst (v := nI 2) hx hb d_D_findRecurrence_208 (by decide) ?_
            refine lv_iload_n hx hb d_D_findRecurrence_209 rfl (lv_at hl 1 rfl) ?_
            refine lv_imul hx hb d_D_findRecurrence_210 ?_
            refine ky_ti (y := nI (2 * len)) (pk_mul 2 len) ?_
            refine lv_iload hx hb d_D_findRecurrence_211 (lv_at hl 4 rfl) ?_
            refine ky_gt (a := 2 * len) (b := k) (tgt := 242) hx hb (by omega) (by omega) d_D_findRecurrence_213 (by decide) (fun h5 => ?_) (fun h5 => ?_)
            · refine lv_iinc (v := nI (sh + 1)) (lv' := [(2, .int (nI (sh + 1))), (0, .ref (ad 0)), (1, .int (nI len)), (3, .long la), (5, .int (nI k)), (6, .long off), (8, .long (rmd (off * (ivD P la)) (lN P))), (10, .int (nI 34))]) hx hb d_D_findRecurrence_242 hl (k := 2) rfl (nI_1 sh) (by decide) rfl (fun ls hl => ?_)
              refine lv_iinc (v := nI (k + 1)) (lv' := [(5, .int (nI (k + 1))), (2, .int (nI (sh + 1))), (0, .ref (ad 0)), (1, .int (nI len)), (3, .long la), (6, .long off), (8, .long (rmd (off * (ivD P la)) (lN P))), (10, .int (nI 34))]) hx hb d_D_findRecurrence_245 hl (k := 4) rfl (nI_1 k) (by decide) rfl (fun ls hl => ?_)
              refine lv_goto (tgt := 53) hx hb d_D_findRecurrence_248 (by decide) ?_
              have hl := lv_sub (l' := [(0, .ref (ad 0)), (1, .int (nI len)), (2, .int (nI (sh + 1))), (3, .long la), (5, .int (nI (k + 1)))]) hl [2, 3, 1, 4, 0] rfl
              exact ih (_, _, _, _, _, _) ⟨_, ff, bm_b hbm hoff h0 h5, fun j hj => ⟨hc2 j hj, (hcf j hj).2⟩, by omega, by omega, by omega⟩ H locs ls hw hl
            · refine lv_iload hx hb d_D_findRecurrence_216 (lv_at hl 4 rfl) ?_
              refine lv_iconst (v := nI 1) hx hb d_D_findRecurrence_218 (by decide) ?_
              refine lv_iadd hx hb d_D_findRecurrence_219 ?_
              refine ky_ti (y := nI (k + 1)) (nI_add k 1) ?_
              refine lv_iload_n hx hb d_D_findRecurrence_220 rfl (lv_at hl 1 rfl) ?_
              refine lv_isub hx hb d_D_findRecurrence_221 ?_
              refine ky_ti (y := nI ((k + 1) - len)) (pk_sub (by omega)) ?_
              refine lv_istore_n (lv' := [(1, .int (nI ((k + 1) - len))), (0, .ref (ad 0)), (2, .int (nI sh)), (3, .long la), (5, .int (nI k)), (6, .long off), (8, .long (rmd (off * (ivD P la)) (lN P))), (10, .int (nI 34))]) hx hb d_D_findRecurrence_222 rfl hl (by decide) rfl (fun ls hl => ?_)
              refine lv_aload_n hx hb d_D_findRecurrence_223 rfl (lv_at hl 1 rfl) ?_
              refine gD_kept S hK hw rfl rfl d_D_findRecurrence_224 ?_
              refine lv_aload_n hx hb d_D_findRecurrence_227 rfl (lv_at hl 1 rfl) ?_
              refine gD_before S hK hw rfl rfl d_D_findRecurrence_228 ?_
              refine ky_callSv (As := [.ref (ad 12), .ref (ad 11)]) (rest := []) S hK hw hA hl.1 (c_D_copy_kb) k_D_114 rfl rfl ⟨Nat.le_of_ble_eq_true rfl, Nat.le_of_ble_eq_true rfl⟩ ⟨Nat.zero_le _, Nat.zero_le _⟩ rfl rfl (Nat.le_of_ble_eq_true rfl) d_D_findRecurrence_231 (fun af1 H locs haf hw => ?_)
              have hw : kw D A s.heap H locs (wD ad cI cJ P N O M dg sv g pr ta fr fc fv ab au av aw ax ar ac1 af1 ak1) := hw
              refine lv_lload hx hb d_D_findRecurrence_234 (lv_at hl 5 rfl) ?_
              refine lv_lstore_n (lv' := [(3, .long off), (1, .int (nI ((k + 1) - len))), (0, .ref (ad 0)), (2, .int (nI sh)), (5, .int (nI k)), (6, .long off), (8, .long (rmd (off * (ivD P la)) (lN P))), (10, .int (nI 34))]) hx hb d_D_findRecurrence_236 rfl hl (by decide) rfl (fun ls hl => ?_)
              refine lv_iconst (v := nI 1) hx hb d_D_findRecurrence_237 (by decide) ?_
              refine lv_istore_n (lv' := [(2, .int (nI 1)), (3, .long off), (1, .int (nI ((k + 1) - len))), (0, .ref (ad 0)), (5, .int (nI k)), (6, .long off), (8, .long (rmd (off * (ivD P la)) (lN P))), (10, .int (nI 34))]) hx hb d_D_findRecurrence_238 rfl hl (by decide) rfl (fun ls hl => ?_)
              refine lv_goto (tgt := 245) hx hb d_D_findRecurrence_239 (by decide) ?_
              refine lv_iinc (v := nI (k + 1)) (lv' := [(5, .int (nI (k + 1))), (2, .int (nI 1)), (3, .long off), (1, .int (nI ((k + 1) - len))), (0, .ref (ad 0)), (6, .long off), (8, .long (rmd (off * (ivD P la)) (lN P))), (10, .int (nI 34))]) hx hb d_D_findRecurrence_245 hl (k := 4) rfl (nI_1 k) (by decide) rfl (fun ls hl => ?_)
              refine lv_goto (tgt := 53) hx hb d_D_findRecurrence_248 (by decide) ?_
              have hl := lv_sub (l' := [(0, .ref (ad 0)), (1, .int (nI ((k + 1) - len))), (2, .int (nI 1)), (3, .long off), (5, .int (nI (k + 1)))]) hl [4, 3, 1, 2, 0] rfl
              exact ih (_, _, _, _, _, _) ⟨_, cf, bm_a hbm hoff h0 h5, fun j hj => ⟨hc2 j hj, by rw [haf j hj, hak j hj]; exact (hcf j hj).1⟩, by omega, by omega, by omega⟩ H locs ls hw hl
        · refine lv_iinc (v := nI (sh + 1)) (lv' := [(2, .int (nI (sh + 1))), (0, .ref (ad 0)), (1, .int (nI len)), (3, .long la), (5, .int (nI k)), (6, .long off), (8, .int (nI (len + 1)))]) hx hb d_D_findRecurrence_124 hl (k := 2) rfl (nI_1 sh) (by decide) rfl (fun ls hl => ?_)
          refine lv_goto (tgt := 245) hx hb d_D_findRecurrence_127 (by decide) ?_
          refine lv_iinc (v := nI (k + 1)) (lv' := [(5, .int (nI (k + 1))), (2, .int (nI (sh + 1))), (0, .ref (ad 0)), (1, .int (nI len)), (3, .long la), (6, .long off), (8, .int (nI (len + 1)))]) hx hb d_D_findRecurrence_245 hl (k := 4) rfl (nI_1 k) (by decide) rfl (fun ls hl => ?_)
          refine lv_goto (tgt := 53) hx hb d_D_findRecurrence_248 (by decide) ?_
          have hl := lv_sub (l' := [(0, .ref (ad 0)), (1, .int (nI len)), (2, .int (nI (sh + 1))), (3, .long la), (5, .int (nI (k + 1)))]) hl [2, 3, 1, 4, 0] rfl
          exact ih (_, _, _, _, _, _) ⟨cf, ff, bm_z hbm hoff h0, hcf, by omega, by omega, by omega⟩ H locs ls hw hl
    · rintro ⟨ac, af, ak, len, sh, la⟩ hI H locs ls hw hl
      obtain ⟨cf, ff, hbm, hcf, hlen, hsh1, hsh2⟩ := hI
      refine lv_iload hx hb d_D_findRecurrence_53 (lv_at hl 4 rfl) ?_
      refine lv_iconst (v := nI 2) hx hb d_D_findRecurrence_55 (by decide) ?_
      refine lv_aload_n hx hb d_D_findRecurrence_56 rfl (lv_at hl 0 rfl) ?_
      refine gD_n S hK hw rfl rfl d_D_findRecurrence_57 ?_
      refine lv_imul hx hb d_D_findRecurrence_60 ?_
      refine ky_ti (y := nI (2 * N)) (pk_mul 2 N) ?_
      refine ky_ge (a := 2 * N) (b := 2 * N) (tgt := 251) hx hb (by omega) (by omega) d_D_findRecurrence_61 (by decide) (fun h => ?_) (fun h => absurd h (by omega))
      refine lv_aload_n hx hb d_D_findRecurrence_251 rfl (lv_at hl 0 rfl) ?_
      refine lv_iload_n hx hb d_D_findRecurrence_252 rfl (lv_at hl 1 rfl) ?_
      refine pD_degree S hK hw rfl (Nat.le_of_ble_eq_true rfl) d_D_findRecurrence_253 (fun H locs hw => ?_)
      have hw : kw D A s.heap H locs (wD ad cI cJ P N O M (nI len) sv g pr ta fr fc fv ab au av aw ax ar ac af ak) := hw
      exact hret (nI len, _, _, _) ⟨by rw [hbm], fun j hj => by rw [hbm]; exact (hcf j hj).1, by rw [hbm]; exact hlen⟩ hw d_D_findRecurrence_256
end
end
section
/-! pure: an attempt, tries in a row -/
theorem eqN_0 (f b : Nat → Int64) : eqN 0 f b = true := decide_eq_true (fun i hi => absurd hi (by omega))
theorem eqN_s (i : Nat) (f b : Nat → Int64) : (eqN i f b && decide (f i = b i)) = eqN (i + 1) f b := by
  rw [Bool.eq_iff_iff]
  unfold eqN
  simp only [Bool.and_eq_true, decide_eq_true_eq]
  constructor
  · rintro ⟨h1, h2⟩ j hj
    rcases Nat.lt_or_ge j i with q | q
    · exact h1 j q
    · have e : j = i := by omega
      subst e
      exact h2
  · intro h
    exact ⟨fun j hj => h j (by omega), h i (by omega)⟩
theorem bI_and1 (b : Bool) : bI b &&& nI 1 = bI b := by cases b <;> decide
theorem bI_and0 (b : Bool) : bI b &&& nI 0 = bI false := by cases b <;> decide
theorem offF_congr {P k : Nat} {c r1 r2 : Nat → Int64} (h : ∀ j, j ≤ k → r1 j = r2 j) (i : Nat) : offF P c r1 k i = offF P c r2 k i := by
  induction i with
  | zero => exact h k (Nat.le_refl _)
  | succ i ih =>
    show rmd (offF P c r1 k i + c (i + 1) * r1 (k - (i + 1))) (lN P) = rmd (offF P c r2 k i + c (i + 1) * r2 (k - (i + 1))) (lN P)
    rw [ih, h _ (by omega)]
theorem bm_congr {P n : Nat} {inv : Int64 → Int64} {r1 r2 : Nat → Int64} (h : ∀ j, j < n → r1 j = r2 j) : bm P inv r1 n = bm P inv r2 n := by
  have g : ∀ k, k ≤ n → bm P inv r1 k = bm P inv r2 k := by
    intro k
    induction k with
    | zero => intro _; rfl
    | succ k ih =>
      intro hk
      show bmS P inv r1 k (bm P inv r1 k) = bmS P inv r2 k (bm P inv r2 k)
      rw [ih (by omega)]
      obtain ⟨c, f, len, sh, la⟩ := bm P inv r2 k
      have e : offF P c r1 k len = offF P c r2 k len := offF_congr (fun j hj => h j (by omega)) len
      unfold bmS
      simp only [e]
  exact g n (Nat.le_refl _)
theorem bm_len {P : Nat} {inv : Int64 → Int64} {row : Nat → Int64} (k : Nat) : (bm P inv row k).2.2.1 ≤ k := by
  induction k with
  | zero => exact Nat.le_refl _
  | succ k ih =>
    show (bmS P inv row k (bm P inv row k)).2.2.1 ≤ _
    generalize bm P inv row k = q at ih ⊢
    obtain ⟨c, f, len, sh, la⟩ := q
    have ih : len ≤ k := ih
    unfold bmS
    dsimp only
    split
    · show len ≤ _; omega
    · split
      · show k + 1 - len ≤ _; omega
      · show len ≤ _; omega
theorem xK_congr {P M d : Nat} {fr fc : Nat → Nat} {V b c1 c2 : Nat → Int64} (h : ∀ j, j < 34 → c1 j = c2 j) (k : Nat) (hk : k < 33) : xK P M fr fc V b c1 d k = xK P M fr fc V b c2 d k := by
  induction k with
  | zero => rfl
  | succ k ih =>
    funext i
    show rmd (muK P fr fc V (xK P M fr fc V b c1 d k) M i + c1 (k + 1) * b i) (lN P) = rmd (muK P fr fc V (xK P M fr fc V b c2 d k) M i + c2 (k + 1) * b i) (lN P)
    rw [ih (by omega), h _ (by omega)]
def rowA (P N M : Nat) (fr fc : Nat → Nat) (V b : Nat → Int64) (G dr : Int64 → Int64) (g : Int64) : Nat → Int64 := fun k => dot P (fun j => dr (gS G g j)) (vK P M fr fc V b k) N
def badA (q : BS) : Bool := decide (0 < q.2.2.1 ∧ q.1 q.2.2.1 = 0)
def xA (P M : Nat) (fr fc : Nat → Nat) (V b : Nat → Int64) (byf : Int64 → Int64) (q : BS) : Nat → Int64 := fun j => rmd (xK P M fr fc V b q.1 q.2.2.1 (q.2.2.1 - 1) j * (if q.2.2.1 = 0 then 0 else byf (q.1 q.2.2.1))) (lN P)
def svA (P N M : Nat) (fr fc : Nat → Nat) (V b : Nat → Int64) (byf : Int64 → Int64) (q : BS) : Bool := !badA q && eqN N (muK P fr fc V (xA P M fr fc V b byf q) M) b
/-- what an attempt leaves to be seen: generator, products, attempts, row, recurrence, degree, solved, solution -/
abbrev TS : Type := Int64 × Int32 × Int32 × (Nat → Int64) × (Nat → Int64) × Int32 × Bool × (Nat → Int64)
def attQ (P N M : Nat) (fr fc : Nat → Nat) (V b : Nat → Int64) (G inv byf : Int64 → Int64) (row : Nat → Int64) (q : BS) (T : TS) : TS :=
  (gS G T.1 N, (if badA q then T.2.1 + nI (2 * N - 1) else T.2.1 + nI (2 * N - 1) + nI (q.2.2.1 - 1) + 1), T.2.2.1 + 1, row, q.1, nI q.2.2.1, svA P N M fr fc V b byf q, if badA q then T.2.2.2.2.2.2.2 else xA P M fr fc V b byf q)
def att (P N M : Nat) (fr fc : Nat → Nat) (V b : Nat → Int64) (G dr inv byf : Int64 → Int64) (T : TS) : TS :=
  attQ P N M fr fc V b G inv byf (rowA P N M fr fc V b G dr T.1) (bm P inv (rowA P N M fr fc V b G dr T.1) (2 * N)) T
def attR (P N M : Nat) (fr fc : Nat → Nat) (V b : Nat → Int64) (G dr inv byf : Int64 → Int64) (g : Int64) : Int32 :=
  if badA (bm P inv (rowA P N M fr fc V b G dr g) (2 * N)) then 3 else if svA P N M fr fc V b byf (bm P inv (rowA P N M fr fc V b G dr g) (2 * N)) then 0 else 4
def attD (P N M : Nat) (fr fc : Nat → Nat) (V b : Nat → Int64) (T : TS) : TS := att P N M fr fc V b gD (fun g => (dD P g).toInt64) (ivD P) (fun c => wi P (-(ivD P c))) T
def attDR (P N M : Nat) (fr fc : Nat → Nat) (V b : Nat → Int64) (T : TS) : Int32 := attR P N M fr fc V b gD (fun g => (dD P g).toInt64) (ivD P) (fun c => wi P (-(ivD P c))) T.1
def attM (P N M : Nat) (fr fc : Nat → Nat) (V b : Nat → Int64) (T : TS) : TS := att P N M fr fc V b gM (dM P) (ivM P) (fun c => ivM P (wi P (-c))) T
def attMR (P N M : Nat) (fr fc : Nat → Nat) (V b : Nat → Int64) (T : TS) : Int32 := attR P N M fr fc V b gM (dM P) (ivM P) (fun c => ivM P (wi P (-c))) T.1
/-- the cells hold what is to be seen -/
def relT (N : Nat) (T : TS) (g : Int64) (pr ta : Int32) (row c : Nat → Int64) (dg : Int32) (sv : Bool) (x : Nat → Int64) : Prop :=
  T.1 = g ∧ T.2.1 = pr ∧ T.2.2.1 = ta ∧ (∀ k, k < 2 * N → row k = T.2.2.2.1 k) ∧ (∀ j, j < 34 → c j = T.2.2.2.2.1 j) ∧ T.2.2.2.2.2.1 = dg ∧ T.2.2.2.2.2.2.1 = sv ∧ ∀ j, j < N → x j = T.2.2.2.2.2.2.2 j
/-- up to n more tries, while told isn't 0 -/
def slv (a : TS → TS) (rr : TS → Int32) : Nat → Int32 → TS → Int32 × TS
  | 0, told, T => (told, T)
  | n + 1, told, T => if told = 0 then (told, T) else slv a rr n (rr T) (a T)
def sol (a : TS → TS) (rr : TS → Int32) (k : Int32) (T : TS) : Int32 × TS := if wth k (nI 1) (nI 50) then slv a rr (k.toNatClampNeg - 1) (rr T) (a T) else (nI 5, T)
theorem slv_0 {a : TS → TS} {rr : TS → Int32} (n : Nat) (T : TS) : slv a rr n 0 T = (0, T) := by
  cases n with
  | zero => rfl
  | succ n =>
    show (if (0 : Int32) = 0 then _ else _) = _
    rw [if_pos rfl]
theorem wth_n {k : Int32} {a b : Nat} (ha : a < 2147483648) (hb : b < 2147483648) (h : wth k (nI a) (nI b) = true) : ∃ n, a ≤ n ∧ n ≤ b ∧ k = nI n := by
  obtain ⟨h1, h2⟩ := of_decide_eq_true h
  rw [Int32.lt_iff_toInt_lt, nI_toInt ha] at h1
  rw [Int32.lt_iff_toInt_lt, nI_toInt hb] at h2
  obtain ⟨j, hj, rfl⟩ := nI_of (x := k) (by rw [Int32.lt_iff_toInt_lt, Int32.toInt_zero]; omega)
  rw [nI_toInt hj] at h1 h2
  exact ⟨j, by omega, by omega, rfl⟩
theorem wth_nI {a b n : Nat} (hn : n < 2147483648) (h1 : a ≤ n) (h2 : n ≤ b) (hb : b < 2147483648) : wth (nI n) (nI a) (nI b) = true := by
  refine decide_eq_true ⟨?_, ?_⟩
  · rw [Int32.lt_iff_toInt_lt, nI_toInt (by omega), nI_toInt (by omega)]; omega
  · rw [Int32.lt_iff_toInt_lt, nI_toInt (by omega), nI_toInt (by omega)]; omega
/-- the model's way to say it -/
theorem wth_0 {k : Int32} {b : Nat} (hb : 1 ≤ b) (hb2 : b < 2147483648) : wth k (nI 0) (nI (b - 1)) = true ↔ ¬ k < 0 ∧ ¬ nI b ≤ k := by
  unfold wth
  rw [decide_eq_true_eq, Int32.lt_iff_toInt_lt, Int32.lt_iff_toInt_lt, Int32.lt_iff_toInt_lt, Int32.le_iff_toInt_le, nI_toInt (by omega), nI_toInt (by omega), nI_toInt (by omega), Int32.toInt_zero]
  omega
theorem wth_m1 {k : Int32} : wth k (nI 0) (-1) = false := by
  unfold wth
  rw [decide_eq_false_iff_not, Int32.lt_iff_toInt_lt, Int32.lt_iff_toInt_lt, nI_toInt (by omega)]
  rw [show (-1 : Int32).toInt = -1 from by decide]
  omega
theorem sw_out {k : Int32} {n : Nat} (hn : n < 2147483648) (h : ∀ j, j ≤ n → k ≠ nI j) : k.toInt < 0 ∨ (n : Int) < k.toInt := by
  by_cases h1 : k < 0
  · exact Or.inl (by rw [Int32.lt_iff_toInt_lt, Int32.toInt_zero] at h1; exact h1)
  · obtain ⟨j, hj, rfl⟩ := nI_of h1
    rw [nI_toInt hj]
    rcases Nat.lt_or_ge n j with q | q
    · exact Or.inr (by omega)
    · exact absurd rfl (h j q)
theorem nI_c {n : Nat} (h : n < 2147483648) : (nI n).toNatClampNeg = n := nI_clamp h
def solR (N : Nat) (sv : Bool) (x : Nat → Int64) (k : Int32) : Int32 := if sv && wth k (nI 0) (nI (N - 1)) then (x k.toNatClampNeg).toInt32 else -1
def coeR (dg : Int32) (c : Nat → Int64) (k : Int32) : Int32 := if wth k (nI 0) dg then (c (dg - k).toNatClampNeg).toInt32 else -1
def numR (N : Nat) (hr : Bool) (row : Nat → Int64) (k : Int32) : Int32 := if hr && wth k (nI 0) (nI (2 * N - 1)) then (row k.toNatClampNeg).toInt32 else -1
def cntR (P N M : Nat) (g : Int64) (ta k : Int32) : Int32 := if k = nI 0 then nI P else if k = nI 1 then nI N else if k = nI 2 then nI M else if k = nI 3 then g.toInt32 else if k = nI 4 then ta else -1
def dgOk (dg : Int32) : Prop := dg = -1 ∨ ∃ d, d ≤ 32 ∧ dg = nI d
def inB (N : Nat) (k : Int32) : Bool := wth k (nI 0) (nI (N - 1))
end
section
section
variable {l : Launch} {D : va_G} {cI cJ : ClassId} {ad : Nat → Nat} {sz P N O M : Nat} {dg : Int32} {sv : Bool} {g : Int64} {pr ta : Int32} {fr fc : Nat → Nat} {fv : Nat → Int32} {ab au av aw ax ar ac af ak : Nat → Int64}
/-- findCandidate -/
theorem c_D_findCandidate {d : Nat} (h : okD P N O M fr fc) (hd : d ≤ 32) : CT l D (kt cI cJ) y_D_findCandidate b_D_findCandidate 4 none (kr 1 27) [.ref (ad 0)] (wD ad cI cJ P N O M (nI d) sv g pr ta fr fc fv ab au av aw ax ar ac af ak) sz (QV D (kt cI cJ) (G := Int32 × (Nat → Int64) × (Nat → Int64)) (fun u => u.1 = pr + nI (d - 1) ∧ ∀ j, j < N → u.2.2 j = rmd (xK P M fr fc (fun k => (fv k).toInt64) ab ac d (d - 1) j * (if d = 0 then 0 else wi P (-(ivD P (ac d))))) (lN P)) (fun u => wD ad cI cJ P N O M (nI d) sv g (u.1) ta fr fc fv ab au av (u.2.1) (u.2.2) ar ac af ak)) := by
  refine ct_void (by decide) (Nat.le_of_ble_eq_true rfl) ?_
  intro p e s m args below meth c A ls Z S hA hK hw hl hret
  have S : CallFix p m c b_D_findCandidate 4 s args lw_g R_D := S
  have hx := S.1
  have hb := S.2.1
  have hown := S.2.2.2.1
  have hts := S.2.2.2.2
  have hl : lv_has ls 4 [(0, .ref (ad 0))] := hl
  obtain ⟨hP2, hP, hN1, hN, hO1, hO, hM, hrc⟩ := h
  have hok : okD P N O M fr fc := ⟨hP2, hP, hN1, hN, hO1, hO, hM, hrc⟩
  refine lv_iconst (v := nI 0) hx hb d_D_findCandidate_0 (by decide) ?_
  refine lv_istore_n (lv' := [(1, .int (nI 0)), (0, .ref (ad 0))]) hx hb d_D_findCandidate_1 rfl hl (by decide) rfl (fun ls hl => ?_)
  have hl := lv_sub (l' := [(0, .ref (ad 0)), (1, .int (nI 0))]) hl [1, 0] rfl
  refine for_ri (i0 := 0) (N := N) (st := (ax : Nat → Int64))
    (fun (i : Nat) (ax : Nat → Int64) => ∀ (H : Heap) (locs : List Loc) (ls : Array Slot), kw D A s.heap H locs (wD ad cI cJ P N O M (nI d) sv g pr ta fr fc fv ab au av aw ax ar ac af ak) → lv_has ls 4 [(0, .ref (ad 0)), (1, .int (nI i))] → W p l e (kr 1 27) s m args below meth c H locs 0 0 Z (F0 m 2 ls []))
    (fun (i : Nat) (ax : Nat → Int64) => ∀ j, j < i → ax j = xK P M fr fc (fun k => (fv k).toInt64) ab ac d 0 j)
    (by omega) ?_ ?_ ?_ s.heap [] ls hw hl
  · exact fun j hj => absurd hj (by omega)
  · rintro i ax hi0 hi hI ih H locs ls hw hl
    refine lv_iload_n hx hb d_D_findCandidate_2 rfl (lv_at hl 1 rfl) ?_
    refine lv_aload_n hx hb d_D_findCandidate_3 rfl (lv_at hl 0 rfl) ?_
    refine gD_n S hK hw rfl rfl d_D_findCandidate_4 ?_
    refine ky_ge (a := i) (b := N) (tgt := 39) hx hb (by omega) (by omega) d_D_findCandidate_7 (by decide) (fun h => absurd h (by omega)) (fun h => ?_)
    refine lv_aload_n hx hb d_D_findCandidate_10 rfl (lv_at hl 0 rfl) ?_
    refine gD_x S hK hw rfl rfl d_D_findCandidate_11 ?_
    refine lv_iload_n hx hb d_D_findCandidate_14 rfl (lv_at hl 1 rfl) ?_
    refine lv_aload_n hx hb d_D_findCandidate_15 rfl (lv_at hl 0 rfl) ?_
    refine gD_degree S hK hw rfl rfl d_D_findCandidate_16 ?_
    refine ky_ifne (tgt := 26) hx hb (by omega) d_D_findCandidate_19 (by decide) (fun h2 => ?_) (fun h2 => ?_)
    · refine lv_aload_n hx hb d_D_findCandidate_26 rfl (lv_at hl 0 rfl) ?_
      refine gD_b S hK hw rfl rfl d_D_findCandidate_27 ?_
      refine lv_iload_n hx hb d_D_findCandidate_30 rfl (lv_at hl 1 rfl) ?_
      refine ky_lald S hK hw 4 rfl (by omega) (by omega) d_D_findCandidate_31 ?_
      refine ky_tl (y := xK P M fr fc (fun k => (fv k).toInt64) ab ac d 0 i) (by unfold xK; rw [if_neg h2]) ?_
      refine ky_last S hK hw 8 rfl (by omega) (by omega) d_D_findCandidate_32 (fun H locs hw => ?_)
      have hw : kw D A s.heap H locs (wD ad cI cJ P N O M (nI d) sv g pr ta fr fc fv ab au av aw (vp_updL ax i (xK P M fr fc (fun k => (fv k).toInt64) ab ac d 0 i)) ar ac af ak) := hw
      refine lv_iinc (v := nI (i + 1)) (lv' := [(1, .int (nI (i + 1))), (0, .ref (ad 0))]) hx hb d_D_findCandidate_33 hl (k := 1) rfl (nI_1 i) (by decide) rfl (fun ls hl => ?_)
      refine lv_goto (tgt := 2) hx hb d_D_findCandidate_36 (by decide) ?_
      have hl := lv_sub (l' := [(0, .ref (ad 0)), (1, .int (nI (i + 1)))]) hl [1, 0] rfl
      refine ih _ (fun j hj => ?_) H locs ls hw hl
      rcases Nat.lt_or_ge j i with q | q
      · rw [upL_n (by omega)]; exact hI j q
      · have e : j = i := by omega
        rw [e, upL_s]
    · refine lv_lconst (v := 0) hx hb d_D_findCandidate_22 (by decide) ?_
      refine lv_goto (tgt := 32) hx hb d_D_findCandidate_23 (by decide) ?_
      refine ky_tl (y := xK P M fr fc (fun k => (fv k).toInt64) ab ac d 0 i) (by unfold xK; rw [if_pos h2]) ?_
      refine ky_last S hK hw 8 rfl (by omega) (by omega) d_D_findCandidate_32 (fun H locs hw => ?_)
      have hw : kw D A s.heap H locs (wD ad cI cJ P N O M (nI d) sv g pr ta fr fc fv ab au av aw (vp_updL ax i (xK P M fr fc (fun k => (fv k).toInt64) ab ac d 0 i)) ar ac af ak) := hw
      refine lv_iinc (v := nI (i + 1)) (lv' := [(1, .int (nI (i + 1))), (0, .ref (ad 0))]) hx hb d_D_findCandidate_33 hl (k := 1) rfl (nI_1 i) (by decide) rfl (fun ls hl => ?_)
      refine lv_goto (tgt := 2) hx hb d_D_findCandidate_36 (by decide) ?_
      have hl := lv_sub (l' := [(0, .ref (ad 0)), (1, .int (nI (i + 1)))]) hl [1, 0] rfl
      refine ih _ (fun j hj => ?_) H locs ls hw hl
      rcases Nat.lt_or_ge j i with q | q
      · rw [upL_n (by omega)]; exact hI j q
      · have e : j = i := by omega
        rw [e, upL_s]
  · rintro ax hI H locs ls hw hl
    refine lv_iload_n hx hb d_D_findCandidate_2 rfl (lv_at hl 1 rfl) ?_
    refine lv_aload_n hx hb d_D_findCandidate_3 rfl (lv_at hl 0 rfl) ?_
    refine gD_n S hK hw rfl rfl d_D_findCandidate_4 ?_
    refine ky_ge (a := N) (b := N) (tgt := 39) hx hb (by omega) (by omega) d_D_findCandidate_7 (by decide) (fun h => ?_) (fun h => absurd h (by omega))
    refine lv_iconst (v := nI 1) hx hb d_D_findCandidate_39 (by decide) ?_
    refine lv_istore_n (lv' := [(1, .int (nI 1)), (0, .ref (ad 0))]) hx hb d_D_findCandidate_40 rfl hl (by decide) rfl (fun ls hl => ?_)
    have hl := lv_sub (l' := [(0, .ref (ad 0)), (1, .int (nI 1))]) hl [1, 0] rfl
    refine for_ri (i0 := 1) (N := max 1 d) (st := ((pr, aw, ax) : Int32 × (Nat → Int64) × (Nat → Int64)))
      (fun (k : Nat) (st : Int32 × (Nat → Int64) × (Nat → Int64)) => match st with | (pr1, aw, ax) => ∀ (H : Heap) (locs : List Loc) (ls : Array Slot), kw D A s.heap H locs (wD ad cI cJ P N O M (nI d) sv g pr1 ta fr fc fv ab au av aw ax ar ac af ak) → lv_has ls 4 [(0, .ref (ad 0)), (1, .int (nI k))] → W p l e (kr 1 27) s m args below meth c H locs 0 0 Z (F0 m 41 ls []))
      (fun (k : Nat) (st : Int32 × (Nat → Int64) × (Nat → Int64)) => match st with | (pr1, aw, ax) => pr1 = pr + nI (k - 1) ∧ ∀ j, j < N → ax j = xK P M fr fc (fun k => (fv k).toInt64) ab ac d (k - 1) j)
      (by omega) ?_ ?_ ?_ H locs ls hw hl
    · exact ⟨by rw [show (1 - 1 : Nat) = 0 from rfl, nI_0, Int32.add_zero], hI⟩
    · rintro k ⟨pr1, aw, ax⟩ hk0 hk hI ih H locs ls hw hl
      obtain ⟨hp1, hx1⟩ := hI
      have hkd : k < d := by omega
      refine lv_iload_n hx hb d_D_findCandidate_41 rfl (lv_at hl 1 rfl) ?_
      refine lv_aload_n hx hb d_D_findCandidate_42 rfl (lv_at hl 0 rfl) ?_
      refine gD_degree S hK hw rfl rfl d_D_findCandidate_43 ?_
      refine ky_ge (a := k) (b := d) (tgt := 111) hx hb (by omega) (by omega) d_D_findCandidate_46 (by decide) (fun h => absurd h (by omega)) (fun h => ?_)
      refine lv_aload_n hx hb d_D_findCandidate_49 rfl (lv_at hl 0 rfl) ?_
      refine lv_aload_n hx hb d_D_findCandidate_50 rfl (lv_at hl 0 rfl) ?_
      refine gD_x S hK hw rfl rfl d_D_findCandidate_51 ?_
      refine ky_callVv (As := [.ref (ad 8)]) (rest := []) S hK hw hA hl.1 (c_D_multiply_x hok) k_D_104 rfl rfl rfl rfl ⟨Nat.le_of_ble_eq_true rfl, Nat.le_of_ble_eq_true rfl⟩ ⟨Nat.zero_le _, Nat.zero_le _⟩ rfl rfl (Nat.le_of_ble_eq_true rfl) d_D_findCandidate_54 (fun u H locs hp hw => ?_)
      obtain ⟨pr2, aw2, ax2⟩ := u
      obtain ⟨hp2, hx2⟩ := hp
      dsimp only at hp2 hx2
      have hw : kw D A s.heap H locs (wD ad cI cJ P N O M (nI d) sv g pr2 ta fr fc fv ab au av aw2 ax2 ar ac af ak) := hw
      refine lv_iconst (v := nI 0) hx hb d_D_findCandidate_57 (by decide) ?_
      refine lv_istore_n (lv' := [(2, .int (nI 0)), (0, .ref (ad 0)), (1, .int (nI k))]) hx hb d_D_findCandidate_58 rfl hl (by decide) rfl (fun ls hl => ?_)
      have hl := lv_sub (l' := [(0, .ref (ad 0)), (1, .int (nI k)), (2, .int (nI 0))]) hl [1, 2, 0] rfl
      refine for_ri (i0 := 0) (N := N) (st := (ax2 : Nat → Int64))
        (fun (i : Nat) (ax3 : Nat → Int64) => ∀ (H : Heap) (locs : List Loc) (ls : Array Slot), kw D A s.heap H locs (wD ad cI cJ P N O M (nI d) sv g pr2 ta fr fc fv ab au av aw2 ax3 ar ac af ak) → lv_has ls 4 [(0, .ref (ad 0)), (1, .int (nI k)), (2, .int (nI i))] → W p l e (kr 1 27) s m args below meth c H locs 0 0 Z (F0 m 59 ls []))
        (fun (i : Nat) (ax3 : Nat → Int64) => ∀ j, j < N → ax3 j = if j < i then rmd (muK P fr fc (fun k => (fv k).toInt64) (xK P M fr fc (fun k => (fv k).toInt64) ab ac d (k - 1)) M j + ac k * ab j) (lN P) else muK P fr fc (fun k => (fv k).toInt64) (xK P M fr fc (fun k => (fv k).toInt64) ab ac d (k - 1)) M j)
        (by omega) ?_ ?_ ?_ H locs ls hw hl
      · intro j hj
        rw [if_neg (by omega), hx2 j hj, muK_congr hrc hx1]
      · rintro i ax3 hi0 hi hJ ih2 H locs ls hw hl
        refine lv_iload_n hx hb d_D_findCandidate_59 rfl (lv_at hl 2 rfl) ?_
        refine lv_aload_n hx hb d_D_findCandidate_60 rfl (lv_at hl 0 rfl) ?_
        refine gD_n S hK hw rfl rfl d_D_findCandidate_61 ?_
        refine ky_ge (a := i) (b := N) (tgt := 105) hx hb (by omega) (by omega) d_D_findCandidate_64 (by decide) (fun h3 => absurd h3 (by omega)) (fun h3 => ?_)
        refine lv_aload_n hx hb d_D_findCandidate_67 rfl (lv_at hl 0 rfl) ?_
        refine gD_x S hK hw rfl rfl d_D_findCandidate_68 ?_
        refine lv_iload_n hx hb d_D_findCandidate_71 rfl (lv_at hl 2 rfl) ?_
        refine lv_aload_n hx hb d_D_findCandidate_72 rfl (lv_at hl 0 rfl) ?_
        refine gD_x S hK hw rfl rfl d_D_findCandidate_73 ?_
        refine lv_iload_n hx hb d_D_findCandidate_76 rfl (lv_at hl 2 rfl) ?_
        refine ky_lald S hK hw 8 rfl (by omega) (by omega) d_D_findCandidate_77 ?_
        refine lv_aload_n hx hb d_D_findCandidate_78 rfl (lv_at hl 0 rfl) ?_
        refine gD_now S hK hw rfl rfl d_D_findCandidate_79 ?_
        refine lv_iload_n hx hb d_D_findCandidate_82 rfl (lv_at hl 1 rfl) ?_
        refine ky_lald S hK hw 10 rfl (by omega) (by omega) d_D_findCandidate_83 ?_
        refine lv_aload_n hx hb d_D_findCandidate_84 rfl (lv_at hl 0 rfl) ?_
        refine gD_b S hK hw rfl rfl d_D_findCandidate_85 ?_
        refine lv_iload_n hx hb d_D_findCandidate_88 rfl (lv_at hl 2 rfl) ?_
        refine ky_lald S hK hw 4 rfl (by omega) (by omega) d_D_findCandidate_89 ?_
        refine lv_lmul hx hb d_D_findCandidate_90 ?_
        refine lv_ladd hx hb d_D_findCandidate_91 ?_
        refine lv_aload_n hx hb d_D_findCandidate_92 rfl (lv_at hl 0 rfl) ?_
        refine gD_p S hK hw rfl rfl d_D_findCandidate_93 ?_
        refine ky_i2l hx hb (by omega) d_D_findCandidate_96 ?_
        refine ky_lrem hx hb d_D_findCandidate_97 (lN_ne0 (by omega) (by omega)) ?_
        refine ky_last S hK hw 8 rfl (by omega) (by omega) d_D_findCandidate_98 (fun H locs hw => ?_)
        have hw : kw D A s.heap H locs (wD ad cI cJ P N O M (nI d) sv g pr2 ta fr fc fv ab au av aw2 (vp_updL ax3 i (rmd ((ax3 i) + ((ac k) * (ab i))) (lN P))) ar ac af ak) := hw
        refine lv_iinc (v := nI (i + 1)) (lv' := [(2, .int (nI (i + 1))), (0, .ref (ad 0)), (1, .int (nI k))]) hx hb d_D_findCandidate_99 hl (k := 2) rfl (nI_1 i) (by decide) rfl (fun ls hl => ?_)
        refine lv_goto (tgt := 59) hx hb d_D_findCandidate_102 (by decide) ?_
        have hl := lv_sub (l' := [(0, .ref (ad 0)), (1, .int (nI k)), (2, .int (nI (i + 1)))]) hl [1, 2, 0] rfl
        refine ih2 _ (fun j hj => ?_) H locs ls hw hl
        by_cases q : j = i
        · rw [q, upL_s, if_pos (by omega), hJ i hi, if_neg (by omega)]
        · rw [upL_n q, hJ j hj]
          by_cases q2 : j < i
          · rw [if_pos q2, if_pos (by omega)]
          · rw [if_neg q2, if_neg (by omega)]
      · rintro ax3 hJ H locs ls hw hl
        refine lv_iload_n hx hb d_D_findCandidate_59 rfl (lv_at hl 2 rfl) ?_
        refine lv_aload_n hx hb d_D_findCandidate_60 rfl (lv_at hl 0 rfl) ?_
        refine gD_n S hK hw rfl rfl d_D_findCandidate_61 ?_
        refine ky_ge (a := N) (b := N) (tgt := 105) hx hb (by omega) (by omega) d_D_findCandidate_64 (by decide) (fun h3 => ?_) (fun h3 => absurd h3 (by omega))
        refine lv_iinc (v := nI (k + 1)) (lv' := [(1, .int (nI (k + 1))), (0, .ref (ad 0)), (2, .int (nI N))]) hx hb d_D_findCandidate_105 hl (k := 1) rfl (nI_1 k) (by decide) rfl (fun ls hl => ?_)
        refine lv_goto (tgt := 41) hx hb d_D_findCandidate_108 (by decide) ?_
        have hl := lv_sub (l' := [(0, .ref (ad 0)), (1, .int (nI (k + 1)))]) hl [1, 0] rfl
        refine ih (_, _, _) ⟨?_, fun j hj => ?_⟩ H locs ls hw hl
        · rw [hp2, hp1, i_nI1]; congr 2; omega
        · rw [hJ j hj, if_pos hj, show k + 1 - 1 = (k - 1) + 1 by omega]
          show _ = rmd (muK P fr fc (fun k => (fv k).toInt64) (xK P M fr fc (fun k => (fv k).toInt64) ab ac d (k - 1)) M j + ac (k - 1 + 1) * ab j) (lN P)
          rw [show k - 1 + 1 = k by omega]
    · rintro ⟨pr1, aw, ax⟩ hI H locs ls hw hl
      obtain ⟨hp1, hx1⟩ := hI
      have hmx : max 1 d - 1 = d - 1 := by omega
      rw [hmx] at hp1 hx1
      refine lv_iload_n hx hb d_D_findCandidate_41 rfl (lv_at hl 1 rfl) ?_
      refine lv_aload_n hx hb d_D_findCandidate_42 rfl (lv_at hl 0 rfl) ?_
      refine gD_degree S hK hw rfl rfl d_D_findCandidate_43 ?_
      refine ky_ge (a := max 1 d) (b := d) (tgt := 111) hx hb (by omega) (by omega) d_D_findCandidate_46 (by decide) (fun h => ?_) (fun h => absurd h (by omega))
      have key : ∀ (by_ : Int64) (H : Heap) (locs : List Loc), by_ = (if d = 0 then 0 else wi P (-(ivD P (ac d)))) → kw D A s.heap H locs (wD ad cI cJ P N O M (nI d) sv g pr1 ta fr fc fv ab au av aw ax ar ac af ak) → W p l e (kr 1 27) s m args below meth c H locs 0 0 Z (F0 m 141 ls [.long by_]) := by
        intro by_ H locs hby hw
        refine lv_lstore_n (lv' := [(1, .long by_), (0, .ref (ad 0))]) hx hb d_D_findCandidate_141 rfl hl (by decide) rfl (fun ls hl => ?_)
        refine lv_iconst (v := nI 0) hx hb d_D_findCandidate_142 (by decide) ?_
        refine lv_istore_n (lv' := [(3, .int (nI 0)), (1, .long by_), (0, .ref (ad 0))]) hx hb d_D_findCandidate_143 rfl hl (by decide) rfl (fun ls hl => ?_)
        have hl := lv_sub (l' := [(0, .ref (ad 0)), (1, .long by_), (3, .int (nI 0))]) hl [2, 1, 0] rfl
        refine for_ri (i0 := 0) (N := N) (st := (ax : Nat → Int64))
          (fun (i : Nat) (ax3 : Nat → Int64) => ∀ (H : Heap) (locs : List Loc) (ls : Array Slot), kw D A s.heap H locs (wD ad cI cJ P N O M (nI d) sv g pr1 ta fr fc fv ab au av aw ax3 ar ac af ak) → lv_has ls 4 [(0, .ref (ad 0)), (1, .long by_), (3, .int (nI i))] → W p l e (kr 1 27) s m args below meth c H locs 0 0 Z (F0 m 144 ls []))
          (fun (i : Nat) (ax3 : Nat → Int64) => ∀ j, j < N → ax3 j = if j < i then rmd (xK P M fr fc (fun k => (fv k).toInt64) ab ac d (d - 1) j * by_) (lN P) else xK P M fr fc (fun k => (fv k).toInt64) ab ac d (d - 1) j)
          (by omega) ?_ ?_ ?_ H locs ls hw hl
        · intro j hj
          rw [if_neg (by omega), hx1 j hj]
        · rintro i ax3 hi0 hi hJ ih2 H locs ls hw hl
          refine lv_iload_n hx hb d_D_findCandidate_144 rfl (lv_at hl 2 rfl) ?_
          refine lv_aload_n hx hb d_D_findCandidate_145 rfl (lv_at hl 0 rfl) ?_
          refine gD_n S hK hw rfl rfl d_D_findCandidate_146 ?_
          refine ky_ge (a := i) (b := N) (tgt := 178) hx hb (by omega) (by omega) d_D_findCandidate_149 (by decide) (fun h3 => absurd h3 (by omega)) (fun h3 => ?_)
          refine lv_aload_n hx hb d_D_findCandidate_152 rfl (lv_at hl 0 rfl) ?_
          refine gD_x S hK hw rfl rfl d_D_findCandidate_153 ?_
          refine lv_iload_n hx hb d_D_findCandidate_156 rfl (lv_at hl 2 rfl) ?_
          refine lv_aload_n hx hb d_D_findCandidate_157 rfl (lv_at hl 0 rfl) ?_
          refine gD_x S hK hw rfl rfl d_D_findCandidate_158 ?_
          refine lv_iload_n hx hb d_D_findCandidate_161 rfl (lv_at hl 2 rfl) ?_
          refine ky_lald S hK hw 8 rfl (by omega) (by omega) d_D_findCandidate_162 ?_
          refine lv_lload_n hx hb d_D_findCandidate_163 rfl (lv_at hl 1 rfl) ?_
          refine lv_lmul hx hb d_D_findCandidate_164 ?_
          refine lv_aload_n hx hb d_D_findCandidate_165 rfl (lv_at hl 0 rfl) ?_
          refine gD_p S hK hw rfl rfl d_D_findCandidate_166 ?_
          refine ky_i2l hx hb (by omega) d_D_findCandidate_169 ?_
          refine ky_lrem hx hb d_D_findCandidate_170 (lN_ne0 (by omega) (by omega)) ?_
          refine ky_last S hK hw 8 rfl (by omega) (by omega) d_D_findCandidate_171 (fun H locs hw => ?_)
          have hw : kw D A s.heap H locs (wD ad cI cJ P N O M (nI d) sv g pr1 ta fr fc fv ab au av aw (vp_updL ax3 i (rmd ((ax3 i) * by_) (lN P))) ar ac af ak) := hw
          refine lv_iinc (v := nI (i + 1)) (lv' := [(3, .int (nI (i + 1))), (0, .ref (ad 0)), (1, .long by_)]) hx hb d_D_findCandidate_172 hl (k := 2) rfl (nI_1 i) (by decide) rfl (fun ls hl => ?_)
          refine lv_goto (tgt := 144) hx hb d_D_findCandidate_175 (by decide) ?_
          have hl := lv_sub (l' := [(0, .ref (ad 0)), (1, .long by_), (3, .int (nI (i + 1)))]) hl [1, 2, 0] rfl
          refine ih2 _ (fun j hj => ?_) H locs ls hw hl
          by_cases q : j = i
          · rw [q, upL_s, if_pos (by omega), hJ i hi, if_neg (by omega)]
          · rw [upL_n q, hJ j hj]
            by_cases q2 : j < i
            · rw [if_pos q2, if_pos (by omega)]
            · rw [if_neg q2, if_neg (by omega)]
        · rintro ax3 hJ H locs ls hw hl
          refine lv_iload_n hx hb d_D_findCandidate_144 rfl (lv_at hl 2 rfl) ?_
          refine lv_aload_n hx hb d_D_findCandidate_145 rfl (lv_at hl 0 rfl) ?_
          refine gD_n S hK hw rfl rfl d_D_findCandidate_146 ?_
          refine ky_ge (a := N) (b := N) (tgt := 178) hx hb (by omega) (by omega) d_D_findCandidate_149 (by decide) (fun h3 => ?_) (fun h3 => absurd h3 (by omega))
          exact hret (_, _, _) ⟨hp1, fun j hj => by show ax3 j = _; rw [hJ j hj, if_pos hj, hby]⟩ hw d_D_findCandidate_178
      refine lv_aload_n hx hb d_D_findCandidate_111 rfl (lv_at hl 0 rfl) ?_
      refine gD_degree S hK hw rfl rfl d_D_findCandidate_112 ?_
      refine ky_ifne (tgt := 122) hx hb (by omega) d_D_findCandidate_115 (by decide) (fun h2 => ?_) (fun h2 => ?_)
      · refine lv_aload_n hx hb d_D_findCandidate_122 rfl (lv_at hl 0 rfl) ?_
        refine lv_aload_n hx hb d_D_findCandidate_123 rfl (lv_at hl 0 rfl) ?_
        refine lv_aload_n hx hb d_D_findCandidate_124 rfl (lv_at hl 0 rfl) ?_
        refine gD_now S hK hw rfl rfl d_D_findCandidate_125 ?_
        refine lv_aload_n hx hb d_D_findCandidate_128 rfl (lv_at hl 0 rfl) ?_
        refine gD_degree S hK hw rfl rfl d_D_findCandidate_129 ?_
        refine ky_lald S hK hw 10 rfl (by omega) (by omega) d_D_findCandidate_132 ?_
        refine ky_callVl (As := [.long (ac d)]) (rest := [.ref (ad 0)]) S hK hw hA hl.1 (c_D_inverse hP2 hP) k_D_118 rfl rfl rfl rfl ⟨Nat.le_of_ble_eq_true rfl, Nat.le_of_ble_eq_true rfl⟩ ⟨Nat.zero_le _, Nat.zero_le _⟩ rfl rfl (Nat.le_of_ble_eq_true rfl) d_D_findCandidate_133 (fun r u H locs hp hw => ?_)
        subst hp
        have hw : kw D A s.heap H locs (wD ad cI cJ P N O M (nI d) sv g pr1 ta fr fc fv ab au av aw ax ar ac af ak) := hw
        refine lv_lneg hx hb d_D_findCandidate_136 ?_
        refine ky_callVi (As := [.long (-(ivD P (ac d)))]) (rest := []) S hK hw hA hl.1 (c_D_mod hP2 hP) k_D_84 rfl rfl rfl rfl ⟨Nat.le_of_ble_eq_true rfl, Nat.le_of_ble_eq_true rfl⟩ ⟨Nat.zero_le _, Nat.zero_le _⟩ rfl rfl (Nat.le_of_ble_eq_true rfl) d_D_findCandidate_137 (fun r u H locs hp hw => ?_)
        subst hp
        have hw : kw D A s.heap H locs (wD ad cI cJ P N O M (nI d) sv g pr1 ta fr fc fv ab au av aw ax ar ac af ak) := hw
        refine lv_i2l hx hb d_D_findCandidate_140 rfl ?_
        exact key _ _ _ (by rw [if_neg h2]; exact md_wi hP2 hP _) hw
      · refine lv_lconst (v := 0) hx hb d_D_findCandidate_118 (by decide) ?_
        refine lv_goto (tgt := 141) hx hb d_D_findCandidate_119 (by decide) ?_
        exact key _ _ _ (by rw [if_pos h2]) hw
/-- isRight -/
theorem c_D_isRight  (h : okD P N O M fr fc) : CT l D (kt cI cJ) y_D_isRight b_D_isRight 3 (some .boolean) (kr 1 22) [.ref (ad 0)] (wD ad cI cJ P N O M dg sv g pr ta fr fc fv ab au av aw ax ar ac af ak) sz (QI D (kt cI cJ) (G := Int32 × (Nat → Int64) × (Nat → Int64)) (fun r u => r = bI (eqN N (muK P fr fc (fun k => (fv k).toInt64) ax M) ab) ∧ u.1 = pr + 1) (fun u => wD ad cI cJ P N O M dg sv g (u.1) ta fr fc fv ab au (u.2.1) (u.2.2) ax ar ac af ak)) := by
  refine ct_bool (by decide) (Nat.le_of_ble_eq_true rfl) ?_
  intro p e s m args below meth c A ls Z S hA hK hw hl hret
  have S : CallFix p m c b_D_isRight 3 s args lw_g R_D := S
  have hx := S.1
  have hb := S.2.1
  have hown := S.2.2.2.1
  have hts := S.2.2.2.2
  have hl : lv_has ls 3 [(0, .ref (ad 0))] := hl
  obtain ⟨hP2, hP, hN1, hN, hO1, hO, hM, hrc⟩ := h
  have hok : okD P N O M fr fc := ⟨hP2, hP, hN1, hN, hO1, hO, hM, hrc⟩
  refine lv_iconst (v := nI 0) hx hb d_D_isRight_0 (by decide) ?_
  refine lv_istore_n (lv' := [(1, .int (nI 0)), (0, .ref (ad 0))]) hx hb d_D_isRight_1 rfl hl (by decide) rfl (fun ls hl => ?_)
  have hl := lv_sub (l' := [(0, .ref (ad 0)), (1, .int (nI 0))]) hl [1, 0] rfl
  refine for_ri (i0 := 0) (N := N) (st := (av : Nat → Int64))
    (fun (i : Nat) (av : Nat → Int64) => ∀ (H : Heap) (locs : List Loc) (ls : Array Slot), kw D A s.heap H locs (wD ad cI cJ P N O M dg sv g pr ta fr fc fv ab au av aw ax ar ac af ak) → lv_has ls 3 [(0, .ref (ad 0)), (1, .int (nI i))] → W p l e (kr 1 22) s m args below meth c H locs 0 0 Z (F0 m 2 ls []))
    (fun (i : Nat) (av : Nat → Int64) => ∀ j, j < i → av j = ax j)
    (by omega) ?_ ?_ ?_ s.heap [] ls hw hl
  · exact fun j hj => absurd hj (by omega)
  · rintro i av hi0 hi hI ih H locs ls hw hl
    refine lv_iload_n hx hb d_D_isRight_2 rfl (lv_at hl 1 rfl) ?_
    refine lv_aload_n hx hb d_D_isRight_3 rfl (lv_at hl 0 rfl) ?_
    refine gD_n S hK hw rfl rfl d_D_isRight_4 ?_
    refine ky_ge (a := i) (b := N) (tgt := 28) hx hb (by omega) (by omega) d_D_isRight_7 (by decide) (fun h => absurd h (by omega)) (fun h => ?_)
    refine lv_aload_n hx hb d_D_isRight_10 rfl (lv_at hl 0 rfl) ?_
    refine gD_v S hK hw rfl rfl d_D_isRight_11 ?_
    refine lv_iload_n hx hb d_D_isRight_14 rfl (lv_at hl 1 rfl) ?_
    refine lv_aload_n hx hb d_D_isRight_15 rfl (lv_at hl 0 rfl) ?_
    refine gD_x S hK hw rfl rfl d_D_isRight_16 ?_
    refine lv_iload_n hx hb d_D_isRight_19 rfl (lv_at hl 1 rfl) ?_
    refine ky_lald S hK hw 8 rfl (by omega) (by omega) d_D_isRight_20 ?_
    refine ky_last S hK hw 6 rfl (by omega) (by omega) d_D_isRight_21 (fun H locs hw => ?_)
    have hw : kw D A s.heap H locs (wD ad cI cJ P N O M dg sv g pr ta fr fc fv ab au (vp_updL av i (ax i)) aw ax ar ac af ak) := hw
    refine lv_iinc (v := nI (i + 1)) (lv' := [(1, .int (nI (i + 1))), (0, .ref (ad 0))]) hx hb d_D_isRight_22 hl (k := 1) rfl (nI_1 i) (by decide) rfl (fun ls hl => ?_)
    refine lv_goto (tgt := 2) hx hb d_D_isRight_25 (by decide) ?_
    have hl := lv_sub (l' := [(0, .ref (ad 0)), (1, .int (nI (i + 1)))]) hl [1, 0] rfl
    refine ih _ (fun j hj => ?_) H locs ls hw hl
    rcases Nat.lt_or_ge j i with q | q
    · rw [upL_n (by omega)]; exact hI j q
    · have e : j = i := by omega
      rw [e, upL_s]
  · rintro av hI H locs ls hw hl
    refine lv_iload_n hx hb d_D_isRight_2 rfl (lv_at hl 1 rfl) ?_
    refine lv_aload_n hx hb d_D_isRight_3 rfl (lv_at hl 0 rfl) ?_
    refine gD_n S hK hw rfl rfl d_D_isRight_4 ?_
    refine ky_ge (a := N) (b := N) (tgt := 28) hx hb (by omega) (by omega) d_D_isRight_7 (by decide) (fun h => ?_) (fun h => absurd h (by omega))
    refine lv_aload_n hx hb d_D_isRight_28 rfl (lv_at hl 0 rfl) ?_
    refine lv_aload_n hx hb d_D_isRight_29 rfl (lv_at hl 0 rfl) ?_
    refine gD_v S hK hw rfl rfl d_D_isRight_30 ?_
    refine ky_callVv (As := [.ref (ad 6)]) (rest := []) S hK hw hA hl.1 (c_D_multiply_v hok) k_D_104 rfl rfl rfl rfl ⟨Nat.le_of_ble_eq_true rfl, Nat.le_of_ble_eq_true rfl⟩ ⟨Nat.zero_le _, Nat.zero_le _⟩ rfl rfl (Nat.le_of_ble_eq_true rfl) d_D_isRight_33 (fun u H locs hp hw => ?_)
    obtain ⟨pr2, aw2, av2⟩ := u
    obtain ⟨hp2, hv2⟩ := hp
    dsimp only at hp2 hv2
    rw [muK_congr hrc hI] at hv2
    have hw : kw D A s.heap H locs (wD ad cI cJ P N O M dg sv g pr2 ta fr fc fv ab au av2 aw2 ax ar ac af ak) := hw
    refine lv_iconst (v := nI 1) hx hb d_D_isRight_36 (by decide) ?_
    refine ky_ti (y := bI (eqN 0 (muK P fr fc (fun k => (fv k).toInt64) ax M) ab)) (by rw [eqN_0]; rfl) ?_
    refine lv_istore_n (lv' := [(1, .int (bI (eqN 0 (muK P fr fc (fun k => (fv k).toInt64) ax M) ab))), (0, .ref (ad 0))]) hx hb d_D_isRight_37 rfl hl (by decide) rfl (fun ls hl => ?_)
    refine lv_iconst (v := nI 0) hx hb d_D_isRight_38 (by decide) ?_
    refine lv_istore_n (lv' := [(2, .int (nI 0)), (1, .int (bI (eqN 0 (muK P fr fc (fun k => (fv k).toInt64) ax M) ab))), (0, .ref (ad 0))]) hx hb d_D_isRight_39 rfl hl (by decide) rfl (fun ls hl => ?_)
    have hl := lv_sub (l' := [(0, .ref (ad 0)), (1, .int (bI (eqN 0 (muK P fr fc (fun k => (fv k).toInt64) ax M) ab))), (2, .int (nI 0))]) hl [2, 1, 0] rfl
    refine for_ri (i0 := 0) (N := N) (st := (eqN 0 (muK P fr fc (fun k => (fv k).toInt64) ax M) ab : Bool))
      (fun (i : Nat) (rt : Bool) => ∀ (H : Heap) (locs : List Loc) (ls : Array Slot), kw D A s.heap H locs (wD ad cI cJ P N O M dg sv g pr2 ta fr fc fv ab au av2 aw2 ax ar ac af ak) → lv_has ls 3 [(0, .ref (ad 0)), (1, .int (bI rt)), (2, .int (nI i))] → W p l e (kr 1 22) s m args below meth c H locs 0 0 Z (F0 m 40 ls []))
      (fun (i : Nat) (rt : Bool) => rt = eqN i (muK P fr fc (fun k => (fv k).toInt64) ax M) ab)
      (by omega) ?_ ?_ ?_ H locs ls hw hl
    · rfl
    · rintro i rt hi0 hi hJ ih2 H locs ls hw hl
      refine lv_iload_n hx hb d_D_isRight_40 rfl (lv_at hl 2 rfl) ?_
      refine lv_aload_n hx hb d_D_isRight_41 rfl (lv_at hl 0 rfl) ?_
      refine gD_n S hK hw rfl rfl d_D_isRight_42 ?_
      refine ky_ge (a := i) (b := N) (tgt := 78) hx hb (by omega) (by omega) d_D_isRight_45 (by decide) (fun h3 => absurd h3 (by omega)) (fun h3 => ?_)
      refine lv_iload_n hx hb d_D_isRight_48 rfl (lv_at hl 1 rfl) ?_
      refine lv_aload_n hx hb d_D_isRight_49 rfl (lv_at hl 0 rfl) ?_
      refine gD_v S hK hw rfl rfl d_D_isRight_50 ?_
      refine lv_iload_n hx hb d_D_isRight_53 rfl (lv_at hl 2 rfl) ?_
      refine ky_lald S hK hw 6 rfl (by omega) (by omega) d_D_isRight_54 ?_
      refine lv_aload_n hx hb d_D_isRight_55 rfl (lv_at hl 0 rfl) ?_
      refine gD_b S hK hw rfl rfl d_D_isRight_56 ?_
      refine lv_iload_n hx hb d_D_isRight_59 rfl (lv_at hl 2 rfl) ?_
      refine ky_lald S hK hw 4 rfl (by omega) (by omega) d_D_isRight_60 ?_
      refine W.lcmp hx hb d_D_isRight_61 ?_
      refine ky_lne (tgt := 69) hx hb d_D_isRight_62 (by decide) (fun h4 => ?_) (fun h4 => ?_)
      · refine lv_iconst (v := nI 0) hx hb d_D_isRight_69 (by decide) ?_
        refine lv_iand hx hb d_D_isRight_70 ?_
        refine ky_ti (y := bI (eqN (i + 1) (muK P fr fc (fun k => (fv k).toInt64) ax M) ab)) (by rw [bI_and0, ← eqN_s, ← hJ, ← hv2 i hi, decide_eq_false h4, Bool.and_false]) ?_
        refine lv_istore_n (lv' := [(1, .int (bI (eqN (i + 1) (muK P fr fc (fun k => (fv k).toInt64) ax M) ab))), (0, .ref (ad 0)), (2, .int (nI i))]) hx hb d_D_isRight_71 rfl hl (by decide) rfl (fun ls hl => ?_)
        refine lv_iinc (v := nI (i + 1)) (lv' := [(2, .int (nI (i + 1))), (1, .int (bI (eqN (i + 1) (muK P fr fc (fun k => (fv k).toInt64) ax M) ab))), (0, .ref (ad 0))]) hx hb d_D_isRight_72 hl (k := 2) rfl (nI_1 i) (by decide) rfl (fun ls hl => ?_)
        refine lv_goto (tgt := 40) hx hb d_D_isRight_75 (by decide) ?_
        have hl := lv_sub (l' := [(0, .ref (ad 0)), (1, .int (bI (eqN (i + 1) (muK P fr fc (fun k => (fv k).toInt64) ax M) ab))), (2, .int (nI (i + 1)))]) hl [2, 1, 0] rfl
        exact ih2 _ rfl H locs ls hw hl
      · refine lv_iconst (v := nI 1) hx hb d_D_isRight_65 (by decide) ?_
        refine lv_goto (tgt := 70) hx hb d_D_isRight_66 (by decide) ?_
        refine lv_iand hx hb d_D_isRight_70 ?_
        refine ky_ti (y := bI (eqN (i + 1) (muK P fr fc (fun k => (fv k).toInt64) ax M) ab)) (by rw [bI_and1, ← eqN_s, ← hJ, ← hv2 i hi, decide_eq_true h4, Bool.and_true]) ?_
        refine lv_istore_n (lv' := [(1, .int (bI (eqN (i + 1) (muK P fr fc (fun k => (fv k).toInt64) ax M) ab))), (0, .ref (ad 0)), (2, .int (nI i))]) hx hb d_D_isRight_71 rfl hl (by decide) rfl (fun ls hl => ?_)
        refine lv_iinc (v := nI (i + 1)) (lv' := [(2, .int (nI (i + 1))), (1, .int (bI (eqN (i + 1) (muK P fr fc (fun k => (fv k).toInt64) ax M) ab))), (0, .ref (ad 0))]) hx hb d_D_isRight_72 hl (k := 2) rfl (nI_1 i) (by decide) rfl (fun ls hl => ?_)
        refine lv_goto (tgt := 40) hx hb d_D_isRight_75 (by decide) ?_
        have hl := lv_sub (l' := [(0, .ref (ad 0)), (1, .int (bI (eqN (i + 1) (muK P fr fc (fun k => (fv k).toInt64) ax M) ab))), (2, .int (nI (i + 1)))]) hl [2, 1, 0] rfl
        exact ih2 _ rfl H locs ls hw hl
    · rintro rt hJ H locs ls hw hl
      refine lv_iload_n hx hb d_D_isRight_40 rfl (lv_at hl 2 rfl) ?_
      refine lv_aload_n hx hb d_D_isRight_41 rfl (lv_at hl 0 rfl) ?_
      refine gD_n S hK hw rfl rfl d_D_isRight_42 ?_
      refine ky_ge (a := N) (b := N) (tgt := 78) hx hb (by omega) (by omega) d_D_isRight_45 (by decide) (fun h3 => ?_) (fun h3 => absurd h3 (by omega))
      refine lv_iload_n hx hb d_D_isRight_78 rfl (lv_at hl 1 rfl) ?_
      exact hret (_, _, _) ⟨by rw [hJ], hp2⟩ hw d_D_isRight_79
/-- attempt -/
theorem c_D_attempt {T : TS} (h : okD P N O M fr fc) (hT : relT N T g pr ta ar ac dg sv ax) : CT l D (kt cI cJ) y_D_attempt b_D_attempt 1 (some .int) (kr 3 69) [.ref (ad 0)] (wD ad cI cJ P N O M dg sv g pr ta fr fc fv ab au av aw ax ar ac af ak) sz (QI D (kt cI cJ) (G := Int64 × Int32 × Int32 × (Nat → Int64) × (Nat → Int64) × Int32 × Bool × (Nat → Int64) × (Nat → Int64) × (Nat → Int64) × (Nat → Int64) × (Nat → Int64) × (Nat → Int64)) (fun r u => r = attDR P N M fr fc (fun k => (fv k).toInt64) ab T ∧ relT N (attD P N M fr fc (fun k => (fv k).toInt64) ab T) u.1 u.2.1 u.2.2.1 u.2.2.2.1 u.2.2.2.2.1 u.2.2.2.2.2.1 u.2.2.2.2.2.2.1 u.2.2.2.2.2.2.2.1) (fun u => wD ad cI cJ P N O M (u.2.2.2.2.2.1) (u.2.2.2.2.2.2.1) (u.1) (u.2.1) (u.2.2.1) fr fc fv ab (u.2.2.2.2.2.2.2.2.1) (u.2.2.2.2.2.2.2.2.2.1) (u.2.2.2.2.2.2.2.2.2.2.1) (u.2.2.2.2.2.2.2.1) (u.2.2.2.1) (u.2.2.2.2.1) (u.2.2.2.2.2.2.2.2.2.2.2.1) (u.2.2.2.2.2.2.2.2.2.2.2.2))) := by
  refine ct_int (by decide) (Nat.le_of_ble_eq_true rfl) ?_
  intro p e s m args below meth c A ls Z S hA hK hw hl hret
  have S : CallFix p m c b_D_attempt 1 s args lw_g R_D := S
  have hx := S.1
  have hb := S.2.1
  have hown := S.2.2.2.1
  have hts := S.2.2.2.2
  have hl : lv_has ls 1 [(0, .ref (ad 0))] := hl
  obtain ⟨hP2, hP, hN1, hN, hO1, hO, hM, hrc⟩ := h
  have hok : okD P N O M fr fc := ⟨hP2, hP, hN1, hN, hO1, hO, hM, hrc⟩
  obtain ⟨hT1, hT2, hT3, hT4, hT5, hT6, hT7, hT8⟩ := hT
  refine lv_aload_n hx hb d_D_attempt_0 rfl (lv_at hl 0 rfl) ?_
  refine lv_dup hx hb d_D_attempt_1 rfl ?_
  refine gD_attempts S hK hw rfl rfl d_D_attempt_2 ?_
  refine lv_iconst (v := nI 1) hx hb d_D_attempt_5 (by decide) ?_
  refine lv_iadd hx hb d_D_attempt_6 ?_
  refine pD_attempts S hK hw rfl (Nat.le_of_ble_eq_true rfl) d_D_attempt_7 (fun H locs hw => ?_)
  have hw : kw D A s.heap H locs (wD ad cI cJ P N O M dg sv g pr (ta + (nI 1)) fr fc fv ab au av aw ax ar ac af ak) := hw
  refine lv_aload_n hx hb d_D_attempt_10 rfl (lv_at hl 0 rfl) ?_
  refine lv_iconst (v := nI 0) hx hb d_D_attempt_11 (by decide) ?_
  refine ky_ti (y := bI false) (rfl) ?_
  refine pD_solved (v := false) S hK hw rfl (Nat.le_of_ble_eq_true rfl) d_D_attempt_12 (fun H locs hw => ?_)
  have hw : kw D A s.heap H locs (wD ad cI cJ P N O M dg false g pr (ta + (nI 1)) fr fc fv ab au av aw ax ar ac af ak) := hw
  refine lv_aload_n hx hb d_D_attempt_15 rfl (lv_at hl 0 rfl) ?_
  refine ky_callVv (As := []) (rest := []) S hK hw hA hl.1 (c_D_drawRow hok) k_D_125 rfl rfl rfl rfl ⟨Nat.le_of_ble_eq_true rfl, Nat.le_of_ble_eq_true rfl⟩ ⟨Nat.zero_le _, Nat.zero_le _⟩ rfl rfl (Nat.le_of_ble_eq_true rfl) d_D_attempt_16 (fun u H locs hp hw => ?_)
  obtain ⟨g1, pr1, au1, av1, aw1, ar1⟩ := u
  obtain ⟨hg1, hp1, hr1⟩ := hp
  dsimp only at hg1 hp1 hr1
  have hw : kw D A s.heap H locs (wD ad cI cJ P N O M dg false g1 pr1 (ta + (nI 1)) fr fc fv ab au1 av1 aw1 ax ar1 ac af ak) := hw
  refine lv_aload_n hx hb d_D_attempt_19 rfl (lv_at hl 0 rfl) ?_
  refine ky_callVv (As := []) (rest := []) S hK hw hA hl.1 (c_D_findRecurrence hok) k_D_128 rfl rfl rfl rfl ⟨Nat.le_of_ble_eq_true rfl, Nat.le_of_ble_eq_true rfl⟩ ⟨Nat.zero_le _, Nat.zero_le _⟩ rfl rfl (Nat.le_of_ble_eq_true rfl) d_D_attempt_20 (fun u H locs hp hw => ?_)
  obtain ⟨dg1, ac1, af1, ak1⟩ := u
  obtain ⟨hd1, hc1, hl1⟩ := hp
  dsimp only at hd1 hc1 hl1
  have hrow : ∀ k, k < 2 * N → ar1 k = rowA P N M fr fc (fun k => (fv k).toInt64) ab gD (fun g => (dD P g).toInt64) T.1 k := fun k hk => by rw [hT1]; exact hr1 k hk
  rw [bm_congr hrow] at hd1 hc1 hl1
  obtain ⟨q, hq⟩ : ∃ q, q = bm P (ivD P) (rowA P N M fr fc (fun k => (fv k).toInt64) ab gD (fun g => (dD P g).toInt64) T.1) (2 * N) := ⟨_, rfl⟩
  rw [← hq] at hd1 hc1 hl1
  obtain ⟨d, hd⟩ : ∃ d, d = q.2.2.1 := ⟨_, rfl⟩
  rw [← hd] at hd1 hl1
  subst hd1
  have hw : kw D A s.heap H locs (wD ad cI cJ P N O M (nI d) false g1 pr1 (ta + (nI 1)) fr fc fv ab au1 av1 aw1 ax ar1 ac1 af1 ak1) := hw
  have hA1 : attD P N M fr fc (fun k => (fv k).toInt64) ab T = attQ P N M fr fc (fun k => (fv k).toInt64) ab gD (ivD P) (fun c => wi P (-(ivD P c))) (rowA P N M fr fc (fun k => (fv k).toInt64) ab gD (fun g => (dD P g).toInt64) T.1) q T := by rw [hq]; rfl
  have hA2 : attDR P N M fr fc (fun k => (fv k).toInt64) ab T = if badA q then 3 else if svA P N M fr fc (fun k => (fv k).toInt64) ab (fun c => wi P (-(ivD P c))) q then 0 else 4 := by rw [hq]; rfl
  refine lv_aload_n hx hb d_D_attempt_23 rfl (lv_at hl 0 rfl) ?_
  refine gD_degree S hK hw rfl rfl d_D_attempt_24 ?_
  have key : badA q = false → W p l e (kr 3 69) s m args below meth c H locs 0 0 Z (F0 m 46 ls []) := by
    intro hbad
    refine lv_aload_n hx hb d_D_attempt_46 rfl (lv_at hl 0 rfl) ?_
    refine ky_callVv (As := []) (rest := []) S hK hw hA hl.1 (c_D_findCandidate hok (d := d) (by omega)) k_D_131 rfl rfl rfl rfl ⟨Nat.le_of_ble_eq_true rfl, Nat.le_of_ble_eq_true rfl⟩ ⟨Nat.zero_le _, Nat.zero_le _⟩ rfl rfl (Nat.le_of_ble_eq_true rfl) d_D_attempt_47 (fun u H locs hp hw => ?_)
    obtain ⟨pr2, aw2, ax2⟩ := u
    obtain ⟨hp2, hx2⟩ := hp
    dsimp only at hp2 hx2
    have hw : kw D A s.heap H locs (wD ad cI cJ P N O M (nI d) false g1 pr2 (ta + (nI 1)) fr fc fv ab au1 av1 aw2 ax2 ar1 ac1 af1 ak1) := hw
    refine lv_aload_n hx hb d_D_attempt_50 rfl (lv_at hl 0 rfl) ?_
    refine lv_aload_n hx hb d_D_attempt_51 rfl (lv_at hl 0 rfl) ?_
    refine ky_callVi (As := []) (rest := [.ref (ad 0)]) S hK hw hA hl.1 (c_D_isRight hok) k_D_134 rfl rfl rfl rfl ⟨Nat.le_of_ble_eq_true rfl, Nat.le_of_ble_eq_true rfl⟩ ⟨Nat.zero_le _, Nat.zero_le _⟩ rfl rfl (Nat.le_of_ble_eq_true rfl) d_D_attempt_52 (fun r u H locs hp hw => ?_)
    obtain ⟨pr3, av3, aw3⟩ := u
    obtain ⟨hr3, hp3⟩ := hp
    dsimp only at hr3 hp3
    have hxA : ∀ j, j < N → ax2 j = xA P M fr fc (fun k => (fv k).toInt64) ab (fun c => wi P (-(ivD P c))) q j := by
      intro j hj
      rw [hx2 j hj, hc1 d (by omega), xK_congr hc1 _ (by omega), hd]
      rfl
    rw [muK_congr hrc hxA] at hr3
    have hsv : svA P N M fr fc (fun k => (fv k).toInt64) ab (fun c => wi P (-(ivD P c))) q = eqN N (muK P fr fc (fun k => (fv k).toInt64) (xA P M fr fc (fun k => (fv k).toInt64) ab (fun c => wi P (-(ivD P c))) q) M) ab := by unfold svA; rw [hbad]; rfl
    rw [← hsv] at hr3
    subst hr3
    have hw : kw D A s.heap H locs (wD ad cI cJ P N O M (nI d) false g1 pr3 (ta + (nI 1)) fr fc fv ab au1 av3 aw3 ax2 ar1 ac1 af1 ak1) := hw
    refine pD_solved (v := svA P N M fr fc (fun k => (fv k).toInt64) ab (fun c => wi P (-(ivD P c))) q) S hK hw rfl (Nat.le_of_ble_eq_true rfl) d_D_attempt_55 (fun H locs hw => ?_)
    have hw : kw D A s.heap H locs (wD ad cI cJ P N O M (nI d) (svA P N M fr fc (fun k => (fv k).toInt64) ab (fun c => wi P (-(ivD P c))) q) g1 pr3 (ta + (nI 1)) fr fc fv ab au1 av3 aw3 ax2 ar1 ac1 af1 ak1) := hw
    refine lv_aload_n hx hb d_D_attempt_58 rfl (lv_at hl 0 rfl) ?_
    refine gD_solved S hK hw rfl rfl d_D_attempt_59 ?_
    refine ky_beq (tgt := 69) hx hb d_D_attempt_62 (by decide) (fun h5 => ?_) (fun h5 => ?_)
    · refine lv_iconst (v := nI 4) hx hb d_D_attempt_69 (by decide) ?_
      refine hret (_, _, _, _, _, nI d, _, _, _, _, _, _, _) ⟨?_, ?_⟩ hw d_D_attempt_70
      · rw [hA2, hbad, h5]; rfl
      · rw [hA1]
        refine ⟨by rw [hg1, ← hT1]; rfl, ?_, by rw [← hT3]; rfl, hrow, fun j hj => hc1 j hj, by rw [hd]; rfl, rfl, ?_⟩
        · show (if badA q then _ else _) = _
          rw [hbad, hp3, hp2, hp1, hT2, hd]; rfl
        · intro j hj
          show _ = (if badA q then T.2.2.2.2.2.2.2 else xA P M fr fc (fun k => (fv k).toInt64) ab (fun c => wi P (-(ivD P c))) q) j
          rw [hbad]; exact hxA j hj
    · refine lv_iconst (v := nI 0) hx hb d_D_attempt_65 (by decide) ?_
      refine lv_goto (tgt := 70) hx hb d_D_attempt_66 (by decide) ?_
      refine hret (_, _, _, _, _, nI d, _, _, _, _, _, _, _) ⟨?_, ?_⟩ hw d_D_attempt_70
      · rw [hA2, hbad, h5]; rfl
      · rw [hA1]
        refine ⟨by rw [hg1, ← hT1]; rfl, ?_, by rw [← hT3]; rfl, hrow, fun j hj => hc1 j hj, by rw [hd]; rfl, rfl, ?_⟩
        · show (if badA q then _ else _) = _
          rw [hbad, hp3, hp2, hp1, hT2, hd]; rfl
        · intro j hj
          show _ = (if badA q then T.2.2.2.2.2.2.2 else xA P M fr fc (fun k => (fv k).toInt64) ab (fun c => wi P (-(ivD P c))) q) j
          rw [hbad]; exact hxA j hj
  refine ky_ifle (tgt := 46) hx hb (by omega) d_D_attempt_27 (by decide) (fun h3 => ?_) (fun h3 => ?_)
  · exact key (decide_eq_false (fun h4 => by have h5 := h4.1; omega))
  · refine lv_aload_n hx hb d_D_attempt_30 rfl (lv_at hl 0 rfl) ?_
    refine gD_now S hK hw rfl rfl d_D_attempt_31 ?_
    refine lv_aload_n hx hb d_D_attempt_34 rfl (lv_at hl 0 rfl) ?_
    refine gD_degree S hK hw rfl rfl d_D_attempt_35 ?_
    refine ky_lald S hK hw 10 rfl (by omega) (by omega) d_D_attempt_38 ?_
    refine lv_lconst (v := 0) hx hb d_D_attempt_39 (by decide) ?_
    refine W.lcmp hx hb d_D_attempt_40 ?_
    refine ky_lne (tgt := 46) hx hb d_D_attempt_41 (by decide) (fun h4 => ?_) (fun h4 => ?_)
    · exact key (decide_eq_false (fun h5 => h4 (by rw [hc1 d (by omega), hd]; exact h5.2)))
    · have hbad : badA q = true := decide_eq_true ⟨by omega, by rw [← hd, ← hc1 d (by omega)]; exact h4⟩
      refine lv_iconst (v := nI 3) hx hb d_D_attempt_44 (by decide) ?_
      refine hret (_, _, _, _, _, nI d, false, _, _, _, _, _, _) ⟨?_, ?_⟩ hw d_D_attempt_45
      · rw [hA2, hbad]; rfl
      · rw [hA1]
        refine ⟨by rw [hg1, ← hT1]; rfl, ?_, by rw [← hT3]; rfl, hrow, fun j hj => hc1 j hj, by rw [hd]; rfl, ?_, ?_⟩
        · show (if badA q then _ else _) = _
          rw [hbad, hp1, hT2]; rfl
        · show svA P N M fr fc (fun k => (fv k).toInt64) ab (fun c => wi P (-(ivD P c))) q = false
          unfold svA; rw [hbad]; rfl
        · intro j hj
          show _ = (if badA q then T.2.2.2.2.2.2.2 else xA P M fr fc (fun k => (fv k).toInt64) ab (fun c => wi P (-(ivD P c))) q) j
          rw [hbad]; exact hT8 j hj
end
end
section
section
variable {l : Launch} {D : va_G} {cI cJ : ClassId} {ad : Nat → Nat} {sz P N O M : Nat} {dg : Int32} {sv : Bool} {g : Int64} {pr ta : Int32} {fr fc : Nat → Nat} {fv : Nat → Int32} {ab au av aw ax ar ac af ak : Nat → Int64}
/-- solve -/
theorem c_D_solve {T : TS} {k : Int32} (h : okD P N O M fr fc) (hT : relT N T g pr ta ar ac dg sv ax) : CT l D (kt cI cJ) y_D_solve b_D_solve 4 (some .int) (kr 4 89) [.ref (ad 0), .int k] (wD ad cI cJ P N O M dg sv g pr ta fr fc fv ab au av aw ax ar ac af ak) sz (QI D (kt cI cJ) (G := Int64 × Int32 × Int32 × (Nat → Int64) × (Nat → Int64) × Int32 × Bool × (Nat → Int64) × (Nat → Int64) × (Nat → Int64) × (Nat → Int64) × (Nat → Int64) × (Nat → Int64)) (fun r u => r = (sol (attD P N M fr fc (fun k => (fv k).toInt64) ab) (attDR P N M fr fc (fun k => (fv k).toInt64) ab) k T).1 ∧ relT N (sol (attD P N M fr fc (fun k => (fv k).toInt64) ab) (attDR P N M fr fc (fun k => (fv k).toInt64) ab) k T).2 u.1 u.2.1 u.2.2.1 u.2.2.2.1 u.2.2.2.2.1 u.2.2.2.2.2.1 u.2.2.2.2.2.2.1 u.2.2.2.2.2.2.2.1) (fun u => wD ad cI cJ P N O M (u.2.2.2.2.2.1) (u.2.2.2.2.2.2.1) (u.1) (u.2.1) (u.2.2.1) fr fc fv ab (u.2.2.2.2.2.2.2.2.1) (u.2.2.2.2.2.2.2.2.2.1) (u.2.2.2.2.2.2.2.2.2.2.1) (u.2.2.2.2.2.2.2.1) (u.2.2.2.1) (u.2.2.2.2.1) (u.2.2.2.2.2.2.2.2.2.2.2.1) (u.2.2.2.2.2.2.2.2.2.2.2.2))) := by
  refine ct_int (by decide) (Nat.le_of_ble_eq_true rfl) ?_
  intro p e s m args below meth c A ls Z S hA hK hw hl hret
  have S : CallFix p m c b_D_solve 4 s args lw_g R_D := S
  have hx := S.1
  have hb := S.2.1
  have hown := S.2.2.2.1
  have hts := S.2.2.2.2
  have hl : lv_has ls 4 [(0, .ref (ad 0)), (1, .int k)] := hl
  obtain ⟨hP2, hP, hN1, hN, hO1, hO, hM, hrc⟩ := h
  have hok : okD P N O M fr fc := ⟨hP2, hP, hN1, hN, hO1, hO, hM, hrc⟩
  refine lv_iload_n hx hb d_D_solve_0 rfl (lv_at hl 1 rfl) ?_
  refine lv_iconst (v := nI 1) hx hb d_D_solve_1 (by decide) ?_
  refine lv_bipush (v := nI 50) hx hb d_D_solve_2 (by decide) ?_
  refine ky_callSi (As := [.int k, .int (nI 1), .int (nI 50)]) (rest := []) S hK hw hA hl.1 (c_D_within) k_D_77 rfl rfl ⟨Nat.le_of_ble_eq_true rfl, Nat.le_of_ble_eq_true rfl⟩ ⟨Nat.zero_le _, Nat.zero_le _⟩ rfl rfl (Nat.le_of_ble_eq_true rfl) d_D_solve_4 (fun r u H locs hp hw => ?_)
  subst hp
  have hw : kw D A s.heap H locs (wD ad cI cJ P N O M dg sv g pr ta fr fc fv ab au av aw ax ar ac af ak) := hw
  refine ky_bne (tgt := 12) hx hb d_D_solve_7 (by decide) (fun h1 => ?_) (fun h1 => ?_)
  · obtain ⟨n, hn1, hn2, rfl⟩ := wth_n (by omega) (by omega) h1
    have hs : sol (attD P N M fr fc (fun k => (fv k).toInt64) ab) (attDR P N M fr fc (fun k => (fv k).toInt64) ab) (nI n) T = slv (attD P N M fr fc (fun k => (fv k).toInt64) ab) (attDR P N M fr fc (fun k => (fv k).toInt64) ab) (n - 1) (attDR P N M fr fc (fun k => (fv k).toInt64) ab T) (attD P N M fr fc (fun k => (fv k).toInt64) ab T) := by unfold sol; rw [if_pos h1, nI_c (by omega)]
    rw [hs] at hret
    refine lv_aload_n hx hb d_D_solve_12 rfl (lv_at hl 0 rfl) ?_
    refine ky_callVi (As := []) (rest := []) S hK hw hA hl.1 (c_D_attempt hok hT) k_D_138 rfl rfl rfl rfl ⟨Nat.le_of_ble_eq_true rfl, Nat.le_of_ble_eq_true rfl⟩ ⟨Nat.zero_le _, Nat.zero_le _⟩ rfl rfl (Nat.le_of_ble_eq_true rfl) d_D_solve_13 (fun told u H locs hp hw => ?_)
    obtain ⟨g1, pr1, ta1, ar1, ac1, dg1, sv1, ax1, au1, av1, aw1, af1, ak1⟩ := u
    obtain ⟨htold, hT1⟩ := hp
    dsimp only at hT1
    have hw : kw D A s.heap H locs (wD ad cI cJ P N O M dg1 sv1 g1 pr1 ta1 fr fc fv ab au1 av1 aw1 ax1 ar1 ac1 af1 ak1) := hw
    rw [← htold] at hret
    refine lv_istore_n (lv' := [(2, .int told), (0, .ref (ad 0)), (1, .int (nI n))]) hx hb d_D_solve_16 rfl hl (by decide) rfl (fun ls hl => ?_)
    refine lv_iconst (v := nI 1) hx hb d_D_solve_17 (by decide) ?_
    refine lv_istore_n (lv' := [(3, .int (nI 1)), (2, .int told), (0, .ref (ad 0)), (1, .int (nI n))]) hx hb d_D_solve_18 rfl hl (by decide) rfl (fun ls hl => ?_)
    have hl := lv_sub (l' := [(0, .ref (ad 0)), (1, .int (nI n)), (2, .int told), (3, .int (nI 1))]) hl [2, 3, 1, 0] rfl
    refine for_ri (i0 := 1) (N := n) (st := ((g1, pr1, ta1, ar1, ac1, dg1, sv1, ax1, au1, av1, aw1, af1, ak1, told, attD P N M fr fc (fun k => (fv k).toInt64) ab T) : Int64 × Int32 × Int32 × (Nat → Int64) × (Nat → Int64) × Int32 × Bool × (Nat → Int64) × (Nat → Int64) × (Nat → Int64) × (Nat → Int64) × (Nat → Int64) × (Nat → Int64) × Int32 × TS))
      (fun (i : Nat) (st : Int64 × Int32 × Int32 × (Nat → Int64) × (Nat → Int64) × Int32 × Bool × (Nat → Int64) × (Nat → Int64) × (Nat → Int64) × (Nat → Int64) × (Nat → Int64) × (Nat → Int64) × Int32 × TS) => match st with | (g2, pr2, ta2, ar2, ac2, dg2, sv2, ax2, au2, av2, aw2, af2, ak2, told2, T2) => ∀ (H : Heap) (locs : List Loc) (ls : Array Slot), kw D A s.heap H locs (wD ad cI cJ P N O M dg2 sv2 g2 pr2 ta2 fr fc fv ab au2 av2 aw2 ax2 ar2 ac2 af2 ak2) → lv_has ls 4 [(0, .ref (ad 0)), (1, .int (nI n)), (2, .int told2), (3, .int (nI i))] → W p l e (kr 4 89) s m args below meth c H locs 0 0 Z (F0 m 19 ls []))
      (fun (i : Nat) (st : Int64 × Int32 × Int32 × (Nat → Int64) × (Nat → Int64) × Int32 × Bool × (Nat → Int64) × (Nat → Int64) × (Nat → Int64) × (Nat → Int64) × (Nat → Int64) × (Nat → Int64) × Int32 × TS) => match st with | (g2, pr2, ta2, ar2, ac2, dg2, sv2, ax2, au2, av2, aw2, af2, ak2, told2, T2) => relT N T2 g2 pr2 ta2 ar2 ac2 dg2 sv2 ax2 ∧ slv (attD P N M fr fc (fun k => (fv k).toInt64) ab) (attDR P N M fr fc (fun k => (fv k).toInt64) ab) (n - i) told2 T2 = slv (attD P N M fr fc (fun k => (fv k).toInt64) ab) (attDR P N M fr fc (fun k => (fv k).toInt64) ab) (n - 1) told (attD P N M fr fc (fun k => (fv k).toInt64) ab T))
      (by omega) ?_ ?_ ?_ H locs ls hw hl
    · exact ⟨hT1, rfl⟩
    · rintro i ⟨g2, pr2, ta2, ar2, ac2, dg2, sv2, ax2, au2, av2, aw2, af2, ak2, told2, T2⟩ hi0 hi hI ih H locs ls hw hl
      obtain ⟨hT2, hs2⟩ := hI
      refine lv_iload_n hx hb d_D_solve_19 rfl (lv_at hl 3 rfl) ?_
      refine lv_iload_n hx hb d_D_solve_20 rfl (lv_at hl 1 rfl) ?_
      refine ky_ge (a := i) (b := n) (tgt := 39) hx hb (by omega) (by omega) d_D_solve_21 (by decide) (fun h => absurd h (by omega)) (fun h => ?_)
      refine lv_iload_n hx hb d_D_solve_24 rfl (lv_at hl 2 rfl) ?_
      refine lv_if_eq (tgt := 39) hx hb d_D_solve_25 (by decide) (fun h2 => ?_) (fun h2 => ?_)
      · refine lv_iload_n hx hb d_D_solve_39 rfl (lv_at hl 2 rfl) ?_
        rw [← hs2] at hret
        subst h2
        rw [slv_0] at hret
        exact hret (_, _, _, _, _, _, _, _, _, _, _, _, _) ⟨rfl, hT2⟩ hw d_D_solve_40
      · refine lv_aload_n hx hb d_D_solve_28 rfl (lv_at hl 0 rfl) ?_
        refine ky_callVi (As := []) (rest := []) S hK hw hA hl.1 (c_D_attempt hok hT2) k_D_138 rfl rfl rfl rfl ⟨Nat.le_of_ble_eq_true rfl, Nat.le_of_ble_eq_true rfl⟩ ⟨Nat.zero_le _, Nat.zero_le _⟩ rfl rfl (Nat.le_of_ble_eq_true rfl) d_D_solve_29 (fun told3 u H locs hp hw => ?_)
        obtain ⟨g3, pr3, ta3, ar3, ac3, dg3, sv3, ax3, au3, av3, aw3, af3, ak3⟩ := u
        obtain ⟨htold3, hT3⟩ := hp
        dsimp only at hT3
        have hw : kw D A s.heap H locs (wD ad cI cJ P N O M dg3 sv3 g3 pr3 ta3 fr fc fv ab au3 av3 aw3 ax3 ar3 ac3 af3 ak3) := hw
        refine lv_istore_n (lv' := [(2, .int told3), (0, .ref (ad 0)), (1, .int (nI n)), (3, .int (nI i))]) hx hb d_D_solve_32 rfl hl (by decide) rfl (fun ls hl => ?_)
        refine lv_iinc (v := nI (i + 1)) (lv' := [(3, .int (nI (i + 1))), (2, .int told3), (0, .ref (ad 0)), (1, .int (nI n))]) hx hb d_D_solve_33 hl (k := 3) rfl (nI_1 i) (by decide) rfl (fun ls hl => ?_)
        refine lv_goto (tgt := 19) hx hb d_D_solve_36 (by decide) ?_
        have hl := lv_sub (l' := [(0, .ref (ad 0)), (1, .int (nI n)), (2, .int told3), (3, .int (nI (i + 1)))]) hl [2, 3, 1, 0] rfl
        refine ih (g3, pr3, ta3, ar3, ac3, dg3, sv3, ax3, au3, av3, aw3, af3, ak3, told3, attD P N M fr fc (fun k => (fv k).toInt64) ab T2) ⟨hT3, ?_⟩ H locs ls hw hl
        rw [← hs2, show n - i = (n - (i + 1)) + 1 by omega, htold3]
        show _ = if told2 = 0 then _ else _
        rw [if_neg h2]
    · rintro ⟨g2, pr2, ta2, ar2, ac2, dg2, sv2, ax2, au2, av2, aw2, af2, ak2, told2, T2⟩ hI H locs ls hw hl
      obtain ⟨hT2, hs2⟩ := hI
      refine lv_iload_n hx hb d_D_solve_19 rfl (lv_at hl 3 rfl) ?_
      refine lv_iload_n hx hb d_D_solve_20 rfl (lv_at hl 1 rfl) ?_
      refine ky_ge (a := n) (b := n) (tgt := 39) hx hb (by omega) (by omega) d_D_solve_21 (by decide) (fun h => ?_) (fun h => absurd h (by omega))
      refine lv_iload_n hx hb d_D_solve_39 rfl (lv_at hl 2 rfl) ?_
      rw [← hs2, show n - n = 0 by omega] at hret
      exact hret (_, _, _, _, _, _, _, _, _, _, _, _, _) ⟨rfl, hT2⟩ hw d_D_solve_40
  · refine lv_iconst (v := nI 5) hx hb d_D_solve_10 (by decide) ?_
    have hs : sol (attD P N M fr fc (fun k => (fv k).toInt64) ab) (attDR P N M fr fc (fun k => (fv k).toInt64) ab) k T = (nI 5, T) := by unfold sol; rw [h1]; rfl
    rw [hs] at hret
    exact hret (_, _, _, _, _, _, _, _, _, _, _, _, _) ⟨rfl, hT⟩ hw d_D_solve_11
/-- solution -/
theorem c_D_solution {k : Int32} (h : okD P N O M fr fc) : CT l D (kt cI cJ) y_D_solution b_D_solution 2 (some .int) (kr 1 22) [.ref (ad 0), .int k] (wD ad cI cJ P N O M dg sv g pr ta fr fc fv ab au av aw ax ar ac af ak) sz (QI D (kt cI cJ) (G := Unit) (fun r _ => r = solR N sv ax k) (fun u => wD ad cI cJ P N O M dg sv g pr ta fr fc fv ab au av aw ax ar ac af ak)) := by
  refine ct_int (by decide) (Nat.le_of_ble_eq_true rfl) ?_
  intro p e s m args below meth c A ls Z S hA hK hw hl hret
  have S : CallFix p m c b_D_solution 2 s args lw_g R_D := S
  have hx := S.1
  have hb := S.2.1
  have hown := S.2.2.2.1
  have hts := S.2.2.2.2
  have hl : lv_has ls 2 [(0, .ref (ad 0)), (1, .int k)] := hl
  obtain ⟨hP2, hP, hN1, hN, hO1, hO, hM, hrc⟩ := h
  refine lv_aload_n hx hb d_D_solution_0 rfl (lv_at hl 0 rfl) ?_
  refine gD_solved S hK hw rfl rfl d_D_solution_1 ?_
  refine ky_beq (tgt := 31) hx hb d_D_solution_4 (by decide) (fun h1 => ?_) (fun h1 => ?_)
  · refine lv_iconst (v := -1) hx hb d_D_solution_31 (by decide) ?_
    exact hret () (by unfold solR; rw [h1]; rfl) hw d_D_solution_32
  · refine lv_iload_n hx hb d_D_solution_7 rfl (lv_at hl 1 rfl) ?_
    refine lv_iconst (v := nI 0) hx hb d_D_solution_8 (by decide) ?_
    refine lv_aload_n hx hb d_D_solution_9 rfl (lv_at hl 0 rfl) ?_
    refine gD_n S hK hw rfl rfl d_D_solution_10 ?_
    refine lv_iconst (v := nI 1) hx hb d_D_solution_13 (by decide) ?_
    refine lv_isub hx hb d_D_solution_14 ?_
    refine ky_ti (y := nI (N - 1)) (pk_sub (by omega)) ?_
    refine ky_callSi (As := [.int k, .int (nI 0), .int (nI (N - 1))]) (rest := []) S hK hw hA hl.1 (c_D_within) k_D_77 rfl rfl ⟨Nat.le_of_ble_eq_true rfl, Nat.le_of_ble_eq_true rfl⟩ ⟨Nat.zero_le _, Nat.zero_le _⟩ rfl rfl (Nat.le_of_ble_eq_true rfl) d_D_solution_15 (fun r u H locs hp hw => ?_)
    subst hp
    have hw : kw D A s.heap H locs (wD ad cI cJ P N O M dg sv g pr ta fr fc fv ab au av aw ax ar ac af ak) := hw
    refine ky_beq (tgt := 31) hx hb d_D_solution_18 (by decide) (fun h2 => ?_) (fun h2 => ?_)
    · refine lv_iconst (v := -1) hx hb d_D_solution_31 (by decide) ?_
      exact hret () (by unfold solR; rw [h1, h2]; rfl) hw d_D_solution_32
    · obtain ⟨n, hn1, hn2, rfl⟩ := wth_n (by omega) (by omega) h2
      refine lv_aload_n hx hb d_D_solution_21 rfl (lv_at hl 0 rfl) ?_
      refine gD_x S hK hw rfl rfl d_D_solution_22 ?_
      refine lv_iload_n hx hb d_D_solution_25 rfl (lv_at hl 1 rfl) ?_
      refine ky_lald S hK hw 8 rfl (by omega) (by omega) d_D_solution_26 ?_
      refine lv_l2i hx hb d_D_solution_27 rfl ?_
      refine lv_goto (tgt := 32) hx hb d_D_solution_28 (by decide) ?_
      exact hret () (by unfold solR; rw [h1, h2, nI_c (by omega)]; rfl) hw d_D_solution_32
/-- coefficient -/
theorem c_D_coefficient {k : Int32} (hdg : dgOk dg) : CT l D (kt cI cJ) y_D_coefficient b_D_coefficient 2 (some .int) (kr 1 22) [.ref (ad 0), .int k] (wD ad cI cJ P N O M dg sv g pr ta fr fc fv ab au av aw ax ar ac af ak) sz (QI D (kt cI cJ) (G := Unit) (fun r _ => r = coeR dg ac k) (fun u => wD ad cI cJ P N O M dg sv g pr ta fr fc fv ab au av aw ax ar ac af ak)) := by
  refine ct_int (by decide) (Nat.le_of_ble_eq_true rfl) ?_
  intro p e s m args below meth c A ls Z S hA hK hw hl hret
  have S : CallFix p m c b_D_coefficient 2 s args lw_g R_D := S
  have hx := S.1
  have hb := S.2.1
  have hown := S.2.2.2.1
  have hts := S.2.2.2.2
  have hl : lv_has ls 2 [(0, .ref (ad 0)), (1, .int k)] := hl
  rcases hdg with rfl | ⟨d, hd, rfl⟩
  · refine lv_iload_n hx hb d_D_coefficient_0 rfl (lv_at hl 1 rfl) ?_
    refine lv_iconst (v := nI 0) hx hb d_D_coefficient_1 (by decide) ?_
    refine lv_aload_n hx hb d_D_coefficient_2 rfl (lv_at hl 0 rfl) ?_
    refine gD_degree S hK hw rfl rfl d_D_coefficient_3 ?_
    refine ky_callSi (As := [.int k, .int (nI 0), .int (-1)]) (rest := []) S hK hw hA hl.1 (c_D_within) k_D_77 rfl rfl ⟨Nat.le_of_ble_eq_true rfl, Nat.le_of_ble_eq_true rfl⟩ ⟨Nat.zero_le _, Nat.zero_le _⟩ rfl rfl (Nat.le_of_ble_eq_true rfl) d_D_coefficient_6 (fun r u H locs hp hw => ?_)
    subst hp
    have hw : kw D A s.heap H locs (wD ad cI cJ P N O M (-1) sv g pr ta fr fc fv ab au av aw ax ar ac af ak) := hw
    refine ky_beq (tgt := 27) hx hb d_D_coefficient_9 (by decide) (fun h1 => ?_) (fun h1 => absurd h1 (by rw [wth_m1]; decide))
    refine lv_iconst (v := -1) hx hb d_D_coefficient_27 (by decide) ?_
    exact hret () (by unfold coeR; rw [h1]; rfl) hw d_D_coefficient_28
  · refine lv_iload_n hx hb d_D_coefficient_0 rfl (lv_at hl 1 rfl) ?_
    refine lv_iconst (v := nI 0) hx hb d_D_coefficient_1 (by decide) ?_
    refine lv_aload_n hx hb d_D_coefficient_2 rfl (lv_at hl 0 rfl) ?_
    refine gD_degree S hK hw rfl rfl d_D_coefficient_3 ?_
    refine ky_callSi (As := [.int k, .int (nI 0), .int (nI d)]) (rest := []) S hK hw hA hl.1 (c_D_within) k_D_77 rfl rfl ⟨Nat.le_of_ble_eq_true rfl, Nat.le_of_ble_eq_true rfl⟩ ⟨Nat.zero_le _, Nat.zero_le _⟩ rfl rfl (Nat.le_of_ble_eq_true rfl) d_D_coefficient_6 (fun r u H locs hp hw => ?_)
    subst hp
    have hw : kw D A s.heap H locs (wD ad cI cJ P N O M (nI d) sv g pr ta fr fc fv ab au av aw ax ar ac af ak) := hw
    refine ky_beq (tgt := 27) hx hb d_D_coefficient_9 (by decide) (fun h1 => ?_) (fun h1 => ?_)
    · refine lv_iconst (v := -1) hx hb d_D_coefficient_27 (by decide) ?_
      exact hret () (by unfold coeR; rw [h1]; rfl) hw d_D_coefficient_28
    · obtain ⟨n, hn1, hn2, rfl⟩ := wth_n (by omega) (by omega) h1
      refine lv_aload_n hx hb d_D_coefficient_12 rfl (lv_at hl 0 rfl) ?_
      refine gD_now S hK hw rfl rfl d_D_coefficient_13 ?_
      refine lv_aload_n hx hb d_D_coefficient_16 rfl (lv_at hl 0 rfl) ?_
      refine gD_degree S hK hw rfl rfl d_D_coefficient_17 ?_
      refine lv_iload_n hx hb d_D_coefficient_20 rfl (lv_at hl 1 rfl) ?_
      refine lv_isub hx hb d_D_coefficient_21 ?_
      refine ky_ti (y := nI (d - n)) (pk_sub (by omega)) ?_
      refine ky_lald S hK hw 10 rfl (by omega) (by omega) d_D_coefficient_22 ?_
      refine lv_l2i hx hb d_D_coefficient_23 rfl ?_
      refine lv_goto (tgt := 28) hx hb d_D_coefficient_24 (by decide) ?_
      exact hret () (by unfold coeR; rw [h1, pk_sub (by omega), nI_c (by omega)]; rfl) hw d_D_coefficient_28
/-- number -/
theorem c_D_number {k : Int32} (h : okD P N O M fr fc) : CT l D (kt cI cJ) y_D_number b_D_number 2 (some .int) (kr 1 22) [.ref (ad 0), .int k] (wD ad cI cJ P N O M dg sv g pr ta fr fc fv ab au av aw ax ar ac af ak) sz (QI D (kt cI cJ) (G := Unit) (fun r _ => r = numR N (decide (dg ≠ -1)) ar k) (fun u => wD ad cI cJ P N O M dg sv g pr ta fr fc fv ab au av aw ax ar ac af ak)) := by
  refine ct_int (by decide) (Nat.le_of_ble_eq_true rfl) ?_
  intro p e s m args below meth c A ls Z S hA hK hw hl hret
  have S : CallFix p m c b_D_number 2 s args lw_g R_D := S
  have hx := S.1
  have hb := S.2.1
  have hown := S.2.2.2.1
  have hts := S.2.2.2.2
  have hl : lv_has ls 2 [(0, .ref (ad 0)), (1, .int k)] := hl
  obtain ⟨hP2, hP, hN1, hN, hO1, hO, hM, hrc⟩ := h
  refine lv_aload_n hx hb d_D_number_0 rfl (lv_at hl 0 rfl) ?_
  refine gD_degree S hK hw rfl rfl d_D_number_1 ?_
  refine lv_iconst (v := -1) hx hb d_D_number_4 (by decide) ?_
  refine lv_icmp_eq (tgt := 34) hx hb d_D_number_5 (by decide) (fun h1 => ?_) (fun h1 => ?_)
  · refine lv_iconst (v := -1) hx hb d_D_number_34 (by decide) ?_
    exact hret () (by unfold numR; rw [decide_eq_false (fun q => q h1)]; rfl) hw d_D_number_35
  · refine lv_iload_n hx hb d_D_number_8 rfl (lv_at hl 1 rfl) ?_
    refine lv_iconst (v := nI 0) hx hb d_D_number_9 (by decide) ?_
    refine lv_iconst (v := nI 2) hx hb d_D_number_10 (by decide) ?_
    refine lv_aload_n hx hb d_D_number_11 rfl (lv_at hl 0 rfl) ?_
    refine gD_n S hK hw rfl rfl d_D_number_12 ?_
    refine lv_imul hx hb d_D_number_15 ?_
    refine ky_ti (y := nI (2 * N)) (pk_mul 2 N) ?_
    refine lv_iconst (v := nI 1) hx hb d_D_number_16 (by decide) ?_
    refine lv_isub hx hb d_D_number_17 ?_
    refine ky_ti (y := nI ((2 * N) - 1)) (pk_sub (by omega)) ?_
    refine ky_callSi (As := [.int k, .int (nI 0), .int (nI ((2 * N) - 1))]) (rest := []) S hK hw hA hl.1 (c_D_within) k_D_77 rfl rfl ⟨Nat.le_of_ble_eq_true rfl, Nat.le_of_ble_eq_true rfl⟩ ⟨Nat.zero_le _, Nat.zero_le _⟩ rfl rfl (Nat.le_of_ble_eq_true rfl) d_D_number_18 (fun r u H locs hp hw => ?_)
    subst hp
    have hw : kw D A s.heap H locs (wD ad cI cJ P N O M dg sv g pr ta fr fc fv ab au av aw ax ar ac af ak) := hw
    refine ky_beq (tgt := 34) hx hb d_D_number_21 (by decide) (fun h2 => ?_) (fun h2 => ?_)
    · refine lv_iconst (v := -1) hx hb d_D_number_34 (by decide) ?_
      exact hret () (by unfold numR; rw [decide_eq_true h1, h2]; rfl) hw d_D_number_35
    · obtain ⟨n, hn1, hn2, rfl⟩ := wth_n (by omega) (by omega) h2
      refine lv_aload_n hx hb d_D_number_24 rfl (lv_at hl 0 rfl) ?_
      refine gD_row S hK hw rfl rfl d_D_number_25 ?_
      refine lv_iload_n hx hb d_D_number_28 rfl (lv_at hl 1 rfl) ?_
      refine ky_lald S hK hw 9 rfl (by omega) (by omega) d_D_number_29 ?_
      refine lv_l2i hx hb d_D_number_30 rfl ?_
      refine lv_goto (tgt := 35) hx hb d_D_number_31 (by decide) ?_
      exact hret () (by unfold numR; rw [decide_eq_true h1, h2, nI_c (by omega)]; rfl) hw d_D_number_35
/-- verify -/
theorem c_D_verify  (h : okD P N O M fr fc) : CT l D (kt cI cJ) y_D_verify b_D_verify 1 (some .boolean) (kr 2 44) [.ref (ad 0)] (wD ad cI cJ P N O M dg sv g pr ta fr fc fv ab au av aw ax ar ac af ak) sz (QI D (kt cI cJ) (G := Int32 × (Nat → Int64) × (Nat → Int64)) (fun r u => r = bI (sv && eqN N (muK P fr fc (fun k => (fv k).toInt64) ax M) ab) ∧ u.1 = if sv then pr + 1 else pr) (fun u => wD ad cI cJ P N O M dg sv g (u.1) ta fr fc fv ab au (u.2.1) (u.2.2) ax ar ac af ak)) := by
  refine ct_bool (by decide) (Nat.le_of_ble_eq_true rfl) ?_
  intro p e s m args below meth c A ls Z S hA hK hw hl hret
  have S : CallFix p m c b_D_verify 1 s args lw_g R_D := S
  have hx := S.1
  have hb := S.2.1
  have hown := S.2.2.2.1
  have hts := S.2.2.2.2
  have hl : lv_has ls 1 [(0, .ref (ad 0))] := hl
  obtain ⟨hP2, hP, hN1, hN, hO1, hO, hM, hrc⟩ := h
  have hok : okD P N O M fr fc := ⟨hP2, hP, hN1, hN, hO1, hO, hM, hrc⟩
  refine lv_aload_n hx hb d_D_verify_0 rfl (lv_at hl 0 rfl) ?_
  refine gD_solved S hK hw rfl rfl d_D_verify_1 ?_
  refine ky_beq (tgt := 18) hx hb d_D_verify_4 (by decide) (fun h1 => ?_) (fun h1 => ?_)
  · refine lv_iconst (v := nI 0) hx hb d_D_verify_18 (by decide) ?_
    refine ky_ti (y := bI false) (rfl) ?_
    exact hret (_, _, _) ⟨by rw [h1]; rfl, by rw [h1]; rfl⟩ hw d_D_verify_19
  · refine lv_aload_n hx hb d_D_verify_7 rfl (lv_at hl 0 rfl) ?_
    refine ky_callVi (As := []) (rest := []) S hK hw hA hl.1 (c_D_isRight hok) k_D_134 rfl rfl rfl rfl ⟨Nat.le_of_ble_eq_true rfl, Nat.le_of_ble_eq_true rfl⟩ ⟨Nat.zero_le _, Nat.zero_le _⟩ rfl rfl (Nat.le_of_ble_eq_true rfl) d_D_verify_8 (fun r u H locs hp hw => ?_)
    obtain ⟨pr2, av2, aw2⟩ := u
    obtain ⟨hr2, hp2⟩ := hp
    dsimp only at hr2 hp2
    subst hr2
    have hw : kw D A s.heap H locs (wD ad cI cJ P N O M dg sv g pr2 ta fr fc fv ab au av2 aw2 ax ar ac af ak) := hw
    refine ky_beq (tgt := 18) hx hb d_D_verify_11 (by decide) (fun h2 => ?_) (fun h2 => ?_)
    · refine lv_iconst (v := nI 0) hx hb d_D_verify_18 (by decide) ?_
      refine ky_ti (y := bI false) (rfl) ?_
      exact hret (_, _, _) ⟨by rw [h1, h2]; rfl, by rw [h1]; exact hp2⟩ hw d_D_verify_19
    · refine lv_iconst (v := nI 1) hx hb d_D_verify_14 (by decide) ?_
      refine lv_goto (tgt := 19) hx hb d_D_verify_15 (by decide) ?_
      refine ky_ti (y := bI true) (rfl) ?_
      exact hret (_, _, _) ⟨by rw [h1, h2]; rfl, by rw [h1]; exact hp2⟩ hw d_D_verify_19
/-- count -/
theorem c_D_count {k : Int32}  : CT l D (kt cI cJ) y_D_count b_D_count 2 (some .int) (kr 0 0) [.ref (ad 0), .int k] (wD ad cI cJ P N O M dg sv g pr ta fr fc fv ab au av aw ax ar ac af ak) sz (QI D (kt cI cJ) (G := Unit) (fun r _ => r = cntR P N M g ta k) (fun u => wD ad cI cJ P N O M dg sv g pr ta fr fc fv ab au av aw ax ar ac af ak)) := by
  refine ct_int (by decide) (Nat.le_of_ble_eq_true rfl) ?_
  intro p e s m args below meth c A ls Z S hA hK hw hl hret
  have S : CallFix p m c b_D_count 2 s args lw_g R_D := S
  have hx := S.1
  have hb := S.2.1
  have hown := S.2.2.2.1
  have hts := S.2.2.2.2
  have hl : lv_has ls 2 [(0, .ref (ad 0)), (1, .int k)] := hl
  refine lv_iload_n hx hb d_D_count_0 rfl (lv_at hl 1 rfl) ?_
  by_cases h0 : k = nI 0
  · subst h0
    refine lv_tableIn (tgt := 36) hx hb d_D_count_1 (by decide) (by decide) (off := 35) (by decide) (by decide) ?_
    refine lv_aload_n hx hb d_D_count_36 rfl (lv_at hl 0 rfl) ?_
    refine gD_p S hK hw rfl rfl d_D_count_37 ?_
    exact hret () (by unfold cntR; rw [if_pos rfl]) hw d_D_count_40
  · by_cases h1 : k = nI 1
    · subst h1
      refine lv_tableIn (tgt := 41) hx hb d_D_count_1 (by decide) (by decide) (off := 40) (by decide) (by decide) ?_
      refine lv_aload_n hx hb d_D_count_41 rfl (lv_at hl 0 rfl) ?_
      refine gD_n S hK hw rfl rfl d_D_count_42 ?_
      exact hret () (by unfold cntR; rw [if_neg (by decide), if_pos rfl]) hw d_D_count_45
    · by_cases h2 : k = nI 2
      · subst h2
        refine lv_tableIn (tgt := 46) hx hb d_D_count_1 (by decide) (by decide) (off := 45) (by decide) (by decide) ?_
        refine lv_aload_n hx hb d_D_count_46 rfl (lv_at hl 0 rfl) ?_
        refine gD_many S hK hw rfl rfl d_D_count_47 ?_
        exact hret () (by unfold cntR; rw [if_neg (by decide), if_neg (by decide), if_pos rfl]) hw d_D_count_50
      · by_cases h3 : k = nI 3
        · subst h3
          refine lv_tableIn (tgt := 51) hx hb d_D_count_1 (by decide) (by decide) (off := 50) (by decide) (by decide) ?_
          refine lv_aload_n hx hb d_D_count_51 rfl (lv_at hl 0 rfl) ?_
          refine gD_generator S hK hw rfl rfl d_D_count_52 ?_
          refine lv_l2i hx hb d_D_count_55 rfl ?_
          exact hret () (by unfold cntR; rw [if_neg (by decide), if_neg (by decide), if_neg (by decide), if_pos rfl]) hw d_D_count_56
        · by_cases h4 : k = nI 4
          · subst h4
            refine lv_tableIn (tgt := 57) hx hb d_D_count_1 (by decide) (by decide) (off := 56) (by decide) (by decide) ?_
            refine lv_aload_n hx hb d_D_count_57 rfl (lv_at hl 0 rfl) ?_
            refine gD_attempts S hK hw rfl rfl d_D_count_58 ?_
            exact hret () (by unfold cntR; rw [if_neg (by decide), if_neg (by decide), if_neg (by decide), if_neg (by decide), if_pos rfl]) hw d_D_count_61
          · have ho := sw_out (k := k) (n := 4) (by decide) (fun j hj => by rcases (show j = 0 ∨ j = 1 ∨ j = 2 ∨ j = 3 ∨ j = 4 by omega) with rfl | rfl | rfl | rfl | rfl <;> assumption)
            refine lv_tableOut (tgt := 62) hx hb d_D_count_1 ho (by decide) ?_
            refine lv_iconst (v := -1) hx hb d_D_count_62 (by decide) ?_
            exact hret () (by unfold cntR; rw [if_neg h0, if_neg h1, if_neg h2, if_neg h3, if_neg h4]) hw d_D_count_63
/-- entry -/
theorem c_D_entry {k1 k2 z : Int32} (h : okD P N O M fr fc) : CT l D (kt cI cJ) y_D_entry b_D_entry 4 (some .int) (kr 1 24) [.ref (ad 0), .int k1, .int k2, .int z] (wD ad cI cJ P N O M dg sv g pr ta fr fc fv ab au av aw ax ar ac af ak) sz (QI D (kt cI cJ) (G := Nat × Int32 × Bool × (Nat → Nat) × (Nat → Nat) × (Nat → Int32)) (fun r u => ((inB N k1 && inB N k2) = false ∧ r = 1 ∧ u = (M, dg, sv, fr, fc, fv)) ∨ ((inB N k1 && inB N k2) = true ∧ M = O ∧ r = 2 ∧ u = (M, dg, sv, fr, fc, fv)) ∨ ((inB N k1 && inB N k2) = true ∧ M ≠ O ∧ r = 0 ∧ u = (M + 1, -1, false, va_up fr M k1.toNatClampNeg, va_up fc M k2.toNatClampNeg, upd fv M (md P z.toInt64)))) (fun u => wD ad cI cJ P N O (u.1) (u.2.1) (u.2.2.1) g pr ta (u.2.2.2.1) (u.2.2.2.2.1) (u.2.2.2.2.2) ab au av aw ax ar ac af ak)) := by
  refine ct_int (by decide) (Nat.le_of_ble_eq_true rfl) ?_
  intro p e s m args below meth c A ls Z S hA hK hw hl hret
  have S : CallFix p m c b_D_entry 4 s args lw_g R_D := S
  have hx := S.1
  have hb := S.2.1
  have hown := S.2.2.2.1
  have hts := S.2.2.2.2
  have hl : lv_has ls 4 [(0, .ref (ad 0)), (1, .int k1), (2, .int k2), (3, .int z)] := hl
  obtain ⟨hP2, hP, hN1, hN, hO1, hO, hM, hrc⟩ := h
  refine lv_iload_n hx hb d_D_entry_0 rfl (lv_at hl 1 rfl) ?_
  refine lv_iconst (v := nI 0) hx hb d_D_entry_1 (by decide) ?_
  refine lv_aload_n hx hb d_D_entry_2 rfl (lv_at hl 0 rfl) ?_
  refine gD_n S hK hw rfl rfl d_D_entry_3 ?_
  refine lv_iconst (v := nI 1) hx hb d_D_entry_6 (by decide) ?_
  refine lv_isub hx hb d_D_entry_7 ?_
  refine ky_ti (y := nI (N - 1)) (pk_sub (by omega)) ?_
  refine ky_callSi (As := [.int k1, .int (nI 0), .int (nI (N - 1))]) (rest := []) S hK hw hA hl.1 (c_D_within) k_D_77 rfl rfl ⟨Nat.le_of_ble_eq_true rfl, Nat.le_of_ble_eq_true rfl⟩ ⟨Nat.zero_le _, Nat.zero_le _⟩ rfl rfl (Nat.le_of_ble_eq_true rfl) d_D_entry_8 (fun r u H locs hp hw => ?_)
  subst hp
  have hw : kw D A s.heap H locs (wD ad cI cJ P N O M dg sv g pr ta fr fc fv ab au av aw ax ar ac af ak) := hw
  refine ky_beq (tgt := 28) hx hb d_D_entry_11 (by decide) (fun h1 => ?_) (fun h1 => ?_)
  · refine lv_iconst (v := nI 1) hx hb d_D_entry_28 (by decide) ?_
    exact hret (_, _, _, _, _, _) (Or.inl ⟨by unfold inB; rw [h1]; rfl, rfl, rfl⟩) hw d_D_entry_29
  · refine lv_iload_n hx hb d_D_entry_14 rfl (lv_at hl 2 rfl) ?_
    refine lv_iconst (v := nI 0) hx hb d_D_entry_15 (by decide) ?_
    refine lv_aload_n hx hb d_D_entry_16 rfl (lv_at hl 0 rfl) ?_
    refine gD_n S hK hw rfl rfl d_D_entry_17 ?_
    refine lv_iconst (v := nI 1) hx hb d_D_entry_20 (by decide) ?_
    refine lv_isub hx hb d_D_entry_21 ?_
    refine ky_ti (y := nI (N - 1)) (pk_sub (by omega)) ?_
    refine ky_callSi (As := [.int k2, .int (nI 0), .int (nI (N - 1))]) (rest := []) S hK hw hA hl.1 (c_D_within) k_D_77 rfl rfl ⟨Nat.le_of_ble_eq_true rfl, Nat.le_of_ble_eq_true rfl⟩ ⟨Nat.zero_le _, Nat.zero_le _⟩ rfl rfl (Nat.le_of_ble_eq_true rfl) d_D_entry_22 (fun r u H locs hp hw => ?_)
    subst hp
    have hw : kw D A s.heap H locs (wD ad cI cJ P N O M dg sv g pr ta fr fc fv ab au av aw ax ar ac af ak) := hw
    refine ky_bne (tgt := 30) hx hb d_D_entry_25 (by decide) (fun h2 => ?_) (fun h2 => ?_)
    · refine lv_aload_n hx hb d_D_entry_30 rfl (lv_at hl 0 rfl) ?_
      refine gD_many S hK hw rfl rfl d_D_entry_31 ?_
      refine lv_aload_n hx hb d_D_entry_34 rfl (lv_at hl 0 rfl) ?_
      refine gD_most S hK hw rfl rfl d_D_entry_35 ?_
      refine ky_ne (a := M) (b := O) (tgt := 43) hx hb (by omega) (by omega) d_D_entry_38 (by decide) (fun h3 => ?_) (fun h3 => ?_)
      · have hin : (inB N k1 && inB N k2) = true := by unfold inB; rw [h1, h2]; rfl
        obtain ⟨n1, hn1, hn2, rfl⟩ := wth_n (by omega) (by omega) h1
        obtain ⟨n2, hn3, hn4, rfl⟩ := wth_n (by omega) (by omega) h2
        refine lv_aload_n hx hb d_D_entry_43 rfl (lv_at hl 0 rfl) ?_
        refine gD_rows S hK hw rfl rfl d_D_entry_44 ?_
        refine lv_aload_n hx hb d_D_entry_47 rfl (lv_at hl 0 rfl) ?_
        refine gD_many S hK hw rfl rfl d_D_entry_48 ?_
        refine lv_iload_n hx hb d_D_entry_51 rfl (lv_at hl 1 rfl) ?_
        refine ky_nast S hK hw 1 rfl (by omega) (by omega) d_D_entry_52 (fun H locs hw => ?_)
        have hw : kw D A s.heap H locs (wD ad cI cJ P N O M dg sv g pr ta (va_up fr M n1) fc fv ab au av aw ax ar ac af ak) := hw
        refine lv_aload_n hx hb d_D_entry_53 rfl (lv_at hl 0 rfl) ?_
        refine gD_columns S hK hw rfl rfl d_D_entry_54 ?_
        refine lv_aload_n hx hb d_D_entry_57 rfl (lv_at hl 0 rfl) ?_
        refine gD_many S hK hw rfl rfl d_D_entry_58 ?_
        refine lv_iload_n hx hb d_D_entry_61 rfl (lv_at hl 2 rfl) ?_
        refine ky_nast S hK hw 2 rfl (by omega) (by omega) d_D_entry_62 (fun H locs hw => ?_)
        have hw : kw D A s.heap H locs (wD ad cI cJ P N O M dg sv g pr ta (va_up fr M n1) (va_up fc M n2) fv ab au av aw ax ar ac af ak) := hw
        refine lv_aload_n hx hb d_D_entry_63 rfl (lv_at hl 0 rfl) ?_
        refine gD_values S hK hw rfl rfl d_D_entry_64 ?_
        refine lv_aload_n hx hb d_D_entry_67 rfl (lv_at hl 0 rfl) ?_
        refine gD_many S hK hw rfl rfl d_D_entry_68 ?_
        refine lv_aload_n hx hb d_D_entry_71 rfl (lv_at hl 0 rfl) ?_
        refine lv_iload_n hx hb d_D_entry_72 rfl (lv_at hl 3 rfl) ?_
        refine lv_i2l hx hb d_D_entry_73 rfl ?_
        refine ky_callVi (As := [.long (z.toInt64)]) (rest := [.int (nI M), .ref (ad 3)]) S hK hw hA hl.1 (c_D_mod hP2 hP) k_D_84 rfl rfl rfl rfl ⟨Nat.le_of_ble_eq_true rfl, Nat.le_of_ble_eq_true rfl⟩ ⟨Nat.zero_le _, Nat.zero_le _⟩ rfl rfl (Nat.le_of_ble_eq_true rfl) d_D_entry_74 (fun r u H locs hp hw => ?_)
        subst hp
        have hw : kw D A s.heap H locs (wD ad cI cJ P N O M dg sv g pr ta (va_up fr M n1) (va_up fc M n2) fv ab au av aw ax ar ac af ak) := hw
        refine ky_iast S hK hw 3 rfl (by omega) (by omega) d_D_entry_77 (fun H locs hw => ?_)
        have hw : kw D A s.heap H locs (wD ad cI cJ P N O M dg sv g pr ta (va_up fr M n1) (va_up fc M n2) (upd fv M (md P z.toInt64)) ab au av aw ax ar ac af ak) := hw
        refine lv_aload_n hx hb d_D_entry_78 rfl (lv_at hl 0 rfl) ?_
        refine lv_dup hx hb d_D_entry_79 rfl ?_
        refine gD_many S hK hw rfl rfl d_D_entry_80 ?_
        refine lv_iconst (v := nI 1) hx hb d_D_entry_83 (by decide) ?_
        refine lv_iadd hx hb d_D_entry_84 ?_
        refine ky_ti (y := nI (M + 1)) (nI_add M 1) ?_
        refine pD_many S hK hw rfl (Nat.le_of_ble_eq_true rfl) d_D_entry_85 (fun H locs hw => ?_)
        have hw : kw D A s.heap H locs (wD ad cI cJ P N O (M + 1) dg sv g pr ta (va_up fr M n1) (va_up fc M n2) (upd fv M (md P z.toInt64)) ab au av aw ax ar ac af ak) := hw
        refine lv_aload_n hx hb d_D_entry_88 rfl (lv_at hl 0 rfl) ?_
        refine ky_callVv (As := []) (rest := []) S hK hw hA hl.1 (c_D_forget) k_D_88 rfl rfl rfl rfl ⟨Nat.le_of_ble_eq_true rfl, Nat.le_of_ble_eq_true rfl⟩ ⟨Nat.zero_le _, Nat.zero_le _⟩ rfl rfl (Nat.le_of_ble_eq_true rfl) d_D_entry_89 (fun u H locs hp hw => ?_)
        have hw : kw D A s.heap H locs (wD ad cI cJ P N O (M + 1) (-1) false g pr ta (va_up fr M n1) (va_up fc M n2) (upd fv M (md P z.toInt64)) ab au av aw ax ar ac af ak) := hw
        refine lv_iconst (v := nI 0) hx hb d_D_entry_92 (by decide) ?_
        refine hret (M + 1, -1, false, va_up fr M n1, va_up fc M n2, upd fv M (md P z.toInt64)) (Or.inr (Or.inr ⟨hin, h3, rfl, ?_⟩)) hw d_D_entry_93
        rw [nI_c (by omega), nI_c (by omega)]
      · refine lv_iconst (v := nI 2) hx hb d_D_entry_41 (by decide) ?_
        exact hret (_, _, _, _, _, _) (Or.inr (Or.inl ⟨by unfold inB; rw [h1, h2]; rfl, h3, rfl, rfl⟩)) hw d_D_entry_42
    · refine lv_iconst (v := nI 1) hx hb d_D_entry_28 (by decide) ?_
      exact hret (_, _, _, _, _, _) (Or.inl ⟨by unfold inB; rw [h1, h2]; rfl, rfl, rfl⟩) hw d_D_entry_29
/-- side -/
theorem c_D_side {k1 z : Int32} (h : okD P N O M fr fc) : CT l D (kt cI cJ) y_D_side b_D_side 3 (some .int) (kr 1 24) [.ref (ad 0), .int k1, .int z] (wD ad cI cJ P N O M dg sv g pr ta fr fc fv ab au av aw ax ar ac af ak) sz (QI D (kt cI cJ) (G := (Nat → Int64) × Int32 × Bool) (fun r u => (inB N k1 = false ∧ r = 1 ∧ u = (ab, dg, sv)) ∨ (inB N k1 = true ∧ r = 0 ∧ u = (vp_updL ab k1.toNatClampNeg (wi P z.toInt64), -1, false))) (fun u => wD ad cI cJ P N O M (u.2.1) (u.2.2) g pr ta fr fc fv (u.1) au av aw ax ar ac af ak)) := by
  refine ct_int (by decide) (Nat.le_of_ble_eq_true rfl) ?_
  intro p e s m args below meth c A ls Z S hA hK hw hl hret
  have S : CallFix p m c b_D_side 3 s args lw_g R_D := S
  have hx := S.1
  have hb := S.2.1
  have hown := S.2.2.2.1
  have hts := S.2.2.2.2
  have hl : lv_has ls 3 [(0, .ref (ad 0)), (1, .int k1), (2, .int z)] := hl
  obtain ⟨hP2, hP, hN1, hN, hO1, hO, hM, hrc⟩ := h
  refine lv_iload_n hx hb d_D_side_0 rfl (lv_at hl 1 rfl) ?_
  refine lv_iconst (v := nI 0) hx hb d_D_side_1 (by decide) ?_
  refine lv_aload_n hx hb d_D_side_2 rfl (lv_at hl 0 rfl) ?_
  refine gD_n S hK hw rfl rfl d_D_side_3 ?_
  refine lv_iconst (v := nI 1) hx hb d_D_side_6 (by decide) ?_
  refine lv_isub hx hb d_D_side_7 ?_
  refine ky_ti (y := nI (N - 1)) (pk_sub (by omega)) ?_
  refine ky_callSi (As := [.int k1, .int (nI 0), .int (nI (N - 1))]) (rest := []) S hK hw hA hl.1 (c_D_within) k_D_77 rfl rfl ⟨Nat.le_of_ble_eq_true rfl, Nat.le_of_ble_eq_true rfl⟩ ⟨Nat.zero_le _, Nat.zero_le _⟩ rfl rfl (Nat.le_of_ble_eq_true rfl) d_D_side_8 (fun r u H locs hp hw => ?_)
  subst hp
  have hw : kw D A s.heap H locs (wD ad cI cJ P N O M dg sv g pr ta fr fc fv ab au av aw ax ar ac af ak) := hw
  refine ky_bne (tgt := 16) hx hb d_D_side_11 (by decide) (fun h1 => ?_) (fun h1 => ?_)
  · have hin : inB N k1 = true := h1
    obtain ⟨n1, hn1, hn2, rfl⟩ := wth_n (by omega) (by omega) h1
    refine lv_aload_n hx hb d_D_side_16 rfl (lv_at hl 0 rfl) ?_
    refine gD_b S hK hw rfl rfl d_D_side_17 ?_
    refine lv_iload_n hx hb d_D_side_20 rfl (lv_at hl 1 rfl) ?_
    refine lv_aload_n hx hb d_D_side_21 rfl (lv_at hl 0 rfl) ?_
    refine lv_iload_n hx hb d_D_side_22 rfl (lv_at hl 2 rfl) ?_
    refine lv_i2l hx hb d_D_side_23 rfl ?_
    refine ky_callVi (As := [.long (z.toInt64)]) (rest := [.int (nI n1), .ref (ad 4)]) S hK hw hA hl.1 (c_D_mod hP2 hP) k_D_84 rfl rfl rfl rfl ⟨Nat.le_of_ble_eq_true rfl, Nat.le_of_ble_eq_true rfl⟩ ⟨Nat.zero_le _, Nat.zero_le _⟩ rfl rfl (Nat.le_of_ble_eq_true rfl) d_D_side_24 (fun r u H locs hp hw => ?_)
    subst hp
    have hw : kw D A s.heap H locs (wD ad cI cJ P N O M dg sv g pr ta fr fc fv ab au av aw ax ar ac af ak) := hw
    refine lv_i2l hx hb d_D_side_27 rfl ?_
    refine ky_tl (y := wi P z.toInt64) (md_wi hP2 hP _) ?_
    refine ky_last S hK hw 4 rfl (by omega) (by omega) d_D_side_28 (fun H locs hw => ?_)
    have hw : kw D A s.heap H locs (wD ad cI cJ P N O M dg sv g pr ta fr fc fv (vp_updL ab n1 (wi P z.toInt64)) au av aw ax ar ac af ak) := hw
    refine lv_aload_n hx hb d_D_side_29 rfl (lv_at hl 0 rfl) ?_
    refine ky_callVv (As := []) (rest := []) S hK hw hA hl.1 (c_D_forget) k_D_88 rfl rfl rfl rfl ⟨Nat.le_of_ble_eq_true rfl, Nat.le_of_ble_eq_true rfl⟩ ⟨Nat.zero_le _, Nat.zero_le _⟩ rfl rfl (Nat.le_of_ble_eq_true rfl) d_D_side_30 (fun u H locs hp hw => ?_)
    have hw : kw D A s.heap H locs (wD ad cI cJ P N O M (-1) false g pr ta fr fc fv (vp_updL ab n1 (wi P z.toInt64)) au av aw ax ar ac af ak) := hw
    refine lv_iconst (v := nI 0) hx hb d_D_side_33 (by decide) ?_
    refine hret (vp_updL ab n1 (wi P z.toInt64), -1, false) (Or.inr ⟨hin, rfl, ?_⟩) hw d_D_side_34
    rw [nI_c (by omega)]
  · refine lv_iconst (v := nI 1) hx hb d_D_side_14 (by decide) ?_
    exact hret (_, _, _) (Or.inl ⟨h1, rfl, rfl⟩) hw d_D_side_15
end
end
section
section
variable {l : Launch} {D : va_G} {cI cJ : ClassId} {ad : Nat → Nat} {sz P N O M : Nat} {dg : Int32} {sv hr : Bool} {g : Int64} {pr ta : Int32} {fr fc : Nat → Nat} {fv : Nat → Int64} {ab au av aw ax ar ac af ak : Nat → Int64}
theorem sh_l : ∀ n, n < 32 → ((nI n &&& 31).toBitVec.smod 32).toNat = n := by decide
/-- within -/
theorem c_M_within {z : Int64} (hP2 : 2 ≤ P) (hP : P ≤ 46337) : CT l D (kt cI cJ) y_M_within b_M_within 5 (some .long) (kr 0 0) [.ref (ad 0), .long z] (wM ad cI cJ P N O M g ta pr hr dg sv fr fc fv ab au av aw ar ac af ak ax) sz (QL D (kt cI cJ) (G := Unit) (fun r _ => r = wi P z) (fun u => wM ad cI cJ P N O M g ta pr hr dg sv fr fc fv ab au av aw ar ac af ak ax)) := by
  refine ct_long (by decide) (Nat.le_of_ble_eq_true rfl) ?_
  intro p e s m args below meth c A ls Z S hA hK hw hl hret
  have S : CallFix p m c b_M_within 5 s args lw_g R_M := S
  have hx := S.1
  have hb := S.2.1
  have hown := S.2.2.2.1
  have hts := S.2.2.2.2
  have hl : lv_has ls 5 [(0, .ref (ad 0)), (1, .long z)] := hl
  refine lv_lload_n hx hb d_M_within_0 rfl (lv_at hl 1 rfl) ?_
  refine lv_aload_n hx hb d_M_within_1 rfl (lv_at hl 0 rfl) ?_
  refine gM_prime S hK hw rfl rfl d_M_within_2 ?_
  refine ky_i2l hx hb (by omega) d_M_within_5 ?_
  refine ky_lrem hx hb d_M_within_6 (lN_ne0 (by omega) (by omega)) ?_
  refine lv_lstore_n (lv' := [(3, .long (rmd z (lN P))), (0, .ref (ad 0)), (1, .long z)]) hx hb d_M_within_7 rfl hl (by decide) rfl (fun ls hl => ?_)
  refine lv_lload_n hx hb d_M_within_8 rfl (lv_at hl 0 rfl) ?_
  refine lv_lconst (v := 0) hx hb d_M_within_9 (by decide) ?_
  refine W.lcmp hx hb d_M_within_10 ?_
  refine ky_lge (tgt := 24) hx hb d_M_within_11 (by decide) (fun h => ?_) (fun h => ?_)
  · refine lv_lload_n hx hb d_M_within_24 rfl (lv_at hl 0 rfl) ?_
    exact hret () (by simp [wi, h]) hw d_M_within_25
  · refine lv_lload_n hx hb d_M_within_14 rfl (lv_at hl 0 rfl) ?_
    refine lv_aload_n hx hb d_M_within_15 rfl (lv_at hl 1 rfl) ?_
    refine gM_prime S hK hw rfl rfl d_M_within_16 ?_
    refine ky_i2l hx hb (by omega) d_M_within_19 ?_
    refine lv_ladd hx hb d_M_within_20 ?_
    refine lv_goto (tgt := 25) hx hb d_M_within_21 (by decide) ?_
    exact hret () (by simp [wi, h]) hw d_M_within_25
/-- forget -/
theorem c_M_forget   : CT l D (kt cI cJ) y_M_forget b_M_forget 1 none (kr 0 0) [.ref (ad 0)] (wM ad cI cJ P N O M g ta pr hr dg sv fr fc fv ab au av aw ar ac af ak ax) sz (QV D (kt cI cJ) (G := Unit) (fun _ => True) (fun u => wM ad cI cJ P N O M g ta pr false (-1) false fr fc fv ab au av aw ar ac af ak ax)) := by
  refine ct_void (by decide) (Nat.le_of_ble_eq_true rfl) ?_
  intro p e s m args below meth c A ls Z S hA hK hw hl hret
  have S : CallFix p m c b_M_forget 1 s args lw_g R_M := S
  have hx := S.1
  have hb := S.2.1
  have hown := S.2.2.2.1
  have hts := S.2.2.2.2
  have hl : lv_has ls 1 [(0, .ref (ad 0))] := hl
  refine lv_aload_n hx hb d_M_forget_0 rfl (lv_at hl 0 rfl) ?_
  refine lv_iconst (v := nI 0) hx hb d_M_forget_1 (by decide) ?_
  refine ky_ti (y := bI false) (rfl) ?_
  refine pM_solved (v := false) S hK hw rfl (Nat.le_of_ble_eq_true rfl) d_M_forget_2 (fun H locs hw => ?_)
  have hw : kw D A s.heap H locs (wM ad cI cJ P N O M g ta pr hr dg false fr fc fv ab au av aw ar ac af ak ax) := hw
  refine lv_aload_n hx hb d_M_forget_5 rfl (lv_at hl 0 rfl) ?_
  refine lv_iconst (v := nI 0) hx hb d_M_forget_6 (by decide) ?_
  refine ky_ti (y := bI false) (rfl) ?_
  refine pM_hasRow (v := false) S hK hw rfl (Nat.le_of_ble_eq_true rfl) d_M_forget_7 (fun H locs hw => ?_)
  have hw : kw D A s.heap H locs (wM ad cI cJ P N O M g ta pr false dg false fr fc fv ab au av aw ar ac af ak ax) := hw
  refine lv_aload_n hx hb d_M_forget_10 rfl (lv_at hl 0 rfl) ?_
  refine lv_iconst (v := -1) hx hb d_M_forget_11 (by decide) ?_
  refine pM_degree S hK hw rfl (Nat.le_of_ble_eq_true rfl) d_M_forget_12 (fun H locs hw => ?_)
  have hw : kw D A s.heap H locs (wM ad cI cJ P N O M g ta pr false (-1) false fr fc fv ab au av aw ar ac af ak ax) := hw
  exact hret () trivial hw d_M_forget_15
/-- seed -/
theorem c_M_seed {k : Int32}  : CT l D (kt cI cJ) y_M_seed b_M_seed 2 none (kr 0 0) [.ref (ad 0), .int k] (wM ad cI cJ P N O M g ta pr hr dg sv fr fc fv ab au av aw ar ac af ak ax) sz (QV D (kt cI cJ) (G := Unit) (fun _ => True) (fun u => wM ad cI cJ P N O M ((k &&& nI 2147483647).toInt64) ta pr hr dg sv fr fc fv ab au av aw ar ac af ak ax)) := by
  refine ct_void (by decide) (Nat.le_of_ble_eq_true rfl) ?_
  intro p e s m args below meth c A ls Z S hA hK hw hl hret
  have S : CallFix p m c b_M_seed 2 s args lw_g R_M := S
  have hx := S.1
  have hb := S.2.1
  have hown := S.2.2.2.1
  have hts := S.2.2.2.2
  have hl : lv_has ls 2 [(0, .ref (ad 0)), (1, .int k)] := hl
  refine lv_aload_n hx hb d_M_seed_0 rfl (lv_at hl 0 rfl) ?_
  refine lv_iload_n hx hb d_M_seed_1 rfl (lv_at hl 1 rfl) ?_
  refine lv_ldc (v := nI 2147483647) hx hb hown (hts _ q2_42) d_M_seed_2 ?_
  refine lv_iand hx hb d_M_seed_4 ?_
  refine lv_i2l hx hb d_M_seed_5 rfl ?_
  refine pM_generator S hK hw rfl (Nat.le_of_ble_eq_true rfl) d_M_seed_6 (fun H locs hw => ?_)
  have hw : kw D A s.heap H locs (wM ad cI cJ P N O M ((k &&& (nI 2147483647)).toInt64) ta pr hr dg sv fr fc fv ab au av aw ar ac af ak ax) := hw
  exact hret () trivial hw d_M_seed_9
/-- draw -/
theorem c_M_draw  (hP2 : 2 ≤ P) (hP : P ≤ 46337) : CT l D (kt cI cJ) y_M_draw b_M_draw 1 (some .long) (kr 0 0) [.ref (ad 0)] (wM ad cI cJ P N O M g ta pr hr dg sv fr fc fv ab au av aw ar ac af ak ax) sz (QL D (kt cI cJ) (G := Unit) (fun r _ => r = dM P g) (fun u => wM ad cI cJ P N O M (gM g) ta pr hr dg sv fr fc fv ab au av aw ar ac af ak ax)) := by
  refine ct_long (by decide) (Nat.le_of_ble_eq_true rfl) ?_
  intro p e s m args below meth c A ls Z S hA hK hw hl hret
  have S : CallFix p m c b_M_draw 1 s args lw_g R_M := S
  have hx := S.1
  have hb := S.2.1
  have hown := S.2.2.2.1
  have hts := S.2.2.2.2
  have hl : lv_has ls 1 [(0, .ref (ad 0))] := hl
  refine lv_aload_n hx hb d_M_draw_0 rfl (lv_at hl 0 rfl) ?_
  refine lv_ldc2 (v := 1103515245) hx hb hown (hts _ q2_55) d_M_draw_1 ?_
  refine lv_aload_n hx hb d_M_draw_4 rfl (lv_at hl 0 rfl) ?_
  refine gM_generator S hK hw rfl rfl d_M_draw_5 ?_
  refine lv_lmul hx hb d_M_draw_8 ?_
  refine lv_ldc2 (v := 12345) hx hb hown (hts _ q2_56) d_M_draw_9 ?_
  refine lv_ladd hx hb d_M_draw_12 ?_
  refine lv_ldc2 (v := 2147483648) hx hb hown (hts _ q2_57) d_M_draw_13 ?_
  refine ky_lrem hx hb d_M_draw_16 (by decide) ?_
  refine pM_generator S hK hw rfl (Nat.le_of_ble_eq_true rfl) d_M_draw_17 (fun H locs hw => ?_)
  have hw : kw D A s.heap H locs (wM ad cI cJ P N O M (rmd ((1103515245 * g) + 12345) 2147483648) ta pr hr dg sv fr fc fv ab au av aw ar ac af ak ax) := hw
  refine lv_aload_n hx hb d_M_draw_20 rfl (lv_at hl 0 rfl) ?_
  refine gM_generator S hK hw rfl rfl d_M_draw_21 ?_
  refine lv_ldc2 (v := 65536) hx hb hown (hts _ q2_58) d_M_draw_24 ?_
  refine lv_ldiv hx hb d_M_draw_27 (by decide) ?_
  refine lv_aload_n hx hb d_M_draw_28 rfl (lv_at hl 0 rfl) ?_
  refine gM_prime S hK hw rfl rfl d_M_draw_29 ?_
  refine ky_i2l hx hb (by omega) d_M_draw_32 ?_
  refine ky_lrem hx hb d_M_draw_33 (lN_ne0 (by omega) (by omega)) ?_
  exact hret () rfl hw d_M_draw_34
/-- degree -/
theorem c_M_degree   : CT l D (kt cI cJ) y_M_degree b_M_degree 1 (some .int) (kr 0 0) [.ref (ad 0)] (wM ad cI cJ P N O M g ta pr hr dg sv fr fc fv ab au av aw ar ac af ak ax) sz (QI D (kt cI cJ) (G := Unit) (fun r _ => r = dg) (fun u => wM ad cI cJ P N O M g ta pr hr dg sv fr fc fv ab au av aw ar ac af ak ax)) := by
  refine ct_int (by decide) (Nat.le_of_ble_eq_true rfl) ?_
  intro p e s m args below meth c A ls Z S hA hK hw hl hret
  have S : CallFix p m c b_M_degree 1 s args lw_g R_M := S
  have hx := S.1
  have hb := S.2.1
  have hown := S.2.2.2.1
  have hts := S.2.2.2.2
  have hl : lv_has ls 1 [(0, .ref (ad 0))] := hl
  refine lv_aload_n hx hb d_M_degree_0 rfl (lv_at hl 0 rfl) ?_
  refine gM_degree S hK hw rfl rfl d_M_degree_1 ?_
  exact hret () rfl hw d_M_degree_4
/-- products -/
theorem c_M_products   : CT l D (kt cI cJ) y_M_products b_M_products 1 (some .int) (kr 0 0) [.ref (ad 0)] (wM ad cI cJ P N O M g ta pr hr dg sv fr fc fv ab au av aw ar ac af ak ax) sz (QI D (kt cI cJ) (G := Unit) (fun r _ => r = pr) (fun u => wM ad cI cJ P N O M g ta pr hr dg sv fr fc fv ab au av aw ar ac af ak ax)) := by
  refine ct_int (by decide) (Nat.le_of_ble_eq_true rfl) ?_
  intro p e s m args below meth c A ls Z S hA hK hw hl hret
  have S : CallFix p m c b_M_products 1 s args lw_g R_M := S
  have hx := S.1
  have hb := S.2.1
  have hown := S.2.2.2.1
  have hts := S.2.2.2.2
  have hl : lv_has ls 1 [(0, .ref (ad 0))] := hl
  refine lv_aload_n hx hb d_M_products_0 rfl (lv_at hl 0 rfl) ?_
  refine gM_products S hK hw rfl rfl d_M_products_1 ?_
  exact hret () rfl hw d_M_products_4
/-- product -/
theorem c_M_product  (h : okD P N O M fr fc) : CT l D (kt cI cJ) y_M_product b_M_product 2 none (kr 0 0) [.ref (ad 0)] (wM ad cI cJ P N O M g ta pr hr dg sv fr fc fv ab au av aw ar ac af ak ax) sz (QV D (kt cI cJ) (G := Int32 × (Nat → Int64) × (Nat → Int64)) (fun u => u.1 = pr + 1 ∧ ∀ i, i < N → u.2.2 i = muK P fr fc fv av M i) (fun u => wM ad cI cJ P N O M g ta (u.1) hr dg sv fr fc fv ab au (u.2.2) (u.2.1) ar ac af ak ax)) := by
  refine ct_void (by decide) (Nat.le_of_ble_eq_true rfl) ?_
  intro p e s m args below meth c A ls Z S hA hK hw hl hret
  have S : CallFix p m c b_M_product 2 s args lw_g R_M := S
  have hx := S.1
  have hb := S.2.1
  have hown := S.2.2.2.1
  have hts := S.2.2.2.2
  have hl : lv_has ls 2 [(0, .ref (ad 0))] := hl
  obtain ⟨hP2, hP, hN1, hN, hO1, hO, hM, hrc⟩ := h
  refine lv_aload_n hx hb d_M_product_0 rfl (lv_at hl 0 rfl) ?_
  refine lv_dup hx hb d_M_product_1 rfl ?_
  refine gM_products S hK hw rfl rfl d_M_product_2 ?_
  refine lv_iconst (v := nI 1) hx hb d_M_product_5 (by decide) ?_
  refine lv_iadd hx hb d_M_product_6 ?_
  refine pM_products S hK hw rfl (Nat.le_of_ble_eq_true rfl) d_M_product_7 (fun H locs hw => ?_)
  have hw : kw D A s.heap H locs (wM ad cI cJ P N O M g ta (pr + (nI 1)) hr dg sv fr fc fv ab au av aw ar ac af ak ax) := hw
  refine lv_iconst (v := nI 0) hx hb d_M_product_10 (by decide) ?_
  refine lv_istore_n (lv' := [(1, .int (nI 0)), (0, .ref (ad 0))]) hx hb d_M_product_11 rfl hl (by decide) rfl (fun ls hl => ?_)
  have hl := lv_sub (l' := [(0, .ref (ad 0)), (1, .int (nI 0))]) hl [1, 0] rfl
  refine for_ri (i0 := 0) (N := N) (st := (aw : Nat → Int64))
    (fun (i : Nat) (aw : Nat → Int64) => ∀ (H : Heap) (locs : List Loc) (ls : Array Slot), kw D A s.heap H locs (wM ad cI cJ P N O M g ta (pr + (nI 1)) hr dg sv fr fc fv ab au av aw ar ac af ak ax) → lv_has ls 2 [(0, .ref (ad 0)), (1, .int (nI i))] → W p l e (kr 0 0) s m args below meth c H locs 0 0 Z (F0 m 12 ls []))
    (fun (i : Nat) (aw : Nat → Int64) => ∀ j, j < i → aw j = 0)
    (by omega) ?_ ?_ ?_ H locs ls hw hl
  · exact fun j hj => absurd hj (by omega)
  · rintro i aw hi0 hi hI ih H locs ls hw hl
    refine lv_iload_n hx hb d_M_product_12 rfl (lv_at hl 1 rfl) ?_
    refine lv_aload_n hx hb d_M_product_13 rfl (lv_at hl 0 rfl) ?_
    refine gM_n S hK hw rfl rfl d_M_product_14 ?_
    refine ky_ge (a := i) (b := N) (tgt := 33) hx hb (by omega) (by omega) d_M_product_17 (by decide) (fun h => absurd h (by omega)) (fun h => ?_)
    refine lv_aload_n hx hb d_M_product_20 rfl (lv_at hl 0 rfl) ?_
    refine gM_made S hK hw rfl rfl d_M_product_21 ?_
    refine lv_iload_n hx hb d_M_product_24 rfl (lv_at hl 1 rfl) ?_
    refine lv_lconst (v := 0) hx hb d_M_product_25 (by decide) ?_
    refine ky_last S hK hw 7 rfl (by omega) (by omega) d_M_product_26 (fun H locs hw => ?_)
    have hw : kw D A s.heap H locs (wM ad cI cJ P N O M g ta (pr + (nI 1)) hr dg sv fr fc fv ab au av (vp_updL aw i 0) ar ac af ak ax) := hw
    refine lv_iinc (v := nI (i + 1)) (lv' := [(1, .int (nI (i + 1))), (0, .ref (ad 0))]) hx hb d_M_product_27 hl (k := 1) rfl (nI_1 i) (by decide) rfl (fun ls hl => ?_)
    refine lv_goto (tgt := 12) hx hb d_M_product_30 (by decide) ?_
    have hl := lv_sub (l' := [(0, .ref (ad 0)), (1, .int (nI (i + 1)))]) hl [1, 0] rfl
    refine ih _ (fun j hj => ?_) H locs ls hw hl
    rcases Nat.lt_or_ge j i with q | q
    · rw [upL_n (by omega)]; exact hI j q
    · have e : j = i := by omega
      rw [e, upL_s]
  · rintro aw hI H locs ls hw hl
    refine lv_iload_n hx hb d_M_product_12 rfl (lv_at hl 1 rfl) ?_
    refine lv_aload_n hx hb d_M_product_13 rfl (lv_at hl 0 rfl) ?_
    refine gM_n S hK hw rfl rfl d_M_product_14 ?_
    refine ky_ge (a := N) (b := N) (tgt := 33) hx hb (by omega) (by omega) d_M_product_17 (by decide) (fun h => ?_) (fun h => absurd h (by omega))
    refine lv_iconst (v := nI 0) hx hb d_M_product_33 (by decide) ?_
    refine lv_istore_n (lv' := [(1, .int (nI 0)), (0, .ref (ad 0))]) hx hb d_M_product_34 rfl hl (by decide) rfl (fun ls hl => ?_)
    have hl := lv_sub (l' := [(0, .ref (ad 0)), (1, .int (nI 0))]) hl [1, 0] rfl
    refine for_ri (i0 := 0) (N := M) (st := (aw : Nat → Int64))
      (fun (i : Nat) (aw : Nat → Int64) => ∀ (H : Heap) (locs : List Loc) (ls : Array Slot), kw D A s.heap H locs (wM ad cI cJ P N O M g ta (pr + (nI 1)) hr dg sv fr fc fv ab au av aw ar ac af ak ax) → lv_has ls 2 [(0, .ref (ad 0)), (1, .int (nI i))] → W p l e (kr 0 0) s m args below meth c H locs 0 0 Z (F0 m 35 ls []))
      (fun (i : Nat) (aw : Nat → Int64) => ∀ j, j < N → aw j = muK P fr fc fv av i j)
      (by omega) ?_ ?_ ?_ H locs ls hw hl
    · exact fun j hj => hI j hj
    · rintro i aw hi0 hi hI ih H locs ls hw hl
      obtain ⟨hr1, hc1⟩ := hrc i hi
      refine lv_iload_n hx hb d_M_product_35 rfl (lv_at hl 1 rfl) ?_
      refine lv_aload_n hx hb d_M_product_36 rfl (lv_at hl 0 rfl) ?_
      refine gM_entries S hK hw rfl rfl d_M_product_37 ?_
      refine ky_ge (a := i) (b := M) (tgt := 96) hx hb (by omega) (by omega) d_M_product_40 (by decide) (fun h => absurd h (by omega)) (fun h => ?_)
      refine lv_aload_n hx hb d_M_product_43 rfl (lv_at hl 0 rfl) ?_
      refine gM_made S hK hw rfl rfl d_M_product_44 ?_
      refine lv_aload_n hx hb d_M_product_47 rfl (lv_at hl 0 rfl) ?_
      refine gM_rows S hK hw rfl rfl d_M_product_48 ?_
      refine lv_iload_n hx hb d_M_product_51 rfl (lv_at hl 1 rfl) ?_
      refine ky_nald S hK hw 1 rfl (by omega) (by omega) d_M_product_52 ?_
      refine lv_aload_n hx hb d_M_product_53 rfl (lv_at hl 0 rfl) ?_
      refine gM_made S hK hw rfl rfl d_M_product_54 ?_
      refine lv_aload_n hx hb d_M_product_57 rfl (lv_at hl 0 rfl) ?_
      refine gM_rows S hK hw rfl rfl d_M_product_58 ?_
      refine lv_iload_n hx hb d_M_product_61 rfl (lv_at hl 1 rfl) ?_
      refine ky_nald S hK hw 1 rfl (by omega) (by omega) d_M_product_62 ?_
      refine ky_lald S hK hw 7 rfl (by omega) (by omega) d_M_product_63 ?_
      refine lv_aload_n hx hb d_M_product_64 rfl (lv_at hl 0 rfl) ?_
      refine gM_values S hK hw rfl rfl d_M_product_65 ?_
      refine lv_iload_n hx hb d_M_product_68 rfl (lv_at hl 1 rfl) ?_
      refine ky_lald S hK hw 3 rfl (by omega) (by omega) d_M_product_69 ?_
      refine lv_aload_n hx hb d_M_product_70 rfl (lv_at hl 0 rfl) ?_
      refine gM_vector S hK hw rfl rfl d_M_product_71 ?_
      refine lv_aload_n hx hb d_M_product_74 rfl (lv_at hl 0 rfl) ?_
      refine gM_columns S hK hw rfl rfl d_M_product_75 ?_
      refine lv_iload_n hx hb d_M_product_78 rfl (lv_at hl 1 rfl) ?_
      refine ky_nald S hK hw 2 rfl (by omega) (by omega) d_M_product_79 ?_
      refine ky_lald S hK hw 6 rfl (by omega) (by omega) d_M_product_80 ?_
      refine lv_lmul hx hb d_M_product_81 ?_
      refine lv_ladd hx hb d_M_product_82 ?_
      refine lv_aload_n hx hb d_M_product_83 rfl (lv_at hl 0 rfl) ?_
      refine gM_prime S hK hw rfl rfl d_M_product_84 ?_
      refine ky_i2l hx hb (by omega) d_M_product_87 ?_
      refine ky_lrem hx hb d_M_product_88 (lN_ne0 (by omega) (by omega)) ?_
      refine ky_last S hK hw 7 rfl (by omega) (by omega) d_M_product_89 (fun H locs hw => ?_)
      have hw : kw D A s.heap H locs (wM ad cI cJ P N O M g ta (pr + (nI 1)) hr dg sv fr fc fv ab au av (vp_updL aw (fr i) (rmd ((aw (fr i)) + ((fv i) * (av (fc i)))) (lN P))) ar ac af ak ax) := hw
      refine lv_iinc (v := nI (i + 1)) (lv' := [(1, .int (nI (i + 1))), (0, .ref (ad 0))]) hx hb d_M_product_90 hl (k := 1) rfl (nI_1 i) (by decide) rfl (fun ls hl => ?_)
      refine lv_goto (tgt := 35) hx hb d_M_product_93 (by decide) ?_
      have hl := lv_sub (l' := [(0, .ref (ad 0)), (1, .int (nI (i + 1)))]) hl [1, 0] rfl
      refine ih _ (fun j hj => ?_) H locs ls hw hl
      show _ = if j = fr i then _ else _
      by_cases q : j = fr i
      · rw [if_pos q, q, upL_s, hI _ hr1]
      · rw [if_neg q, upL_n q]; exact hI j hj
    · rintro aw hI H locs ls hw hl
      refine lv_iload_n hx hb d_M_product_35 rfl (lv_at hl 1 rfl) ?_
      refine lv_aload_n hx hb d_M_product_36 rfl (lv_at hl 0 rfl) ?_
      refine gM_entries S hK hw rfl rfl d_M_product_37 ?_
      refine ky_ge (a := M) (b := M) (tgt := 96) hx hb (by omega) (by omega) d_M_product_40 (by decide) (fun h => ?_) (fun h => absurd h (by omega))
      refine lv_iconst (v := nI 0) hx hb d_M_product_96 (by decide) ?_
      refine lv_istore_n (lv' := [(1, .int (nI 0)), (0, .ref (ad 0))]) hx hb d_M_product_97 rfl hl (by decide) rfl (fun ls hl => ?_)
      have hl := lv_sub (l' := [(0, .ref (ad 0)), (1, .int (nI 0))]) hl [1, 0] rfl
      refine for_ri (i0 := 0) (N := N) (st := (av : Nat → Int64))
        (fun (i : Nat) (ve : Nat → Int64) => ∀ (H : Heap) (locs : List Loc) (ls : Array Slot), kw D A s.heap H locs (wM ad cI cJ P N O M g ta (pr + (nI 1)) hr dg sv fr fc fv ab au ve aw ar ac af ak ax) → lv_has ls 2 [(0, .ref (ad 0)), (1, .int (nI i))] → W p l e (kr 0 0) s m args below meth c H locs 0 0 Z (F0 m 98 ls []))
        (fun (i : Nat) (ve : Nat → Int64) => ∀ j, j < i → ve j = muK P fr fc fv av M j)
        (by omega) ?_ ?_ ?_ H locs ls hw hl
      · exact fun j hj => absurd hj (by omega)
      · rintro i ve hi0 hi hJ ih H locs ls hw hl
        refine lv_iload_n hx hb d_M_product_98 rfl (lv_at hl 1 rfl) ?_
        refine lv_aload_n hx hb d_M_product_99 rfl (lv_at hl 0 rfl) ?_
        refine gM_n S hK hw rfl rfl d_M_product_100 ?_
        refine ky_ge (a := i) (b := N) (tgt := 124) hx hb (by omega) (by omega) d_M_product_103 (by decide) (fun h => absurd h (by omega)) (fun h => ?_)
        refine lv_aload_n hx hb d_M_product_106 rfl (lv_at hl 0 rfl) ?_
        refine gM_vector S hK hw rfl rfl d_M_product_107 ?_
        refine lv_iload_n hx hb d_M_product_110 rfl (lv_at hl 1 rfl) ?_
        refine lv_aload_n hx hb d_M_product_111 rfl (lv_at hl 0 rfl) ?_
        refine gM_made S hK hw rfl rfl d_M_product_112 ?_
        refine lv_iload_n hx hb d_M_product_115 rfl (lv_at hl 1 rfl) ?_
        refine ky_lald S hK hw 7 rfl (by omega) (by omega) d_M_product_116 ?_
        refine ky_last S hK hw 6 rfl (by omega) (by omega) d_M_product_117 (fun H locs hw => ?_)
        have hw : kw D A s.heap H locs (wM ad cI cJ P N O M g ta (pr + (nI 1)) hr dg sv fr fc fv ab au (vp_updL ve i (aw i)) aw ar ac af ak ax) := hw
        refine lv_iinc (v := nI (i + 1)) (lv' := [(1, .int (nI (i + 1))), (0, .ref (ad 0))]) hx hb d_M_product_118 hl (k := 1) rfl (nI_1 i) (by decide) rfl (fun ls hl => ?_)
        refine lv_goto (tgt := 98) hx hb d_M_product_121 (by decide) ?_
        have hl := lv_sub (l' := [(0, .ref (ad 0)), (1, .int (nI (i + 1)))]) hl [1, 0] rfl
        refine ih _ (fun j hj => ?_) H locs ls hw hl
        rcases Nat.lt_or_ge j i with q | q
        · rw [upL_n (by omega)]; exact hJ j q
        · have e : j = i := by omega
          rw [e, upL_s]; exact hI i hi
      · rintro ve hJ H locs ls hw hl
        refine lv_iload_n hx hb d_M_product_98 rfl (lv_at hl 1 rfl) ?_
        refine lv_aload_n hx hb d_M_product_99 rfl (lv_at hl 0 rfl) ?_
        refine gM_n S hK hw rfl rfl d_M_product_100 ?_
        refine ky_ge (a := N) (b := N) (tgt := 124) hx hb (by omega) (by omega) d_M_product_103 (by decide) (fun h => ?_) (fun h => absurd h (by omega))
        exact hret (_, _, _) ⟨rfl, hJ⟩ hw d_M_product_124
/-- power -/
theorem c_M_power {z : Int64} {E : Nat} (hP2 : 2 ≤ P) (hP : P ≤ 46337) (hE : E < 2147483648) : CT l D (kt cI cJ) y_M_power b_M_power 7 (some .long) (kr 0 0) [.ref (ad 0), .long z, .int (nI E)] (wM ad cI cJ P N O M g ta pr hr dg sv fr fc fv ab au av aw ar ac af ak ax) sz (QL D (kt cI cJ) (G := Unit) (fun r _ => r = pwl (lN P) z E 31 1) (fun u => wM ad cI cJ P N O M g ta pr hr dg sv fr fc fv ab au av aw ar ac af ak ax)) := by
  refine ct_long (by decide) (Nat.le_of_ble_eq_true rfl) ?_
  intro p e s m args below meth c A ls Z S hA hK hw hl hret
  have S : CallFix p m c b_M_power 7 s args lw_g R_M := S
  have hx := S.1
  have hb := S.2.1
  have hown := S.2.2.2.1
  have hts := S.2.2.2.2
  have hl : lv_has ls 7 [(0, .ref (ad 0)), (1, .long z), (3, .int (nI E))] := hl
  refine lv_lconst (v := 1) hx hb d_M_power_0 (by decide) ?_
  refine lv_lstore (lv' := [(4, .long 1), (0, .ref (ad 0)), (1, .long z), (3, .int (nI E))]) hx hb d_M_power_1 hl (by decide) rfl (fun ls hl => ?_)
  refine lv_bipush (v := nI 30) hx hb d_M_power_3 (by decide) ?_
  refine ky_ti (y := nI 31 - 1) (rfl) ?_
  refine lv_istore (lv' := [(6, .int (nI 31 - 1)), (4, .long 1), (0, .ref (ad 0)), (1, .long z), (3, .int (nI E))]) hx hb d_M_power_5 hl (by decide) rfl (fun ls hl => ?_)
  have hl := lv_sub (l' := [(0, .ref (ad 0)), (1, .long z), (3, .int (nI E)), (4, .long 1), (6, .int (nI 31 - 1))]) hl [2, 3, 4, 1, 0] rfl
  have loop : ∀ (n : Nat) (rs : Int64) (ls : Array Slot), n ≤ 31 → lv_has ls 7 [(0, .ref (ad 0)), (1, .long z), (3, .int (nI E)), (4, .long rs), (6, .int (nI n - 1))] → pwl (lN P) z E n rs = pwl (lN P) z E 31 1 → W p l e (kr 0 0) s m args below meth c s.heap [] 0 0 Z (F0 m 7 ls []) := by
    intro n
    induction n with
    | zero =>
      intro rs ls hn hl he
      refine lv_iload hx hb d_M_power_7 (lv_at hl 4 rfl) ?_
      refine lv_if_lt (tgt := 53) hx hb d_M_power_9 (by decide) (fun h => ?_) (fun h => absurd h (by decide))
      refine lv_lload hx hb d_M_power_53 (lv_at hl 3 rfl) ?_
      exact hret () he hw d_M_power_55
    | succ n ih =>
      intro rs ls hn hl he
      have hl : lv_has ls 7 [(0, .ref (ad 0)), (1, .long z), (3, .int (nI E)), (4, .long rs), (6, .int (nI n))] := by rw [nI_pred] at hl; exact hl
      refine lv_iload hx hb d_M_power_7 (lv_at hl 4 rfl) ?_
      refine lv_if_lt (tgt := 53) hx hb d_M_power_9 (by decide) (fun h => absurd h (nI_pos (by omega))) (fun h => ?_)
      refine lv_lload hx hb d_M_power_12 (lv_at hl 3 rfl) ?_
      refine lv_lload hx hb d_M_power_14 (lv_at hl 3 rfl) ?_
      refine lv_lmul hx hb d_M_power_16 ?_
      refine lv_aload_n hx hb d_M_power_17 rfl (lv_at hl 0 rfl) ?_
      refine gM_prime S hK hw rfl rfl d_M_power_18 ?_
      refine ky_i2l hx hb (by omega) d_M_power_21 ?_
      refine ky_lrem hx hb d_M_power_22 (lN_ne0 (by omega) (by omega)) ?_
      refine lv_lstore (lv' := [(4, .long (rmd (rs * rs) (lN P))), (0, .ref (ad 0)), (1, .long z), (3, .int (nI E)), (6, .int (nI n))]) hx hb d_M_power_23 hl (by decide) rfl (fun ls hl => ?_)
      refine lv_iload_n hx hb d_M_power_25 rfl (lv_at hl 3 rfl) ?_
      refine lv_iload hx hb d_M_power_26 (lv_at hl 4 rfl) ?_
      refine lv_ishr hx hb d_M_power_28 ?_
      refine ky_ti (y := nI (E / 2 ^ n)) (pk_shrN hE (nI n &&& 31) n (sh_l n (by omega))) ?_
      have hE2 : E / 2 ^ n < 2147483648 := Nat.lt_of_le_of_lt (Nat.div_le_self _ _) hE
      refine lv_iconst (v := nI 1) hx hb d_M_power_29 (by decide) ?_
      refine lv_iand hx hb d_M_power_30 ?_
      refine ky_ti (y := nI (E / 2 ^ n % 2)) (pk_andN (m := nI 1) (by omega) 1 (by decide)) ?_
      refine lv_iconst (v := nI 1) hx hb d_M_power_31 (by decide) ?_
      refine ky_ne (a := E / 2 ^ n % 2) (b := 1) (tgt := 47) hx hb (by omega) (by omega) d_M_power_32 (by decide) (fun h2 => ?_) (fun h2 => ?_)
      · refine lv_iinc (v := nI n - 1) (lv' := [(6, .int (nI n - 1)), (4, .long (rmd (rs * rs) (lN P))), (0, .ref (ad 0)), (1, .long z), (3, .int (nI E))]) hx hb d_M_power_47 hl (k := 4) rfl (by rw [Int32.sub_eq_add_neg]; rfl) (by decide) rfl (fun ls hl => ?_)
        refine lv_goto (tgt := 7) hx hb d_M_power_50 (by decide) ?_
        have hl := lv_sub (l' := [(0, .ref (ad 0)), (1, .long z), (3, .int (nI E)), (4, .long (rmd (rs * rs) (lN P))), (6, .int (nI n - 1))]) hl [2, 3, 4, 1, 0] rfl
        refine ih _ ls (by omega) hl ?_
        rw [← he]
        show _ = pwl (lN P) z E n (if E / 2 ^ n % 2 = 1 then rmd (rmd (rs * rs) (lN P) * z) (lN P) else rmd (rs * rs) (lN P))
        rw [if_neg h2]
      · refine lv_lload hx hb d_M_power_35 (lv_at hl 0 rfl) ?_
        refine lv_lload_n hx hb d_M_power_37 rfl (lv_at hl 2 rfl) ?_
        refine lv_lmul hx hb d_M_power_38 ?_
        refine lv_aload_n hx hb d_M_power_39 rfl (lv_at hl 1 rfl) ?_
        refine gM_prime S hK hw rfl rfl d_M_power_40 ?_
        refine ky_i2l hx hb (by omega) d_M_power_43 ?_
        refine ky_lrem hx hb d_M_power_44 (lN_ne0 (by omega) (by omega)) ?_
        refine lv_lstore (lv' := [(4, .long (rmd ((rmd (rs * rs) (lN P)) * z) (lN P))), (0, .ref (ad 0)), (1, .long z), (3, .int (nI E)), (6, .int (nI n))]) hx hb d_M_power_45 hl (by decide) rfl (fun ls hl => ?_)
        refine lv_iinc (v := nI n - 1) (lv' := [(6, .int (nI n - 1)), (4, .long (rmd ((rmd (rs * rs) (lN P)) * z) (lN P))), (0, .ref (ad 0)), (1, .long z), (3, .int (nI E))]) hx hb d_M_power_47 hl (k := 4) rfl (by rw [Int32.sub_eq_add_neg]; rfl) (by decide) rfl (fun ls hl => ?_)
        refine lv_goto (tgt := 7) hx hb d_M_power_50 (by decide) ?_
        have hl := lv_sub (l' := [(0, .ref (ad 0)), (1, .long z), (3, .int (nI E)), (4, .long (rmd ((rmd (rs * rs) (lN P)) * z) (lN P))), (6, .int (nI n - 1))]) hl [2, 3, 4, 1, 0] rfl
        refine ih _ ls (by omega) hl ?_
        rw [← he]
        show _ = pwl (lN P) z E n (if E / 2 ^ n % 2 = 1 then rmd (rmd (rs * rs) (lN P) * z) (lN P) else rmd (rs * rs) (lN P))
        rw [if_pos h2]
  exact loop 31 1 ls (by decide) hl rfl
/-- inverse -/
theorem c_M_inverse {z : Int64} (hP2 : 2 ≤ P) (hP : P ≤ 46337) : CT l D (kt cI cJ) y_M_inverse b_M_inverse 3 (some .long) (kr 1 26) [.ref (ad 0), .long z] (wM ad cI cJ P N O M g ta pr hr dg sv fr fc fv ab au av aw ar ac af ak ax) sz (QL D (kt cI cJ) (G := Unit) (fun r _ => r = ivM P z) (fun u => wM ad cI cJ P N O M g ta pr hr dg sv fr fc fv ab au av aw ar ac af ak ax)) := by
  refine ct_long (by decide) (Nat.le_of_ble_eq_true rfl) ?_
  intro p e s m args below meth c A ls Z S hA hK hw hl hret
  have S : CallFix p m c b_M_inverse 3 s args lw_g R_M := S
  have hx := S.1
  have hb := S.2.1
  have hown := S.2.2.2.1
  have hts := S.2.2.2.2
  have hl : lv_has ls 3 [(0, .ref (ad 0)), (1, .long z)] := hl
  refine lv_aload_n hx hb d_M_inverse_0 rfl (lv_at hl 0 rfl) ?_
  refine lv_lload_n hx hb d_M_inverse_1 rfl (lv_at hl 1 rfl) ?_
  refine lv_aload_n hx hb d_M_inverse_2 rfl (lv_at hl 0 rfl) ?_
  refine gM_prime S hK hw rfl rfl d_M_inverse_3 ?_
  refine lv_iconst (v := nI 2) hx hb d_M_inverse_6 (by decide) ?_
  refine lv_isub hx hb d_M_inverse_7 ?_
  refine ky_ti (y := nI (P - 2)) (pk_sub (by omega)) ?_
  refine ky_callVl (As := [.long z, .int (nI (P - 2))]) (rest := []) S hK hw hA hl.1 (c_M_power hP2 hP (E := P - 2) (by omega)) k_M_98 rfl rfl rfl rfl ⟨Nat.le_of_ble_eq_true rfl, Nat.le_of_ble_eq_true rfl⟩ ⟨Nat.zero_le _, Nat.zero_le _⟩ rfl rfl (Nat.le_of_ble_eq_true rfl) d_M_inverse_8 (fun r u H locs hp hw => ?_)
  subst hp
  have hw : kw D A s.heap H locs (wM ad cI cJ P N O M g ta pr hr dg sv fr fc fv ab au av aw ar ac af ak ax) := hw
  exact hret () rfl hw d_M_inverse_11
/-- count -/
theorem c_M_count {k : Int32}  : CT l D (kt cI cJ) y_M_count b_M_count 2 (some .int) (kr 0 0) [.ref (ad 0), .int k] (wM ad cI cJ P N O M g ta pr hr dg sv fr fc fv ab au av aw ar ac af ak ax) sz (QI D (kt cI cJ) (G := Unit) (fun r _ => r = cntR P N M g ta k) (fun u => wM ad cI cJ P N O M g ta pr hr dg sv fr fc fv ab au av aw ar ac af ak ax)) := by
  refine ct_int (by decide) (Nat.le_of_ble_eq_true rfl) ?_
  intro p e s m args below meth c A ls Z S hA hK hw hl hret
  have S : CallFix p m c b_M_count 2 s args lw_g R_M := S
  have hx := S.1
  have hb := S.2.1
  have hown := S.2.2.2.1
  have hts := S.2.2.2.2
  have hl : lv_has ls 2 [(0, .ref (ad 0)), (1, .int k)] := hl
  refine lv_iload_n hx hb d_M_count_0 rfl (lv_at hl 1 rfl) ?_
  by_cases h0 : k = nI 0
  · subst h0
    refine lv_tableIn (tgt := 36) hx hb d_M_count_1 (by decide) (by decide) (off := 35) (by decide) (by decide) ?_
    refine lv_aload_n hx hb d_M_count_36 rfl (lv_at hl 0 rfl) ?_
    refine gM_prime S hK hw rfl rfl d_M_count_37 ?_
    exact hret () (by unfold cntR; rw [if_pos rfl]) hw d_M_count_40
  · by_cases h1 : k = nI 1
    · subst h1
      refine lv_tableIn (tgt := 41) hx hb d_M_count_1 (by decide) (by decide) (off := 40) (by decide) (by decide) ?_
      refine lv_aload_n hx hb d_M_count_41 rfl (lv_at hl 0 rfl) ?_
      refine gM_n S hK hw rfl rfl d_M_count_42 ?_
      exact hret () (by unfold cntR; rw [if_neg (by decide), if_pos rfl]) hw d_M_count_45
    · by_cases h2 : k = nI 2
      · subst h2
        refine lv_tableIn (tgt := 46) hx hb d_M_count_1 (by decide) (by decide) (off := 45) (by decide) (by decide) ?_
        refine lv_aload_n hx hb d_M_count_46 rfl (lv_at hl 0 rfl) ?_
        refine gM_entries S hK hw rfl rfl d_M_count_47 ?_
        exact hret () (by unfold cntR; rw [if_neg (by decide), if_neg (by decide), if_pos rfl]) hw d_M_count_50
      · by_cases h3 : k = nI 3
        · subst h3
          refine lv_tableIn (tgt := 51) hx hb d_M_count_1 (by decide) (by decide) (off := 50) (by decide) (by decide) ?_
          refine lv_aload_n hx hb d_M_count_51 rfl (lv_at hl 0 rfl) ?_
          refine gM_generator S hK hw rfl rfl d_M_count_52 ?_
          refine lv_l2i hx hb d_M_count_55 rfl ?_
          exact hret () (by unfold cntR; rw [if_neg (by decide), if_neg (by decide), if_neg (by decide), if_pos rfl]) hw d_M_count_56
        · by_cases h4 : k = nI 4
          · subst h4
            refine lv_tableIn (tgt := 57) hx hb d_M_count_1 (by decide) (by decide) (off := 56) (by decide) (by decide) ?_
            refine lv_aload_n hx hb d_M_count_57 rfl (lv_at hl 0 rfl) ?_
            refine gM_attempts S hK hw rfl rfl d_M_count_58 ?_
            exact hret () (by unfold cntR; rw [if_neg (by decide), if_neg (by decide), if_neg (by decide), if_neg (by decide), if_pos rfl]) hw d_M_count_61
          · have ho := sw_out (k := k) (n := 4) (by decide) (fun j hj => by rcases (show j = 0 ∨ j = 1 ∨ j = 2 ∨ j = 3 ∨ j = 4 by omega) with rfl | rfl | rfl | rfl | rfl <;> assumption)
            refine lv_tableOut (tgt := 62) hx hb d_M_count_1 ho (by decide) ?_
            refine lv_iconst (v := -1) hx hb d_M_count_62 (by decide) ?_
            exact hret () (by unfold cntR; rw [if_neg h0, if_neg h1, if_neg h2, if_neg h3, if_neg h4]) hw d_M_count_63
/-- makeRow -/
theorem c_M_makeRow  (h : okD P N O M fr fc) : CT l D (kt cI cJ) y_M_makeRow b_M_makeRow 5 none (kr 1 21) [.ref (ad 0)] (wM ad cI cJ P N O M g ta pr hr dg sv fr fc fv ab au av aw ar ac af ak ax) sz (QV D (kt cI cJ) (G := Int64 × Int32 × (Nat → Int64) × (Nat → Int64) × (Nat → Int64) × (Nat → Int64)) (fun u => u.1 = gS gM g N ∧ u.2.1 = pr + nI (2 * N - 1) ∧ ∀ k, k < 2 * N → u.2.2.2.2.2 k = dot P (fun j => dM P (gS gM g j)) (vK P M fr fc fv ab k) N) (fun u => wM ad cI cJ P N O M (u.1) ta (u.2.1) true dg sv fr fc fv ab (u.2.2.1) (u.2.2.2.1) (u.2.2.2.2.1) (u.2.2.2.2.2) ac af ak ax)) := by
  refine ct_void (by decide) (Nat.le_of_ble_eq_true rfl) ?_
  intro p e s m args below meth c A ls Z S hA hK hw hl hret
  have S : CallFix p m c b_M_makeRow 5 s args lw_g R_M := S
  have hx := S.1
  have hb := S.2.1
  have hown := S.2.2.2.1
  have hts := S.2.2.2.2
  have hl : lv_has ls 5 [(0, .ref (ad 0))] := hl
  obtain ⟨hP2, hP, hN1, hN, hO1, hO, hM, hrc⟩ := h
  have hok : okD P N O M fr fc := ⟨hP2, hP, hN1, hN, hO1, hO, hM, hrc⟩
  refine lv_iconst (v := nI 0) hx hb d_M_makeRow_0 (by decide) ?_
  refine lv_istore_n (lv' := [(1, .int (nI 0)), (0, .ref (ad 0))]) hx hb d_M_makeRow_1 rfl hl (by decide) rfl (fun ls hl => ?_)
  have hl := lv_sub (l' := [(0, .ref (ad 0)), (1, .int (nI 0))]) hl [1, 0] rfl
  refine for_ri (i0 := 0) (N := N) (st := ((g, au) : Int64 × (Nat → Int64)))
    (fun (i : Nat) (st : Int64 × (Nat → Int64)) => match st with | (g1, au) => ∀ (H : Heap) (locs : List Loc) (ls : Array Slot), kw D A s.heap H locs (wM ad cI cJ P N O M g1 ta pr hr dg sv fr fc fv ab au av aw ar ac af ak ax) → lv_has ls 5 [(0, .ref (ad 0)), (1, .int (nI i))] → W p l e (kr 1 21) s m args below meth c H locs 0 0 Z (F0 m 2 ls []))
    (fun (i : Nat) (st : Int64 × (Nat → Int64)) => match st with | (g1, au) => g1 = gS gM g i ∧ ∀ j, j < i → au j = dM P (gS gM g j))
    (by omega) ?_ ?_ ?_ s.heap [] ls hw hl
  · exact ⟨rfl, fun j hj => absurd hj (by omega)⟩
  · rintro i ⟨g1, au⟩ hi0 hi hI ih H locs ls hw hl
    obtain ⟨hg, hu⟩ := hI
    refine lv_iload_n hx hb d_M_makeRow_2 rfl (lv_at hl 1 rfl) ?_
    refine lv_aload_n hx hb d_M_makeRow_3 rfl (lv_at hl 0 rfl) ?_
    refine gM_n S hK hw rfl rfl d_M_makeRow_4 ?_
    refine ky_ge (a := i) (b := N) (tgt := 26) hx hb (by omega) (by omega) d_M_makeRow_7 (by decide) (fun h => absurd h (by omega)) (fun h => ?_)
    refine lv_aload_n hx hb d_M_makeRow_10 rfl (lv_at hl 0 rfl) ?_
    refine gM_drawn S hK hw rfl rfl d_M_makeRow_11 ?_
    refine lv_iload_n hx hb d_M_makeRow_14 rfl (lv_at hl 1 rfl) ?_
    refine lv_aload_n hx hb d_M_makeRow_15 rfl (lv_at hl 0 rfl) ?_
    refine ky_callVl (As := []) (rest := [.int (nI i), .ref (ad 5)]) S hK hw hA hl.1 (c_M_draw hP2 hP) k_M_102 rfl rfl rfl rfl ⟨Nat.le_of_ble_eq_true rfl, Nat.le_of_ble_eq_true rfl⟩ ⟨Nat.zero_le _, Nat.zero_le _⟩ rfl rfl (Nat.le_of_ble_eq_true rfl) d_M_makeRow_16 (fun r u H locs hp hw => ?_)
    subst hp
    have hw : kw D A s.heap H locs (wM ad cI cJ P N O M (gM g1) ta pr hr dg sv fr fc fv ab au av aw ar ac af ak ax) := hw
    refine ky_last S hK hw 5 rfl (by omega) (by omega) d_M_makeRow_19 (fun H locs hw => ?_)
    have hw : kw D A s.heap H locs (wM ad cI cJ P N O M (gM g1) ta pr hr dg sv fr fc fv ab (vp_updL au i (dM P g1)) av aw ar ac af ak ax) := hw
    refine lv_iinc (v := nI (i + 1)) (lv' := [(1, .int (nI (i + 1))), (0, .ref (ad 0))]) hx hb d_M_makeRow_20 hl (k := 1) rfl (nI_1 i) (by decide) rfl (fun ls hl => ?_)
    refine lv_goto (tgt := 2) hx hb d_M_makeRow_23 (by decide) ?_
    have hl := lv_sub (l' := [(0, .ref (ad 0)), (1, .int (nI (i + 1)))]) hl [1, 0] rfl
    refine ih (_, _) ⟨by rw [hg]; rfl, fun j hj => ?_⟩ H locs ls hw hl
    rcases Nat.lt_or_ge j i with q | q
    · rw [upL_n (by omega)]; exact hu j q
    · have e : j = i := by omega
      rw [e, upL_s, hg]
  · rintro ⟨g1, au⟩ hI H locs ls hw hl
    obtain ⟨hg, hu⟩ := hI
    refine lv_iload_n hx hb d_M_makeRow_2 rfl (lv_at hl 1 rfl) ?_
    refine lv_aload_n hx hb d_M_makeRow_3 rfl (lv_at hl 0 rfl) ?_
    refine gM_n S hK hw rfl rfl d_M_makeRow_4 ?_
    refine ky_ge (a := N) (b := N) (tgt := 26) hx hb (by omega) (by omega) d_M_makeRow_7 (by decide) (fun h => ?_) (fun h => absurd h (by omega))
    refine lv_iconst (v := nI 0) hx hb d_M_makeRow_26 (by decide) ?_
    refine lv_istore_n (lv' := [(1, .int (nI 0)), (0, .ref (ad 0))]) hx hb d_M_makeRow_27 rfl hl (by decide) rfl (fun ls hl => ?_)
    have hl := lv_sub (l' := [(0, .ref (ad 0)), (1, .int (nI 0))]) hl [1, 0] rfl
    refine for_ri (i0 := 0) (N := N) (st := (av : Nat → Int64))
      (fun (i : Nat) (av : Nat → Int64) => ∀ (H : Heap) (locs : List Loc) (ls : Array Slot), kw D A s.heap H locs (wM ad cI cJ P N O M g1 ta pr hr dg sv fr fc fv ab au av aw ar ac af ak ax) → lv_has ls 5 [(0, .ref (ad 0)), (1, .int (nI i))] → W p l e (kr 1 21) s m args below meth c H locs 0 0 Z (F0 m 28 ls []))
      (fun (i : Nat) (av : Nat → Int64) => ∀ j, j < i → av j = ab j)
      (by omega) ?_ ?_ ?_ H locs ls hw hl
    · exact fun j hj => absurd hj (by omega)
    · rintro i av hi0 hi hv ih H locs ls hw hl
      refine lv_iload_n hx hb d_M_makeRow_28 rfl (lv_at hl 1 rfl) ?_
      refine lv_aload_n hx hb d_M_makeRow_29 rfl (lv_at hl 0 rfl) ?_
      refine gM_n S hK hw rfl rfl d_M_makeRow_30 ?_
      refine ky_ge (a := i) (b := N) (tgt := 54) hx hb (by omega) (by omega) d_M_makeRow_33 (by decide) (fun h => absurd h (by omega)) (fun h => ?_)
      refine lv_aload_n hx hb d_M_makeRow_36 rfl (lv_at hl 0 rfl) ?_
      refine gM_vector S hK hw rfl rfl d_M_makeRow_37 ?_
      refine lv_iload_n hx hb d_M_makeRow_40 rfl (lv_at hl 1 rfl) ?_
      refine lv_aload_n hx hb d_M_makeRow_41 rfl (lv_at hl 0 rfl) ?_
      refine gM_right S hK hw rfl rfl d_M_makeRow_42 ?_
      refine lv_iload_n hx hb d_M_makeRow_45 rfl (lv_at hl 1 rfl) ?_
      refine ky_lald S hK hw 4 rfl (by omega) (by omega) d_M_makeRow_46 ?_
      refine ky_last S hK hw 6 rfl (by omega) (by omega) d_M_makeRow_47 (fun H locs hw => ?_)
      have hw : kw D A s.heap H locs (wM ad cI cJ P N O M g1 ta pr hr dg sv fr fc fv ab au (vp_updL av i (ab i)) aw ar ac af ak ax) := hw
      refine lv_iinc (v := nI (i + 1)) (lv' := [(1, .int (nI (i + 1))), (0, .ref (ad 0))]) hx hb d_M_makeRow_48 hl (k := 1) rfl (nI_1 i) (by decide) rfl (fun ls hl => ?_)
      refine lv_goto (tgt := 28) hx hb d_M_makeRow_51 (by decide) ?_
      have hl := lv_sub (l' := [(0, .ref (ad 0)), (1, .int (nI (i + 1)))]) hl [1, 0] rfl
      refine ih _ (fun j hj => ?_) H locs ls hw hl
      rcases Nat.lt_or_ge j i with q | q
      · rw [upL_n (by omega)]; exact hv j q
      · have e : j = i := by omega
        rw [e, upL_s]
    · rintro av hv H locs ls hw hl
      refine lv_iload_n hx hb d_M_makeRow_28 rfl (lv_at hl 1 rfl) ?_
      refine lv_aload_n hx hb d_M_makeRow_29 rfl (lv_at hl 0 rfl) ?_
      refine gM_n S hK hw rfl rfl d_M_makeRow_30 ?_
      refine ky_ge (a := N) (b := N) (tgt := 54) hx hb (by omega) (by omega) d_M_makeRow_33 (by decide) (fun h => ?_) (fun h => absurd h (by omega))
      refine lv_iconst (v := nI 0) hx hb d_M_makeRow_54 (by decide) ?_
      refine lv_istore_n (lv' := [(1, .int (nI 0)), (0, .ref (ad 0))]) hx hb d_M_makeRow_55 rfl hl (by decide) rfl (fun ls hl => ?_)
      have hl := lv_sub (l' := [(0, .ref (ad 0)), (1, .int (nI 0))]) hl [1, 0] rfl
      refine for_ri (i0 := 0) (N := 2 * N) (st := ((pr, av, aw, ar) : Int32 × (Nat → Int64) × (Nat → Int64) × (Nat → Int64)))
        (fun (k : Nat) (st : Int32 × (Nat → Int64) × (Nat → Int64) × (Nat → Int64)) => match st with | (pr1, av, aw, ar) => ∀ (H : Heap) (locs : List Loc) (ls : Array Slot), kw D A s.heap H locs (wM ad cI cJ P N O M g1 ta pr1 hr dg sv fr fc fv ab au av aw ar ac af ak ax) → lv_has ls 5 [(0, .ref (ad 0)), (1, .int (nI k))] → W p l e (kr 1 21) s m args below meth c H locs 0 0 Z (F0 m 56 ls []))
        (fun (k : Nat) (st : Int32 × (Nat → Int64) × (Nat → Int64) × (Nat → Int64)) => match st with | (pr1, av, aw, ar) => pr1 = pr + nI (k - 1) ∧ (∀ j, j < N → av j = vK P M fr fc fv ab (k - 1) j) ∧ ∀ j, j < k → ar j = dot P (fun j => dM P (gS gM g j)) (vK P M fr fc fv ab j) N)
        (by omega) ?_ ?_ ?_ H locs ls hw hl
      · exact ⟨by rw [show (0 - 1 : Nat) = 0 from rfl, nI_0, Int32.add_zero], fun j hj => hv j hj, fun j hj => absurd hj (by omega)⟩
      · rintro k ⟨pr1, av, aw, ar⟩ hk0 hk hI ih H locs ls hw hl
        obtain ⟨hp1, hv1, hr1⟩ := hI
        refine lv_iload_n hx hb d_M_makeRow_56 rfl (lv_at hl 1 rfl) ?_
        refine lv_iconst (v := nI 2) hx hb d_M_makeRow_57 (by decide) ?_
        refine lv_aload_n hx hb d_M_makeRow_58 rfl (lv_at hl 0 rfl) ?_
        refine gM_n S hK hw rfl rfl d_M_makeRow_59 ?_
        refine lv_imul hx hb d_M_makeRow_62 ?_
        refine ky_ti (y := nI (2 * N)) (pk_mul 2 N) ?_
        refine ky_ge (a := k) (b := 2 * N) (tgt := 131) hx hb (by omega) (by omega) d_M_makeRow_63 (by decide) (fun h => absurd h (by omega)) (fun h => ?_)
        refine lv_iload_n hx hb d_M_makeRow_66 rfl (lv_at hl 1 rfl) ?_
        have key : ∀ (pr2 : Int32) (av aw : Nat → Int64) (H : Heap) (locs : List Loc), pr2 = pr + nI k → (∀ j, j < N → av j = vK P M fr fc fv ab k j) → kw D A s.heap H locs (wM ad cI cJ P N O M g1 ta pr2 hr dg sv fr fc fv ab au av aw ar ac af ak ax) → W p l e (kr 1 21) s m args below meth c H locs 0 0 Z (F0 m 74 ls []) := by
          intro pr2 av aw H locs hp2 hv2 hw
          refine lv_lconst (v := 0) hx hb d_M_makeRow_74 (by decide) ?_
          refine lv_lstore_n (lv' := [(2, .long 0), (0, .ref (ad 0)), (1, .int (nI k))]) hx hb d_M_makeRow_75 rfl hl (by decide) rfl (fun ls hl => ?_)
          refine lv_iconst (v := nI 0) hx hb d_M_makeRow_76 (by decide) ?_
          refine lv_istore (lv' := [(4, .int (nI 0)), (2, .long 0), (0, .ref (ad 0)), (1, .int (nI k))]) hx hb d_M_makeRow_77 hl (by decide) rfl (fun ls hl => ?_)
          have hl := lv_sub (l' := [(0, .ref (ad 0)), (1, .int (nI k)), (2, .long 0), (4, .int (nI 0))]) hl [2, 3, 1, 0] rfl
          refine for_ri (i0 := 0) (N := N) (st := (0 : Int64))
            (fun (i : Nat) (sm : Int64) => ∀ (H : Heap) (locs : List Loc) (ls : Array Slot), kw D A s.heap H locs (wM ad cI cJ P N O M g1 ta pr2 hr dg sv fr fc fv ab au av aw ar ac af ak ax) → lv_has ls 5 [(0, .ref (ad 0)), (1, .int (nI k)), (2, .long sm), (4, .int (nI i))] → W p l e (kr 1 21) s m args below meth c H locs 0 0 Z (F0 m 79 ls []))
            (fun (i : Nat) (sm : Int64) => sm = dot P (fun j => dM P (gS gM g j)) (vK P M fr fc fv ab k) i)
            (by omega) ?_ ?_ ?_ H locs ls hw hl
          · rfl
          · rintro i sm hi0 hi hJ ih2 H locs ls hw hl
            refine lv_iload hx hb d_M_makeRow_79 (lv_at hl 3 rfl) ?_
            refine lv_aload_n hx hb d_M_makeRow_81 rfl (lv_at hl 0 rfl) ?_
            refine gM_n S hK hw rfl rfl d_M_makeRow_82 ?_
            refine ky_ge (a := i) (b := N) (tgt := 118) hx hb (by omega) (by omega) d_M_makeRow_85 (by decide) (fun h3 => absurd h3 (by omega)) (fun h3 => ?_)
            refine lv_lload_n hx hb d_M_makeRow_88 rfl (lv_at hl 2 rfl) ?_
            refine lv_aload_n hx hb d_M_makeRow_89 rfl (lv_at hl 0 rfl) ?_
            refine gM_drawn S hK hw rfl rfl d_M_makeRow_90 ?_
            refine lv_iload hx hb d_M_makeRow_93 (lv_at hl 3 rfl) ?_
            refine ky_lald S hK hw 5 rfl (by omega) (by omega) d_M_makeRow_95 ?_
            refine lv_aload_n hx hb d_M_makeRow_96 rfl (lv_at hl 0 rfl) ?_
            refine gM_vector S hK hw rfl rfl d_M_makeRow_97 ?_
            refine lv_iload hx hb d_M_makeRow_100 (lv_at hl 3 rfl) ?_
            refine ky_lald S hK hw 6 rfl (by omega) (by omega) d_M_makeRow_102 ?_
            refine lv_lmul hx hb d_M_makeRow_103 ?_
            refine lv_ladd hx hb d_M_makeRow_104 ?_
            refine lv_aload_n hx hb d_M_makeRow_105 rfl (lv_at hl 0 rfl) ?_
            refine gM_prime S hK hw rfl rfl d_M_makeRow_106 ?_
            refine ky_i2l hx hb (by omega) d_M_makeRow_109 ?_
            refine ky_lrem hx hb d_M_makeRow_110 (lN_ne0 (by omega) (by omega)) ?_
            refine lv_lstore_n (lv' := [(2, .long (rmd (sm + ((au i) * (av i))) (lN P))), (0, .ref (ad 0)), (1, .int (nI k)), (4, .int (nI i))]) hx hb d_M_makeRow_111 rfl hl (by decide) rfl (fun ls hl => ?_)
            refine lv_iinc (v := nI (i + 1)) (lv' := [(4, .int (nI (i + 1))), (2, .long (rmd (sm + ((au i) * (av i))) (lN P))), (0, .ref (ad 0)), (1, .int (nI k))]) hx hb d_M_makeRow_112 hl (k := 3) rfl (nI_1 i) (by decide) rfl (fun ls hl => ?_)
            refine lv_goto (tgt := 79) hx hb d_M_makeRow_115 (by decide) ?_
            have hl := lv_sub (l' := [(0, .ref (ad 0)), (1, .int (nI k)), (2, .long (rmd (sm + ((au i) * (av i))) (lN P))), (4, .int (nI (i + 1)))]) hl [2, 3, 1, 0] rfl
            refine ih2 _ ?_ H locs ls hw hl
            rw [hJ, hu _ hi, hv2 _ hi]; rfl
          · rintro sm hJ H locs ls hw hl
            refine lv_iload hx hb d_M_makeRow_79 (lv_at hl 3 rfl) ?_
            refine lv_aload_n hx hb d_M_makeRow_81 rfl (lv_at hl 0 rfl) ?_
            refine gM_n S hK hw rfl rfl d_M_makeRow_82 ?_
            refine ky_ge (a := N) (b := N) (tgt := 118) hx hb (by omega) (by omega) d_M_makeRow_85 (by decide) (fun h3 => ?_) (fun h3 => absurd h3 (by omega))
            refine lv_aload_n hx hb d_M_makeRow_118 rfl (lv_at hl 0 rfl) ?_
            refine gM_row S hK hw rfl rfl d_M_makeRow_119 ?_
            refine lv_iload_n hx hb d_M_makeRow_122 rfl (lv_at hl 1 rfl) ?_
            refine lv_lload_n hx hb d_M_makeRow_123 rfl (lv_at hl 2 rfl) ?_
            refine ky_last S hK hw 8 rfl (by omega) (by omega) d_M_makeRow_124 (fun H locs hw => ?_)
            have hw : kw D A s.heap H locs (wM ad cI cJ P N O M g1 ta pr2 hr dg sv fr fc fv ab au av aw (vp_updL ar k sm) ac af ak ax) := hw
            refine lv_iinc (v := nI (k + 1)) (lv' := [(1, .int (nI (k + 1))), (0, .ref (ad 0)), (2, .long sm), (4, .int (nI N))]) hx hb d_M_makeRow_125 hl (k := 1) rfl (nI_1 k) (by decide) rfl (fun ls hl => ?_)
            refine lv_goto (tgt := 56) hx hb d_M_makeRow_128 (by decide) ?_
            have hl := lv_sub (l' := [(0, .ref (ad 0)), (1, .int (nI (k + 1)))]) hl [1, 0] rfl
            refine ih (_, _, _, _) ⟨hp2, hv2, fun j hj => ?_⟩ H locs ls hw hl
            rcases Nat.lt_or_ge j k with q | q
            · rw [upL_n (by omega)]; exact hr1 j q
            · have e : j = k := by omega
              rw [e, upL_s]; exact hJ
        refine ky_ifle (tgt := 74) hx hb (by omega) d_M_makeRow_67 (by decide) (fun h2 => ?_) (fun h2 => ?_)
        · subst h2
          exact key _ _ _ _ _ hp1 hv1 hw
        · refine lv_aload_n hx hb d_M_makeRow_70 rfl (lv_at hl 0 rfl) ?_
          refine ky_callVv (As := []) (rest := []) S hK hw hA hl.1 (c_M_product hok) k_M_106 rfl rfl rfl rfl ⟨Nat.le_of_ble_eq_true rfl, Nat.le_of_ble_eq_true rfl⟩ ⟨Nat.zero_le _, Nat.zero_le _⟩ rfl rfl (Nat.le_of_ble_eq_true rfl) d_M_makeRow_71 (fun u H locs hp hw => ?_)
          obtain ⟨pr2, aw2, av2⟩ := u
          obtain ⟨hp2, hv2⟩ := hp
          dsimp only at hp2 hv2
          have hw : kw D A s.heap H locs (wM ad cI cJ P N O M g1 ta pr2 hr dg sv fr fc fv ab au av2 aw2 ar ac af ak ax) := hw
          refine key _ _ _ _ _ ?_ ?_ hw
          · rw [hp2, hp1, i_nI1]; congr 2; omega
          · intro j hj
            rw [hv2 j hj, muK_congr hrc hv1]
            have e : k = (k - 1) + 1 := by omega
            conv => rhs; rw [e]
            rfl
      · rintro ⟨pr1, av, aw, ar⟩ hI H locs ls hw hl
        obtain ⟨hp1, hv1, hr1⟩ := hI
        refine lv_iload_n hx hb d_M_makeRow_56 rfl (lv_at hl 1 rfl) ?_
        refine lv_iconst (v := nI 2) hx hb d_M_makeRow_57 (by decide) ?_
        refine lv_aload_n hx hb d_M_makeRow_58 rfl (lv_at hl 0 rfl) ?_
        refine gM_n S hK hw rfl rfl d_M_makeRow_59 ?_
        refine lv_imul hx hb d_M_makeRow_62 ?_
        refine ky_ti (y := nI (2 * N)) (pk_mul 2 N) ?_
        refine ky_ge (a := 2 * N) (b := 2 * N) (tgt := 131) hx hb (by omega) (by omega) d_M_makeRow_63 (by decide) (fun h => ?_) (fun h => absurd h (by omega))
        refine lv_aload_n hx hb d_M_makeRow_131 rfl (lv_at hl 0 rfl) ?_
        refine lv_iconst (v := nI 1) hx hb d_M_makeRow_132 (by decide) ?_
        refine ky_ti (y := bI true) (rfl) ?_
        refine pM_hasRow (v := true) S hK hw rfl (Nat.le_of_ble_eq_true rfl) d_M_makeRow_133 (fun H locs hw => ?_)
        have hw : kw D A s.heap H locs (wM ad cI cJ P N O M g1 ta pr1 true dg sv fr fc fv ab au av aw ar ac af ak ax) := hw
        exact hret (_, _, _, _, _, _) ⟨hg, hp1, hr1⟩ hw d_M_makeRow_136
end
end
section
section
variable {l : Launch} {D : va_G} {cI cJ : ClassId} {ad : Nat → Nat} {sz P N O M : Nat} {dg : Int32} {sv hr : Bool} {g : Int64} {pr ta : Int32} {fr fc : Nat → Nat} {fv : Nat → Int64} {ab au av aw ax ar ac af ak : Nat → Int64}
/-- recur -/
theorem c_M_recur  (h : okD P N O M fr fc) : CT l D (kt cI cJ) y_M_recur b_M_recur 11 none (kr 2 48) [.ref (ad 0)] (wM ad cI cJ P N O M g ta pr hr dg sv fr fc fv ab au av aw ar ac af ak ax) sz (QV D (kt cI cJ) (G := Int32 × (Nat → Int64) × (Nat → Int64) × (Nat → Int64)) (fun u => u.1 = nI (bm P (ivM P) ar (2 * N)).2.2.1 ∧ (∀ j, j < 34 → u.2.1 j = (bm P (ivM P) ar (2 * N)).1 j) ∧ (bm P (ivM P) ar (2 * N)).2.2.1 ≤ 2 * N) (fun u => wM ad cI cJ P N O M g ta pr hr (u.1) sv fr fc fv ab au av aw ar (u.2.1) (u.2.2.1) (u.2.2.2) ax)) := by
  refine ct_void (by decide) (Nat.le_of_ble_eq_true rfl) ?_
  intro p e s m args below meth c A ls Z S hA hK hw hl hret
  have S : CallFix p m c b_M_recur 11 s args lw_g R_M := S
  have hx := S.1
  have hb := S.2.1
  have hown := S.2.2.2.1
  have hts := S.2.2.2.2
  have hl : lv_has ls 11 [(0, .ref (ad 0))] := hl
  obtain ⟨hP2, hP, hN1, hN, hO1, hO, hM, hrc⟩ := h
  refine lv_iconst (v := nI 0) hx hb d_M_recur_0 (by decide) ?_
  refine lv_istore_n (lv' := [(1, .int (nI 0)), (0, .ref (ad 0))]) hx hb d_M_recur_1 rfl hl (by decide) rfl (fun ls hl => ?_)
  have hl := lv_sub (l' := [(0, .ref (ad 0)), (1, .int (nI 0))]) hl [1, 0] rfl
  refine for_ri (i0 := 0) (N := 100) (st := ((ac, af) : (Nat → Int64) × (Nat → Int64)))
    (fun (i : Nat) (st : (Nat → Int64) × (Nat → Int64)) => match st with | (ac, af) => ∀ (H : Heap) (locs : List Loc) (ls : Array Slot), kw D A s.heap H locs (wM ad cI cJ P N O M g ta pr hr dg sv fr fc fv ab au av aw ar ac af ak ax) → lv_has ls 11 [(0, .ref (ad 0)), (1, .int (nI i))] → W p l e (kr 2 48) s m args below meth c H locs 0 0 Z (F0 m 2 ls []))
    (fun (i : Nat) (st : (Nat → Int64) × (Nat → Int64)) => match st with | (ac, af) => ∀ j, j < i → ac j = 0 ∧ af j = 0)
    (by omega) ?_ ?_ ?_ s.heap [] ls hw hl
  · exact fun j hj => absurd hj (by omega)
  · rintro i ⟨ac, af⟩ hi0 hi hI ih H locs ls hw hl
    refine lv_iload_n hx hb d_M_recur_2 rfl (lv_at hl 1 rfl) ?_
    refine lv_bipush (v := nI 100) hx hb d_M_recur_3 (by decide) ?_
    refine ky_ge (a := i) (b := 100) (tgt := 28) hx hb (by omega) (by omega) d_M_recur_5 (by decide) (fun h => absurd h (by omega)) (fun h => ?_)
    refine lv_aload_n hx hb d_M_recur_8 rfl (lv_at hl 0 rfl) ?_
    refine gM_c S hK hw rfl rfl d_M_recur_9 ?_
    refine lv_iload_n hx hb d_M_recur_12 rfl (lv_at hl 1 rfl) ?_
    refine lv_lconst (v := 0) hx hb d_M_recur_13 (by decide) ?_
    refine ky_last S hK hw 9 rfl (by omega) (by omega) d_M_recur_14 (fun H locs hw => ?_)
    have hw : kw D A s.heap H locs (wM ad cI cJ P N O M g ta pr hr dg sv fr fc fv ab au av aw ar (vp_updL ac i 0) af ak ax) := hw
    refine lv_aload_n hx hb d_M_recur_15 rfl (lv_at hl 0 rfl) ?_
    refine gM_b S hK hw rfl rfl d_M_recur_16 ?_
    refine lv_iload_n hx hb d_M_recur_19 rfl (lv_at hl 1 rfl) ?_
    refine lv_lconst (v := 0) hx hb d_M_recur_20 (by decide) ?_
    refine ky_last S hK hw 10 rfl (by omega) (by omega) d_M_recur_21 (fun H locs hw => ?_)
    have hw : kw D A s.heap H locs (wM ad cI cJ P N O M g ta pr hr dg sv fr fc fv ab au av aw ar (vp_updL ac i 0) (vp_updL af i 0) ak ax) := hw
    refine lv_iinc (v := nI (i + 1)) (lv' := [(1, .int (nI (i + 1))), (0, .ref (ad 0))]) hx hb d_M_recur_22 hl (k := 1) rfl (nI_1 i) (by decide) rfl (fun ls hl => ?_)
    refine lv_goto (tgt := 2) hx hb d_M_recur_25 (by decide) ?_
    have hl := lv_sub (l' := [(0, .ref (ad 0)), (1, .int (nI (i + 1)))]) hl [1, 0] rfl
    refine ih (_, _) (fun j hj => ?_) H locs ls hw hl
    rcases Nat.lt_or_ge j i with q | q
    · rw [upL_n (by omega), upL_n (by omega)]; exact hI j q
    · have e : j = i := by omega
      rw [e, upL_s, upL_s]; exact ⟨rfl, rfl⟩
  · rintro ⟨ac, af⟩ hI H locs ls hw hl
    refine lv_iload_n hx hb d_M_recur_2 rfl (lv_at hl 1 rfl) ?_
    refine lv_bipush (v := nI 100) hx hb d_M_recur_3 (by decide) ?_
    refine ky_ge (a := 100) (b := 100) (tgt := 28) hx hb (by omega) (by omega) d_M_recur_5 (by decide) (fun h => ?_) (fun h => absurd h (by omega))
    refine lv_aload_n hx hb d_M_recur_28 rfl (lv_at hl 0 rfl) ?_
    refine gM_c S hK hw rfl rfl d_M_recur_29 ?_
    refine lv_iconst (v := nI 0) hx hb d_M_recur_32 (by decide) ?_
    refine lv_lconst (v := 1) hx hb d_M_recur_33 (by decide) ?_
    refine ky_last S hK hw 9 rfl (by omega) (by omega) d_M_recur_34 (fun H locs hw => ?_)
    have hw : kw D A s.heap H locs (wM ad cI cJ P N O M g ta pr hr dg sv fr fc fv ab au av aw ar (vp_updL ac 0 1) af ak ax) := hw
    refine lv_aload_n hx hb d_M_recur_35 rfl (lv_at hl 0 rfl) ?_
    refine gM_b S hK hw rfl rfl d_M_recur_36 ?_
    refine lv_iconst (v := nI 0) hx hb d_M_recur_39 (by decide) ?_
    refine lv_lconst (v := 1) hx hb d_M_recur_40 (by decide) ?_
    refine ky_last S hK hw 10 rfl (by omega) (by omega) d_M_recur_41 (fun H locs hw => ?_)
    have hw : kw D A s.heap H locs (wM ad cI cJ P N O M g ta pr hr dg sv fr fc fv ab au av aw ar (vp_updL ac 0 1) (vp_updL af 0 1) ak ax) := hw
    refine lv_iconst (v := nI 0) hx hb d_M_recur_42 (by decide) ?_
    refine lv_istore_n (lv' := [(1, .int (nI 0)), (0, .ref (ad 0))]) hx hb d_M_recur_43 rfl hl (by decide) rfl (fun ls hl => ?_)
    refine lv_iconst (v := nI 1) hx hb d_M_recur_44 (by decide) ?_
    refine lv_istore_n (lv' := [(2, .int (nI 1)), (1, .int (nI 0)), (0, .ref (ad 0))]) hx hb d_M_recur_45 rfl hl (by decide) rfl (fun ls hl => ?_)
    refine lv_lconst (v := 1) hx hb d_M_recur_46 (by decide) ?_
    refine lv_lstore_n (lv' := [(3, .long 1), (2, .int (nI 1)), (1, .int (nI 0)), (0, .ref (ad 0))]) hx hb d_M_recur_47 rfl hl (by decide) rfl (fun ls hl => ?_)
    refine lv_iconst (v := nI 0) hx hb d_M_recur_48 (by decide) ?_
    refine lv_istore (lv' := [(5, .int (nI 0)), (3, .long 1), (2, .int (nI 1)), (1, .int (nI 0)), (0, .ref (ad 0))]) hx hb d_M_recur_49 hl (by decide) rfl (fun ls hl => ?_)
    have hI : ∀ j, j < 100 → vp_updL ac 0 1 j = dl0 j ∧ vp_updL af 0 1 j = dl0 j := by
      intro j hj
      unfold dl0
      by_cases q : j = 0
      · rw [q, upL_s, upL_s, if_pos rfl]; exact ⟨rfl, rfl⟩
      · rw [upL_n q, upL_n q, if_neg q]; exact hI j hj
    have hl := lv_sub (l' := [(0, .ref (ad 0)), (1, .int (nI 0)), (2, .int (nI 1)), (3, .long 1), (5, .int (nI 0))]) hl [4, 3, 2, 1, 0] rfl
    refine for_ri (i0 := 0) (N := 2 * N) (st := ((vp_updL ac 0 1, vp_updL af 0 1, ak, 0, 1, 1) : (Nat → Int64) × (Nat → Int64) × (Nat → Int64) × Nat × Nat × Int64))
      (fun (k : Nat) (st : (Nat → Int64) × (Nat → Int64) × (Nat → Int64) × Nat × Nat × Int64) => match st with | (ac, af, ak, len, sh, la) => ∀ (H : Heap) (locs : List Loc) (ls : Array Slot), kw D A s.heap H locs (wM ad cI cJ P N O M g ta pr hr dg sv fr fc fv ab au av aw ar ac af ak ax) → lv_has ls 11 [(0, .ref (ad 0)), (1, .int (nI len)), (2, .int (nI sh)), (3, .long la), (5, .int (nI k))] → W p l e (kr 2 48) s m args below meth c H locs 0 0 Z (F0 m 51 ls []))
      (fun (k : Nat) (st : (Nat → Int64) × (Nat → Int64) × (Nat → Int64) × Nat × Nat × Int64) => match st with | (ac, af, ak, len, sh, la) => ∃ cf ff, bm P (ivM P) ar k = (cf, ff, len, sh, la) ∧ (∀ j, j < 100 → ac j = cf j ∧ af j = ff j) ∧ len ≤ k ∧ 1 ≤ sh ∧ sh ≤ k + 1)
      (by omega) ?_ ?_ ?_ H locs ls hw hl
    · exact ⟨dl0, dl0, rfl, hI, by omega, by omega, by omega⟩
    · rintro k ⟨ac, af, ak, len, sh, la⟩ hk0 hk hI ih H locs ls hw hl
      obtain ⟨cf, ff, hbm, hcf, hlen, hsh1, hsh2⟩ := hI
      refine lv_iload hx hb d_M_recur_51 (lv_at hl 4 rfl) ?_
      refine lv_iconst (v := nI 2) hx hb d_M_recur_53 (by decide) ?_
      refine lv_aload_n hx hb d_M_recur_54 rfl (lv_at hl 0 rfl) ?_
      refine gM_n S hK hw rfl rfl d_M_recur_55 ?_
      refine lv_imul hx hb d_M_recur_58 ?_
      refine ky_ti (y := nI (2 * N)) (pk_mul 2 N) ?_
      refine ky_ge (a := k) (b := 2 * N) (tgt := 287) hx hb (by omega) (by omega) d_M_recur_59 (by decide) (fun h => absurd h (by omega)) (fun h => ?_)
      refine lv_aload_n hx hb d_M_recur_62 rfl (lv_at hl 0 rfl) ?_
      refine gM_row S hK hw rfl rfl d_M_recur_63 ?_
      refine lv_iload hx hb d_M_recur_66 (lv_at hl 4 rfl) ?_
      refine ky_lald S hK hw 8 rfl (by omega) (by omega) d_M_recur_68 ?_
      refine lv_lstore (lv' := [(6, .long (ar k)), (0, .ref (ad 0)), (1, .int (nI len)), (2, .int (nI sh)), (3, .long la), (5, .int (nI k))]) hx hb d_M_recur_69 hl (by decide) rfl (fun ls hl => ?_)
      refine lv_iconst (v := nI 1) hx hb d_M_recur_71 (by decide) ?_
      refine lv_istore (lv' := [(8, .int (nI 1)), (6, .long (ar k)), (0, .ref (ad 0)), (1, .int (nI len)), (2, .int (nI sh)), (3, .long la), (5, .int (nI k))]) hx hb d_M_recur_72 hl (by decide) rfl (fun ls hl => ?_)
      have hl := lv_sub (l' := [(0, .ref (ad 0)), (1, .int (nI len)), (2, .int (nI sh)), (3, .long la), (5, .int (nI k)), (6, .long (ar k)), (8, .int (nI 1))]) hl [2, 3, 4, 5, 6, 1, 0] rfl
      refine for_ri (i0 := 1) (N := len + 1) (st := (ar k : Int64))
        (fun (i : Nat) (off : Int64) => ∀ (H : Heap) (locs : List Loc) (ls : Array Slot), kw D A s.heap H locs (wM ad cI cJ P N O M g ta pr hr dg sv fr fc fv ab au av aw ar ac af ak ax) → lv_has ls 11 [(0, .ref (ad 0)), (1, .int (nI len)), (2, .int (nI sh)), (3, .long la), (5, .int (nI k)), (6, .long off), (8, .int (nI i))] → W p l e (kr 2 48) s m args below meth c H locs 0 0 Z (F0 m 74 ls []))
        (fun (i : Nat) (off : Int64) => off = offF P cf ar k (i - 1))
        (by omega) ?_ ?_ ?_ H locs ls hw hl
      · rfl
      · rintro i off hi0 hi hJ ih2 H locs ls hw hl
        refine lv_iload hx hb d_M_recur_74 (lv_at hl 6 rfl) ?_
        refine lv_iload_n hx hb d_M_recur_76 rfl (lv_at hl 1 rfl) ?_
        refine ky_gt (a := i) (b := len) (tgt := 115) hx hb (by omega) (by omega) d_M_recur_77 (by decide) (fun h3 => absurd h3 (by omega)) (fun h3 => ?_)
        refine lv_lload hx hb d_M_recur_80 (lv_at hl 5 rfl) ?_
        refine lv_aload_n hx hb d_M_recur_82 rfl (lv_at hl 0 rfl) ?_
        refine gM_c S hK hw rfl rfl d_M_recur_83 ?_
        refine lv_iload hx hb d_M_recur_86 (lv_at hl 6 rfl) ?_
        refine ky_lald S hK hw 9 rfl (by omega) (by omega) d_M_recur_88 ?_
        refine lv_aload_n hx hb d_M_recur_89 rfl (lv_at hl 0 rfl) ?_
        refine gM_row S hK hw rfl rfl d_M_recur_90 ?_
        refine lv_iload hx hb d_M_recur_93 (lv_at hl 4 rfl) ?_
        refine lv_iload hx hb d_M_recur_95 (lv_at hl 6 rfl) ?_
        refine lv_isub hx hb d_M_recur_97 ?_
        refine ky_ti (y := nI (k - i)) (pk_sub (by omega)) ?_
        refine ky_lald S hK hw 8 rfl (by omega) (by omega) d_M_recur_98 ?_
        refine lv_lmul hx hb d_M_recur_99 ?_
        refine lv_ladd hx hb d_M_recur_100 ?_
        refine lv_aload_n hx hb d_M_recur_101 rfl (lv_at hl 0 rfl) ?_
        refine gM_prime S hK hw rfl rfl d_M_recur_102 ?_
        refine ky_i2l hx hb (by omega) d_M_recur_105 ?_
        refine ky_lrem hx hb d_M_recur_106 (lN_ne0 (by omega) (by omega)) ?_
        refine lv_lstore (lv' := [(6, .long (rmd (off + ((ac i) * (ar (k - i)))) (lN P))), (0, .ref (ad 0)), (1, .int (nI len)), (2, .int (nI sh)), (3, .long la), (5, .int (nI k)), (8, .int (nI i))]) hx hb d_M_recur_107 hl (by decide) rfl (fun ls hl => ?_)
        refine lv_iinc (v := nI (i + 1)) (lv' := [(8, .int (nI (i + 1))), (6, .long (rmd (off + ((ac i) * (ar (k - i)))) (lN P))), (0, .ref (ad 0)), (1, .int (nI len)), (2, .int (nI sh)), (3, .long la), (5, .int (nI k))]) hx hb d_M_recur_109 hl (k := 6) rfl (nI_1 i) (by decide) rfl (fun ls hl => ?_)
        refine lv_goto (tgt := 74) hx hb d_M_recur_112 (by decide) ?_
        have hl := lv_sub (l' := [(0, .ref (ad 0)), (1, .int (nI len)), (2, .int (nI sh)), (3, .long la), (5, .int (nI k)), (6, .long (rmd (off + ((ac i) * (ar (k - i)))) (lN P))), (8, .int (nI (i + 1)))]) hl [2, 3, 4, 5, 6, 1, 0] rfl
        refine ih2 _ ?_ H locs ls hw hl
        rw [(hcf i (by omega)).1]; exact off_s hi0 hJ
      · rintro off hJ H locs ls hw hl
        have hoff : off = offF P cf ar k len := hJ
        refine lv_iload hx hb d_M_recur_74 (lv_at hl 6 rfl) ?_
        refine lv_iload_n hx hb d_M_recur_76 rfl (lv_at hl 1 rfl) ?_
        refine ky_gt (a := len + 1) (b := len) (tgt := 115) hx hb (by omega) (by omega) d_M_recur_77 (by decide) (fun h3 => ?_) (fun h3 => absurd h3 (by omega))
        refine lv_lload hx hb d_M_recur_115 (lv_at hl 5 rfl) ?_
        refine lv_lconst (v := 0) hx hb d_M_recur_117 (by decide) ?_
        refine W.lcmp hx hb d_M_recur_118 ?_
        refine ky_lne (tgt := 128) hx hb d_M_recur_119 (by decide) (fun h0 => ?_) (fun h0 => ?_)
        · refine lv_iconst (v := nI 0) hx hb d_M_recur_128 (by decide) ?_
          refine lv_istore (lv' := [(8, .int (nI 0)), (0, .ref (ad 0)), (1, .int (nI len)), (2, .int (nI sh)), (3, .long la), (5, .int (nI k)), (6, .long off)]) hx hb d_M_recur_129 hl (by decide) rfl (fun ls hl => ?_)
          have hl := lv_sub (l' := [(0, .ref (ad 0)), (1, .int (nI len)), (2, .int (nI sh)), (3, .long la), (5, .int (nI k)), (6, .long off), (8, .int (nI 0))]) hl [1, 2, 3, 4, 5, 6, 0] rfl
          refine for_ri (i0 := 0) (N := 100) (st := (ak : Nat → Int64))
            (fun (i : Nat) (ak1 : Nat → Int64) => ∀ (H : Heap) (locs : List Loc) (ls : Array Slot), kw D A s.heap H locs (wM ad cI cJ P N O M g ta pr hr dg sv fr fc fv ab au av aw ar ac af ak1 ax) → lv_has ls 11 [(0, .ref (ad 0)), (1, .int (nI len)), (2, .int (nI sh)), (3, .long la), (5, .int (nI k)), (6, .long off), (8, .int (nI i))] → W p l e (kr 2 48) s m args below meth c H locs 0 0 Z (F0 m 131 ls []))
            (fun (i : Nat) (ak1 : Nat → Int64) => ∀ j, j < i → ak1 j = ac j)
            (by omega) ?_ ?_ ?_ H locs ls hw hl
          · exact fun j hj => absurd hj (by omega)
          · rintro i ak1 hi0 hi hak ih3 H locs ls hw hl
            refine lv_iload hx hb d_M_recur_131 (lv_at hl 6 rfl) ?_
            refine lv_bipush (v := nI 100) hx hb d_M_recur_133 (by decide) ?_
            refine ky_ge (a := i) (b := 100) (tgt := 158) hx hb (by omega) (by omega) d_M_recur_135 (by decide) (fun h4 => absurd h4 (by omega)) (fun h4 => ?_)
            refine lv_aload_n hx hb d_M_recur_138 rfl (lv_at hl 0 rfl) ?_
            refine gM_t S hK hw rfl rfl d_M_recur_139 ?_
            refine lv_iload hx hb d_M_recur_142 (lv_at hl 6 rfl) ?_
            refine lv_aload_n hx hb d_M_recur_144 rfl (lv_at hl 0 rfl) ?_
            refine gM_c S hK hw rfl rfl d_M_recur_145 ?_
            refine lv_iload hx hb d_M_recur_148 (lv_at hl 6 rfl) ?_
            refine ky_lald S hK hw 9 rfl (by omega) (by omega) d_M_recur_150 ?_
            refine ky_last S hK hw 11 rfl (by omega) (by omega) d_M_recur_151 (fun H locs hw => ?_)
            have hw : kw D A s.heap H locs (wM ad cI cJ P N O M g ta pr hr dg sv fr fc fv ab au av aw ar ac af (vp_updL ak1 i (ac i)) ax) := hw
            refine lv_iinc (v := nI (i + 1)) (lv' := [(8, .int (nI (i + 1))), (0, .ref (ad 0)), (1, .int (nI len)), (2, .int (nI sh)), (3, .long la), (5, .int (nI k)), (6, .long off)]) hx hb d_M_recur_152 hl (k := 6) rfl (nI_1 i) (by decide) rfl (fun ls hl => ?_)
            refine lv_goto (tgt := 131) hx hb d_M_recur_155 (by decide) ?_
            have hl := lv_sub (l' := [(0, .ref (ad 0)), (1, .int (nI len)), (2, .int (nI sh)), (3, .long la), (5, .int (nI k)), (6, .long off), (8, .int (nI (i + 1)))]) hl [1, 2, 3, 4, 5, 6, 0] rfl
            refine ih3 _ (fun j hj => ?_) H locs ls hw hl
            rcases Nat.lt_or_ge j i with q | q
            · rw [upL_n (by omega)]; exact hak j q
            · have e : j = i := by omega
              rw [e, upL_s]
          · rintro ak1 hak H locs ls hw hl
            refine lv_iload hx hb d_M_recur_131 (lv_at hl 6 rfl) ?_
            refine lv_bipush (v := nI 100) hx hb d_M_recur_133 (by decide) ?_
            refine ky_ge (a := 100) (b := 100) (tgt := 158) hx hb (by omega) (by omega) d_M_recur_135 (by decide) (fun h4 => ?_) (fun h4 => absurd h4 (by omega))
            refine lv_lload hx hb d_M_recur_158 (lv_at hl 5 rfl) ?_
            refine lv_aload_n hx hb d_M_recur_160 rfl (lv_at hl 0 rfl) ?_
            refine lv_lload_n hx hb d_M_recur_161 rfl (lv_at hl 3 rfl) ?_
            refine ky_callVl (As := [.long la]) (rest := [.long off]) S hK hw hA hl.1 (c_M_inverse hP2 hP) k_M_109 rfl rfl rfl rfl ⟨Nat.le_of_ble_eq_true rfl, Nat.le_of_ble_eq_true rfl⟩ ⟨Nat.zero_le _, Nat.zero_le _⟩ rfl rfl (Nat.le_of_ble_eq_true rfl) d_M_recur_162 (fun r u H locs hp hw => ?_)
            subst hp
            have hw : kw D A s.heap H locs (wM ad cI cJ P N O M g ta pr hr dg sv fr fc fv ab au av aw ar ac af ak1 ax) := hw
            refine lv_lmul hx hb d_M_recur_165 ?_
            refine lv_aload_n hx hb d_M_recur_166 rfl (lv_at hl 0 rfl) ?_
            refine gM_prime S hK hw rfl rfl d_M_recur_167 ?_
            refine ky_i2l hx hb (by omega) d_M_recur_170 ?_
            refine ky_lrem hx hb d_M_recur_171 (lN_ne0 (by omega) (by omega)) ?_
            refine lv_lstore (lv' := [(8, .long (rmd (off * (ivM P la)) (lN P))), (0, .ref (ad 0)), (1, .int (nI len)), (2, .int (nI sh)), (3, .long la), (5, .int (nI k)), (6, .long off)]) hx hb d_M_recur_172 hl (by decide) rfl (fun ls hl => ?_)
            refine lv_iconst (v := nI 0) hx hb d_M_recur_174 (by decide) ?_
            refine lv_istore (lv' := [(10, .int (nI 0)), (8, .long (rmd (off * (ivM P la)) (lN P))), (0, .ref (ad 0)), (1, .int (nI len)), (2, .int (nI sh)), (3, .long la), (5, .int (nI k)), (6, .long off)]) hx hb d_M_recur_175 hl (by decide) rfl (fun ls hl => ?_)
            have hl := lv_sub (l' := [(0, .ref (ad 0)), (1, .int (nI len)), (2, .int (nI sh)), (3, .long la), (5, .int (nI k)), (6, .long off), (8, .long (rmd (off * (ivM P la)) (lN P))), (10, .int (nI 0))]) hl [2, 3, 4, 5, 6, 7, 1, 0] rfl
            refine for_ri (i0 := 0) (N := 100 - sh) (st := (ac : Nat → Int64))
              (fun (i : Nat) (ac1 : Nat → Int64) => ∀ (H : Heap) (locs : List Loc) (ls : Array Slot), kw D A s.heap H locs (wM ad cI cJ P N O M g ta pr hr dg sv fr fc fv ab au av aw ar ac1 af ak1 ax) → lv_has ls 11 [(0, .ref (ad 0)), (1, .int (nI len)), (2, .int (nI sh)), (3, .long la), (5, .int (nI k)), (6, .long off), (8, .long (rmd (off * (ivM P la)) (lN P))), (10, .int (nI i))] → W p l e (kr 2 48) s m args below meth c H locs 0 0 Z (F0 m 177 ls []))
              (fun (i : Nat) (ac1 : Nat → Int64) => ∀ j, j < 100 → ac1 j = if sh ≤ j ∧ j < i + sh then wi P (cf j - rmd (off * ivM P la) (lN P) * ff (j - sh)) else cf j)
              (by omega) ?_ ?_ ?_ H locs ls hw hl
            · exact fun j hj => by rw [if_neg (by omega)]; exact (hcf j hj).1
            · rintro i ac1 hi0 hi hC ih3 H locs ls hw hl
              refine lv_iload hx hb d_M_recur_177 (lv_at hl 7 rfl) ?_
              refine lv_iload_n hx hb d_M_recur_179 rfl (lv_at hl 2 rfl) ?_
              refine lv_iadd hx hb d_M_recur_180 ?_
              refine ky_ti (y := nI (i + sh)) (nI_add i sh) ?_
              refine lv_bipush (v := nI 100) hx hb d_M_recur_181 (by decide) ?_
              refine ky_ge (a := i + sh) (b := 100) (tgt := 225) hx hb (by omega) (by omega) d_M_recur_183 (by decide) (fun h5 => absurd h5 (by omega)) (fun h5 => ?_)
              refine lv_aload_n hx hb d_M_recur_186 rfl (lv_at hl 0 rfl) ?_
              refine gM_c S hK hw rfl rfl d_M_recur_187 ?_
              refine lv_iload hx hb d_M_recur_190 (lv_at hl 7 rfl) ?_
              refine lv_iload_n hx hb d_M_recur_192 rfl (lv_at hl 2 rfl) ?_
              refine lv_iadd hx hb d_M_recur_193 ?_
              refine ky_ti (y := nI (i + sh)) (nI_add i sh) ?_
              refine lv_aload_n hx hb d_M_recur_194 rfl (lv_at hl 0 rfl) ?_
              refine lv_aload_n hx hb d_M_recur_195 rfl (lv_at hl 0 rfl) ?_
              refine gM_c S hK hw rfl rfl d_M_recur_196 ?_
              refine lv_iload hx hb d_M_recur_199 (lv_at hl 7 rfl) ?_
              refine lv_iload_n hx hb d_M_recur_201 rfl (lv_at hl 2 rfl) ?_
              refine lv_iadd hx hb d_M_recur_202 ?_
              refine ky_ti (y := nI (i + sh)) (nI_add i sh) ?_
              refine ky_lald S hK hw 9 rfl (by omega) (by omega) d_M_recur_203 ?_
              refine lv_lload hx hb d_M_recur_204 (lv_at hl 6 rfl) ?_
              refine lv_aload_n hx hb d_M_recur_206 rfl (lv_at hl 0 rfl) ?_
              refine gM_b S hK hw rfl rfl d_M_recur_207 ?_
              refine lv_iload hx hb d_M_recur_210 (lv_at hl 7 rfl) ?_
              refine ky_lald S hK hw 10 rfl (by omega) (by omega) d_M_recur_212 ?_
              refine lv_lmul hx hb d_M_recur_213 ?_
              refine lv_lsub hx hb d_M_recur_214 ?_
              refine ky_callVl (As := [.long ((ac1 (i + sh)) - ((rmd (off * (ivM P la)) (lN P)) * (af i)))]) (rest := [.int (nI (i + sh)), .ref (ad 9)]) S hK hw hA hl.1 (c_M_within hP2 hP) k_M_79 rfl rfl rfl rfl ⟨Nat.le_of_ble_eq_true rfl, Nat.le_of_ble_eq_true rfl⟩ ⟨Nat.zero_le _, Nat.zero_le _⟩ rfl rfl (Nat.le_of_ble_eq_true rfl) d_M_recur_215 (fun r u H locs hp hw => ?_)
              subst hp
              have hw : kw D A s.heap H locs (wM ad cI cJ P N O M g ta pr hr dg sv fr fc fv ab au av aw ar ac1 af ak1 ax) := hw
              refine ky_last S hK hw 9 rfl (by omega) (by omega) d_M_recur_218 (fun H locs hw => ?_)
              have hw : kw D A s.heap H locs (wM ad cI cJ P N O M g ta pr hr dg sv fr fc fv ab au av aw ar (vp_updL ac1 (i + sh) (wi P (ac1 (i + sh) - (rmd (off * ivM P la) (lN P)) * af i))) af ak1 ax) := hw
              refine lv_iinc (v := nI (i + 1)) (lv' := [(10, .int (nI (i + 1))), (0, .ref (ad 0)), (1, .int (nI len)), (2, .int (nI sh)), (3, .long la), (5, .int (nI k)), (6, .long off), (8, .long (rmd (off * (ivM P la)) (lN P)))]) hx hb d_M_recur_219 hl (k := 7) rfl (nI_1 i) (by decide) rfl (fun ls hl => ?_)
              refine lv_goto (tgt := 177) hx hb d_M_recur_222 (by decide) ?_
              have hl := lv_sub (l' := [(0, .ref (ad 0)), (1, .int (nI len)), (2, .int (nI sh)), (3, .long la), (5, .int (nI k)), (6, .long off), (8, .long (rmd (off * (ivM P la)) (lN P))), (10, .int (nI (i + 1)))]) hl [1, 2, 3, 4, 5, 6, 7, 0] rfl
              refine ih3 _ (fun j hj => ?_) H locs ls hw hl
              by_cases q : j = i + sh
              · rw [q, upL_s, if_pos ⟨by omega, by omega⟩, hC (i + sh) (by omega), if_neg (by omega), (hcf i (by omega)).2, show i + sh - sh = i by omega]
              · rw [upL_n q, hC j hj]
                by_cases q2 : sh ≤ j ∧ j < i + sh
                · rw [if_pos q2, if_pos ⟨q2.1, by omega⟩]
                · rw [if_neg q2, if_neg (by omega)]
            · rintro ac1 hC H locs ls hw hl
              have hc2 : ∀ j, j < 100 → ac1 j = cUp P (rmd (off * ivM P la) (lN P)) sh cf ff j := by
                intro j hj
                rw [hC j hj]
                unfold cUp
                by_cases q : sh ≤ j
                · rw [if_pos q, if_pos ⟨q, by omega⟩]
                · rw [if_neg q, if_neg (fun q2 => q q2.1)]
              refine lv_iload hx hb d_M_recur_177 (lv_at hl 7 rfl) ?_
              refine lv_iload_n hx hb d_M_recur_179 rfl (lv_at hl 2 rfl) ?_
              refine lv_iadd hx hb d_M_recur_180 ?_
              refine ky_ti (y := nI ((100 - sh) + sh)) (nI_add (100 - sh) sh) ?_
              refine lv_bipush (v := nI 100) hx hb d_M_recur_181 (by decide) ?_
              refine ky_ge (a := (100 - sh) + sh) (b := 100) (tgt := 225) hx hb (by omega) (by omega) d_M_recur_183 (by decide) (fun h5 => ?_) (fun h5 => absurd h5 (by omega))
              refine lv_iconst (v := nI 2) hx hb d_M_recur_225 (by decide) ?_
              refine lv_iload_n hx hb d_M_recur_226 rfl (lv_at hl 1 rfl) ?_
              refine lv_imul hx hb d_M_recur_227 ?_
              refine ky_ti (y := nI (2 * len)) (pk_mul 2 len) ?_
              refine lv_iload hx hb d_M_recur_228 (lv_at hl 4 rfl) ?_
              refine ky_gt (a := 2 * len) (b := k) (tgt := 278) hx hb (by omega) (by omega) d_M_recur_230 (by decide) (fun h6 => ?_) (fun h6 => ?_)
              · refine lv_iinc (v := nI (sh + 1)) (lv' := [(2, .int (nI (sh + 1))), (0, .ref (ad 0)), (1, .int (nI len)), (3, .long la), (5, .int (nI k)), (6, .long off), (8, .long (rmd (off * (ivM P la)) (lN P))), (10, .int (nI (100 - sh)))]) hx hb d_M_recur_278 hl (k := 2) rfl (nI_1 sh) (by decide) rfl (fun ls hl => ?_)
                refine lv_iinc (v := nI (k + 1)) (lv' := [(5, .int (nI (k + 1))), (2, .int (nI (sh + 1))), (0, .ref (ad 0)), (1, .int (nI len)), (3, .long la), (6, .long off), (8, .long (rmd (off * (ivM P la)) (lN P))), (10, .int (nI (100 - sh)))]) hx hb d_M_recur_281 hl (k := 4) rfl (nI_1 k) (by decide) rfl (fun ls hl => ?_)
                refine lv_goto (tgt := 51) hx hb d_M_recur_284 (by decide) ?_
                have hl := lv_sub (l' := [(0, .ref (ad 0)), (1, .int (nI len)), (2, .int (nI (sh + 1))), (3, .long la), (5, .int (nI (k + 1)))]) hl [2, 3, 1, 4, 0] rfl
                exact ih (_, _, _, _, _, _) ⟨_, ff, bm_b hbm hoff h0 h6, fun j hj => ⟨hc2 j hj, (hcf j hj).2⟩, by omega, by omega, by omega⟩ H locs ls hw hl
              · refine lv_iload hx hb d_M_recur_233 (lv_at hl 4 rfl) ?_
                refine lv_iconst (v := nI 1) hx hb d_M_recur_235 (by decide) ?_
                refine lv_iadd hx hb d_M_recur_236 ?_
                refine ky_ti (y := nI (k + 1)) (nI_add k 1) ?_
                refine lv_iload_n hx hb d_M_recur_237 rfl (lv_at hl 1 rfl) ?_
                refine lv_isub hx hb d_M_recur_238 ?_
                refine ky_ti (y := nI ((k + 1) - len)) (pk_sub (by omega)) ?_
                refine lv_istore_n (lv' := [(1, .int (nI ((k + 1) - len))), (0, .ref (ad 0)), (2, .int (nI sh)), (3, .long la), (5, .int (nI k)), (6, .long off), (8, .long (rmd (off * (ivM P la)) (lN P))), (10, .int (nI (100 - sh)))]) hx hb d_M_recur_239 rfl hl (by decide) rfl (fun ls hl => ?_)
                refine lv_iconst (v := nI 0) hx hb d_M_recur_240 (by decide) ?_
                refine lv_istore (lv' := [(10, .int (nI 0)), (1, .int (nI ((k + 1) - len))), (0, .ref (ad 0)), (2, .int (nI sh)), (3, .long la), (5, .int (nI k)), (6, .long off), (8, .long (rmd (off * (ivM P la)) (lN P)))]) hx hb d_M_recur_241 hl (by decide) rfl (fun ls hl => ?_)
                have hl := lv_sub (l' := [(0, .ref (ad 0)), (1, .int (nI ((k + 1) - len))), (2, .int (nI sh)), (3, .long la), (5, .int (nI k)), (6, .long off), (8, .long (rmd (off * (ivM P la)) (lN P))), (10, .int (nI 0))]) hl [2, 1, 3, 4, 5, 6, 7, 0] rfl
                refine for_ri (i0 := 0) (N := 100) (st := (af : Nat → Int64))
                  (fun (i : Nat) (af1 : Nat → Int64) => ∀ (H : Heap) (locs : List Loc) (ls : Array Slot), kw D A s.heap H locs (wM ad cI cJ P N O M g ta pr hr dg sv fr fc fv ab au av aw ar ac1 af1 ak1 ax) → lv_has ls 11 [(0, .ref (ad 0)), (1, .int (nI ((k + 1) - len))), (2, .int (nI sh)), (3, .long la), (5, .int (nI k)), (6, .long off), (8, .long (rmd (off * (ivM P la)) (lN P))), (10, .int (nI i))] → W p l e (kr 2 48) s m args below meth c H locs 0 0 Z (F0 m 243 ls []))
                  (fun (i : Nat) (af1 : Nat → Int64) => ∀ j, j < i → af1 j = ak1 j)
                  (by omega) ?_ ?_ ?_ H locs ls hw hl
                · exact fun j hj => absurd hj (by omega)
                · rintro i af1 hi0 hi haf ih4 H locs ls hw hl
                  refine lv_iload hx hb d_M_recur_243 (lv_at hl 7 rfl) ?_
                  refine lv_bipush (v := nI 100) hx hb d_M_recur_245 (by decide) ?_
                  refine ky_ge (a := i) (b := 100) (tgt := 270) hx hb (by omega) (by omega) d_M_recur_247 (by decide) (fun h7 => absurd h7 (by omega)) (fun h7 => ?_)
                  refine lv_aload_n hx hb d_M_recur_250 rfl (lv_at hl 0 rfl) ?_
                  refine gM_b S hK hw rfl rfl d_M_recur_251 ?_
                  refine lv_iload hx hb d_M_recur_254 (lv_at hl 7 rfl) ?_
                  refine lv_aload_n hx hb d_M_recur_256 rfl (lv_at hl 0 rfl) ?_
                  refine gM_t S hK hw rfl rfl d_M_recur_257 ?_
                  refine lv_iload hx hb d_M_recur_260 (lv_at hl 7 rfl) ?_
                  refine ky_lald S hK hw 11 rfl (by omega) (by omega) d_M_recur_262 ?_
                  refine ky_last S hK hw 10 rfl (by omega) (by omega) d_M_recur_263 (fun H locs hw => ?_)
                  have hw : kw D A s.heap H locs (wM ad cI cJ P N O M g ta pr hr dg sv fr fc fv ab au av aw ar ac1 (vp_updL af1 i (ak1 i)) ak1 ax) := hw
                  refine lv_iinc (v := nI (i + 1)) (lv' := [(10, .int (nI (i + 1))), (0, .ref (ad 0)), (1, .int (nI ((k + 1) - len))), (2, .int (nI sh)), (3, .long la), (5, .int (nI k)), (6, .long off), (8, .long (rmd (off * (ivM P la)) (lN P)))]) hx hb d_M_recur_264 hl (k := 7) rfl (nI_1 i) (by decide) rfl (fun ls hl => ?_)
                  refine lv_goto (tgt := 243) hx hb d_M_recur_267 (by decide) ?_
                  have hl := lv_sub (l' := [(0, .ref (ad 0)), (1, .int (nI ((k + 1) - len))), (2, .int (nI sh)), (3, .long la), (5, .int (nI k)), (6, .long off), (8, .long (rmd (off * (ivM P la)) (lN P))), (10, .int (nI (i + 1)))]) hl [1, 2, 3, 4, 5, 6, 7, 0] rfl
                  refine ih4 _ (fun j hj => ?_) H locs ls hw hl
                  rcases Nat.lt_or_ge j i with q | q
                  · rw [upL_n (by omega)]; exact haf j q
                  · have e : j = i := by omega
                    rw [e, upL_s]
                · rintro af1 haf H locs ls hw hl
                  refine lv_iload hx hb d_M_recur_243 (lv_at hl 7 rfl) ?_
                  refine lv_bipush (v := nI 100) hx hb d_M_recur_245 (by decide) ?_
                  refine ky_ge (a := 100) (b := 100) (tgt := 270) hx hb (by omega) (by omega) d_M_recur_247 (by decide) (fun h7 => ?_) (fun h7 => absurd h7 (by omega))
                  refine lv_lload hx hb d_M_recur_270 (lv_at hl 5 rfl) ?_
                  refine lv_lstore_n (lv' := [(3, .long off), (0, .ref (ad 0)), (1, .int (nI ((k + 1) - len))), (2, .int (nI sh)), (5, .int (nI k)), (6, .long off), (8, .long (rmd (off * (ivM P la)) (lN P))), (10, .int (nI 100))]) hx hb d_M_recur_272 rfl hl (by decide) rfl (fun ls hl => ?_)
                  refine lv_iconst (v := nI 1) hx hb d_M_recur_273 (by decide) ?_
                  refine lv_istore_n (lv' := [(2, .int (nI 1)), (3, .long off), (0, .ref (ad 0)), (1, .int (nI ((k + 1) - len))), (5, .int (nI k)), (6, .long off), (8, .long (rmd (off * (ivM P la)) (lN P))), (10, .int (nI 100))]) hx hb d_M_recur_274 rfl hl (by decide) rfl (fun ls hl => ?_)
                  refine lv_goto (tgt := 281) hx hb d_M_recur_275 (by decide) ?_
                  refine lv_iinc (v := nI (k + 1)) (lv' := [(5, .int (nI (k + 1))), (2, .int (nI 1)), (3, .long off), (0, .ref (ad 0)), (1, .int (nI ((k + 1) - len))), (6, .long off), (8, .long (rmd (off * (ivM P la)) (lN P))), (10, .int (nI 100))]) hx hb d_M_recur_281 hl (k := 4) rfl (nI_1 k) (by decide) rfl (fun ls hl => ?_)
                  refine lv_goto (tgt := 51) hx hb d_M_recur_284 (by decide) ?_
                  have hl := lv_sub (l' := [(0, .ref (ad 0)), (1, .int (nI ((k + 1) - len))), (2, .int (nI 1)), (3, .long off), (5, .int (nI (k + 1)))]) hl [3, 4, 1, 2, 0] rfl
                  exact ih (_, _, _, _, _, _) ⟨_, cf, bm_a hbm hoff h0 h6, fun j hj => ⟨hc2 j hj, by rw [haf j hj, hak j hj]; exact (hcf j hj).1⟩, by omega, by omega, by omega⟩ H locs ls hw hl
        · refine lv_iinc (v := nI (sh + 1)) (lv' := [(2, .int (nI (sh + 1))), (0, .ref (ad 0)), (1, .int (nI len)), (3, .long la), (5, .int (nI k)), (6, .long off), (8, .int (nI (len + 1)))]) hx hb d_M_recur_122 hl (k := 2) rfl (nI_1 sh) (by decide) rfl (fun ls hl => ?_)
          refine lv_goto (tgt := 281) hx hb d_M_recur_125 (by decide) ?_
          refine lv_iinc (v := nI (k + 1)) (lv' := [(5, .int (nI (k + 1))), (2, .int (nI (sh + 1))), (0, .ref (ad 0)), (1, .int (nI len)), (3, .long la), (6, .long off), (8, .int (nI (len + 1)))]) hx hb d_M_recur_281 hl (k := 4) rfl (nI_1 k) (by decide) rfl (fun ls hl => ?_)
          refine lv_goto (tgt := 51) hx hb d_M_recur_284 (by decide) ?_
          have hl := lv_sub (l' := [(0, .ref (ad 0)), (1, .int (nI len)), (2, .int (nI (sh + 1))), (3, .long la), (5, .int (nI (k + 1)))]) hl [2, 3, 1, 4, 0] rfl
          exact ih (_, _, _, _, _, _) ⟨cf, ff, bm_z hbm hoff h0, hcf, by omega, by omega, by omega⟩ H locs ls hw hl
    · rintro ⟨ac, af, ak, len, sh, la⟩ hI H locs ls hw hl
      obtain ⟨cf, ff, hbm, hcf, hlen, hsh1, hsh2⟩ := hI
      refine lv_iload hx hb d_M_recur_51 (lv_at hl 4 rfl) ?_
      refine lv_iconst (v := nI 2) hx hb d_M_recur_53 (by decide) ?_
      refine lv_aload_n hx hb d_M_recur_54 rfl (lv_at hl 0 rfl) ?_
      refine gM_n S hK hw rfl rfl d_M_recur_55 ?_
      refine lv_imul hx hb d_M_recur_58 ?_
      refine ky_ti (y := nI (2 * N)) (pk_mul 2 N) ?_
      refine ky_ge (a := 2 * N) (b := 2 * N) (tgt := 287) hx hb (by omega) (by omega) d_M_recur_59 (by decide) (fun h => ?_) (fun h => absurd h (by omega))
      refine lv_aload_n hx hb d_M_recur_287 rfl (lv_at hl 0 rfl) ?_
      refine lv_iload_n hx hb d_M_recur_288 rfl (lv_at hl 1 rfl) ?_
      refine pM_degree S hK hw rfl (Nat.le_of_ble_eq_true rfl) d_M_recur_289 (fun H locs hw => ?_)
      have hw : kw D A s.heap H locs (wM ad cI cJ P N O M g ta pr hr (nI len) sv fr fc fv ab au av aw ar ac af ak ax) := hw
      exact hret (nI len, _, _, _) ⟨by rw [hbm], fun j hj => by rw [hbm]; exact (hcf j (by omega)).1, by rw [hbm]; exact hlen⟩ hw d_M_recur_292
end
end
section
section
variable {l : Launch} {D : va_G} {cI cJ : ClassId} {ad : Nat → Nat} {sz P N O M : Nat} {dg : Int32} {sv hr : Bool} {g : Int64} {pr ta : Int32} {fr fc : Nat → Nat} {fv : Nat → Int64} {ab au av aw ax ar ac af ak : Nat → Int64}
theorem inB_t {N : Nat} {k : Int32} (hN1 : 1 ≤ N) (hN : N ≤ 16) (h1 : ¬ k < 0) (h2 : ¬ nI N ≤ k) : inB N k = true := (wth_0 hN1 (by omega)).mpr ⟨h1, h2⟩
theorem inB_f1 {N : Nat} {k : Int32} (hN1 : 1 ≤ N) (hN : N ≤ 16) (h1 : k < 0) : inB N k = false := by
  rw [Bool.eq_false_iff]
  exact fun h => ((wth_0 hN1 (by omega)).mp h).1 h1
theorem inB_f2 {N : Nat} {k : Int32} (hN1 : 1 ≤ N) (hN : N ≤ 16) (h1 : nI N ≤ k) : inB N k = false := by
  rw [Bool.eq_false_iff]
  exact fun h => ((wth_0 hN1 (by omega)).mp h).2 h1
/-- makeCandidate -/
theorem c_M_makeCandidate {d : Nat} (h : okD P N O M fr fc) (hd : d ≤ 32) : CT l D (kt cI cJ) y_M_makeCandidate b_M_makeCandidate 4 none (kr 2 48) [.ref (ad 0)] (wM ad cI cJ P N O M g ta pr hr (nI d) sv fr fc fv ab au av aw ar ac af ak ax) sz (QV D (kt cI cJ) (G := Int32 × (Nat → Int64) × (Nat → Int64) × (Nat → Int64)) (fun u => u.1 = pr + nI (d - 1) ∧ ∀ j, j < N → u.2.2.2 j = rmd (xK P M fr fc fv ab ac d (d - 1) j * (if d = 0 then 0 else ivM P (wi P (-(ac d))))) (lN P)) (fun u => wM ad cI cJ P N O M g ta (u.1) hr (nI d) sv fr fc fv ab au (u.2.2.1) (u.2.1) ar ac af ak (u.2.2.2))) := by
  refine ct_void (by decide) (Nat.le_of_ble_eq_true rfl) ?_
  intro p e s m args below meth c A ls Z S hA hK hw hl hret
  have S : CallFix p m c b_M_makeCandidate 4 s args lw_g R_M := S
  have hx := S.1
  have hb := S.2.1
  have hown := S.2.2.2.1
  have hts := S.2.2.2.2
  have hl : lv_has ls 4 [(0, .ref (ad 0))] := hl
  obtain ⟨hP2, hP, hN1, hN, hO1, hO, hM, hrc⟩ := h
  have hok : okD P N O M fr fc := ⟨hP2, hP, hN1, hN, hO1, hO, hM, hrc⟩
  refine lv_iconst (v := nI 0) hx hb d_M_makeCandidate_0 (by decide) ?_
  refine lv_istore_n (lv' := [(1, .int (nI 0)), (0, .ref (ad 0))]) hx hb d_M_makeCandidate_1 rfl hl (by decide) rfl (fun ls hl => ?_)
  have hl := lv_sub (l' := [(0, .ref (ad 0)), (1, .int (nI 0))]) hl [1, 0] rfl
  refine for_ri (i0 := 0) (N := N) (st := (av : Nat → Int64))
    (fun (i : Nat) (av : Nat → Int64) => ∀ (H : Heap) (locs : List Loc) (ls : Array Slot), kw D A s.heap H locs (wM ad cI cJ P N O M g ta pr hr (nI d) sv fr fc fv ab au av aw ar ac af ak ax) → lv_has ls 4 [(0, .ref (ad 0)), (1, .int (nI i))] → W p l e (kr 2 48) s m args below meth c H locs 0 0 Z (F0 m 2 ls []))
    (fun (i : Nat) (av : Nat → Int64) => ∀ j, j < i → av j = xK P M fr fc fv ab ac d 0 j)
    (by omega) ?_ ?_ ?_ s.heap [] ls hw hl
  · exact fun j hj => absurd hj (by omega)
  · rintro i av hi0 hi hI ih H locs ls hw hl
    refine lv_iload_n hx hb d_M_makeCandidate_2 rfl (lv_at hl 1 rfl) ?_
    refine lv_aload_n hx hb d_M_makeCandidate_3 rfl (lv_at hl 0 rfl) ?_
    refine gM_n S hK hw rfl rfl d_M_makeCandidate_4 ?_
    refine ky_ge (a := i) (b := N) (tgt := 39) hx hb (by omega) (by omega) d_M_makeCandidate_7 (by decide) (fun h => absurd h (by omega)) (fun h => ?_)
    refine lv_aload_n hx hb d_M_makeCandidate_10 rfl (lv_at hl 0 rfl) ?_
    refine gM_vector S hK hw rfl rfl d_M_makeCandidate_11 ?_
    refine lv_iload_n hx hb d_M_makeCandidate_14 rfl (lv_at hl 1 rfl) ?_
    refine lv_aload_n hx hb d_M_makeCandidate_15 rfl (lv_at hl 0 rfl) ?_
    refine gM_degree S hK hw rfl rfl d_M_makeCandidate_16 ?_
    refine ky_ifne (tgt := 26) hx hb (by omega) d_M_makeCandidate_19 (by decide) (fun h2 => ?_) (fun h2 => ?_)
    · refine lv_aload_n hx hb d_M_makeCandidate_26 rfl (lv_at hl 0 rfl) ?_
      refine gM_right S hK hw rfl rfl d_M_makeCandidate_27 ?_
      refine lv_iload_n hx hb d_M_makeCandidate_30 rfl (lv_at hl 1 rfl) ?_
      refine ky_lald S hK hw 4 rfl (by omega) (by omega) d_M_makeCandidate_31 ?_
      refine ky_tl (y := xK P M fr fc fv ab ac d 0 i) (by unfold xK; rw [if_neg h2]) ?_
      refine ky_last S hK hw 6 rfl (by omega) (by omega) d_M_makeCandidate_32 (fun H locs hw => ?_)
      have hw : kw D A s.heap H locs (wM ad cI cJ P N O M g ta pr hr (nI d) sv fr fc fv ab au (vp_updL av i (xK P M fr fc fv ab ac d 0 i)) aw ar ac af ak ax) := hw
      refine lv_iinc (v := nI (i + 1)) (lv' := [(1, .int (nI (i + 1))), (0, .ref (ad 0))]) hx hb d_M_makeCandidate_33 hl (k := 1) rfl (nI_1 i) (by decide) rfl (fun ls hl => ?_)
      refine lv_goto (tgt := 2) hx hb d_M_makeCandidate_36 (by decide) ?_
      have hl := lv_sub (l' := [(0, .ref (ad 0)), (1, .int (nI (i + 1)))]) hl [1, 0] rfl
      refine ih _ (fun j hj => ?_) H locs ls hw hl
      rcases Nat.lt_or_ge j i with q | q
      · rw [upL_n (by omega)]; exact hI j q
      · have e : j = i := by omega
        rw [e, upL_s]
    · refine lv_lconst (v := 0) hx hb d_M_makeCandidate_22 (by decide) ?_
      refine lv_goto (tgt := 32) hx hb d_M_makeCandidate_23 (by decide) ?_
      refine ky_tl (y := xK P M fr fc fv ab ac d 0 i) (by unfold xK; rw [if_pos h2]) ?_
      refine ky_last S hK hw 6 rfl (by omega) (by omega) d_M_makeCandidate_32 (fun H locs hw => ?_)
      have hw : kw D A s.heap H locs (wM ad cI cJ P N O M g ta pr hr (nI d) sv fr fc fv ab au (vp_updL av i (xK P M fr fc fv ab ac d 0 i)) aw ar ac af ak ax) := hw
      refine lv_iinc (v := nI (i + 1)) (lv' := [(1, .int (nI (i + 1))), (0, .ref (ad 0))]) hx hb d_M_makeCandidate_33 hl (k := 1) rfl (nI_1 i) (by decide) rfl (fun ls hl => ?_)
      refine lv_goto (tgt := 2) hx hb d_M_makeCandidate_36 (by decide) ?_
      have hl := lv_sub (l' := [(0, .ref (ad 0)), (1, .int (nI (i + 1)))]) hl [1, 0] rfl
      refine ih _ (fun j hj => ?_) H locs ls hw hl
      rcases Nat.lt_or_ge j i with q | q
      · rw [upL_n (by omega)]; exact hI j q
      · have e : j = i := by omega
        rw [e, upL_s]
  · rintro av hI H locs ls hw hl
    refine lv_iload_n hx hb d_M_makeCandidate_2 rfl (lv_at hl 1 rfl) ?_
    refine lv_aload_n hx hb d_M_makeCandidate_3 rfl (lv_at hl 0 rfl) ?_
    refine gM_n S hK hw rfl rfl d_M_makeCandidate_4 ?_
    refine ky_ge (a := N) (b := N) (tgt := 39) hx hb (by omega) (by omega) d_M_makeCandidate_7 (by decide) (fun h => ?_) (fun h => absurd h (by omega))
    refine lv_iconst (v := nI 1) hx hb d_M_makeCandidate_39 (by decide) ?_
    refine lv_istore_n (lv' := [(1, .int (nI 1)), (0, .ref (ad 0))]) hx hb d_M_makeCandidate_40 rfl hl (by decide) rfl (fun ls hl => ?_)
    have hl := lv_sub (l' := [(0, .ref (ad 0)), (1, .int (nI 1))]) hl [1, 0] rfl
    refine for_ri (i0 := 1) (N := max 1 d) (st := ((pr, aw, av) : Int32 × (Nat → Int64) × (Nat → Int64)))
      (fun (k : Nat) (st : Int32 × (Nat → Int64) × (Nat → Int64)) => match st with | (pr1, aw, av) => ∀ (H : Heap) (locs : List Loc) (ls : Array Slot), kw D A s.heap H locs (wM ad cI cJ P N O M g ta pr1 hr (nI d) sv fr fc fv ab au av aw ar ac af ak ax) → lv_has ls 4 [(0, .ref (ad 0)), (1, .int (nI k))] → W p l e (kr 2 48) s m args below meth c H locs 0 0 Z (F0 m 41 ls []))
      (fun (k : Nat) (st : Int32 × (Nat → Int64) × (Nat → Int64)) => match st with | (pr1, aw, av) => pr1 = pr + nI (k - 1) ∧ ∀ j, j < N → av j = xK P M fr fc fv ab ac d (k - 1) j)
      (by omega) ?_ ?_ ?_ H locs ls hw hl
    · exact ⟨by rw [show (1 - 1 : Nat) = 0 from rfl, nI_0, Int32.add_zero], hI⟩
    · rintro k ⟨pr1, aw, av⟩ hk0 hk hI ih H locs ls hw hl
      obtain ⟨hp1, hx1⟩ := hI
      have hkd : k < d := by omega
      refine lv_iload_n hx hb d_M_makeCandidate_41 rfl (lv_at hl 1 rfl) ?_
      refine lv_aload_n hx hb d_M_makeCandidate_42 rfl (lv_at hl 0 rfl) ?_
      refine gM_degree S hK hw rfl rfl d_M_makeCandidate_43 ?_
      refine ky_ge (a := k) (b := d) (tgt := 107) hx hb (by omega) (by omega) d_M_makeCandidate_46 (by decide) (fun h => absurd h (by omega)) (fun h => ?_)
      refine lv_aload_n hx hb d_M_makeCandidate_49 rfl (lv_at hl 0 rfl) ?_
      refine ky_callVv (As := []) (rest := []) S hK hw hA hl.1 (c_M_product hok) k_M_106 rfl rfl rfl rfl ⟨Nat.le_of_ble_eq_true rfl, Nat.le_of_ble_eq_true rfl⟩ ⟨Nat.zero_le _, Nat.zero_le _⟩ rfl rfl (Nat.le_of_ble_eq_true rfl) d_M_makeCandidate_50 (fun u H locs hp hw => ?_)
      obtain ⟨pr2, aw2, av2⟩ := u
      obtain ⟨hp2, hx2⟩ := hp
      dsimp only at hp2 hx2
      have hw : kw D A s.heap H locs (wM ad cI cJ P N O M g ta pr2 hr (nI d) sv fr fc fv ab au av2 aw2 ar ac af ak ax) := hw
      refine lv_iconst (v := nI 0) hx hb d_M_makeCandidate_53 (by decide) ?_
      refine lv_istore_n (lv' := [(2, .int (nI 0)), (0, .ref (ad 0)), (1, .int (nI k))]) hx hb d_M_makeCandidate_54 rfl hl (by decide) rfl (fun ls hl => ?_)
      have hl := lv_sub (l' := [(0, .ref (ad 0)), (1, .int (nI k)), (2, .int (nI 0))]) hl [1, 2, 0] rfl
      refine for_ri (i0 := 0) (N := N) (st := (av2 : Nat → Int64))
        (fun (i : Nat) (av3 : Nat → Int64) => ∀ (H : Heap) (locs : List Loc) (ls : Array Slot), kw D A s.heap H locs (wM ad cI cJ P N O M g ta pr2 hr (nI d) sv fr fc fv ab au av3 aw2 ar ac af ak ax) → lv_has ls 4 [(0, .ref (ad 0)), (1, .int (nI k)), (2, .int (nI i))] → W p l e (kr 2 48) s m args below meth c H locs 0 0 Z (F0 m 55 ls []))
        (fun (i : Nat) (av3 : Nat → Int64) => ∀ j, j < N → av3 j = if j < i then rmd (muK P fr fc fv (xK P M fr fc fv ab ac d (k - 1)) M j + ac k * ab j) (lN P) else muK P fr fc fv (xK P M fr fc fv ab ac d (k - 1)) M j)
        (by omega) ?_ ?_ ?_ H locs ls hw hl
      · intro j hj
        rw [if_neg (by omega), hx2 j hj, muK_congr hrc hx1]
      · rintro i av3 hi0 hi hJ ih2 H locs ls hw hl
        refine lv_iload_n hx hb d_M_makeCandidate_55 rfl (lv_at hl 2 rfl) ?_
        refine lv_aload_n hx hb d_M_makeCandidate_56 rfl (lv_at hl 0 rfl) ?_
        refine gM_n S hK hw rfl rfl d_M_makeCandidate_57 ?_
        refine ky_ge (a := i) (b := N) (tgt := 101) hx hb (by omega) (by omega) d_M_makeCandidate_60 (by decide) (fun h3 => absurd h3 (by omega)) (fun h3 => ?_)
        refine lv_aload_n hx hb d_M_makeCandidate_63 rfl (lv_at hl 0 rfl) ?_
        refine gM_vector S hK hw rfl rfl d_M_makeCandidate_64 ?_
        refine lv_iload_n hx hb d_M_makeCandidate_67 rfl (lv_at hl 2 rfl) ?_
        refine lv_aload_n hx hb d_M_makeCandidate_68 rfl (lv_at hl 0 rfl) ?_
        refine gM_vector S hK hw rfl rfl d_M_makeCandidate_69 ?_
        refine lv_iload_n hx hb d_M_makeCandidate_72 rfl (lv_at hl 2 rfl) ?_
        refine ky_lald S hK hw 6 rfl (by omega) (by omega) d_M_makeCandidate_73 ?_
        refine lv_aload_n hx hb d_M_makeCandidate_74 rfl (lv_at hl 0 rfl) ?_
        refine gM_c S hK hw rfl rfl d_M_makeCandidate_75 ?_
        refine lv_iload_n hx hb d_M_makeCandidate_78 rfl (lv_at hl 1 rfl) ?_
        refine ky_lald S hK hw 9 rfl (by omega) (by omega) d_M_makeCandidate_79 ?_
        refine lv_aload_n hx hb d_M_makeCandidate_80 rfl (lv_at hl 0 rfl) ?_
        refine gM_right S hK hw rfl rfl d_M_makeCandidate_81 ?_
        refine lv_iload_n hx hb d_M_makeCandidate_84 rfl (lv_at hl 2 rfl) ?_
        refine ky_lald S hK hw 4 rfl (by omega) (by omega) d_M_makeCandidate_85 ?_
        refine lv_lmul hx hb d_M_makeCandidate_86 ?_
        refine lv_ladd hx hb d_M_makeCandidate_87 ?_
        refine lv_aload_n hx hb d_M_makeCandidate_88 rfl (lv_at hl 0 rfl) ?_
        refine gM_prime S hK hw rfl rfl d_M_makeCandidate_89 ?_
        refine ky_i2l hx hb (by omega) d_M_makeCandidate_92 ?_
        refine ky_lrem hx hb d_M_makeCandidate_93 (lN_ne0 (by omega) (by omega)) ?_
        refine ky_last S hK hw 6 rfl (by omega) (by omega) d_M_makeCandidate_94 (fun H locs hw => ?_)
        have hw : kw D A s.heap H locs (wM ad cI cJ P N O M g ta pr2 hr (nI d) sv fr fc fv ab au (vp_updL av3 i (rmd ((av3 i) + ((ac k) * (ab i))) (lN P))) aw2 ar ac af ak ax) := hw
        refine lv_iinc (v := nI (i + 1)) (lv' := [(2, .int (nI (i + 1))), (0, .ref (ad 0)), (1, .int (nI k))]) hx hb d_M_makeCandidate_95 hl (k := 2) rfl (nI_1 i) (by decide) rfl (fun ls hl => ?_)
        refine lv_goto (tgt := 55) hx hb d_M_makeCandidate_98 (by decide) ?_
        have hl := lv_sub (l' := [(0, .ref (ad 0)), (1, .int (nI k)), (2, .int (nI (i + 1)))]) hl [1, 2, 0] rfl
        refine ih2 _ (fun j hj => ?_) H locs ls hw hl
        by_cases q : j = i
        · rw [q, upL_s, if_pos (by omega), hJ i hi, if_neg (by omega)]
        · rw [upL_n q, hJ j hj]
          by_cases q2 : j < i
          · rw [if_pos q2, if_pos (by omega)]
          · rw [if_neg q2, if_neg (by omega)]
      · rintro av3 hJ H locs ls hw hl
        refine lv_iload_n hx hb d_M_makeCandidate_55 rfl (lv_at hl 2 rfl) ?_
        refine lv_aload_n hx hb d_M_makeCandidate_56 rfl (lv_at hl 0 rfl) ?_
        refine gM_n S hK hw rfl rfl d_M_makeCandidate_57 ?_
        refine ky_ge (a := N) (b := N) (tgt := 101) hx hb (by omega) (by omega) d_M_makeCandidate_60 (by decide) (fun h3 => ?_) (fun h3 => absurd h3 (by omega))
        refine lv_iinc (v := nI (k + 1)) (lv' := [(1, .int (nI (k + 1))), (0, .ref (ad 0)), (2, .int (nI N))]) hx hb d_M_makeCandidate_101 hl (k := 1) rfl (nI_1 k) (by decide) rfl (fun ls hl => ?_)
        refine lv_goto (tgt := 41) hx hb d_M_makeCandidate_104 (by decide) ?_
        have hl := lv_sub (l' := [(0, .ref (ad 0)), (1, .int (nI (k + 1)))]) hl [1, 0] rfl
        refine ih (_, _, _) ⟨?_, fun j hj => ?_⟩ H locs ls hw hl
        · rw [hp2, hp1, i_nI1]; congr 2; omega
        · rw [hJ j hj, if_pos hj, show k + 1 - 1 = (k - 1) + 1 by omega]
          show _ = rmd (muK P fr fc fv (xK P M fr fc fv ab ac d (k - 1)) M j + ac (k - 1 + 1) * ab j) (lN P)
          rw [show k - 1 + 1 = k by omega]
    · rintro ⟨pr1, aw, av⟩ hI H locs ls hw hl
      obtain ⟨hp1, hx1⟩ := hI
      have hmx : max 1 d - 1 = d - 1 := by omega
      rw [hmx] at hp1 hx1
      refine lv_iload_n hx hb d_M_makeCandidate_41 rfl (lv_at hl 1 rfl) ?_
      refine lv_aload_n hx hb d_M_makeCandidate_42 rfl (lv_at hl 0 rfl) ?_
      refine gM_degree S hK hw rfl rfl d_M_makeCandidate_43 ?_
      refine ky_ge (a := max 1 d) (b := d) (tgt := 107) hx hb (by omega) (by omega) d_M_makeCandidate_46 (by decide) (fun h => ?_) (fun h => absurd h (by omega))
      have key : ∀ (by_ : Int64) (H : Heap) (locs : List Loc), by_ = (if d = 0 then 0 else ivM P (wi P (-(ac d)))) → kw D A s.heap H locs (wM ad cI cJ P N O M g ta pr1 hr (nI d) sv fr fc fv ab au av aw ar ac af ak ax) → W p l e (kr 2 48) s m args below meth c H locs 0 0 Z (F0 m 136 ls [.long by_]) := by
        intro by_ H locs hby hw
        refine lv_lstore_n (lv' := [(1, .long by_), (0, .ref (ad 0))]) hx hb d_M_makeCandidate_136 rfl hl (by decide) rfl (fun ls hl => ?_)
        refine lv_iconst (v := nI 0) hx hb d_M_makeCandidate_137 (by decide) ?_
        refine lv_istore_n (lv' := [(3, .int (nI 0)), (1, .long by_), (0, .ref (ad 0))]) hx hb d_M_makeCandidate_138 rfl hl (by decide) rfl (fun ls hl => ?_)
        have hl := lv_sub (l' := [(0, .ref (ad 0)), (1, .long by_), (3, .int (nI 0))]) hl [2, 1, 0] rfl
        refine for_ri (i0 := 0) (N := N) (st := (ax : Nat → Int64))
          (fun (i : Nat) (ax3 : Nat → Int64) => ∀ (H : Heap) (locs : List Loc) (ls : Array Slot), kw D A s.heap H locs (wM ad cI cJ P N O M g ta pr1 hr (nI d) sv fr fc fv ab au av aw ar ac af ak ax3) → lv_has ls 4 [(0, .ref (ad 0)), (1, .long by_), (3, .int (nI i))] → W p l e (kr 2 48) s m args below meth c H locs 0 0 Z (F0 m 139 ls []))
          (fun (i : Nat) (ax3 : Nat → Int64) => ∀ j, j < i → ax3 j = rmd (xK P M fr fc fv ab ac d (d - 1) j * by_) (lN P))
          (by omega) ?_ ?_ ?_ H locs ls hw hl
        · exact fun j hj => absurd hj (by omega)
        · rintro i ax3 hi0 hi hJ ih2 H locs ls hw hl
          refine lv_iload_n hx hb d_M_makeCandidate_139 rfl (lv_at hl 2 rfl) ?_
          refine lv_aload_n hx hb d_M_makeCandidate_140 rfl (lv_at hl 0 rfl) ?_
          refine gM_n S hK hw rfl rfl d_M_makeCandidate_141 ?_
          refine ky_ge (a := i) (b := N) (tgt := 173) hx hb (by omega) (by omega) d_M_makeCandidate_144 (by decide) (fun h3 => absurd h3 (by omega)) (fun h3 => ?_)
          refine lv_aload_n hx hb d_M_makeCandidate_147 rfl (lv_at hl 0 rfl) ?_
          refine gM_solution S hK hw rfl rfl d_M_makeCandidate_148 ?_
          refine lv_iload_n hx hb d_M_makeCandidate_151 rfl (lv_at hl 2 rfl) ?_
          refine lv_aload_n hx hb d_M_makeCandidate_152 rfl (lv_at hl 0 rfl) ?_
          refine gM_vector S hK hw rfl rfl d_M_makeCandidate_153 ?_
          refine lv_iload_n hx hb d_M_makeCandidate_156 rfl (lv_at hl 2 rfl) ?_
          refine ky_lald S hK hw 6 rfl (by omega) (by omega) d_M_makeCandidate_157 ?_
          refine lv_lload_n hx hb d_M_makeCandidate_158 rfl (lv_at hl 1 rfl) ?_
          refine lv_lmul hx hb d_M_makeCandidate_159 ?_
          refine lv_aload_n hx hb d_M_makeCandidate_160 rfl (lv_at hl 0 rfl) ?_
          refine gM_prime S hK hw rfl rfl d_M_makeCandidate_161 ?_
          refine ky_i2l hx hb (by omega) d_M_makeCandidate_164 ?_
          refine ky_lrem hx hb d_M_makeCandidate_165 (lN_ne0 (by omega) (by omega)) ?_
          refine ky_last S hK hw 12 rfl (by omega) (by omega) d_M_makeCandidate_166 (fun H locs hw => ?_)
          have hw : kw D A s.heap H locs (wM ad cI cJ P N O M g ta pr1 hr (nI d) sv fr fc fv ab au av aw ar ac af ak (vp_updL ax3 i (rmd ((av i) * by_) (lN P)))) := hw
          refine lv_iinc (v := nI (i + 1)) (lv' := [(3, .int (nI (i + 1))), (0, .ref (ad 0)), (1, .long by_)]) hx hb d_M_makeCandidate_167 hl (k := 2) rfl (nI_1 i) (by decide) rfl (fun ls hl => ?_)
          refine lv_goto (tgt := 139) hx hb d_M_makeCandidate_170 (by decide) ?_
          have hl := lv_sub (l' := [(0, .ref (ad 0)), (1, .long by_), (3, .int (nI (i + 1)))]) hl [1, 2, 0] rfl
          refine ih2 _ (fun j hj => ?_) H locs ls hw hl
          rcases Nat.lt_or_ge j i with q | q
          · rw [upL_n (by omega)]; exact hJ j q
          · have e : j = i := by omega
            rw [e, upL_s, hx1 i hi]
        · rintro ax3 hJ H locs ls hw hl
          refine lv_iload_n hx hb d_M_makeCandidate_139 rfl (lv_at hl 2 rfl) ?_
          refine lv_aload_n hx hb d_M_makeCandidate_140 rfl (lv_at hl 0 rfl) ?_
          refine gM_n S hK hw rfl rfl d_M_makeCandidate_141 ?_
          refine ky_ge (a := N) (b := N) (tgt := 173) hx hb (by omega) (by omega) d_M_makeCandidate_144 (by decide) (fun h3 => ?_) (fun h3 => absurd h3 (by omega))
          exact hret (_, _, _, _) ⟨hp1, fun j hj => by show ax3 j = _; rw [hJ j hj, hby]⟩ hw d_M_makeCandidate_173
      refine lv_aload_n hx hb d_M_makeCandidate_107 rfl (lv_at hl 0 rfl) ?_
      refine gM_degree S hK hw rfl rfl d_M_makeCandidate_108 ?_
      refine ky_ifne (tgt := 118) hx hb (by omega) d_M_makeCandidate_111 (by decide) (fun h2 => ?_) (fun h2 => ?_)
      · refine lv_aload_n hx hb d_M_makeCandidate_118 rfl (lv_at hl 0 rfl) ?_
        refine lv_aload_n hx hb d_M_makeCandidate_119 rfl (lv_at hl 0 rfl) ?_
        refine lv_aload_n hx hb d_M_makeCandidate_120 rfl (lv_at hl 0 rfl) ?_
        refine gM_c S hK hw rfl rfl d_M_makeCandidate_121 ?_
        refine lv_aload_n hx hb d_M_makeCandidate_124 rfl (lv_at hl 0 rfl) ?_
        refine gM_degree S hK hw rfl rfl d_M_makeCandidate_125 ?_
        refine ky_lald S hK hw 9 rfl (by omega) (by omega) d_M_makeCandidate_128 ?_
        refine lv_lneg hx hb d_M_makeCandidate_129 ?_
        refine ky_callVl (As := [.long (-(ac d))]) (rest := [.ref (ad 0)]) S hK hw hA hl.1 (c_M_within hP2 hP) k_M_79 rfl rfl rfl rfl ⟨Nat.le_of_ble_eq_true rfl, Nat.le_of_ble_eq_true rfl⟩ ⟨Nat.zero_le _, Nat.zero_le _⟩ rfl rfl (Nat.le_of_ble_eq_true rfl) d_M_makeCandidate_130 (fun r u H locs hp hw => ?_)
        subst hp
        have hw : kw D A s.heap H locs (wM ad cI cJ P N O M g ta pr1 hr (nI d) sv fr fc fv ab au av aw ar ac af ak ax) := hw
        refine ky_callVl (As := [.long (wi P (-(ac d)))]) (rest := []) S hK hw hA hl.1 (c_M_inverse hP2 hP) k_M_109 rfl rfl rfl rfl ⟨Nat.le_of_ble_eq_true rfl, Nat.le_of_ble_eq_true rfl⟩ ⟨Nat.zero_le _, Nat.zero_le _⟩ rfl rfl (Nat.le_of_ble_eq_true rfl) d_M_makeCandidate_133 (fun r u H locs hp hw => ?_)
        subst hp
        have hw : kw D A s.heap H locs (wM ad cI cJ P N O M g ta pr1 hr (nI d) sv fr fc fv ab au av aw ar ac af ak ax) := hw
        exact key _ _ _ (by rw [if_neg h2]) hw
      · refine lv_lconst (v := 0) hx hb d_M_makeCandidate_114 (by decide) ?_
        refine lv_goto (tgt := 136) hx hb d_M_makeCandidate_115 (by decide) ?_
        exact key _ _ _ (by rw [if_pos h2]) hw
/-- holds -/
theorem c_M_holds  (h : okD P N O M fr fc) : CT l D (kt cI cJ) y_M_holds b_M_holds 3 (some .boolean) (kr 1 21) [.ref (ad 0)] (wM ad cI cJ P N O M g ta pr hr dg sv fr fc fv ab au av aw ar ac af ak ax) sz (QI D (kt cI cJ) (G := Int32 × (Nat → Int64) × (Nat → Int64)) (fun r u => r = bI (eqN N (muK P fr fc fv ax M) ab) ∧ u.1 = pr + 1) (fun u => wM ad cI cJ P N O M g ta (u.1) hr dg sv fr fc fv ab au (u.2.1) (u.2.2) ar ac af ak ax)) := by
  refine ct_bool (by decide) (Nat.le_of_ble_eq_true rfl) ?_
  intro p e s m args below meth c A ls Z S hA hK hw hl hret
  have S : CallFix p m c b_M_holds 3 s args lw_g R_M := S
  have hx := S.1
  have hb := S.2.1
  have hown := S.2.2.2.1
  have hts := S.2.2.2.2
  have hl : lv_has ls 3 [(0, .ref (ad 0))] := hl
  obtain ⟨hP2, hP, hN1, hN, hO1, hO, hM, hrc⟩ := h
  have hok : okD P N O M fr fc := ⟨hP2, hP, hN1, hN, hO1, hO, hM, hrc⟩
  refine lv_iconst (v := nI 0) hx hb d_M_holds_0 (by decide) ?_
  refine lv_istore_n (lv' := [(1, .int (nI 0)), (0, .ref (ad 0))]) hx hb d_M_holds_1 rfl hl (by decide) rfl (fun ls hl => ?_)
  have hl := lv_sub (l' := [(0, .ref (ad 0)), (1, .int (nI 0))]) hl [1, 0] rfl
  refine for_ri (i0 := 0) (N := N) (st := (av : Nat → Int64))
    (fun (i : Nat) (av : Nat → Int64) => ∀ (H : Heap) (locs : List Loc) (ls : Array Slot), kw D A s.heap H locs (wM ad cI cJ P N O M g ta pr hr dg sv fr fc fv ab au av aw ar ac af ak ax) → lv_has ls 3 [(0, .ref (ad 0)), (1, .int (nI i))] → W p l e (kr 1 21) s m args below meth c H locs 0 0 Z (F0 m 2 ls []))
    (fun (i : Nat) (av : Nat → Int64) => ∀ j, j < i → av j = ax j)
    (by omega) ?_ ?_ ?_ s.heap [] ls hw hl
  · exact fun j hj => absurd hj (by omega)
  · rintro i av hi0 hi hI ih H locs ls hw hl
    refine lv_iload_n hx hb d_M_holds_2 rfl (lv_at hl 1 rfl) ?_
    refine lv_aload_n hx hb d_M_holds_3 rfl (lv_at hl 0 rfl) ?_
    refine gM_n S hK hw rfl rfl d_M_holds_4 ?_
    refine ky_ge (a := i) (b := N) (tgt := 28) hx hb (by omega) (by omega) d_M_holds_7 (by decide) (fun h => absurd h (by omega)) (fun h => ?_)
    refine lv_aload_n hx hb d_M_holds_10 rfl (lv_at hl 0 rfl) ?_
    refine gM_vector S hK hw rfl rfl d_M_holds_11 ?_
    refine lv_iload_n hx hb d_M_holds_14 rfl (lv_at hl 1 rfl) ?_
    refine lv_aload_n hx hb d_M_holds_15 rfl (lv_at hl 0 rfl) ?_
    refine gM_solution S hK hw rfl rfl d_M_holds_16 ?_
    refine lv_iload_n hx hb d_M_holds_19 rfl (lv_at hl 1 rfl) ?_
    refine ky_lald S hK hw 12 rfl (by omega) (by omega) d_M_holds_20 ?_
    refine ky_last S hK hw 6 rfl (by omega) (by omega) d_M_holds_21 (fun H locs hw => ?_)
    have hw : kw D A s.heap H locs (wM ad cI cJ P N O M g ta pr hr dg sv fr fc fv ab au (vp_updL av i (ax i)) aw ar ac af ak ax) := hw
    refine lv_iinc (v := nI (i + 1)) (lv' := [(1, .int (nI (i + 1))), (0, .ref (ad 0))]) hx hb d_M_holds_22 hl (k := 1) rfl (nI_1 i) (by decide) rfl (fun ls hl => ?_)
    refine lv_goto (tgt := 2) hx hb d_M_holds_25 (by decide) ?_
    have hl := lv_sub (l' := [(0, .ref (ad 0)), (1, .int (nI (i + 1)))]) hl [1, 0] rfl
    refine ih _ (fun j hj => ?_) H locs ls hw hl
    rcases Nat.lt_or_ge j i with q | q
    · rw [upL_n (by omega)]; exact hI j q
    · have e : j = i := by omega
      rw [e, upL_s]
  · rintro av hI H locs ls hw hl
    refine lv_iload_n hx hb d_M_holds_2 rfl (lv_at hl 1 rfl) ?_
    refine lv_aload_n hx hb d_M_holds_3 rfl (lv_at hl 0 rfl) ?_
    refine gM_n S hK hw rfl rfl d_M_holds_4 ?_
    refine ky_ge (a := N) (b := N) (tgt := 28) hx hb (by omega) (by omega) d_M_holds_7 (by decide) (fun h => ?_) (fun h => absurd h (by omega))
    refine lv_aload_n hx hb d_M_holds_28 rfl (lv_at hl 0 rfl) ?_
    refine ky_callVv (As := []) (rest := []) S hK hw hA hl.1 (c_M_product hok) k_M_106 rfl rfl rfl rfl ⟨Nat.le_of_ble_eq_true rfl, Nat.le_of_ble_eq_true rfl⟩ ⟨Nat.zero_le _, Nat.zero_le _⟩ rfl rfl (Nat.le_of_ble_eq_true rfl) d_M_holds_29 (fun u H locs hp hw => ?_)
    obtain ⟨pr2, aw2, av2⟩ := u
    obtain ⟨hp2, hv2⟩ := hp
    dsimp only at hp2 hv2
    rw [muK_congr hrc hI] at hv2
    have hw : kw D A s.heap H locs (wM ad cI cJ P N O M g ta pr2 hr dg sv fr fc fv ab au av2 aw2 ar ac af ak ax) := hw
    refine lv_iconst (v := nI 1) hx hb d_M_holds_32 (by decide) ?_
    refine ky_ti (y := bI (eqN 0 (muK P fr fc fv ax M) ab)) (by rw [eqN_0]; rfl) ?_
    refine lv_istore_n (lv' := [(1, .int (bI (eqN 0 (muK P fr fc fv ax M) ab))), (0, .ref (ad 0))]) hx hb d_M_holds_33 rfl hl (by decide) rfl (fun ls hl => ?_)
    refine lv_iconst (v := nI 0) hx hb d_M_holds_34 (by decide) ?_
    refine lv_istore_n (lv' := [(2, .int (nI 0)), (1, .int (bI (eqN 0 (muK P fr fc fv ax M) ab))), (0, .ref (ad 0))]) hx hb d_M_holds_35 rfl hl (by decide) rfl (fun ls hl => ?_)
    have hl := lv_sub (l' := [(0, .ref (ad 0)), (1, .int (bI (eqN 0 (muK P fr fc fv ax M) ab))), (2, .int (nI 0))]) hl [2, 1, 0] rfl
    refine for_ri (i0 := 0) (N := N) (st := (eqN 0 (muK P fr fc fv ax M) ab : Bool))
      (fun (i : Nat) (rt : Bool) => ∀ (H : Heap) (locs : List Loc) (ls : Array Slot), kw D A s.heap H locs (wM ad cI cJ P N O M g ta pr2 hr dg sv fr fc fv ab au av2 aw2 ar ac af ak ax) → lv_has ls 3 [(0, .ref (ad 0)), (1, .int (bI rt)), (2, .int (nI i))] → W p l e (kr 1 21) s m args below meth c H locs 0 0 Z (F0 m 36 ls []))
      (fun (i : Nat) (rt : Bool) => rt = eqN i (muK P fr fc fv ax M) ab)
      (by omega) ?_ ?_ ?_ H locs ls hw hl
    · rfl
    · rintro i rt hi0 hi hJ ih2 H locs ls hw hl
      refine lv_iload_n hx hb d_M_holds_36 rfl (lv_at hl 2 rfl) ?_
      refine lv_aload_n hx hb d_M_holds_37 rfl (lv_at hl 0 rfl) ?_
      refine gM_n S hK hw rfl rfl d_M_holds_38 ?_
      refine ky_ge (a := i) (b := N) (tgt := 76) hx hb (by omega) (by omega) d_M_holds_41 (by decide) (fun h3 => absurd h3 (by omega)) (fun h3 => ?_)
      refine lv_iload_n hx hb d_M_holds_44 rfl (lv_at hl 1 rfl) ?_
      refine ky_beq (tgt := 68) hx hb d_M_holds_45 (by decide) (fun h4 => ?_) (fun h4 => ?_)
      · refine lv_iconst (v := nI 0) hx hb d_M_holds_68 (by decide) ?_
        refine ky_ti (y := bI (eqN (i + 1) (muK P fr fc fv ax M) ab)) (by rw [← eqN_s, ← hJ, ← hv2 i hi, h4, Bool.false_and]; rfl) ?_
        refine lv_istore_n (lv' := [(1, .int (bI (eqN (i + 1) (muK P fr fc fv ax M) ab))), (0, .ref (ad 0)), (2, .int (nI i))]) hx hb d_M_holds_69 rfl hl (by decide) rfl (fun ls hl => ?_)
        refine lv_iinc (v := nI (i + 1)) (lv' := [(2, .int (nI (i + 1))), (1, .int (bI (eqN (i + 1) (muK P fr fc fv ax M) ab))), (0, .ref (ad 0))]) hx hb d_M_holds_70 hl (k := 2) rfl (nI_1 i) (by decide) rfl (fun ls hl => ?_)
        refine lv_goto (tgt := 36) hx hb d_M_holds_73 (by decide) ?_
        have hl := lv_sub (l' := [(0, .ref (ad 0)), (1, .int (bI (eqN (i + 1) (muK P fr fc fv ax M) ab))), (2, .int (nI (i + 1)))]) hl [2, 1, 0] rfl
        exact ih2 _ rfl H locs ls hw hl
      · refine lv_aload_n hx hb d_M_holds_48 rfl (lv_at hl 0 rfl) ?_
        refine gM_vector S hK hw rfl rfl d_M_holds_49 ?_
        refine lv_iload_n hx hb d_M_holds_52 rfl (lv_at hl 2 rfl) ?_
        refine ky_lald S hK hw 6 rfl (by omega) (by omega) d_M_holds_53 ?_
        refine lv_aload_n hx hb d_M_holds_54 rfl (lv_at hl 0 rfl) ?_
        refine gM_right S hK hw rfl rfl d_M_holds_55 ?_
        refine lv_iload_n hx hb d_M_holds_58 rfl (lv_at hl 2 rfl) ?_
        refine ky_lald S hK hw 4 rfl (by omega) (by omega) d_M_holds_59 ?_
        refine W.lcmp hx hb d_M_holds_60 ?_
        refine ky_lne (tgt := 68) hx hb d_M_holds_61 (by decide) (fun h5 => ?_) (fun h5 => ?_)
        · refine lv_iconst (v := nI 0) hx hb d_M_holds_68 (by decide) ?_
          refine ky_ti (y := bI (eqN (i + 1) (muK P fr fc fv ax M) ab)) (by rw [← eqN_s, ← hJ, ← hv2 i hi, decide_eq_false h5, Bool.and_false]; rfl) ?_
          refine lv_istore_n (lv' := [(1, .int (bI (eqN (i + 1) (muK P fr fc fv ax M) ab))), (0, .ref (ad 0)), (2, .int (nI i))]) hx hb d_M_holds_69 rfl hl (by decide) rfl (fun ls hl => ?_)
          refine lv_iinc (v := nI (i + 1)) (lv' := [(2, .int (nI (i + 1))), (1, .int (bI (eqN (i + 1) (muK P fr fc fv ax M) ab))), (0, .ref (ad 0))]) hx hb d_M_holds_70 hl (k := 2) rfl (nI_1 i) (by decide) rfl (fun ls hl => ?_)
          refine lv_goto (tgt := 36) hx hb d_M_holds_73 (by decide) ?_
          have hl := lv_sub (l' := [(0, .ref (ad 0)), (1, .int (bI (eqN (i + 1) (muK P fr fc fv ax M) ab))), (2, .int (nI (i + 1)))]) hl [2, 1, 0] rfl
          exact ih2 _ rfl H locs ls hw hl
        · refine lv_iconst (v := nI 1) hx hb d_M_holds_64 (by decide) ?_
          refine lv_goto (tgt := 69) hx hb d_M_holds_65 (by decide) ?_
          refine ky_ti (y := bI (eqN (i + 1) (muK P fr fc fv ax M) ab)) (by rw [← eqN_s, ← hJ, ← hv2 i hi, h4, decide_eq_true h5]; rfl) ?_
          refine lv_istore_n (lv' := [(1, .int (bI (eqN (i + 1) (muK P fr fc fv ax M) ab))), (0, .ref (ad 0)), (2, .int (nI i))]) hx hb d_M_holds_69 rfl hl (by decide) rfl (fun ls hl => ?_)
          refine lv_iinc (v := nI (i + 1)) (lv' := [(2, .int (nI (i + 1))), (1, .int (bI (eqN (i + 1) (muK P fr fc fv ax M) ab))), (0, .ref (ad 0))]) hx hb d_M_holds_70 hl (k := 2) rfl (nI_1 i) (by decide) rfl (fun ls hl => ?_)
          refine lv_goto (tgt := 36) hx hb d_M_holds_73 (by decide) ?_
          have hl := lv_sub (l' := [(0, .ref (ad 0)), (1, .int (bI (eqN (i + 1) (muK P fr fc fv ax M) ab))), (2, .int (nI (i + 1)))]) hl [2, 1, 0] rfl
          exact ih2 _ rfl H locs ls hw hl
    · rintro rt hJ H locs ls hw hl
      refine lv_iload_n hx hb d_M_holds_36 rfl (lv_at hl 2 rfl) ?_
      refine lv_aload_n hx hb d_M_holds_37 rfl (lv_at hl 0 rfl) ?_
      refine gM_n S hK hw rfl rfl d_M_holds_38 ?_
      refine ky_ge (a := N) (b := N) (tgt := 76) hx hb (by omega) (by omega) d_M_holds_41 (by decide) (fun h3 => ?_) (fun h3 => absurd h3 (by omega))
      refine lv_iload_n hx hb d_M_holds_76 rfl (lv_at hl 1 rfl) ?_
      exact hret (_, _, _) ⟨by rw [hJ], hp2⟩ hw d_M_holds_77
/-- attempt -/
theorem c_M_attempt {T : TS} (h : okD P N O M fr fc) (hT : relT N T g pr ta ar ac dg sv ax) : CT l D (kt cI cJ) y_M_attempt b_M_attempt 1 (some .int) (kr 3 78) [.ref (ad 0)] (wM ad cI cJ P N O M g ta pr hr dg sv fr fc fv ab au av aw ar ac af ak ax) sz (QI D (kt cI cJ) (G := Int64 × Int32 × Int32 × (Nat → Int64) × (Nat → Int64) × Int32 × Bool × (Nat → Int64) × (Nat → Int64) × (Nat → Int64) × (Nat → Int64) × (Nat → Int64) × (Nat → Int64)) (fun r u => r = attMR P N M fr fc fv ab T ∧ relT N (attM P N M fr fc fv ab T) u.1 u.2.1 u.2.2.1 u.2.2.2.1 u.2.2.2.2.1 u.2.2.2.2.2.1 u.2.2.2.2.2.2.1 u.2.2.2.2.2.2.2.1) (fun u => wM ad cI cJ P N O M (u.1) (u.2.2.1) (u.2.1) true (u.2.2.2.2.2.1) (u.2.2.2.2.2.2.1) fr fc fv ab (u.2.2.2.2.2.2.2.2.1) (u.2.2.2.2.2.2.2.2.2.1) (u.2.2.2.2.2.2.2.2.2.2.1) (u.2.2.2.1) (u.2.2.2.2.1) (u.2.2.2.2.2.2.2.2.2.2.2.1) (u.2.2.2.2.2.2.2.2.2.2.2.2) (u.2.2.2.2.2.2.2.1))) := by
  refine ct_int (by decide) (Nat.le_of_ble_eq_true rfl) ?_
  intro p e s m args below meth c A ls Z S hA hK hw hl hret
  have S : CallFix p m c b_M_attempt 1 s args lw_g R_M := S
  have hx := S.1
  have hb := S.2.1
  have hown := S.2.2.2.1
  have hts := S.2.2.2.2
  have hl : lv_has ls 1 [(0, .ref (ad 0))] := hl
  obtain ⟨hP2, hP, hN1, hN, hO1, hO, hM, hrc⟩ := h
  have hok : okD P N O M fr fc := ⟨hP2, hP, hN1, hN, hO1, hO, hM, hrc⟩
  obtain ⟨hT1, hT2, hT3, hT4, hT5, hT6, hT7, hT8⟩ := hT
  refine lv_aload_n hx hb d_M_attempt_0 rfl (lv_at hl 0 rfl) ?_
  refine lv_dup hx hb d_M_attempt_1 rfl ?_
  refine gM_attempts S hK hw rfl rfl d_M_attempt_2 ?_
  refine lv_iconst (v := nI 1) hx hb d_M_attempt_5 (by decide) ?_
  refine lv_iadd hx hb d_M_attempt_6 ?_
  refine pM_attempts S hK hw rfl (Nat.le_of_ble_eq_true rfl) d_M_attempt_7 (fun H locs hw => ?_)
  have hw : kw D A s.heap H locs (wM ad cI cJ P N O M g (ta + (nI 1)) pr hr dg sv fr fc fv ab au av aw ar ac af ak ax) := hw
  refine lv_aload_n hx hb d_M_attempt_10 rfl (lv_at hl 0 rfl) ?_
  refine lv_iconst (v := nI 0) hx hb d_M_attempt_11 (by decide) ?_
  refine ky_ti (y := bI false) (rfl) ?_
  refine pM_solved (v := false) S hK hw rfl (Nat.le_of_ble_eq_true rfl) d_M_attempt_12 (fun H locs hw => ?_)
  have hw : kw D A s.heap H locs (wM ad cI cJ P N O M g (ta + (nI 1)) pr hr dg false fr fc fv ab au av aw ar ac af ak ax) := hw
  refine lv_aload_n hx hb d_M_attempt_15 rfl (lv_at hl 0 rfl) ?_
  refine ky_callVv (As := []) (rest := []) S hK hw hA hl.1 (c_M_makeRow hok) k_M_115 rfl rfl rfl rfl ⟨Nat.le_of_ble_eq_true rfl, Nat.le_of_ble_eq_true rfl⟩ ⟨Nat.zero_le _, Nat.zero_le _⟩ rfl rfl (Nat.le_of_ble_eq_true rfl) d_M_attempt_16 (fun u H locs hp hw => ?_)
  obtain ⟨g1, pr1, au1, av1, aw1, ar1⟩ := u
  obtain ⟨hg1, hp1, hr1⟩ := hp
  dsimp only at hg1 hp1 hr1
  have hw : kw D A s.heap H locs (wM ad cI cJ P N O M g1 (ta + (nI 1)) pr1 true dg false fr fc fv ab au1 av1 aw1 ar1 ac af ak ax) := hw
  refine lv_aload_n hx hb d_M_attempt_19 rfl (lv_at hl 0 rfl) ?_
  refine ky_callVv (As := []) (rest := []) S hK hw hA hl.1 (c_M_recur hok) k_M_118 rfl rfl rfl rfl ⟨Nat.le_of_ble_eq_true rfl, Nat.le_of_ble_eq_true rfl⟩ ⟨Nat.zero_le _, Nat.zero_le _⟩ rfl rfl (Nat.le_of_ble_eq_true rfl) d_M_attempt_20 (fun u H locs hp hw => ?_)
  obtain ⟨dg1, ac1, af1, ak1⟩ := u
  obtain ⟨hd1, hc1, hl1⟩ := hp
  dsimp only at hd1 hc1 hl1
  have hrow : ∀ k, k < 2 * N → ar1 k = rowA P N M fr fc fv ab gM (dM P) T.1 k := fun k hk => by rw [hT1]; exact hr1 k hk
  rw [bm_congr hrow] at hd1 hc1 hl1
  obtain ⟨q, hq⟩ : ∃ q, q = bm P (ivM P) (rowA P N M fr fc fv ab gM (dM P) T.1) (2 * N) := ⟨_, rfl⟩
  rw [← hq] at hd1 hc1 hl1
  obtain ⟨d, hd⟩ : ∃ d, d = q.2.2.1 := ⟨_, rfl⟩
  rw [← hd] at hd1 hl1
  subst hd1
  have hw : kw D A s.heap H locs (wM ad cI cJ P N O M g1 (ta + (nI 1)) pr1 true (nI d) false fr fc fv ab au1 av1 aw1 ar1 ac1 af1 ak1 ax) := hw
  have hA1 : attM P N M fr fc fv ab T = attQ P N M fr fc fv ab gM (ivM P) (fun c => ivM P (wi P (-c))) (rowA P N M fr fc fv ab gM (dM P) T.1) q T := by rw [hq]; rfl
  have hA2 : attMR P N M fr fc fv ab T = if badA q then 3 else if svA P N M fr fc fv ab (fun c => ivM P (wi P (-c))) q then 0 else 4 := by rw [hq]; rfl
  refine lv_aload_n hx hb d_M_attempt_23 rfl (lv_at hl 0 rfl) ?_
  refine gM_degree S hK hw rfl rfl d_M_attempt_24 ?_
  have key : badA q = false → W p l e (kr 3 78) s m args below meth c H locs 0 0 Z (F0 m 46 ls []) := by
    intro hbad
    refine lv_aload_n hx hb d_M_attempt_46 rfl (lv_at hl 0 rfl) ?_
    refine ky_callVv (As := []) (rest := []) S hK hw hA hl.1 (c_M_makeCandidate hok (d := d) (by omega)) k_M_121 rfl rfl rfl rfl ⟨Nat.le_of_ble_eq_true rfl, Nat.le_of_ble_eq_true rfl⟩ ⟨Nat.zero_le _, Nat.zero_le _⟩ rfl rfl (Nat.le_of_ble_eq_true rfl) d_M_attempt_47 (fun u H locs hp hw => ?_)
    obtain ⟨pr2, aw2, av2, ax2⟩ := u
    obtain ⟨hp2, hx2⟩ := hp
    dsimp only at hp2 hx2
    have hw : kw D A s.heap H locs (wM ad cI cJ P N O M g1 (ta + (nI 1)) pr2 true (nI d) false fr fc fv ab au1 av2 aw2 ar1 ac1 af1 ak1 ax2) := hw
    refine lv_aload_n hx hb d_M_attempt_50 rfl (lv_at hl 0 rfl) ?_
    refine lv_aload_n hx hb d_M_attempt_51 rfl (lv_at hl 0 rfl) ?_
    refine ky_callVi (As := []) (rest := [.ref (ad 0)]) S hK hw hA hl.1 (c_M_holds hok) k_M_124 rfl rfl rfl rfl ⟨Nat.le_of_ble_eq_true rfl, Nat.le_of_ble_eq_true rfl⟩ ⟨Nat.zero_le _, Nat.zero_le _⟩ rfl rfl (Nat.le_of_ble_eq_true rfl) d_M_attempt_52 (fun r u H locs hp hw => ?_)
    obtain ⟨pr3, av3, aw3⟩ := u
    obtain ⟨hr3, hp3⟩ := hp
    dsimp only at hr3 hp3
    have hxA : ∀ j, j < N → ax2 j = xA P M fr fc fv ab (fun c => ivM P (wi P (-c))) q j := by
      intro j hj
      rw [hx2 j hj, hc1 d (by omega), xK_congr hc1 _ (by omega), hd]
      rfl
    rw [muK_congr hrc hxA] at hr3
    have hsv : svA P N M fr fc fv ab (fun c => ivM P (wi P (-c))) q = eqN N (muK P fr fc fv (xA P M fr fc fv ab (fun c => ivM P (wi P (-c))) q) M) ab := by unfold svA; rw [hbad]; rfl
    rw [← hsv] at hr3
    subst hr3
    have hw : kw D A s.heap H locs (wM ad cI cJ P N O M g1 (ta + (nI 1)) pr3 true (nI d) false fr fc fv ab au1 av3 aw3 ar1 ac1 af1 ak1 ax2) := hw
    refine pM_solved (v := svA P N M fr fc fv ab (fun c => ivM P (wi P (-c))) q) S hK hw rfl (Nat.le_of_ble_eq_true rfl) d_M_attempt_55 (fun H locs hw => ?_)
    have hw : kw D A s.heap H locs (wM ad cI cJ P N O M g1 (ta + (nI 1)) pr3 true (nI d) (svA P N M fr fc fv ab (fun c => ivM P (wi P (-c))) q) fr fc fv ab au1 av3 aw3 ar1 ac1 af1 ak1 ax2) := hw
    refine lv_aload_n hx hb d_M_attempt_58 rfl (lv_at hl 0 rfl) ?_
    refine gM_solved S hK hw rfl rfl d_M_attempt_59 ?_
    refine ky_beq (tgt := 69) hx hb d_M_attempt_62 (by decide) (fun h5 => ?_) (fun h5 => ?_)
    · refine lv_iconst (v := nI 4) hx hb d_M_attempt_69 (by decide) ?_
      refine hret (_, _, _, _, _, nI d, _, _, _, _, _, _, _) ⟨?_, ?_⟩ hw d_M_attempt_70
      · rw [hA2, hbad, h5]; rfl
      · rw [hA1]
        refine ⟨by rw [hg1, ← hT1]; rfl, ?_, by rw [← hT3]; rfl, hrow, fun j hj => hc1 j hj, by rw [hd]; rfl, rfl, ?_⟩
        · show (if badA q then _ else _) = _
          rw [hbad, hp3, hp2, hp1, hT2, hd]; rfl
        · intro j hj
          show _ = (if badA q then T.2.2.2.2.2.2.2 else xA P M fr fc fv ab (fun c => ivM P (wi P (-c))) q) j
          rw [hbad]; exact hxA j hj
    · refine lv_iconst (v := nI 0) hx hb d_M_attempt_65 (by decide) ?_
      refine lv_goto (tgt := 70) hx hb d_M_attempt_66 (by decide) ?_
      refine hret (_, _, _, _, _, nI d, _, _, _, _, _, _, _) ⟨?_, ?_⟩ hw d_M_attempt_70
      · rw [hA2, hbad, h5]; rfl
      · rw [hA1]
        refine ⟨by rw [hg1, ← hT1]; rfl, ?_, by rw [← hT3]; rfl, hrow, fun j hj => hc1 j hj, by rw [hd]; rfl, rfl, ?_⟩
        · show (if badA q then _ else _) = _
          rw [hbad, hp3, hp2, hp1, hT2, hd]; rfl
        · intro j hj
          show _ = (if badA q then T.2.2.2.2.2.2.2 else xA P M fr fc fv ab (fun c => ivM P (wi P (-c))) q) j
          rw [hbad]; exact hxA j hj
  refine ky_ifle (tgt := 46) hx hb (by omega) d_M_attempt_27 (by decide) (fun h3 => ?_) (fun h3 => ?_)
  · exact key (decide_eq_false (fun h4 => by have h5 := h4.1; omega))
  · refine lv_aload_n hx hb d_M_attempt_30 rfl (lv_at hl 0 rfl) ?_
    refine gM_c S hK hw rfl rfl d_M_attempt_31 ?_
    refine lv_aload_n hx hb d_M_attempt_34 rfl (lv_at hl 0 rfl) ?_
    refine gM_degree S hK hw rfl rfl d_M_attempt_35 ?_
    refine ky_lald S hK hw 9 rfl (by omega) (by omega) d_M_attempt_38 ?_
    refine lv_lconst (v := 0) hx hb d_M_attempt_39 (by decide) ?_
    refine W.lcmp hx hb d_M_attempt_40 ?_
    refine ky_lne (tgt := 46) hx hb d_M_attempt_41 (by decide) (fun h4 => ?_) (fun h4 => ?_)
    · exact key (decide_eq_false (fun h5 => h4 (by rw [hc1 d (by omega), hd]; exact h5.2)))
    · have hbad : badA q = true := decide_eq_true ⟨by omega, by rw [← hd, ← hc1 d (by omega)]; exact h4⟩
      refine lv_iconst (v := nI 3) hx hb d_M_attempt_44 (by decide) ?_
      refine hret (_, _, _, _, _, nI d, false, _, _, _, _, _, _) ⟨?_, ?_⟩ hw d_M_attempt_45
      · rw [hA2, hbad]; rfl
      · rw [hA1]
        refine ⟨by rw [hg1, ← hT1]; rfl, ?_, by rw [← hT3]; rfl, hrow, fun j hj => hc1 j hj, by rw [hd]; rfl, ?_, ?_⟩
        · show (if badA q then _ else _) = _
          rw [hbad, hp1, hT2]; rfl
        · show svA P N M fr fc fv ab (fun c => ivM P (wi P (-c))) q = false
          unfold svA; rw [hbad]; rfl
        · intro j hj
          show _ = (if badA q then T.2.2.2.2.2.2.2 else xA P M fr fc fv ab (fun c => ivM P (wi P (-c))) q) j
          rw [hbad]; exact hT8 j hj
/-- solve -/
theorem c_M_solve {T : TS} {k : Int32} (h : okD P N O M fr fc) (hT : relT N T g pr ta ar ac dg sv ax) : CT l D (kt cI cJ) y_M_solve b_M_solve 4 (some .int) (kr 4 98) [.ref (ad 0), .int k] (wM ad cI cJ P N O M g ta pr hr dg sv fr fc fv ab au av aw ar ac af ak ax) sz (QI D (kt cI cJ) (G := Bool × Int64 × Int32 × Int32 × (Nat → Int64) × (Nat → Int64) × Int32 × Bool × (Nat → Int64) × (Nat → Int64) × (Nat → Int64) × (Nat → Int64) × (Nat → Int64) × (Nat → Int64)) (fun r u => r = (sol (attM P N M fr fc fv ab) (attMR P N M fr fc fv ab) k T).1 ∧ u.1 = (wth k (nI 1) (nI 50) || hr) ∧ relT N (sol (attM P N M fr fc fv ab) (attMR P N M fr fc fv ab) k T).2 u.2.1 u.2.2.1 u.2.2.2.1 u.2.2.2.2.1 u.2.2.2.2.2.1 u.2.2.2.2.2.2.1 u.2.2.2.2.2.2.2.1 u.2.2.2.2.2.2.2.2.1) (fun u => wM ad cI cJ P N O M (u.2.1) (u.2.2.2.1) (u.2.2.1) (u.1) (u.2.2.2.2.2.2.1) (u.2.2.2.2.2.2.2.1) fr fc fv ab (u.2.2.2.2.2.2.2.2.2.1) (u.2.2.2.2.2.2.2.2.2.2.1) (u.2.2.2.2.2.2.2.2.2.2.2.1) (u.2.2.2.2.1) (u.2.2.2.2.2.1) (u.2.2.2.2.2.2.2.2.2.2.2.2.1) (u.2.2.2.2.2.2.2.2.2.2.2.2.2) (u.2.2.2.2.2.2.2.2.1))) := by
  refine ct_int (by decide) (Nat.le_of_ble_eq_true rfl) ?_
  intro p e s m args below meth c A ls Z S hA hK hw hl hret
  have S : CallFix p m c b_M_solve 4 s args lw_g R_M := S
  have hx := S.1
  have hb := S.2.1
  have hown := S.2.2.2.1
  have hts := S.2.2.2.2
  have hl : lv_has ls 4 [(0, .ref (ad 0)), (1, .int k)] := hl
  obtain ⟨hP2, hP, hN1, hN, hO1, hO, hM, hrc⟩ := h
  have hok : okD P N O M fr fc := ⟨hP2, hP, hN1, hN, hO1, hO, hM, hrc⟩
  refine lv_iload_n hx hb d_M_solve_0 rfl (lv_at hl 1 rfl) ?_
  refine lv_iconst (v := nI 1) hx hb d_M_solve_1 (by decide) ?_
  refine lv_icmp_lt (tgt := 11) hx hb d_M_solve_2 (by decide) (fun h1 => ?_) (fun h1 => ?_)
  · refine lv_iconst (v := nI 5) hx hb d_M_solve_11 (by decide) ?_
    have h1 : wth k (nI 1) (nI 50) = false := decide_eq_false (fun q => q.1 h1)
    have hs : sol (attM P N M fr fc fv ab) (attMR P N M fr fc fv ab) k T = (nI 5, T) := by unfold sol; rw [h1]; rfl
    rw [hs] at hret
    exact hret (_, _, _, _, _, _, _, _, _, _, _, _, _, _) ⟨rfl, by rw [h1]; rfl, hT⟩ hw d_M_solve_12
  · refine lv_iload_n hx hb d_M_solve_5 rfl (lv_at hl 1 rfl) ?_
    refine lv_bipush (v := nI 50) hx hb d_M_solve_6 (by decide) ?_
    refine lv_icmp_le (tgt := 13) hx hb d_M_solve_8 (by decide) (fun h2 => ?_) (fun h2 => ?_)
    · have h1 : wth k (nI 1) (nI 50) = true := decide_eq_true ⟨h1, Int32.not_lt.mpr h2⟩
      obtain ⟨n, hn1, hn2, rfl⟩ := wth_n (by omega) (by omega) h1
      have hs : sol (attM P N M fr fc fv ab) (attMR P N M fr fc fv ab) (nI n) T = slv (attM P N M fr fc fv ab) (attMR P N M fr fc fv ab) (n - 1) (attMR P N M fr fc fv ab T) (attM P N M fr fc fv ab T) := by unfold sol; rw [if_pos h1, nI_c (by omega)]
      rw [hs] at hret
      refine lv_aload_n hx hb d_M_solve_13 rfl (lv_at hl 0 rfl) ?_
      refine ky_callVi (As := []) (rest := []) S hK hw hA hl.1 (c_M_attempt hok hT) k_M_128 rfl rfl rfl rfl ⟨Nat.le_of_ble_eq_true rfl, Nat.le_of_ble_eq_true rfl⟩ ⟨Nat.zero_le _, Nat.zero_le _⟩ rfl rfl (Nat.le_of_ble_eq_true rfl) d_M_solve_14 (fun told u H locs hp hw => ?_)
      obtain ⟨g1, pr1, ta1, ar1, ac1, dg1, sv1, ax1, au1, av1, aw1, af1, ak1⟩ := u
      obtain ⟨htold, hT1⟩ := hp
      dsimp only at hT1
      have hw : kw D A s.heap H locs (wM ad cI cJ P N O M g1 ta1 pr1 true dg1 sv1 fr fc fv ab au1 av1 aw1 ar1 ac1 af1 ak1 ax1) := hw
      rw [← htold] at hret
      refine lv_istore_n (lv' := [(2, .int told), (0, .ref (ad 0)), (1, .int (nI n))]) hx hb d_M_solve_17 rfl hl (by decide) rfl (fun ls hl => ?_)
      refine lv_iconst (v := nI 1) hx hb d_M_solve_18 (by decide) ?_
      refine lv_istore_n (lv' := [(3, .int (nI 1)), (2, .int told), (0, .ref (ad 0)), (1, .int (nI n))]) hx hb d_M_solve_19 rfl hl (by decide) rfl (fun ls hl => ?_)
      have hl := lv_sub (l' := [(0, .ref (ad 0)), (1, .int (nI n)), (2, .int told), (3, .int (nI 1))]) hl [2, 3, 1, 0] rfl
      refine for_ri (i0 := 1) (N := n) (st := ((g1, pr1, ta1, ar1, ac1, dg1, sv1, ax1, au1, av1, aw1, af1, ak1, told, attM P N M fr fc fv ab T) : Int64 × Int32 × Int32 × (Nat → Int64) × (Nat → Int64) × Int32 × Bool × (Nat → Int64) × (Nat → Int64) × (Nat → Int64) × (Nat → Int64) × (Nat → Int64) × (Nat → Int64) × Int32 × TS))
        (fun (i : Nat) (st : Int64 × Int32 × Int32 × (Nat → Int64) × (Nat → Int64) × Int32 × Bool × (Nat → Int64) × (Nat → Int64) × (Nat → Int64) × (Nat → Int64) × (Nat → Int64) × (Nat → Int64) × Int32 × TS) => match st with | (g2, pr2, ta2, ar2, ac2, dg2, sv2, ax2, au2, av2, aw2, af2, ak2, told2, T2) => ∀ (H : Heap) (locs : List Loc) (ls : Array Slot), kw D A s.heap H locs (wM ad cI cJ P N O M g2 ta2 pr2 true dg2 sv2 fr fc fv ab au2 av2 aw2 ar2 ac2 af2 ak2 ax2) → lv_has ls 4 [(0, .ref (ad 0)), (1, .int (nI n)), (2, .int told2), (3, .int (nI i))] → W p l e (kr 4 98) s m args below meth c H locs 0 0 Z (F0 m 20 ls []))
        (fun (i : Nat) (st : Int64 × Int32 × Int32 × (Nat → Int64) × (Nat → Int64) × Int32 × Bool × (Nat → Int64) × (Nat → Int64) × (Nat → Int64) × (Nat → Int64) × (Nat → Int64) × (Nat → Int64) × Int32 × TS) => match st with | (g2, pr2, ta2, ar2, ac2, dg2, sv2, ax2, au2, av2, aw2, af2, ak2, told2, T2) => relT N T2 g2 pr2 ta2 ar2 ac2 dg2 sv2 ax2 ∧ slv (attM P N M fr fc fv ab) (attMR P N M fr fc fv ab) (n - i) told2 T2 = slv (attM P N M fr fc fv ab) (attMR P N M fr fc fv ab) (n - 1) told (attM P N M fr fc fv ab T))
        (by omega) ?_ ?_ ?_ H locs ls hw hl
      · exact ⟨hT1, rfl⟩
      · rintro i ⟨g2, pr2, ta2, ar2, ac2, dg2, sv2, ax2, au2, av2, aw2, af2, ak2, told2, T2⟩ hi0 hi hI ih H locs ls hw hl
        obtain ⟨hT2, hs2⟩ := hI
        refine lv_iload_n hx hb d_M_solve_20 rfl (lv_at hl 3 rfl) ?_
        refine lv_iload_n hx hb d_M_solve_21 rfl (lv_at hl 1 rfl) ?_
        refine ky_ge (a := i) (b := n) (tgt := 40) hx hb (by omega) (by omega) d_M_solve_22 (by decide) (fun h => absurd h (by omega)) (fun h => ?_)
        refine lv_iload_n hx hb d_M_solve_25 rfl (lv_at hl 2 rfl) ?_
        refine lv_if_eq (tgt := 40) hx hb d_M_solve_26 (by decide) (fun h3 => ?_) (fun h3 => ?_)
        · refine lv_iload_n hx hb d_M_solve_40 rfl (lv_at hl 2 rfl) ?_
          rw [← hs2] at hret
          subst h3
          rw [slv_0] at hret
          exact hret (true, _, _, _, _, _, _, _, _, _, _, _, _, _) ⟨rfl, by rw [h1]; rfl, hT2⟩ hw d_M_solve_41
        · refine lv_aload_n hx hb d_M_solve_29 rfl (lv_at hl 0 rfl) ?_
          refine ky_callVi (As := []) (rest := []) S hK hw hA hl.1 (c_M_attempt hok hT2) k_M_128 rfl rfl rfl rfl ⟨Nat.le_of_ble_eq_true rfl, Nat.le_of_ble_eq_true rfl⟩ ⟨Nat.zero_le _, Nat.zero_le _⟩ rfl rfl (Nat.le_of_ble_eq_true rfl) d_M_solve_30 (fun told3 u H locs hp hw => ?_)
          obtain ⟨g3, pr3, ta3, ar3, ac3, dg3, sv3, ax3, au3, av3, aw3, af3, ak3⟩ := u
          obtain ⟨htold3, hT3⟩ := hp
          dsimp only at hT3
          have hw : kw D A s.heap H locs (wM ad cI cJ P N O M g3 ta3 pr3 true dg3 sv3 fr fc fv ab au3 av3 aw3 ar3 ac3 af3 ak3 ax3) := hw
          refine lv_istore_n (lv' := [(2, .int told3), (0, .ref (ad 0)), (1, .int (nI n)), (3, .int (nI i))]) hx hb d_M_solve_33 rfl hl (by decide) rfl (fun ls hl => ?_)
          refine lv_iinc (v := nI (i + 1)) (lv' := [(3, .int (nI (i + 1))), (2, .int told3), (0, .ref (ad 0)), (1, .int (nI n))]) hx hb d_M_solve_34 hl (k := 3) rfl (nI_1 i) (by decide) rfl (fun ls hl => ?_)
          refine lv_goto (tgt := 20) hx hb d_M_solve_37 (by decide) ?_
          have hl := lv_sub (l' := [(0, .ref (ad 0)), (1, .int (nI n)), (2, .int told3), (3, .int (nI (i + 1)))]) hl [2, 3, 1, 0] rfl
          refine ih (g3, pr3, ta3, ar3, ac3, dg3, sv3, ax3, au3, av3, aw3, af3, ak3, told3, attM P N M fr fc fv ab T2) ⟨hT3, ?_⟩ H locs ls hw hl
          rw [← hs2, show n - i = (n - (i + 1)) + 1 by omega, htold3]
          show _ = if told2 = 0 then _ else _
          rw [if_neg h3]
      · rintro ⟨g2, pr2, ta2, ar2, ac2, dg2, sv2, ax2, au2, av2, aw2, af2, ak2, told2, T2⟩ hI H locs ls hw hl
        obtain ⟨hT2, hs2⟩ := hI
        refine lv_iload_n hx hb d_M_solve_20 rfl (lv_at hl 3 rfl) ?_
        refine lv_iload_n hx hb d_M_solve_21 rfl (lv_at hl 1 rfl) ?_
        refine ky_ge (a := n) (b := n) (tgt := 40) hx hb (by omega) (by omega) d_M_solve_22 (by decide) (fun h => ?_) (fun h => absurd h (by omega))
        refine lv_iload_n hx hb d_M_solve_40 rfl (lv_at hl 2 rfl) ?_
        rw [← hs2, show n - n = 0 by omega] at hret
        exact hret (true, _, _, _, _, _, _, _, _, _, _, _, _, _) ⟨rfl, by rw [h1]; rfl, hT2⟩ hw d_M_solve_41
    · refine lv_iconst (v := nI 5) hx hb d_M_solve_11 (by decide) ?_
      have h1 : wth k (nI 1) (nI 50) = false := decide_eq_false (fun q => q.2 (Int32.not_le.mp h2))
      have hs : sol (attM P N M fr fc fv ab) (attMR P N M fr fc fv ab) k T = (nI 5, T) := by unfold sol; rw [h1]; rfl
      rw [hs] at hret
      exact hret (_, _, _, _, _, _, _, _, _, _, _, _, _, _) ⟨rfl, by rw [h1]; rfl, hT⟩ hw d_M_solve_12
/-- solution -/
theorem c_M_solution {k : Int32} (h : okD P N O M fr fc) : CT l D (kt cI cJ) y_M_solution b_M_solution 2 (some .int) (kr 0 0) [.ref (ad 0), .int k] (wM ad cI cJ P N O M g ta pr hr dg sv fr fc fv ab au av aw ar ac af ak ax) sz (QI D (kt cI cJ) (G := Unit) (fun r _ => r = solR N sv ax k) (fun u => wM ad cI cJ P N O M g ta pr hr dg sv fr fc fv ab au av aw ar ac af ak ax)) := by
  refine ct_int (by decide) (Nat.le_of_ble_eq_true rfl) ?_
  intro p e s m args below meth c A ls Z S hA hK hw hl hret
  have S : CallFix p m c b_M_solution 2 s args lw_g R_M := S
  have hx := S.1
  have hb := S.2.1
  have hown := S.2.2.2.1
  have hts := S.2.2.2.2
  have hl : lv_has ls 2 [(0, .ref (ad 0)), (1, .int k)] := hl
  obtain ⟨hP2, hP, hN1, hN, hO1, hO, hM, hrc⟩ := h
  refine lv_aload_n hx hb d_M_solution_0 rfl (lv_at hl 0 rfl) ?_
  refine gM_solved S hK hw rfl rfl d_M_solution_1 ?_
  refine ky_beq (tgt := 29) hx hb d_M_solution_4 (by decide) (fun h1 => ?_) (fun h1 => ?_)
  · refine lv_iconst (v := -1) hx hb d_M_solution_29 (by decide) ?_
    exact hret () (by unfold solR; rw [h1]; rfl) hw d_M_solution_30
  · refine lv_iload_n hx hb d_M_solution_7 rfl (lv_at hl 1 rfl) ?_
    refine lv_if_lt (tgt := 29) hx hb d_M_solution_8 (by decide) (fun h2 => ?_) (fun h2 => ?_)
    · refine lv_iconst (v := -1) hx hb d_M_solution_29 (by decide) ?_
      exact hret () (by unfold solR; rw [h1, show wth k (nI 0) (nI (N - 1)) = false from inB_f1 hN1 hN h2]; rfl) hw d_M_solution_30
    · refine lv_iload_n hx hb d_M_solution_11 rfl (lv_at hl 1 rfl) ?_
      refine lv_aload_n hx hb d_M_solution_12 rfl (lv_at hl 0 rfl) ?_
      refine gM_n S hK hw rfl rfl d_M_solution_13 ?_
      refine lv_icmp_ge (tgt := 29) hx hb d_M_solution_16 (by decide) (fun h3 => ?_) (fun h3 => ?_)
      · refine lv_iconst (v := -1) hx hb d_M_solution_29 (by decide) ?_
        exact hret () (by unfold solR; rw [h1, show wth k (nI 0) (nI (N - 1)) = false from inB_f2 hN1 hN h3]; rfl) hw d_M_solution_30
      · have h4 : wth k (nI 0) (nI (N - 1)) = true := inB_t hN1 hN h2 h3
        obtain ⟨n, hn1, hn2, rfl⟩ := wth_n (by omega) (by omega) h4
        refine lv_aload_n hx hb d_M_solution_19 rfl (lv_at hl 0 rfl) ?_
        refine gM_solution S hK hw rfl rfl d_M_solution_20 ?_
        refine lv_iload_n hx hb d_M_solution_23 rfl (lv_at hl 1 rfl) ?_
        refine ky_lald S hK hw 12 rfl (by omega) (by omega) d_M_solution_24 ?_
        refine lv_l2i hx hb d_M_solution_25 rfl ?_
        refine lv_goto (tgt := 30) hx hb d_M_solution_26 (by decide) ?_
        exact hret () (by unfold solR; rw [h1, h4, nI_c (by omega)]; rfl) hw d_M_solution_30
/-- coefficient -/
theorem c_M_coefficient {k : Int32} (hdg : dgOk dg) : CT l D (kt cI cJ) y_M_coefficient b_M_coefficient 2 (some .int) (kr 0 0) [.ref (ad 0), .int k] (wM ad cI cJ P N O M g ta pr hr dg sv fr fc fv ab au av aw ar ac af ak ax) sz (QI D (kt cI cJ) (G := Unit) (fun r _ => r = coeR dg ac k) (fun u => wM ad cI cJ P N O M g ta pr hr dg sv fr fc fv ab au av aw ar ac af ak ax)) := by
  refine ct_int (by decide) (Nat.le_of_ble_eq_true rfl) ?_
  intro p e s m args below meth c A ls Z S hA hK hw hl hret
  have S : CallFix p m c b_M_coefficient 2 s args lw_g R_M := S
  have hx := S.1
  have hb := S.2.1
  have hown := S.2.2.2.1
  have hts := S.2.2.2.2
  have hl : lv_has ls 2 [(0, .ref (ad 0)), (1, .int k)] := hl
  rcases hdg with rfl | ⟨d, hd, rfl⟩
  · refine lv_aload_n hx hb d_M_coefficient_0 rfl (lv_at hl 0 rfl) ?_
    refine gM_degree S hK hw rfl rfl d_M_coefficient_1 ?_
    refine lv_if_lt (tgt := 19) hx hb d_M_coefficient_4 (by decide) (fun h1 => ?_) (fun h1 => absurd h1 (by decide))
    refine lv_iconst (v := -1) hx hb d_M_coefficient_19 (by decide) ?_
    refine lv_goto (tgt := 35) hx hb d_M_coefficient_20 (by decide) ?_
    exact hret () (by unfold coeR; rw [wth_m1]; rfl) hw d_M_coefficient_35
  · refine lv_aload_n hx hb d_M_coefficient_0 rfl (lv_at hl 0 rfl) ?_
    refine gM_degree S hK hw rfl rfl d_M_coefficient_1 ?_
    refine lv_if_lt (tgt := 19) hx hb d_M_coefficient_4 (by decide) (fun h1 => absurd h1 (by exact nI_pos (by omega))) (fun h1 => ?_)
    refine lv_iload_n hx hb d_M_coefficient_7 rfl (lv_at hl 1 rfl) ?_
    refine lv_if_lt (tgt := 19) hx hb d_M_coefficient_8 (by decide) (fun h2 => ?_) (fun h2 => ?_)
    · refine lv_iconst (v := -1) hx hb d_M_coefficient_19 (by decide) ?_
      refine lv_goto (tgt := 35) hx hb d_M_coefficient_20 (by decide) ?_
      exact hret () (by unfold coeR; rw [show wth k (nI 0) (nI d) = false from decide_eq_false (fun q => q.1 h2)]; rfl) hw d_M_coefficient_35
    · refine lv_iload_n hx hb d_M_coefficient_11 rfl (lv_at hl 1 rfl) ?_
      refine lv_aload_n hx hb d_M_coefficient_12 rfl (lv_at hl 0 rfl) ?_
      refine gM_degree S hK hw rfl rfl d_M_coefficient_13 ?_
      refine lv_icmp_le (tgt := 23) hx hb d_M_coefficient_16 (by decide) (fun h3 => ?_) (fun h3 => ?_)
      · have h4 : wth k (nI 0) (nI d) = true := decide_eq_true ⟨h2, Int32.not_lt.mpr h3⟩
        obtain ⟨n, hn1, hn2, rfl⟩ := wth_n (by omega) (by omega) h4
        refine lv_aload_n hx hb d_M_coefficient_23 rfl (lv_at hl 0 rfl) ?_
        refine gM_c S hK hw rfl rfl d_M_coefficient_24 ?_
        refine lv_aload_n hx hb d_M_coefficient_27 rfl (lv_at hl 0 rfl) ?_
        refine gM_degree S hK hw rfl rfl d_M_coefficient_28 ?_
        refine lv_iload_n hx hb d_M_coefficient_31 rfl (lv_at hl 1 rfl) ?_
        refine lv_isub hx hb d_M_coefficient_32 ?_
        refine ky_ti (y := nI (d - n)) (pk_sub (by omega)) ?_
        refine ky_lald S hK hw 9 rfl (by omega) (by omega) d_M_coefficient_33 ?_
        refine lv_l2i hx hb d_M_coefficient_34 rfl ?_
        exact hret () (by unfold coeR; rw [h4, pk_sub (by omega), nI_c (by omega)]; rfl) hw d_M_coefficient_35
      · refine lv_iconst (v := -1) hx hb d_M_coefficient_19 (by decide) ?_
        refine lv_goto (tgt := 35) hx hb d_M_coefficient_20 (by decide) ?_
        exact hret () (by unfold coeR; rw [show wth k (nI 0) (nI d) = false from decide_eq_false (fun q => q.2 (Int32.not_le.mp h3))]; rfl) hw d_M_coefficient_35
/-- number -/
theorem c_M_number {k : Int32} (h : okD P N O M fr fc) : CT l D (kt cI cJ) y_M_number b_M_number 2 (some .int) (kr 0 0) [.ref (ad 0), .int k] (wM ad cI cJ P N O M g ta pr hr dg sv fr fc fv ab au av aw ar ac af ak ax) sz (QI D (kt cI cJ) (G := Unit) (fun r _ => r = numR N hr ar k) (fun u => wM ad cI cJ P N O M g ta pr hr dg sv fr fc fv ab au av aw ar ac af ak ax)) := by
  refine ct_int (by decide) (Nat.le_of_ble_eq_true rfl) ?_
  intro p e s m args below meth c A ls Z S hA hK hw hl hret
  have S : CallFix p m c b_M_number 2 s args lw_g R_M := S
  have hx := S.1
  have hb := S.2.1
  have hown := S.2.2.2.1
  have hts := S.2.2.2.2
  have hl : lv_has ls 2 [(0, .ref (ad 0)), (1, .int k)] := hl
  obtain ⟨hP2, hP, hN1, hN, hO1, hO, hM, hrc⟩ := h
  refine lv_aload_n hx hb d_M_number_0 rfl (lv_at hl 0 rfl) ?_
  refine gM_hasRow S hK hw rfl rfl d_M_number_1 ?_
  refine ky_beq (tgt := 31) hx hb d_M_number_4 (by decide) (fun h1 => ?_) (fun h1 => ?_)
  · refine lv_iconst (v := -1) hx hb d_M_number_31 (by decide) ?_
    exact hret () (by unfold numR; rw [h1]; rfl) hw d_M_number_32
  · refine lv_iload_n hx hb d_M_number_7 rfl (lv_at hl 1 rfl) ?_
    refine lv_if_lt (tgt := 31) hx hb d_M_number_8 (by decide) (fun h2 => ?_) (fun h2 => ?_)
    · refine lv_iconst (v := -1) hx hb d_M_number_31 (by decide) ?_
      exact hret () (by unfold numR; rw [h1, show wth k (nI 0) (nI (2 * N - 1)) = false from by rw [Bool.eq_false_iff]; exact fun q => ((wth_0 (b := 2 * N) (by omega) (by omega)).mp q).1 h2]; rfl) hw d_M_number_32
    · refine lv_iload_n hx hb d_M_number_11 rfl (lv_at hl 1 rfl) ?_
      refine lv_iconst (v := nI 2) hx hb d_M_number_12 (by decide) ?_
      refine lv_aload_n hx hb d_M_number_13 rfl (lv_at hl 0 rfl) ?_
      refine gM_n S hK hw rfl rfl d_M_number_14 ?_
      refine lv_imul hx hb d_M_number_17 ?_
      refine ky_ti (y := nI (2 * N)) (pk_mul 2 N) ?_
      refine lv_icmp_ge (tgt := 31) hx hb d_M_number_18 (by decide) (fun h3 => ?_) (fun h3 => ?_)
      · refine lv_iconst (v := -1) hx hb d_M_number_31 (by decide) ?_
        exact hret () (by unfold numR; rw [h1, show wth k (nI 0) (nI (2 * N - 1)) = false from by rw [Bool.eq_false_iff]; exact fun q => ((wth_0 (b := 2 * N) (by omega) (by omega)).mp q).2 h3]; rfl) hw d_M_number_32
      · have h4 : wth k (nI 0) (nI (2 * N - 1)) = true := (wth_0 (b := 2 * N) (by omega) (by omega)).mpr ⟨h2, h3⟩
        obtain ⟨n, hn1, hn2, rfl⟩ := wth_n (by omega) (by omega) h4
        refine lv_aload_n hx hb d_M_number_21 rfl (lv_at hl 0 rfl) ?_
        refine gM_row S hK hw rfl rfl d_M_number_22 ?_
        refine lv_iload_n hx hb d_M_number_25 rfl (lv_at hl 1 rfl) ?_
        refine ky_lald S hK hw 8 rfl (by omega) (by omega) d_M_number_26 ?_
        refine lv_l2i hx hb d_M_number_27 rfl ?_
        refine lv_goto (tgt := 32) hx hb d_M_number_28 (by decide) ?_
        exact hret () (by unfold numR; rw [h1, h4, nI_c (by omega)]; rfl) hw d_M_number_32
/-- verify -/
theorem c_M_verify  (h : okD P N O M fr fc) : CT l D (kt cI cJ) y_M_verify b_M_verify 1 (some .boolean) (kr 2 43) [.ref (ad 0)] (wM ad cI cJ P N O M g ta pr hr dg sv fr fc fv ab au av aw ar ac af ak ax) sz (QI D (kt cI cJ) (G := Int32 × (Nat → Int64) × (Nat → Int64)) (fun r u => r = bI (sv && eqN N (muK P fr fc fv ax M) ab) ∧ u.1 = if sv then pr + 1 else pr) (fun u => wM ad cI cJ P N O M g ta (u.1) hr dg sv fr fc fv ab au (u.2.1) (u.2.2) ar ac af ak ax)) := by
  refine ct_bool (by decide) (Nat.le_of_ble_eq_true rfl) ?_
  intro p e s m args below meth c A ls Z S hA hK hw hl hret
  have S : CallFix p m c b_M_verify 1 s args lw_g R_M := S
  have hx := S.1
  have hb := S.2.1
  have hown := S.2.2.2.1
  have hts := S.2.2.2.2
  have hl : lv_has ls 1 [(0, .ref (ad 0))] := hl
  obtain ⟨hP2, hP, hN1, hN, hO1, hO, hM, hrc⟩ := h
  have hok : okD P N O M fr fc := ⟨hP2, hP, hN1, hN, hO1, hO, hM, hrc⟩
  refine lv_aload_n hx hb d_M_verify_0 rfl (lv_at hl 0 rfl) ?_
  refine gM_solved S hK hw rfl rfl d_M_verify_1 ?_
  refine ky_beq (tgt := 18) hx hb d_M_verify_4 (by decide) (fun h1 => ?_) (fun h1 => ?_)
  · refine lv_iconst (v := nI 0) hx hb d_M_verify_18 (by decide) ?_
    refine ky_ti (y := bI false) (rfl) ?_
    exact hret (_, _, _) ⟨by rw [h1]; rfl, by rw [h1]; rfl⟩ hw d_M_verify_19
  · refine lv_aload_n hx hb d_M_verify_7 rfl (lv_at hl 0 rfl) ?_
    refine ky_callVi (As := []) (rest := []) S hK hw hA hl.1 (c_M_holds hok) k_M_124 rfl rfl rfl rfl ⟨Nat.le_of_ble_eq_true rfl, Nat.le_of_ble_eq_true rfl⟩ ⟨Nat.zero_le _, Nat.zero_le _⟩ rfl rfl (Nat.le_of_ble_eq_true rfl) d_M_verify_8 (fun r u H locs hp hw => ?_)
    obtain ⟨pr2, av2, aw2⟩ := u
    obtain ⟨hr2, hp2⟩ := hp
    dsimp only at hr2 hp2
    subst hr2
    have hw : kw D A s.heap H locs (wM ad cI cJ P N O M g ta pr2 hr dg sv fr fc fv ab au av2 aw2 ar ac af ak ax) := hw
    refine ky_beq (tgt := 18) hx hb d_M_verify_11 (by decide) (fun h2 => ?_) (fun h2 => ?_)
    · refine lv_iconst (v := nI 0) hx hb d_M_verify_18 (by decide) ?_
      refine ky_ti (y := bI false) (rfl) ?_
      exact hret (_, _, _) ⟨by rw [h1, h2]; rfl, by rw [h1]; exact hp2⟩ hw d_M_verify_19
    · refine lv_iconst (v := nI 1) hx hb d_M_verify_14 (by decide) ?_
      refine lv_goto (tgt := 19) hx hb d_M_verify_15 (by decide) ?_
      refine ky_ti (y := bI true) (rfl) ?_
      exact hret (_, _, _) ⟨by rw [h1, h2]; rfl, by rw [h1]; exact hp2⟩ hw d_M_verify_19
/-- entry -/
theorem c_M_entry {k1 k2 z : Int32} (h : okD P N O M fr fc) : CT l D (kt cI cJ) y_M_entry b_M_entry 4 (some .int) (kr 1 24) [.ref (ad 0), .int k1, .int k2, .int z] (wM ad cI cJ P N O M g ta pr hr dg sv fr fc fv ab au av aw ar ac af ak ax) sz (QI D (kt cI cJ) (G := Nat × Bool × Int32 × Bool × (Nat → Nat) × (Nat → Nat) × (Nat → Int64)) (fun r u => ((inB N k1 && inB N k2) = false ∧ r = 1 ∧ u = (M, hr, dg, sv, fr, fc, fv)) ∨ ((inB N k1 && inB N k2) = true ∧ M = O ∧ r = 2 ∧ u = (M, hr, dg, sv, fr, fc, fv)) ∨ ((inB N k1 && inB N k2) = true ∧ M ≠ O ∧ r = 0 ∧ u = (M + 1, false, -1, false, va_up fr M k1.toNatClampNeg, va_up fc M k2.toNatClampNeg, vp_updL fv M (wi P z.toInt64)))) (fun u => wM ad cI cJ P N O (u.1) g ta pr (u.2.1) (u.2.2.1) (u.2.2.2.1) (u.2.2.2.2.1) (u.2.2.2.2.2.1) (u.2.2.2.2.2.2) ab au av aw ar ac af ak ax)) := by
  refine ct_int (by decide) (Nat.le_of_ble_eq_true rfl) ?_
  intro p e s m args below meth c A ls Z S hA hK hw hl hret
  have S : CallFix p m c b_M_entry 4 s args lw_g R_M := S
  have hx := S.1
  have hb := S.2.1
  have hown := S.2.2.2.1
  have hts := S.2.2.2.2
  have hl : lv_has ls 4 [(0, .ref (ad 0)), (1, .int k1), (2, .int k2), (3, .int z)] := hl
  obtain ⟨hP2, hP, hN1, hN, hO1, hO, hM, hrc⟩ := h
  refine lv_iload_n hx hb d_M_entry_0 rfl (lv_at hl 1 rfl) ?_
  refine lv_if_lt (tgt := 24) hx hb d_M_entry_1 (by decide) (fun h1 => ?_) (fun h1 => ?_)
  · refine lv_iconst (v := nI 1) hx hb d_M_entry_24 (by decide) ?_
    exact hret (_, _, _, _, _, _, _) (Or.inl ⟨by rw [inB_f1 hN1 hN h1]; simp, rfl, rfl⟩) hw d_M_entry_25
  · refine lv_iload_n hx hb d_M_entry_4 rfl (lv_at hl 1 rfl) ?_
    refine lv_aload_n hx hb d_M_entry_5 rfl (lv_at hl 0 rfl) ?_
    refine gM_n S hK hw rfl rfl d_M_entry_6 ?_
    refine lv_icmp_ge (tgt := 24) hx hb d_M_entry_9 (by decide) (fun h2 => ?_) (fun h2 => ?_)
    · refine lv_iconst (v := nI 1) hx hb d_M_entry_24 (by decide) ?_
      exact hret (_, _, _, _, _, _, _) (Or.inl ⟨by rw [inB_f2 hN1 hN h2]; simp, rfl, rfl⟩) hw d_M_entry_25
    · refine lv_iload_n hx hb d_M_entry_12 rfl (lv_at hl 2 rfl) ?_
      refine lv_if_lt (tgt := 24) hx hb d_M_entry_13 (by decide) (fun h3 => ?_) (fun h3 => ?_)
      · refine lv_iconst (v := nI 1) hx hb d_M_entry_24 (by decide) ?_
        exact hret (_, _, _, _, _, _, _) (Or.inl ⟨by rw [inB_f1 (k := k2) hN1 hN h3]; simp, rfl, rfl⟩) hw d_M_entry_25
      · refine lv_iload_n hx hb d_M_entry_16 rfl (lv_at hl 2 rfl) ?_
        refine lv_aload_n hx hb d_M_entry_17 rfl (lv_at hl 0 rfl) ?_
        refine gM_n S hK hw rfl rfl d_M_entry_18 ?_
        refine lv_icmp_lt (tgt := 26) hx hb d_M_entry_21 (by decide) (fun h4 => ?_) (fun h4 => ?_)
        · have e1 : inB N k1 = true := inB_t hN1 hN h1 h2
          have e2 : inB N k2 = true := inB_t hN1 hN h3 (Int32.not_le.mpr h4)
          have hin : (inB N k1 && inB N k2) = true := by rw [e1, e2]; rfl
          refine lv_aload_n hx hb d_M_entry_26 rfl (lv_at hl 0 rfl) ?_
          refine gM_entries S hK hw rfl rfl d_M_entry_27 ?_
          refine lv_aload_n hx hb d_M_entry_30 rfl (lv_at hl 0 rfl) ?_
          refine gM_room S hK hw rfl rfl d_M_entry_31 ?_
          refine ky_ne (a := M) (b := O) (tgt := 39) hx hb (by omega) (by omega) d_M_entry_34 (by decide) (fun h5 => ?_) (fun h5 => ?_)
          · obtain ⟨n1, hn1, hn2, rfl⟩ := wth_n (by omega) (by omega) e1
            obtain ⟨n2, hn3, hn4, rfl⟩ := wth_n (by omega) (by omega) e2
            refine lv_aload_n hx hb d_M_entry_39 rfl (lv_at hl 0 rfl) ?_
            refine gM_rows S hK hw rfl rfl d_M_entry_40 ?_
            refine lv_aload_n hx hb d_M_entry_43 rfl (lv_at hl 0 rfl) ?_
            refine gM_entries S hK hw rfl rfl d_M_entry_44 ?_
            refine lv_iload_n hx hb d_M_entry_47 rfl (lv_at hl 1 rfl) ?_
            refine ky_nast S hK hw 1 rfl (by omega) (by omega) d_M_entry_48 (fun H locs hw => ?_)
            have hw : kw D A s.heap H locs (wM ad cI cJ P N O M g ta pr hr dg sv (va_up fr M n1) fc fv ab au av aw ar ac af ak ax) := hw
            refine lv_aload_n hx hb d_M_entry_49 rfl (lv_at hl 0 rfl) ?_
            refine gM_columns S hK hw rfl rfl d_M_entry_50 ?_
            refine lv_aload_n hx hb d_M_entry_53 rfl (lv_at hl 0 rfl) ?_
            refine gM_entries S hK hw rfl rfl d_M_entry_54 ?_
            refine lv_iload_n hx hb d_M_entry_57 rfl (lv_at hl 2 rfl) ?_
            refine ky_nast S hK hw 2 rfl (by omega) (by omega) d_M_entry_58 (fun H locs hw => ?_)
            have hw : kw D A s.heap H locs (wM ad cI cJ P N O M g ta pr hr dg sv (va_up fr M n1) (va_up fc M n2) fv ab au av aw ar ac af ak ax) := hw
            refine lv_aload_n hx hb d_M_entry_59 rfl (lv_at hl 0 rfl) ?_
            refine gM_values S hK hw rfl rfl d_M_entry_60 ?_
            refine lv_aload_n hx hb d_M_entry_63 rfl (lv_at hl 0 rfl) ?_
            refine gM_entries S hK hw rfl rfl d_M_entry_64 ?_
            refine lv_aload_n hx hb d_M_entry_67 rfl (lv_at hl 0 rfl) ?_
            refine lv_iload_n hx hb d_M_entry_68 rfl (lv_at hl 3 rfl) ?_
            refine lv_i2l hx hb d_M_entry_69 rfl ?_
            refine ky_callVl (As := [.long (z.toInt64)]) (rest := [.int (nI M), .ref (ad 3)]) S hK hw hA hl.1 (c_M_within hP2 hP) k_M_79 rfl rfl rfl rfl ⟨Nat.le_of_ble_eq_true rfl, Nat.le_of_ble_eq_true rfl⟩ ⟨Nat.zero_le _, Nat.zero_le _⟩ rfl rfl (Nat.le_of_ble_eq_true rfl) d_M_entry_70 (fun r u H locs hp hw => ?_)
            subst hp
            have hw : kw D A s.heap H locs (wM ad cI cJ P N O M g ta pr hr dg sv (va_up fr M n1) (va_up fc M n2) fv ab au av aw ar ac af ak ax) := hw
            refine ky_last S hK hw 3 rfl (by omega) (by omega) d_M_entry_73 (fun H locs hw => ?_)
            have hw : kw D A s.heap H locs (wM ad cI cJ P N O M g ta pr hr dg sv (va_up fr M n1) (va_up fc M n2) (vp_updL fv M (wi P z.toInt64)) ab au av aw ar ac af ak ax) := hw
            refine lv_aload_n hx hb d_M_entry_74 rfl (lv_at hl 0 rfl) ?_
            refine lv_dup hx hb d_M_entry_75 rfl ?_
            refine gM_entries S hK hw rfl rfl d_M_entry_76 ?_
            refine lv_iconst (v := nI 1) hx hb d_M_entry_79 (by decide) ?_
            refine lv_iadd hx hb d_M_entry_80 ?_
            refine ky_ti (y := nI (M + 1)) (nI_add M 1) ?_
            refine pM_entries S hK hw rfl (Nat.le_of_ble_eq_true rfl) d_M_entry_81 (fun H locs hw => ?_)
            have hw : kw D A s.heap H locs (wM ad cI cJ P N O (M + 1) g ta pr hr dg sv (va_up fr M n1) (va_up fc M n2) (vp_updL fv M (wi P z.toInt64)) ab au av aw ar ac af ak ax) := hw
            refine lv_aload_n hx hb d_M_entry_84 rfl (lv_at hl 0 rfl) ?_
            refine ky_callVv (As := []) (rest := []) S hK hw hA hl.1 (c_M_forget) k_M_83 rfl rfl rfl rfl ⟨Nat.le_of_ble_eq_true rfl, Nat.le_of_ble_eq_true rfl⟩ ⟨Nat.zero_le _, Nat.zero_le _⟩ rfl rfl (Nat.le_of_ble_eq_true rfl) d_M_entry_85 (fun u H locs hp hw => ?_)
            have hw : kw D A s.heap H locs (wM ad cI cJ P N O (M + 1) g ta pr false (-1) false (va_up fr M n1) (va_up fc M n2) (vp_updL fv M (wi P z.toInt64)) ab au av aw ar ac af ak ax) := hw
            refine lv_iconst (v := nI 0) hx hb d_M_entry_88 (by decide) ?_
            refine hret (M + 1, false, -1, false, va_up fr M n1, va_up fc M n2, vp_updL fv M (wi P z.toInt64)) (Or.inr (Or.inr ⟨hin, h5, rfl, ?_⟩)) hw d_M_entry_89
            rw [nI_c (by omega), nI_c (by omega)]
          · refine lv_iconst (v := nI 2) hx hb d_M_entry_37 (by decide) ?_
            exact hret (_, _, _, _, _, _, _) (Or.inr (Or.inl ⟨hin, h5, rfl, rfl⟩)) hw d_M_entry_38
        · refine lv_iconst (v := nI 1) hx hb d_M_entry_24 (by decide) ?_
          exact hret (_, _, _, _, _, _, _) (Or.inl ⟨by rw [inB_f2 (k := k2) hN1 hN (Int32.not_lt.mp h4)]; simp, rfl, rfl⟩) hw d_M_entry_25
/-- side -/
theorem c_M_side {k1 z : Int32} (h : okD P N O M fr fc) : CT l D (kt cI cJ) y_M_side b_M_side 3 (some .int) (kr 1 24) [.ref (ad 0), .int k1, .int z] (wM ad cI cJ P N O M g ta pr hr dg sv fr fc fv ab au av aw ar ac af ak ax) sz (QI D (kt cI cJ) (G := (Nat → Int64) × Bool × Int32 × Bool) (fun r u => (inB N k1 = false ∧ r = 1 ∧ u = (ab, hr, dg, sv)) ∨ (inB N k1 = true ∧ r = 0 ∧ u = (vp_updL ab k1.toNatClampNeg (wi P z.toInt64), false, -1, false))) (fun u => wM ad cI cJ P N O M g ta pr (u.2.1) (u.2.2.1) (u.2.2.2) fr fc fv (u.1) au av aw ar ac af ak ax)) := by
  refine ct_int (by decide) (Nat.le_of_ble_eq_true rfl) ?_
  intro p e s m args below meth c A ls Z S hA hK hw hl hret
  have S : CallFix p m c b_M_side 3 s args lw_g R_M := S
  have hx := S.1
  have hb := S.2.1
  have hown := S.2.2.2.1
  have hts := S.2.2.2.2
  have hl : lv_has ls 3 [(0, .ref (ad 0)), (1, .int k1), (2, .int z)] := hl
  obtain ⟨hP2, hP, hN1, hN, hO1, hO, hM, hrc⟩ := h
  refine lv_iload_n hx hb d_M_side_0 rfl (lv_at hl 1 rfl) ?_
  refine lv_if_lt (tgt := 12) hx hb d_M_side_1 (by decide) (fun h1 => ?_) (fun h1 => ?_)
  · refine lv_iconst (v := nI 1) hx hb d_M_side_12 (by decide) ?_
    exact hret (_, _, _, _) (Or.inl ⟨inB_f1 hN1 hN h1, rfl, rfl⟩) hw d_M_side_13
  · refine lv_iload_n hx hb d_M_side_4 rfl (lv_at hl 1 rfl) ?_
    refine lv_aload_n hx hb d_M_side_5 rfl (lv_at hl 0 rfl) ?_
    refine gM_n S hK hw rfl rfl d_M_side_6 ?_
    refine lv_icmp_lt (tgt := 14) hx hb d_M_side_9 (by decide) (fun h2 => ?_) (fun h2 => ?_)
    · have hin : inB N k1 = true := inB_t hN1 hN h1 (Int32.not_le.mpr h2)
      obtain ⟨n1, hn1, hn2, rfl⟩ := wth_n (by omega) (by omega) hin
      refine lv_aload_n hx hb d_M_side_14 rfl (lv_at hl 0 rfl) ?_
      refine gM_right S hK hw rfl rfl d_M_side_15 ?_
      refine lv_iload_n hx hb d_M_side_18 rfl (lv_at hl 1 rfl) ?_
      refine lv_aload_n hx hb d_M_side_19 rfl (lv_at hl 0 rfl) ?_
      refine lv_iload_n hx hb d_M_side_20 rfl (lv_at hl 2 rfl) ?_
      refine lv_i2l hx hb d_M_side_21 rfl ?_
      refine ky_callVl (As := [.long (z.toInt64)]) (rest := [.int (nI n1), .ref (ad 4)]) S hK hw hA hl.1 (c_M_within hP2 hP) k_M_79 rfl rfl rfl rfl ⟨Nat.le_of_ble_eq_true rfl, Nat.le_of_ble_eq_true rfl⟩ ⟨Nat.zero_le _, Nat.zero_le _⟩ rfl rfl (Nat.le_of_ble_eq_true rfl) d_M_side_22 (fun r u H locs hp hw => ?_)
      subst hp
      have hw : kw D A s.heap H locs (wM ad cI cJ P N O M g ta pr hr dg sv fr fc fv ab au av aw ar ac af ak ax) := hw
      refine ky_last S hK hw 4 rfl (by omega) (by omega) d_M_side_25 (fun H locs hw => ?_)
      have hw : kw D A s.heap H locs (wM ad cI cJ P N O M g ta pr hr dg sv fr fc fv (vp_updL ab n1 (wi P z.toInt64)) au av aw ar ac af ak ax) := hw
      refine lv_aload_n hx hb d_M_side_26 rfl (lv_at hl 0 rfl) ?_
      refine ky_callVv (As := []) (rest := []) S hK hw hA hl.1 (c_M_forget) k_M_83 rfl rfl rfl rfl ⟨Nat.le_of_ble_eq_true rfl, Nat.le_of_ble_eq_true rfl⟩ ⟨Nat.zero_le _, Nat.zero_le _⟩ rfl rfl (Nat.le_of_ble_eq_true rfl) d_M_side_27 (fun u H locs hp hw => ?_)
      have hw : kw D A s.heap H locs (wM ad cI cJ P N O M g ta pr false (-1) false fr fc fv (vp_updL ab n1 (wi P z.toInt64)) au av aw ar ac af ak ax) := hw
      refine lv_iconst (v := nI 0) hx hb d_M_side_30 (by decide) ?_
      refine hret (vp_updL ab n1 (wi P z.toInt64), false, -1, false) (Or.inr ⟨hin, rfl, ?_⟩) hw d_M_side_31
      rw [nI_c (by omega)]
    · refine lv_iconst (v := nI 1) hx hb d_M_side_12 (by decide) ?_
      exact hret (_, _, _, _) (Or.inl ⟨inB_f2 hN1 hN (Int32.not_lt.mp h2), rfl, rfl⟩) hw d_M_side_13
end
end
section
section
variable {p : Program} {l : Launch} {e : Env} {R : Room} {s : State} {m : MethodId} {args : Array Value} {below : List Frame} {meth : Method} {c : Code} {H H0 : Heap} {locs : List Loc} {cells slots : Nat} {Q : State → Prop} {cc : ByteArray} {pc nL : Nat} {ls : Array Slot} {rest : List Value} {D : va_G} {tys : List (ClassId × FieldType)} {ws : va_W} {A : Nat → Prop} {own : String}
theorem ky_newJ {n : Nat} (S : CallFix p m c cc nL s args lw_g own) (hK : va_K D classes tys s) (hw : kw D A H0 H locs ws) (hA : ∀ q, H0.size ≤ q → A q) (hn : n ≤ 1000) (hcells : cells + 1 ≤ R.cells) (hslots : slots + n ≤ R.slots) (hdg : decode cc pc = .ok (.newarray .long, 2)) (kk : ∀ (q : Nat) (cA : ClassId) (H1 : Heap), va_K D classes (tys ++ [(cA, .long)]) s → kw D A H0 H1 locs (ws ++ [(q, .inl (cA, n, .inr (.inl (fun _ => 0))))]) → W p l e R s m args below meth c H1 locs (cells + 1) (slots + n) Q (F0 m (pc + 2) ls (.ref q :: rest))) : W p l e R s m args below meth c H locs cells slots Q (F0 m pc ls (.int (nI n) :: rest)) :=
  va_newa S.1 S.2.1 (atype := .long) (S.2.2.2.2 _ q1_83) rfl hK hw.1 hw.2.1 hw.2.2 hA (a0 := (n, .inr (.inl (fun _ => 0)))) (fun cA => rfl) (nI_pos (by omega)) (nI_clamp (by omega)) (by show n * 8 ≤ _; omega) hcells hslots hdg (fun q cA H1 h1 h2 h3 h4 => kk q cA H1 h1 ⟨h2, h3, h4⟩)
theorem ky_newI {n : Nat} (S : CallFix p m c cc nL s args lw_g own) (hK : va_K D classes tys s) (hw : kw D A H0 H locs ws) (hA : ∀ q, H0.size ≤ q → A q) (hn : n ≤ 1000) (hcells : cells + 1 ≤ R.cells) (hslots : slots + n ≤ R.slots) (hdg : decode cc pc = .ok (.newarray .int, 2)) (kk : ∀ (q : Nat) (cA : ClassId) (H1 : Heap), va_K D classes (tys ++ [(cA, .int)]) s → kw D A H0 H1 locs (ws ++ [(q, .inl (cA, n, .inl (fun _ => nI 0)))]) → W p l e R s m args below meth c H1 locs (cells + 1) (slots + n) Q (F0 m (pc + 2) ls (.ref q :: rest))) : W p l e R s m args below meth c H locs cells slots Q (F0 m pc ls (.int (nI n) :: rest)) :=
  va_newa S.1 S.2.1 (atype := .int) (S.2.2.2.2 _ q1_84) rfl hK hw.1 hw.2.1 hw.2.2 hA (a0 := (n, .inl (fun _ => nI 0))) (fun cA => rfl) (nI_pos (by omega)) (nI_clamp (by omega)) (by show n * 4 ≤ _; omega) hcells hslots hdg (fun q cA H1 h1 h2 h3 h4 => kk q cA H1 h1 ⟨h2, h3, h4⟩)
theorem ky_eqJ {c1 c2 : ClassId} (hK : va_K D classes tys s) (i j : Nat) (h1 : tys[i]? = some (c1, .long)) (h2 : tys[j]? = some (c2, .long)) : c1 = c2 := by
  have a1 : s.vm.findClass ("[" ++ FieldType.long.toString) = some c1 := (hK.2 i _ h1).2
  have a2 : s.vm.findClass ("[" ++ FieldType.long.toString) = some c2 := (hK.2 j _ h2).2
  rw [a1] at a2
  exact Option.some.inj a2
theorem ky_eqI {c1 c2 : ClassId} (hK : va_K D classes tys s) (i j : Nat) (h1 : tys[i]? = some (c1, .int)) (h2 : tys[j]? = some (c2, .int)) : c1 = c2 := by
  have a1 : s.vm.findClass ("[" ++ FieldType.int.toString) = some c1 := (hK.2 i _ h1).2
  have a2 : s.vm.findClass ("[" ++ FieldType.int.toString) = some c2 := (hK.2 j _ h2).2
  rw [a1] at a2
  exact Option.some.inj a2
end
/-- an int held between two small numbers, as a number -/
def clN (k : Int32) (lo hi : Nat) : Nat := (brg k (nI lo) (nI hi)).toNatClampNeg
theorem clN_bd {k : Int32} {lo hi : Nat} (h : lo ≤ hi) (hh : hi < 2147483648) : lo ≤ clN k lo hi ∧ clN k lo hi ≤ hi ∧ brg k (nI lo) (nI hi) = nI (clN k lo hi) := by
  unfold clN brg
  by_cases h1 : nI lo ≤ k
  · rw [if_pos h1]
    by_cases h2 : k ≤ nI hi
    · rw [if_pos h2]
      obtain ⟨n, a1, a2, rfl⟩ := wth_n (k := k) (a := lo) (b := hi) (by omega) hh (decide_eq_true ⟨Int32.not_lt.mpr h1, Int32.not_lt.mpr h2⟩)
      rw [nI_clamp (by omega)]
      exact ⟨a1, a2, rfl⟩
    · rw [if_neg h2, nI_clamp hh]
      exact ⟨h, Nat.le_refl _, rfl⟩
  · rw [if_neg h1, nI_clamp (by omega)]
    exact ⟨Nat.le_refl _, h, rfl⟩
/-- P is the first from q on that isPrime takes -/
def lstP (q P : Nat) : Prop := q ≤ P ∧ P ≤ 46337 ∧ isPr P = true ∧ ∀ j, q ≤ j → j < P → isPr j = false
theorem isPr_last : isPr 46337 = true := by decide +kernel
abbrev fD0 : List Value := [.int 0, .int 0, .int 0, .null, .null, .null, .null, .null, .null, .null, .null, .null, .null, .null, .null, .int 0, .int 0, .int 0, .long 0, .int 0, .int 0]
abbrev fM0 : List Value := [.int 0, .int 0, .int 0, .null, .null, .null, .int 0, .null, .long 0, .int 0, .int 0, .null, .null, .null, .null, .int 0, .null, .null, .null, .int 0, .null, .int 0]
abbrev z0 : Nat → Int64 := fun _ => 0
set_option maxHeartbeats 4000000 in
/-- the constructor: twelve arrays, the numbers held in their bounds, the first prime from the first number on -/
theorem c_D_init {l : Launch} {D : va_G} {h0 sz : Nat} {k1 k2 k3 : Int32} : Met l y_D_init (Cond.code y_D_init b_D_init 5 none :: lw_g) ({ frames := 1, cells := 12, slots := 514, locals := 22 }) (va_Pc [.ref h0, .int k1, .int k2, .int k3] (fun U => U.heap.size = sz ∧ va_P D classes [(h0, .inr (0, fD0))] U.heap ∧ va_K D classes [] U ∧ va_D (fun _ => True) [(h0, .inr (0, fD0))])) (va_Qv (fun (u : (Nat → Nat) × ClassId × ClassId × Nat) => u.1 0 = h0 ∧ lstP (clN k1 2 46337) u.2.2.2) (fun u t => va_P D classes (wD u.1 u.2.1 u.2.2.1 u.2.2.2 (clN k2 1 16) (clN k3 1 100) 0 (-1) false 1 0 0 (fun _ => 0) (fun _ => 0) (fun _ => 0) z0 z0 z0 z0 z0 z0 z0 z0 z0) t.heap ∧ va_K D classes (kt u.2.1 u.2.2.1) t ∧ va_D (va_A [(h0, .inr (0, fD0))] sz) (wD u.1 u.2.1 u.2.2.1 u.2.2.2 (clN k2 1 16) (clN k3 1 100) 0 (-1) false 1 0 0 (fun _ => 0) (fun _ => 0) (fun _ => 0) z0 z0 z0 z0 z0 z0 z0 z0 z0)) (va_A [(h0, .inr (0, fD0))] sz)) 12 514 (va_A [(h0, .inr (0, fD0))] sz) := by
  refine Met.ofW (cc := b_D_init) (maxL := 5) (ret := none) (by decide) rfl ?_
  intro p e s m args below meth c s₁ B hml hv
  obtain ⟨rfl, hsz, hP, hK, hD0⟩ := hv
  have hx := B.exec
  have hb := B.bytes
  have hr := B.returns
  have hts0 := atoms_spec (ws := Cond.code y_D_init b_D_init 5 none :: lw_g) B.pre
  have hts : ∀ w ∈ lw_g, w.before _ s = true := fun w h => hts0 w (List.mem_cons_of_mem _ h)
  have hown : s.vm.findClass R_D = some m.cls := findClass_of_methodNamed B.named
  have hlocks := B.notSynchronized
  have hin : meth.name = "<init>" := (name_of_methodNamed B.named B.method).1
  have S := (⟨hx, hb, hml, hown, hts⟩ : CallFix p m c b_D_init 5 s _ lw_g R_D)
  subst hsz
  have hD := hD0.self (sz := s.heap.size)
  generalize hAe : va_A [(h0, .inr (0, fD0))] s.heap.size = A at hD ⊢
  have hA : ∀ q : Nat, s.heap.size ≤ q → A q := fun q h => by rw [← hAe]; exact Or.inr h
  have hw : kw D A s.heap s.heap [] ([(h0, .inr (0, [.int 0, .int 0, .int 0, .null, .null, .null, .null, .null, .null, .null, .null, .null, .null, .null, .null, .int 0, .int 0, .int 0, .long 0, .int 0, .int 0]))]) := ⟨hP, hD, va_S.rf⟩
  have hl := lv_entry ([.ref h0, .int k1, .int k2, .int k3]) (n := 5) (Nat.le_of_ble_eq_true rfl)
  rw [lg_entry_eq]
  generalize (lg_sl ([.ref h0, .int k1, .int k2, .int k3]) ++ List.replicate (5 - (lg_sl ([.ref h0, .int k1, .int k2, .int k3])).length) Slot.unset).toArray = ls at hl ⊢
  have hl : lv_has ls 5 [(0, .ref h0), (1, .int k1), (2, .int k2), (3, .int k3)] := hl
  obtain ⟨hq1, hq2, hq3⟩ := clN_bd (k := k1) (lo := 2) (hi := 46337) (by decide) (by decide)
  obtain ⟨hn1, hn2, hn3⟩ := clN_bd (k := k2) (lo := 1) (hi := 16) (by decide) (by decide)
  obtain ⟨ho1, ho2, ho3⟩ := clN_bd (k := k3) (lo := 1) (hi := 100) (by decide) (by decide)
  refine lv_aload_n hx hb d_D_init_0 rfl (lv_at hl 0 rfl) ?_
  refine W.objInit hx hb hown (hts _ q1_9) (hts _ q1_10) (hts _ q1_11) rfl (hl.1.trans hml.symm) rfl d_D_init_1 (Nat.le_of_ble_eq_true rfl) (Nat.le_of_ble_eq_true rfl) ?_
  refine W.eq (g2 := F0 m 4 ls []) rfl ?_
  refine lv_aload_n hx hb d_D_init_4 rfl (lv_at hl 0 rfl) ?_
  refine lv_bipush (v := nI 16) hx hb d_D_init_5 (by decide) ?_
  refine ky_newJ S hK hw hA (by decide) (by decide) (by show _ ≤ 514; omega) d_D_init_7 (fun q1 cJ H hK2 hw => ?_)
  have hK : va_K D classes [(cJ, .long)] s := hK2
  have hw : kw D A s.heap H [] ([(h0, .inr (0, [.int 0, .int 0, .int 0, .null, .null, .null, .null, .null, .null, .null, .null, .null, .null, .null, .null, .int 0, .int 0, .int 0, .long 0, .int 0, .int 0])), (q1, .inl (cJ, 16, .inr (.inl (fun _ => 0))))]) := hw
  refine pD_b S hin hK hw rfl (Nat.le_of_ble_eq_true rfl) d_D_init_9 (fun H locs hw => ?_)
  have hw : kw D A s.heap H locs ([(h0, .inr (0, [.int 0, .int 0, .int 0, .null, .null, .null, .ref q1, .null, .null, .null, .null, .null, .null, .null, .null, .int 0, .int 0, .int 0, .long 0, .int 0, .int 0])), (q1, .inl (cJ, 16, .inr (.inl (fun _ => 0))))]) := hw
  refine lv_aload_n hx hb d_D_init_12 rfl (lv_at hl 0 rfl) ?_
  refine lv_bipush (v := nI 16) hx hb d_D_init_13 (by decide) ?_
  refine ky_newJ S hK hw hA (by decide) (by decide) (by show _ ≤ 514; omega) d_D_init_15 (fun q2 cA H hK2 hw => ?_)
  have eA := ky_eqJ hK2 1 0 rfl rfl
  rw [eA] at hw
  have hw : kw D A s.heap H locs ([(h0, .inr (0, [.int 0, .int 0, .int 0, .null, .null, .null, .ref q1, .null, .null, .null, .null, .null, .null, .null, .null, .int 0, .int 0, .int 0, .long 0, .int 0, .int 0])), (q1, .inl (cJ, 16, .inr (.inl (fun _ => 0)))), (q2, .inl (cJ, 16, .inr (.inl (fun _ => 0))))]) := hw
  refine pD_u S hin hK hw rfl (Nat.le_of_ble_eq_true rfl) d_D_init_17 (fun H locs hw => ?_)
  have hw : kw D A s.heap H locs ([(h0, .inr (0, [.int 0, .int 0, .int 0, .null, .null, .null, .ref q1, .ref q2, .null, .null, .null, .null, .null, .null, .null, .int 0, .int 0, .int 0, .long 0, .int 0, .int 0])), (q1, .inl (cJ, 16, .inr (.inl (fun _ => 0)))), (q2, .inl (cJ, 16, .inr (.inl (fun _ => 0))))]) := hw
  refine lv_aload_n hx hb d_D_init_20 rfl (lv_at hl 0 rfl) ?_
  refine lv_bipush (v := nI 16) hx hb d_D_init_21 (by decide) ?_
  refine ky_newJ S hK hw hA (by decide) (by decide) (by show _ ≤ 514; omega) d_D_init_23 (fun q3 cA H hK2 hw => ?_)
  have eA := ky_eqJ hK2 1 0 rfl rfl
  rw [eA] at hw
  have hw : kw D A s.heap H locs ([(h0, .inr (0, [.int 0, .int 0, .int 0, .null, .null, .null, .ref q1, .ref q2, .null, .null, .null, .null, .null, .null, .null, .int 0, .int 0, .int 0, .long 0, .int 0, .int 0])), (q1, .inl (cJ, 16, .inr (.inl (fun _ => 0)))), (q2, .inl (cJ, 16, .inr (.inl (fun _ => 0)))), (q3, .inl (cJ, 16, .inr (.inl (fun _ => 0))))]) := hw
  refine pD_v S hin hK hw rfl (Nat.le_of_ble_eq_true rfl) d_D_init_25 (fun H locs hw => ?_)
  have hw : kw D A s.heap H locs ([(h0, .inr (0, [.int 0, .int 0, .int 0, .null, .null, .null, .ref q1, .ref q2, .ref q3, .null, .null, .null, .null, .null, .null, .int 0, .int 0, .int 0, .long 0, .int 0, .int 0])), (q1, .inl (cJ, 16, .inr (.inl (fun _ => 0)))), (q2, .inl (cJ, 16, .inr (.inl (fun _ => 0)))), (q3, .inl (cJ, 16, .inr (.inl (fun _ => 0))))]) := hw
  refine lv_aload_n hx hb d_D_init_28 rfl (lv_at hl 0 rfl) ?_
  refine lv_bipush (v := nI 16) hx hb d_D_init_29 (by decide) ?_
  refine ky_newJ S hK hw hA (by decide) (by decide) (by show _ ≤ 514; omega) d_D_init_31 (fun q4 cA H hK2 hw => ?_)
  have eA := ky_eqJ hK2 1 0 rfl rfl
  rw [eA] at hw
  have hw : kw D A s.heap H locs ([(h0, .inr (0, [.int 0, .int 0, .int 0, .null, .null, .null, .ref q1, .ref q2, .ref q3, .null, .null, .null, .null, .null, .null, .int 0, .int 0, .int 0, .long 0, .int 0, .int 0])), (q1, .inl (cJ, 16, .inr (.inl (fun _ => 0)))), (q2, .inl (cJ, 16, .inr (.inl (fun _ => 0)))), (q3, .inl (cJ, 16, .inr (.inl (fun _ => 0)))), (q4, .inl (cJ, 16, .inr (.inl (fun _ => 0))))]) := hw
  refine pD_w S hin hK hw rfl (Nat.le_of_ble_eq_true rfl) d_D_init_33 (fun H locs hw => ?_)
  have hw : kw D A s.heap H locs ([(h0, .inr (0, [.int 0, .int 0, .int 0, .null, .null, .null, .ref q1, .ref q2, .ref q3, .ref q4, .null, .null, .null, .null, .null, .int 0, .int 0, .int 0, .long 0, .int 0, .int 0])), (q1, .inl (cJ, 16, .inr (.inl (fun _ => 0)))), (q2, .inl (cJ, 16, .inr (.inl (fun _ => 0)))), (q3, .inl (cJ, 16, .inr (.inl (fun _ => 0)))), (q4, .inl (cJ, 16, .inr (.inl (fun _ => 0))))]) := hw
  refine lv_aload_n hx hb d_D_init_36 rfl (lv_at hl 0 rfl) ?_
  refine lv_bipush (v := nI 16) hx hb d_D_init_37 (by decide) ?_
  refine ky_newJ S hK hw hA (by decide) (by decide) (by show _ ≤ 514; omega) d_D_init_39 (fun q5 cA H hK2 hw => ?_)
  have eA := ky_eqJ hK2 1 0 rfl rfl
  rw [eA] at hw
  have hw : kw D A s.heap H locs ([(h0, .inr (0, [.int 0, .int 0, .int 0, .null, .null, .null, .ref q1, .ref q2, .ref q3, .ref q4, .null, .null, .null, .null, .null, .int 0, .int 0, .int 0, .long 0, .int 0, .int 0])), (q1, .inl (cJ, 16, .inr (.inl (fun _ => 0)))), (q2, .inl (cJ, 16, .inr (.inl (fun _ => 0)))), (q3, .inl (cJ, 16, .inr (.inl (fun _ => 0)))), (q4, .inl (cJ, 16, .inr (.inl (fun _ => 0)))), (q5, .inl (cJ, 16, .inr (.inl (fun _ => 0))))]) := hw
  refine pD_x S hin hK hw rfl (Nat.le_of_ble_eq_true rfl) d_D_init_41 (fun H locs hw => ?_)
  have hw : kw D A s.heap H locs ([(h0, .inr (0, [.int 0, .int 0, .int 0, .null, .null, .null, .ref q1, .ref q2, .ref q3, .ref q4, .ref q5, .null, .null, .null, .null, .int 0, .int 0, .int 0, .long 0, .int 0, .int 0])), (q1, .inl (cJ, 16, .inr (.inl (fun _ => 0)))), (q2, .inl (cJ, 16, .inr (.inl (fun _ => 0)))), (q3, .inl (cJ, 16, .inr (.inl (fun _ => 0)))), (q4, .inl (cJ, 16, .inr (.inl (fun _ => 0)))), (q5, .inl (cJ, 16, .inr (.inl (fun _ => 0))))]) := hw
  refine lv_aload_n hx hb d_D_init_44 rfl (lv_at hl 0 rfl) ?_
  refine lv_bipush (v := nI 32) hx hb d_D_init_45 (by decide) ?_
  refine ky_newJ S hK hw hA (by decide) (by decide) (by show _ ≤ 514; omega) d_D_init_47 (fun q6 cA H hK2 hw => ?_)
  have eA := ky_eqJ hK2 1 0 rfl rfl
  rw [eA] at hw
  have hw : kw D A s.heap H locs ([(h0, .inr (0, [.int 0, .int 0, .int 0, .null, .null, .null, .ref q1, .ref q2, .ref q3, .ref q4, .ref q5, .null, .null, .null, .null, .int 0, .int 0, .int 0, .long 0, .int 0, .int 0])), (q1, .inl (cJ, 16, .inr (.inl (fun _ => 0)))), (q2, .inl (cJ, 16, .inr (.inl (fun _ => 0)))), (q3, .inl (cJ, 16, .inr (.inl (fun _ => 0)))), (q4, .inl (cJ, 16, .inr (.inl (fun _ => 0)))), (q5, .inl (cJ, 16, .inr (.inl (fun _ => 0)))), (q6, .inl (cJ, 32, .inr (.inl (fun _ => 0))))]) := hw
  refine pD_row S hin hK hw rfl (Nat.le_of_ble_eq_true rfl) d_D_init_49 (fun H locs hw => ?_)
  have hw : kw D A s.heap H locs ([(h0, .inr (0, [.int 0, .int 0, .int 0, .null, .null, .null, .ref q1, .ref q2, .ref q3, .ref q4, .ref q5, .ref q6, .null, .null, .null, .int 0, .int 0, .int 0, .long 0, .int 0, .int 0])), (q1, .inl (cJ, 16, .inr (.inl (fun _ => 0)))), (q2, .inl (cJ, 16, .inr (.inl (fun _ => 0)))), (q3, .inl (cJ, 16, .inr (.inl (fun _ => 0)))), (q4, .inl (cJ, 16, .inr (.inl (fun _ => 0)))), (q5, .inl (cJ, 16, .inr (.inl (fun _ => 0)))), (q6, .inl (cJ, 32, .inr (.inl (fun _ => 0))))]) := hw
  refine lv_aload_n hx hb d_D_init_52 rfl (lv_at hl 0 rfl) ?_
  refine lv_bipush (v := nI 34) hx hb d_D_init_53 (by decide) ?_
  refine ky_newJ S hK hw hA (by decide) (by decide) (by show _ ≤ 514; omega) d_D_init_55 (fun q7 cA H hK2 hw => ?_)
  have eA := ky_eqJ hK2 1 0 rfl rfl
  rw [eA] at hw
  have hw : kw D A s.heap H locs ([(h0, .inr (0, [.int 0, .int 0, .int 0, .null, .null, .null, .ref q1, .ref q2, .ref q3, .ref q4, .ref q5, .ref q6, .null, .null, .null, .int 0, .int 0, .int 0, .long 0, .int 0, .int 0])), (q1, .inl (cJ, 16, .inr (.inl (fun _ => 0)))), (q2, .inl (cJ, 16, .inr (.inl (fun _ => 0)))), (q3, .inl (cJ, 16, .inr (.inl (fun _ => 0)))), (q4, .inl (cJ, 16, .inr (.inl (fun _ => 0)))), (q5, .inl (cJ, 16, .inr (.inl (fun _ => 0)))), (q6, .inl (cJ, 32, .inr (.inl (fun _ => 0)))), (q7, .inl (cJ, 34, .inr (.inl (fun _ => 0))))]) := hw
  refine pD_now S hin hK hw rfl (Nat.le_of_ble_eq_true rfl) d_D_init_57 (fun H locs hw => ?_)
  have hw : kw D A s.heap H locs ([(h0, .inr (0, [.int 0, .int 0, .int 0, .null, .null, .null, .ref q1, .ref q2, .ref q3, .ref q4, .ref q5, .ref q6, .ref q7, .null, .null, .int 0, .int 0, .int 0, .long 0, .int 0, .int 0])), (q1, .inl (cJ, 16, .inr (.inl (fun _ => 0)))), (q2, .inl (cJ, 16, .inr (.inl (fun _ => 0)))), (q3, .inl (cJ, 16, .inr (.inl (fun _ => 0)))), (q4, .inl (cJ, 16, .inr (.inl (fun _ => 0)))), (q5, .inl (cJ, 16, .inr (.inl (fun _ => 0)))), (q6, .inl (cJ, 32, .inr (.inl (fun _ => 0)))), (q7, .inl (cJ, 34, .inr (.inl (fun _ => 0))))]) := hw
  refine lv_aload_n hx hb d_D_init_60 rfl (lv_at hl 0 rfl) ?_
  refine lv_bipush (v := nI 34) hx hb d_D_init_61 (by decide) ?_
  refine ky_newJ S hK hw hA (by decide) (by decide) (by show _ ≤ 514; omega) d_D_init_63 (fun q8 cA H hK2 hw => ?_)
  have eA := ky_eqJ hK2 1 0 rfl rfl
  rw [eA] at hw
  have hw : kw D A s.heap H locs ([(h0, .inr (0, [.int 0, .int 0, .int 0, .null, .null, .null, .ref q1, .ref q2, .ref q3, .ref q4, .ref q5, .ref q6, .ref q7, .null, .null, .int 0, .int 0, .int 0, .long 0, .int 0, .int 0])), (q1, .inl (cJ, 16, .inr (.inl (fun _ => 0)))), (q2, .inl (cJ, 16, .inr (.inl (fun _ => 0)))), (q3, .inl (cJ, 16, .inr (.inl (fun _ => 0)))), (q4, .inl (cJ, 16, .inr (.inl (fun _ => 0)))), (q5, .inl (cJ, 16, .inr (.inl (fun _ => 0)))), (q6, .inl (cJ, 32, .inr (.inl (fun _ => 0)))), (q7, .inl (cJ, 34, .inr (.inl (fun _ => 0)))), (q8, .inl (cJ, 34, .inr (.inl (fun _ => 0))))]) := hw
  refine pD_before S hin hK hw rfl (Nat.le_of_ble_eq_true rfl) d_D_init_65 (fun H locs hw => ?_)
  have hw : kw D A s.heap H locs ([(h0, .inr (0, [.int 0, .int 0, .int 0, .null, .null, .null, .ref q1, .ref q2, .ref q3, .ref q4, .ref q5, .ref q6, .ref q7, .ref q8, .null, .int 0, .int 0, .int 0, .long 0, .int 0, .int 0])), (q1, .inl (cJ, 16, .inr (.inl (fun _ => 0)))), (q2, .inl (cJ, 16, .inr (.inl (fun _ => 0)))), (q3, .inl (cJ, 16, .inr (.inl (fun _ => 0)))), (q4, .inl (cJ, 16, .inr (.inl (fun _ => 0)))), (q5, .inl (cJ, 16, .inr (.inl (fun _ => 0)))), (q6, .inl (cJ, 32, .inr (.inl (fun _ => 0)))), (q7, .inl (cJ, 34, .inr (.inl (fun _ => 0)))), (q8, .inl (cJ, 34, .inr (.inl (fun _ => 0))))]) := hw
  refine lv_aload_n hx hb d_D_init_68 rfl (lv_at hl 0 rfl) ?_
  refine lv_bipush (v := nI 34) hx hb d_D_init_69 (by decide) ?_
  refine ky_newJ S hK hw hA (by decide) (by decide) (by show _ ≤ 514; omega) d_D_init_71 (fun q9 cA H hK2 hw => ?_)
  have eA := ky_eqJ hK2 1 0 rfl rfl
  rw [eA] at hw
  have hw : kw D A s.heap H locs ([(h0, .inr (0, [.int 0, .int 0, .int 0, .null, .null, .null, .ref q1, .ref q2, .ref q3, .ref q4, .ref q5, .ref q6, .ref q7, .ref q8, .null, .int 0, .int 0, .int 0, .long 0, .int 0, .int 0])), (q1, .inl (cJ, 16, .inr (.inl (fun _ => 0)))), (q2, .inl (cJ, 16, .inr (.inl (fun _ => 0)))), (q3, .inl (cJ, 16, .inr (.inl (fun _ => 0)))), (q4, .inl (cJ, 16, .inr (.inl (fun _ => 0)))), (q5, .inl (cJ, 16, .inr (.inl (fun _ => 0)))), (q6, .inl (cJ, 32, .inr (.inl (fun _ => 0)))), (q7, .inl (cJ, 34, .inr (.inl (fun _ => 0)))), (q8, .inl (cJ, 34, .inr (.inl (fun _ => 0)))), (q9, .inl (cJ, 34, .inr (.inl (fun _ => 0))))]) := hw
  refine pD_kept S hin hK hw rfl (Nat.le_of_ble_eq_true rfl) d_D_init_73 (fun H locs hw => ?_)
  have hw : kw D A s.heap H locs ([(h0, .inr (0, [.int 0, .int 0, .int 0, .null, .null, .null, .ref q1, .ref q2, .ref q3, .ref q4, .ref q5, .ref q6, .ref q7, .ref q8, .ref q9, .int 0, .int 0, .int 0, .long 0, .int 0, .int 0])), (q1, .inl (cJ, 16, .inr (.inl (fun _ => 0)))), (q2, .inl (cJ, 16, .inr (.inl (fun _ => 0)))), (q3, .inl (cJ, 16, .inr (.inl (fun _ => 0)))), (q4, .inl (cJ, 16, .inr (.inl (fun _ => 0)))), (q5, .inl (cJ, 16, .inr (.inl (fun _ => 0)))), (q6, .inl (cJ, 32, .inr (.inl (fun _ => 0)))), (q7, .inl (cJ, 34, .inr (.inl (fun _ => 0)))), (q8, .inl (cJ, 34, .inr (.inl (fun _ => 0)))), (q9, .inl (cJ, 34, .inr (.inl (fun _ => 0))))]) := hw
  refine lv_aload_n hx hb d_D_init_76 rfl (lv_at hl 0 rfl) ?_
  refine lv_iconst (v := -1) hx hb d_D_init_77 (by decide) ?_
  refine pD_degree S hK hw rfl (Nat.le_of_ble_eq_true rfl) d_D_init_78 (fun H locs hw => ?_)
  have hw : kw D A s.heap H locs ([(h0, .inr (0, [.int 0, .int 0, .int 0, .null, .null, .null, .ref q1, .ref q2, .ref q3, .ref q4, .ref q5, .ref q6, .ref q7, .ref q8, .ref q9, .int 0, .int (-1), .int 0, .long 0, .int 0, .int 0])), (q1, .inl (cJ, 16, .inr (.inl (fun _ => 0)))), (q2, .inl (cJ, 16, .inr (.inl (fun _ => 0)))), (q3, .inl (cJ, 16, .inr (.inl (fun _ => 0)))), (q4, .inl (cJ, 16, .inr (.inl (fun _ => 0)))), (q5, .inl (cJ, 16, .inr (.inl (fun _ => 0)))), (q6, .inl (cJ, 32, .inr (.inl (fun _ => 0)))), (q7, .inl (cJ, 34, .inr (.inl (fun _ => 0)))), (q8, .inl (cJ, 34, .inr (.inl (fun _ => 0)))), (q9, .inl (cJ, 34, .inr (.inl (fun _ => 0))))]) := hw
  refine lv_aload_n hx hb d_D_init_81 rfl (lv_at hl 0 rfl) ?_
  refine lv_lconst (v := 1) hx hb d_D_init_82 (by decide) ?_
  refine pD_generator S hK hw rfl (Nat.le_of_ble_eq_true rfl) d_D_init_83 (fun H locs hw => ?_)
  have hw : kw D A s.heap H locs ([(h0, .inr (0, [.int 0, .int 0, .int 0, .null, .null, .null, .ref q1, .ref q2, .ref q3, .ref q4, .ref q5, .ref q6, .ref q7, .ref q8, .ref q9, .int 0, .int (-1), .int 0, .long 1, .int 0, .int 0])), (q1, .inl (cJ, 16, .inr (.inl (fun _ => 0)))), (q2, .inl (cJ, 16, .inr (.inl (fun _ => 0)))), (q3, .inl (cJ, 16, .inr (.inl (fun _ => 0)))), (q4, .inl (cJ, 16, .inr (.inl (fun _ => 0)))), (q5, .inl (cJ, 16, .inr (.inl (fun _ => 0)))), (q6, .inl (cJ, 32, .inr (.inl (fun _ => 0)))), (q7, .inl (cJ, 34, .inr (.inl (fun _ => 0)))), (q8, .inl (cJ, 34, .inr (.inl (fun _ => 0)))), (q9, .inl (cJ, 34, .inr (.inl (fun _ => 0))))]) := hw
  refine lv_iload_n hx hb d_D_init_86 rfl (lv_at hl 1 rfl) ?_
  refine lv_iconst (v := nI 2) hx hb d_D_init_87 (by decide) ?_
  refine lv_ldc (v := nI 46337) hx hb hown (hts _ q1_12) d_D_init_88 ?_
  refine ky_callSi (As := [.int k1, .int (nI 2), .int (nI 46337)]) (rest := []) S hK hw hA hl.1 (c_D_bring) k_D_46 rfl rfl ⟨Nat.le_of_ble_eq_true rfl, Nat.le_of_ble_eq_true rfl⟩ ⟨Nat.le_of_ble_eq_true rfl, Nat.le_of_ble_eq_true rfl⟩ rfl rfl (Nat.le_of_ble_eq_true rfl) d_D_init_90 (fun r u H locs hp hw => ?_)
  subst hp
  rw [hq3]
  have hw : kw D A s.heap H locs ([(h0, .inr (0, [.int 0, .int 0, .int 0, .null, .null, .null, .ref q1, .ref q2, .ref q3, .ref q4, .ref q5, .ref q6, .ref q7, .ref q8, .ref q9, .int 0, .int (-1), .int 0, .long 1, .int 0, .int 0])), (q1, .inl (cJ, 16, .inr (.inl (fun _ => 0)))), (q2, .inl (cJ, 16, .inr (.inl (fun _ => 0)))), (q3, .inl (cJ, 16, .inr (.inl (fun _ => 0)))), (q4, .inl (cJ, 16, .inr (.inl (fun _ => 0)))), (q5, .inl (cJ, 16, .inr (.inl (fun _ => 0)))), (q6, .inl (cJ, 32, .inr (.inl (fun _ => 0)))), (q7, .inl (cJ, 34, .inr (.inl (fun _ => 0)))), (q8, .inl (cJ, 34, .inr (.inl (fun _ => 0)))), (q9, .inl (cJ, 34, .inr (.inl (fun _ => 0))))]) := hw
  refine lv_istore (lv' := [(4, .int (nI (clN k1 2 46337))), (0, .ref h0), (1, .int k1), (2, .int k2), (3, .int k3)]) hx hb d_D_init_93 hl (by decide) rfl (fun ls hl => ?_)
  generalize hZ : MQ below _ _ s 12 514 A = Z
  have key : ∀ (P : Nat) (H : Heap) (locs : List Loc) (ls : Array Slot), lstP (clN k1 2 46337) P → kw D A s.heap H locs ([(h0, .inr (0, [.int 0, .int 0, .int 0, .null, .null, .null, .ref q1, .ref q2, .ref q3, .ref q4, .ref q5, .ref q6, .ref q7, .ref q8, .ref q9, .int 0, .int (-1), .int 0, .long 1, .int 0, .int 0])), (q1, .inl (cJ, 16, .inr (.inl (fun _ => 0)))), (q2, .inl (cJ, 16, .inr (.inl (fun _ => 0)))), (q3, .inl (cJ, 16, .inr (.inl (fun _ => 0)))), (q4, .inl (cJ, 16, .inr (.inl (fun _ => 0)))), (q5, .inl (cJ, 16, .inr (.inl (fun _ => 0)))), (q6, .inl (cJ, 32, .inr (.inl (fun _ => 0)))), (q7, .inl (cJ, 34, .inr (.inl (fun _ => 0)))), (q8, .inl (cJ, 34, .inr (.inl (fun _ => 0)))), (q9, .inl (cJ, 34, .inr (.inl (fun _ => 0))))]) → lv_has ls 5 [(0, .ref h0), (1, .int k1), (2, .int k2), (3, .int k3), (4, .int (nI P))] → W p l e ((headSpec (Cond.code y_D_init b_D_init 5 none :: lw_g) ({ frames := 1, cells := 12, slots := 514, locals := 22 })).room) s m ([.ref h0, .int k1, .int k2, .int k3] : List Value).toArray below meth c H locs (0 + 1 + 1 + 1 + 1 + 1 + 1 + 1 + 1 + 1) (0 + 16 + 16 + 16 + 16 + 16 + 32 + 34 + 34 + 34) Z (F0 m 109 ls []) := by
    intro P H locs ls hlst hw hl
    refine lv_aload_n hx hb d_D_init_109 rfl (lv_at hl 0 rfl) ?_
    refine lv_iload hx hb d_D_init_110 (lv_at hl 4 rfl) ?_
    refine pD_p S hin hK hw rfl (Nat.le_of_ble_eq_true rfl) d_D_init_112 (fun H locs hw => ?_)
    have hw : kw D A s.heap H locs ([(h0, .inr (0, [.int (nI P), .int 0, .int 0, .null, .null, .null, .ref q1, .ref q2, .ref q3, .ref q4, .ref q5, .ref q6, .ref q7, .ref q8, .ref q9, .int 0, .int (-1), .int 0, .long 1, .int 0, .int 0])), (q1, .inl (cJ, 16, .inr (.inl (fun _ => 0)))), (q2, .inl (cJ, 16, .inr (.inl (fun _ => 0)))), (q3, .inl (cJ, 16, .inr (.inl (fun _ => 0)))), (q4, .inl (cJ, 16, .inr (.inl (fun _ => 0)))), (q5, .inl (cJ, 16, .inr (.inl (fun _ => 0)))), (q6, .inl (cJ, 32, .inr (.inl (fun _ => 0)))), (q7, .inl (cJ, 34, .inr (.inl (fun _ => 0)))), (q8, .inl (cJ, 34, .inr (.inl (fun _ => 0)))), (q9, .inl (cJ, 34, .inr (.inl (fun _ => 0))))]) := hw
    refine lv_aload_n hx hb d_D_init_115 rfl (lv_at hl 0 rfl) ?_
    refine lv_iload_n hx hb d_D_init_116 rfl (lv_at hl 2 rfl) ?_
    refine lv_iconst (v := nI 1) hx hb d_D_init_117 (by decide) ?_
    refine lv_bipush (v := nI 16) hx hb d_D_init_118 (by decide) ?_
    refine ky_callSi (As := [.int k2, .int (nI 1), .int (nI 16)]) (rest := [.ref h0]) S hK hw hA hl.1 (c_D_bring) k_D_46 rfl rfl ⟨Nat.le_of_ble_eq_true rfl, Nat.le_of_ble_eq_true rfl⟩ ⟨Nat.le_of_ble_eq_true rfl, Nat.le_of_ble_eq_true rfl⟩ rfl rfl (Nat.le_of_ble_eq_true rfl) d_D_init_120 (fun r u H locs hp hw => ?_)
    subst hp
    rw [hn3]
    have hw : kw D A s.heap H locs ([(h0, .inr (0, [.int (nI P), .int 0, .int 0, .null, .null, .null, .ref q1, .ref q2, .ref q3, .ref q4, .ref q5, .ref q6, .ref q7, .ref q8, .ref q9, .int 0, .int (-1), .int 0, .long 1, .int 0, .int 0])), (q1, .inl (cJ, 16, .inr (.inl (fun _ => 0)))), (q2, .inl (cJ, 16, .inr (.inl (fun _ => 0)))), (q3, .inl (cJ, 16, .inr (.inl (fun _ => 0)))), (q4, .inl (cJ, 16, .inr (.inl (fun _ => 0)))), (q5, .inl (cJ, 16, .inr (.inl (fun _ => 0)))), (q6, .inl (cJ, 32, .inr (.inl (fun _ => 0)))), (q7, .inl (cJ, 34, .inr (.inl (fun _ => 0)))), (q8, .inl (cJ, 34, .inr (.inl (fun _ => 0)))), (q9, .inl (cJ, 34, .inr (.inl (fun _ => 0))))]) := hw
    refine pD_n S hin hK hw rfl (Nat.le_of_ble_eq_true rfl) d_D_init_123 (fun H locs hw => ?_)
    have hw : kw D A s.heap H locs ([(h0, .inr (0, [.int (nI P), .int (nI (clN k2 1 16)), .int 0, .null, .null, .null, .ref q1, .ref q2, .ref q3, .ref q4, .ref q5, .ref q6, .ref q7, .ref q8, .ref q9, .int 0, .int (-1), .int 0, .long 1, .int 0, .int 0])), (q1, .inl (cJ, 16, .inr (.inl (fun _ => 0)))), (q2, .inl (cJ, 16, .inr (.inl (fun _ => 0)))), (q3, .inl (cJ, 16, .inr (.inl (fun _ => 0)))), (q4, .inl (cJ, 16, .inr (.inl (fun _ => 0)))), (q5, .inl (cJ, 16, .inr (.inl (fun _ => 0)))), (q6, .inl (cJ, 32, .inr (.inl (fun _ => 0)))), (q7, .inl (cJ, 34, .inr (.inl (fun _ => 0)))), (q8, .inl (cJ, 34, .inr (.inl (fun _ => 0)))), (q9, .inl (cJ, 34, .inr (.inl (fun _ => 0))))]) := hw
    refine lv_aload_n hx hb d_D_init_126 rfl (lv_at hl 0 rfl) ?_
    refine lv_iload_n hx hb d_D_init_127 rfl (lv_at hl 3 rfl) ?_
    refine lv_iconst (v := nI 1) hx hb d_D_init_128 (by decide) ?_
    refine lv_bipush (v := nI 100) hx hb d_D_init_129 (by decide) ?_
    refine ky_callSi (As := [.int k3, .int (nI 1), .int (nI 100)]) (rest := [.ref h0]) S hK hw hA hl.1 (c_D_bring) k_D_46 rfl rfl ⟨Nat.le_of_ble_eq_true rfl, Nat.le_of_ble_eq_true rfl⟩ ⟨Nat.le_of_ble_eq_true rfl, Nat.le_of_ble_eq_true rfl⟩ rfl rfl (Nat.le_of_ble_eq_true rfl) d_D_init_131 (fun r u H locs hp hw => ?_)
    subst hp
    rw [ho3]
    have hw : kw D A s.heap H locs ([(h0, .inr (0, [.int (nI P), .int (nI (clN k2 1 16)), .int 0, .null, .null, .null, .ref q1, .ref q2, .ref q3, .ref q4, .ref q5, .ref q6, .ref q7, .ref q8, .ref q9, .int 0, .int (-1), .int 0, .long 1, .int 0, .int 0])), (q1, .inl (cJ, 16, .inr (.inl (fun _ => 0)))), (q2, .inl (cJ, 16, .inr (.inl (fun _ => 0)))), (q3, .inl (cJ, 16, .inr (.inl (fun _ => 0)))), (q4, .inl (cJ, 16, .inr (.inl (fun _ => 0)))), (q5, .inl (cJ, 16, .inr (.inl (fun _ => 0)))), (q6, .inl (cJ, 32, .inr (.inl (fun _ => 0)))), (q7, .inl (cJ, 34, .inr (.inl (fun _ => 0)))), (q8, .inl (cJ, 34, .inr (.inl (fun _ => 0)))), (q9, .inl (cJ, 34, .inr (.inl (fun _ => 0))))]) := hw
    refine pD_most S hin hK hw rfl (Nat.le_of_ble_eq_true rfl) d_D_init_134 (fun H locs hw => ?_)
    have hw : kw D A s.heap H locs ([(h0, .inr (0, [.int (nI P), .int (nI (clN k2 1 16)), .int (nI (clN k3 1 100)), .null, .null, .null, .ref q1, .ref q2, .ref q3, .ref q4, .ref q5, .ref q6, .ref q7, .ref q8, .ref q9, .int 0, .int (-1), .int 0, .long 1, .int 0, .int 0])), (q1, .inl (cJ, 16, .inr (.inl (fun _ => 0)))), (q2, .inl (cJ, 16, .inr (.inl (fun _ => 0)))), (q3, .inl (cJ, 16, .inr (.inl (fun _ => 0)))), (q4, .inl (cJ, 16, .inr (.inl (fun _ => 0)))), (q5, .inl (cJ, 16, .inr (.inl (fun _ => 0)))), (q6, .inl (cJ, 32, .inr (.inl (fun _ => 0)))), (q7, .inl (cJ, 34, .inr (.inl (fun _ => 0)))), (q8, .inl (cJ, 34, .inr (.inl (fun _ => 0)))), (q9, .inl (cJ, 34, .inr (.inl (fun _ => 0))))]) := hw
    refine lv_aload_n hx hb d_D_init_137 rfl (lv_at hl 0 rfl) ?_
    refine lv_aload_n hx hb d_D_init_138 rfl (lv_at hl 0 rfl) ?_
    refine gD_most S hK hw rfl rfl d_D_init_139 ?_
    refine ky_newI S hK hw hA (by omega) (by decide) (by show _ ≤ 514; omega) d_D_init_142 (fun q10 cI H hK2 hw => ?_)
    have hK : va_K D classes (kt cI cJ) s := hK2.sub (tys' := kt cI cJ) [1, 0] rfl
    have hw : kw D A s.heap H locs ([(h0, .inr (0, [.int (nI P), .int (nI (clN k2 1 16)), .int (nI (clN k3 1 100)), .null, .null, .null, .ref q1, .ref q2, .ref q3, .ref q4, .ref q5, .ref q6, .ref q7, .ref q8, .ref q9, .int 0, .int (-1), .int 0, .long 1, .int 0, .int 0])), (q1, .inl (cJ, 16, .inr (.inl (fun _ => 0)))), (q2, .inl (cJ, 16, .inr (.inl (fun _ => 0)))), (q3, .inl (cJ, 16, .inr (.inl (fun _ => 0)))), (q4, .inl (cJ, 16, .inr (.inl (fun _ => 0)))), (q5, .inl (cJ, 16, .inr (.inl (fun _ => 0)))), (q6, .inl (cJ, 32, .inr (.inl (fun _ => 0)))), (q7, .inl (cJ, 34, .inr (.inl (fun _ => 0)))), (q8, .inl (cJ, 34, .inr (.inl (fun _ => 0)))), (q9, .inl (cJ, 34, .inr (.inl (fun _ => 0)))), (q10, .inl (cI, clN k3 1 100, .inl (fun _ => nI 0)))]) := hw
    refine pD_rows S hin hK hw rfl (Nat.le_of_ble_eq_true rfl) d_D_init_144 (fun H locs hw => ?_)
    have hw : kw D A s.heap H locs ([(h0, .inr (0, [.int (nI P), .int (nI (clN k2 1 16)), .int (nI (clN k3 1 100)), .ref q10, .null, .null, .ref q1, .ref q2, .ref q3, .ref q4, .ref q5, .ref q6, .ref q7, .ref q8, .ref q9, .int 0, .int (-1), .int 0, .long 1, .int 0, .int 0])), (q1, .inl (cJ, 16, .inr (.inl (fun _ => 0)))), (q2, .inl (cJ, 16, .inr (.inl (fun _ => 0)))), (q3, .inl (cJ, 16, .inr (.inl (fun _ => 0)))), (q4, .inl (cJ, 16, .inr (.inl (fun _ => 0)))), (q5, .inl (cJ, 16, .inr (.inl (fun _ => 0)))), (q6, .inl (cJ, 32, .inr (.inl (fun _ => 0)))), (q7, .inl (cJ, 34, .inr (.inl (fun _ => 0)))), (q8, .inl (cJ, 34, .inr (.inl (fun _ => 0)))), (q9, .inl (cJ, 34, .inr (.inl (fun _ => 0)))), (q10, .inl (cI, clN k3 1 100, .inl (fun _ => nI 0)))]) := hw
    refine lv_aload_n hx hb d_D_init_147 rfl (lv_at hl 0 rfl) ?_
    refine lv_aload_n hx hb d_D_init_148 rfl (lv_at hl 0 rfl) ?_
    refine gD_most S hK hw rfl rfl d_D_init_149 ?_
    refine ky_newI S hK hw hA (by omega) (by decide) (by show _ ≤ 514; omega) d_D_init_152 (fun q11 cA H hK2 hw => ?_)
    have eA := ky_eqI hK2 2 0 rfl rfl
    rw [eA] at hw
    have hw : kw D A s.heap H locs ([(h0, .inr (0, [.int (nI P), .int (nI (clN k2 1 16)), .int (nI (clN k3 1 100)), .ref q10, .null, .null, .ref q1, .ref q2, .ref q3, .ref q4, .ref q5, .ref q6, .ref q7, .ref q8, .ref q9, .int 0, .int (-1), .int 0, .long 1, .int 0, .int 0])), (q1, .inl (cJ, 16, .inr (.inl (fun _ => 0)))), (q2, .inl (cJ, 16, .inr (.inl (fun _ => 0)))), (q3, .inl (cJ, 16, .inr (.inl (fun _ => 0)))), (q4, .inl (cJ, 16, .inr (.inl (fun _ => 0)))), (q5, .inl (cJ, 16, .inr (.inl (fun _ => 0)))), (q6, .inl (cJ, 32, .inr (.inl (fun _ => 0)))), (q7, .inl (cJ, 34, .inr (.inl (fun _ => 0)))), (q8, .inl (cJ, 34, .inr (.inl (fun _ => 0)))), (q9, .inl (cJ, 34, .inr (.inl (fun _ => 0)))), (q10, .inl (cI, clN k3 1 100, .inl (fun _ => nI 0))), (q11, .inl (cI, clN k3 1 100, .inl (fun _ => nI 0)))]) := hw
    refine pD_columns S hin hK hw rfl (Nat.le_of_ble_eq_true rfl) d_D_init_154 (fun H locs hw => ?_)
    have hw : kw D A s.heap H locs ([(h0, .inr (0, [.int (nI P), .int (nI (clN k2 1 16)), .int (nI (clN k3 1 100)), .ref q10, .ref q11, .null, .ref q1, .ref q2, .ref q3, .ref q4, .ref q5, .ref q6, .ref q7, .ref q8, .ref q9, .int 0, .int (-1), .int 0, .long 1, .int 0, .int 0])), (q1, .inl (cJ, 16, .inr (.inl (fun _ => 0)))), (q2, .inl (cJ, 16, .inr (.inl (fun _ => 0)))), (q3, .inl (cJ, 16, .inr (.inl (fun _ => 0)))), (q4, .inl (cJ, 16, .inr (.inl (fun _ => 0)))), (q5, .inl (cJ, 16, .inr (.inl (fun _ => 0)))), (q6, .inl (cJ, 32, .inr (.inl (fun _ => 0)))), (q7, .inl (cJ, 34, .inr (.inl (fun _ => 0)))), (q8, .inl (cJ, 34, .inr (.inl (fun _ => 0)))), (q9, .inl (cJ, 34, .inr (.inl (fun _ => 0)))), (q10, .inl (cI, clN k3 1 100, .inl (fun _ => nI 0))), (q11, .inl (cI, clN k3 1 100, .inl (fun _ => nI 0)))]) := hw
    refine lv_aload_n hx hb d_D_init_157 rfl (lv_at hl 0 rfl) ?_
    refine lv_aload_n hx hb d_D_init_158 rfl (lv_at hl 0 rfl) ?_
    refine gD_most S hK hw rfl rfl d_D_init_159 ?_
    refine ky_newI S hK hw hA (by omega) (by decide) (by show _ ≤ 514; omega) d_D_init_162 (fun q12 cA H hK2 hw => ?_)
    have eA := ky_eqI hK2 2 0 rfl rfl
    rw [eA] at hw
    have hw : kw D A s.heap H locs ([(h0, .inr (0, [.int (nI P), .int (nI (clN k2 1 16)), .int (nI (clN k3 1 100)), .ref q10, .ref q11, .null, .ref q1, .ref q2, .ref q3, .ref q4, .ref q5, .ref q6, .ref q7, .ref q8, .ref q9, .int 0, .int (-1), .int 0, .long 1, .int 0, .int 0])), (q1, .inl (cJ, 16, .inr (.inl (fun _ => 0)))), (q2, .inl (cJ, 16, .inr (.inl (fun _ => 0)))), (q3, .inl (cJ, 16, .inr (.inl (fun _ => 0)))), (q4, .inl (cJ, 16, .inr (.inl (fun _ => 0)))), (q5, .inl (cJ, 16, .inr (.inl (fun _ => 0)))), (q6, .inl (cJ, 32, .inr (.inl (fun _ => 0)))), (q7, .inl (cJ, 34, .inr (.inl (fun _ => 0)))), (q8, .inl (cJ, 34, .inr (.inl (fun _ => 0)))), (q9, .inl (cJ, 34, .inr (.inl (fun _ => 0)))), (q10, .inl (cI, clN k3 1 100, .inl (fun _ => nI 0))), (q11, .inl (cI, clN k3 1 100, .inl (fun _ => nI 0))), (q12, .inl (cI, clN k3 1 100, .inl (fun _ => nI 0)))]) := hw
    refine pD_values S hin hK hw rfl (Nat.le_of_ble_eq_true rfl) d_D_init_164 (fun H locs hw => ?_)
    have hw : kw D A s.heap H locs ([(h0, .inr (0, [.int (nI P), .int (nI (clN k2 1 16)), .int (nI (clN k3 1 100)), .ref q10, .ref q11, .ref q12, .ref q1, .ref q2, .ref q3, .ref q4, .ref q5, .ref q6, .ref q7, .ref q8, .ref q9, .int 0, .int (-1), .int 0, .long 1, .int 0, .int 0])), (q1, .inl (cJ, 16, .inr (.inl (fun _ => 0)))), (q2, .inl (cJ, 16, .inr (.inl (fun _ => 0)))), (q3, .inl (cJ, 16, .inr (.inl (fun _ => 0)))), (q4, .inl (cJ, 16, .inr (.inl (fun _ => 0)))), (q5, .inl (cJ, 16, .inr (.inl (fun _ => 0)))), (q6, .inl (cJ, 32, .inr (.inl (fun _ => 0)))), (q7, .inl (cJ, 34, .inr (.inl (fun _ => 0)))), (q8, .inl (cJ, 34, .inr (.inl (fun _ => 0)))), (q9, .inl (cJ, 34, .inr (.inl (fun _ => 0)))), (q10, .inl (cI, clN k3 1 100, .inl (fun _ => nI 0))), (q11, .inl (cI, clN k3 1 100, .inl (fun _ => nI 0))), (q12, .inl (cI, clN k3 1 100, .inl (fun _ => nI 0)))]) := hw
    have hw := hw.sub (ws' := [(h0, .inr (0, [.int (nI P), .int (nI (clN k2 1 16)), .int (nI (clN k3 1 100)), .ref q10, .ref q11, .ref q12, .ref q1, .ref q2, .ref q3, .ref q4, .ref q5, .ref q6, .ref q7, .ref q8, .ref q9, .int 0, .int (-1), .int 0, .long 1, .int 0, .int 0])), (q10, .inl (cI, clN k3 1 100, .inl (fun _ => nI 0))), (q11, .inl (cI, clN k3 1 100, .inl (fun _ => nI 0))), (q12, .inl (cI, clN k3 1 100, .inl (fun _ => nI 0))), (q1, .inl (cJ, 16, .inr (.inl (fun _ => 0)))), (q2, .inl (cJ, 16, .inr (.inl (fun _ => 0)))), (q3, .inl (cJ, 16, .inr (.inl (fun _ => 0)))), (q4, .inl (cJ, 16, .inr (.inl (fun _ => 0)))), (q5, .inl (cJ, 16, .inr (.inl (fun _ => 0)))), (q6, .inl (cJ, 32, .inr (.inl (fun _ => 0)))), (q7, .inl (cJ, 34, .inr (.inl (fun _ => 0)))), (q8, .inl (cJ, 34, .inr (.inl (fun _ => 0)))), (q9, .inl (cJ, 34, .inr (.inl (fun _ => 0))))]) [0, 10, 11, 12, 1, 2, 3, 4, 5, 6, 7, 8, 9] (by decide) rfl
    have hw : kw D A s.heap H locs (wD (fun k => [h0, q10, q11, q12, q1, q2, q3, q4, q5, q6, q7, q8, q9].getD k 0) cI cJ P (clN k2 1 16) (clN k3 1 100) 0 (-1) false 1 0 0 (fun _ => 0) (fun _ => 0) (fun _ => 0) z0 z0 z0 z0 z0 z0 z0 z0 z0) := hw
    subst hZ
    refine W.widen (k := 12) (n := 514) (by decide) (by omega) ?_
    exact W.vret hx hb hr (fun t ht hW => ⟨⟨((fun k => [h0, q10, q11, q12, q1, q2, q3, q4, q5, q6, q7, q8, q9].getD k 0), cI, cJ, P), rfl, ⟨rfl, hlst⟩, by rw [ht]; exact hw.1, va_K.moved hW.alike hK, hw.2.1⟩, hw.2.2.F ht⟩) hw.2.2.2.2 d_D_init_167
  have srch : ∀ (H : Heap) (locs : List Loc) (ls : Array Slot), kw D A s.heap H locs ([(h0, .inr (0, [.int 0, .int 0, .int 0, .null, .null, .null, .ref q1, .ref q2, .ref q3, .ref q4, .ref q5, .ref q6, .ref q7, .ref q8, .ref q9, .int 0, .int (-1), .int 0, .long 1, .int 0, .int 0])), (q1, .inl (cJ, 16, .inr (.inl (fun _ => 0)))), (q2, .inl (cJ, 16, .inr (.inl (fun _ => 0)))), (q3, .inl (cJ, 16, .inr (.inl (fun _ => 0)))), (q4, .inl (cJ, 16, .inr (.inl (fun _ => 0)))), (q5, .inl (cJ, 16, .inr (.inl (fun _ => 0)))), (q6, .inl (cJ, 32, .inr (.inl (fun _ => 0)))), (q7, .inl (cJ, 34, .inr (.inl (fun _ => 0)))), (q8, .inl (cJ, 34, .inr (.inl (fun _ => 0)))), (q9, .inl (cJ, 34, .inr (.inl (fun _ => 0))))]) → lv_has ls 5 [(0, .ref h0), (1, .int k1), (2, .int k2), (3, .int k3), (4, .int (nI (clN k1 2 46337)))] → W p l e ((headSpec (Cond.code y_D_init b_D_init 5 none :: lw_g) ({ frames := 1, cells := 12, slots := 514, locals := 22 })).room) s m ([.ref h0, .int k1, .int k2, .int k3] : List Value).toArray below meth c H locs (0 + 1 + 1 + 1 + 1 + 1 + 1 + 1 + 1 + 1) (0 + 16 + 16 + 16 + 16 + 16 + 32 + 34 + 34 + 34) Z (F0 m 95 ls []) := by
    obtain ⟨NN, hNN⟩ : ∃ n, n = 46337 := ⟨_, rfl⟩
    have hpl : isPr NN = true := by rw [hNN]; exact isPr_last
    refine for_ri (i0 := clN k1 2 46337) (N := NN) (st := ())
      (fun (q : Nat) (_ : Unit) => ∀ (H : Heap) (locs : List Loc) (ls : Array Slot), kw D A s.heap H locs ([(h0, .inr (0, [.int 0, .int 0, .int 0, .null, .null, .null, .ref q1, .ref q2, .ref q3, .ref q4, .ref q5, .ref q6, .ref q7, .ref q8, .ref q9, .int 0, .int (-1), .int 0, .long 1, .int 0, .int 0])), (q1, .inl (cJ, 16, .inr (.inl (fun _ => 0)))), (q2, .inl (cJ, 16, .inr (.inl (fun _ => 0)))), (q3, .inl (cJ, 16, .inr (.inl (fun _ => 0)))), (q4, .inl (cJ, 16, .inr (.inl (fun _ => 0)))), (q5, .inl (cJ, 16, .inr (.inl (fun _ => 0)))), (q6, .inl (cJ, 32, .inr (.inl (fun _ => 0)))), (q7, .inl (cJ, 34, .inr (.inl (fun _ => 0)))), (q8, .inl (cJ, 34, .inr (.inl (fun _ => 0)))), (q9, .inl (cJ, 34, .inr (.inl (fun _ => 0))))]) → lv_has ls 5 [(0, .ref h0), (1, .int k1), (2, .int k2), (3, .int k3), (4, .int (nI q))] → W p l e ((headSpec (Cond.code y_D_init b_D_init 5 none :: lw_g) ({ frames := 1, cells := 12, slots := 514, locals := 22 })).room) s m ([.ref h0, .int k1, .int k2, .int k3] : List Value).toArray below meth c H locs (0 + 1 + 1 + 1 + 1 + 1 + 1 + 1 + 1 + 1) (0 + 16 + 16 + 16 + 16 + 16 + 32 + 34 + 34 + 34) Z (F0 m 95 ls []))
      (fun (q : Nat) (_ : Unit) => ∀ j, clN k1 2 46337 ≤ j → j < q → isPr j = false)
      (by omega) (fun j h1 h2 => absurd h1 (by omega)) ?_ ?_
    · rintro q _ hq0 hq hI ih H locs ls hw hl
      refine lv_iload hx hb d_D_init_95 (lv_at hl 4 rfl) ?_
      refine ky_callSi (As := [.int (nI q)]) (rest := []) S hK hw hA hl.1 (c_D_isPrime (by omega) (by omega)) k_D_50 rfl rfl ⟨Nat.le_of_ble_eq_true rfl, Nat.le_of_ble_eq_true rfl⟩ ⟨Nat.le_of_ble_eq_true rfl, Nat.le_of_ble_eq_true rfl⟩ rfl rfl (Nat.le_of_ble_eq_true rfl) d_D_init_97 (fun r u H locs hp hw => ?_)
      subst hp
      have hw : kw D A s.heap H locs ([(h0, .inr (0, [.int 0, .int 0, .int 0, .null, .null, .null, .ref q1, .ref q2, .ref q3, .ref q4, .ref q5, .ref q6, .ref q7, .ref q8, .ref q9, .int 0, .int (-1), .int 0, .long 1, .int 0, .int 0])), (q1, .inl (cJ, 16, .inr (.inl (fun _ => 0)))), (q2, .inl (cJ, 16, .inr (.inl (fun _ => 0)))), (q3, .inl (cJ, 16, .inr (.inl (fun _ => 0)))), (q4, .inl (cJ, 16, .inr (.inl (fun _ => 0)))), (q5, .inl (cJ, 16, .inr (.inl (fun _ => 0)))), (q6, .inl (cJ, 32, .inr (.inl (fun _ => 0)))), (q7, .inl (cJ, 34, .inr (.inl (fun _ => 0)))), (q8, .inl (cJ, 34, .inr (.inl (fun _ => 0)))), (q9, .inl (cJ, 34, .inr (.inl (fun _ => 0))))]) := hw
      refine ky_bne (tgt := 109) hx hb d_D_init_100 (by decide) (fun hpr => ?_) (fun hpr => ?_)
      · exact key q H locs ls ⟨hq0, by omega, hpr, hI⟩ hw (lv_sub hl [0, 1, 2, 3, 4] rfl)
      · refine lv_iinc (v := nI (q + 1)) (lv' := [(4, .int (nI (q + 1))), (0, .ref h0), (1, .int k1), (2, .int k2), (3, .int k3)]) hx hb d_D_init_103 hl (k := 4) rfl (nI_1 q) (by decide) rfl (fun ls hl => ?_)
        refine lv_goto (tgt := 95) hx hb d_D_init_106 (by decide) ?_
        refine ih () (fun j h1 h2 => ?_) H locs ls hw (lv_sub hl [1, 2, 3, 4, 0] rfl)
        rcases Nat.lt_or_ge j q with q1 | q1
        · exact hI j h1 q1
        · have e1 : j = q := by omega
          rw [e1]; exact hpr
    · rintro _ hI H locs ls hw hl
      refine lv_iload hx hb d_D_init_95 (lv_at hl 4 rfl) ?_
      refine ky_callSi (As := [.int (nI NN)]) (rest := []) S hK hw hA hl.1 (c_D_isPrime (k := NN) (by omega) (by omega)) k_D_50 rfl rfl ⟨Nat.le_of_ble_eq_true rfl, Nat.le_of_ble_eq_true rfl⟩ ⟨Nat.le_of_ble_eq_true rfl, Nat.le_of_ble_eq_true rfl⟩ rfl rfl (Nat.le_of_ble_eq_true rfl) d_D_init_97 (fun r u H locs hp hw => ?_)
      subst hp
      have hw : kw D A s.heap H locs ([(h0, .inr (0, [.int 0, .int 0, .int 0, .null, .null, .null, .ref q1, .ref q2, .ref q3, .ref q4, .ref q5, .ref q6, .ref q7, .ref q8, .ref q9, .int 0, .int (-1), .int 0, .long 1, .int 0, .int 0])), (q1, .inl (cJ, 16, .inr (.inl (fun _ => 0)))), (q2, .inl (cJ, 16, .inr (.inl (fun _ => 0)))), (q3, .inl (cJ, 16, .inr (.inl (fun _ => 0)))), (q4, .inl (cJ, 16, .inr (.inl (fun _ => 0)))), (q5, .inl (cJ, 16, .inr (.inl (fun _ => 0)))), (q6, .inl (cJ, 32, .inr (.inl (fun _ => 0)))), (q7, .inl (cJ, 34, .inr (.inl (fun _ => 0)))), (q8, .inl (cJ, 34, .inr (.inl (fun _ => 0)))), (q9, .inl (cJ, 34, .inr (.inl (fun _ => 0))))]) := hw
      refine ky_bne (tgt := 109) hx hb d_D_init_100 (by decide) (fun hpr => ?_) (fun hpr => absurd hpr (by rw [hpl]; decide))
      exact key NN H locs ls ⟨by omega, by omega, hpr, hI⟩ hw (lv_sub hl [0, 1, 2, 3, 4] rfl)
  exact srch _ _ _ hw (lv_sub hl [1, 2, 3, 4, 0] rfl)
set_option maxHeartbeats 4000000 in
/-- the constructor: twelve arrays, the numbers held in their bounds, the first prime from the first number on -/
theorem c_M_init {l : Launch} {D : va_G} {h0 sz : Nat} {k1 k2 k3 : Int32} {cI cJ : ClassId} : Met l y_M_init (Cond.code y_M_init b_M_init 5 none :: lw_g) ({ frames := 1, cells := 12, slots := 712, locals := 22 }) (va_Pc [.ref h0, .int k1, .int k2, .int k3] (fun U => U.heap.size = sz ∧ va_P D classes [(h0, .inr (1, fM0))] U.heap ∧ va_K D classes (kt cI cJ) U ∧ va_D (fun _ => True) [(h0, .inr (1, fM0))])) (va_Qv (fun (u : (Nat → Nat) × ClassId × ClassId × Nat) => u.1 0 = h0 ∧ lstP (clN k1 2 46337) u.2.2.2) (fun u t => va_P D classes (wM u.1 u.2.1 u.2.2.1 u.2.2.2 (clN k2 1 16) (clN k3 1 100) 0 1 0 0 false (-1) false (fun _ => 0) (fun _ => 0) z0 z0 z0 z0 z0 z0 z0 z0 z0 z0) t.heap ∧ va_K D classes (kt u.2.1 u.2.2.1) t ∧ va_D (va_A [(h0, .inr (1, fM0))] sz) (wM u.1 u.2.1 u.2.2.1 u.2.2.2 (clN k2 1 16) (clN k3 1 100) 0 1 0 0 false (-1) false (fun _ => 0) (fun _ => 0) z0 z0 z0 z0 z0 z0 z0 z0 z0 z0)) (va_A [(h0, .inr (1, fM0))] sz)) 12 712 (va_A [(h0, .inr (1, fM0))] sz) := by
  refine Met.ofW (cc := b_M_init) (maxL := 5) (ret := none) (by decide) rfl ?_
  intro p e s m args below meth c s₁ B hml hv
  obtain ⟨rfl, hsz, hP, hK, hD0⟩ := hv
  have hx := B.exec
  have hb := B.bytes
  have hr := B.returns
  have hts0 := atoms_spec (ws := Cond.code y_M_init b_M_init 5 none :: lw_g) B.pre
  have hts : ∀ w ∈ lw_g, w.before _ s = true := fun w h => hts0 w (List.mem_cons_of_mem _ h)
  have hown : s.vm.findClass R_M = some m.cls := findClass_of_methodNamed B.named
  have hlocks := B.notSynchronized
  have hin : meth.name = "<init>" := (name_of_methodNamed B.named B.method).1
  have S := (⟨hx, hb, hml, hown, hts⟩ : CallFix p m c b_M_init 5 s _ lw_g R_M)
  subst hsz
  have hD := hD0.self (sz := s.heap.size)
  generalize hAe : va_A [(h0, .inr (1, fM0))] s.heap.size = A at hD ⊢
  have hA : ∀ q : Nat, s.heap.size ≤ q → A q := fun q h => by rw [← hAe]; exact Or.inr h
  have hw : kw D A s.heap s.heap [] ([(h0, .inr (1, [.int 0, .int 0, .int 0, .null, .null, .null, .int 0, .null, .long 0, .int 0, .int 0, .null, .null, .null, .null, .int 0, .null, .null, .null, .int 0, .null, .int 0]))]) := ⟨hP, hD, va_S.rf⟩
  have hl := lv_entry ([.ref h0, .int k1, .int k2, .int k3]) (n := 5) (Nat.le_of_ble_eq_true rfl)
  rw [lg_entry_eq]
  generalize (lg_sl ([.ref h0, .int k1, .int k2, .int k3]) ++ List.replicate (5 - (lg_sl ([.ref h0, .int k1, .int k2, .int k3])).length) Slot.unset).toArray = ls at hl ⊢
  have hl : lv_has ls 5 [(0, .ref h0), (1, .int k1), (2, .int k2), (3, .int k3)] := hl
  obtain ⟨hq1, hq2, hq3⟩ := clN_bd (k := k1) (lo := 2) (hi := 46337) (by decide) (by decide)
  obtain ⟨hn1, hn2, hn3⟩ := clN_bd (k := k2) (lo := 1) (hi := 16) (by decide) (by decide)
  obtain ⟨ho1, ho2, ho3⟩ := clN_bd (k := k3) (lo := 1) (hi := 100) (by decide) (by decide)
  refine lv_aload_n hx hb d_M_init_0 rfl (lv_at hl 0 rfl) ?_
  refine W.objInit hx hb hown (hts _ q1_190) (hts _ q1_10) (hts _ q1_11) rfl (hl.1.trans hml.symm) rfl d_M_init_1 (Nat.le_of_ble_eq_true rfl) (Nat.le_of_ble_eq_true rfl) ?_
  refine W.eq (g2 := F0 m 4 ls []) rfl ?_
  refine lv_aload_n hx hb d_M_init_4 rfl (lv_at hl 0 rfl) ?_
  refine lv_bipush (v := nI 100) hx hb d_M_init_5 (by decide) ?_
  refine ky_newI S hK hw hA (by decide) (by decide) (by show _ ≤ 712; omega) d_M_init_7 (fun q1 cA H hK2 hw => ?_)
  have eA := ky_eqI hK2 2 0 rfl rfl
  rw [eA] at hw
  have hw : kw D A s.heap H [] ([(h0, .inr (1, [.int 0, .int 0, .int 0, .null, .null, .null, .int 0, .null, .long 0, .int 0, .int 0, .null, .null, .null, .null, .int 0, .null, .null, .null, .int 0, .null, .int 0])), (q1, .inl (cI, 100, .inl (fun _ => nI 0)))]) := hw
  refine pM_rows S hin hK hw rfl (Nat.le_of_ble_eq_true rfl) d_M_init_9 (fun H locs hw => ?_)
  have hw : kw D A s.heap H locs ([(h0, .inr (1, [.int 0, .int 0, .int 0, .ref q1, .null, .null, .int 0, .null, .long 0, .int 0, .int 0, .null, .null, .null, .null, .int 0, .null, .null, .null, .int 0, .null, .int 0])), (q1, .inl (cI, 100, .inl (fun _ => nI 0)))]) := hw
  refine lv_aload_n hx hb d_M_init_12 rfl (lv_at hl 0 rfl) ?_
  refine lv_bipush (v := nI 100) hx hb d_M_init_13 (by decide) ?_
  refine ky_newI S hK hw hA (by decide) (by decide) (by show _ ≤ 712; omega) d_M_init_15 (fun q2 cA H hK2 hw => ?_)
  have eA := ky_eqI hK2 2 0 rfl rfl
  rw [eA] at hw
  have hw : kw D A s.heap H locs ([(h0, .inr (1, [.int 0, .int 0, .int 0, .ref q1, .null, .null, .int 0, .null, .long 0, .int 0, .int 0, .null, .null, .null, .null, .int 0, .null, .null, .null, .int 0, .null, .int 0])), (q1, .inl (cI, 100, .inl (fun _ => nI 0))), (q2, .inl (cI, 100, .inl (fun _ => nI 0)))]) := hw
  refine pM_columns S hin hK hw rfl (Nat.le_of_ble_eq_true rfl) d_M_init_17 (fun H locs hw => ?_)
  have hw : kw D A s.heap H locs ([(h0, .inr (1, [.int 0, .int 0, .int 0, .ref q1, .ref q2, .null, .int 0, .null, .long 0, .int 0, .int 0, .null, .null, .null, .null, .int 0, .null, .null, .null, .int 0, .null, .int 0])), (q1, .inl (cI, 100, .inl (fun _ => nI 0))), (q2, .inl (cI, 100, .inl (fun _ => nI 0)))]) := hw
  refine lv_aload_n hx hb d_M_init_20 rfl (lv_at hl 0 rfl) ?_
  refine lv_bipush (v := nI 100) hx hb d_M_init_21 (by decide) ?_
  refine ky_newJ S hK hw hA (by decide) (by decide) (by show _ ≤ 712; omega) d_M_init_23 (fun q3 cA H hK2 hw => ?_)
  have eA := ky_eqJ hK2 2 1 rfl rfl
  rw [eA] at hw
  have hw : kw D A s.heap H locs ([(h0, .inr (1, [.int 0, .int 0, .int 0, .ref q1, .ref q2, .null, .int 0, .null, .long 0, .int 0, .int 0, .null, .null, .null, .null, .int 0, .null, .null, .null, .int 0, .null, .int 0])), (q1, .inl (cI, 100, .inl (fun _ => nI 0))), (q2, .inl (cI, 100, .inl (fun _ => nI 0))), (q3, .inl (cJ, 100, .inr (.inl (fun _ => 0))))]) := hw
  refine pM_values S hin hK hw rfl (Nat.le_of_ble_eq_true rfl) d_M_init_25 (fun H locs hw => ?_)
  have hw : kw D A s.heap H locs ([(h0, .inr (1, [.int 0, .int 0, .int 0, .ref q1, .ref q2, .ref q3, .int 0, .null, .long 0, .int 0, .int 0, .null, .null, .null, .null, .int 0, .null, .null, .null, .int 0, .null, .int 0])), (q1, .inl (cI, 100, .inl (fun _ => nI 0))), (q2, .inl (cI, 100, .inl (fun _ => nI 0))), (q3, .inl (cJ, 100, .inr (.inl (fun _ => 0))))]) := hw
  refine lv_aload_n hx hb d_M_init_28 rfl (lv_at hl 0 rfl) ?_
  refine lv_bipush (v := nI 16) hx hb d_M_init_29 (by decide) ?_
  refine ky_newJ S hK hw hA (by decide) (by decide) (by show _ ≤ 712; omega) d_M_init_31 (fun q4 cA H hK2 hw => ?_)
  have eA := ky_eqJ hK2 2 1 rfl rfl
  rw [eA] at hw
  have hw : kw D A s.heap H locs ([(h0, .inr (1, [.int 0, .int 0, .int 0, .ref q1, .ref q2, .ref q3, .int 0, .null, .long 0, .int 0, .int 0, .null, .null, .null, .null, .int 0, .null, .null, .null, .int 0, .null, .int 0])), (q1, .inl (cI, 100, .inl (fun _ => nI 0))), (q2, .inl (cI, 100, .inl (fun _ => nI 0))), (q3, .inl (cJ, 100, .inr (.inl (fun _ => 0)))), (q4, .inl (cJ, 16, .inr (.inl (fun _ => 0))))]) := hw
  refine pM_right S hin hK hw rfl (Nat.le_of_ble_eq_true rfl) d_M_init_33 (fun H locs hw => ?_)
  have hw : kw D A s.heap H locs ([(h0, .inr (1, [.int 0, .int 0, .int 0, .ref q1, .ref q2, .ref q3, .int 0, .ref q4, .long 0, .int 0, .int 0, .null, .null, .null, .null, .int 0, .null, .null, .null, .int 0, .null, .int 0])), (q1, .inl (cI, 100, .inl (fun _ => nI 0))), (q2, .inl (cI, 100, .inl (fun _ => nI 0))), (q3, .inl (cJ, 100, .inr (.inl (fun _ => 0)))), (q4, .inl (cJ, 16, .inr (.inl (fun _ => 0))))]) := hw
  refine lv_aload_n hx hb d_M_init_36 rfl (lv_at hl 0 rfl) ?_
  refine lv_lconst (v := 1) hx hb d_M_init_37 (by decide) ?_
  refine pM_generator S hK hw rfl (Nat.le_of_ble_eq_true rfl) d_M_init_38 (fun H locs hw => ?_)
  have hw : kw D A s.heap H locs ([(h0, .inr (1, [.int 0, .int 0, .int 0, .ref q1, .ref q2, .ref q3, .int 0, .ref q4, .long 1, .int 0, .int 0, .null, .null, .null, .null, .int 0, .null, .null, .null, .int 0, .null, .int 0])), (q1, .inl (cI, 100, .inl (fun _ => nI 0))), (q2, .inl (cI, 100, .inl (fun _ => nI 0))), (q3, .inl (cJ, 100, .inr (.inl (fun _ => 0)))), (q4, .inl (cJ, 16, .inr (.inl (fun _ => 0))))]) := hw
  refine lv_aload_n hx hb d_M_init_41 rfl (lv_at hl 0 rfl) ?_
  refine lv_bipush (v := nI 16) hx hb d_M_init_42 (by decide) ?_
  refine ky_newJ S hK hw hA (by decide) (by decide) (by show _ ≤ 712; omega) d_M_init_44 (fun q5 cA H hK2 hw => ?_)
  have eA := ky_eqJ hK2 2 1 rfl rfl
  rw [eA] at hw
  have hw : kw D A s.heap H locs ([(h0, .inr (1, [.int 0, .int 0, .int 0, .ref q1, .ref q2, .ref q3, .int 0, .ref q4, .long 1, .int 0, .int 0, .null, .null, .null, .null, .int 0, .null, .null, .null, .int 0, .null, .int 0])), (q1, .inl (cI, 100, .inl (fun _ => nI 0))), (q2, .inl (cI, 100, .inl (fun _ => nI 0))), (q3, .inl (cJ, 100, .inr (.inl (fun _ => 0)))), (q4, .inl (cJ, 16, .inr (.inl (fun _ => 0)))), (q5, .inl (cJ, 16, .inr (.inl (fun _ => 0))))]) := hw
  refine pM_drawn S hin hK hw rfl (Nat.le_of_ble_eq_true rfl) d_M_init_46 (fun H locs hw => ?_)
  have hw : kw D A s.heap H locs ([(h0, .inr (1, [.int 0, .int 0, .int 0, .ref q1, .ref q2, .ref q3, .int 0, .ref q4, .long 1, .int 0, .int 0, .ref q5, .null, .null, .null, .int 0, .null, .null, .null, .int 0, .null, .int 0])), (q1, .inl (cI, 100, .inl (fun _ => nI 0))), (q2, .inl (cI, 100, .inl (fun _ => nI 0))), (q3, .inl (cJ, 100, .inr (.inl (fun _ => 0)))), (q4, .inl (cJ, 16, .inr (.inl (fun _ => 0)))), (q5, .inl (cJ, 16, .inr (.inl (fun _ => 0))))]) := hw
  refine lv_aload_n hx hb d_M_init_49 rfl (lv_at hl 0 rfl) ?_
  refine lv_bipush (v := nI 16) hx hb d_M_init_50 (by decide) ?_
  refine ky_newJ S hK hw hA (by decide) (by decide) (by show _ ≤ 712; omega) d_M_init_52 (fun q6 cA H hK2 hw => ?_)
  have eA := ky_eqJ hK2 2 1 rfl rfl
  rw [eA] at hw
  have hw : kw D A s.heap H locs ([(h0, .inr (1, [.int 0, .int 0, .int 0, .ref q1, .ref q2, .ref q3, .int 0, .ref q4, .long 1, .int 0, .int 0, .ref q5, .null, .null, .null, .int 0, .null, .null, .null, .int 0, .null, .int 0])), (q1, .inl (cI, 100, .inl (fun _ => nI 0))), (q2, .inl (cI, 100, .inl (fun _ => nI 0))), (q3, .inl (cJ, 100, .inr (.inl (fun _ => 0)))), (q4, .inl (cJ, 16, .inr (.inl (fun _ => 0)))), (q5, .inl (cJ, 16, .inr (.inl (fun _ => 0)))), (q6, .inl (cJ, 16, .inr (.inl (fun _ => 0))))]) := hw
  refine pM_vector S hin hK hw rfl (Nat.le_of_ble_eq_true rfl) d_M_init_54 (fun H locs hw => ?_)
  have hw : kw D A s.heap H locs ([(h0, .inr (1, [.int 0, .int 0, .int 0, .ref q1, .ref q2, .ref q3, .int 0, .ref q4, .long 1, .int 0, .int 0, .ref q5, .ref q6, .null, .null, .int 0, .null, .null, .null, .int 0, .null, .int 0])), (q1, .inl (cI, 100, .inl (fun _ => nI 0))), (q2, .inl (cI, 100, .inl (fun _ => nI 0))), (q3, .inl (cJ, 100, .inr (.inl (fun _ => 0)))), (q4, .inl (cJ, 16, .inr (.inl (fun _ => 0)))), (q5, .inl (cJ, 16, .inr (.inl (fun _ => 0)))), (q6, .inl (cJ, 16, .inr (.inl (fun _ => 0))))]) := hw
  refine lv_aload_n hx hb d_M_init_57 rfl (lv_at hl 0 rfl) ?_
  refine lv_bipush (v := nI 16) hx hb d_M_init_58 (by decide) ?_
  refine ky_newJ S hK hw hA (by decide) (by decide) (by show _ ≤ 712; omega) d_M_init_60 (fun q7 cA H hK2 hw => ?_)
  have eA := ky_eqJ hK2 2 1 rfl rfl
  rw [eA] at hw
  have hw : kw D A s.heap H locs ([(h0, .inr (1, [.int 0, .int 0, .int 0, .ref q1, .ref q2, .ref q3, .int 0, .ref q4, .long 1, .int 0, .int 0, .ref q5, .ref q6, .null, .null, .int 0, .null, .null, .null, .int 0, .null, .int 0])), (q1, .inl (cI, 100, .inl (fun _ => nI 0))), (q2, .inl (cI, 100, .inl (fun _ => nI 0))), (q3, .inl (cJ, 100, .inr (.inl (fun _ => 0)))), (q4, .inl (cJ, 16, .inr (.inl (fun _ => 0)))), (q5, .inl (cJ, 16, .inr (.inl (fun _ => 0)))), (q6, .inl (cJ, 16, .inr (.inl (fun _ => 0)))), (q7, .inl (cJ, 16, .inr (.inl (fun _ => 0))))]) := hw
  refine pM_made S hin hK hw rfl (Nat.le_of_ble_eq_true rfl) d_M_init_62 (fun H locs hw => ?_)
  have hw : kw D A s.heap H locs ([(h0, .inr (1, [.int 0, .int 0, .int 0, .ref q1, .ref q2, .ref q3, .int 0, .ref q4, .long 1, .int 0, .int 0, .ref q5, .ref q6, .ref q7, .null, .int 0, .null, .null, .null, .int 0, .null, .int 0])), (q1, .inl (cI, 100, .inl (fun _ => nI 0))), (q2, .inl (cI, 100, .inl (fun _ => nI 0))), (q3, .inl (cJ, 100, .inr (.inl (fun _ => 0)))), (q4, .inl (cJ, 16, .inr (.inl (fun _ => 0)))), (q5, .inl (cJ, 16, .inr (.inl (fun _ => 0)))), (q6, .inl (cJ, 16, .inr (.inl (fun _ => 0)))), (q7, .inl (cJ, 16, .inr (.inl (fun _ => 0))))]) := hw
  refine lv_aload_n hx hb d_M_init_65 rfl (lv_at hl 0 rfl) ?_
  refine lv_bipush (v := nI 32) hx hb d_M_init_66 (by decide) ?_
  refine ky_newJ S hK hw hA (by decide) (by decide) (by show _ ≤ 712; omega) d_M_init_68 (fun q8 cA H hK2 hw => ?_)
  have eA := ky_eqJ hK2 2 1 rfl rfl
  rw [eA] at hw
  have hw : kw D A s.heap H locs ([(h0, .inr (1, [.int 0, .int 0, .int 0, .ref q1, .ref q2, .ref q3, .int 0, .ref q4, .long 1, .int 0, .int 0, .ref q5, .ref q6, .ref q7, .null, .int 0, .null, .null, .null, .int 0, .null, .int 0])), (q1, .inl (cI, 100, .inl (fun _ => nI 0))), (q2, .inl (cI, 100, .inl (fun _ => nI 0))), (q3, .inl (cJ, 100, .inr (.inl (fun _ => 0)))), (q4, .inl (cJ, 16, .inr (.inl (fun _ => 0)))), (q5, .inl (cJ, 16, .inr (.inl (fun _ => 0)))), (q6, .inl (cJ, 16, .inr (.inl (fun _ => 0)))), (q7, .inl (cJ, 16, .inr (.inl (fun _ => 0)))), (q8, .inl (cJ, 32, .inr (.inl (fun _ => 0))))]) := hw
  refine pM_row S hin hK hw rfl (Nat.le_of_ble_eq_true rfl) d_M_init_70 (fun H locs hw => ?_)
  have hw : kw D A s.heap H locs ([(h0, .inr (1, [.int 0, .int 0, .int 0, .ref q1, .ref q2, .ref q3, .int 0, .ref q4, .long 1, .int 0, .int 0, .ref q5, .ref q6, .ref q7, .ref q8, .int 0, .null, .null, .null, .int 0, .null, .int 0])), (q1, .inl (cI, 100, .inl (fun _ => nI 0))), (q2, .inl (cI, 100, .inl (fun _ => nI 0))), (q3, .inl (cJ, 100, .inr (.inl (fun _ => 0)))), (q4, .inl (cJ, 16, .inr (.inl (fun _ => 0)))), (q5, .inl (cJ, 16, .inr (.inl (fun _ => 0)))), (q6, .inl (cJ, 16, .inr (.inl (fun _ => 0)))), (q7, .inl (cJ, 16, .inr (.inl (fun _ => 0)))), (q8, .inl (cJ, 32, .inr (.inl (fun _ => 0))))]) := hw
  refine lv_aload_n hx hb d_M_init_73 rfl (lv_at hl 0 rfl) ?_
  refine lv_bipush (v := nI 100) hx hb d_M_init_74 (by decide) ?_
  refine ky_newJ S hK hw hA (by decide) (by decide) (by show _ ≤ 712; omega) d_M_init_76 (fun q9 cA H hK2 hw => ?_)
  have eA := ky_eqJ hK2 2 1 rfl rfl
  rw [eA] at hw
  have hw : kw D A s.heap H locs ([(h0, .inr (1, [.int 0, .int 0, .int 0, .ref q1, .ref q2, .ref q3, .int 0, .ref q4, .long 1, .int 0, .int 0, .ref q5, .ref q6, .ref q7, .ref q8, .int 0, .null, .null, .null, .int 0, .null, .int 0])), (q1, .inl (cI, 100, .inl (fun _ => nI 0))), (q2, .inl (cI, 100, .inl (fun _ => nI 0))), (q3, .inl (cJ, 100, .inr (.inl (fun _ => 0)))), (q4, .inl (cJ, 16, .inr (.inl (fun _ => 0)))), (q5, .inl (cJ, 16, .inr (.inl (fun _ => 0)))), (q6, .inl (cJ, 16, .inr (.inl (fun _ => 0)))), (q7, .inl (cJ, 16, .inr (.inl (fun _ => 0)))), (q8, .inl (cJ, 32, .inr (.inl (fun _ => 0)))), (q9, .inl (cJ, 100, .inr (.inl (fun _ => 0))))]) := hw
  refine pM_c S hin hK hw rfl (Nat.le_of_ble_eq_true rfl) d_M_init_78 (fun H locs hw => ?_)
  have hw : kw D A s.heap H locs ([(h0, .inr (1, [.int 0, .int 0, .int 0, .ref q1, .ref q2, .ref q3, .int 0, .ref q4, .long 1, .int 0, .int 0, .ref q5, .ref q6, .ref q7, .ref q8, .int 0, .ref q9, .null, .null, .int 0, .null, .int 0])), (q1, .inl (cI, 100, .inl (fun _ => nI 0))), (q2, .inl (cI, 100, .inl (fun _ => nI 0))), (q3, .inl (cJ, 100, .inr (.inl (fun _ => 0)))), (q4, .inl (cJ, 16, .inr (.inl (fun _ => 0)))), (q5, .inl (cJ, 16, .inr (.inl (fun _ => 0)))), (q6, .inl (cJ, 16, .inr (.inl (fun _ => 0)))), (q7, .inl (cJ, 16, .inr (.inl (fun _ => 0)))), (q8, .inl (cJ, 32, .inr (.inl (fun _ => 0)))), (q9, .inl (cJ, 100, .inr (.inl (fun _ => 0))))]) := hw
  refine lv_aload_n hx hb d_M_init_81 rfl (lv_at hl 0 rfl) ?_
  refine lv_bipush (v := nI 100) hx hb d_M_init_82 (by decide) ?_
  refine ky_newJ S hK hw hA (by decide) (by decide) (by show _ ≤ 712; omega) d_M_init_84 (fun q10 cA H hK2 hw => ?_)
  have eA := ky_eqJ hK2 2 1 rfl rfl
  rw [eA] at hw
  have hw : kw D A s.heap H locs ([(h0, .inr (1, [.int 0, .int 0, .int 0, .ref q1, .ref q2, .ref q3, .int 0, .ref q4, .long 1, .int 0, .int 0, .ref q5, .ref q6, .ref q7, .ref q8, .int 0, .ref q9, .null, .null, .int 0, .null, .int 0])), (q1, .inl (cI, 100, .inl (fun _ => nI 0))), (q2, .inl (cI, 100, .inl (fun _ => nI 0))), (q3, .inl (cJ, 100, .inr (.inl (fun _ => 0)))), (q4, .inl (cJ, 16, .inr (.inl (fun _ => 0)))), (q5, .inl (cJ, 16, .inr (.inl (fun _ => 0)))), (q6, .inl (cJ, 16, .inr (.inl (fun _ => 0)))), (q7, .inl (cJ, 16, .inr (.inl (fun _ => 0)))), (q8, .inl (cJ, 32, .inr (.inl (fun _ => 0)))), (q9, .inl (cJ, 100, .inr (.inl (fun _ => 0)))), (q10, .inl (cJ, 100, .inr (.inl (fun _ => 0))))]) := hw
  refine pM_b S hin hK hw rfl (Nat.le_of_ble_eq_true rfl) d_M_init_86 (fun H locs hw => ?_)
  have hw : kw D A s.heap H locs ([(h0, .inr (1, [.int 0, .int 0, .int 0, .ref q1, .ref q2, .ref q3, .int 0, .ref q4, .long 1, .int 0, .int 0, .ref q5, .ref q6, .ref q7, .ref q8, .int 0, .ref q9, .ref q10, .null, .int 0, .null, .int 0])), (q1, .inl (cI, 100, .inl (fun _ => nI 0))), (q2, .inl (cI, 100, .inl (fun _ => nI 0))), (q3, .inl (cJ, 100, .inr (.inl (fun _ => 0)))), (q4, .inl (cJ, 16, .inr (.inl (fun _ => 0)))), (q5, .inl (cJ, 16, .inr (.inl (fun _ => 0)))), (q6, .inl (cJ, 16, .inr (.inl (fun _ => 0)))), (q7, .inl (cJ, 16, .inr (.inl (fun _ => 0)))), (q8, .inl (cJ, 32, .inr (.inl (fun _ => 0)))), (q9, .inl (cJ, 100, .inr (.inl (fun _ => 0)))), (q10, .inl (cJ, 100, .inr (.inl (fun _ => 0))))]) := hw
  refine lv_aload_n hx hb d_M_init_89 rfl (lv_at hl 0 rfl) ?_
  refine lv_bipush (v := nI 100) hx hb d_M_init_90 (by decide) ?_
  refine ky_newJ S hK hw hA (by decide) (by decide) (by show _ ≤ 712; omega) d_M_init_92 (fun q11 cA H hK2 hw => ?_)
  have eA := ky_eqJ hK2 2 1 rfl rfl
  rw [eA] at hw
  have hw : kw D A s.heap H locs ([(h0, .inr (1, [.int 0, .int 0, .int 0, .ref q1, .ref q2, .ref q3, .int 0, .ref q4, .long 1, .int 0, .int 0, .ref q5, .ref q6, .ref q7, .ref q8, .int 0, .ref q9, .ref q10, .null, .int 0, .null, .int 0])), (q1, .inl (cI, 100, .inl (fun _ => nI 0))), (q2, .inl (cI, 100, .inl (fun _ => nI 0))), (q3, .inl (cJ, 100, .inr (.inl (fun _ => 0)))), (q4, .inl (cJ, 16, .inr (.inl (fun _ => 0)))), (q5, .inl (cJ, 16, .inr (.inl (fun _ => 0)))), (q6, .inl (cJ, 16, .inr (.inl (fun _ => 0)))), (q7, .inl (cJ, 16, .inr (.inl (fun _ => 0)))), (q8, .inl (cJ, 32, .inr (.inl (fun _ => 0)))), (q9, .inl (cJ, 100, .inr (.inl (fun _ => 0)))), (q10, .inl (cJ, 100, .inr (.inl (fun _ => 0)))), (q11, .inl (cJ, 100, .inr (.inl (fun _ => 0))))]) := hw
  refine pM_t S hin hK hw rfl (Nat.le_of_ble_eq_true rfl) d_M_init_94 (fun H locs hw => ?_)
  have hw : kw D A s.heap H locs ([(h0, .inr (1, [.int 0, .int 0, .int 0, .ref q1, .ref q2, .ref q3, .int 0, .ref q4, .long 1, .int 0, .int 0, .ref q5, .ref q6, .ref q7, .ref q8, .int 0, .ref q9, .ref q10, .ref q11, .int 0, .null, .int 0])), (q1, .inl (cI, 100, .inl (fun _ => nI 0))), (q2, .inl (cI, 100, .inl (fun _ => nI 0))), (q3, .inl (cJ, 100, .inr (.inl (fun _ => 0)))), (q4, .inl (cJ, 16, .inr (.inl (fun _ => 0)))), (q5, .inl (cJ, 16, .inr (.inl (fun _ => 0)))), (q6, .inl (cJ, 16, .inr (.inl (fun _ => 0)))), (q7, .inl (cJ, 16, .inr (.inl (fun _ => 0)))), (q8, .inl (cJ, 32, .inr (.inl (fun _ => 0)))), (q9, .inl (cJ, 100, .inr (.inl (fun _ => 0)))), (q10, .inl (cJ, 100, .inr (.inl (fun _ => 0)))), (q11, .inl (cJ, 100, .inr (.inl (fun _ => 0))))]) := hw
  refine lv_aload_n hx hb d_M_init_97 rfl (lv_at hl 0 rfl) ?_
  refine lv_iconst (v := -1) hx hb d_M_init_98 (by decide) ?_
  refine pM_degree S hK hw rfl (Nat.le_of_ble_eq_true rfl) d_M_init_99 (fun H locs hw => ?_)
  have hw : kw D A s.heap H locs ([(h0, .inr (1, [.int 0, .int 0, .int 0, .ref q1, .ref q2, .ref q3, .int 0, .ref q4, .long 1, .int 0, .int 0, .ref q5, .ref q6, .ref q7, .ref q8, .int 0, .ref q9, .ref q10, .ref q11, .int (-1), .null, .int 0])), (q1, .inl (cI, 100, .inl (fun _ => nI 0))), (q2, .inl (cI, 100, .inl (fun _ => nI 0))), (q3, .inl (cJ, 100, .inr (.inl (fun _ => 0)))), (q4, .inl (cJ, 16, .inr (.inl (fun _ => 0)))), (q5, .inl (cJ, 16, .inr (.inl (fun _ => 0)))), (q6, .inl (cJ, 16, .inr (.inl (fun _ => 0)))), (q7, .inl (cJ, 16, .inr (.inl (fun _ => 0)))), (q8, .inl (cJ, 32, .inr (.inl (fun _ => 0)))), (q9, .inl (cJ, 100, .inr (.inl (fun _ => 0)))), (q10, .inl (cJ, 100, .inr (.inl (fun _ => 0)))), (q11, .inl (cJ, 100, .inr (.inl (fun _ => 0))))]) := hw
  refine lv_aload_n hx hb d_M_init_102 rfl (lv_at hl 0 rfl) ?_
  refine lv_bipush (v := nI 16) hx hb d_M_init_103 (by decide) ?_
  refine ky_newJ S hK hw hA (by decide) (by decide) (by show _ ≤ 712; omega) d_M_init_105 (fun q12 cA H hK2 hw => ?_)
  have eA := ky_eqJ hK2 2 1 rfl rfl
  rw [eA] at hw
  have hw : kw D A s.heap H locs ([(h0, .inr (1, [.int 0, .int 0, .int 0, .ref q1, .ref q2, .ref q3, .int 0, .ref q4, .long 1, .int 0, .int 0, .ref q5, .ref q6, .ref q7, .ref q8, .int 0, .ref q9, .ref q10, .ref q11, .int (-1), .null, .int 0])), (q1, .inl (cI, 100, .inl (fun _ => nI 0))), (q2, .inl (cI, 100, .inl (fun _ => nI 0))), (q3, .inl (cJ, 100, .inr (.inl (fun _ => 0)))), (q4, .inl (cJ, 16, .inr (.inl (fun _ => 0)))), (q5, .inl (cJ, 16, .inr (.inl (fun _ => 0)))), (q6, .inl (cJ, 16, .inr (.inl (fun _ => 0)))), (q7, .inl (cJ, 16, .inr (.inl (fun _ => 0)))), (q8, .inl (cJ, 32, .inr (.inl (fun _ => 0)))), (q9, .inl (cJ, 100, .inr (.inl (fun _ => 0)))), (q10, .inl (cJ, 100, .inr (.inl (fun _ => 0)))), (q11, .inl (cJ, 100, .inr (.inl (fun _ => 0)))), (q12, .inl (cJ, 16, .inr (.inl (fun _ => 0))))]) := hw
  refine pM_solution S hin hK hw rfl (Nat.le_of_ble_eq_true rfl) d_M_init_107 (fun H locs hw => ?_)
  have hw : kw D A s.heap H locs ([(h0, .inr (1, [.int 0, .int 0, .int 0, .ref q1, .ref q2, .ref q3, .int 0, .ref q4, .long 1, .int 0, .int 0, .ref q5, .ref q6, .ref q7, .ref q8, .int 0, .ref q9, .ref q10, .ref q11, .int (-1), .ref q12, .int 0])), (q1, .inl (cI, 100, .inl (fun _ => nI 0))), (q2, .inl (cI, 100, .inl (fun _ => nI 0))), (q3, .inl (cJ, 100, .inr (.inl (fun _ => 0)))), (q4, .inl (cJ, 16, .inr (.inl (fun _ => 0)))), (q5, .inl (cJ, 16, .inr (.inl (fun _ => 0)))), (q6, .inl (cJ, 16, .inr (.inl (fun _ => 0)))), (q7, .inl (cJ, 16, .inr (.inl (fun _ => 0)))), (q8, .inl (cJ, 32, .inr (.inl (fun _ => 0)))), (q9, .inl (cJ, 100, .inr (.inl (fun _ => 0)))), (q10, .inl (cJ, 100, .inr (.inl (fun _ => 0)))), (q11, .inl (cJ, 100, .inr (.inl (fun _ => 0)))), (q12, .inl (cJ, 16, .inr (.inl (fun _ => 0))))]) := hw
  refine lv_iload_n hx hb d_M_init_110 rfl (lv_at hl 1 rfl) ?_
  refine lv_iconst (v := nI 2) hx hb d_M_init_111 (by decide) ?_
  generalize hZ : MQ below _ _ s 12 712 A = Z
  have key : ∀ (P : Nat) (H : Heap) (locs : List Loc) (ls : Array Slot), lstP (clN k1 2 46337) P → kw D A s.heap H locs ([(h0, .inr (1, [.int 0, .int 0, .int 0, .ref q1, .ref q2, .ref q3, .int 0, .ref q4, .long 1, .int 0, .int 0, .ref q5, .ref q6, .ref q7, .ref q8, .int 0, .ref q9, .ref q10, .ref q11, .int (-1), .ref q12, .int 0])), (q1, .inl (cI, 100, .inl (fun _ => nI 0))), (q2, .inl (cI, 100, .inl (fun _ => nI 0))), (q3, .inl (cJ, 100, .inr (.inl (fun _ => 0)))), (q4, .inl (cJ, 16, .inr (.inl (fun _ => 0)))), (q5, .inl (cJ, 16, .inr (.inl (fun _ => 0)))), (q6, .inl (cJ, 16, .inr (.inl (fun _ => 0)))), (q7, .inl (cJ, 16, .inr (.inl (fun _ => 0)))), (q8, .inl (cJ, 32, .inr (.inl (fun _ => 0)))), (q9, .inl (cJ, 100, .inr (.inl (fun _ => 0)))), (q10, .inl (cJ, 100, .inr (.inl (fun _ => 0)))), (q11, .inl (cJ, 100, .inr (.inl (fun _ => 0)))), (q12, .inl (cJ, 16, .inr (.inl (fun _ => 0))))]) → lv_has ls 5 [(0, .ref h0), (1, .int k1), (2, .int k2), (3, .int k3), (4, .int (nI P))] → W p l e ((headSpec (Cond.code y_M_init b_M_init 5 none :: lw_g) ({ frames := 1, cells := 12, slots := 712, locals := 22 })).room) s m ([.ref h0, .int k1, .int k2, .int k3] : List Value).toArray below meth c H locs (0 + 1 + 1 + 1 + 1 + 1 + 1 + 1 + 1 + 1 + 1 + 1 + 1) (0 + 100 + 100 + 100 + 16 + 16 + 16 + 16 + 32 + 100 + 100 + 100 + 16) Z (F0 m 147 ls []) := by
    intro P H locs ls hlst hw hl
    refine lv_aload_n hx hb d_M_init_147 rfl (lv_at hl 0 rfl) ?_
    refine lv_iload hx hb d_M_init_148 (lv_at hl 4 rfl) ?_
    refine pM_prime S hin hK hw rfl (Nat.le_of_ble_eq_true rfl) d_M_init_150 (fun H locs hw => ?_)
    have hw : kw D A s.heap H locs ([(h0, .inr (1, [.int (nI P), .int 0, .int 0, .ref q1, .ref q2, .ref q3, .int 0, .ref q4, .long 1, .int 0, .int 0, .ref q5, .ref q6, .ref q7, .ref q8, .int 0, .ref q9, .ref q10, .ref q11, .int (-1), .ref q12, .int 0])), (q1, .inl (cI, 100, .inl (fun _ => nI 0))), (q2, .inl (cI, 100, .inl (fun _ => nI 0))), (q3, .inl (cJ, 100, .inr (.inl (fun _ => 0)))), (q4, .inl (cJ, 16, .inr (.inl (fun _ => 0)))), (q5, .inl (cJ, 16, .inr (.inl (fun _ => 0)))), (q6, .inl (cJ, 16, .inr (.inl (fun _ => 0)))), (q7, .inl (cJ, 16, .inr (.inl (fun _ => 0)))), (q8, .inl (cJ, 32, .inr (.inl (fun _ => 0)))), (q9, .inl (cJ, 100, .inr (.inl (fun _ => 0)))), (q10, .inl (cJ, 100, .inr (.inl (fun _ => 0)))), (q11, .inl (cJ, 100, .inr (.inl (fun _ => 0)))), (q12, .inl (cJ, 16, .inr (.inl (fun _ => 0))))]) := hw
    refine lv_aload_n hx hb d_M_init_153 rfl (lv_at hl 0 rfl) ?_
    refine lv_iload_n hx hb d_M_init_154 rfl (lv_at hl 2 rfl) ?_
    refine lv_iconst (v := nI 1) hx hb d_M_init_155 (by decide) ?_
    have keyN : W p l e ((headSpec (Cond.code y_M_init b_M_init 5 none :: lw_g) ({ frames := 1, cells := 12, slots := 712, locals := 22 })).room) s m ([.ref h0, .int k1, .int k2, .int k3] : List Value).toArray below meth c H locs (0 + 1 + 1 + 1 + 1 + 1 + 1 + 1 + 1 + 1 + 1 + 1 + 1) (0 + 100 + 100 + 100 + 16 + 16 + 16 + 16 + 32 + 100 + 100 + 100 + 16) Z (F0 m 175 ls [.int (nI (clN k2 1 16)), .ref h0]) := by
      refine pM_n S hin hK hw rfl (Nat.le_of_ble_eq_true rfl) d_M_init_175 (fun H locs hw => ?_)
      have hw : kw D A s.heap H locs ([(h0, .inr (1, [.int (nI P), .int (nI (clN k2 1 16)), .int 0, .ref q1, .ref q2, .ref q3, .int 0, .ref q4, .long 1, .int 0, .int 0, .ref q5, .ref q6, .ref q7, .ref q8, .int 0, .ref q9, .ref q10, .ref q11, .int (-1), .ref q12, .int 0])), (q1, .inl (cI, 100, .inl (fun _ => nI 0))), (q2, .inl (cI, 100, .inl (fun _ => nI 0))), (q3, .inl (cJ, 100, .inr (.inl (fun _ => 0)))), (q4, .inl (cJ, 16, .inr (.inl (fun _ => 0)))), (q5, .inl (cJ, 16, .inr (.inl (fun _ => 0)))), (q6, .inl (cJ, 16, .inr (.inl (fun _ => 0)))), (q7, .inl (cJ, 16, .inr (.inl (fun _ => 0)))), (q8, .inl (cJ, 32, .inr (.inl (fun _ => 0)))), (q9, .inl (cJ, 100, .inr (.inl (fun _ => 0)))), (q10, .inl (cJ, 100, .inr (.inl (fun _ => 0)))), (q11, .inl (cJ, 100, .inr (.inl (fun _ => 0)))), (q12, .inl (cJ, 16, .inr (.inl (fun _ => 0))))]) := hw
      refine lv_aload_n hx hb d_M_init_178 rfl (lv_at hl 0 rfl) ?_
      refine lv_iload_n hx hb d_M_init_179 rfl (lv_at hl 3 rfl) ?_
      refine lv_iconst (v := nI 1) hx hb d_M_init_180 (by decide) ?_
      have keyO : W p l e ((headSpec (Cond.code y_M_init b_M_init 5 none :: lw_g) ({ frames := 1, cells := 12, slots := 712, locals := 22 })).room) s m ([.ref h0, .int k1, .int k2, .int k3] : List Value).toArray below meth c H locs (0 + 1 + 1 + 1 + 1 + 1 + 1 + 1 + 1 + 1 + 1 + 1 + 1) (0 + 100 + 100 + 100 + 16 + 16 + 16 + 16 + 32 + 100 + 100 + 100 + 16) Z (F0 m 200 ls [.int (nI (clN k3 1 100)), .ref h0]) := by
        refine pM_room S hin hK hw rfl (Nat.le_of_ble_eq_true rfl) d_M_init_200 (fun H locs hw => ?_)
        have hw : kw D A s.heap H locs ([(h0, .inr (1, [.int (nI P), .int (nI (clN k2 1 16)), .int (nI (clN k3 1 100)), .ref q1, .ref q2, .ref q3, .int 0, .ref q4, .long 1, .int 0, .int 0, .ref q5, .ref q6, .ref q7, .ref q8, .int 0, .ref q9, .ref q10, .ref q11, .int (-1), .ref q12, .int 0])), (q1, .inl (cI, 100, .inl (fun _ => nI 0))), (q2, .inl (cI, 100, .inl (fun _ => nI 0))), (q3, .inl (cJ, 100, .inr (.inl (fun _ => 0)))), (q4, .inl (cJ, 16, .inr (.inl (fun _ => 0)))), (q5, .inl (cJ, 16, .inr (.inl (fun _ => 0)))), (q6, .inl (cJ, 16, .inr (.inl (fun _ => 0)))), (q7, .inl (cJ, 16, .inr (.inl (fun _ => 0)))), (q8, .inl (cJ, 32, .inr (.inl (fun _ => 0)))), (q9, .inl (cJ, 100, .inr (.inl (fun _ => 0)))), (q10, .inl (cJ, 100, .inr (.inl (fun _ => 0)))), (q11, .inl (cJ, 100, .inr (.inl (fun _ => 0)))), (q12, .inl (cJ, 16, .inr (.inl (fun _ => 0))))]) := hw
        have hw := hw.sub (ws' := [(h0, .inr (1, [.int (nI P), .int (nI (clN k2 1 16)), .int (nI (clN k3 1 100)), .ref q1, .ref q2, .ref q3, .int 0, .ref q4, .long 1, .int 0, .int 0, .ref q5, .ref q6, .ref q7, .ref q8, .int 0, .ref q9, .ref q10, .ref q11, .int (-1), .ref q12, .int 0])), (q1, .inl (cI, 100, .inl (fun _ => nI 0))), (q2, .inl (cI, 100, .inl (fun _ => nI 0))), (q3, .inl (cJ, 100, .inr (.inl (fun _ => 0)))), (q4, .inl (cJ, 16, .inr (.inl (fun _ => 0)))), (q5, .inl (cJ, 16, .inr (.inl (fun _ => 0)))), (q6, .inl (cJ, 16, .inr (.inl (fun _ => 0)))), (q7, .inl (cJ, 16, .inr (.inl (fun _ => 0)))), (q8, .inl (cJ, 32, .inr (.inl (fun _ => 0)))), (q9, .inl (cJ, 100, .inr (.inl (fun _ => 0)))), (q10, .inl (cJ, 100, .inr (.inl (fun _ => 0)))), (q11, .inl (cJ, 100, .inr (.inl (fun _ => 0)))), (q12, .inl (cJ, 16, .inr (.inl (fun _ => 0))))]) [0, 1, 2, 3, 4, 5, 6, 7, 8, 9, 10, 11, 12] (by decide) rfl
        have hw : kw D A s.heap H locs (wM (fun k => [h0, q1, q2, q3, q4, q5, q6, q7, q8, q9, q10, q11, q12].getD k 0) cI cJ P (clN k2 1 16) (clN k3 1 100) 0 1 0 0 false (-1) false (fun _ => 0) (fun _ => 0) z0 z0 z0 z0 z0 z0 z0 z0 z0 z0) := hw
        subst hZ
        refine W.widen (k := 12) (n := 712) (by decide) (by omega) ?_
        exact W.vret hx hb hr (fun t ht hW => ⟨⟨((fun k => [h0, q1, q2, q3, q4, q5, q6, q7, q8, q9, q10, q11, q12].getD k 0), cI, cJ, P), rfl, ⟨rfl, hlst⟩, by rw [ht]; exact hw.1, va_K.moved hW.alike hK, hw.2.1⟩, hw.2.2.F ht⟩) hw.2.2.2.2 d_M_init_203
      refine lv_icmp_ge (tgt := 188) hx hb d_M_init_181 (by decide) (fun hc1 => ?_) (fun hc1 => ?_)
      · refine lv_iload_n hx hb d_M_init_188 rfl (lv_at hl 3 rfl) ?_
        refine lv_bipush (v := nI 100) hx hb d_M_init_189 (by decide) ?_
        refine lv_icmp_le (tgt := 199) hx hb d_M_init_191 (by decide) (fun hc2 => ?_) (fun hc2 => ?_)
        · refine lv_iload_n hx hb d_M_init_199 rfl (lv_at hl 3 rfl) ?_
          refine ky_ti (y := nI (clN k3 1 100)) (by rw [← ho3]; unfold brg; rw [if_pos hc1, if_pos hc2]) ?_
          exact keyO
        · refine lv_bipush (v := nI 100) hx hb d_M_init_194 (by decide) ?_
          refine lv_goto (tgt := 200) hx hb d_M_init_196 (by decide) ?_
          refine ky_ti (y := nI (clN k3 1 100)) (by rw [← ho3]; unfold brg; rw [if_pos hc1, if_neg hc2]) ?_
          exact keyO
      · refine lv_iconst (v := nI 1) hx hb d_M_init_184 (by decide) ?_
        refine lv_goto (tgt := 200) hx hb d_M_init_185 (by decide) ?_
        refine ky_ti (y := nI (clN k3 1 100)) (by rw [← ho3]; unfold brg; rw [if_neg hc1]) ?_
        exact keyO
    refine lv_icmp_ge (tgt := 163) hx hb d_M_init_156 (by decide) (fun hc1 => ?_) (fun hc1 => ?_)
    · refine lv_iload_n hx hb d_M_init_163 rfl (lv_at hl 2 rfl) ?_
      refine lv_bipush (v := nI 16) hx hb d_M_init_164 (by decide) ?_
      refine lv_icmp_le (tgt := 174) hx hb d_M_init_166 (by decide) (fun hc2 => ?_) (fun hc2 => ?_)
      · refine lv_iload_n hx hb d_M_init_174 rfl (lv_at hl 2 rfl) ?_
        refine ky_ti (y := nI (clN k2 1 16)) (by rw [← hn3]; unfold brg; rw [if_pos hc1, if_pos hc2]) ?_
        exact keyN
      · refine lv_bipush (v := nI 16) hx hb d_M_init_169 (by decide) ?_
        refine lv_goto (tgt := 175) hx hb d_M_init_171 (by decide) ?_
        refine ky_ti (y := nI (clN k2 1 16)) (by rw [← hn3]; unfold brg; rw [if_pos hc1, if_neg hc2]) ?_
        exact keyN
    · refine lv_iconst (v := nI 1) hx hb d_M_init_159 (by decide) ?_
      refine lv_goto (tgt := 175) hx hb d_M_init_160 (by decide) ?_
      refine ky_ti (y := nI (clN k2 1 16)) (by rw [← hn3]; unfold brg; rw [if_neg hc1]) ?_
      exact keyN
  have srch : ∀ (H : Heap) (locs : List Loc) (ls : Array Slot), kw D A s.heap H locs ([(h0, .inr (1, [.int 0, .int 0, .int 0, .ref q1, .ref q2, .ref q3, .int 0, .ref q4, .long 1, .int 0, .int 0, .ref q5, .ref q6, .ref q7, .ref q8, .int 0, .ref q9, .ref q10, .ref q11, .int (-1), .ref q12, .int 0])), (q1, .inl (cI, 100, .inl (fun _ => nI 0))), (q2, .inl (cI, 100, .inl (fun _ => nI 0))), (q3, .inl (cJ, 100, .inr (.inl (fun _ => 0)))), (q4, .inl (cJ, 16, .inr (.inl (fun _ => 0)))), (q5, .inl (cJ, 16, .inr (.inl (fun _ => 0)))), (q6, .inl (cJ, 16, .inr (.inl (fun _ => 0)))), (q7, .inl (cJ, 16, .inr (.inl (fun _ => 0)))), (q8, .inl (cJ, 32, .inr (.inl (fun _ => 0)))), (q9, .inl (cJ, 100, .inr (.inl (fun _ => 0)))), (q10, .inl (cJ, 100, .inr (.inl (fun _ => 0)))), (q11, .inl (cJ, 100, .inr (.inl (fun _ => 0)))), (q12, .inl (cJ, 16, .inr (.inl (fun _ => 0))))]) → lv_has ls 5 [(0, .ref h0), (1, .int k1), (2, .int k2), (3, .int k3), (4, .int (nI (clN k1 2 46337)))] → W p l e ((headSpec (Cond.code y_M_init b_M_init 5 none :: lw_g) ({ frames := 1, cells := 12, slots := 712, locals := 22 })).room) s m ([.ref h0, .int k1, .int k2, .int k3] : List Value).toArray below meth c H locs (0 + 1 + 1 + 1 + 1 + 1 + 1 + 1 + 1 + 1 + 1 + 1 + 1) (0 + 100 + 100 + 100 + 16 + 16 + 16 + 16 + 32 + 100 + 100 + 100 + 16) Z (F0 m 133 ls []) := by
    obtain ⟨NN, hNN⟩ : ∃ n, n = 46337 := ⟨_, rfl⟩
    have hpl : isPr NN = true := by rw [hNN]; exact isPr_last
    refine for_ri (i0 := clN k1 2 46337) (N := NN) (st := ())
      (fun (q : Nat) (_ : Unit) => ∀ (H : Heap) (locs : List Loc) (ls : Array Slot), kw D A s.heap H locs ([(h0, .inr (1, [.int 0, .int 0, .int 0, .ref q1, .ref q2, .ref q3, .int 0, .ref q4, .long 1, .int 0, .int 0, .ref q5, .ref q6, .ref q7, .ref q8, .int 0, .ref q9, .ref q10, .ref q11, .int (-1), .ref q12, .int 0])), (q1, .inl (cI, 100, .inl (fun _ => nI 0))), (q2, .inl (cI, 100, .inl (fun _ => nI 0))), (q3, .inl (cJ, 100, .inr (.inl (fun _ => 0)))), (q4, .inl (cJ, 16, .inr (.inl (fun _ => 0)))), (q5, .inl (cJ, 16, .inr (.inl (fun _ => 0)))), (q6, .inl (cJ, 16, .inr (.inl (fun _ => 0)))), (q7, .inl (cJ, 16, .inr (.inl (fun _ => 0)))), (q8, .inl (cJ, 32, .inr (.inl (fun _ => 0)))), (q9, .inl (cJ, 100, .inr (.inl (fun _ => 0)))), (q10, .inl (cJ, 100, .inr (.inl (fun _ => 0)))), (q11, .inl (cJ, 100, .inr (.inl (fun _ => 0)))), (q12, .inl (cJ, 16, .inr (.inl (fun _ => 0))))]) → lv_has ls 5 [(0, .ref h0), (1, .int k1), (2, .int k2), (3, .int k3), (4, .int (nI q))] → W p l e ((headSpec (Cond.code y_M_init b_M_init 5 none :: lw_g) ({ frames := 1, cells := 12, slots := 712, locals := 22 })).room) s m ([.ref h0, .int k1, .int k2, .int k3] : List Value).toArray below meth c H locs (0 + 1 + 1 + 1 + 1 + 1 + 1 + 1 + 1 + 1 + 1 + 1 + 1) (0 + 100 + 100 + 100 + 16 + 16 + 16 + 16 + 32 + 100 + 100 + 100 + 16) Z (F0 m 133 ls []))
      (fun (q : Nat) (_ : Unit) => ∀ j, clN k1 2 46337 ≤ j → j < q → isPr j = false)
      (by omega) (fun j h1 h2 => absurd h1 (by omega)) ?_ ?_
    · rintro q _ hq0 hq hI ih H locs ls hw hl
      refine lv_iload hx hb d_M_init_133 (lv_at hl 4 rfl) ?_
      refine ky_callSi (As := [.int (nI q)]) (rest := []) S hK hw hA hl.1 (c_M_isPrime (by omega) (by omega)) k_M_56 rfl rfl ⟨Nat.le_of_ble_eq_true rfl, Nat.le_of_ble_eq_true rfl⟩ ⟨Nat.le_of_ble_eq_true rfl, Nat.le_of_ble_eq_true rfl⟩ rfl rfl (Nat.le_of_ble_eq_true rfl) d_M_init_135 (fun r u H locs hp hw => ?_)
      subst hp
      have hw : kw D A s.heap H locs ([(h0, .inr (1, [.int 0, .int 0, .int 0, .ref q1, .ref q2, .ref q3, .int 0, .ref q4, .long 1, .int 0, .int 0, .ref q5, .ref q6, .ref q7, .ref q8, .int 0, .ref q9, .ref q10, .ref q11, .int (-1), .ref q12, .int 0])), (q1, .inl (cI, 100, .inl (fun _ => nI 0))), (q2, .inl (cI, 100, .inl (fun _ => nI 0))), (q3, .inl (cJ, 100, .inr (.inl (fun _ => 0)))), (q4, .inl (cJ, 16, .inr (.inl (fun _ => 0)))), (q5, .inl (cJ, 16, .inr (.inl (fun _ => 0)))), (q6, .inl (cJ, 16, .inr (.inl (fun _ => 0)))), (q7, .inl (cJ, 16, .inr (.inl (fun _ => 0)))), (q8, .inl (cJ, 32, .inr (.inl (fun _ => 0)))), (q9, .inl (cJ, 100, .inr (.inl (fun _ => 0)))), (q10, .inl (cJ, 100, .inr (.inl (fun _ => 0)))), (q11, .inl (cJ, 100, .inr (.inl (fun _ => 0)))), (q12, .inl (cJ, 16, .inr (.inl (fun _ => 0))))]) := hw
      refine ky_bne (tgt := 147) hx hb d_M_init_138 (by decide) (fun hpr => ?_) (fun hpr => ?_)
      · exact key q H locs ls ⟨hq0, by omega, hpr, hI⟩ hw (lv_sub hl [0, 1, 2, 3, 4] rfl)
      · refine lv_iinc (v := nI (q + 1)) (lv' := [(4, .int (nI (q + 1))), (0, .ref h0), (1, .int k1), (2, .int k2), (3, .int k3)]) hx hb d_M_init_141 hl (k := 4) rfl (nI_1 q) (by decide) rfl (fun ls hl => ?_)
        refine lv_goto (tgt := 133) hx hb d_M_init_144 (by decide) ?_
        refine ih () (fun j h1 h2 => ?_) H locs ls hw (lv_sub hl [1, 2, 3, 4, 0] rfl)
        rcases Nat.lt_or_ge j q with q1 | q1
        · exact hI j h1 q1
        · have e1 : j = q := by omega
          rw [e1]; exact hpr
    · rintro _ hI H locs ls hw hl
      refine lv_iload hx hb d_M_init_133 (lv_at hl 4 rfl) ?_
      refine ky_callSi (As := [.int (nI NN)]) (rest := []) S hK hw hA hl.1 (c_M_isPrime (k := NN) (by omega) (by omega)) k_M_56 rfl rfl ⟨Nat.le_of_ble_eq_true rfl, Nat.le_of_ble_eq_true rfl⟩ ⟨Nat.le_of_ble_eq_true rfl, Nat.le_of_ble_eq_true rfl⟩ rfl rfl (Nat.le_of_ble_eq_true rfl) d_M_init_135 (fun r u H locs hp hw => ?_)
      subst hp
      have hw : kw D A s.heap H locs ([(h0, .inr (1, [.int 0, .int 0, .int 0, .ref q1, .ref q2, .ref q3, .int 0, .ref q4, .long 1, .int 0, .int 0, .ref q5, .ref q6, .ref q7, .ref q8, .int 0, .ref q9, .ref q10, .ref q11, .int (-1), .ref q12, .int 0])), (q1, .inl (cI, 100, .inl (fun _ => nI 0))), (q2, .inl (cI, 100, .inl (fun _ => nI 0))), (q3, .inl (cJ, 100, .inr (.inl (fun _ => 0)))), (q4, .inl (cJ, 16, .inr (.inl (fun _ => 0)))), (q5, .inl (cJ, 16, .inr (.inl (fun _ => 0)))), (q6, .inl (cJ, 16, .inr (.inl (fun _ => 0)))), (q7, .inl (cJ, 16, .inr (.inl (fun _ => 0)))), (q8, .inl (cJ, 32, .inr (.inl (fun _ => 0)))), (q9, .inl (cJ, 100, .inr (.inl (fun _ => 0)))), (q10, .inl (cJ, 100, .inr (.inl (fun _ => 0)))), (q11, .inl (cJ, 100, .inr (.inl (fun _ => 0)))), (q12, .inl (cJ, 16, .inr (.inl (fun _ => 0))))]) := hw
      refine ky_bne (tgt := 147) hx hb d_M_init_138 (by decide) (fun hpr => ?_) (fun hpr => absurd hpr (by rw [hpl]; decide))
      exact key NN H locs ls ⟨by omega, by omega, hpr, hI⟩ hw (lv_sub hl [0, 1, 2, 3, 4] rfl)
  refine lv_icmp_ge (tgt := 119) hx hb d_M_init_112 (by decide) (fun hc1 => ?_) (fun hc1 => ?_)
  · refine lv_iload_n hx hb d_M_init_119 rfl (lv_at hl 1 rfl) ?_
    refine lv_ldc (v := nI 46337) hx hb hown (hts _ q1_191) d_M_init_120 ?_
    refine lv_icmp_le (tgt := 130) hx hb d_M_init_122 (by decide) (fun hc2 => ?_) (fun hc2 => ?_)
    · refine lv_iload_n hx hb d_M_init_130 rfl (lv_at hl 1 rfl) ?_
      refine ky_ti (y := nI (clN k1 2 46337)) (by rw [← hq3]; unfold brg; rw [if_pos hc1, if_pos hc2]) ?_
      refine lv_istore (lv' := [(4, .int (nI (clN k1 2 46337))), (0, .ref h0), (1, .int k1), (2, .int k2), (3, .int k3)]) hx hb d_M_init_131 hl (by decide) rfl (fun ls hl => ?_)
      exact srch _ _ _ hw (lv_sub hl [1, 2, 3, 4, 0] rfl)
    · refine lv_ldc (v := nI 46337) hx hb hown (hts _ q1_191) d_M_init_125 ?_
      refine lv_goto (tgt := 131) hx hb d_M_init_127 (by decide) ?_
      refine ky_ti (y := nI (clN k1 2 46337)) (by rw [← hq3]; unfold brg; rw [if_pos hc1, if_neg hc2]) ?_
      refine lv_istore (lv' := [(4, .int (nI (clN k1 2 46337))), (0, .ref h0), (1, .int k1), (2, .int k2), (3, .int k3)]) hx hb d_M_init_131 hl (by decide) rfl (fun ls hl => ?_)
      exact srch _ _ _ hw (lv_sub hl [1, 2, 3, 4, 0] rfl)
  · refine lv_iconst (v := nI 2) hx hb d_M_init_115 (by decide) ?_
    refine lv_goto (tgt := 131) hx hb d_M_init_116 (by decide) ?_
    refine ky_ti (y := nI (clN k1 2 46337)) (by rw [← hq3]; unfold brg; rw [if_neg hc1]) ?_
    refine lv_istore (lv' := [(4, .int (nI (clN k1 2 46337))), (0, .ref h0), (1, .int k1), (2, .int k2), (3, .int k3)]) hx hb d_M_init_131 hl (by decide) rfl (fun ls hl => ?_)
    exact srch _ _ _ hw (lv_sub hl [1, 2, 3, 4, 0] rfl)
end
section
/-! pure: the draws, the two inverses: desk and model come to the same -/
-- rows of kit/laws/BITS.to-paste
theorem wb_tb (n : Nat) : (lN n).toBitVec = BitVec.ofNat 64 n := rfl
theorem wb_inj {a b : Int64} (h : a.toBitVec = b.toBitVec) : a = b := Int64.toBitVec_inj.mp h
theorem wb_lt2 {a b : Nat} (h : a < b) : 2 ^ a < 2 ^ b := Nat.pow_lt_pow_right (by decide) h
theorem wb_and {a b : Nat} (ha : a < 2 ^ 64) (hb : b < 2 ^ 64) : lN a &&& lN b = lN (a &&& b) := by
  apply wb_inj
  rw [Int64.toBitVec_and, wb_tb, wb_tb, wb_tb]
  apply BitVec.eq_of_toNat_eq
  rw [BitVec.toNat_and, BitVec.toNat_ofNat, BitVec.toNat_ofNat, BitVec.toNat_ofNat, Nat.mod_eq_of_lt ha, Nat.mod_eq_of_lt hb, Nat.mod_eq_of_lt (Nat.and_lt_two_pow _ hb)]
theorem wb_mask {n k : Nat} (hn : n < 2 ^ 64) (hk : k < 64) : lN n &&& lN (2 ^ k - 1) = lN (n % 2 ^ k) := by
  rw [wb_and hn (by have := wb_lt2 hk; omega), Nat.and_two_pow_sub_one_eq_mod]
theorem pf_lI {a : Nat} (h : a < 2 ^ 63) : (lN a).toInt = (a : Int) := lg_ofNat_toInt h
theorem pf_shr {a d : Nat} {D : Int64} (hD : (D.toBitVec.smod 64).toNat = d) (h : a < 2 ^ 62) : lN a >>> D = lN (a / 2 ^ d) := by
  have hd : a / 2 ^ d ≤ a := Nat.div_le_self _ _
  apply Int64.toInt_inj.mp
  have e : (lN a >>> D).toInt = (lN a).toInt >>> d := by
    rw [← hD]
    exact BitVec.toInt_sshiftRight ..
  rw [e, Int.shiftRight_eq_div_pow, pf_lI (by omega), pf_lI (by omega)]
  rfl
-- the generator
def nxG (G : Nat) : Nat := (1103515245 * G + 12345) % 2147483648
theorem nxG_lt (G : Nat) : nxG G < 2147483648 := Nat.mod_lt _ (by decide)
theorem lcg (G : Nat) : (1103515245 : Int64) * lN G + 12345 = lN (1103515245 * G + 12345) := by
  rw [show (1103515245 : Int64) = lN 1103515245 from rfl, show (12345 : Int64) = lN 12345 from rfl, lN_mul, lN_add]
theorem gD_lN {G : Nat} (h : G < 2147483648) : gD (lN G) = lN (nxG G) := by
  unfold gD nxG
  rw [lcg, show (2147483647 : Int64) = lN (2 ^ 31 - 1) from rfl, wb_mask (by omega) (by decide)]
theorem rmd_lN {a b : Nat} (ha : a < 2 ^ 63) (h0 : 0 < b) (hb : b < 2 ^ 63) : rmd (lN a) (lN b) = lN (a % b) := by
  unfold rmd
  exact pk_lRem ha h0 hb
theorem gM_lN {G : Nat} (h : G < 2147483648) : gM (lN G) = lN (nxG G) := by
  unfold gM nxG
  rw [lcg, show (2147483648 : Int64) = lN 2147483648 from rfl, rmd_lN (by omega) (by decide) (by decide)]
theorem dr_eq {P G : Nat} (h0 : 2 ≤ P) (hP : P ≤ 46337) (hG : G < 2147483648) : (dD P (lN G)).toInt64 = dM P (lN G) := by
  have hn := nxG_lt G
  unfold dD dM
  rw [gD_lN hG, gM_lN hG]
  have e1 : lN (nxG G) >>> ((nI 16).toInt64 &&& 63) = lN (nxG G / 2 ^ 16) := pf_shr (by decide) (by omega)
  have e2 : lN (nxG G) / 65536 = lN (nxG G / 65536) := by
    rw [show (65536 : Int64) = lN 65536 from rfl]
    exact pk_lDiv (by omega) (by decide) (by decide)
  have hm : nxG G / 65536 % P < P := Nat.mod_lt _ (by omega)
  rw [e1, e2, show (2 : Nat) ^ 16 = 65536 from rfl, rmd_lN (by omega) (by omega) (by omega), lN_i, nI_l (by omega)]
theorem gS_eq {G : Nat} (h : G < 2147483648) (i : Nat) : ∃ G', G' < 2147483648 ∧ gS gD (lN G) i = lN G' ∧ gS gM (lN G) i = lN G' := by
  induction i with
  | zero => exact ⟨G, h, rfl, rfl⟩
  | succ i ih =>
    obtain ⟨G', h1, h2, h3⟩ := ih
    refine ⟨nxG G', nxG_lt _, ?_, ?_⟩
    · show gD (gS gD (lN G) i) = _
      rw [h2, gD_lN h1]
    · show gM (gS gM (lN G) i) = _
      rw [h3, gM_lN h1]
theorem rowA_eq {P N M G : Nat} {fr fc : Nat → Nat} {V b : Nat → Int64} (h0 : 2 ≤ P) (hP : P ≤ 46337) (hG : G < 2147483648) : rowA P N M fr fc V b gD (fun g => (dD P g).toInt64) (lN G) = rowA P N M fr fc V b gM (dM P) (lN G) := by
  have e : (fun j => (dD P (gS gD (lN G) j)).toInt64) = fun j => dM P (gS gM (lN G) j) := by
    funext j
    obtain ⟨G', h1, h2, h3⟩ := gS_eq hG j
    rw [h2, h3, dr_eq h0 hP h1]
  unfold rowA
  rw [e]
theorem seed_eq (k : Int32) : ∃ G, G < 2147483648 ∧ (k.toInt64 &&& 2147483647) = lN G ∧ (k &&& nI 2147483647).toInt64 = lN G := by
  refine ⟨k.toBitVec.toNat % 2147483648, Nat.mod_lt _ (by decide), ?_, ?_⟩
  · have hm : k.toInt64 = lN k.toInt64.toBitVec.toNat := wb_inj (by rw [wb_tb]; simp)
    have h1 : k.toInt64.toInt = k.toInt := Int32.toInt_toInt64 k
    have h2 : k.toInt64.toInt = k.toInt64.toBitVec.toInt := rfl
    have h3 : k.toInt = k.toBitVec.toInt := rfl
    rw [h2, h3, BitVec.toInt_eq_toNat_cond, BitVec.toInt_eq_toNat_cond] at h1
    have b1 := k.toInt64.toBitVec.isLt
    have b2 := k.toBitVec.isLt
    rw [hm, show (2147483647 : Int64) = lN (2 ^ 31 - 1) from rfl, wb_mask b1 (by decide)]
    congr 1
    generalize k.toInt64.toBitVec.toNat = m1 at *
    generalize k.toBitVec.toNat = m2 at *
    split at h1 <;> split at h1 <;> omega
  · rw [pk_and k 31 (by decide), nI_l (Nat.mod_lt _ (by decide))]
-- remainders of products and powers
theorem tm_mul {P a b c d : Int} (h1 : a.tmod P = b.tmod P) (h2 : c.tmod P = d.tmod P) : (a * c).tmod P = (b * d).tmod P := by
  rw [Int.mul_tmod, h1, h2, ← Int.mul_tmod]
theorem tm_pow {P a b : Int} (h : a.tmod P = b.tmod P) (k : Nat) : (a ^ k).tmod P = (b ^ k).tmod P := by
  induction k with
  | zero => rw [Int.pow_zero, Int.pow_zero]
  | succ k ih =>
    rw [Int.pow_succ, Int.pow_succ]
    exact tm_mul ih h
theorem em_mul {P a b c d : Int} (h1 : a % P = b % P) (h2 : c % P = d % P) : (a * c) % P = (b * d) % P := by
  rw [Int.mul_emod, h1, h2, ← Int.mul_emod]
theorem em_pow {P a b : Int} (h : a % P = b % P) (k : Nat) : (a ^ k) % P = (b ^ k) % P := by
  induction k with
  | zero => rw [Int.pow_zero, Int.pow_zero]
  | succ k ih =>
    rw [Int.pow_succ, Int.pow_succ]
    exact em_mul ih h
theorem tm_small {P : Nat} {a : Int} (h : a.natAbs < P) : a.tmod P = a := by
  rcases Int.le_total 0 a with q | q
  · exact Int.tmod_eq_of_lt q (by omega)
  · have e : (-a).tmod P = -a := Int.tmod_eq_of_lt (by omega) (by omega)
    rw [Int.neg_tmod] at e
    omega
theorem mul_bd {a b : Int} (ha : a.natAbs ≤ 46337) (hb : b.natAbs ≤ 46337) : (a * b).natAbs ≤ 2147117569 := by
  rw [Int.natAbs_mul]
  exact Nat.mul_le_mul ha hb
theorem l_mul {x y : Int64} (hx : x.toInt.natAbs ≤ 46337) (hy : y.toInt.natAbs ≤ 46337) : (x * y).toInt = x.toInt * y.toInt := by
  have h := mul_bd hx hy
  rw [Int64.toInt_mul, Int.bmod_eq_of_le (by omega) (by omega)]
theorem rmd_mul {P : Nat} {x y : Int64} (hP : P ≤ 46337) (hx : x.toInt.natAbs ≤ 46337) (hy : y.toInt.natAbs ≤ 46337) : (rmd (x * y) (lN P)).toInt = (x.toInt * y.toInt).tmod P := by
  rw [rmd_toInt (by omega), l_mul hx hy]
theorem rmd_bd {P : Nat} (h0 : 0 < P) (hP : P ≤ 46337) (z : Int64) : (rmd z (lN P)).toInt.natAbs < P := by
  have h := tm_bd h0 z.toInt
  rw [rmd_toInt (by omega)]
  omega
theorem ivl_ok {P : Nat} (h2 : 2 ≤ P) (hP : P ≤ 46337) : ∀ (n e : Nat) (x r : Int64), e < 2 ^ n → x.toInt.natAbs ≤ 46337 → r.toInt.natAbs < P → (ivl (lN P) n e x r).toInt.natAbs < P ∧ (ivl (lN P) n e x r).toInt.tmod P = (r.toInt * x.toInt ^ e).tmod P := by
  intro n
  induction n with
  | zero =>
    intro e x r he hx hr
    have e0 : e = 0 := by have : e < 1 := he; omega
    subst e0
    exact ⟨hr, by rw [Int.pow_zero, Int.mul_one]; rfl⟩
  | succ n ih =>
    intro e x r he hx hr
    have he2 : e / 2 < 2 ^ n := by rw [Nat.pow_succ] at he; omega
    have hx2 := rmd_bd (P := P) (by omega) hP (x * x)
    have ex2 : (rmd (x * x) (lN P)).toInt.tmod P = (x.toInt * x.toInt).tmod P := by rw [rmd_mul hP hx hx, Int.tmod_tmod]
    have epow := tm_pow (P := P) ex2 (e / 2)
    show (ivl (lN P) n (e / 2) (rmd (x * x) (lN P)) (if e % 2 = 1 then rmd (r * x) (lN P) else r)).toInt.natAbs < P ∧ (ivl (lN P) n (e / 2) (rmd (x * x) (lN P)) (if e % 2 = 1 then rmd (r * x) (lN P) else r)).toInt.tmod P = _
    by_cases hb : e % 2 = 1
    · rw [if_pos hb]
      have hr2 := rmd_bd (P := P) (by omega) hP (r * x)
      obtain ⟨a1, a2⟩ := ih (e / 2) (rmd (x * x) (lN P)) (rmd (r * x) (lN P)) he2 (by omega) hr2
      refine ⟨a1, ?_⟩
      have er : (rmd (r * x) (lN P)).toInt.tmod P = (r.toInt * x.toInt).tmod P := by rw [rmd_mul hP (by omega) hx, Int.tmod_tmod]
      rw [a2, tm_mul er epow]
      have ee : e = 2 * (e / 2) + 1 := by omega
      congr 1
      conv => rhs; rw [ee]
      rw [Int.pow_succ', Int.pow_mul, Int.pow_succ, Int.pow_one, Int.mul_assoc]
    · rw [if_neg hb]
      obtain ⟨a1, a2⟩ := ih (e / 2) (rmd (x * x) (lN P)) r he2 (by omega) hr
      refine ⟨a1, ?_⟩
      rw [a2, tm_mul rfl epow]
      have ee : e = 2 * (e / 2) := by omega
      congr 1
      conv => rhs; rw [ee]
      rw [Int.pow_mul, Int.pow_succ, Int.pow_one]
theorem pwl_ok {P e : Nat} {x : Int64} (h2 : 2 ≤ P) (hP : P ≤ 46337) (hx : x.toInt.natAbs ≤ 46337) : ∀ (n : Nat) (r : Int64), r.toInt.natAbs < P → (pwl (lN P) x e n r).toInt.natAbs < P ∧ (pwl (lN P) x e n r).toInt.tmod P = (r.toInt ^ (2 ^ n) * x.toInt ^ (e % 2 ^ n)).tmod P := by
  intro n
  induction n with
  | zero =>
    intro r hr
    refine ⟨hr, ?_⟩
    show r.toInt.tmod P = _
    rw [Nat.pow_zero, Nat.mod_one, Int.pow_zero, Int.mul_one, Int.pow_one]
  | succ n ih =>
    intro r hr
    have hr1 := rmd_bd (P := P) (by omega) hP (r * r)
    have er1 : (rmd (r * r) (lN P)).toInt.tmod P = (r.toInt * r.toInt).tmod P := by rw [rmd_mul hP (by omega) (by omega), Int.tmod_tmod]
    have e2 : r.toInt ^ (2 ^ (n + 1)) = (r.toInt * r.toInt) ^ (2 ^ n) := by
      rw [Nat.pow_succ', Int.pow_mul, Int.pow_succ, Int.pow_one]
    show (pwl (lN P) x e n (if e / 2 ^ n % 2 = 1 then rmd (rmd (r * r) (lN P) * x) (lN P) else rmd (r * r) (lN P))).toInt.natAbs < P ∧ (pwl (lN P) x e n (if e / 2 ^ n % 2 = 1 then rmd (rmd (r * r) (lN P) * x) (lN P) else rmd (r * r) (lN P))).toInt.tmod P = _
    rw [Nat.mod_pow_succ, e2]
    by_cases hb : e / 2 ^ n % 2 = 1
    · rw [if_pos hb, hb, Nat.mul_one]
      have hr2 := rmd_bd (P := P) (by omega) hP (rmd (r * r) (lN P) * x)
      obtain ⟨a1, a2⟩ := ih _ hr2
      refine ⟨a1, ?_⟩
      have er2 : (rmd (rmd (r * r) (lN P) * x) (lN P)).toInt.tmod P = (r.toInt * r.toInt * x.toInt).tmod P := by
        rw [rmd_mul hP (by omega) hx, Int.tmod_tmod]
        exact tm_mul er1 rfl
      rw [a2, tm_mul (tm_pow er2 _) rfl, Int.mul_pow (a := r.toInt * r.toInt), Int.pow_add, Int.mul_assoc, Int.mul_comm (x.toInt ^ 2 ^ n)]
    · have hb0 : e / 2 ^ n % 2 = 0 := by omega
      rw [if_neg hb, hb0, Nat.mul_zero, Nat.add_zero]
      obtain ⟨a1, a2⟩ := ih _ hr1
      exact ⟨a1, by rw [a2, tm_mul (tm_pow er1 _) rfl]⟩
theorem l_1 : (1 : Int64).toInt = 1 := by decide
theorem ivD_toInt {P : Nat} {z : Int64} (h2 : 2 ≤ P) (hP : P ≤ 46337) (hz : z.toInt.natAbs ≤ 46337) : (ivD P z).toInt = (z.toInt ^ (P - 2)).tmod P ∧ (ivD P z).toInt.natAbs < P := by
  obtain ⟨a1, a2⟩ := ivl_ok h2 hP 31 (P - 2) z 1 (by omega) hz (by rw [l_1]; show 1 < P; omega)
  rw [l_1, Int.one_mul, tm_small a1] at a2
  exact ⟨a2, a1⟩
theorem ivM_toInt {P : Nat} {z : Int64} (h2 : 2 ≤ P) (hP : P ≤ 46337) (hz : z.toInt.natAbs ≤ 46337) : (ivM P z).toInt = (z.toInt ^ (P - 2)).tmod P ∧ (ivM P z).toInt.natAbs < P := by
  obtain ⟨a1, a2⟩ := pwl_ok (e := P - 2) h2 hP hz 31 1 (by rw [l_1]; show 1 < P; omega)
  rw [l_1, Int.one_pow, Int.one_mul, tm_small a1, Nat.mod_eq_of_lt (by omega)] at a2
  exact ⟨a2, a1⟩
theorem iv_eq {P : Nat} {z : Int64} (h2 : 2 ≤ P) (hP : P ≤ 46337) (hz : z.toInt.natAbs ≤ 46337) : ivD P z = ivM P z :=
  Int64.toInt_inj.mp ((ivD_toInt h2 hP hz).1.trans (ivM_toInt h2 hP hz).1.symm)
theorem l_neg_toInt {x : Int64} (h : x.toInt.natAbs ≤ 46337) : (-x).toInt = -x.toInt := by
  rw [Int64.toInt_neg, Int.bmod_eq_of_le (by omega) (by omega)]
theorem by_eq {P : Nat} {z : Int64} (h2 : 2 ≤ P) (hP : P ≤ 46337) (ho : P % 2 = 1 ∨ P = 2) (hz : z.toInt.natAbs ≤ 46337) : wi P (-(ivD P z)) = ivM P (wi P (-z)) := by
  apply Int64.toInt_inj.mp
  obtain ⟨a1, a2⟩ := ivD_toInt h2 hP hz
  have hw := wi_bd (P := P) (by omega) (by omega) (-z)
  obtain ⟨b1, b2⟩ := ivM_toInt (z := wi P (-z)) h2 hP (by omega)
  have hpos : 0 ≤ (wi P (-z)).toInt ^ (P - 2) := Int.pow_nonneg hw.1
  rw [wi_toInt (by omega) (by omega), l_neg_toInt (by omega), b1, Int.tmod_eq_emod_of_nonneg hpos, a1]
  have e1 : (wi P (-z)).toInt % P = (-z.toInt) % P := by rw [wi_toInt (by omega) (by omega), l_neg_toInt hz, Int.emod_emod]
  rw [em_pow e1]
  have e2 : (-(z.toInt ^ (P - 2)).tmod P) % (P : Int) = (-(z.toInt ^ (P - 2))) % P := by
    rw [← Int.neg_tmod]
    exact tm_emod _ _
  rw [e2]
  rcases ho with ho | ho
  · congr 1
    rw [Int.neg_pow, show (P - 2) % 2 = 1 by omega, Int.pow_one, Int.neg_one_mul]
  · subst ho
    rw [show (2 - 2 : Nat) = 0 from rfl, Int.pow_zero, Int.pow_zero]
    rfl
-- the recurrence
theorem offF_bd {P k : Nat} {c row : Nat → Int64} (h0 : 0 < P) (hP : P ≤ 46337) (hr : ∀ j, (row j).toInt.natAbs < P) (i : Nat) : (offF P c row k i).toInt.natAbs < P := by
  cases i with
  | zero => exact hr k
  | succ i => exact rmd_bd h0 hP _
theorem bm_eq {P : Nat} {row : Nat → Int64} (h2 : 2 ≤ P) (hP : P ≤ 46337) (hr : ∀ j, (row j).toInt.natAbs < P) (k : Nat) : bm P (ivD P) row k = bm P (ivM P) row k ∧ (bm P (ivD P) row k).2.2.2.2.toInt.natAbs < P ∧ ∀ j, ((bm P (ivD P) row k).1 j).toInt.natAbs < P := by
  induction k with
  | zero =>
    refine ⟨rfl, ?_, fun j => ?_⟩
    · show (1 : Int64).toInt.natAbs < P
      rw [l_1]; show 1 < P; omega
    · show (dl0 j).toInt.natAbs < P
      unfold dl0
      split
      · rw [l_1]; show 1 < P; omega
      · rw [Int64.toInt_zero]; show 0 < P; omega
  | succ k ih =>
    obtain ⟨i1, i2, i3⟩ := ih
    have e1 : bm P (ivM P) row (k + 1) = bmS P (ivM P) row k (bm P (ivD P) row k) := by rw [i1]; rfl
    have e2 : bm P (ivD P) row (k + 1) = bmS P (ivD P) row k (bm P (ivD P) row k) := rfl
    rw [e1, e2]
    generalize bm P (ivD P) row k = q at i2 i3 ⊢
    obtain ⟨c, f, len, sh, la⟩ := q
    have i2 : la.toInt.natAbs < P := i2
    have i3 : ∀ j, (c j).toInt.natAbs < P := i3
    have hiv : ivD P la = ivM P la := iv_eq h2 hP (by omega)
    have hc : ∀ by_ j, (cUp P by_ sh c f j).toInt.natAbs < P := by
      intro by_ j
      unfold cUp
      split
      · have := wi_bd (P := P) (by omega) (by omega) (c j - by_ * f (j - sh))
        omega
      · exact i3 j
    unfold bmS
    simp only [hiv]
    refine ⟨trivial, ?_, ?_⟩
    · split
      · exact i2
      · split
        · exact offF_bd (by omega) hP hr len
        · exact i2
    · split
      · exact i3
      · split
        · exact hc _
        · exact hc _
theorem rowA_bd {P N M : Nat} {fr fc : Nat → Nat} {V b : Nat → Int64} {G dr : Int64 → Int64} {g : Int64} (h0 : 0 < P) (hP : P ≤ 46337) (j : Nat) : (rowA P N M fr fc V b G dr g j).toInt.natAbs < P := by
  unfold rowA
  cases N with
  | zero => show (0 : Int64).toInt.natAbs < P; rw [Int64.toInt_zero]; exact h0
  | succ n => exact rmd_bd h0 hP _
theorem svA_congr {P N M : Nat} {fr fc : Nat → Nat} {V b : Nat → Int64} {f1 f2 : Int64 → Int64} {q : BS} (h : f1 (q.1 q.2.2.1) = f2 (q.1 q.2.2.1)) : xA P M fr fc V b f1 q = xA P M fr fc V b f2 q ∧ svA P N M fr fc V b f1 q = svA P N M fr fc V b f2 q := by
  have e : xA P M fr fc V b f1 q = xA P M fr fc V b f2 q := by
    unfold xA
    rw [h]
  exact ⟨e, by unfold svA; rw [e]⟩
theorem att_eq {P N M G : Nat} {fr fc : Nat → Nat} {V b : Nat → Int64} {T : TS} (h2 : 2 ≤ P) (hP : P ≤ 46337) (ho : P % 2 = 1 ∨ P = 2) (hG : G < 2147483648) (hT : T.1 = lN G) : attD P N M fr fc V b T = attM P N M fr fc V b T ∧ attDR P N M fr fc V b T = attMR P N M fr fc V b T ∧ ∃ G', G' < 2147483648 ∧ (attM P N M fr fc V b T).1 = lN G' := by
  have hrow : rowA P N M fr fc V b gD (fun g => (dD P g).toInt64) T.1 = rowA P N M fr fc V b gM (dM P) T.1 := by rw [hT]; exact rowA_eq h2 hP hG
  obtain ⟨hb1, hb2, hb3⟩ := bm_eq h2 hP (rowA_bd (N := N) (M := M) (fr := fr) (fc := fc) (V := V) (b := b) (G := gM) (dr := dM P) (g := T.1) (by omega) hP) (2 * N)
  obtain ⟨G', g1, g2, g3⟩ := gS_eq hG N
  have hby : (fun c => wi P (-(ivD P c))) ((bm P (ivM P) (rowA P N M fr fc V b gM (dM P) T.1) (2 * N)).1 (bm P (ivM P) (rowA P N M fr fc V b gM (dM P) T.1) (2 * N)).2.2.1) = (fun c => ivM P (wi P (-c))) ((bm P (ivM P) (rowA P N M fr fc V b gM (dM P) T.1) (2 * N)).1 (bm P (ivM P) (rowA P N M fr fc V b gM (dM P) T.1) (2 * N)).2.2.1) := by
    rw [← hb1]
    exact by_eq h2 hP ho (Nat.le_trans (Nat.le_of_lt (hb3 _)) hP)
  obtain ⟨hx1, hx2⟩ := svA_congr (P := P) (N := N) (M := M) (fr := fr) (fc := fc) (V := V) (b := b) (f1 := fun c => wi P (-(ivD P c))) (f2 := fun c => ivM P (wi P (-c))) (q := bm P (ivM P) (rowA P N M fr fc V b gM (dM P) T.1) (2 * N)) hby
  refine ⟨?_, ?_, G', g1, ?_⟩
  · unfold attD attM att
    rw [hrow, hb1]
    unfold attQ
    rw [hx1, hx2, hT, g2, g3]
  · unfold attDR attMR attR
    rw [hrow, hb1, hx2]
  · show gS gM T.1 N = lN G'
    rw [hT, g3]
theorem slv_eq {P N M : Nat} {fr fc : Nat → Nat} {V b : Nat → Int64} (h2 : 2 ≤ P) (hP : P ≤ 46337) (ho : P % 2 = 1 ∨ P = 2) : ∀ (n : Nat) (told : Int32) (T : TS), (∃ G, G < 2147483648 ∧ T.1 = lN G) → slv (attD P N M fr fc V b) (attDR P N M fr fc V b) n told T = slv (attM P N M fr fc V b) (attMR P N M fr fc V b) n told T ∧ ∃ G, G < 2147483648 ∧ (slv (attM P N M fr fc V b) (attMR P N M fr fc V b) n told T).2.1 = lN G := by
  intro n
  induction n with
  | zero =>
    intro told T hG
    refine ⟨?_, hG⟩
    show (told, T) = (told, T)
    rfl
  | succ n ih =>
    intro told T hG
    obtain ⟨G, g1, g2⟩ := hG
    obtain ⟨e1, e2, e3⟩ := att_eq (N := N) (M := M) (fr := fr) (fc := fc) (V := V) (b := b) h2 hP ho g1 g2
    show (if told = 0 then _ else _) = (if told = 0 then _ else _) ∧ _
    by_cases h : told = 0
    · rw [if_pos h, if_pos h]
      refine ⟨rfl, G, g1, ?_⟩
      show (if told = 0 then (told, T) else _).2.1 = _
      rw [if_pos h]; exact g2
    · rw [if_neg h, if_neg h, e1, e2]
      obtain ⟨i1, i2⟩ := ih (attMR P N M fr fc V b T) (attM P N M fr fc V b T) e3
      refine ⟨i1, ?_⟩
      show ∃ G, G < 2147483648 ∧ (if told = 0 then (told, T) else slv (attM P N M fr fc V b) (attMR P N M fr fc V b) n (attMR P N M fr fc V b T) (attM P N M fr fc V b T)).2.1 = lN G
      rw [if_neg h]; exact i2
theorem sol_eq {P N M G : Nat} {fr fc : Nat → Nat} {V b : Nat → Int64} {T : TS} {k : Int32} (h2 : 2 ≤ P) (hP : P ≤ 46337) (ho : P % 2 = 1 ∨ P = 2) (hG : G < 2147483648) (hT : T.1 = lN G) : sol (attD P N M fr fc V b) (attDR P N M fr fc V b) k T = sol (attM P N M fr fc V b) (attMR P N M fr fc V b) k T ∧ ∃ G', G' < 2147483648 ∧ (sol (attM P N M fr fc V b) (attMR P N M fr fc V b) k T).2.1 = lN G' := by
  unfold sol
  by_cases h : wth k (nI 1) (nI 50) = true
  · rw [if_pos h, if_pos h]
    obtain ⟨e1, e2, e3⟩ := att_eq (N := N) (M := M) (fr := fr) (fc := fc) (V := V) (b := b) h2 hP ho hG hT
    rw [e1, e2]
    exact slv_eq h2 hP ho _ _ _ e3
  · rw [if_neg h, if_neg h]
    exact ⟨rfl, G, hG, hT⟩
theorem isPr_odd {P : Nat} (h2 : 2 ≤ P) (h : isPr P = true) : P % 2 = 1 ∨ P = 2 := by
  rcases Nat.lt_or_ge P 4 with q | q
  · omega
  · have := (isPr_iff P).mp h 2 (by decide) (by decide) q
    omega
theorem lstP_uniq {q P P' : Nat} (h : lstP q P) (h' : lstP q P') : P = P' := by
  obtain ⟨a1, a2, a3, a4⟩ := h
  obtain ⟨b1, b2, b3, b4⟩ := h'
  rcases Nat.lt_trichotomy P P' with q1 | q1 | q1
  · have := b4 P a1 q1
    rw [a3] at this
    exact absurd this (by decide)
  · exact q1
  · have := a4 P' b1 q1
    rw [b3] at this
    exact absurd this (by decide)
end
section
/-! rows for the law: two objects side by side, the script, the calls -/
section
variable {p : Program} {l : Launch} {e : Env} {R : Room} {s : State} {m : MethodId} {args : Array Value} {below : List Frame} {meth : Method} {c : Code} {H H0 H1 : Heap} {locs locs1 : List Loc} {cells slots : Nat} {Q : State → Prop} {cc : ByteArray} {pc nL : Nat} {ls : Array Slot} {rest st0 : List Value} {D : va_G} {tys : List (ClassId × FieldType)} {w1 w2 w1' w2' : va_W} {A : Nat → Prop} {a : Nat} {own : String}
theorem ap_l {i : Nat} {q : Nat × va_E} (h : w1[i]? = some q) : (w1 ++ w2)[i]? = some q := by
  rw [List.getElem?_append_left (List.getElem?_eq_some_iff.mp h).1]
  exact h
theorem ap_r {i : Nat} {q : Nat × va_E} (h : w2[i]? = some q) : (w1 ++ w2)[w1.length + i]? = some q := by
  rw [List.getElem?_append_right (Nat.le_add_right _ _), Nat.add_sub_cancel_left]
  exact h
theorem kw_l (hw : kw D A H0 H locs (w1 ++ w2)) : kw D A H0 H locs w1 :=
  ⟨fun k q h => hw.1 k q (ap_l h), ⟨fun i j p q h1 h2 h3 => hw.2.1.1 i j p q (ap_l h1) (ap_l h2) h3, fun k q h => hw.2.1.2 k q (ap_l h)⟩, hw.2.2⟩
theorem kw_r (hw : kw D A H0 H locs (w1 ++ w2)) : kw D A H0 H locs w2 :=
  ⟨fun k q h => hw.1 _ q (ap_r h), ⟨fun i j p q h1 h2 h3 => by have := hw.2.1.1 _ _ p q (ap_r h1) (ap_r h2) h3; omega, fun k q h => hw.2.1.2 _ q (ap_r h)⟩, hw.2.2⟩
theorem kw_ne (hw : kw D A H0 H locs (w1 ++ w2)) (i j : Nat) (p q : Nat × va_E) (h1 : w1[i]? = some p) (h2 : w2[j]? = some q) : p.1 ≠ q.1 := by
  intro h
  have := hw.2.1.1 _ _ p q (ap_l h1) (ap_r h2) h
  have := (List.getElem?_eq_some_iff.mp h1).1
  omega
theorem kw_gl (hw : kw D A H0 H locs (w1 ++ w2)) (hA : ∀ q, H0.size ≤ q → A q) (hP1 : va_P D classes w1' H1) (hD1 : va_D (va_A w1 H.size) w1') (hk : ∀ q : Nat, q < H.size → ¬ va_A w1 H.size q → H1[q]? = H[q]?) (hS : va_S A H0 H1 locs1) : kw D A H0 H1 locs1 (w1' ++ w2) := by
  have hl := kw_l hw
  have hr := kw_r hw
  have hF := ky_free hl hA
  have hno : ∀ (j : Nat) (q : Nat × va_E), w2[j]? = some q → ¬ va_A w1 H.size q.1 := by
    rintro j q hj (⟨k, e, h⟩ | h)
    · exact kw_ne hw k j _ q h hj rfl
    · have := va_at.lt (hr.1 j q hj)
      omega
  refine ⟨hP1.app (hr.1.kept (fun k q hq => hk q.1 (va_at.lt (hr.1 k q hq)) (hno k q hq))), (hD1.weaken (fun _ _ _ h => hF _ h)).app hr.2.1 ?_, hS⟩
  intro i j p q h1 h2 h3
  exact hno j q h2 (h3 ▸ hD1.2 i p h1)
theorem kw_gr (hw : kw D A H0 H locs (w1 ++ w2)) (hA : ∀ q, H0.size ≤ q → A q) (hP1 : va_P D classes w2' H1) (hD1 : va_D (va_A w2 H.size) w2') (hk : ∀ q : Nat, q < H.size → ¬ va_A w2 H.size q → H1[q]? = H[q]?) (hS : va_S A H0 H1 locs1) : kw D A H0 H1 locs1 (w1 ++ w2') := by
  have hl := kw_l hw
  have hr := kw_r hw
  have hF := ky_free hr hA
  have hno : ∀ (j : Nat) (q : Nat × va_E), w1[j]? = some q → ¬ va_A w2 H.size q.1 := by
    rintro j q hj (⟨k, e, h⟩ | h)
    · exact kw_ne hw j k q _ hj h rfl
    · have := va_at.lt (hl.1 j q hj)
      omega
  refine ⟨(hl.1.kept (fun k q hq => hk q.1 (va_at.lt (hl.1 k q hq)) (hno k q hq))).app hP1, hl.2.1.app (hD1.weaken (fun _ _ _ h => hF _ h)) ?_, hS⟩
  intro i j p q h1 h2 h3
  exact hno i p h1 (h3 ▸ hD1.2 j q h2)
/-- a call of a method of the object on the left, the world on the right stays -/
theorem ky_lVi {index n maxL ci N : Nat} {y : MethodName} {b : ByteArray} {ret : Option FieldType} {rm : Room} {As : List Value} {T : u_T} {fs : List Value} {G : Type} {post : Int32 → G → Prop} {w' : G → va_W} (S : CallFix p m c cc nL s args lw_g own) (hK : va_K D classes tys s) (hw : kw D A H0 H locs (w1 ++ w2)) (hA : ∀ q, H0.size ≤ q → A q) (hls : ls.size = nL)
    (hM : CT l D tys y b maxL ret rm (.ref a :: As) w1 H.size (QI D tys post w')) (k : LkV own index y b maxL ret n) (hc : classes[ci]? = some (y.cls, T, N)) (he : w1[0]? = some (a, .inr (ci, fs))) (hrc : rm.cells = 0) (hrs : rm.slots = 0) (hR : rm.frames + 1 ≤ R.frames ∧ 8 + (maxL + 11) + rm.locals ≤ R.locals) (hcs : cells ≤ R.cells ∧ slots ≤ R.slots) (hn : As.length = n) (hst : st0 = As.reverse ++ .ref a :: rest) (hW : (rest.map fun v => v.category).sum ≤ 8) (hdg : decode cc pc = .ok (.invokevirtual index, 3))
    (kk : ∀ (r : Int32) (u : G) (H1 : Heap) (locs1 : List Loc), post r u → kw D A H0 H1 locs1 (w' u ++ w2) → W p l e R s m args below meth c H1 locs1 cells slots Q (F0 m (pc + 3) ls (.int r :: rest))) : W p l e R s m args below meth c H locs cells slots Q (F0 m pc ls st0) := by
  have hl := kw_l hw
  have hF := ky_free hl hA
  exact va_calli (va_runV (g := F0 m pc ls st0) (As := As) (rest := rest) S hM (ky_cwV S k hrc hrs hR) (ky_preV hK hl.1 hl.2.1 hc he) rfl hn hls hst (lv_room hW) hdg hcs) hw.2.2 (fun q _ h => hF q h) hF (fun r u t H1 locs1 ht hvm hp hB hz1 hk1 hS => kk r u H1 locs1 hp (kw_gl hw hA (by rw [← ht]; exact hB.1) hB.2.2 hk1 hS))
theorem ky_lVv {index n maxL ci N : Nat} {y : MethodName} {b : ByteArray} {ret : Option FieldType} {rm : Room} {As : List Value} {T : u_T} {fs : List Value} {G : Type} {post : G → Prop} {w' : G → va_W} (S : CallFix p m c cc nL s args lw_g own) (hK : va_K D classes tys s) (hw : kw D A H0 H locs (w1 ++ w2)) (hA : ∀ q, H0.size ≤ q → A q) (hls : ls.size = nL)
    (hM : CT l D tys y b maxL ret rm (.ref a :: As) w1 H.size (QV D tys post w')) (k : LkV own index y b maxL ret n) (hc : classes[ci]? = some (y.cls, T, N)) (he : w1[0]? = some (a, .inr (ci, fs))) (hrc : rm.cells = 0) (hrs : rm.slots = 0) (hR : rm.frames + 1 ≤ R.frames ∧ 8 + (maxL + 11) + rm.locals ≤ R.locals) (hcs : cells ≤ R.cells ∧ slots ≤ R.slots) (hn : As.length = n) (hst : st0 = As.reverse ++ .ref a :: rest) (hW : (rest.map fun v => v.category).sum ≤ 8) (hdg : decode cc pc = .ok (.invokevirtual index, 3))
    (kk : ∀ (u : G) (H1 : Heap) (locs1 : List Loc), post u → kw D A H0 H1 locs1 (w' u ++ w2) → W p l e R s m args below meth c H1 locs1 cells slots Q (F0 m (pc + 3) ls rest)) : W p l e R s m args below meth c H locs cells slots Q (F0 m pc ls st0) := by
  have hl := kw_l hw
  have hF := ky_free hl hA
  exact va_callv (va_runV (g := F0 m pc ls st0) (As := As) (rest := rest) S hM (ky_cwV S k hrc hrs hR) (ky_preV hK hl.1 hl.2.1 hc he) rfl hn hls hst (lv_room hW) hdg hcs) hw.2.2 (fun q _ h => hF q h) hF (fun u t H1 locs1 ht hvm hp hB hz1 hk1 hS => kk u H1 locs1 hp (kw_gl hw hA (by rw [← ht]; exact hB.1) hB.2.2 hk1 hS))
theorem ky_rVi {index n maxL ci N : Nat} {y : MethodName} {b : ByteArray} {ret : Option FieldType} {rm : Room} {As : List Value} {T : u_T} {fs : List Value} {G : Type} {post : Int32 → G → Prop} {w' : G → va_W} (S : CallFix p m c cc nL s args lw_g own) (hK : va_K D classes tys s) (hw : kw D A H0 H locs (w1 ++ w2)) (hA : ∀ q, H0.size ≤ q → A q) (hls : ls.size = nL)
    (hM : CT l D tys y b maxL ret rm (.ref a :: As) w2 H.size (QI D tys post w')) (k : LkV own index y b maxL ret n) (hc : classes[ci]? = some (y.cls, T, N)) (he : w2[0]? = some (a, .inr (ci, fs))) (hrc : rm.cells = 0) (hrs : rm.slots = 0) (hR : rm.frames + 1 ≤ R.frames ∧ 8 + (maxL + 11) + rm.locals ≤ R.locals) (hcs : cells ≤ R.cells ∧ slots ≤ R.slots) (hn : As.length = n) (hst : st0 = As.reverse ++ .ref a :: rest) (hW : (rest.map fun v => v.category).sum ≤ 8) (hdg : decode cc pc = .ok (.invokevirtual index, 3))
    (kk : ∀ (r : Int32) (u : G) (H1 : Heap) (locs1 : List Loc), post r u → kw D A H0 H1 locs1 (w1 ++ w' u) → W p l e R s m args below meth c H1 locs1 cells slots Q (F0 m (pc + 3) ls (.int r :: rest))) : W p l e R s m args below meth c H locs cells slots Q (F0 m pc ls st0) := by
  have hl := kw_r hw
  have hF := ky_free hl hA
  exact va_calli (va_runV (g := F0 m pc ls st0) (As := As) (rest := rest) S hM (ky_cwV S k hrc hrs hR) (ky_preV hK hl.1 hl.2.1 hc he) rfl hn hls hst (lv_room hW) hdg hcs) hw.2.2 (fun q _ h => hF q h) hF (fun r u t H1 locs1 ht hvm hp hB hz1 hk1 hS => kk r u H1 locs1 hp (kw_gr hw hA (by rw [← ht]; exact hB.1) hB.2.2 hk1 hS))
theorem ky_rVv {index n maxL ci N : Nat} {y : MethodName} {b : ByteArray} {ret : Option FieldType} {rm : Room} {As : List Value} {T : u_T} {fs : List Value} {G : Type} {post : G → Prop} {w' : G → va_W} (S : CallFix p m c cc nL s args lw_g own) (hK : va_K D classes tys s) (hw : kw D A H0 H locs (w1 ++ w2)) (hA : ∀ q, H0.size ≤ q → A q) (hls : ls.size = nL)
    (hM : CT l D tys y b maxL ret rm (.ref a :: As) w2 H.size (QV D tys post w')) (k : LkV own index y b maxL ret n) (hc : classes[ci]? = some (y.cls, T, N)) (he : w2[0]? = some (a, .inr (ci, fs))) (hrc : rm.cells = 0) (hrs : rm.slots = 0) (hR : rm.frames + 1 ≤ R.frames ∧ 8 + (maxL + 11) + rm.locals ≤ R.locals) (hcs : cells ≤ R.cells ∧ slots ≤ R.slots) (hn : As.length = n) (hst : st0 = As.reverse ++ .ref a :: rest) (hW : (rest.map fun v => v.category).sum ≤ 8) (hdg : decode cc pc = .ok (.invokevirtual index, 3))
    (kk : ∀ (u : G) (H1 : Heap) (locs1 : List Loc), post u → kw D A H0 H1 locs1 (w1 ++ w' u) → W p l e R s m args below meth c H1 locs1 cells slots Q (F0 m (pc + 3) ls rest)) : W p l e R s m args below meth c H locs cells slots Q (F0 m pc ls st0) := by
  have hl := kw_r hw
  have hF := ky_free hl hA
  exact va_callv (va_runV (g := F0 m pc ls st0) (As := As) (rest := rest) S hM (ky_cwV S k hrc hrs hR) (ky_preV hK hl.1 hl.2.1 hc he) rfl hn hls hst (lv_room hW) hdg hcs) hw.2.2 (fun q _ h => hF q h) hF (fun u t H1 locs1 ht hvm hp hB hz1 hk1 hS => kk u H1 locs1 hp (kw_gr hw hA (by rw [← ht]; exact hB.1) hB.2.2 hk1 hS))
/-- a constructor of the object on the right -/
theorem ky_rI {index n maxL mc ms : Nat} {y : MethodName} {b : ByteArray} {rm : Room} {As : List Value} {G : Type} {post : G → Prop} {w' : G → va_W} {t' : G → List (ClassId × FieldType)} (S : CallFix p m c cc nL s args lw_g own) (hK : va_K D classes tys s) (hw : kw D A H0 H locs (w1 ++ w2)) (hA : ∀ q, H0.size ≤ q → A q) (hls : ls.size = nL)
    (hM : Met l y (Cond.code y b maxL none :: lw_g) rm (va_Pc (.ref a :: As) (fun U => U.heap.size = H.size ∧ va_P D classes w2 U.heap ∧ va_K D classes tys U ∧ va_D (fun _ => True) w2)) (va_Qv post (fun u t => va_P D classes (w' u) t.heap ∧ va_K D classes (t' u) t ∧ va_D (va_A w2 H.size) (w' u)) (va_A w2 H.size)) mc ms (va_A w2 H.size))
    (k : LkI own index y b maxL n) (hy : y.name = "<init>") (hrc : rm.cells = mc) (hrs : rm.slots = ms) (hR : rm.frames + 1 ≤ R.frames ∧ 8 + (maxL + 11) + rm.locals ≤ R.locals) (hcs : cells + mc ≤ R.cells ∧ slots + ms ≤ R.slots) (hn : As.length = n) (hst : st0 = As.reverse ++ .ref a :: rest) (hW : (rest.map fun v => v.category).sum ≤ 8) (hdg : decode cc pc = .ok (.invokespecial index, 3))
    (kk : ∀ (u : G) (H1 : Heap) (locs1 : List Loc), post u → va_K D classes (t' u) s → kw D A H0 H1 locs1 (w1 ++ w' u) → W p l e R s m args below meth c H1 locs1 (cells + mc) (slots + ms) Q (F0 m (pc + 3) ls rest)) : W p l e R s m args below meth c H locs cells slots Q (F0 m pc ls st0) := by
  have hl := kw_r hw
  have hF := ky_free hl hA
  exact va_callv (va_runI (g := F0 m pc ls st0) (As := As) (rest := rest) S hM (cwI n S.2.2.2.2 (ky_good k.1.2.2.2) rfl hrc hrs (S.2.2.2.2 _ k.1.2.2.1) (S.2.2.2.2 _ k.1.1) (S.2.2.2.2 _ k.1.2.1) hy k.2 hR) (ky_preS hK hl.1 hl.2.1) rfl hn hls hst (lv_room hW) hdg hcs) hw.2.2 (fun q _ h => hF q h) hF (fun u t H1 locs1 ht hvm hp hB hz1 hk1 hS => kk u H1 locs1 hp (va_K.moved hvm.symm hB.2.1) (kw_gr hw hA (by rw [← ht]; exact hB.1) hB.2.2 hk1 hS))
-- the script
theorem ky_sld {b L j : Nat} {xs : Nat → Int32} {ws : va_W} (S : CallFix p m c cc nL s args lw_g own) (hX : va_X b L xs s H0) (hbl : b < H0.size) (hbA : ¬ A b) (hw : kw D A H0 H locs ws) (hj : j < L) (hL : L < 2147483648) (hdg : decode cc pc = .ok (.iaload, 1)) (kk : W p l e R s m args below meth c H locs cells slots Q (F0 m (pc + 1) ls (.int (xs j) :: rest))) : W p l e R s m args below meth c H locs cells slots Q (F0 m pc ls (.int (nI j) :: .ref b :: rest)) := by
  refine va_sld S.1 S.2.1 hX hbl hbA hw.2.2 (vp_in_nI hj hL) hdg ?_
  rw [nI_clamp (Nat.lt_trans hj hL)]
  exact kk
theorem ky_slen {b L : Nat} {xs : Nat → Int32} {ws : va_W} (S : CallFix p m c cc nL s args lw_g own) (hX : va_X b L xs s H0) (hbl : b < H0.size) (hbA : ¬ A b) (hw : kw D A H0 H locs ws) (hdg : decode cc pc = .ok (.arraylength, 1)) (kk : W p l e R s m args below meth c H locs cells slots Q (F0 m (pc + 1) ls (.int (nI L) :: rest))) : W p l e R s m args below meth c H locs cells slots Q (F0 m pc ls (.ref b :: rest)) :=
  va_slen S.1 S.2.1 hX hbl hbA hw.2.2 hdg kk
def celF (L : Nat) (xs : Nat → Int32) (k : Nat) : Int32 := if k < L then xs k else 0
theorem c_L_cell {b L sz k : Nat} {xs : Nat → Int32} (hk : k < 100) (hL : L ≤ 2051) : Met l y_L_cell (Cond.code y_L_cell b_L_cell 2 (some .int) :: lw_g) (kr 0 0) (va_Pc [.ref b, .int (nI k)] (fun U => U.heap.size = sz ∧ va_X b L xs U U.heap ∧ b < sz)) (va_Qi (fun r (_ : Unit) => r = celF L xs k) (fun _ _ => True) (fun q => sz ≤ q)) 0 0 (fun q => sz ≤ q) := by
  refine Met.ofW (cc := b_L_cell) (maxL := 2) (ret := some .int) (by decide) rfl ?_
  intro p e s m args below meth c s₁ B hml hv
  obtain ⟨rfl, hsz, hX, hbs⟩ := hv
  have hx := B.exec
  have hb := B.bytes
  have hr := B.returns
  have hlocks := B.notSynchronized
  subst hsz
  have hS : va_S (fun q => s.heap.size ≤ q) s.heap s.heap [] := va_S.rf
  have hbA : ¬ (fun q : Nat => s.heap.size ≤ q) b := Nat.not_le.mpr hbs
  have hl := lv_entry ([.ref b, .int (nI k)]) (n := 2) (Nat.le_of_ble_eq_true rfl)
  rw [lg_entry_eq]
  generalize (lg_sl ([.ref b, .int (nI k)]) ++ List.replicate (2 - (lg_sl ([.ref b, .int (nI k)])).length) Slot.unset).toArray = ls at hl ⊢
  have hl : lv_has ls 2 [(0, .ref b), (1, .int (nI k))] := hl
  refine lv_iload_n hx hb d_L_cell_0 rfl (lv_at hl 1 rfl) ?_
  refine lv_aload_n hx hb d_L_cell_1 rfl (lv_at hl 0 rfl) ?_
  refine va_slen hx hb hX hbs hbA hS d_L_cell_2 ?_
  refine W.eq (g2 := F0 m 3 ls [.int (nI L), .int (nI k)]) rfl ?_
  refine ky_ge (a := k) (b := L) (tgt := 12) hx hb (by omega) (by omega) d_L_cell_3 (by decide) (fun h => ?_) (fun h => ?_)
  · refine lv_iconst (v := nI 0) hx hb d_L_cell_12 (by decide) ?_
    exact W.iret (v := nI 0) hx hb hr (fun t ht hW => ⟨⟨nI 0, (), rfl, by unfold celF; rw [if_neg (by omega)]; rfl, trivial⟩, hS.F ht⟩) hS.2.2 d_L_cell_13
  · refine lv_aload_n hx hb d_L_cell_6 rfl (lv_at hl 0 rfl) ?_
    refine lv_iload_n hx hb d_L_cell_7 rfl (lv_at hl 1 rfl) ?_
    refine va_sld hx hb hX hbs hbA hS (vp_in_nI h (by omega)) d_L_cell_8 ?_
    rw [nI_clamp (by omega)]
    refine lv_goto (tgt := 13) hx hb d_L_cell_9 (by decide) ?_
    exact W.iret (v := xs k) hx hb hr (fun t ht hW => ⟨⟨xs k, (), rfl, by unfold celF; rw [if_pos h], trivial⟩, hS.F ht⟩) hS.2.2 d_L_cell_13
theorem ky_cell {b L k : Nat} {xs : Nat → Int32} {ws : va_W} (S : CallFix p m c cc nL s args lw_g R_law) (hX : va_X b L xs s H0) (hbl : b < H0.size) (hbA : ¬ A b) (hw : kw D A H0 H locs ws) (hA : ∀ q, H0.size ≤ q → A q) (hls : ls.size = nL) (hk : k < 100) (hL : L ≤ 2051) (hR : 0 + 1 ≤ R.frames ∧ 8 + (2 + 11) + 0 ≤ R.locals) (hcs : cells ≤ R.cells ∧ slots ≤ R.slots) (hW : (rest.map fun v => v.category).sum ≤ 8) (hdg : decode cc pc = .ok (.invokestatic 9, 3))
    (kk : ∀ (H1 : Heap) (locs1 : List Loc), kw D A H0 H1 locs1 ws → W p l e R s m args below meth c H1 locs1 cells slots Q (F0 m (pc + 3) ls (.int (celF L xs k) :: rest))) : W p l e R s m args below meth c H locs cells slots Q (F0 m pc ls (.int (nI k) :: .ref b :: rest)) := by
  have hF : ∀ q, H.size ≤ q → A q := fun q h => hA q (Nat.le_trans hw.2.2.1 h)
  have hX2 : va_X b L xs s H := hX.kept (hw.2.2.2.1 b hbl hbA)
  refine va_calli (va_runS (g := F0 m pc ls (.int (nI k) :: .ref b :: rest)) (As := [.ref b, .int (nI k)]) (rest := rest) S (c_L_cell (l := l) (b := b) (L := L) (xs := xs) (sz := H.size) hk hL) (ky_cwS S k_law_9 rfl rfl hR) ⟨?_, ?_⟩ rfl rfl hls rfl (lv_room hW) hdg hcs) hw.2.2 (fun q h1 h2 => absurd h2 (Nat.not_le.mpr h1)) hF (fun r u t H1 locs1 ht hvm hp hB hz1 hk1 hS => ?_)
  · intro a U g mk q
    obtain ⟨q0, q1, q2, q3⟩ := q
    exact ⟨q0, q1, va_X.moved (u := U) (U := U.calling g mk a) (Vm.Alike.refl U.vm) q2, q3⟩
  · intro U hU hW2
    refine ⟨rfl, by rw [hU], ?_, Nat.lt_of_lt_of_le hbl hw.2.2.1⟩
    rw [hU]
    exact va_X.moved hW2.alike hX2
  · subst hp
    refine kk H1 locs1 ⟨hw.1.kept (fun k q hq => ?_), hw.2.1, hS⟩
    have := va_at.lt (hw.1 k q hq)
    exact hk1 q.1 this (Nat.not_le.mpr this)
end
theorem lw_cmp {L i : Nat} (hL : L ≤ 2051) (hi : i ≤ 3000) : nI L - nI 4 < nI i ↔ L < i + 4 := by
  rw [Int32.lt_iff_toInt_lt, pk_sub_toInt (by omega) (by omega), nI_toInt (by omega)]
  omega
end
section
/-! THE LAW: its loop, its start -/
/-- what holds between the two objects at the loop's head -/
def LInv (P N O M : Nat) (dg : Int32) (sv : Bool) (g : Int64) (pr ta : Int32) (fr fc : Nat → Nat) (T : TS) (ar ac ax br bc bx : Nat → Int64) : Prop :=
  okD P N O M fr fc ∧ (P % 2 = 1 ∨ P = 2) ∧ dgOk dg ∧ (∃ G, G < 2147483648 ∧ g = lN G) ∧ relT N T g pr ta ar ac dg sv ax ∧ relT N T g pr ta br bc dg sv bx
def fgT (T : TS) : TS := (T.1, T.2.1, T.2.2.1, T.2.2.2.1, T.2.2.2.2.1, -1, false, T.2.2.2.2.2.2.2)
theorem rel_fg {N : Nat} {T : TS} {g : Int64} {pr ta : Int32} {row c : Nat → Int64} {dg : Int32} {sv : Bool} {x : Nat → Int64} (h : relT N T g pr ta row c dg sv x) : relT N (fgT T) g pr ta row c (-1) false x := by
  obtain ⟨h1, h2, h3, h4, h5, h6, h7, h8⟩ := h
  exact ⟨h1, h2, h3, h4, h5, rfl, rfl, h8⟩
def gT (T : TS) (g : Int64) : TS := (g, T.2)
theorem rel_g {N : Nat} {T : TS} {g g' : Int64} {pr ta : Int32} {row c : Nat → Int64} {dg : Int32} {sv : Bool} {x : Nat → Int64} (h : relT N T g pr ta row c dg sv x) : relT N (gT T g') g' pr ta row c dg sv x := by
  obtain ⟨h1, h2, h3, h4, h5, h6, h7, h8⟩ := h
  exact ⟨rfl, h2, h3, h4, h5, h6, h7, h8⟩
def pT (T : TS) (pr : Int32) : TS := (T.1, pr, T.2.2)
theorem rel_p {N : Nat} {T : TS} {g : Int64} {pr pr' ta : Int32} {row c : Nat → Int64} {dg : Int32} {sv : Bool} {x : Nat → Int64} (h : relT N T g pr ta row c dg sv x) : relT N (pT T pr') g pr' ta row c dg sv x := by
  obtain ⟨h1, h2, h3, h4, h5, h6, h7, h8⟩ := h
  exact ⟨h1, rfl, h3, h4, h5, h6, h7, h8⟩
theorem inB_lt {N : Nat} {k : Int32} (h1 : 1 ≤ N) (h2 : N ≤ 16) (h : inB N k = true) : k.toNatClampNeg < N := by
  obtain ⟨n, a1, a2, rfl⟩ := wth_n (by omega) (by omega) h
  rw [nI_c (by omega)]
  omega
theorem ok_up {P N O M n1 n2 : Nat} {fr fc : Nat → Nat} (h : okD P N O M fr fc) (hM : M ≠ O) (h1 : n1 < N) (h2 : n2 < N) : okD P N O (M + 1) (va_up fr M n1) (va_up fc M n2) := by
  obtain ⟨a1, a2, a3, a4, a5, a6, a7, a8⟩ := h
  refine ⟨a1, a2, a3, a4, a5, a6, by omega, fun k hk => ?_⟩
  unfold va_up
  by_cases q : k = M
  · rw [if_pos q, if_pos q]; exact ⟨h1, h2⟩
  · rw [if_neg q, if_neg q]; exact a8 k (by omega)
theorem fv_up {P M : Nat} {fv : Nat → Int32} {z : Int64} (h2 : 2 ≤ P) (hP : P ≤ 46337) : vp_updL (fun k => (fv k).toInt64) M (wi P z) = fun k => (upd fv M (md P z) k).toInt64 := by
  funext k
  unfold vp_updL upd
  split
  · exact (md_wi h2 hP z).symm
  · rfl
theorem dg_hr {d : Nat} (h : d ≤ 32) : decide (nI d ≠ -1) = true := by
  refine decide_eq_true (fun q => ?_)
  have := congrArg Int32.toInt q
  rw [nI_toInt (by omega), show (-1 : Int32).toInt = -1 from by decide] at this
  omega
theorem sol_r {N : Nat} {sv : Bool} {x y : Nat → Int64} {k : Int32} (h1 : 1 ≤ N) (h2 : N ≤ 16) (h : ∀ j, j < N → x j = y j) : solR N sv x k = solR N sv y k := by
  unfold solR
  split
  · rename_i q
    rw [Bool.and_eq_true] at q
    rw [h _ (inB_lt h1 h2 q.2)]
  · rfl
theorem coe_r {dg k : Int32} {x y : Nat → Int64} (hd : dgOk dg) (h : ∀ j, j < 34 → x j = y j) : coeR dg x k = coeR dg y k := by
  unfold coeR
  split
  · rename_i q
    rcases hd with rfl | ⟨d, hd, rfl⟩
    · rw [wth_m1] at q
      exact absurd q (by decide)
    · obtain ⟨n, a1, a2, rfl⟩ := wth_n (by omega) (by omega) q
      rw [pk_sub a2, nI_c (by omega), h _ (by omega)]
  · rfl
theorem num_r {N : Nat} {hr : Bool} {x y : Nat → Int64} {k : Int32} (h1 : 1 ≤ N) (h2 : N ≤ 16) (h : ∀ j, j < 2 * N → x j = y j) : numR N hr x k = numR N hr y k := by
  unfold numR
  split
  · rename_i q
    rw [Bool.and_eq_true] at q
    obtain ⟨n, a1, a2, rfl⟩ := wth_n (by omega) (by omega) q.2
    rw [nI_c (by omega), h _ (by omega)]
  · rfl
theorem attM_dg {P N M : Nat} {fr fc : Nat → Nat} {V b : Nat → Int64} (hN : N ≤ 16) (T : TS) : ∃ d, d ≤ 32 ∧ (attM P N M fr fc V b T).2.2.2.2.2.1 = nI d := by
  refine ⟨(bm P (ivM P) (rowA P N M fr fc V b gM (dM P) T.1) (2 * N)).2.2.1, ?_, rfl⟩
  have := bm_len (P := P) (inv := ivM P) (row := rowA P N M fr fc V b gM (dM P) T.1) (2 * N)
  omega
theorem slv_dg {a : TS → TS} {rr : TS → Int32} (ha : ∀ T, ∃ d, d ≤ 32 ∧ (a T).2.2.2.2.2.1 = nI d) : ∀ (n : Nat) (told : Int32) (T : TS), (∃ d, d ≤ 32 ∧ T.2.2.2.2.2.1 = nI d) → ∃ d, d ≤ 32 ∧ (slv a rr n told T).2.2.2.2.2.2.1 = nI d := by
  intro n
  induction n with
  | zero => intro told T h; exact h
  | succ n ih =>
    intro told T h
    by_cases q : told = 0
    · subst q
      rw [slv_0]; exact h
    · have e : slv a rr (n + 1) told T = slv a rr n (rr T) (a T) := by
        show (if told = 0 then _ else _) = _
        rw [if_neg q]
      rw [e]
      exact ih _ _ (ha T)
theorem sol_dg {a : TS → TS} {rr : TS → Int32} {k : Int32} {T : TS} (ha : ∀ T, ∃ d, d ≤ 32 ∧ (a T).2.2.2.2.2.1 = nI d) (h : wth k (nI 1) (nI 50) = true) : ∃ d, d ≤ 32 ∧ (sol a rr k T).2.2.2.2.2.2.1 = nI d := by
  unfold sol
  rw [if_pos h]
  exact slv_dg ha _ _ _ (ha T)
theorem sol_no {a : TS → TS} {rr : TS → Int32} {k : Int32} {T : TS} (h : wth k (nI 1) (nI 50) = false) : sol a rr k T = (nI 5, T) := by
  unfold sol
  rw [h]; rfl
set_option maxHeartbeats 4000000 in
set_option maxRecDepth 4000 in
theorem law_loop {p : Program} {l : Launch} {e : Env} {s : State} {m : MethodId} {below : List Frame} {meth : Method} {c : Code} {D : va_G} {b L : Nat} {xs : Nat → Int32} {cI cJ : ClassId} {a1 a2 : Nat → Nat} {P N O : Nat} (hL : L ≤ 2051) (C0 : lw_At p s m meth c b L xs) (hK : va_K D classes (kt cI cJ) s) :
    ∀ (n i : Nat), i < L + 4 → L + 4 ≤ i + n → ∀ (M : Nat) (dg : Int32) (sv : Bool) (g : Int64) (pr ta : Int32) (fr fc : Nat → Nat) (fv : Nat → Int32) (ab au av aw ax ar ac af ak bu bv bw br bc bf bk bx : Nat → Int64) (T : TS) (H : Heap) (locs : List Loc) (ls : Array Slot), LInv P N O M dg sv g pr ta fr fc T ar ac ax br bc bx → kw D (fun q : Nat => s.heap.size ≤ q) s.heap H locs (wD a1 cI cJ P N O M dg sv g pr ta fr fc fv ab au av aw ax ar ac af ak ++ wM a2 cI cJ P N O M g ta pr (decide (dg ≠ -1)) dg sv fr fc (fun k => (fv k).toInt64) ab bu bv bw br bc bf bk bx) → lv_has ls 4 [(0, .ref b), (1, .ref (a1 0)), (2, .ref (a2 0)), (3, .int (nI i))] → W p l e room_1 s m #[Value.ref b] below meth c H locs 26 1269 (lw_Z below #[Value.ref b] s) (F0 m 48 ls []) := by
  obtain ⟨hx, hb, hr, hml, hown, hts0, hX, hbl, hlocks, hgv⟩ := C0
  have hts : ∀ w ∈ lw_g, w.before #[Value.ref b] s = true := fun w h => hts0 w (lw_in w h)
  have S : CallFix p m c code 4 s #[Value.ref b] lw_g R_law := ⟨hx, hb, hml, hown, hts⟩
  have hA : ∀ q : Nat, s.heap.size ≤ q → (fun q : Nat => s.heap.size ≤ q) q := fun _ h => h
  have hbA : ¬ (fun q : Nat => s.heap.size ≤ q) b := Nat.not_le.mpr hbl
  intro n
  induction n with
  | zero =>
    intro i h1 h2
    exact absurd h2 (by omega)
  | succ n ih =>
    intro i hi1 hi2 M dg sv g pr ta fr fc fv ab au av aw ax ar ac af ak bu bv bw br bc bf bk bx T H locs ls hI hw hl
    refine lv_iload_n hx hb d_L_law_48 rfl (lv_at hl 3 rfl) ?_
    refine lv_aload_n hx hb d_L_law_49 rfl (lv_at hl 0 rfl) ?_
    refine ky_slen S hX hbl hbA hw d_L_law_50 ?_
    refine lv_iconst (v := nI 4) hx hb d_L_law_51 (by decide) ?_
    refine lv_isub hx hb d_L_law_52 ?_
    refine lv_icmp_gt (tgt := 394) hx hb d_L_law_53 (by decide) (fun h => ?_) (fun h => ?_)
    · refine lv_iconst (v := 1) hx hb d_L_law_394 (by decide) ?_
      refine va_forget (fun q hq => hw.2.2.2.2 q hq) ?_
      refine W.widen (k := 600000) (n := 7302250) (by decide) (by decide) ?_
      exact lw_ret hx hb hr hlocks d_L_law_395
    · have hi4 : i + 4 ≤ L := by rw [lw_cmp hL (by omega)] at h; omega
      have go : ∀ (M : Nat) (dg : Int32) (sv : Bool) (g : Int64) (pr ta : Int32) (fr fc : Nat → Nat) (fv : Nat → Int32) (ab au av aw ax ar ac af ak bu bv bw br bc bf bk bx : Nat → Int64) (T : TS) (H : Heap) (locs : List Loc), LInv P N O M dg sv g pr ta fr fc T ar ac ax br bc bx → kw D (fun q : Nat => s.heap.size ≤ q) s.heap H locs (wD a1 cI cJ P N O M dg sv g pr ta fr fc fv ab au av aw ax ar ac af ak ++ wM a2 cI cJ P N O M g ta pr (decide (dg ≠ -1)) dg sv fr fc (fun k => (fv k).toInt64) ab bu bv bw br bc bf bk bx) → W p l e room_1 s m #[Value.ref b] below meth c H locs 26 1269 (lw_Z below #[Value.ref b] s) (F0 m 388 ls []) := by
        intro M dg sv g pr ta fr fc fv ab au av aw ax ar ac af ak bu bv bw br bc bf bk bx T H locs hI hw
        refine lv_iinc (v := nI (i + 4)) (lv' := [(3, .int (nI (i + 4))), (0, .ref b), (1, .ref (a1 0)), (2, .ref (a2 0))]) hx hb d_L_law_388 hl (k := 3) rfl (nI_add i 4) (by decide) rfl (fun ls hl => ?_)
        refine lv_goto (tgt := 48) hx hb d_L_law_391 (by decide) ?_
        exact ih (i + 4) (by omega) (by omega) _ _ _ _ _ _ _ _ _ _ _ _ _ _ _ _ _ _ _ _ _ _ _ _ _ _ T H locs ls hI hw (lv_sub hl [1, 2, 3, 0] rfl)
      refine lv_aload_n hx hb d_L_law_56 rfl (lv_at hl 0 rfl) ?_
      refine lv_iload_n hx hb d_L_law_57 rfl (lv_at hl 3 rfl) ?_
      refine ky_sld (j := i) S hX hbl hbA hw (by omega) (by omega) d_L_law_58 ?_
      refine lv_bipush (v := nI 15) hx hb d_L_law_59 (by decide) ?_
      refine lv_iand hx hb d_L_law_61 ?_
      obtain ⟨hok, hodd, hdgo, ⟨G, hG, hgG⟩, hr1, hr2⟩ := id hI
      obtain ⟨hP2, hP, hN1, hN, hO1, hO, hM, hrc⟩ := id hok
      obtain ⟨e1, e2, e3, e4, e5, e6, e7, e8⟩ := id hr1
      obtain ⟨f1, f2, f3, f4, f5, f6, f7, f8⟩ := id hr2
      obtain ⟨j, hj, ej⟩ := pk_andE (xs i) (m := nI 15) 4 (by decide)
      refine ky_ti ej ?_
      have hj16 : j < 16 := hj
      rcases (show j = 0 ∨ j = 1 ∨ j = 2 ∨ j = 3 ∨ j = 4 ∨ j = 5 ∨ j = 6 ∨ j = 7 ∨ j = 8 ∨ j = 9 ∨ j = 10 ∨ j = 11 ∨ 12 ≤ j by omega) with rfl | rfl | rfl | rfl | rfl | rfl | rfl | rfl | rfl | rfl | rfl | rfl | hj12
      · refine lv_tableIn (tgt := 124) hx hb d_L_law_62 (by decide) (by decide) (off := 62) (by decide) (by decide) ?_
        refine lv_aload_n hx hb d_L_law_124 rfl (lv_at hl 1 rfl) ?_
        refine lv_aload_n hx hb d_L_law_125 rfl (lv_at hl 0 rfl) ?_
        refine lv_iload_n hx hb d_L_law_126 rfl (lv_at hl 3 rfl) ?_
        refine lv_iconst (v := nI 1) hx hb d_L_law_127 (by decide) ?_
        refine lv_iadd hx hb d_L_law_128 ?_
        refine ky_ti (y := nI (i + 1)) (nI_add i 1) ?_
        refine ky_sld (j := i + 1) S hX hbl hbA hw (by omega) (by omega) d_L_law_129 ?_
        refine lv_aload_n hx hb d_L_law_130 rfl (lv_at hl 0 rfl) ?_
        refine lv_iload_n hx hb d_L_law_131 rfl (lv_at hl 3 rfl) ?_
        refine lv_iconst (v := nI 2) hx hb d_L_law_132 (by decide) ?_
        refine lv_iadd hx hb d_L_law_133 ?_
        refine ky_ti (y := nI (i + 2)) (nI_add i 2) ?_
        refine ky_sld (j := i + 2) S hX hbl hbA hw (by omega) (by omega) d_L_law_134 ?_
        refine lv_aload_n hx hb d_L_law_135 rfl (lv_at hl 0 rfl) ?_
        refine lv_iload_n hx hb d_L_law_136 rfl (lv_at hl 3 rfl) ?_
        refine lv_iconst (v := nI 3) hx hb d_L_law_137 (by decide) ?_
        refine lv_iadd hx hb d_L_law_138 ?_
        refine ky_ti (y := nI (i + 3)) (nI_add i 3) ?_
        refine ky_sld (j := i + 3) S hX hbl hbA hw (by omega) (by omega) d_L_law_139 ?_
        refine ky_lVi (As := [.int (xs (i + 1)), .int (xs (i + 2)), .int (xs (i + 3))]) (rest := []) S hK hw hA hl.1 (c_D_entry hok) k_law_21 rfl rfl rfl rfl ⟨Nat.le_of_ble_eq_true rfl, Nat.le_of_ble_eq_true rfl⟩ ⟨Nat.le_of_ble_eq_true rfl, Nat.le_of_ble_eq_true rfl⟩ rfl rfl (Nat.le_of_ble_eq_true rfl) d_L_law_140 (fun r1 u1 H locs hp1 hw => ?_)
        refine lv_aload_n hx hb d_L_law_143 rfl (lv_at hl 2 rfl) ?_
        refine lv_aload_n hx hb d_L_law_144 rfl (lv_at hl 0 rfl) ?_
        refine lv_iload_n hx hb d_L_law_145 rfl (lv_at hl 3 rfl) ?_
        refine lv_iconst (v := nI 1) hx hb d_L_law_146 (by decide) ?_
        refine lv_iadd hx hb d_L_law_147 ?_
        refine ky_ti (y := nI (i + 1)) (nI_add i 1) ?_
        refine ky_sld (j := i + 1) S hX hbl hbA hw (by omega) (by omega) d_L_law_148 ?_
        refine lv_aload_n hx hb d_L_law_149 rfl (lv_at hl 0 rfl) ?_
        refine lv_iload_n hx hb d_L_law_150 rfl (lv_at hl 3 rfl) ?_
        refine lv_iconst (v := nI 2) hx hb d_L_law_151 (by decide) ?_
        refine lv_iadd hx hb d_L_law_152 ?_
        refine ky_ti (y := nI (i + 2)) (nI_add i 2) ?_
        refine ky_sld (j := i + 2) S hX hbl hbA hw (by omega) (by omega) d_L_law_153 ?_
        refine lv_aload_n hx hb d_L_law_154 rfl (lv_at hl 0 rfl) ?_
        refine lv_iload_n hx hb d_L_law_155 rfl (lv_at hl 3 rfl) ?_
        refine lv_iconst (v := nI 3) hx hb d_L_law_156 (by decide) ?_
        refine lv_iadd hx hb d_L_law_157 ?_
        refine ky_ti (y := nI (i + 3)) (nI_add i 3) ?_
        refine ky_sld (j := i + 3) S hX hbl hbA hw (by omega) (by omega) d_L_law_158 ?_
        refine ky_rVi (As := [.int (xs (i + 1)), .int (xs (i + 2)), .int (xs (i + 3))]) (rest := [.int r1]) S hK hw hA hl.1 (c_M_entry hok) k_law_25 rfl rfl rfl rfl ⟨Nat.le_of_ble_eq_true rfl, Nat.le_of_ble_eq_true rfl⟩ ⟨Nat.le_of_ble_eq_true rfl, Nat.le_of_ble_eq_true rfl⟩ rfl rfl (Nat.le_of_ble_eq_true rfl) d_L_law_159 (fun r2 u2 H locs hp2 hw => ?_)
        rcases hp1 with ⟨i1, rfl, rfl⟩ | ⟨i1, i2, rfl, rfl⟩ | ⟨i1, i2, rfl, rfl⟩
        · rcases hp2 with ⟨m1, rfl, rfl⟩ | ⟨m1, m2, rfl, rfl⟩ | ⟨m1, m2, rfl, rfl⟩
          · refine lv_icmp_eq (tgt := 388) hx hb d_L_law_162 (by decide) (fun _ => ?_) (fun hne => absurd (rfl) hne)
            exact go _ _ _ _ _ _ _ _ _ _ _ _ _ _ _ _ _ _ _ _ _ _ _ _ _ _ T H locs hI hw
          · rw [i1] at m1; exact absurd m1 (by decide)
          · rw [i1] at m1; exact absurd m1 (by decide)
        · rcases hp2 with ⟨m1, rfl, rfl⟩ | ⟨m1, m2, rfl, rfl⟩ | ⟨m1, m2, rfl, rfl⟩
          · rw [i1] at m1; exact absurd m1 (by decide)
          · refine lv_icmp_eq (tgt := 388) hx hb d_L_law_162 (by decide) (fun _ => ?_) (fun hne => absurd (rfl) hne)
            exact go _ _ _ _ _ _ _ _ _ _ _ _ _ _ _ _ _ _ _ _ _ _ _ _ _ _ T H locs hI hw
          · exact absurd i2 m2
        · rcases hp2 with ⟨m1, rfl, rfl⟩ | ⟨m1, m2, rfl, rfl⟩ | ⟨m1, m2, rfl, rfl⟩
          · rw [i1] at m1; exact absurd m1 (by decide)
          · exact absurd m2 i2
          · rw [Bool.and_eq_true] at i1
            have hw : kw D (fun q : Nat => s.heap.size ≤ q) s.heap H locs (wD a1 cI cJ P N O (M + 1) (-1) false g pr ta (va_up fr M (xs (i + 1)).toNatClampNeg) (va_up fc M (xs (i + 2)).toNatClampNeg) (upd fv M (md P (xs (i + 3)).toInt64)) ab au av aw ax ar ac af ak ++ wM a2 cI cJ P N O (M + 1) g ta pr (decide ((-1 : Int32) ≠ -1)) (-1) false (va_up fr M (xs (i + 1)).toNatClampNeg) (va_up fc M (xs (i + 2)).toNatClampNeg) (fun k => (upd fv M (md P (xs (i + 3)).toInt64) k).toInt64) ab bu bv bw br bc bf bk bx) := by rw [← fv_up hP2 hP]; exact hw
            refine lv_icmp_eq (tgt := 388) hx hb d_L_law_162 (by decide) (fun _ => ?_) (fun hne => absurd (rfl) hne)
            exact go _ _ _ _ _ _ _ _ _ _ _ _ _ _ _ _ _ _ _ _ _ _ _ _ _ _ (fgT T) H locs ⟨ok_up hok i2 (inB_lt hN1 hN i1.1) (inB_lt hN1 hN i1.2), hodd, Or.inl rfl, ⟨G, hG, hgG⟩, rel_fg hr1, rel_fg hr2⟩ hw
      · refine lv_tableIn (tgt := 167) hx hb d_L_law_62 (by decide) (by decide) (off := 105) (by decide) (by decide) ?_
        refine lv_aload_n hx hb d_L_law_167 rfl (lv_at hl 1 rfl) ?_
        refine lv_aload_n hx hb d_L_law_168 rfl (lv_at hl 0 rfl) ?_
        refine lv_iload_n hx hb d_L_law_169 rfl (lv_at hl 3 rfl) ?_
        refine lv_iconst (v := nI 1) hx hb d_L_law_170 (by decide) ?_
        refine lv_iadd hx hb d_L_law_171 ?_
        refine ky_ti (y := nI (i + 1)) (nI_add i 1) ?_
        refine ky_sld (j := i + 1) S hX hbl hbA hw (by omega) (by omega) d_L_law_172 ?_
        refine lv_aload_n hx hb d_L_law_173 rfl (lv_at hl 0 rfl) ?_
        refine lv_iload_n hx hb d_L_law_174 rfl (lv_at hl 3 rfl) ?_
        refine lv_iconst (v := nI 2) hx hb d_L_law_175 (by decide) ?_
        refine lv_iadd hx hb d_L_law_176 ?_
        refine ky_ti (y := nI (i + 2)) (nI_add i 2) ?_
        refine ky_sld (j := i + 2) S hX hbl hbA hw (by omega) (by omega) d_L_law_177 ?_
        refine ky_lVi (As := [.int (xs (i + 1)), .int (xs (i + 2))]) (rest := []) S hK hw hA hl.1 (c_D_side hok) k_law_26 rfl rfl rfl rfl ⟨Nat.le_of_ble_eq_true rfl, Nat.le_of_ble_eq_true rfl⟩ ⟨Nat.le_of_ble_eq_true rfl, Nat.le_of_ble_eq_true rfl⟩ rfl rfl (Nat.le_of_ble_eq_true rfl) d_L_law_178 (fun r1 u1 H locs hp1 hw => ?_)
        refine lv_aload_n hx hb d_L_law_181 rfl (lv_at hl 2 rfl) ?_
        refine lv_aload_n hx hb d_L_law_182 rfl (lv_at hl 0 rfl) ?_
        refine lv_iload_n hx hb d_L_law_183 rfl (lv_at hl 3 rfl) ?_
        refine lv_iconst (v := nI 1) hx hb d_L_law_184 (by decide) ?_
        refine lv_iadd hx hb d_L_law_185 ?_
        refine ky_ti (y := nI (i + 1)) (nI_add i 1) ?_
        refine ky_sld (j := i + 1) S hX hbl hbA hw (by omega) (by omega) d_L_law_186 ?_
        refine lv_aload_n hx hb d_L_law_187 rfl (lv_at hl 0 rfl) ?_
        refine lv_iload_n hx hb d_L_law_188 rfl (lv_at hl 3 rfl) ?_
        refine lv_iconst (v := nI 2) hx hb d_L_law_189 (by decide) ?_
        refine lv_iadd hx hb d_L_law_190 ?_
        refine ky_ti (y := nI (i + 2)) (nI_add i 2) ?_
        refine ky_sld (j := i + 2) S hX hbl hbA hw (by omega) (by omega) d_L_law_191 ?_
        refine ky_rVi (As := [.int (xs (i + 1)), .int (xs (i + 2))]) (rest := [.int r1]) S hK hw hA hl.1 (c_M_side hok) k_law_30 rfl rfl rfl rfl ⟨Nat.le_of_ble_eq_true rfl, Nat.le_of_ble_eq_true rfl⟩ ⟨Nat.le_of_ble_eq_true rfl, Nat.le_of_ble_eq_true rfl⟩ rfl rfl (Nat.le_of_ble_eq_true rfl) d_L_law_192 (fun r2 u2 H locs hp2 hw => ?_)
        rcases hp1 with ⟨i1, rfl, rfl⟩ | ⟨i1, rfl, rfl⟩
        · rcases hp2 with ⟨m1, rfl, rfl⟩ | ⟨m1, rfl, rfl⟩
          · refine lv_icmp_eq (tgt := 388) hx hb d_L_law_195 (by decide) (fun _ => ?_) (fun hne => absurd (rfl) hne)
            exact go _ _ _ _ _ _ _ _ _ _ _ _ _ _ _ _ _ _ _ _ _ _ _ _ _ _ T H locs hI hw
          · rw [i1] at m1; exact absurd m1 (by decide)
        · rcases hp2 with ⟨m1, rfl, rfl⟩ | ⟨m1, rfl, rfl⟩
          · rw [i1] at m1; exact absurd m1 (by decide)
          · have hw : kw D (fun q : Nat => s.heap.size ≤ q) s.heap H locs (wD a1 cI cJ P N O M (-1) false g pr ta fr fc fv (vp_updL ab (xs (i + 1)).toNatClampNeg (wi P (xs (i + 2)).toInt64)) au av aw ax ar ac af ak ++ wM a2 cI cJ P N O M g ta pr (decide ((-1 : Int32) ≠ -1)) (-1) false fr fc (fun k => (fv k).toInt64) (vp_updL ab (xs (i + 1)).toNatClampNeg (wi P (xs (i + 2)).toInt64)) bu bv bw br bc bf bk bx) := hw
            refine lv_icmp_eq (tgt := 388) hx hb d_L_law_195 (by decide) (fun _ => ?_) (fun hne => absurd (rfl) hne)
            exact go _ _ _ _ _ _ _ _ _ _ _ _ _ _ _ _ _ _ _ _ _ _ _ _ _ _ (fgT T) H locs ⟨hok, hodd, Or.inl rfl, ⟨G, hG, hgG⟩, rel_fg hr1, rel_fg hr2⟩ hw
      · refine lv_tableIn (tgt := 200) hx hb d_L_law_62 (by decide) (by decide) (off := 138) (by decide) (by decide) ?_
        refine lv_aload_n hx hb d_L_law_200 rfl (lv_at hl 1 rfl) ?_
        refine lv_aload_n hx hb d_L_law_201 rfl (lv_at hl 0 rfl) ?_
        refine lv_iload_n hx hb d_L_law_202 rfl (lv_at hl 3 rfl) ?_
        refine lv_iconst (v := nI 1) hx hb d_L_law_203 (by decide) ?_
        refine lv_iadd hx hb d_L_law_204 ?_
        refine ky_ti (y := nI (i + 1)) (nI_add i 1) ?_
        refine ky_sld (j := i + 1) S hX hbl hbA hw (by omega) (by omega) d_L_law_205 ?_
        refine ky_lVv (As := [.int (xs (i + 1))]) (rest := []) S hK hw hA hl.1 (c_D_seed) k_law_31 rfl rfl rfl rfl ⟨Nat.le_of_ble_eq_true rfl, Nat.le_of_ble_eq_true rfl⟩ ⟨Nat.le_of_ble_eq_true rfl, Nat.le_of_ble_eq_true rfl⟩ rfl rfl (Nat.le_of_ble_eq_true rfl) d_L_law_206 (fun u H locs hp hw => ?_)
        refine lv_aload_n hx hb d_L_law_209 rfl (lv_at hl 2 rfl) ?_
        refine lv_aload_n hx hb d_L_law_210 rfl (lv_at hl 0 rfl) ?_
        refine lv_iload_n hx hb d_L_law_211 rfl (lv_at hl 3 rfl) ?_
        refine lv_iconst (v := nI 1) hx hb d_L_law_212 (by decide) ?_
        refine lv_iadd hx hb d_L_law_213 ?_
        refine ky_ti (y := nI (i + 1)) (nI_add i 1) ?_
        refine ky_sld (j := i + 1) S hX hbl hbA hw (by omega) (by omega) d_L_law_214 ?_
        refine ky_rVv (As := [.int (xs (i + 1))]) (rest := []) S hK hw hA hl.1 (c_M_seed) k_law_35 rfl rfl rfl rfl ⟨Nat.le_of_ble_eq_true rfl, Nat.le_of_ble_eq_true rfl⟩ ⟨Nat.le_of_ble_eq_true rfl, Nat.le_of_ble_eq_true rfl⟩ rfl rfl (Nat.le_of_ble_eq_true rfl) d_L_law_215 (fun u H locs hp hw => ?_)
        obtain ⟨G2, hG2, s1, s2⟩ := seed_eq (xs (i + 1))
        have hw : kw D (fun q : Nat => s.heap.size ≤ q) s.heap H locs (wD a1 cI cJ P N O M dg sv (lN G2) pr ta fr fc fv ab au av aw ax ar ac af ak ++ wM a2 cI cJ P N O M (lN G2) ta pr (decide (dg ≠ -1)) dg sv fr fc (fun k => (fv k).toInt64) ab bu bv bw br bc bf bk bx) := by rw [s1, s2] at hw; exact hw
        refine lv_goto (tgt := 388) hx hb d_L_law_218 (by decide) ?_
        exact go _ _ _ _ _ _ _ _ _ _ _ _ _ _ _ _ _ _ _ _ _ _ _ _ _ _ (gT T (lN G2)) H locs ⟨hok, hodd, hdgo, ⟨G2, hG2, rfl⟩, rel_g hr1, rel_g hr2⟩ hw
      · refine lv_tableIn (tgt := 221) hx hb d_L_law_62 (by decide) (by decide) (off := 159) (by decide) (by decide) ?_
        refine lv_aload_n hx hb d_L_law_221 rfl (lv_at hl 1 rfl) ?_
        refine ky_lVi (As := []) (rest := []) S hK hw hA hl.1 (c_D_attempt hok hr1) k_law_36 rfl rfl rfl rfl ⟨Nat.le_of_ble_eq_true rfl, Nat.le_of_ble_eq_true rfl⟩ ⟨Nat.le_of_ble_eq_true rfl, Nat.le_of_ble_eq_true rfl⟩ rfl rfl (Nat.le_of_ble_eq_true rfl) d_L_law_222 (fun r1 u1 H locs hp1 hw => ?_)
        refine lv_aload_n hx hb d_L_law_225 rfl (lv_at hl 2 rfl) ?_
        refine ky_rVi (As := []) (rest := [.int r1]) S hK hw hA hl.1 (c_M_attempt hok hr2) k_law_40 rfl rfl rfl rfl ⟨Nat.le_of_ble_eq_true rfl, Nat.le_of_ble_eq_true rfl⟩ ⟨Nat.le_of_ble_eq_true rfl, Nat.le_of_ble_eq_true rfl⟩ rfl rfl (Nat.le_of_ble_eq_true rfl) d_L_law_226 (fun r2 u2 H locs hp2 hw => ?_)
        obtain ⟨g1, pr1, ta1, ar1, ac1, dg1, sv1, ax1, au1, av1, aw1, af1, ak1⟩ := u1
        obtain ⟨g2, pr2, ta2, ar2, ac2, dg2, sv2, ax2, au2, av2, aw2, af2, ak2⟩ := u2
        obtain ⟨ha1, hT1⟩ := hp1
        obtain ⟨ha2, hT2⟩ := hp2
        dsimp only at hT1 hT2
        obtain ⟨z1, z2, G2, hG2, z3⟩ := att_eq (N := N) (M := M) (fr := fr) (fc := fc) (V := (fun k => (fv k).toInt64)) (b := ab) (T := T) hP2 hP hodd hG (e1.trans hgG)
        rw [z1] at hT1
        obtain ⟨p1, p2, p3, p4, p5, p6, p7, p8⟩ := hT1
        obtain ⟨q1, q2, q3, q4, q5, q6, q7, q8⟩ := hT2
        obtain rfl : g1 = g2 := p1.symm.trans q1
        obtain rfl : pr1 = pr2 := p2.symm.trans q2
        obtain rfl : ta1 = ta2 := p3.symm.trans q3
        obtain rfl : dg1 = dg2 := p6.symm.trans q6
        obtain rfl : sv1 = sv2 := p7.symm.trans q7
        obtain ⟨d, hd, ed⟩ := attM_dg (P := P) (M := M) (fr := fr) (fc := fc) (V := (fun k => (fv k).toInt64)) (b := ab) hN T
        have edg : dg1 = nI d := p6.symm.trans ed
        have hw : kw D (fun q : Nat => s.heap.size ≤ q) s.heap H locs (wD a1 cI cJ P N O M dg1 sv1 g1 pr1 ta1 fr fc fv ab au1 av1 aw1 ax1 ar1 ac1 af1 ak1 ++ wM a2 cI cJ P N O M g1 ta1 pr1 (decide (dg1 ≠ -1)) dg1 sv1 fr fc (fun k => (fv k).toInt64) ab au2 av2 aw2 ar2 ac2 af2 ak2 ax2) := by rw [show decide (dg1 ≠ -1) = true from by rw [edg]; exact dg_hr hd]; exact hw
        refine lv_icmp_eq (tgt := 388) hx hb d_L_law_229 (by decide) (fun _ => ?_) (fun hne => absurd (by rw [ha1, ha2, z2]) hne)
        exact go _ _ _ _ _ _ _ _ _ _ _ _ _ _ _ _ _ _ _ _ _ _ _ _ _ _ (attM P N M fr fc (fun k => (fv k).toInt64) ab T) H locs ⟨hok, hodd, Or.inr ⟨d, hd, edg⟩, ⟨G2, hG2, p1.symm.trans z3⟩, ⟨p1, p2, p3, p4, p5, p6, p7, p8⟩, ⟨q1, q2, q3, q4, q5, q6, q7, q8⟩⟩ hw
      · refine lv_tableIn (tgt := 234) hx hb d_L_law_62 (by decide) (by decide) (off := 172) (by decide) (by decide) ?_
        refine lv_aload_n hx hb d_L_law_234 rfl (lv_at hl 1 rfl) ?_
        refine lv_aload_n hx hb d_L_law_235 rfl (lv_at hl 0 rfl) ?_
        refine lv_iload_n hx hb d_L_law_236 rfl (lv_at hl 3 rfl) ?_
        refine lv_iconst (v := nI 1) hx hb d_L_law_237 (by decide) ?_
        refine lv_iadd hx hb d_L_law_238 ?_
        refine ky_ti (y := nI (i + 1)) (nI_add i 1) ?_
        refine ky_sld (j := i + 1) S hX hbl hbA hw (by omega) (by omega) d_L_law_239 ?_
        refine ky_lVi (As := [.int (xs (i + 1))]) (rest := []) S hK hw hA hl.1 (c_D_solve hok hr1) k_law_41 rfl rfl rfl rfl ⟨Nat.le_of_ble_eq_true rfl, Nat.le_of_ble_eq_true rfl⟩ ⟨Nat.le_of_ble_eq_true rfl, Nat.le_of_ble_eq_true rfl⟩ rfl rfl (Nat.le_of_ble_eq_true rfl) d_L_law_240 (fun r1 u1 H locs hp1 hw => ?_)
        refine lv_aload_n hx hb d_L_law_243 rfl (lv_at hl 2 rfl) ?_
        refine lv_aload_n hx hb d_L_law_244 rfl (lv_at hl 0 rfl) ?_
        refine lv_iload_n hx hb d_L_law_245 rfl (lv_at hl 3 rfl) ?_
        refine lv_iconst (v := nI 1) hx hb d_L_law_246 (by decide) ?_
        refine lv_iadd hx hb d_L_law_247 ?_
        refine ky_ti (y := nI (i + 1)) (nI_add i 1) ?_
        refine ky_sld (j := i + 1) S hX hbl hbA hw (by omega) (by omega) d_L_law_248 ?_
        refine ky_rVi (As := [.int (xs (i + 1))]) (rest := [.int r1]) S hK hw hA hl.1 (c_M_solve hok hr2) k_law_45 rfl rfl rfl rfl ⟨Nat.le_of_ble_eq_true rfl, Nat.le_of_ble_eq_true rfl⟩ ⟨Nat.le_of_ble_eq_true rfl, Nat.le_of_ble_eq_true rfl⟩ rfl rfl (Nat.le_of_ble_eq_true rfl) d_L_law_249 (fun r2 u2 H locs hp2 hw => ?_)
        obtain ⟨g1, pr1, ta1, ar1, ac1, dg1, sv1, ax1, au1, av1, aw1, af1, ak1⟩ := u1
        obtain ⟨hr_2, g2, pr2, ta2, ar2, ac2, dg2, sv2, ax2, au2, av2, aw2, af2, ak2⟩ := u2
        obtain ⟨ha1, hT1⟩ := hp1
        obtain ⟨ha2, hh2, hT2⟩ := hp2
        dsimp only at hT1 hh2 hT2
        obtain ⟨z1, G2, hG2, z3⟩ := sol_eq (N := N) (M := M) (fr := fr) (fc := fc) (V := (fun k => (fv k).toInt64)) (b := ab) (T := T) (k := xs (i + 1)) hP2 hP hodd hG (e1.trans hgG)
        rw [z1] at hT1 ha1
        obtain ⟨p1, p2, p3, p4, p5, p6, p7, p8⟩ := hT1
        obtain ⟨q1, q2, q3, q4, q5, q6, q7, q8⟩ := hT2
        obtain rfl : g1 = g2 := p1.symm.trans q1
        obtain rfl : pr1 = pr2 := p2.symm.trans q2
        obtain rfl : ta1 = ta2 := p3.symm.trans q3
        obtain rfl : dg1 = dg2 := p6.symm.trans q6
        obtain rfl : sv1 = sv2 := p7.symm.trans q7
        have hdg : dgOk dg1 ∧ hr_2 = decide (dg1 ≠ -1) := by
          rcases hwt : wth (xs (i + 1)) (nI 1) (nI 50) with _ | _
          · rw [sol_no hwt] at p6
            have edg : dg1 = dg := p6.symm.trans e6
            rw [edg, hh2, hwt]
            exact ⟨hdgo, rfl⟩
          · obtain ⟨d, hd, ed⟩ := sol_dg (rr := attMR P N M fr fc (fun k => (fv k).toInt64) ab) (T := T) (fun T => attM_dg (P := P) (M := M) (fr := fr) (fc := fc) (V := (fun k => (fv k).toInt64)) (b := ab) hN T) hwt
            have edg : dg1 = nI d := p6.symm.trans ed
            refine ⟨Or.inr ⟨d, hd, edg⟩, ?_⟩
            rw [edg, dg_hr hd, hh2, hwt]
            rfl
        obtain ⟨hdg2, rfl⟩ := hdg
        have hw : kw D (fun q : Nat => s.heap.size ≤ q) s.heap H locs (wD a1 cI cJ P N O M dg1 sv1 g1 pr1 ta1 fr fc fv ab au1 av1 aw1 ax1 ar1 ac1 af1 ak1 ++ wM a2 cI cJ P N O M g1 ta1 pr1 (decide (dg1 ≠ -1)) dg1 sv1 fr fc (fun k => (fv k).toInt64) ab au2 av2 aw2 ar2 ac2 af2 ak2 ax2) := hw
        refine lv_icmp_eq (tgt := 388) hx hb d_L_law_252 (by decide) (fun _ => ?_) (fun hne => absurd (by rw [ha1, ha2]) hne)
        exact go _ _ _ _ _ _ _ _ _ _ _ _ _ _ _ _ _ _ _ _ _ _ _ _ _ _ ((sol (attM P N M fr fc (fun k => (fv k).toInt64) ab) (attMR P N M fr fc (fun k => (fv k).toInt64) ab) (xs (i + 1)) T).2) H locs ⟨hok, hodd, hdg2, ⟨G2, hG2, p1.symm.trans z3⟩, ⟨p1, p2, p3, p4, p5, p6, p7, p8⟩, ⟨q1, q2, q3, q4, q5, q6, q7, q8⟩⟩ hw
      · refine lv_tableIn (tgt := 257) hx hb d_L_law_62 (by decide) (by decide) (off := 195) (by decide) (by decide) ?_
        refine lv_aload_n hx hb d_L_law_257 rfl (lv_at hl 1 rfl) ?_
        refine lv_aload_n hx hb d_L_law_258 rfl (lv_at hl 0 rfl) ?_
        refine lv_iload_n hx hb d_L_law_259 rfl (lv_at hl 3 rfl) ?_
        refine lv_iconst (v := nI 1) hx hb d_L_law_260 (by decide) ?_
        refine lv_iadd hx hb d_L_law_261 ?_
        refine ky_ti (y := nI (i + 1)) (nI_add i 1) ?_
        refine ky_sld (j := i + 1) S hX hbl hbA hw (by omega) (by omega) d_L_law_262 ?_
        refine ky_lVi (As := [.int (xs (i + 1))]) (rest := []) S hK hw hA hl.1 (c_D_solution hok) k_law_46 rfl rfl rfl rfl ⟨Nat.le_of_ble_eq_true rfl, Nat.le_of_ble_eq_true rfl⟩ ⟨Nat.le_of_ble_eq_true rfl, Nat.le_of_ble_eq_true rfl⟩ rfl rfl (Nat.le_of_ble_eq_true rfl) d_L_law_263 (fun r1 u1 H locs hp1 hw => ?_)
        refine lv_aload_n hx hb d_L_law_266 rfl (lv_at hl 2 rfl) ?_
        refine lv_aload_n hx hb d_L_law_267 rfl (lv_at hl 0 rfl) ?_
        refine lv_iload_n hx hb d_L_law_268 rfl (lv_at hl 3 rfl) ?_
        refine lv_iconst (v := nI 1) hx hb d_L_law_269 (by decide) ?_
        refine lv_iadd hx hb d_L_law_270 ?_
        refine ky_ti (y := nI (i + 1)) (nI_add i 1) ?_
        refine ky_sld (j := i + 1) S hX hbl hbA hw (by omega) (by omega) d_L_law_271 ?_
        refine ky_rVi (As := [.int (xs (i + 1))]) (rest := [.int r1]) S hK hw hA hl.1 (c_M_solution hok) k_law_49 rfl rfl rfl rfl ⟨Nat.le_of_ble_eq_true rfl, Nat.le_of_ble_eq_true rfl⟩ ⟨Nat.le_of_ble_eq_true rfl, Nat.le_of_ble_eq_true rfl⟩ rfl rfl (Nat.le_of_ble_eq_true rfl) d_L_law_272 (fun r2 u2 H locs hp2 hw => ?_)
        refine lv_icmp_eq (tgt := 388) hx hb d_L_law_275 (by decide) (fun _ => ?_) (fun hne => absurd (by rw [hp1, hp2]; exact sol_r hN1 hN (fun j hj => (e8 j hj).trans (f8 j hj).symm)) hne)
        exact go _ _ _ _ _ _ _ _ _ _ _ _ _ _ _ _ _ _ _ _ _ _ _ _ _ _ T H locs hI hw
      · refine lv_tableIn (tgt := 280) hx hb d_L_law_62 (by decide) (by decide) (off := 218) (by decide) (by decide) ?_
        refine lv_aload_n hx hb d_L_law_280 rfl (lv_at hl 1 rfl) ?_
        refine ky_lVi (As := []) (rest := []) S hK hw hA hl.1 (c_D_degree) k_law_50 rfl rfl rfl rfl ⟨Nat.le_of_ble_eq_true rfl, Nat.le_of_ble_eq_true rfl⟩ ⟨Nat.le_of_ble_eq_true rfl, Nat.le_of_ble_eq_true rfl⟩ rfl rfl (Nat.le_of_ble_eq_true rfl) d_L_law_281 (fun r1 u1 H locs hp1 hw => ?_)
        refine lv_aload_n hx hb d_L_law_284 rfl (lv_at hl 2 rfl) ?_
        refine ky_rVi (As := []) (rest := [.int r1]) S hK hw hA hl.1 (c_M_degree) k_law_53 rfl rfl rfl rfl ⟨Nat.le_of_ble_eq_true rfl, Nat.le_of_ble_eq_true rfl⟩ ⟨Nat.le_of_ble_eq_true rfl, Nat.le_of_ble_eq_true rfl⟩ rfl rfl (Nat.le_of_ble_eq_true rfl) d_L_law_285 (fun r2 u2 H locs hp2 hw => ?_)
        refine lv_icmp_eq (tgt := 388) hx hb d_L_law_288 (by decide) (fun _ => ?_) (fun hne => absurd (by rw [hp1, hp2]) hne)
        exact go _ _ _ _ _ _ _ _ _ _ _ _ _ _ _ _ _ _ _ _ _ _ _ _ _ _ T H locs hI hw
      · refine lv_tableIn (tgt := 293) hx hb d_L_law_62 (by decide) (by decide) (off := 231) (by decide) (by decide) ?_
        refine lv_aload_n hx hb d_L_law_293 rfl (lv_at hl 1 rfl) ?_
        refine lv_aload_n hx hb d_L_law_294 rfl (lv_at hl 0 rfl) ?_
        refine lv_iload_n hx hb d_L_law_295 rfl (lv_at hl 3 rfl) ?_
        refine lv_iconst (v := nI 1) hx hb d_L_law_296 (by decide) ?_
        refine lv_iadd hx hb d_L_law_297 ?_
        refine ky_ti (y := nI (i + 1)) (nI_add i 1) ?_
        refine ky_sld (j := i + 1) S hX hbl hbA hw (by omega) (by omega) d_L_law_298 ?_
        refine ky_lVi (As := [.int (xs (i + 1))]) (rest := []) S hK hw hA hl.1 (c_D_coefficient hdgo) k_law_54 rfl rfl rfl rfl ⟨Nat.le_of_ble_eq_true rfl, Nat.le_of_ble_eq_true rfl⟩ ⟨Nat.le_of_ble_eq_true rfl, Nat.le_of_ble_eq_true rfl⟩ rfl rfl (Nat.le_of_ble_eq_true rfl) d_L_law_299 (fun r1 u1 H locs hp1 hw => ?_)
        refine lv_aload_n hx hb d_L_law_302 rfl (lv_at hl 2 rfl) ?_
        refine lv_aload_n hx hb d_L_law_303 rfl (lv_at hl 0 rfl) ?_
        refine lv_iload_n hx hb d_L_law_304 rfl (lv_at hl 3 rfl) ?_
        refine lv_iconst (v := nI 1) hx hb d_L_law_305 (by decide) ?_
        refine lv_iadd hx hb d_L_law_306 ?_
        refine ky_ti (y := nI (i + 1)) (nI_add i 1) ?_
        refine ky_sld (j := i + 1) S hX hbl hbA hw (by omega) (by omega) d_L_law_307 ?_
        refine ky_rVi (As := [.int (xs (i + 1))]) (rest := [.int r1]) S hK hw hA hl.1 (c_M_coefficient hdgo) k_law_57 rfl rfl rfl rfl ⟨Nat.le_of_ble_eq_true rfl, Nat.le_of_ble_eq_true rfl⟩ ⟨Nat.le_of_ble_eq_true rfl, Nat.le_of_ble_eq_true rfl⟩ rfl rfl (Nat.le_of_ble_eq_true rfl) d_L_law_308 (fun r2 u2 H locs hp2 hw => ?_)
        refine lv_icmp_eq (tgt := 388) hx hb d_L_law_311 (by decide) (fun _ => ?_) (fun hne => absurd (by rw [hp1, hp2]; exact coe_r hdgo (fun j hj => (e5 j hj).trans (f5 j hj).symm)) hne)
        exact go _ _ _ _ _ _ _ _ _ _ _ _ _ _ _ _ _ _ _ _ _ _ _ _ _ _ T H locs hI hw
      · refine lv_tableIn (tgt := 316) hx hb d_L_law_62 (by decide) (by decide) (off := 254) (by decide) (by decide) ?_
        refine lv_aload_n hx hb d_L_law_316 rfl (lv_at hl 1 rfl) ?_
        refine lv_aload_n hx hb d_L_law_317 rfl (lv_at hl 0 rfl) ?_
        refine lv_iload_n hx hb d_L_law_318 rfl (lv_at hl 3 rfl) ?_
        refine lv_iconst (v := nI 1) hx hb d_L_law_319 (by decide) ?_
        refine lv_iadd hx hb d_L_law_320 ?_
        refine ky_ti (y := nI (i + 1)) (nI_add i 1) ?_
        refine ky_sld (j := i + 1) S hX hbl hbA hw (by omega) (by omega) d_L_law_321 ?_
        refine ky_lVi (As := [.int (xs (i + 1))]) (rest := []) S hK hw hA hl.1 (c_D_number hok) k_law_58 rfl rfl rfl rfl ⟨Nat.le_of_ble_eq_true rfl, Nat.le_of_ble_eq_true rfl⟩ ⟨Nat.le_of_ble_eq_true rfl, Nat.le_of_ble_eq_true rfl⟩ rfl rfl (Nat.le_of_ble_eq_true rfl) d_L_law_322 (fun r1 u1 H locs hp1 hw => ?_)
        refine lv_aload_n hx hb d_L_law_325 rfl (lv_at hl 2 rfl) ?_
        refine lv_aload_n hx hb d_L_law_326 rfl (lv_at hl 0 rfl) ?_
        refine lv_iload_n hx hb d_L_law_327 rfl (lv_at hl 3 rfl) ?_
        refine lv_iconst (v := nI 1) hx hb d_L_law_328 (by decide) ?_
        refine lv_iadd hx hb d_L_law_329 ?_
        refine ky_ti (y := nI (i + 1)) (nI_add i 1) ?_
        refine ky_sld (j := i + 1) S hX hbl hbA hw (by omega) (by omega) d_L_law_330 ?_
        refine ky_rVi (As := [.int (xs (i + 1))]) (rest := [.int r1]) S hK hw hA hl.1 (c_M_number hok) k_law_61 rfl rfl rfl rfl ⟨Nat.le_of_ble_eq_true rfl, Nat.le_of_ble_eq_true rfl⟩ ⟨Nat.le_of_ble_eq_true rfl, Nat.le_of_ble_eq_true rfl⟩ rfl rfl (Nat.le_of_ble_eq_true rfl) d_L_law_331 (fun r2 u2 H locs hp2 hw => ?_)
        refine lv_icmp_eq (tgt := 388) hx hb d_L_law_334 (by decide) (fun _ => ?_) (fun hne => absurd (by rw [hp1, hp2]; exact num_r hN1 hN (fun j hj => (e4 j hj).trans (f4 j hj).symm)) hne)
        exact go _ _ _ _ _ _ _ _ _ _ _ _ _ _ _ _ _ _ _ _ _ _ _ _ _ _ T H locs hI hw
      · refine lv_tableIn (tgt := 339) hx hb d_L_law_62 (by decide) (by decide) (off := 277) (by decide) (by decide) ?_
        refine lv_aload_n hx hb d_L_law_339 rfl (lv_at hl 1 rfl) ?_
        refine ky_lVi (As := []) (rest := []) S hK hw hA hl.1 (c_D_verify hok) k_law_62 rfl rfl rfl rfl ⟨Nat.le_of_ble_eq_true rfl, Nat.le_of_ble_eq_true rfl⟩ ⟨Nat.le_of_ble_eq_true rfl, Nat.le_of_ble_eq_true rfl⟩ rfl rfl (Nat.le_of_ble_eq_true rfl) d_L_law_340 (fun r1 u1 H locs hp1 hw => ?_)
        refine lv_aload_n hx hb d_L_law_343 rfl (lv_at hl 2 rfl) ?_
        refine ky_rVi (As := []) (rest := [.int r1]) S hK hw hA hl.1 (c_M_verify hok) k_law_66 rfl rfl rfl rfl ⟨Nat.le_of_ble_eq_true rfl, Nat.le_of_ble_eq_true rfl⟩ ⟨Nat.le_of_ble_eq_true rfl, Nat.le_of_ble_eq_true rfl⟩ rfl rfl (Nat.le_of_ble_eq_true rfl) d_L_law_344 (fun r2 u2 H locs hp2 hw => ?_)
        obtain ⟨pr1, av1, aw1⟩ := u1
        obtain ⟨pr2, av2, aw2⟩ := u2
        obtain ⟨ha1, hq1⟩ := hp1
        obtain ⟨ha2, hq2⟩ := hp2
        dsimp only at hq1 hq2
        obtain rfl : pr1 = pr2 := hq1.trans hq2.symm
        have hw : kw D (fun q : Nat => s.heap.size ≤ q) s.heap H locs (wD a1 cI cJ P N O M dg sv g pr1 ta fr fc fv ab au av1 aw1 ax ar ac af ak ++ wM a2 cI cJ P N O M g ta pr1 (decide (dg ≠ -1)) dg sv fr fc (fun k => (fv k).toInt64) ab bu av2 aw2 br bc bf bk bx) := hw
        have hmu : muK P fr fc (fun k => (fv k).toInt64) ax M = muK P fr fc (fun k => (fv k).toInt64) bx M := muK_congr hrc (fun j hj => (e8 j hj).trans (f8 j hj).symm)
        refine lv_icmp_eq (tgt := 388) hx hb d_L_law_347 (by decide) (fun _ => ?_) (fun hne => absurd (by rw [ha1, ha2, hmu]) hne)
        exact go _ _ _ _ _ _ _ _ _ _ _ _ _ _ _ _ _ _ _ _ _ _ _ _ _ _ (pT T pr1) H locs ⟨hok, hodd, hdgo, ⟨G, hG, hgG⟩, rel_p hr1, rel_p hr2⟩ hw
      · refine lv_tableIn (tgt := 352) hx hb d_L_law_62 (by decide) (by decide) (off := 290) (by decide) (by decide) ?_
        refine lv_aload_n hx hb d_L_law_352 rfl (lv_at hl 1 rfl) ?_
        refine ky_lVi (As := []) (rest := []) S hK hw hA hl.1 (c_D_products) k_law_67 rfl rfl rfl rfl ⟨Nat.le_of_ble_eq_true rfl, Nat.le_of_ble_eq_true rfl⟩ ⟨Nat.le_of_ble_eq_true rfl, Nat.le_of_ble_eq_true rfl⟩ rfl rfl (Nat.le_of_ble_eq_true rfl) d_L_law_353 (fun r1 u1 H locs hp1 hw => ?_)
        refine lv_aload_n hx hb d_L_law_356 rfl (lv_at hl 2 rfl) ?_
        refine ky_rVi (As := []) (rest := [.int r1]) S hK hw hA hl.1 (c_M_products) k_law_70 rfl rfl rfl rfl ⟨Nat.le_of_ble_eq_true rfl, Nat.le_of_ble_eq_true rfl⟩ ⟨Nat.le_of_ble_eq_true rfl, Nat.le_of_ble_eq_true rfl⟩ rfl rfl (Nat.le_of_ble_eq_true rfl) d_L_law_357 (fun r2 u2 H locs hp2 hw => ?_)
        refine lv_icmp_eq (tgt := 388) hx hb d_L_law_360 (by decide) (fun _ => ?_) (fun hne => absurd (by rw [hp1, hp2]) hne)
        exact go _ _ _ _ _ _ _ _ _ _ _ _ _ _ _ _ _ _ _ _ _ _ _ _ _ _ T H locs hI hw
      · refine lv_tableIn (tgt := 365) hx hb d_L_law_62 (by decide) (by decide) (off := 303) (by decide) (by decide) ?_
        refine lv_aload_n hx hb d_L_law_365 rfl (lv_at hl 1 rfl) ?_
        refine lv_aload_n hx hb d_L_law_366 rfl (lv_at hl 0 rfl) ?_
        refine lv_iload_n hx hb d_L_law_367 rfl (lv_at hl 3 rfl) ?_
        refine lv_iconst (v := nI 1) hx hb d_L_law_368 (by decide) ?_
        refine lv_iadd hx hb d_L_law_369 ?_
        refine ky_ti (y := nI (i + 1)) (nI_add i 1) ?_
        refine ky_sld (j := i + 1) S hX hbl hbA hw (by omega) (by omega) d_L_law_370 ?_
        refine ky_lVi (As := [.int (xs (i + 1))]) (rest := []) S hK hw hA hl.1 (c_D_count) k_law_71 rfl rfl rfl rfl ⟨Nat.le_of_ble_eq_true rfl, Nat.le_of_ble_eq_true rfl⟩ ⟨Nat.le_of_ble_eq_true rfl, Nat.le_of_ble_eq_true rfl⟩ rfl rfl (Nat.le_of_ble_eq_true rfl) d_L_law_371 (fun r1 u1 H locs hp1 hw => ?_)
        refine lv_aload_n hx hb d_L_law_374 rfl (lv_at hl 2 rfl) ?_
        refine lv_aload_n hx hb d_L_law_375 rfl (lv_at hl 0 rfl) ?_
        refine lv_iload_n hx hb d_L_law_376 rfl (lv_at hl 3 rfl) ?_
        refine lv_iconst (v := nI 1) hx hb d_L_law_377 (by decide) ?_
        refine lv_iadd hx hb d_L_law_378 ?_
        refine ky_ti (y := nI (i + 1)) (nI_add i 1) ?_
        refine ky_sld (j := i + 1) S hX hbl hbA hw (by omega) (by omega) d_L_law_379 ?_
        refine ky_rVi (As := [.int (xs (i + 1))]) (rest := [.int r1]) S hK hw hA hl.1 (c_M_count) k_law_74 rfl rfl rfl rfl ⟨Nat.le_of_ble_eq_true rfl, Nat.le_of_ble_eq_true rfl⟩ ⟨Nat.le_of_ble_eq_true rfl, Nat.le_of_ble_eq_true rfl⟩ rfl rfl (Nat.le_of_ble_eq_true rfl) d_L_law_380 (fun r2 u2 H locs hp2 hw => ?_)
        refine lv_icmp_eq (tgt := 388) hx hb d_L_law_383 (by decide) (fun _ => ?_) (fun hne => absurd (by rw [hp1, hp2]) hne)
        exact go _ _ _ _ _ _ _ _ _ _ _ _ _ _ _ _ _ _ _ _ _ _ _ _ _ _ T H locs hI hw
      · refine lv_tableOut (tgt := 388) hx hb d_L_law_62 (Or.inr (by rw [nI_toInt (by omega)]; omega)) (by decide) ?_
        exact go _ _ _ _ _ _ _ _ _ _ _ _ _ _ _ _ _ _ _ _ _ _ _ _ _ _ T H locs hI hw
set_option maxHeartbeats 4000000 in
set_option maxRecDepth 4000 in
/-- THE LAW, from its entry -/
theorem whole_start {p : Program} {e : Env} {s : State} {m : MethodId} {below : List Frame} {meth : Method} {c : Code} (l : Launch) {b L : Nat} {xs : Nat → Int32} (hL : L ≤ 2051) (C0 : lw_At p s m meth c b L xs) : W p l e room_1 s m #[Value.ref b] below meth c s.heap [] 0 0 (lw_Z below #[Value.ref b] s) (entryFrame m ([Value.ref b] : List Value).toArray 4) := by
  obtain ⟨hx, hb, hr, hml, hown, hts0, hX, hbl, hlocks, hgv⟩ := id C0
  have hts : ∀ w ∈ lw_g, w.before #[Value.ref b] s = true := fun w h => hts0 w (lw_in w h)
  have S : CallFix p m c code 4 s #[Value.ref b] lw_g R_law := ⟨hx, hb, hml, hown, hts⟩
  have hA : ∀ q : Nat, s.heap.size ≤ q → (fun q : Nat => s.heap.size ≤ q) q := fun _ h => h
  have hbA : ¬ (fun q : Nat => s.heap.size ≤ q) b := Nat.not_le.mpr hbl
  obtain ⟨c0, iS0, hKn0⟩ := u_known (C := R_D) (T := F_D) (N := 21) (n := 21) hts i_D (hts _ q1_5)
  obtain ⟨c1, iS1, hKn1⟩ := u_known (C := R_M) (T := F_M) (N := 22) (n := 22) hts i_M (hts _ q1_186)
  obtain ⟨D, hKc⟩ : ∃ D : va_G, ∀ (k : Nat) (q : vw_C), classes[k]? = some q → u_Kn s q.1 q.2.1 q.2.2 (D.1 k) (D.2 k) := by
    refine ⟨(fun k => if k = 0 then c0 else c1, fun k => if k = 0 then iS0 else iS1), ?_⟩
    intro k q hq
    match k, hq with
    | 0, hq => cases hq; exact hKn0
    | 1, hq => cases hq; exact hKn1
    | k + 2, hq => simp [classes] at hq
  have hK : va_K D classes [] s := ⟨hKc, fun k q h => by simp at h⟩
  have hP : va_P D classes [] s.heap := fun k q h => by simp at h
  have hD : va_D (fun q : Nat => s.heap.size ≤ q) [] := ⟨fun i j p q h => by simp at h, fun k q h => by simp at h⟩
  have hl := lv_entry ([.ref b]) (n := 4) (Nat.le_of_ble_eq_true rfl)
  rw [lg_entry_eq]
  generalize (lg_sl ([.ref b]) ++ List.replicate (4 - (lg_sl ([.ref b])).length) Slot.unset).toArray = ls at hl ⊢
  have hl : lv_has ls 4 [(0, .ref b)] := hl
  refine va_new (ci := 0) (fs := fD0) (C := R_D) (T := F_D) (N := 21) hx hb hts i_D t_D t_D_ok hown (hts _ q1_4) (hts _ q1_5) (hts _ q1_1) hK hP hD va_S.rf hA rfl (fun j hj => by rcases (show j = 0 ∨ j = 1 ∨ j = 2 ∨ j = 3 ∨ j = 4 ∨ j = 5 ∨ j = 6 ∨ j = 7 ∨ j = 8 ∨ j = 9 ∨ j = 10 ∨ j = 11 ∨ j = 12 ∨ j = 13 ∨ j = 14 ∨ j = 15 ∨ j = 16 ∨ j = 17 ∨ j = 18 ∨ j = 19 ∨ j = 20 by omega) with rfl | rfl | rfl | rfl | rfl | rfl | rfl | rfl | rfl | rfl | rfl | rfl | rfl | rfl | rfl | rfl | rfl | rfl | rfl | rfl | rfl <;> rfl) (Nat.le_of_ble_eq_true rfl) (Nat.le_of_ble_eq_true rfl) d_L_law_0 (fun q0 H hP hD hS => ?_)
  have hw : kw D (fun q : Nat => s.heap.size ≤ q) s.heap H [] [(q0, .inr (0, fD0))] := ⟨hP, hD, hS⟩
  refine lv_dup hx hb d_L_law_3 rfl ?_
  refine lv_aload_n hx hb d_L_law_4 rfl (lv_at hl 0 rfl) ?_
  refine lv_iconst (v := nI 0) hx hb d_L_law_5 (by decide) ?_
  refine ky_cell (k := 0) (rest := [.ref q0, .ref q0]) S hX hbl hbA hw hA hl.1 (by decide) hL ⟨Nat.le_of_ble_eq_true rfl, Nat.le_of_ble_eq_true rfl⟩ ⟨Nat.le_of_ble_eq_true rfl, Nat.le_of_ble_eq_true rfl⟩ (Nat.le_of_ble_eq_true rfl) d_L_law_6 (fun H locs hw => ?_)
  refine lv_aload_n hx hb d_L_law_9 rfl (lv_at hl 0 rfl) ?_
  refine lv_iconst (v := nI 1) hx hb d_L_law_10 (by decide) ?_
  refine ky_cell (k := 1) (rest := [.int (celF L xs 0), .ref q0, .ref q0]) S hX hbl hbA hw hA hl.1 (by decide) hL ⟨Nat.le_of_ble_eq_true rfl, Nat.le_of_ble_eq_true rfl⟩ ⟨Nat.le_of_ble_eq_true rfl, Nat.le_of_ble_eq_true rfl⟩ (Nat.le_of_ble_eq_true rfl) d_L_law_11 (fun H locs hw => ?_)
  refine lv_aload_n hx hb d_L_law_14 rfl (lv_at hl 0 rfl) ?_
  refine lv_iconst (v := nI 2) hx hb d_L_law_15 (by decide) ?_
  refine ky_cell (k := 2) (rest := [.int (celF L xs 1), .int (celF L xs 0), .ref q0, .ref q0]) S hX hbl hbA hw hA hl.1 (by decide) hL ⟨Nat.le_of_ble_eq_true rfl, Nat.le_of_ble_eq_true rfl⟩ ⟨Nat.le_of_ble_eq_true rfl, Nat.le_of_ble_eq_true rfl⟩ (Nat.le_of_ble_eq_true rfl) d_L_law_16 (fun H locs hw => ?_)
  refine ky_rI (w1 := []) (As := [.int (celF L xs 0), .int (celF L xs 1), .int (celF L xs 2)]) (rest := [.ref q0]) S hK hw hA hl.1 (c_D_init (h0 := q0)) k_law_15 rfl rfl rfl ⟨Nat.le_of_ble_eq_true rfl, Nat.le_of_ble_eq_true rfl⟩ ⟨Nat.le_of_ble_eq_true rfl, Nat.le_of_ble_eq_true rfl⟩ rfl rfl (Nat.le_of_ble_eq_true rfl) d_L_law_19 (fun u H locs hp hK hw => ?_)
  obtain ⟨a1, cI, cJ, P⟩ := u
  obtain ⟨ha1, hlst⟩ := hp
  dsimp only at ha1 hlst hK
  have hw : kw D (fun q : Nat => s.heap.size ≤ q) s.heap H locs (wD a1 cI cJ P (clN (celF L xs 1) 1 16) (clN (celF L xs 2) 1 100) 0 (-1) false 1 0 0 (fun _ => 0) (fun _ => 0) (fun _ => 0) z0 z0 z0 z0 z0 z0 z0 z0 z0) := hw
  refine lv_astore_n (lv' := [(1, .ref q0), (0, .ref b)]) hx hb d_L_law_22 rfl hl (by decide) rfl (fun ls hl => ?_)
  refine va_new (ci := 1) (fs := fM0) (C := R_M) (T := F_M) (N := 22) hx hb hts i_M t_M t_M_ok hown (hts _ q1_185) (hts _ q1_186) (hts _ q1_2) hK hw.1 hw.2.1 hw.2.2 hA rfl (fun j hj => by rcases (show j = 0 ∨ j = 1 ∨ j = 2 ∨ j = 3 ∨ j = 4 ∨ j = 5 ∨ j = 6 ∨ j = 7 ∨ j = 8 ∨ j = 9 ∨ j = 10 ∨ j = 11 ∨ j = 12 ∨ j = 13 ∨ j = 14 ∨ j = 15 ∨ j = 16 ∨ j = 17 ∨ j = 18 ∨ j = 19 ∨ j = 20 ∨ j = 21 by omega) with rfl | rfl | rfl | rfl | rfl | rfl | rfl | rfl | rfl | rfl | rfl | rfl | rfl | rfl | rfl | rfl | rfl | rfl | rfl | rfl | rfl | rfl <;> rfl) (Nat.le_of_ble_eq_true rfl) (Nat.le_of_ble_eq_true rfl) d_L_law_23 (fun q1 H hP hD hS => ?_)
  have hw : kw D (fun q : Nat => s.heap.size ≤ q) s.heap H locs ((wD a1 cI cJ P (clN (celF L xs 1) 1 16) (clN (celF L xs 2) 1 100) 0 (-1) false 1 0 0 (fun _ => 0) (fun _ => 0) (fun _ => 0) z0 z0 z0 z0 z0 z0 z0 z0 z0) ++ [(q1, .inr (1, fM0))]) := ⟨hP, hD, hS⟩
  refine lv_dup hx hb d_L_law_26 rfl ?_
  refine lv_aload_n hx hb d_L_law_27 rfl (lv_at hl 1 rfl) ?_
  refine lv_iconst (v := nI 0) hx hb d_L_law_28 (by decide) ?_
  refine ky_cell (k := 0) (rest := [.ref q1, .ref q1]) S hX hbl hbA hw hA hl.1 (by decide) hL ⟨Nat.le_of_ble_eq_true rfl, Nat.le_of_ble_eq_true rfl⟩ ⟨Nat.le_of_ble_eq_true rfl, Nat.le_of_ble_eq_true rfl⟩ (Nat.le_of_ble_eq_true rfl) d_L_law_29 (fun H locs hw => ?_)
  refine lv_aload_n hx hb d_L_law_32 rfl (lv_at hl 1 rfl) ?_
  refine lv_iconst (v := nI 1) hx hb d_L_law_33 (by decide) ?_
  refine ky_cell (k := 1) (rest := [.int (celF L xs 0), .ref q1, .ref q1]) S hX hbl hbA hw hA hl.1 (by decide) hL ⟨Nat.le_of_ble_eq_true rfl, Nat.le_of_ble_eq_true rfl⟩ ⟨Nat.le_of_ble_eq_true rfl, Nat.le_of_ble_eq_true rfl⟩ (Nat.le_of_ble_eq_true rfl) d_L_law_34 (fun H locs hw => ?_)
  refine lv_aload_n hx hb d_L_law_37 rfl (lv_at hl 1 rfl) ?_
  refine lv_iconst (v := nI 2) hx hb d_L_law_38 (by decide) ?_
  refine ky_cell (k := 2) (rest := [.int (celF L xs 1), .int (celF L xs 0), .ref q1, .ref q1]) S hX hbl hbA hw hA hl.1 (by decide) hL ⟨Nat.le_of_ble_eq_true rfl, Nat.le_of_ble_eq_true rfl⟩ ⟨Nat.le_of_ble_eq_true rfl, Nat.le_of_ble_eq_true rfl⟩ (Nat.le_of_ble_eq_true rfl) d_L_law_39 (fun H locs hw => ?_)
  refine ky_rI (w1 := (wD a1 cI cJ P (clN (celF L xs 1) 1 16) (clN (celF L xs 2) 1 100) 0 (-1) false 1 0 0 (fun _ => 0) (fun _ => 0) (fun _ => 0) z0 z0 z0 z0 z0 z0 z0 z0 z0)) (As := [.int (celF L xs 0), .int (celF L xs 1), .int (celF L xs 2)]) (rest := [.ref q1]) S hK hw hA hl.1 (c_M_init (h0 := q1)) k_law_20 rfl rfl rfl ⟨Nat.le_of_ble_eq_true rfl, Nat.le_of_ble_eq_true rfl⟩ ⟨Nat.le_of_ble_eq_true rfl, Nat.le_of_ble_eq_true rfl⟩ rfl rfl (Nat.le_of_ble_eq_true rfl) d_L_law_42 (fun u H locs hp hK2 hw => ?_)
  obtain ⟨a2, cI2, cJ2, P2⟩ := u
  obtain ⟨ha2, hlst2⟩ := hp
  dsimp only at ha2 hlst2 hK2
  have eP : P2 = P := lstP_uniq hlst2 hlst
  have hK3 := hK.app hK2
  have eI : cI2 = cI := ky_eqI hK3 2 0 rfl rfl
  have eJ : cJ2 = cJ := ky_eqJ hK3 3 1 rfl rfl
  rw [eP, eI, eJ] at hw
  have hw : kw D (fun q : Nat => s.heap.size ≤ q) s.heap H locs (wD a1 cI cJ P (clN (celF L xs 1) 1 16) (clN (celF L xs 2) 1 100) 0 (-1) false 1 0 0 (fun _ => 0) (fun _ => 0) (fun _ => 0) z0 z0 z0 z0 z0 z0 z0 z0 z0 ++ wM a2 cI cJ P (clN (celF L xs 1) 1 16) (clN (celF L xs 2) 1 100) 0 1 0 0 (decide ((-1 : Int32) ≠ -1)) (-1) false (fun _ => 0) (fun _ => 0) (fun k => ((fun _ => (0 : Int32)) k).toInt64) z0 z0 z0 z0 z0 z0 z0 z0 z0) := hw
  refine lv_astore_n (lv' := [(2, .ref q1), (1, .ref q0), (0, .ref b)]) hx hb d_L_law_45 rfl hl (by decide) rfl (fun ls hl => ?_)
  refine lv_iconst (v := nI 3) hx hb d_L_law_46 (by decide) ?_
  refine lv_istore_n (lv' := [(3, .int (nI 3)), (2, .ref q1), (1, .ref q0), (0, .ref b)]) hx hb d_L_law_47 rfl hl (by decide) rfl (fun ls hl => ?_)
  have hl := lv_sub (l' := [(0, .ref b), (1, .ref q0), (2, .ref q1), (3, .int (nI 3))]) hl [3, 2, 1, 0] rfl
  rw [← ha1, ← ha2] at hl
  obtain ⟨hn1, hn2, -⟩ := clN_bd (k := celF L xs 1) (lo := 1) (hi := 16) (by decide) (by decide)
  obtain ⟨ho1, ho2, -⟩ := clN_bd (k := celF L xs 2) (lo := 1) (hi := 100) (by decide) (by decide)
  obtain ⟨hq1, -, -⟩ := clN_bd (k := celF L xs 0) (lo := 2) (hi := 46337) (by decide) (by decide)
  have hok : okD P (clN (celF L xs 1) 1 16) (clN (celF L xs 2) 1 100) 0 (fun _ => 0) (fun _ => 0) := ⟨Nat.le_trans hq1 hlst.1, hlst.2.1, hn1, hn2, ho1, ho2, Nat.zero_le _, fun k hk => absurd hk (by omega)⟩
  have hrel : relT (clN (celF L xs 1) 1 16) ((1, 0, 0, z0, z0, -1, false, z0) : TS) 1 0 0 z0 z0 (-1) false z0 := ⟨rfl, rfl, rfl, fun _ _ => rfl, fun _ _ => rfl, rfl, rfl, fun _ _ => rfl⟩
  refine W.widen (k := 26) (n := 1269) (by decide) (by decide) ?_
  exact law_loop hL C0 hK (L + 4) 3 (by omega) (by omega) _ _ _ _ _ _ _ _ _ _ _ _ _ _ _ _ _ _ _ _ _ _ _ _ _ _ (1, 0, 0, z0, z0, -1, false, z0) H locs ls ⟨hok, isPr_odd (Nat.le_trans hq1 hlst.1) hlst.2.2.1, Or.inl rfl, ⟨1, by decide, rfl⟩, hrel, hrel⟩ hw hl
end
section
-- ===== YOUR PART ENDS =====
set_option maxHeartbeats 4000000 in
theorem lw_walk (l : Launch) (b : Addr) (xs : List Int32) : MetFree l x (headSpec (Jvm.Cond.code x code maxLocals ret :: tables_1) room_1) (lw_P b xs) (fun _ _ _ _ _ => True) lw_Q := by
  refine MetFree.of_bodyS (code := code) (maxLocals := maxLocals) (ret := ret) (by decide) ?_ ?_
  · intro args s m h hn
    obtain ⟨meth, c, h1, h2, h3, h4, h5, h6, -, -⟩ := Cond.code_spec hn (atoms_spec (ws := Jvm.Cond.code x code maxLocals ret :: tables_1) h _ List.mem_cons_self)
    exact ⟨meth, c, h1, h2, h3, h4, h5, h6⟩
  · intro p e s m args below meth c s₁ B hml0 hP _
    obtain ⟨rfl, hx, hbd, hgv⟩ := hP
    obtain ⟨scr, harrAt, hlist, hof, hsmall⟩ := hx
    obtain ⟨hcb, hkn, -, -⟩ := State.arrayAt?_spec harrAt
    have hown : s.vm.findClass R_law = some m.cls := findClass_of_methodNamed B.named
    have hts0 : ∀ c ∈ (Jvm.Cond.code x code maxLocals ret :: tables_1), c.before #[Value.ref b] s = true := atoms_spec (ws := Jvm.Cond.code x code maxLocals ret :: tables_1) B.pre
    have hts : ∀ w ∈ lw_tbl, w.before #[Value.ref b] s = true := k2_hts_sels lw_privs (fun w hw => hts0 w (List.mem_cons_of_mem _ hw)) lw_privs_ok
    have hml : c.maxLocals = 4 := B.maxLocals_eq (hts0 _ List.mem_cons_self)
    have X₀ : Stand p l e room_1 s m #[Value.ref b] below meth c s₁ [] 0 0 := Stand.of_body B
    have hh0 : s₁.heap = s.heap := by rw [B.state]; rfl
    have hsz : scr.slots.size = xs.length := by rw [← Array.length_toList, hlist, List.length_map]
    have hval : ∀ j : Nat, j < xs.length → scr.slots[j]? = some (.int (xs.getD j 0)) := fun j hj => by
      rw [← Array.getElem?_toList, hlist]
      simp [hj]
    have hbl : b < s.heap.size := (Array.getElem?_eq_some_iff.mp hcb).1
    have hX : va_X b xs.length (fun j => xs.getD j 0) s s.heap := ⟨scr, hcb, hof, hkn, hsz, hval⟩
    have K : W p l e room_1 s m #[Value.ref b] below meth c s₁.heap [] 0 0 (lw_Z below #[Value.ref b] s) (entryFrame m ([Value.ref b] : List Value).toArray 4) := by
      rw [hh0]
      exact whole_start l hbd ⟨B.exec, B.bytes, B.returns, hml, hown, hts, hX, hbl, B.notSynchronized, hgv⟩
    obtain ⟨t, a1, o, b1, b2, b3⟩ := K s₁ rfl X₀
    exact ⟨t, o, a1, b1, b2, b3⟩
theorem lw_pre_spec {args : Array Value} {s : State} (h : (Jvm.Cond.and given_1 narrow_1).before args s = true) (hr : rest_1_c.before args s = true) : ∃ (b : Addr) (xs : List Int32), lw_P b xs args s := by
  have hs := flat_of_before _ h
  have hq := flat_of_before _ hr
  have hc : (Cond.count 1).before args s = true := hs _ (by decide +kernel)
  have harr : (Cond.arrayOf (.arg 0) .int).before args s = true := hs _ (by decide +kernel)
  have hle : (Cond.le (.length (.arg 0)) (.int 2051)).before args s = true := hs _ (by decide +kernel)
  have hlen : (Cond.isInt (.length (.arg 0))).before args s = true := hq _ (by decide +kernel)
  have hall : (Cond.all (.arg 0) (.isInt (.elem (.arg 0) (.index 0)))).before args s = true := hq _ (by decide +kernel)
  obtain ⟨b, xs, hb, hx⟩ := State.ints_of_pre rfl harr hlen hall
  have hsm : xs.length < 2 ^ 31 := hx.choose_spec.2.2.2
  have hev : (Term.length (.arg 0)).eval args s none [] s = some (.int xs.length.toInt32) := hx.length_eval hb
  have hv := Cond.le_ints hev (show (Term.int 2051).eval args s none [] s = some (.int 2051) from rfl)
  have hd : xs.length.toInt32 ≤ 2051 := by
    simpa [Cond.before, Cond.holds, hv] using hle
  have hN : xs.length ≤ 2051 := (Int32.ofNat_le_ofNat hsm (by decide)).mp (show Int32.ofNat xs.length ≤ Int32.ofNat 2051 from hd)
  exact ⟨b, xs, Cond.one_arg hc (show args[0]? = some (.ref b) from hb), hx, hN, h⟩
theorem lw_comes (l : Launch) : Comes l x (Jvm.Cond.code x code maxLocals ret :: tables_1) room_1 (fun tb e args s => Calls_1 tb e args s ∧ rest_1 tb e args s ∧ Pre_1 tb e args s)
    (fun _ _ args s o t => lw_Q args s o t) := by
  intro p e ha hc hk s m args below hf hfit hheap happ hpre
  obtain ⟨b, xs, hP⟩ := lw_pre_spec hpre.2.2 hpre.2.1
  obtain ⟨k, o, h1, h2, h3, hQ⟩ := lw_walk l b xs p e ha hc hk s m args below hf ((Spec.applies_iff_loose hf).mp happ).1 hP trivial
  exact ⟨k, o, h1, h2, h3, hQ⟩
theorem lw_frame {s t : State} {o : Outcome} {args : Array Value} (h : Framed s o t [] 600000 7302250) :
    Framed s o t (fieldLocs frame_1_writes args s ++ arrayLocs frame_1_arrays args s ++ staticLocs frame_1_statics s) 600000 7302250 := h
theorem lw_limb (L : Cond) (hL : ∀ (args : Array Value) (s t : State), L.after args s (.returned (some (.int 1))) t = true) :
    ArmFor flags0 classFile x code maxLocals ret World_1 tables_1 room_1 Calls_1 rest_1 Pre_1
      (fun tb e a s o t => postC L tb e a s o t ∧ Framed s o t (fieldLocs frame_1_writes a s ++ arrayLocs frame_1_arrays a s ++ staticLocs frame_1_statics s) 600000 7302250) := by
  intro l _ _ _ p e ha hc hk s m args below hf hfit hheap happ hpre
  obtain ⟨k, o, h1, h2, h3, rfl, hF⟩ := lw_comes l p e ha hc hk s m args below hf hfit hheap happ hpre
  exact ⟨k, _, h1, h2, h3, hL args s _, lw_frame hF⟩
theorem i_vc : Claimed_1_1 ∧ Claimed_1_2 := ⟨lw_limb limb_1_1 (fun args s t => by simp [limb_1_1, Cond.after, Cond.holds, Cond.value]), lw_limb limb_1_2 (fun args s t => Cond.after_iff.mpr (by
  first | (rw [show limb_1_2 = Cond.eq .result (.int 1) from rfl, Cond.eq_ints (x := 1) (y := 1) rfl rfl]; simp; done) | (simp [limb_1_2, Cond.value, Term.eval]; done)))⟩
end
