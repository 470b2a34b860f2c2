section
-- ===== PART A: goes FIRST, ahead of the names: the tables' words, and 'selects' of the private methods out of them =====
/-- a private method of a class that the tables say can be made, by its rows of tables_1 -/
def lw_okq (q : MethodName × Nat) : Prop := (q.1.cls ≠ "java/lang/invoke/MethodHandle" ∧ q.1.cls ≠ "java/lang/invoke/VarHandle") ∧ Cond.instantiable q.1.cls q.2 ∈ tables_1 ∧ Cond.privateMethod q.1 ∈ tables_1 ∧ Cond.instanceMethod q.1 ∈ tables_1
theorem lw_p0 : lw_okq (⟨"PrimeKoblitz", "at", "(I)[I"⟩, 4) := ⟨⟨by decide +kernel, by decide +kernel⟩, List.mem_of_getElem? (i := 5) (by decide +kernel), List.mem_of_getElem? (i := 67) (by decide +kernel), List.mem_of_getElem? (i := 68) (by decide +kernel)⟩
theorem lw_p1 : lw_okq (⟨"PrimeKoblitz$Field", "put", "(I[I)V"⟩, 7) := ⟨⟨by decide +kernel, by decide +kernel⟩, List.mem_of_getElem? (i := 15) (by decide +kernel), List.mem_of_getElem? (i := 119) (by decide +kernel), List.mem_of_getElem? (i := 120) (by decide +kernel)⟩
theorem lw_p2 : lw_okq (⟨"PrimeKoblitzModel", "fold", "([I[I)V"⟩, 12) := ⟨⟨by decide +kernel, by decide +kernel⟩, List.mem_of_getElem? (i := 175) (by decide +kernel), List.mem_of_getElem? (i := 229) (by decide +kernel), List.mem_of_getElem? (i := 230) (by decide +kernel)⟩
theorem lw_p3 : lw_okq (⟨"PrimeKoblitzModel", "give", "(I[I)V"⟩, 12) := ⟨⟨by decide +kernel, by decide +kernel⟩, List.mem_of_getElem? (i := 175) (by decide +kernel), List.mem_of_getElem? (i := 233) (by decide +kernel), List.mem_of_getElem? (i := 234) (by decide +kernel)⟩
theorem lw_p4 : lw_okq (⟨"PrimeKoblitzModel", "take", "([II)V"⟩, 12) := ⟨⟨by decide +kernel, by decide +kernel⟩, List.mem_of_getElem? (i := 175) (by decide +kernel), List.mem_of_getElem? (i := 245) (by decide +kernel), List.mem_of_getElem? (i := 246) (by decide +kernel)⟩
theorem lw_p5 : lw_okq (⟨"PrimeKoblitzModel", "plus", "([I[I[I)V"⟩, 12) := ⟨⟨by decide +kernel, by decide +kernel⟩, List.mem_of_getElem? (i := 175) (by decide +kernel), List.mem_of_getElem? (i := 249) (by decide +kernel), List.mem_of_getElem? (i := 250) (by decide +kernel)⟩
theorem lw_p6 : lw_okq (⟨"PrimeKoblitzModel", "minus", "([I[I)V"⟩, 12) := ⟨⟨by decide +kernel, by decide +kernel⟩, List.mem_of_getElem? (i := 175) (by decide +kernel), List.mem_of_getElem? (i := 257) (by decide +kernel), List.mem_of_getElem? (i := 258) (by decide +kernel)⟩
theorem lw_p7 : lw_okq (⟨"PrimeKoblitzModel", "isZero", "([I)Z"⟩, 12) := ⟨⟨by decide +kernel, by decide +kernel⟩, List.mem_of_getElem? (i := 175) (by decide +kernel), List.mem_of_getElem? (i := 261) (by decide +kernel), List.mem_of_getElem? (i := 262) (by decide +kernel)⟩
theorem lw_p8 : lw_okq (⟨"PrimeKoblitzModel", "times", "([I[I)V"⟩, 12) := ⟨⟨by decide +kernel, by decide +kernel⟩, List.mem_of_getElem? (i := 175) (by decide +kernel), List.mem_of_getElem? (i := 269) (by decide +kernel), List.mem_of_getElem? (i := 270) (by decide +kernel)⟩
theorem lw_p9 : lw_okq (⟨"PrimeKoblitzModel", "copy", "([I[I)V"⟩, 12) := ⟨⟨by decide +kernel, by decide +kernel⟩, List.mem_of_getElem? (i := 175) (by decide +kernel), List.mem_of_getElem? (i := 281) (by decide +kernel), List.mem_of_getElem? (i := 282) (by decide +kernel)⟩
theorem lw_p10 : lw_okq (⟨"PrimeKoblitzModel", "more", "([I)V"⟩, 12) := ⟨⟨by decide +kernel, by decide +kernel⟩, List.mem_of_getElem? (i := 175) (by decide +kernel), List.mem_of_getElem? (i := 307) (by decide +kernel), List.mem_of_getElem? (i := 308) (by decide +kernel)⟩
def lw_privs_1 : List (MethodName × Nat) := [(⟨"PrimeKoblitz", "at", "(I)[I"⟩, 4), (⟨"PrimeKoblitz$Field", "put", "(I[I)V"⟩, 7), (⟨"PrimeKoblitzModel", "fold", "([I[I)V"⟩, 12), (⟨"PrimeKoblitzModel", "give", "(I[I)V"⟩, 12), (⟨"PrimeKoblitzModel", "take", "([II)V"⟩, 12), (⟨"PrimeKoblitzModel", "plus", "([I[I[I)V"⟩, 12), (⟨"PrimeKoblitzModel", "minus", "([I[I)V"⟩, 12), (⟨"PrimeKoblitzModel", "isZero", "([I)Z"⟩, 12), (⟨"PrimeKoblitzModel", "times", "([I[I)V"⟩, 12), (⟨"PrimeKoblitzModel", "copy", "([I[I)V"⟩, 12), (⟨"PrimeKoblitzModel", "more", "([I)V"⟩, 12)]
theorem lw_r1 : ∀ q ∈ lw_privs_1, lw_okq q := List.forall_mem_cons.mpr ⟨lw_p0, List.forall_mem_cons.mpr ⟨lw_p1, List.forall_mem_cons.mpr ⟨lw_p2, List.forall_mem_cons.mpr ⟨lw_p3, List.forall_mem_cons.mpr ⟨lw_p4, List.forall_mem_cons.mpr ⟨lw_p5, List.forall_mem_cons.mpr ⟨lw_p6, List.forall_mem_cons.mpr ⟨lw_p7, List.forall_mem_cons.mpr ⟨lw_p8, List.forall_mem_cons.mpr ⟨lw_p9, List.forall_mem_cons.mpr ⟨lw_p10, fun _ h => absurd h List.not_mem_nil⟩⟩⟩⟩⟩⟩⟩⟩⟩⟩⟩
def lw_privs : List (MethodName × Nat) := lw_privs_1
def lw_tbl : List Cond := k2_sels lw_privs ++ tables_1
theorem lw_privs_ok : ∀ q ∈ lw_privs, lw_okq q := lw_r1
-- ===== end of PART A; then your names; then what follows =====
/-! THE CLAIM OUT OF ONE WALK OF THE LAW'S BODY. Your part is whole_start (and what it stands on); all else here is the same for every law, but numbers. -/
def R_law : String := "PrimeKoblitzLaw"
def lw_P (b : Addr) (xs : List Int32) (args : Array Value) (s : State) : Prop := args = #[.ref b] ∧ s.IntsAt b xs ∧ xs.length ≤ 3072 ∧ (Jvm.Cond.and given_1 narrow_1).before args s = true
def lw_Q (_ : Array Value) (s : State) (o : Outcome) (t : State) : Prop := o = .returned (some (.int 1)) ∧ Framed s o t [] 600000 7302250
def lw_Z (below : List Frame) (a : Array Value) (s : State) : State → Prop := fun t => ∃ o, t.status = .running ∧ Ended t below o ∧ lw_Q a s o t
/-- the law's own end, with 1 on the stack, nothing written that was there before, its room as the claim has it -/
theorem lw_ret {p : Program} {l : Launch} {e : Env} {s : State} {m : MethodId} {below : List Frame} {meth : Method} {c : Code} {b : Nat} (hx : p.tables.exec = Jvm.exec) (hb : c.code = code) (hr : meth.sig.returnType = ret) (hlocks : meth.locks = false) {pc : Nat} {H : Heap} {ls : Array Slot} (hdg : decode code pc = .ok (.ireturn, 1)) : W p l e room_1 s m #[Value.ref b] below meth c H [] 600000 7302250 (lw_Z below #[Value.ref b] s) (F0 m pc ls [.int 1]) := by
  intro T hT X
  obtain ⟨fs, hret, hrun, hended, hW, hframe⟩ := X.leave (v := some (.int 1)) (hlocks := hlocks) (fun h => by rw [hr] at h; cases h)
  have hmeth' : T.vm.method? m = some meth := X.method'
  refine ⟨T.setFrames fs, ?_, .returned (some (.int 1)), hrun, hended, rfl, ⟨_, rfl⟩, hW, hframe⟩
  jvm_step X.here [X.here.top, hx, hb, hdg, hmeth', hr, ret, narrow_b1]
  (try refine ⟨rfl, ?_⟩); (try refine ⟨rfl, ?_⟩)
  first | (intro acts; rw [hret _ acts rfl rfl rfl]) | rw [hret _ _ rfl rfl rfl]
  exact Steps.refl _
/-- what holds at the law's entry: the machine, the code, the tables' words (any of lw_tbl by 'hts w (by decide +kernel)'), the script of L ints xs at the cell b, what the Statement gives of the start (any of its parts by flat_of_before) -/
def lw_At (p : Program) (s : State) (m : MethodId) (meth : Method) (c : Code) (b L : Nat) (xs : Nat → Int32) : Prop :=
  p.tables.exec = Jvm.exec ∧ c.code = code ∧ meth.sig.returnType = ret ∧ c.maxLocals = 4 ∧ s.vm.findClass R_law = some m.cls ∧ (∀ w ∈ lw_tbl, w.before #[Value.ref b] s = true) ∧ va_X b L xs s s.heap ∧ b < s.heap.size ∧ meth.locks = false ∧ (Jvm.Cond.and given_1 narrow_1).before #[Value.ref b] s = true
-- names
def R_K : String := "PrimeKoblitz"
def R_F : String := "PrimeKoblitz$Field"
def R_D : String := "PrimeKoblitzModel"
abbrev R_L : String := R_law
def F_K : u_T := fun k => match k with
  | 0 => ("PrimeKoblitz", "registers", "[[I", true)
  | 1 => ("PrimeKoblitz", "line", "[I", true)
  | 2 => ("PrimeKoblitz", "work", "[I", true)
  | _ => ("PrimeKoblitz", "field", "LPrimeKoblitz$Field;", true)
def t_K : Nat → FieldType := fun k => match k with
  | 0 => .array (.array .int)
  | 1 => .array .int
  | 2 => .array .int
  | _ => .object "PrimeKoblitz$Field"
abbrev w_K : List Cond := u_ws R_K F_K 4
def F_F : u_T := fun k => match k with
  | 0 => ("PrimeKoblitz$Field", "prime", "[I", true)
  | 1 => ("PrimeKoblitz$Field", "back", "[I", true)
  | 2 => ("PrimeKoblitz$Field", "one", "[I", true)
  | 3 => ("PrimeKoblitz$Field", "row", "[I", true)
  | 4 => ("PrimeKoblitz$Field", "power", "[I", true)
  | 5 => ("PrimeKoblitz$Field", "base", "[I", true)
  | _ => ("PrimeKoblitz$Field", "minus", "I", true)
def t_F : Nat → FieldType := fun k => match k with
  | 0 => .array .int
  | 1 => .array .int
  | 2 => .array .int
  | 3 => .array .int
  | 4 => .array .int
  | 5 => .array .int
  | _ => .int
abbrev w_F : List Cond := u_ws R_F F_F 7
def F_D : u_T := fun k => match k with
  | 0 => ("PrimeKoblitzModel", "file", "[I", true)
  | 1 => ("PrimeKoblitzModel", "line", "[I", true)
  | 2 => ("PrimeKoblitzModel", "prime", "[I", true)
  | 3 => ("PrimeKoblitzModel", "one", "[I", true)
  | 4 => ("PrimeKoblitzModel", "sum", "[I", true)
  | 5 => ("PrimeKoblitzModel", "x", "[I", true)
  | 6 => ("PrimeKoblitzModel", "y", "[I", true)
  | 7 => ("PrimeKoblitzModel", "z", "[I", true)
  | 8 => ("PrimeKoblitzModel", "u", "[I", true)
  | 9 => ("PrimeKoblitzModel", "v", "[I", true)
  | 10 => ("PrimeKoblitzModel", "e", "[I", true)
  | _ => ("PrimeKoblitzModel", "g", "[I", true)
def t_D : Nat → FieldType := fun k => match k with
  | 0 => .array .int
  | 1 => .array .int
  | 2 => .array .int
  | 3 => .array .int
  | 4 => .array .int
  | 5 => .array .int
  | 6 => .array .int
  | 7 => .array .int
  | 8 => .array .int
  | 9 => .array .int
  | 10 => .array .int
  | _ => .array .int
abbrev w_D : List Cond := u_ws R_D F_D 12
abbrev b_K_init : ByteArray := prog_1_method_1_code
def y_K_init : MethodName := ⟨R_K, "<init>", "()V"⟩
abbrev b_F_init : ByteArray := prog_2_method_1_code
def y_F_init : MethodName := ⟨R_F, "<init>", "()V"⟩
abbrev b_K_line : ByteArray := prog_1_method_3_code
def y_K_line : MethodName := ⟨R_K, "line", "(IIIII)V"⟩
abbrev b_K_load : ByteArray := prog_1_method_4_code
def y_K_load : MethodName := ⟨R_K, "load", "(I)Z"⟩
abbrev b_K_at : ByteArray := prog_1_method_2_code
def y_K_at : MethodName := ⟨R_K, "at", "(I)[I"⟩
abbrev b_F_copy : ByteArray := prog_2_method_2_code
def y_F_copy : MethodName := ⟨R_F, "copy", "([I[I)V"⟩
abbrev b_F_isLess : ByteArray := prog_2_method_4_code
def y_F_isLess : MethodName := ⟨R_F, "isLess", "([I)Z"⟩
abbrev b_F_difference : ByteArray := prog_2_method_6_code
def y_F_difference : MethodName := ⟨R_F, "difference", "([I[I[I)J"⟩
abbrev b_K_word : ByteArray := prog_1_method_5_code
def y_K_word : MethodName := ⟨R_K, "word", "(II)I"⟩
abbrev b_K_add : ByteArray := prog_1_method_6_code
def y_K_add : MethodName := ⟨R_K, "add", "(III)V"⟩
abbrev b_F_add : ByteArray := prog_2_method_7_code
def y_F_add : MethodName := ⟨R_F, "add", "([I[I[I)V"⟩
abbrev b_F_sum : ByteArray := prog_2_method_5_code
def y_F_sum : MethodName := ⟨R_F, "sum", "([I[I[I)J"⟩
abbrev b_K_subtract : ByteArray := prog_1_method_7_code
def y_K_subtract : MethodName := ⟨R_K, "subtract", "(III)V"⟩
abbrev b_F_subtract : ByteArray := prog_2_method_8_code
def y_F_subtract : MethodName := ⟨R_F, "subtract", "([I[I[I)V"⟩
abbrev b_K_multiply : ByteArray := prog_1_method_8_code
def y_K_multiply : MethodName := ⟨R_K, "multiply", "(III)V"⟩
abbrev b_F_multiply : ByteArray := prog_2_method_11_code
def y_F_multiply : MethodName := ⟨R_F, "multiply", "([I[I[I)V"⟩
abbrev b_F_reduced : ByteArray := prog_2_method_9_code
def y_F_reduced : MethodName := ⟨R_F, "reduced", "([I[I[I)V"⟩
abbrev b_F_put : ByteArray := prog_2_method_10_code
def y_F_put : MethodName := ⟨R_F, "put", "(I[I)V"⟩
abbrev b_K_square : ByteArray := prog_1_method_9_code
def y_K_square : MethodName := ⟨R_K, "square", "(II)V"⟩
abbrev b_K_squares : ByteArray := prog_1_method_10_code
def y_K_squares : MethodName := ⟨R_K, "squares", "(III)V"⟩
abbrev b_K_twice : ByteArray := prog_1_method_11_code
def y_K_twice : MethodName := ⟨R_K, "twice", "(II)V"⟩
abbrev b_K_halve : ByteArray := prog_1_method_12_code
def y_K_halve : MethodName := ⟨R_K, "halve", "(II)V"⟩
abbrev b_F_halve : ByteArray := prog_2_method_13_code
def y_F_halve : MethodName := ⟨R_F, "halve", "([I[I)V"⟩
abbrev b_K_negate : ByteArray := prog_1_method_13_code
def y_K_negate : MethodName := ⟨R_K, "negate", "(II)V"⟩
abbrev b_K_invert : ByteArray := prog_1_method_14_code
def y_K_invert : MethodName := ⟨R_K, "invert", "(II)Z"⟩
abbrev b_F_isZero : ByteArray := prog_2_method_3_code
def y_F_isZero : MethodName := ⟨R_F, "isZero", "([I)Z"⟩
abbrev b_F_invert : ByteArray := prog_2_method_12_code
def y_F_invert : MethodName := ⟨R_F, "invert", "([I[I)V"⟩
abbrev b_K_zero : ByteArray := prog_1_method_15_code
def y_K_zero : MethodName := ⟨R_K, "zero", "(I)Z"⟩
abbrev b_K_carry : ByteArray := prog_1_method_16_code
def y_K_carry : MethodName := ⟨R_K, "carry", "(II)V"⟩
abbrev b_F_carry : ByteArray := prog_2_method_14_code
def y_F_carry : MethodName := ⟨R_F, "carry", "([II[I)V"⟩
abbrev b_D_init : ByteArray := prog_4_method_1_code
def y_D_init : MethodName := ⟨R_D, "<init>", "()V"⟩
abbrev b_D_line : ByteArray := prog_4_method_10_code
def y_D_line : MethodName := ⟨R_D, "line", "(IIIII)V"⟩
abbrev b_D_load : ByteArray := prog_4_method_11_code
def y_D_load : MethodName := ⟨R_D, "load", "(I)Z"⟩
abbrev b_D_fold : ByteArray := prog_4_method_4_code
def y_D_fold : MethodName := ⟨R_D, "fold", "([I[I)V"⟩
abbrev b_D_give : ByteArray := prog_4_method_3_code
def y_D_give : MethodName := ⟨R_D, "give", "(I[I)V"⟩
abbrev b_D_word : ByteArray := prog_4_method_12_code
def y_D_word : MethodName := ⟨R_D, "word", "(II)I"⟩
abbrev b_D_add : ByteArray := prog_4_method_13_code
def y_D_add : MethodName := ⟨R_D, "add", "(III)V"⟩
abbrev b_D_take : ByteArray := prog_4_method_2_code
def y_D_take : MethodName := ⟨R_D, "take", "([II)V"⟩
abbrev b_D_plus : ByteArray := prog_4_method_5_code
def y_D_plus : MethodName := ⟨R_D, "plus", "([I[I[I)V"⟩
abbrev b_D_subtract : ByteArray := prog_4_method_14_code
def y_D_subtract : MethodName := ⟨R_D, "subtract", "(III)V"⟩
abbrev b_D_minus : ByteArray := prog_4_method_7_code
def y_D_minus : MethodName := ⟨R_D, "minus", "([I[I)V"⟩
abbrev b_D_isZero : ByteArray := prog_4_method_6_code
def y_D_isZero : MethodName := ⟨R_D, "isZero", "([I)Z"⟩
abbrev b_D_multiply : ByteArray := prog_4_method_15_code
def y_D_multiply : MethodName := ⟨R_D, "multiply", "(III)V"⟩
abbrev b_D_times : ByteArray := prog_4_method_8_code
def y_D_times : MethodName := ⟨R_D, "times", "([I[I)V"⟩
abbrev b_D_square : ByteArray := prog_4_method_16_code
def y_D_square : MethodName := ⟨R_D, "square", "(II)V"⟩
abbrev b_D_squares : ByteArray := prog_4_method_17_code
def y_D_squares : MethodName := ⟨R_D, "squares", "(III)V"⟩
abbrev b_D_copy : ByteArray := prog_4_method_9_code
def y_D_copy : MethodName := ⟨R_D, "copy", "([I[I)V"⟩
abbrev b_D_twice : ByteArray := prog_4_method_18_code
def y_D_twice : MethodName := ⟨R_D, "twice", "(II)V"⟩
abbrev b_D_halve : ByteArray := prog_4_method_19_code
def y_D_halve : MethodName := ⟨R_D, "halve", "(II)V"⟩
abbrev b_D_negate : ByteArray := prog_4_method_20_code
def y_D_negate : MethodName := ⟨R_D, "negate", "(II)V"⟩
abbrev b_D_invert : ByteArray := prog_4_method_21_code
def y_D_invert : MethodName := ⟨R_D, "invert", "(II)Z"⟩
abbrev b_D_nought : ByteArray := prog_4_method_22_code
def y_D_nought : MethodName := ⟨R_D, "nought", "([I)Z"⟩
abbrev b_D_half : ByteArray := prog_4_method_23_code
def y_D_half : MethodName := ⟨R_D, "half", "([I)V"⟩
abbrev b_D_more : ByteArray := prog_4_method_24_code
def y_D_more : MethodName := ⟨R_D, "more", "([I)V"⟩
abbrev b_D_less : ByteArray := prog_4_method_26_code
def y_D_less : MethodName := ⟨R_D, "less", "([I[I)Z"⟩
abbrev b_D_lessen : ByteArray := prog_4_method_25_code
def y_D_lessen : MethodName := ⟨R_D, "lessen", "([I[I)V"⟩
abbrev b_D_zero : ByteArray := prog_4_method_27_code
def y_D_zero : MethodName := ⟨R_D, "zero", "(I)Z"⟩
abbrev b_D_carry : ByteArray := prog_4_method_28_code
def y_D_carry : MethodName := ⟨R_D, "carry", "(II)V"⟩
abbrev classes : List vw_C := [(R_K, F_K, 4), (R_F, F_F, 7), (R_D, F_D, 12)]
def tb : List Cond := lw_tbl.filter goodWord
theorem n_K : ∀ a, a < 4 → ∀ b, b < 4 → a ≠ b → (F_K a).2.1 ≠ (F_K b).2.1 := by decide +kernel
theorem t_K_ok : ∀ k, k < 4 → parseFieldDescriptor (F_K k).2.2.1 = some (t_K k) := by decide +kernel
theorem i_K : ∀ w ∈ w_K, w ∈ tb := by decide +kernel
theorem n_F : ∀ a, a < 7 → ∀ b, b < 7 → a ≠ b → (F_F a).2.1 ≠ (F_F b).2.1 := by decide +kernel
theorem t_F_ok : ∀ k, k < 7 → parseFieldDescriptor (F_F k).2.2.1 = some (t_F k) := by decide +kernel
theorem i_F : ∀ w ∈ w_F, w ∈ tb := by decide +kernel
theorem n_D : ∀ a, a < 12 → ∀ b, b < 12 → a ≠ b → (F_D a).2.1 ≠ (F_D b).2.1 := by decide +kernel
theorem t_D_ok : ∀ k, k < 12 → parseFieldDescriptor (F_D k).2.2.1 = some (t_D k) := by decide +kernel
theorem i_D : ∀ w ∈ w_D, w ∈ tb := by decide +kernel
end
section
-- the words of the tables that rows use
theorem k_0 : (.initialized R_L : Cond) ∈ tb := by decide +kernel
theorem k_1 : (.initialized R_K : Cond) ∈ tb := by decide +kernel
theorem k_2 : (.initialized R_F : Cond) ∈ tb := by decide +kernel
theorem k_3 : (.initialized R_D : Cond) ∈ tb := by decide +kernel
theorem k_4 : (.classLink R_L 7 R_K : Cond) ∈ tb := by decide +kernel
theorem k_5 : (.instantiable R_K 4 : Cond) ∈ tb := by decide +kernel
theorem k_6 : (.methodLink R_L 9 y_K_init : Cond) ∈ tb := by decide +kernel
theorem k_7 : (.instanceMethod y_K_init : Cond) ∈ tb := by decide +kernel
theorem k_8 : (.code y_K_init b_K_init 1 none : Cond) ∈ tb := by decide +kernel
theorem k_9 : (.methodLink R_K 1 objectInit : Cond) ∈ tb := by decide +kernel
theorem k_10 : (.instanceMethod objectInit : Cond) ∈ tb := by decide +kernel
theorem k_11 : (.code objectInit ⟨#[0xb1]⟩ 1 none : Cond) ∈ tb := by decide +kernel
theorem k_12 : (.classLink R_K 9 "[[I" : Cond) ∈ tb := by decide +kernel
theorem k_14 : (.classLink R_K 21 R_F : Cond) ∈ tb := by decide +kernel
theorem k_15 : (.instantiable R_F 7 : Cond) ∈ tb := by decide +kernel
theorem k_16 : (.methodLink R_K 23 y_F_init : Cond) ∈ tb := by decide +kernel
theorem k_17 : (.instanceMethod y_F_init : Cond) ∈ tb := by decide +kernel
theorem k_18 : (.code y_F_init b_F_init 3 none : Cond) ∈ tb := by decide +kernel
theorem k_19 : (.methodLink R_F 3 objectInit : Cond) ∈ tb := by decide +kernel
theorem k_20 : (.constant R_F 30 954529 : Cond) ∈ tb := by decide +kernel
theorem k_21 : (.fieldLink R_F 9 R_F "prime" "[I" : Cond) ∈ tb := by decide +kernel
theorem k_23 : (.fieldLink R_F 15 R_F "back" "[I" : Cond) ∈ tb := by decide +kernel
theorem k_24 : (.fieldLink R_F 18 R_F "one" "[I" : Cond) ∈ tb := by decide +kernel
theorem k_25 : (.fieldLink R_F 21 R_F "row" "[I" : Cond) ∈ tb := by decide +kernel
theorem k_26 : (.fieldLink R_F 24 R_F "power" "[I" : Cond) ∈ tb := by decide +kernel
theorem k_27 : (.fieldLink R_F 27 R_F "base" "[I" : Cond) ∈ tb := by decide +kernel
theorem k_28 : (.fieldLink R_F 31 R_F "minus" "I" : Cond) ∈ tb := by decide +kernel
theorem k_44 : (.arrayClass .int : Cond) ∈ tb := by decide +kernel
theorem k_45 : (.fieldLink R_K 11 R_K "registers" "[[I" : Cond) ∈ tb := by decide +kernel
theorem k_46 : (.fieldLink R_K 14 R_K "line" "[I" : Cond) ∈ tb := by decide +kernel
theorem k_47 : (.fieldLink R_K 18 R_K "work" "[I" : Cond) ∈ tb := by decide +kernel
theorem k_48 : (.fieldLink R_K 24 R_K "field" "LPrimeKoblitz$Field;" : Cond) ∈ tb := by decide +kernel
theorem k_58 : (.methodLink R_L 13 y_K_line : Cond) ∈ tb := by decide +kernel
theorem k_59 : (.instanceMethod y_K_line : Cond) ∈ tb := by decide +kernel
theorem k_60 : (.selects R_K y_K_line y_K_line : Cond) ∈ tb := by decide +kernel
theorem k_61 : (.code y_K_line b_K_line 7 none : Cond) ∈ tb := by decide +kernel
theorem k_62 : (.methodLink R_L 18 y_K_load : Cond) ∈ tb := by decide +kernel
theorem k_63 : (.instanceMethod y_K_load : Cond) ∈ tb := by decide +kernel
theorem k_64 : (.selects R_K y_K_load y_K_load : Cond) ∈ tb := by decide +kernel
theorem k_65 : (.code y_K_load b_K_load 2 (some .boolean) : Cond) ∈ tb := by decide +kernel
theorem k_66 : (.methodLink R_K 28 y_K_at : Cond) ∈ tb := by decide +kernel
theorem k_68 : (.instanceMethod y_K_at : Cond) ∈ tb := by decide +kernel
theorem k_69 : (.code y_K_at b_K_at 2 (some (.array .int)) : Cond) ∈ tb := by decide +kernel
theorem k_70 : (.methodLink R_K 32 y_F_copy : Cond) ∈ tb := by decide +kernel
theorem k_71 : (.static y_F_copy : Cond) ∈ tb := by decide +kernel
theorem k_72 : (.code y_F_copy b_F_copy 3 none : Cond) ∈ tb := by decide +kernel
theorem k_73 : (.methodLink R_K 36 y_F_isLess : Cond) ∈ tb := by decide +kernel
theorem k_74 : (.instanceMethod y_F_isLess : Cond) ∈ tb := by decide +kernel
theorem k_75 : (.selects R_F y_F_isLess y_F_isLess : Cond) ∈ tb := by decide +kernel
theorem k_76 : (.code y_F_isLess b_F_isLess 3 (some .boolean) : Cond) ∈ tb := by decide +kernel
theorem k_77 : (.constantLong R_F 35 4294967295 : Cond) ∈ tb := by decide +kernel
theorem k_79 : (.static y_F_difference : Cond) ∈ tb := by decide +kernel
theorem k_80 : (.code y_F_difference b_F_difference 8 (some .long) : Cond) ∈ tb := by decide +kernel
theorem k_81 : (.methodLink R_L 23 y_K_word : Cond) ∈ tb := by decide +kernel
theorem k_82 : (.instanceMethod y_K_word : Cond) ∈ tb := by decide +kernel
theorem k_83 : (.selects R_K y_K_word y_K_word : Cond) ∈ tb := by decide +kernel
theorem k_84 : (.code y_K_word b_K_word 3 (some .int) : Cond) ∈ tb := by decide +kernel
theorem k_85 : (.methodLink R_L 28 y_K_add : Cond) ∈ tb := by decide +kernel
theorem k_86 : (.instanceMethod y_K_add : Cond) ∈ tb := by decide +kernel
theorem k_87 : (.selects R_K y_K_add y_K_add : Cond) ∈ tb := by decide +kernel
theorem k_88 : (.code y_K_add b_K_add 4 none : Cond) ∈ tb := by decide +kernel
theorem k_89 : (.methodLink R_K 47 y_F_add : Cond) ∈ tb := by decide +kernel
theorem k_90 : (.instanceMethod y_F_add : Cond) ∈ tb := by decide +kernel
theorem k_91 : (.selects R_F y_F_add y_F_add : Cond) ∈ tb := by decide +kernel
theorem k_92 : (.code y_F_add b_F_add 6 none : Cond) ∈ tb := by decide +kernel
theorem k_93 : (.methodLink R_F 37 y_F_sum : Cond) ∈ tb := by decide +kernel
theorem k_94 : (.static y_F_sum : Cond) ∈ tb := by decide +kernel
theorem k_95 : (.code y_F_sum b_F_sum 6 (some .long) : Cond) ∈ tb := by decide +kernel
theorem k_96 : (.methodLink R_F 41 y_F_isLess : Cond) ∈ tb := by decide +kernel
theorem k_97 : (.methodLink R_F 45 y_F_difference : Cond) ∈ tb := by decide +kernel
theorem k_98 : (.methodLink R_L 33 y_K_subtract : Cond) ∈ tb := by decide +kernel
theorem k_99 : (.instanceMethod y_K_subtract : Cond) ∈ tb := by decide +kernel
theorem k_100 : (.selects R_K y_K_subtract y_K_subtract : Cond) ∈ tb := by decide +kernel
theorem k_101 : (.code y_K_subtract b_K_subtract 4 none : Cond) ∈ tb := by decide +kernel
theorem k_102 : (.methodLink R_K 51 y_F_subtract : Cond) ∈ tb := by decide +kernel
theorem k_103 : (.instanceMethod y_F_subtract : Cond) ∈ tb := by decide +kernel
theorem k_104 : (.selects R_F y_F_subtract y_F_subtract : Cond) ∈ tb := by decide +kernel
theorem k_105 : (.code y_F_subtract b_F_subtract 4 none : Cond) ∈ tb := by decide +kernel
theorem k_106 : (.methodLink R_L 37 y_K_multiply : Cond) ∈ tb := by decide +kernel
theorem k_107 : (.instanceMethod y_K_multiply : Cond) ∈ tb := by decide +kernel
theorem k_108 : (.selects R_K y_K_multiply y_K_multiply : Cond) ∈ tb := by decide +kernel
theorem k_109 : (.code y_K_multiply b_K_multiply 4 none : Cond) ∈ tb := by decide +kernel
theorem k_110 : (.methodLink R_K 54 y_F_multiply : Cond) ∈ tb := by decide +kernel
theorem k_111 : (.instanceMethod y_F_multiply : Cond) ∈ tb := by decide +kernel
theorem k_112 : (.selects R_F y_F_multiply y_F_multiply : Cond) ∈ tb := by decide +kernel
theorem k_113 : (.code y_F_multiply b_F_multiply 4 none : Cond) ∈ tb := by decide +kernel
theorem k_114 : (.methodLink R_F 52 y_F_reduced : Cond) ∈ tb := by decide +kernel
theorem k_115 : (.instanceMethod y_F_reduced : Cond) ∈ tb := by decide +kernel
theorem k_116 : (.selects R_F y_F_reduced y_F_reduced : Cond) ∈ tb := by decide +kernel
theorem k_117 : (.code y_F_reduced b_F_reduced 6 none : Cond) ∈ tb := by decide +kernel
theorem k_118 : (.methodLink R_F 48 y_F_put : Cond) ∈ tb := by decide +kernel
theorem k_120 : (.instanceMethod y_F_put : Cond) ∈ tb := by decide +kernel
theorem k_121 : (.code y_F_put b_F_put 6 none : Cond) ∈ tb := by decide +kernel
theorem k_122 : (.methodLink R_L 41 y_K_square : Cond) ∈ tb := by decide +kernel
theorem k_123 : (.instanceMethod y_K_square : Cond) ∈ tb := by decide +kernel
theorem k_124 : (.selects R_K y_K_square y_K_square : Cond) ∈ tb := by decide +kernel
theorem k_125 : (.code y_K_square b_K_square 3 none : Cond) ∈ tb := by decide +kernel
theorem k_126 : (.methodLink R_K 57 y_K_multiply : Cond) ∈ tb := by decide +kernel
theorem k_127 : (.methodLink R_L 46 y_K_squares : Cond) ∈ tb := by decide +kernel
theorem k_128 : (.instanceMethod y_K_squares : Cond) ∈ tb := by decide +kernel
theorem k_129 : (.selects R_K y_K_squares y_K_squares : Cond) ∈ tb := by decide +kernel
theorem k_130 : (.code y_K_squares b_K_squares 5 none : Cond) ∈ tb := by decide +kernel
theorem k_131 : (.methodLink R_K 60 y_K_square : Cond) ∈ tb := by decide +kernel
theorem k_132 : (.methodLink R_L 50 y_K_twice : Cond) ∈ tb := by decide +kernel
theorem k_133 : (.instanceMethod y_K_twice : Cond) ∈ tb := by decide +kernel
theorem k_134 : (.selects R_K y_K_twice y_K_twice : Cond) ∈ tb := by decide +kernel
theorem k_135 : (.code y_K_twice b_K_twice 3 none : Cond) ∈ tb := by decide +kernel
theorem k_136 : (.methodLink R_L 54 y_K_halve : Cond) ∈ tb := by decide +kernel
theorem k_137 : (.instanceMethod y_K_halve : Cond) ∈ tb := by decide +kernel
theorem k_138 : (.selects R_K y_K_halve y_K_halve : Cond) ∈ tb := by decide +kernel
theorem k_139 : (.code y_K_halve b_K_halve 3 none : Cond) ∈ tb := by decide +kernel
theorem k_140 : (.methodLink R_K 64 y_F_halve : Cond) ∈ tb := by decide +kernel
theorem k_141 : (.instanceMethod y_F_halve : Cond) ∈ tb := by decide +kernel
theorem k_142 : (.selects R_F y_F_halve y_F_halve : Cond) ∈ tb := by decide +kernel
theorem k_143 : (.code y_F_halve b_F_halve 6 none : Cond) ∈ tb := by decide +kernel
theorem k_144 : (.methodLink R_F 56 y_F_copy : Cond) ∈ tb := by decide +kernel
theorem k_145 : (.methodLink R_L 58 y_K_negate : Cond) ∈ tb := by decide +kernel
theorem k_146 : (.instanceMethod y_K_negate : Cond) ∈ tb := by decide +kernel
theorem k_147 : (.selects R_K y_K_negate y_K_negate : Cond) ∈ tb := by decide +kernel
theorem k_148 : (.code y_K_negate b_K_negate 4 none : Cond) ∈ tb := by decide +kernel
theorem k_149 : (.methodLink R_L 62 y_K_invert : Cond) ∈ tb := by decide +kernel
theorem k_150 : (.instanceMethod y_K_invert : Cond) ∈ tb := by decide +kernel
theorem k_151 : (.selects R_K y_K_invert y_K_invert : Cond) ∈ tb := by decide +kernel
theorem k_152 : (.code y_K_invert b_K_invert 3 (some .boolean) : Cond) ∈ tb := by decide +kernel
theorem k_153 : (.methodLink R_K 67 y_F_isZero : Cond) ∈ tb := by decide +kernel
theorem k_154 : (.static y_F_isZero : Cond) ∈ tb := by decide +kernel
theorem k_155 : (.code y_F_isZero b_F_isZero 3 (some .boolean) : Cond) ∈ tb := by decide +kernel
theorem k_156 : (.methodLink R_K 70 y_F_invert : Cond) ∈ tb := by decide +kernel
theorem k_157 : (.instanceMethod y_F_invert : Cond) ∈ tb := by decide +kernel
theorem k_158 : (.selects R_F y_F_invert y_F_invert : Cond) ∈ tb := by decide +kernel
theorem k_159 : (.code y_F_invert b_F_invert 5 none : Cond) ∈ tb := by decide +kernel
theorem k_160 : (.methodLink R_L 67 y_K_zero : Cond) ∈ tb := by decide +kernel
theorem k_161 : (.instanceMethod y_K_zero : Cond) ∈ tb := by decide +kernel
theorem k_162 : (.selects R_K y_K_zero y_K_zero : Cond) ∈ tb := by decide +kernel
theorem k_163 : (.code y_K_zero b_K_zero 2 (some .boolean) : Cond) ∈ tb := by decide +kernel
theorem k_164 : (.methodLink R_L 71 y_K_carry : Cond) ∈ tb := by decide +kernel
theorem k_165 : (.instanceMethod y_K_carry : Cond) ∈ tb := by decide +kernel
theorem k_166 : (.selects R_K y_K_carry y_K_carry : Cond) ∈ tb := by decide +kernel
theorem k_167 : (.code y_K_carry b_K_carry 3 none : Cond) ∈ tb := by decide +kernel
theorem k_168 : (.methodLink R_K 73 y_F_carry : Cond) ∈ tb := by decide +kernel
theorem k_169 : (.instanceMethod y_F_carry : Cond) ∈ tb := by decide +kernel
theorem k_170 : (.selects R_F y_F_carry y_F_carry : Cond) ∈ tb := by decide +kernel
theorem k_171 : (.code y_F_carry b_F_carry 10 none : Cond) ∈ tb := by decide +kernel
theorem k_172 : (.constantLong R_F 60 977 : Cond) ∈ tb := by decide +kernel
theorem k_173 : (.methodLink R_F 62 y_F_add : Cond) ∈ tb := by decide +kernel
theorem k_174 : (.classLink R_L 10 R_D : Cond) ∈ tb := by decide +kernel
theorem k_175 : (.instantiable R_D 12 : Cond) ∈ tb := by decide +kernel
theorem k_176 : (.methodLink R_L 12 y_D_init : Cond) ∈ tb := by decide +kernel
theorem k_177 : (.instanceMethod y_D_init : Cond) ∈ tb := by decide +kernel
theorem k_178 : (.code y_D_init b_D_init 1 none : Cond) ∈ tb := by decide +kernel
theorem k_179 : (.methodLink R_D 1 objectInit : Cond) ∈ tb := by decide +kernel
theorem k_180 : (.constant R_D 16 64559 : Cond) ∈ tb := by decide +kernel
theorem k_181 : (.constant R_D 17 65535 : Cond) ∈ tb := by decide +kernel
theorem k_182 : (.constant R_D 18 65534 : Cond) ∈ tb := by decide +kernel
theorem k_183 : (.fieldLink R_D 7 R_D "file" "[I" : Cond) ∈ tb := by decide +kernel
theorem k_184 : (.fieldLink R_D 13 R_D "line" "[I" : Cond) ∈ tb := by decide +kernel
theorem k_185 : (.fieldLink R_D 19 R_D "prime" "[I" : Cond) ∈ tb := by decide +kernel
theorem k_186 : (.fieldLink R_D 22 R_D "one" "[I" : Cond) ∈ tb := by decide +kernel
theorem k_187 : (.fieldLink R_D 25 R_D "sum" "[I" : Cond) ∈ tb := by decide +kernel
theorem k_188 : (.fieldLink R_D 28 R_D "x" "[I" : Cond) ∈ tb := by decide +kernel
theorem k_189 : (.fieldLink R_D 31 R_D "y" "[I" : Cond) ∈ tb := by decide +kernel
theorem k_190 : (.fieldLink R_D 34 R_D "z" "[I" : Cond) ∈ tb := by decide +kernel
theorem k_191 : (.fieldLink R_D 37 R_D "u" "[I" : Cond) ∈ tb := by decide +kernel
theorem k_192 : (.fieldLink R_D 40 R_D "v" "[I" : Cond) ∈ tb := by decide +kernel
theorem k_193 : (.fieldLink R_D 43 R_D "e" "[I" : Cond) ∈ tb := by decide +kernel
theorem k_194 : (.fieldLink R_D 46 R_D "g" "[I" : Cond) ∈ tb := by decide +kernel
theorem k_220 : (.methodLink R_L 17 y_D_line : Cond) ∈ tb := by decide +kernel
theorem k_221 : (.instanceMethod y_D_line : Cond) ∈ tb := by decide +kernel
theorem k_222 : (.selects R_D y_D_line y_D_line : Cond) ∈ tb := by decide +kernel
theorem k_223 : (.code y_D_line b_D_line 9 none : Cond) ∈ tb := by decide +kernel
theorem k_224 : (.methodLink R_L 22 y_D_load : Cond) ∈ tb := by decide +kernel
theorem k_225 : (.instanceMethod y_D_load : Cond) ∈ tb := by decide +kernel
theorem k_226 : (.selects R_D y_D_load y_D_load : Cond) ∈ tb := by decide +kernel
theorem k_227 : (.code y_D_load b_D_load 5 (some .boolean) : Cond) ∈ tb := by decide +kernel
theorem k_228 : (.methodLink R_D 49 y_D_fold : Cond) ∈ tb := by decide +kernel
theorem k_230 : (.instanceMethod y_D_fold : Cond) ∈ tb := by decide +kernel
theorem k_231 : (.code y_D_fold b_D_fold 7 none : Cond) ∈ tb := by decide +kernel
theorem k_232 : (.methodLink R_D 61 y_D_give : Cond) ∈ tb := by decide +kernel
theorem k_234 : (.instanceMethod y_D_give : Cond) ∈ tb := by decide +kernel
theorem k_235 : (.code y_D_give b_D_give 4 none : Cond) ∈ tb := by decide +kernel
theorem k_236 : (.methodLink R_L 27 y_D_word : Cond) ∈ tb := by decide +kernel
theorem k_237 : (.instanceMethod y_D_word : Cond) ∈ tb := by decide +kernel
theorem k_238 : (.selects R_D y_D_word y_D_word : Cond) ∈ tb := by decide +kernel
theorem k_239 : (.code y_D_word b_D_word 4 (some .int) : Cond) ∈ tb := by decide +kernel
theorem k_240 : (.methodLink R_L 32 y_D_add : Cond) ∈ tb := by decide +kernel
theorem k_241 : (.instanceMethod y_D_add : Cond) ∈ tb := by decide +kernel
theorem k_242 : (.selects R_D y_D_add y_D_add : Cond) ∈ tb := by decide +kernel
theorem k_243 : (.code y_D_add b_D_add 4 none : Cond) ∈ tb := by decide +kernel
theorem k_244 : (.methodLink R_D 65 y_D_take : Cond) ∈ tb := by decide +kernel
theorem k_246 : (.instanceMethod y_D_take : Cond) ∈ tb := by decide +kernel
theorem k_247 : (.code y_D_take b_D_take 4 none : Cond) ∈ tb := by decide +kernel
theorem k_248 : (.methodLink R_D 57 y_D_plus : Cond) ∈ tb := by decide +kernel
theorem k_250 : (.instanceMethod y_D_plus : Cond) ∈ tb := by decide +kernel
theorem k_251 : (.code y_D_plus b_D_plus 7 none : Cond) ∈ tb := by decide +kernel
theorem k_252 : (.methodLink R_L 36 y_D_subtract : Cond) ∈ tb := by decide +kernel
theorem k_253 : (.instanceMethod y_D_subtract : Cond) ∈ tb := by decide +kernel
theorem k_254 : (.selects R_D y_D_subtract y_D_subtract : Cond) ∈ tb := by decide +kernel
theorem k_255 : (.code y_D_subtract b_D_subtract 4 none : Cond) ∈ tb := by decide +kernel
theorem k_256 : (.methodLink R_D 69 y_D_minus : Cond) ∈ tb := by decide +kernel
theorem k_258 : (.instanceMethod y_D_minus : Cond) ∈ tb := by decide +kernel
theorem k_259 : (.code y_D_minus b_D_minus 6 none : Cond) ∈ tb := by decide +kernel
theorem k_260 : (.methodLink R_D 53 y_D_isZero : Cond) ∈ tb := by decide +kernel
theorem k_262 : (.instanceMethod y_D_isZero : Cond) ∈ tb := by decide +kernel
theorem k_263 : (.code y_D_isZero b_D_isZero 4 (some .boolean) : Cond) ∈ tb := by decide +kernel
theorem k_264 : (.methodLink R_L 40 y_D_multiply : Cond) ∈ tb := by decide +kernel
theorem k_265 : (.instanceMethod y_D_multiply : Cond) ∈ tb := by decide +kernel
theorem k_266 : (.selects R_D y_D_multiply y_D_multiply : Cond) ∈ tb := by decide +kernel
theorem k_267 : (.code y_D_multiply b_D_multiply 4 none : Cond) ∈ tb := by decide +kernel
theorem k_268 : (.methodLink R_D 72 y_D_times : Cond) ∈ tb := by decide +kernel
theorem k_270 : (.instanceMethod y_D_times : Cond) ∈ tb := by decide +kernel
theorem k_271 : (.code y_D_times b_D_times 4 none : Cond) ∈ tb := by decide +kernel
theorem k_272 : (.methodLink R_L 45 y_D_square : Cond) ∈ tb := by decide +kernel
theorem k_273 : (.instanceMethod y_D_square : Cond) ∈ tb := by decide +kernel
theorem k_274 : (.selects R_D y_D_square y_D_square : Cond) ∈ tb := by decide +kernel
theorem k_275 : (.code y_D_square b_D_square 3 none : Cond) ∈ tb := by decide +kernel
theorem k_276 : (.methodLink R_L 49 y_D_squares : Cond) ∈ tb := by decide +kernel
theorem k_277 : (.instanceMethod y_D_squares : Cond) ∈ tb := by decide +kernel
theorem k_278 : (.selects R_D y_D_squares y_D_squares : Cond) ∈ tb := by decide +kernel
theorem k_279 : (.code y_D_squares b_D_squares 5 none : Cond) ∈ tb := by decide +kernel
theorem k_280 : (.methodLink R_D 75 y_D_copy : Cond) ∈ tb := by decide +kernel
theorem k_282 : (.instanceMethod y_D_copy : Cond) ∈ tb := by decide +kernel
theorem k_283 : (.code y_D_copy b_D_copy 4 none : Cond) ∈ tb := by decide +kernel
theorem k_284 : (.methodLink R_L 53 y_D_twice : Cond) ∈ tb := by decide +kernel
theorem k_285 : (.instanceMethod y_D_twice : Cond) ∈ tb := by decide +kernel
theorem k_286 : (.selects R_D y_D_twice y_D_twice : Cond) ∈ tb := by decide +kernel
theorem k_287 : (.code y_D_twice b_D_twice 3 none : Cond) ∈ tb := by decide +kernel
theorem k_288 : (.methodLink R_L 57 y_D_halve : Cond) ∈ tb := by decide +kernel
theorem k_289 : (.instanceMethod y_D_halve : Cond) ∈ tb := by decide +kernel
theorem k_290 : (.selects R_D y_D_halve y_D_halve : Cond) ∈ tb := by decide +kernel
theorem k_291 : (.code y_D_halve b_D_halve 7 none : Cond) ∈ tb := by decide +kernel
theorem k_292 : (.methodLink R_L 61 y_D_negate : Cond) ∈ tb := by decide +kernel
theorem k_293 : (.instanceMethod y_D_negate : Cond) ∈ tb := by decide +kernel
theorem k_294 : (.selects R_D y_D_negate y_D_negate : Cond) ∈ tb := by decide +kernel
theorem k_295 : (.code y_D_negate b_D_negate 3 none : Cond) ∈ tb := by decide +kernel
theorem k_296 : (.methodLink R_L 66 y_D_invert : Cond) ∈ tb := by decide +kernel
theorem k_297 : (.instanceMethod y_D_invert : Cond) ∈ tb := by decide +kernel
theorem k_298 : (.selects R_D y_D_invert y_D_invert : Cond) ∈ tb := by decide +kernel
theorem k_299 : (.code y_D_invert b_D_invert 4 (some .boolean) : Cond) ∈ tb := by decide +kernel
theorem k_300 : (.methodLink R_D 78 y_D_nought : Cond) ∈ tb := by decide +kernel
theorem k_301 : (.static y_D_nought : Cond) ∈ tb := by decide +kernel
theorem k_302 : (.code y_D_nought b_D_nought 3 (some .boolean) : Cond) ∈ tb := by decide +kernel
theorem k_303 : (.methodLink R_D 81 y_D_half : Cond) ∈ tb := by decide +kernel
theorem k_304 : (.static y_D_half : Cond) ∈ tb := by decide +kernel
theorem k_305 : (.code y_D_half b_D_half 2 none : Cond) ∈ tb := by decide +kernel
theorem k_306 : (.methodLink R_D 85 y_D_more : Cond) ∈ tb := by decide +kernel
theorem k_308 : (.instanceMethod y_D_more : Cond) ∈ tb := by decide +kernel
theorem k_309 : (.code y_D_more b_D_more 5 none : Cond) ∈ tb := by decide +kernel
theorem k_310 : (.methodLink R_D 88 y_D_less : Cond) ∈ tb := by decide +kernel
theorem k_311 : (.static y_D_less : Cond) ∈ tb := by decide +kernel
theorem k_312 : (.code y_D_less b_D_less 3 (some .boolean) : Cond) ∈ tb := by decide +kernel
theorem k_313 : (.methodLink R_D 92 y_D_lessen : Cond) ∈ tb := by decide +kernel
theorem k_314 : (.static y_D_lessen : Cond) ∈ tb := by decide +kernel
theorem k_315 : (.code y_D_lessen b_D_lessen 5 none : Cond) ∈ tb := by decide +kernel
theorem k_316 : (.methodLink R_L 70 y_D_zero : Cond) ∈ tb := by decide +kernel
theorem k_317 : (.instanceMethod y_D_zero : Cond) ∈ tb := by decide +kernel
theorem k_318 : (.selects R_D y_D_zero y_D_zero : Cond) ∈ tb := by decide +kernel
theorem k_319 : (.code y_D_zero b_D_zero 2 (some .boolean) : Cond) ∈ tb := by decide +kernel
theorem k_320 : (.methodLink R_L 74 y_D_carry : Cond) ∈ tb := by decide +kernel
theorem k_321 : (.instanceMethod y_D_carry : Cond) ∈ tb := by decide +kernel
theorem k_322 : (.selects R_D y_D_carry y_D_carry : Cond) ∈ tb := by decide +kernel
theorem k_323 : (.code y_D_carry b_D_carry 4 none : Cond) ∈ tb := by decide +kernel
theorem k_1000 : (.selects R_K y_K_at y_K_at : Cond) ∈ tb := by decide +kernel
theorem k_1001 : (.selects R_F y_F_put y_F_put : Cond) ∈ tb := by decide +kernel
theorem k_1002 : (.selects R_D y_D_fold y_D_fold : Cond) ∈ tb := by decide +kernel
theorem k_1003 : (.selects R_D y_D_give y_D_give : Cond) ∈ tb := by decide +kernel
theorem k_1004 : (.selects R_D y_D_take y_D_take : Cond) ∈ tb := by decide +kernel
theorem k_1005 : (.selects R_D y_D_plus y_D_plus : Cond) ∈ tb := by decide +kernel
theorem k_1006 : (.selects R_D y_D_minus y_D_minus : Cond) ∈ tb := by decide +kernel
theorem k_1007 : (.selects R_D y_D_isZero y_D_isZero : Cond) ∈ tb := by decide +kernel
theorem k_1008 : (.selects R_D y_D_times y_D_times : Cond) ∈ tb := by decide +kernel
theorem k_1009 : (.selects R_D y_D_copy y_D_copy : Cond) ∈ tb := by decide +kernel
theorem k_1010 : (.selects R_D y_D_more y_D_more : Cond) ∈ tb := by decide +kernel
theorem tb_good : GoodIn lw_tbl tb := fun w hw => ⟨(List.mem_filter.mp hw).1, good_of_word (List.mem_filter.mp hw).2⟩
theorem tb_self (k : Cond) : GoodIn (k :: tb) tb := fun w hw => ⟨List.mem_cons_of_mem _ hw, good_of_word (List.mem_filter.mp hw).2⟩
end
section
theorem d_F_init_0 : decode b_F_init 0 = .ok (.aload_n 0, 1) := by decide +kernel
theorem d_F_init_1 : decode b_F_init 1 = .ok (.invokespecial 3, 3) := by decide +kernel
theorem d_F_init_4 : decode b_F_init 4 = .ok (.aload_n 0, 1) := by decide +kernel
theorem d_F_init_5 : decode b_F_init 5 = .ok (.bipush 8, 2) := by decide +kernel
theorem d_F_init_7 : decode b_F_init 7 = .ok (.newarray .int, 2) := by decide +kernel
theorem d_F_init_9 : decode b_F_init 9 = .ok (.putfield 9, 3) := by decide +kernel
theorem d_F_init_12 : decode b_F_init 12 = .ok (.aload_n 0, 1) := by decide +kernel
theorem d_F_init_13 : decode b_F_init 13 = .ok (.bipush 8, 2) := by decide +kernel
theorem d_F_init_15 : decode b_F_init 15 = .ok (.newarray .int, 2) := by decide +kernel
theorem d_F_init_17 : decode b_F_init 17 = .ok (.putfield 15, 3) := by decide +kernel
theorem d_F_init_20 : decode b_F_init 20 = .ok (.aload_n 0, 1) := by decide +kernel
theorem d_F_init_21 : decode b_F_init 21 = .ok (.bipush 8, 2) := by decide +kernel
theorem d_F_init_23 : decode b_F_init 23 = .ok (.newarray .int, 2) := by decide +kernel
theorem d_F_init_25 : decode b_F_init 25 = .ok (.putfield 18, 3) := by decide +kernel
theorem d_F_init_28 : decode b_F_init 28 = .ok (.aload_n 0, 1) := by decide +kernel
theorem d_F_init_29 : decode b_F_init 29 = .ok (.bipush 10, 2) := by decide +kernel
theorem d_F_init_31 : decode b_F_init 31 = .ok (.newarray .int, 2) := by decide +kernel
theorem d_F_init_33 : decode b_F_init 33 = .ok (.putfield 21, 3) := by decide +kernel
theorem d_F_init_36 : decode b_F_init 36 = .ok (.aload_n 0, 1) := by decide +kernel
theorem d_F_init_37 : decode b_F_init 37 = .ok (.bipush 8, 2) := by decide +kernel
theorem d_F_init_39 : decode b_F_init 39 = .ok (.newarray .int, 2) := by decide +kernel
theorem d_F_init_41 : decode b_F_init 41 = .ok (.putfield 24, 3) := by decide +kernel
theorem d_F_init_44 : decode b_F_init 44 = .ok (.aload_n 0, 1) := by decide +kernel
theorem d_F_init_45 : decode b_F_init 45 = .ok (.bipush 8, 2) := by decide +kernel
theorem d_F_init_47 : decode b_F_init 47 = .ok (.newarray .int, 2) := by decide +kernel
theorem d_F_init_49 : decode b_F_init 49 = .ok (.putfield 27, 3) := by decide +kernel
theorem d_F_init_52 : decode b_F_init 52 = .ok (.iconst 0, 1) := by decide +kernel
theorem d_F_init_53 : decode b_F_init 53 = .ok (.istore_n 1, 1) := by decide +kernel
theorem d_F_init_54 : decode b_F_init 54 = .ok (.iload_n 1, 1) := by decide +kernel
theorem d_F_init_55 : decode b_F_init 55 = .ok (.bipush 8, 2) := by decide +kernel
theorem d_F_init_57 : decode b_F_init 57 = .ok (.if_icmp .ge 16, 3) := by decide +kernel
theorem d_F_init_60 : decode b_F_init 60 = .ok (.aload_n 0, 1) := by decide +kernel
theorem d_F_init_61 : decode b_F_init 61 = .ok (.getfield 9, 3) := by decide +kernel
theorem d_F_init_64 : decode b_F_init 64 = .ok (.iload_n 1, 1) := by decide +kernel
theorem d_F_init_65 : decode b_F_init 65 = .ok (.iconst (-1), 1) := by decide +kernel
theorem d_F_init_66 : decode b_F_init 66 = .ok (.iastore, 1) := by decide +kernel
theorem d_F_init_67 : decode b_F_init 67 = .ok (.iinc 1 1, 3) := by decide +kernel
theorem d_F_init_70 : decode b_F_init 70 = .ok (.goto (-16), 3) := by decide +kernel
theorem d_F_init_73 : decode b_F_init 73 = .ok (.aload_n 0, 1) := by decide +kernel
theorem d_F_init_74 : decode b_F_init 74 = .ok (.getfield 9, 3) := by decide +kernel
theorem d_F_init_77 : decode b_F_init 77 = .ok (.iconst 0, 1) := by decide +kernel
theorem d_F_init_78 : decode b_F_init 78 = .ok (.sipush (-977), 3) := by decide +kernel
theorem d_F_init_81 : decode b_F_init 81 = .ok (.iastore, 1) := by decide +kernel
theorem d_F_init_82 : decode b_F_init 82 = .ok (.aload_n 0, 1) := by decide +kernel
theorem d_F_init_83 : decode b_F_init 83 = .ok (.getfield 9, 3) := by decide +kernel
theorem d_F_init_86 : decode b_F_init 86 = .ok (.iconst 1, 1) := by decide +kernel
theorem d_F_init_87 : decode b_F_init 87 = .ok (.bipush (-2), 2) := by decide +kernel
theorem d_F_init_89 : decode b_F_init 89 = .ok (.iastore, 1) := by decide +kernel
theorem d_F_init_90 : decode b_F_init 90 = .ok (.aload_n 0, 1) := by decide +kernel
theorem d_F_init_91 : decode b_F_init 91 = .ok (.getfield 18, 3) := by decide +kernel
theorem d_F_init_94 : decode b_F_init 94 = .ok (.iconst 0, 1) := by decide +kernel
theorem d_F_init_95 : decode b_F_init 95 = .ok (.sipush 977, 3) := by decide +kernel
theorem d_F_init_98 : decode b_F_init 98 = .ok (.iastore, 1) := by decide +kernel
theorem d_F_init_99 : decode b_F_init 99 = .ok (.aload_n 0, 1) := by decide +kernel
theorem d_F_init_100 : decode b_F_init 100 = .ok (.getfield 18, 3) := by decide +kernel
theorem d_F_init_103 : decode b_F_init 103 = .ok (.iconst 1, 1) := by decide +kernel
theorem d_F_init_104 : decode b_F_init 104 = .ok (.iconst 1, 1) := by decide +kernel
theorem d_F_init_105 : decode b_F_init 105 = .ok (.iastore, 1) := by decide +kernel
theorem d_F_init_106 : decode b_F_init 106 = .ok (.aload_n 0, 1) := by decide +kernel
theorem d_F_init_107 : decode b_F_init 107 = .ok (.getfield 15, 3) := by decide +kernel
theorem d_F_init_110 : decode b_F_init 110 = .ok (.iconst 0, 1) := by decide +kernel
theorem d_F_init_111 : decode b_F_init 111 = .ok (.ldc 30, 2) := by decide +kernel
theorem d_F_init_113 : decode b_F_init 113 = .ok (.iastore, 1) := by decide +kernel
theorem d_F_init_114 : decode b_F_init 114 = .ok (.aload_n 0, 1) := by decide +kernel
theorem d_F_init_115 : decode b_F_init 115 = .ok (.getfield 15, 3) := by decide +kernel
theorem d_F_init_118 : decode b_F_init 118 = .ok (.iconst 1, 1) := by decide +kernel
theorem d_F_init_119 : decode b_F_init 119 = .ok (.sipush 1954, 3) := by decide +kernel
theorem d_F_init_122 : decode b_F_init 122 = .ok (.iastore, 1) := by decide +kernel
theorem d_F_init_123 : decode b_F_init 123 = .ok (.aload_n 0, 1) := by decide +kernel
theorem d_F_init_124 : decode b_F_init 124 = .ok (.getfield 15, 3) := by decide +kernel
theorem d_F_init_127 : decode b_F_init 127 = .ok (.iconst 2, 1) := by decide +kernel
theorem d_F_init_128 : decode b_F_init 128 = .ok (.iconst 1, 1) := by decide +kernel
theorem d_F_init_129 : decode b_F_init 129 = .ok (.iastore, 1) := by decide +kernel
theorem d_F_init_130 : decode b_F_init 130 = .ok (.iconst 1, 1) := by decide +kernel
theorem d_F_init_131 : decode b_F_init 131 = .ok (.istore_n 1, 1) := by decide +kernel
theorem d_F_init_132 : decode b_F_init 132 = .ok (.iconst 0, 1) := by decide +kernel
theorem d_F_init_133 : decode b_F_init 133 = .ok (.istore_n 2, 1) := by decide +kernel
theorem d_F_init_134 : decode b_F_init 134 = .ok (.iload_n 2, 1) := by decide +kernel
theorem d_F_init_135 : decode b_F_init 135 = .ok (.iconst 5, 1) := by decide +kernel
theorem d_F_init_136 : decode b_F_init 136 = .ok (.if_icmp .ge 22, 3) := by decide +kernel
theorem d_F_init_139 : decode b_F_init 139 = .ok (.iload_n 1, 1) := by decide +kernel
theorem d_F_init_140 : decode b_F_init 140 = .ok (.iconst 2, 1) := by decide +kernel
theorem d_F_init_141 : decode b_F_init 141 = .ok (.aload_n 0, 1) := by decide +kernel
theorem d_F_init_142 : decode b_F_init 142 = .ok (.getfield 9, 3) := by decide +kernel
theorem d_F_init_145 : decode b_F_init 145 = .ok (.iconst 0, 1) := by decide +kernel
theorem d_F_init_146 : decode b_F_init 146 = .ok (.iaload, 1) := by decide +kernel
theorem d_F_init_147 : decode b_F_init 147 = .ok (.iload_n 1, 1) := by decide +kernel
theorem d_F_init_148 : decode b_F_init 148 = .ok (.imul, 1) := by decide +kernel
theorem d_F_init_149 : decode b_F_init 149 = .ok (.isub, 1) := by decide +kernel
theorem d_F_init_150 : decode b_F_init 150 = .ok (.imul, 1) := by decide +kernel
theorem d_F_init_151 : decode b_F_init 151 = .ok (.istore_n 1, 1) := by decide +kernel
theorem d_F_init_152 : decode b_F_init 152 = .ok (.iinc 2 1, 3) := by decide +kernel
theorem d_F_init_155 : decode b_F_init 155 = .ok (.goto (-21), 3) := by decide +kernel
theorem d_F_init_158 : decode b_F_init 158 = .ok (.aload_n 0, 1) := by decide +kernel
theorem d_F_init_159 : decode b_F_init 159 = .ok (.iload_n 1, 1) := by decide +kernel
theorem d_F_init_160 : decode b_F_init 160 = .ok (.ineg, 1) := by decide +kernel
theorem d_F_init_161 : decode b_F_init 161 = .ok (.putfield 31, 3) := by decide +kernel
theorem d_F_init_164 : decode b_F_init 164 = .ok (.return_, 1) := by decide +kernel
theorem d_F_copy_0 : decode b_F_copy 0 = .ok (.iconst 0, 1) := by decide +kernel
theorem d_F_copy_1 : decode b_F_copy 1 = .ok (.istore_n 2, 1) := by decide +kernel
theorem d_F_copy_2 : decode b_F_copy 2 = .ok (.iload_n 2, 1) := by decide +kernel
theorem d_F_copy_3 : decode b_F_copy 3 = .ok (.bipush 8, 2) := by decide +kernel
theorem d_F_copy_5 : decode b_F_copy 5 = .ok (.if_icmp .ge 15, 3) := by decide +kernel
theorem d_F_copy_8 : decode b_F_copy 8 = .ok (.aload_n 1, 1) := by decide +kernel
theorem d_F_copy_9 : decode b_F_copy 9 = .ok (.iload_n 2, 1) := by decide +kernel
theorem d_F_copy_10 : decode b_F_copy 10 = .ok (.aload_n 0, 1) := by decide +kernel
theorem d_F_copy_11 : decode b_F_copy 11 = .ok (.iload_n 2, 1) := by decide +kernel
theorem d_F_copy_12 : decode b_F_copy 12 = .ok (.iaload, 1) := by decide +kernel
theorem d_F_copy_13 : decode b_F_copy 13 = .ok (.iastore, 1) := by decide +kernel
theorem d_F_copy_14 : decode b_F_copy 14 = .ok (.iinc 2 1, 3) := by decide +kernel
theorem d_F_copy_17 : decode b_F_copy 17 = .ok (.goto (-15), 3) := by decide +kernel
theorem d_F_copy_20 : decode b_F_copy 20 = .ok (.return_, 1) := by decide +kernel
theorem d_F_isLess_0 : decode b_F_isLess 0 = .ok (.bipush 7, 2) := by decide +kernel
theorem d_F_isLess_2 : decode b_F_isLess 2 = .ok (.istore_n 2, 1) := by decide +kernel
theorem d_F_isLess_3 : decode b_F_isLess 3 = .ok (.iload_n 2, 1) := by decide +kernel
theorem d_F_isLess_4 : decode b_F_isLess 4 = .ok (.ifCond .lt 50, 3) := by decide +kernel
theorem d_F_isLess_7 : decode b_F_isLess 7 = .ok (.aload_n 1, 1) := by decide +kernel
theorem d_F_isLess_8 : decode b_F_isLess 8 = .ok (.iload_n 2, 1) := by decide +kernel
theorem d_F_isLess_9 : decode b_F_isLess 9 = .ok (.iaload, 1) := by decide +kernel
theorem d_F_isLess_10 : decode b_F_isLess 10 = .ok (.aload_n 0, 1) := by decide +kernel
theorem d_F_isLess_11 : decode b_F_isLess 11 = .ok (.getfield 9, 3) := by decide +kernel
theorem d_F_isLess_14 : decode b_F_isLess 14 = .ok (.iload_n 2, 1) := by decide +kernel
theorem d_F_isLess_15 : decode b_F_isLess 15 = .ok (.iaload, 1) := by decide +kernel
theorem d_F_isLess_16 : decode b_F_isLess 16 = .ok (.if_icmp .eq 32, 3) := by decide +kernel
theorem d_F_isLess_19 : decode b_F_isLess 19 = .ok (.aload_n 1, 1) := by decide +kernel
theorem d_F_isLess_20 : decode b_F_isLess 20 = .ok (.iload_n 2, 1) := by decide +kernel
theorem d_F_isLess_21 : decode b_F_isLess 21 = .ok (.iaload, 1) := by decide +kernel
theorem d_F_isLess_22 : decode b_F_isLess 22 = .ok (.i2l, 1) := by decide +kernel
theorem d_F_isLess_23 : decode b_F_isLess 23 = .ok (.ldc2_w 35, 3) := by decide +kernel
theorem d_F_isLess_26 : decode b_F_isLess 26 = .ok (.land, 1) := by decide +kernel
theorem d_F_isLess_27 : decode b_F_isLess 27 = .ok (.aload_n 0, 1) := by decide +kernel
theorem d_F_isLess_28 : decode b_F_isLess 28 = .ok (.getfield 9, 3) := by decide +kernel
theorem d_F_isLess_31 : decode b_F_isLess 31 = .ok (.iload_n 2, 1) := by decide +kernel
theorem d_F_isLess_32 : decode b_F_isLess 32 = .ok (.iaload, 1) := by decide +kernel
theorem d_F_isLess_33 : decode b_F_isLess 33 = .ok (.i2l, 1) := by decide +kernel
theorem d_F_isLess_34 : decode b_F_isLess 34 = .ok (.ldc2_w 35, 3) := by decide +kernel
theorem d_F_isLess_37 : decode b_F_isLess 37 = .ok (.land, 1) := by decide +kernel
theorem d_F_isLess_38 : decode b_F_isLess 38 = .ok (.lcmp, 1) := by decide +kernel
theorem d_F_isLess_39 : decode b_F_isLess 39 = .ok (.ifCond .ge 7, 3) := by decide +kernel
theorem d_F_isLess_42 : decode b_F_isLess 42 = .ok (.iconst 1, 1) := by decide +kernel
theorem d_F_isLess_43 : decode b_F_isLess 43 = .ok (.goto 4, 3) := by decide +kernel
theorem d_F_isLess_46 : decode b_F_isLess 46 = .ok (.iconst 0, 1) := by decide +kernel
theorem d_F_isLess_47 : decode b_F_isLess 47 = .ok (.ireturn, 1) := by decide +kernel
theorem d_F_isLess_48 : decode b_F_isLess 48 = .ok (.iinc 2 (-1), 3) := by decide +kernel
theorem d_F_isLess_51 : decode b_F_isLess 51 = .ok (.goto (-48), 3) := by decide +kernel
theorem d_F_isLess_54 : decode b_F_isLess 54 = .ok (.iconst 0, 1) := by decide +kernel
theorem d_F_isLess_55 : decode b_F_isLess 55 = .ok (.ireturn, 1) := by decide +kernel
theorem d_F_difference_0 : decode b_F_difference 0 = .ok (.lconst 0, 1) := by decide +kernel
theorem d_F_difference_1 : decode b_F_difference 1 = .ok (.lstore_n 3, 1) := by decide +kernel
theorem d_F_difference_2 : decode b_F_difference 2 = .ok (.iconst 0, 1) := by decide +kernel
theorem d_F_difference_3 : decode b_F_difference 3 = .ok (.istore 5, 2) := by decide +kernel
theorem d_F_difference_5 : decode b_F_difference 5 = .ok (.iload 5, 2) := by decide +kernel
theorem d_F_difference_7 : decode b_F_difference 7 = .ok (.bipush 8, 2) := by decide +kernel
theorem d_F_difference_9 : decode b_F_difference 9 = .ok (.if_icmp .ge 52, 3) := by decide +kernel
theorem d_F_difference_12 : decode b_F_difference 12 = .ok (.aload_n 0, 1) := by decide +kernel
theorem d_F_difference_13 : decode b_F_difference 13 = .ok (.iload 5, 2) := by decide +kernel
theorem d_F_difference_15 : decode b_F_difference 15 = .ok (.iaload, 1) := by decide +kernel
theorem d_F_difference_16 : decode b_F_difference 16 = .ok (.i2l, 1) := by decide +kernel
theorem d_F_difference_17 : decode b_F_difference 17 = .ok (.ldc2_w 35, 3) := by decide +kernel
theorem d_F_difference_20 : decode b_F_difference 20 = .ok (.land, 1) := by decide +kernel
theorem d_F_difference_21 : decode b_F_difference 21 = .ok (.aload_n 1, 1) := by decide +kernel
theorem d_F_difference_22 : decode b_F_difference 22 = .ok (.iload 5, 2) := by decide +kernel
theorem d_F_difference_24 : decode b_F_difference 24 = .ok (.iaload, 1) := by decide +kernel
theorem d_F_difference_25 : decode b_F_difference 25 = .ok (.i2l, 1) := by decide +kernel
theorem d_F_difference_26 : decode b_F_difference 26 = .ok (.ldc2_w 35, 3) := by decide +kernel
theorem d_F_difference_29 : decode b_F_difference 29 = .ok (.land, 1) := by decide +kernel
theorem d_F_difference_30 : decode b_F_difference 30 = .ok (.lsub, 1) := by decide +kernel
theorem d_F_difference_31 : decode b_F_difference 31 = .ok (.lload_n 3, 1) := by decide +kernel
theorem d_F_difference_32 : decode b_F_difference 32 = .ok (.lsub, 1) := by decide +kernel
theorem d_F_difference_33 : decode b_F_difference 33 = .ok (.lstore 6, 2) := by decide +kernel
theorem d_F_difference_35 : decode b_F_difference 35 = .ok (.aload_n 2, 1) := by decide +kernel
theorem d_F_difference_36 : decode b_F_difference 36 = .ok (.iload 5, 2) := by decide +kernel
theorem d_F_difference_38 : decode b_F_difference 38 = .ok (.lload 6, 2) := by decide +kernel
theorem d_F_difference_40 : decode b_F_difference 40 = .ok (.l2i, 1) := by decide +kernel
theorem d_F_difference_41 : decode b_F_difference 41 = .ok (.iastore, 1) := by decide +kernel
theorem d_F_difference_42 : decode b_F_difference 42 = .ok (.lload 6, 2) := by decide +kernel
theorem d_F_difference_44 : decode b_F_difference 44 = .ok (.lconst 0, 1) := by decide +kernel
theorem d_F_difference_45 : decode b_F_difference 45 = .ok (.lcmp, 1) := by decide +kernel
theorem d_F_difference_46 : decode b_F_difference 46 = .ok (.ifCond .ge 7, 3) := by decide +kernel
theorem d_F_difference_49 : decode b_F_difference 49 = .ok (.lconst 1, 1) := by decide +kernel
theorem d_F_difference_50 : decode b_F_difference 50 = .ok (.goto 4, 3) := by decide +kernel
theorem d_F_difference_53 : decode b_F_difference 53 = .ok (.lconst 0, 1) := by decide +kernel
theorem d_F_difference_54 : decode b_F_difference 54 = .ok (.lstore_n 3, 1) := by decide +kernel
theorem d_F_difference_55 : decode b_F_difference 55 = .ok (.iinc 5 1, 3) := by decide +kernel
theorem d_F_difference_58 : decode b_F_difference 58 = .ok (.goto (-53), 3) := by decide +kernel
theorem d_F_difference_61 : decode b_F_difference 61 = .ok (.lload_n 3, 1) := by decide +kernel
theorem d_F_difference_62 : decode b_F_difference 62 = .ok (.lreturn, 1) := by decide +kernel
theorem d_F_add_0 : decode b_F_add 0 = .ok (.aload_n 1, 1) := by decide +kernel
theorem d_F_add_1 : decode b_F_add 1 = .ok (.aload_n 2, 1) := by decide +kernel
theorem d_F_add_2 : decode b_F_add 2 = .ok (.aload_n 3, 1) := by decide +kernel
theorem d_F_add_3 : decode b_F_add 3 = .ok (.invokestatic 37, 3) := by decide +kernel
theorem d_F_add_6 : decode b_F_add 6 = .ok (.lstore 4, 2) := by decide +kernel
theorem d_F_add_8 : decode b_F_add 8 = .ok (.lload 4, 2) := by decide +kernel
theorem d_F_add_10 : decode b_F_add 10 = .ok (.lconst 0, 1) := by decide +kernel
theorem d_F_add_11 : decode b_F_add 11 = .ok (.lcmp, 1) := by decide +kernel
theorem d_F_add_12 : decode b_F_add 12 = .ok (.ifCond .ne 11, 3) := by decide +kernel
theorem d_F_add_15 : decode b_F_add 15 = .ok (.aload_n 0, 1) := by decide +kernel
theorem d_F_add_16 : decode b_F_add 16 = .ok (.aload_n 3, 1) := by decide +kernel
theorem d_F_add_17 : decode b_F_add 17 = .ok (.invokevirtual 41, 3) := by decide +kernel
theorem d_F_add_20 : decode b_F_add 20 = .ok (.ifCond .ne 13, 3) := by decide +kernel
theorem d_F_add_23 : decode b_F_add 23 = .ok (.aload_n 3, 1) := by decide +kernel
theorem d_F_add_24 : decode b_F_add 24 = .ok (.aload_n 0, 1) := by decide +kernel
theorem d_F_add_25 : decode b_F_add 25 = .ok (.getfield 9, 3) := by decide +kernel
theorem d_F_add_28 : decode b_F_add 28 = .ok (.aload_n 3, 1) := by decide +kernel
theorem d_F_add_29 : decode b_F_add 29 = .ok (.invokestatic 45, 3) := by decide +kernel
theorem d_F_add_32 : decode b_F_add 32 = .ok (.pop2, 1) := by decide +kernel
theorem d_F_add_33 : decode b_F_add 33 = .ok (.return_, 1) := by decide +kernel
theorem d_F_sum_0 : decode b_F_sum 0 = .ok (.lconst 0, 1) := by decide +kernel
theorem d_F_sum_1 : decode b_F_sum 1 = .ok (.lstore_n 3, 1) := by decide +kernel
theorem d_F_sum_2 : decode b_F_sum 2 = .ok (.iconst 0, 1) := by decide +kernel
theorem d_F_sum_3 : decode b_F_sum 3 = .ok (.istore 5, 2) := by decide +kernel
theorem d_F_sum_5 : decode b_F_sum 5 = .ok (.iload 5, 2) := by decide +kernel
theorem d_F_sum_7 : decode b_F_sum 7 = .ok (.bipush 8, 2) := by decide +kernel
theorem d_F_sum_9 : decode b_F_sum 9 = .ok (.if_icmp .ge 42, 3) := by decide +kernel
theorem d_F_sum_12 : decode b_F_sum 12 = .ok (.lload_n 3, 1) := by decide +kernel
theorem d_F_sum_13 : decode b_F_sum 13 = .ok (.aload_n 0, 1) := by decide +kernel
theorem d_F_sum_14 : decode b_F_sum 14 = .ok (.iload 5, 2) := by decide +kernel
theorem d_F_sum_16 : decode b_F_sum 16 = .ok (.iaload, 1) := by decide +kernel
theorem d_F_sum_17 : decode b_F_sum 17 = .ok (.i2l, 1) := by decide +kernel
theorem d_F_sum_18 : decode b_F_sum 18 = .ok (.ldc2_w 35, 3) := by decide +kernel
theorem d_F_sum_21 : decode b_F_sum 21 = .ok (.land, 1) := by decide +kernel
theorem d_F_sum_22 : decode b_F_sum 22 = .ok (.aload_n 1, 1) := by decide +kernel
theorem d_F_sum_23 : decode b_F_sum 23 = .ok (.iload 5, 2) := by decide +kernel
theorem d_F_sum_25 : decode b_F_sum 25 = .ok (.iaload, 1) := by decide +kernel
theorem d_F_sum_26 : decode b_F_sum 26 = .ok (.i2l, 1) := by decide +kernel
theorem d_F_sum_27 : decode b_F_sum 27 = .ok (.ldc2_w 35, 3) := by decide +kernel
theorem d_F_sum_30 : decode b_F_sum 30 = .ok (.land, 1) := by decide +kernel
theorem d_F_sum_31 : decode b_F_sum 31 = .ok (.ladd, 1) := by decide +kernel
theorem d_F_sum_32 : decode b_F_sum 32 = .ok (.ladd, 1) := by decide +kernel
theorem d_F_sum_33 : decode b_F_sum 33 = .ok (.lstore_n 3, 1) := by decide +kernel
theorem d_F_sum_34 : decode b_F_sum 34 = .ok (.aload_n 2, 1) := by decide +kernel
theorem d_F_sum_35 : decode b_F_sum 35 = .ok (.iload 5, 2) := by decide +kernel
theorem d_F_sum_37 : decode b_F_sum 37 = .ok (.lload_n 3, 1) := by decide +kernel
theorem d_F_sum_38 : decode b_F_sum 38 = .ok (.l2i, 1) := by decide +kernel
theorem d_F_sum_39 : decode b_F_sum 39 = .ok (.iastore, 1) := by decide +kernel
theorem d_F_sum_40 : decode b_F_sum 40 = .ok (.lload_n 3, 1) := by decide +kernel
theorem d_F_sum_41 : decode b_F_sum 41 = .ok (.bipush 32, 2) := by decide +kernel
theorem d_F_sum_43 : decode b_F_sum 43 = .ok (.lushr, 1) := by decide +kernel
theorem d_F_sum_44 : decode b_F_sum 44 = .ok (.lstore_n 3, 1) := by decide +kernel
theorem d_F_sum_45 : decode b_F_sum 45 = .ok (.iinc 5 1, 3) := by decide +kernel
theorem d_F_sum_48 : decode b_F_sum 48 = .ok (.goto (-43), 3) := by decide +kernel
theorem d_F_sum_51 : decode b_F_sum 51 = .ok (.lload_n 3, 1) := by decide +kernel
theorem d_F_sum_52 : decode b_F_sum 52 = .ok (.lreturn, 1) := by decide +kernel
theorem d_F_subtract_0 : decode b_F_subtract 0 = .ok (.aload_n 1, 1) := by decide +kernel
theorem d_F_subtract_1 : decode b_F_subtract 1 = .ok (.aload_n 2, 1) := by decide +kernel
theorem d_F_subtract_2 : decode b_F_subtract 2 = .ok (.aload_n 3, 1) := by decide +kernel
theorem d_F_subtract_3 : decode b_F_subtract 3 = .ok (.invokestatic 45, 3) := by decide +kernel
theorem d_F_subtract_6 : decode b_F_subtract 6 = .ok (.lconst 0, 1) := by decide +kernel
theorem d_F_subtract_7 : decode b_F_subtract 7 = .ok (.lcmp, 1) := by decide +kernel
theorem d_F_subtract_8 : decode b_F_subtract 8 = .ok (.ifCond .eq 13, 3) := by decide +kernel
theorem d_F_subtract_11 : decode b_F_subtract 11 = .ok (.aload_n 3, 1) := by decide +kernel
theorem d_F_subtract_12 : decode b_F_subtract 12 = .ok (.aload_n 0, 1) := by decide +kernel
theorem d_F_subtract_13 : decode b_F_subtract 13 = .ok (.getfield 9, 3) := by decide +kernel
theorem d_F_subtract_16 : decode b_F_subtract 16 = .ok (.aload_n 3, 1) := by decide +kernel
theorem d_F_subtract_17 : decode b_F_subtract 17 = .ok (.invokestatic 37, 3) := by decide +kernel
theorem d_F_subtract_20 : decode b_F_subtract 20 = .ok (.pop2, 1) := by decide +kernel
theorem d_F_subtract_21 : decode b_F_subtract 21 = .ok (.return_, 1) := by decide +kernel
theorem d_F_multiply_0 : decode b_F_multiply 0 = .ok (.aload_n 0, 1) := by decide +kernel
theorem d_F_multiply_1 : decode b_F_multiply 1 = .ok (.aload_n 1, 1) := by decide +kernel
theorem d_F_multiply_2 : decode b_F_multiply 2 = .ok (.aload_n 2, 1) := by decide +kernel
theorem d_F_multiply_3 : decode b_F_multiply 3 = .ok (.aload_n 3, 1) := by decide +kernel
theorem d_F_multiply_4 : decode b_F_multiply 4 = .ok (.invokevirtual 52, 3) := by decide +kernel
theorem d_F_multiply_7 : decode b_F_multiply 7 = .ok (.aload_n 0, 1) := by decide +kernel
theorem d_F_multiply_8 : decode b_F_multiply 8 = .ok (.aload_n 3, 1) := by decide +kernel
theorem d_F_multiply_9 : decode b_F_multiply 9 = .ok (.aload_n 0, 1) := by decide +kernel
theorem d_F_multiply_10 : decode b_F_multiply 10 = .ok (.getfield 15, 3) := by decide +kernel
theorem d_F_multiply_13 : decode b_F_multiply 13 = .ok (.aload_n 3, 1) := by decide +kernel
theorem d_F_multiply_14 : decode b_F_multiply 14 = .ok (.invokevirtual 52, 3) := by decide +kernel
theorem d_F_multiply_17 : decode b_F_multiply 17 = .ok (.return_, 1) := by decide +kernel
theorem d_F_reduced_0 : decode b_F_reduced 0 = .ok (.iconst 0, 1) := by decide +kernel
theorem d_F_reduced_1 : decode b_F_reduced 1 = .ok (.istore 4, 2) := by decide +kernel
theorem d_F_reduced_3 : decode b_F_reduced 3 = .ok (.iload 4, 2) := by decide +kernel
theorem d_F_reduced_5 : decode b_F_reduced 5 = .ok (.bipush 10, 2) := by decide +kernel
theorem d_F_reduced_7 : decode b_F_reduced 7 = .ok (.if_icmp .ge 17, 3) := by decide +kernel
theorem d_F_reduced_10 : decode b_F_reduced 10 = .ok (.aload_n 0, 1) := by decide +kernel
theorem d_F_reduced_11 : decode b_F_reduced 11 = .ok (.getfield 21, 3) := by decide +kernel
theorem d_F_reduced_14 : decode b_F_reduced 14 = .ok (.iload 4, 2) := by decide +kernel
theorem d_F_reduced_16 : decode b_F_reduced 16 = .ok (.iconst 0, 1) := by decide +kernel
theorem d_F_reduced_17 : decode b_F_reduced 17 = .ok (.iastore, 1) := by decide +kernel
theorem d_F_reduced_18 : decode b_F_reduced 18 = .ok (.iinc 4 1, 3) := by decide +kernel
theorem d_F_reduced_21 : decode b_F_reduced 21 = .ok (.goto (-18), 3) := by decide +kernel
theorem d_F_reduced_24 : decode b_F_reduced 24 = .ok (.iconst 0, 1) := by decide +kernel
theorem d_F_reduced_25 : decode b_F_reduced 25 = .ok (.istore 4, 2) := by decide +kernel
theorem d_F_reduced_27 : decode b_F_reduced 27 = .ok (.iload 4, 2) := by decide +kernel
theorem d_F_reduced_29 : decode b_F_reduced 29 = .ok (.bipush 8, 2) := by decide +kernel
theorem d_F_reduced_31 : decode b_F_reduced 31 = .ok (.if_icmp .ge 77, 3) := by decide +kernel
theorem d_F_reduced_34 : decode b_F_reduced 34 = .ok (.aload_n 0, 1) := by decide +kernel
theorem d_F_reduced_35 : decode b_F_reduced 35 = .ok (.aload_n 1, 1) := by decide +kernel
theorem d_F_reduced_36 : decode b_F_reduced 36 = .ok (.iload 4, 2) := by decide +kernel
theorem d_F_reduced_38 : decode b_F_reduced 38 = .ok (.iaload, 1) := by decide +kernel
theorem d_F_reduced_39 : decode b_F_reduced 39 = .ok (.aload_n 2, 1) := by decide +kernel
theorem d_F_reduced_40 : decode b_F_reduced 40 = .ok (.invokevirtual 48, 3) := by decide +kernel
theorem d_F_reduced_43 : decode b_F_reduced 43 = .ok (.aload_n 0, 1) := by decide +kernel
theorem d_F_reduced_44 : decode b_F_reduced 44 = .ok (.aload_n 0, 1) := by decide +kernel
theorem d_F_reduced_45 : decode b_F_reduced 45 = .ok (.getfield 21, 3) := by decide +kernel
theorem d_F_reduced_48 : decode b_F_reduced 48 = .ok (.iconst 0, 1) := by decide +kernel
theorem d_F_reduced_49 : decode b_F_reduced 49 = .ok (.iaload, 1) := by decide +kernel
theorem d_F_reduced_50 : decode b_F_reduced 50 = .ok (.aload_n 0, 1) := by decide +kernel
theorem d_F_reduced_51 : decode b_F_reduced 51 = .ok (.getfield 31, 3) := by decide +kernel
theorem d_F_reduced_54 : decode b_F_reduced 54 = .ok (.imul, 1) := by decide +kernel
theorem d_F_reduced_55 : decode b_F_reduced 55 = .ok (.aload_n 0, 1) := by decide +kernel
theorem d_F_reduced_56 : decode b_F_reduced 56 = .ok (.getfield 9, 3) := by decide +kernel
theorem d_F_reduced_59 : decode b_F_reduced 59 = .ok (.invokevirtual 48, 3) := by decide +kernel
theorem d_F_reduced_62 : decode b_F_reduced 62 = .ok (.iconst 0, 1) := by decide +kernel
theorem d_F_reduced_63 : decode b_F_reduced 63 = .ok (.istore 5, 2) := by decide +kernel
theorem d_F_reduced_65 : decode b_F_reduced 65 = .ok (.iload 5, 2) := by decide +kernel
theorem d_F_reduced_67 : decode b_F_reduced 67 = .ok (.bipush 8, 2) := by decide +kernel
theorem d_F_reduced_69 : decode b_F_reduced 69 = .ok (.if_icmp .gt 25, 3) := by decide +kernel
theorem d_F_reduced_72 : decode b_F_reduced 72 = .ok (.aload_n 0, 1) := by decide +kernel
theorem d_F_reduced_73 : decode b_F_reduced 73 = .ok (.getfield 21, 3) := by decide +kernel
theorem d_F_reduced_76 : decode b_F_reduced 76 = .ok (.iload 5, 2) := by decide +kernel
theorem d_F_reduced_78 : decode b_F_reduced 78 = .ok (.aload_n 0, 1) := by decide +kernel
theorem d_F_reduced_79 : decode b_F_reduced 79 = .ok (.getfield 21, 3) := by decide +kernel
theorem d_F_reduced_82 : decode b_F_reduced 82 = .ok (.iload 5, 2) := by decide +kernel
theorem d_F_reduced_84 : decode b_F_reduced 84 = .ok (.iconst 1, 1) := by decide +kernel
theorem d_F_reduced_85 : decode b_F_reduced 85 = .ok (.iadd, 1) := by decide +kernel
theorem d_F_reduced_86 : decode b_F_reduced 86 = .ok (.iaload, 1) := by decide +kernel
theorem d_F_reduced_87 : decode b_F_reduced 87 = .ok (.iastore, 1) := by decide +kernel
theorem d_F_reduced_88 : decode b_F_reduced 88 = .ok (.iinc 5 1, 3) := by decide +kernel
theorem d_F_reduced_91 : decode b_F_reduced 91 = .ok (.goto (-26), 3) := by decide +kernel
theorem d_F_reduced_94 : decode b_F_reduced 94 = .ok (.aload_n 0, 1) := by decide +kernel
theorem d_F_reduced_95 : decode b_F_reduced 95 = .ok (.getfield 21, 3) := by decide +kernel
theorem d_F_reduced_98 : decode b_F_reduced 98 = .ok (.bipush 9, 2) := by decide +kernel
theorem d_F_reduced_100 : decode b_F_reduced 100 = .ok (.iconst 0, 1) := by decide +kernel
theorem d_F_reduced_101 : decode b_F_reduced 101 = .ok (.iastore, 1) := by decide +kernel
theorem d_F_reduced_102 : decode b_F_reduced 102 = .ok (.iinc 4 1, 3) := by decide +kernel
theorem d_F_reduced_105 : decode b_F_reduced 105 = .ok (.goto (-78), 3) := by decide +kernel
theorem d_F_reduced_108 : decode b_F_reduced 108 = .ok (.aload_n 0, 1) := by decide +kernel
theorem d_F_reduced_109 : decode b_F_reduced 109 = .ok (.getfield 21, 3) := by decide +kernel
theorem d_F_reduced_112 : decode b_F_reduced 112 = .ok (.bipush 8, 2) := by decide +kernel
theorem d_F_reduced_114 : decode b_F_reduced 114 = .ok (.iaload, 1) := by decide +kernel
theorem d_F_reduced_115 : decode b_F_reduced 115 = .ok (.ifCond .eq 7, 3) := by decide +kernel
theorem d_F_reduced_118 : decode b_F_reduced 118 = .ok (.iconst 1, 1) := by decide +kernel
theorem d_F_reduced_119 : decode b_F_reduced 119 = .ok (.goto 4, 3) := by decide +kernel
theorem d_F_reduced_122 : decode b_F_reduced 122 = .ok (.iconst 0, 1) := by decide +kernel
theorem d_F_reduced_123 : decode b_F_reduced 123 = .ok (.istore 4, 2) := by decide +kernel
theorem d_F_reduced_125 : decode b_F_reduced 125 = .ok (.iconst 0, 1) := by decide +kernel
theorem d_F_reduced_126 : decode b_F_reduced 126 = .ok (.istore 5, 2) := by decide +kernel
theorem d_F_reduced_128 : decode b_F_reduced 128 = .ok (.iload 5, 2) := by decide +kernel
theorem d_F_reduced_130 : decode b_F_reduced 130 = .ok (.bipush 8, 2) := by decide +kernel
theorem d_F_reduced_132 : decode b_F_reduced 132 = .ok (.if_icmp .ge 20, 3) := by decide +kernel
theorem d_F_reduced_135 : decode b_F_reduced 135 = .ok (.aload_n 3, 1) := by decide +kernel
theorem d_F_reduced_136 : decode b_F_reduced 136 = .ok (.iload 5, 2) := by decide +kernel
theorem d_F_reduced_138 : decode b_F_reduced 138 = .ok (.aload_n 0, 1) := by decide +kernel
theorem d_F_reduced_139 : decode b_F_reduced 139 = .ok (.getfield 21, 3) := by decide +kernel
theorem d_F_reduced_142 : decode b_F_reduced 142 = .ok (.iload 5, 2) := by decide +kernel
theorem d_F_reduced_144 : decode b_F_reduced 144 = .ok (.iaload, 1) := by decide +kernel
theorem d_F_reduced_145 : decode b_F_reduced 145 = .ok (.iastore, 1) := by decide +kernel
theorem d_F_reduced_146 : decode b_F_reduced 146 = .ok (.iinc 5 1, 3) := by decide +kernel
theorem d_F_reduced_149 : decode b_F_reduced 149 = .ok (.goto (-21), 3) := by decide +kernel
theorem d_F_reduced_152 : decode b_F_reduced 152 = .ok (.iload 4, 2) := by decide +kernel
theorem d_F_reduced_154 : decode b_F_reduced 154 = .ok (.ifCond .ne 11, 3) := by decide +kernel
theorem d_F_reduced_157 : decode b_F_reduced 157 = .ok (.aload_n 0, 1) := by decide +kernel
theorem d_F_reduced_158 : decode b_F_reduced 158 = .ok (.aload_n 3, 1) := by decide +kernel
theorem d_F_reduced_159 : decode b_F_reduced 159 = .ok (.invokevirtual 41, 3) := by decide +kernel
theorem d_F_reduced_162 : decode b_F_reduced 162 = .ok (.ifCond .ne 13, 3) := by decide +kernel
theorem d_F_reduced_165 : decode b_F_reduced 165 = .ok (.aload_n 3, 1) := by decide +kernel
theorem d_F_reduced_166 : decode b_F_reduced 166 = .ok (.aload_n 0, 1) := by decide +kernel
theorem d_F_reduced_167 : decode b_F_reduced 167 = .ok (.getfield 9, 3) := by decide +kernel
theorem d_F_reduced_170 : decode b_F_reduced 170 = .ok (.aload_n 3, 1) := by decide +kernel
theorem d_F_reduced_171 : decode b_F_reduced 171 = .ok (.invokestatic 45, 3) := by decide +kernel
theorem d_F_reduced_174 : decode b_F_reduced 174 = .ok (.pop2, 1) := by decide +kernel
theorem d_F_reduced_175 : decode b_F_reduced 175 = .ok (.return_, 1) := by decide +kernel
theorem d_F_put_0 : decode b_F_put 0 = .ok (.lconst 0, 1) := by decide +kernel
theorem d_F_put_1 : decode b_F_put 1 = .ok (.lstore_n 3, 1) := by decide +kernel
theorem d_F_put_2 : decode b_F_put 2 = .ok (.iconst 0, 1) := by decide +kernel
theorem d_F_put_3 : decode b_F_put 3 = .ok (.istore 5, 2) := by decide +kernel
theorem d_F_put_5 : decode b_F_put 5 = .ok (.iload 5, 2) := by decide +kernel
theorem d_F_put_7 : decode b_F_put 7 = .ok (.bipush 8, 2) := by decide +kernel
theorem d_F_put_9 : decode b_F_put 9 = .ok (.if_icmp .ge 55, 3) := by decide +kernel
theorem d_F_put_12 : decode b_F_put 12 = .ok (.lload_n 3, 1) := by decide +kernel
theorem d_F_put_13 : decode b_F_put 13 = .ok (.iload_n 1, 1) := by decide +kernel
theorem d_F_put_14 : decode b_F_put 14 = .ok (.i2l, 1) := by decide +kernel
theorem d_F_put_15 : decode b_F_put 15 = .ok (.ldc2_w 35, 3) := by decide +kernel
theorem d_F_put_18 : decode b_F_put 18 = .ok (.land, 1) := by decide +kernel
theorem d_F_put_19 : decode b_F_put 19 = .ok (.aload_n 2, 1) := by decide +kernel
theorem d_F_put_20 : decode b_F_put 20 = .ok (.iload 5, 2) := by decide +kernel
theorem d_F_put_22 : decode b_F_put 22 = .ok (.iaload, 1) := by decide +kernel
theorem d_F_put_23 : decode b_F_put 23 = .ok (.i2l, 1) := by decide +kernel
theorem d_F_put_24 : decode b_F_put 24 = .ok (.ldc2_w 35, 3) := by decide +kernel
theorem d_F_put_27 : decode b_F_put 27 = .ok (.land, 1) := by decide +kernel
theorem d_F_put_28 : decode b_F_put 28 = .ok (.lmul, 1) := by decide +kernel
theorem d_F_put_29 : decode b_F_put 29 = .ok (.aload_n 0, 1) := by decide +kernel
theorem d_F_put_30 : decode b_F_put 30 = .ok (.getfield 21, 3) := by decide +kernel
theorem d_F_put_33 : decode b_F_put 33 = .ok (.iload 5, 2) := by decide +kernel
theorem d_F_put_35 : decode b_F_put 35 = .ok (.iaload, 1) := by decide +kernel
theorem d_F_put_36 : decode b_F_put 36 = .ok (.i2l, 1) := by decide +kernel
theorem d_F_put_37 : decode b_F_put 37 = .ok (.ldc2_w 35, 3) := by decide +kernel
theorem d_F_put_40 : decode b_F_put 40 = .ok (.land, 1) := by decide +kernel
theorem d_F_put_41 : decode b_F_put 41 = .ok (.ladd, 1) := by decide +kernel
theorem d_F_put_42 : decode b_F_put 42 = .ok (.ladd, 1) := by decide +kernel
theorem d_F_put_43 : decode b_F_put 43 = .ok (.lstore_n 3, 1) := by decide +kernel
theorem d_F_put_44 : decode b_F_put 44 = .ok (.aload_n 0, 1) := by decide +kernel
theorem d_F_put_45 : decode b_F_put 45 = .ok (.getfield 21, 3) := by decide +kernel
theorem d_F_put_48 : decode b_F_put 48 = .ok (.iload 5, 2) := by decide +kernel
theorem d_F_put_50 : decode b_F_put 50 = .ok (.lload_n 3, 1) := by decide +kernel
theorem d_F_put_51 : decode b_F_put 51 = .ok (.l2i, 1) := by decide +kernel
theorem d_F_put_52 : decode b_F_put 52 = .ok (.iastore, 1) := by decide +kernel
theorem d_F_put_53 : decode b_F_put 53 = .ok (.lload_n 3, 1) := by decide +kernel
theorem d_F_put_54 : decode b_F_put 54 = .ok (.bipush 32, 2) := by decide +kernel
theorem d_F_put_56 : decode b_F_put 56 = .ok (.lushr, 1) := by decide +kernel
theorem d_F_put_57 : decode b_F_put 57 = .ok (.lstore_n 3, 1) := by decide +kernel
theorem d_F_put_58 : decode b_F_put 58 = .ok (.iinc 5 1, 3) := by decide +kernel
theorem d_F_put_61 : decode b_F_put 61 = .ok (.goto (-56), 3) := by decide +kernel
theorem d_F_put_64 : decode b_F_put 64 = .ok (.lload_n 3, 1) := by decide +kernel
theorem d_F_put_65 : decode b_F_put 65 = .ok (.aload_n 0, 1) := by decide +kernel
theorem d_F_put_66 : decode b_F_put 66 = .ok (.getfield 21, 3) := by decide +kernel
theorem d_F_put_69 : decode b_F_put 69 = .ok (.bipush 8, 2) := by decide +kernel
theorem d_F_put_71 : decode b_F_put 71 = .ok (.iaload, 1) := by decide +kernel
theorem d_F_put_72 : decode b_F_put 72 = .ok (.i2l, 1) := by decide +kernel
theorem d_F_put_73 : decode b_F_put 73 = .ok (.ldc2_w 35, 3) := by decide +kernel
theorem d_F_put_76 : decode b_F_put 76 = .ok (.land, 1) := by decide +kernel
theorem d_F_put_77 : decode b_F_put 77 = .ok (.ladd, 1) := by decide +kernel
theorem d_F_put_78 : decode b_F_put 78 = .ok (.lstore_n 3, 1) := by decide +kernel
theorem d_F_put_79 : decode b_F_put 79 = .ok (.aload_n 0, 1) := by decide +kernel
theorem d_F_put_80 : decode b_F_put 80 = .ok (.getfield 21, 3) := by decide +kernel
theorem d_F_put_83 : decode b_F_put 83 = .ok (.bipush 8, 2) := by decide +kernel
theorem d_F_put_85 : decode b_F_put 85 = .ok (.lload_n 3, 1) := by decide +kernel
theorem d_F_put_86 : decode b_F_put 86 = .ok (.l2i, 1) := by decide +kernel
theorem d_F_put_87 : decode b_F_put 87 = .ok (.iastore, 1) := by decide +kernel
theorem d_F_put_88 : decode b_F_put 88 = .ok (.aload_n 0, 1) := by decide +kernel
theorem d_F_put_89 : decode b_F_put 89 = .ok (.getfield 21, 3) := by decide +kernel
theorem d_F_put_92 : decode b_F_put 92 = .ok (.bipush 9, 2) := by decide +kernel
theorem d_F_put_94 : decode b_F_put 94 = .ok (.dup2, 1) := by decide +kernel
theorem d_F_put_95 : decode b_F_put 95 = .ok (.iaload, 1) := by decide +kernel
theorem d_F_put_96 : decode b_F_put 96 = .ok (.lload_n 3, 1) := by decide +kernel
theorem d_F_put_97 : decode b_F_put 97 = .ok (.bipush 32, 2) := by decide +kernel
theorem d_F_put_99 : decode b_F_put 99 = .ok (.lushr, 1) := by decide +kernel
theorem d_F_put_100 : decode b_F_put 100 = .ok (.l2i, 1) := by decide +kernel
theorem d_F_put_101 : decode b_F_put 101 = .ok (.iadd, 1) := by decide +kernel
theorem d_F_put_102 : decode b_F_put 102 = .ok (.iastore, 1) := by decide +kernel
theorem d_F_put_103 : decode b_F_put 103 = .ok (.return_, 1) := by decide +kernel
theorem d_F_halve_0 : decode b_F_halve 0 = .ok (.lconst 0, 1) := by decide +kernel
theorem d_F_halve_1 : decode b_F_halve 1 = .ok (.lstore_n 3, 1) := by decide +kernel
theorem d_F_halve_2 : decode b_F_halve 2 = .ok (.aload_n 1, 1) := by decide +kernel
theorem d_F_halve_3 : decode b_F_halve 3 = .ok (.aload_n 2, 1) := by decide +kernel
theorem d_F_halve_4 : decode b_F_halve 4 = .ok (.invokestatic 56, 3) := by decide +kernel
theorem d_F_halve_7 : decode b_F_halve 7 = .ok (.aload_n 1, 1) := by decide +kernel
theorem d_F_halve_8 : decode b_F_halve 8 = .ok (.iconst 0, 1) := by decide +kernel
theorem d_F_halve_9 : decode b_F_halve 9 = .ok (.iaload, 1) := by decide +kernel
theorem d_F_halve_10 : decode b_F_halve 10 = .ok (.iconst 1, 1) := by decide +kernel
theorem d_F_halve_11 : decode b_F_halve 11 = .ok (.iand, 1) := by decide +kernel
theorem d_F_halve_12 : decode b_F_halve 12 = .ok (.iconst 1, 1) := by decide +kernel
theorem d_F_halve_13 : decode b_F_halve 13 = .ok (.if_icmp .ne 13, 3) := by decide +kernel
theorem d_F_halve_16 : decode b_F_halve 16 = .ok (.aload_n 1, 1) := by decide +kernel
theorem d_F_halve_17 : decode b_F_halve 17 = .ok (.aload_n 0, 1) := by decide +kernel
theorem d_F_halve_18 : decode b_F_halve 18 = .ok (.getfield 9, 3) := by decide +kernel
theorem d_F_halve_21 : decode b_F_halve 21 = .ok (.aload_n 2, 1) := by decide +kernel
theorem d_F_halve_22 : decode b_F_halve 22 = .ok (.invokestatic 37, 3) := by decide +kernel
theorem d_F_halve_25 : decode b_F_halve 25 = .ok (.lstore_n 3, 1) := by decide +kernel
theorem d_F_halve_26 : decode b_F_halve 26 = .ok (.iconst 0, 1) := by decide +kernel
theorem d_F_halve_27 : decode b_F_halve 27 = .ok (.istore 5, 2) := by decide +kernel
theorem d_F_halve_29 : decode b_F_halve 29 = .ok (.iload 5, 2) := by decide +kernel
theorem d_F_halve_31 : decode b_F_halve 31 = .ok (.bipush 8, 2) := by decide +kernel
theorem d_F_halve_33 : decode b_F_halve 33 = .ok (.if_icmp .ge 48, 3) := by decide +kernel
theorem d_F_halve_36 : decode b_F_halve 36 = .ok (.aload_n 2, 1) := by decide +kernel
theorem d_F_halve_37 : decode b_F_halve 37 = .ok (.iload 5, 2) := by decide +kernel
theorem d_F_halve_39 : decode b_F_halve 39 = .ok (.aload_n 2, 1) := by decide +kernel
theorem d_F_halve_40 : decode b_F_halve 40 = .ok (.iload 5, 2) := by decide +kernel
theorem d_F_halve_42 : decode b_F_halve 42 = .ok (.iaload, 1) := by decide +kernel
theorem d_F_halve_43 : decode b_F_halve 43 = .ok (.iconst 1, 1) := by decide +kernel
theorem d_F_halve_44 : decode b_F_halve 44 = .ok (.iushr, 1) := by decide +kernel
theorem d_F_halve_45 : decode b_F_halve 45 = .ok (.iload 5, 2) := by decide +kernel
theorem d_F_halve_47 : decode b_F_halve 47 = .ok (.iconst 1, 1) := by decide +kernel
theorem d_F_halve_48 : decode b_F_halve 48 = .ok (.iadd, 1) := by decide +kernel
theorem d_F_halve_49 : decode b_F_halve 49 = .ok (.bipush 8, 2) := by decide +kernel
theorem d_F_halve_51 : decode b_F_halve 51 = .ok (.if_icmp .ge 17, 3) := by decide +kernel
theorem d_F_halve_54 : decode b_F_halve 54 = .ok (.aload_n 2, 1) := by decide +kernel
theorem d_F_halve_55 : decode b_F_halve 55 = .ok (.iload 5, 2) := by decide +kernel
theorem d_F_halve_57 : decode b_F_halve 57 = .ok (.iconst 1, 1) := by decide +kernel
theorem d_F_halve_58 : decode b_F_halve 58 = .ok (.iadd, 1) := by decide +kernel
theorem d_F_halve_59 : decode b_F_halve 59 = .ok (.iaload, 1) := by decide +kernel
theorem d_F_halve_60 : decode b_F_halve 60 = .ok (.i2l, 1) := by decide +kernel
theorem d_F_halve_61 : decode b_F_halve 61 = .ok (.ldc2_w 35, 3) := by decide +kernel
theorem d_F_halve_64 : decode b_F_halve 64 = .ok (.land, 1) := by decide +kernel
theorem d_F_halve_65 : decode b_F_halve 65 = .ok (.goto 4, 3) := by decide +kernel
theorem d_F_halve_68 : decode b_F_halve 68 = .ok (.lload_n 3, 1) := by decide +kernel
theorem d_F_halve_69 : decode b_F_halve 69 = .ok (.l2i, 1) := by decide +kernel
theorem d_F_halve_70 : decode b_F_halve 70 = .ok (.bipush 31, 2) := by decide +kernel
theorem d_F_halve_72 : decode b_F_halve 72 = .ok (.ishl, 1) := by decide +kernel
theorem d_F_halve_73 : decode b_F_halve 73 = .ok (.ior, 1) := by decide +kernel
theorem d_F_halve_74 : decode b_F_halve 74 = .ok (.iastore, 1) := by decide +kernel
theorem d_F_halve_75 : decode b_F_halve 75 = .ok (.iinc 5 1, 3) := by decide +kernel
theorem d_F_halve_78 : decode b_F_halve 78 = .ok (.goto (-49), 3) := by decide +kernel
theorem d_F_halve_81 : decode b_F_halve 81 = .ok (.return_, 1) := by decide +kernel
theorem d_F_isZero_0 : decode b_F_isZero 0 = .ok (.iconst 0, 1) := by decide +kernel
theorem d_F_isZero_1 : decode b_F_isZero 1 = .ok (.istore_n 1, 1) := by decide +kernel
theorem d_F_isZero_2 : decode b_F_isZero 2 = .ok (.iconst 0, 1) := by decide +kernel
theorem d_F_isZero_3 : decode b_F_isZero 3 = .ok (.istore_n 2, 1) := by decide +kernel
theorem d_F_isZero_4 : decode b_F_isZero 4 = .ok (.iload_n 2, 1) := by decide +kernel
theorem d_F_isZero_5 : decode b_F_isZero 5 = .ok (.bipush 8, 2) := by decide +kernel
theorem d_F_isZero_7 : decode b_F_isZero 7 = .ok (.if_icmp .ge 15, 3) := by decide +kernel
theorem d_F_isZero_10 : decode b_F_isZero 10 = .ok (.iload_n 1, 1) := by decide +kernel
theorem d_F_isZero_11 : decode b_F_isZero 11 = .ok (.aload_n 0, 1) := by decide +kernel
theorem d_F_isZero_12 : decode b_F_isZero 12 = .ok (.iload_n 2, 1) := by decide +kernel
theorem d_F_isZero_13 : decode b_F_isZero 13 = .ok (.iaload, 1) := by decide +kernel
theorem d_F_isZero_14 : decode b_F_isZero 14 = .ok (.ior, 1) := by decide +kernel
theorem d_F_isZero_15 : decode b_F_isZero 15 = .ok (.istore_n 1, 1) := by decide +kernel
theorem d_F_isZero_16 : decode b_F_isZero 16 = .ok (.iinc 2 1, 3) := by decide +kernel
theorem d_F_isZero_19 : decode b_F_isZero 19 = .ok (.goto (-15), 3) := by decide +kernel
theorem d_F_isZero_22 : decode b_F_isZero 22 = .ok (.iload_n 1, 1) := by decide +kernel
theorem d_F_isZero_23 : decode b_F_isZero 23 = .ok (.ifCond .ne 7, 3) := by decide +kernel
theorem d_F_isZero_26 : decode b_F_isZero 26 = .ok (.iconst 1, 1) := by decide +kernel
theorem d_F_isZero_27 : decode b_F_isZero 27 = .ok (.goto 4, 3) := by decide +kernel
theorem d_F_isZero_30 : decode b_F_isZero 30 = .ok (.iconst 0, 1) := by decide +kernel
theorem d_F_isZero_31 : decode b_F_isZero 31 = .ok (.ireturn, 1) := by decide +kernel
theorem d_F_invert_0 : decode b_F_invert 0 = .ok (.aload_n 0, 1) := by decide +kernel
theorem d_F_invert_1 : decode b_F_invert 1 = .ok (.aload_n 1, 1) := by decide +kernel
theorem d_F_invert_2 : decode b_F_invert 2 = .ok (.aload_n 0, 1) := by decide +kernel
theorem d_F_invert_3 : decode b_F_invert 3 = .ok (.getfield 15, 3) := by decide +kernel
theorem d_F_invert_6 : decode b_F_invert 6 = .ok (.aload_n 0, 1) := by decide +kernel
theorem d_F_invert_7 : decode b_F_invert 7 = .ok (.getfield 27, 3) := by decide +kernel
theorem d_F_invert_10 : decode b_F_invert 10 = .ok (.invokevirtual 52, 3) := by decide +kernel
theorem d_F_invert_13 : decode b_F_invert 13 = .ok (.aload_n 0, 1) := by decide +kernel
theorem d_F_invert_14 : decode b_F_invert 14 = .ok (.getfield 18, 3) := by decide +kernel
theorem d_F_invert_17 : decode b_F_invert 17 = .ok (.aload_n 0, 1) := by decide +kernel
theorem d_F_invert_18 : decode b_F_invert 18 = .ok (.getfield 24, 3) := by decide +kernel
theorem d_F_invert_21 : decode b_F_invert 21 = .ok (.invokestatic 56, 3) := by decide +kernel
theorem d_F_invert_24 : decode b_F_invert 24 = .ok (.sipush 255, 3) := by decide +kernel
theorem d_F_invert_27 : decode b_F_invert 27 = .ok (.istore_n 3, 1) := by decide +kernel
theorem d_F_invert_28 : decode b_F_invert 28 = .ok (.iload_n 3, 1) := by decide +kernel
theorem d_F_invert_29 : decode b_F_invert 29 = .ok (.ifCond .lt 82, 3) := by decide +kernel
theorem d_F_invert_32 : decode b_F_invert 32 = .ok (.aload_n 0, 1) := by decide +kernel
theorem d_F_invert_33 : decode b_F_invert 33 = .ok (.aload_n 0, 1) := by decide +kernel
theorem d_F_invert_34 : decode b_F_invert 34 = .ok (.getfield 24, 3) := by decide +kernel
theorem d_F_invert_37 : decode b_F_invert 37 = .ok (.aload_n 0, 1) := by decide +kernel
theorem d_F_invert_38 : decode b_F_invert 38 = .ok (.getfield 24, 3) := by decide +kernel
theorem d_F_invert_41 : decode b_F_invert 41 = .ok (.aload_n 0, 1) := by decide +kernel
theorem d_F_invert_42 : decode b_F_invert 42 = .ok (.getfield 24, 3) := by decide +kernel
theorem d_F_invert_45 : decode b_F_invert 45 = .ok (.invokevirtual 52, 3) := by decide +kernel
theorem d_F_invert_48 : decode b_F_invert 48 = .ok (.iload_n 3, 1) := by decide +kernel
theorem d_F_invert_49 : decode b_F_invert 49 = .ok (.bipush 32, 2) := by decide +kernel
theorem d_F_invert_51 : decode b_F_invert 51 = .ok (.if_icmp .ge 14, 3) := by decide +kernel
theorem d_F_invert_54 : decode b_F_invert 54 = .ok (.aload_n 0, 1) := by decide +kernel
theorem d_F_invert_55 : decode b_F_invert 55 = .ok (.getfield 9, 3) := by decide +kernel
theorem d_F_invert_58 : decode b_F_invert 58 = .ok (.iconst 0, 1) := by decide +kernel
theorem d_F_invert_59 : decode b_F_invert 59 = .ok (.iaload, 1) := by decide +kernel
theorem d_F_invert_60 : decode b_F_invert 60 = .ok (.iconst 2, 1) := by decide +kernel
theorem d_F_invert_61 : decode b_F_invert 61 = .ok (.isub, 1) := by decide +kernel
theorem d_F_invert_62 : decode b_F_invert 62 = .ok (.goto 12, 3) := by decide +kernel
theorem d_F_invert_65 : decode b_F_invert 65 = .ok (.aload_n 0, 1) := by decide +kernel
theorem d_F_invert_66 : decode b_F_invert 66 = .ok (.getfield 9, 3) := by decide +kernel
theorem d_F_invert_69 : decode b_F_invert 69 = .ok (.iload_n 3, 1) := by decide +kernel
theorem d_F_invert_70 : decode b_F_invert 70 = .ok (.bipush 32, 2) := by decide +kernel
theorem d_F_invert_72 : decode b_F_invert 72 = .ok (.idiv, 1) := by decide +kernel
theorem d_F_invert_73 : decode b_F_invert 73 = .ok (.iaload, 1) := by decide +kernel
theorem d_F_invert_74 : decode b_F_invert 74 = .ok (.istore 4, 2) := by decide +kernel
theorem d_F_invert_76 : decode b_F_invert 76 = .ok (.iload 4, 2) := by decide +kernel
theorem d_F_invert_78 : decode b_F_invert 78 = .ok (.iload_n 3, 1) := by decide +kernel
theorem d_F_invert_79 : decode b_F_invert 79 = .ok (.bipush 32, 2) := by decide +kernel
theorem d_F_invert_81 : decode b_F_invert 81 = .ok (.irem, 1) := by decide +kernel
theorem d_F_invert_82 : decode b_F_invert 82 = .ok (.ishr, 1) := by decide +kernel
theorem d_F_invert_83 : decode b_F_invert 83 = .ok (.iconst 1, 1) := by decide +kernel
theorem d_F_invert_84 : decode b_F_invert 84 = .ok (.iand, 1) := by decide +kernel
theorem d_F_invert_85 : decode b_F_invert 85 = .ok (.iconst 1, 1) := by decide +kernel
theorem d_F_invert_86 : decode b_F_invert 86 = .ok (.if_icmp .ne 19, 3) := by decide +kernel
theorem d_F_invert_89 : decode b_F_invert 89 = .ok (.aload_n 0, 1) := by decide +kernel
theorem d_F_invert_90 : decode b_F_invert 90 = .ok (.aload_n 0, 1) := by decide +kernel
theorem d_F_invert_91 : decode b_F_invert 91 = .ok (.getfield 24, 3) := by decide +kernel
theorem d_F_invert_94 : decode b_F_invert 94 = .ok (.aload_n 0, 1) := by decide +kernel
theorem d_F_invert_95 : decode b_F_invert 95 = .ok (.getfield 27, 3) := by decide +kernel
theorem d_F_invert_98 : decode b_F_invert 98 = .ok (.aload_n 0, 1) := by decide +kernel
theorem d_F_invert_99 : decode b_F_invert 99 = .ok (.getfield 24, 3) := by decide +kernel
theorem d_F_invert_102 : decode b_F_invert 102 = .ok (.invokevirtual 52, 3) := by decide +kernel
theorem d_F_invert_105 : decode b_F_invert 105 = .ok (.iinc 3 (-1), 3) := by decide +kernel
theorem d_F_invert_108 : decode b_F_invert 108 = .ok (.goto (-80), 3) := by decide +kernel
theorem d_F_invert_111 : decode b_F_invert 111 = .ok (.iconst 0, 1) := by decide +kernel
theorem d_F_invert_112 : decode b_F_invert 112 = .ok (.istore_n 3, 1) := by decide +kernel
theorem d_F_invert_113 : decode b_F_invert 113 = .ok (.iload_n 3, 1) := by decide +kernel
theorem d_F_invert_114 : decode b_F_invert 114 = .ok (.bipush 8, 2) := by decide +kernel
theorem d_F_invert_116 : decode b_F_invert 116 = .ok (.if_icmp .ge 21, 3) := by decide +kernel
theorem d_F_invert_119 : decode b_F_invert 119 = .ok (.aload_n 2, 1) := by decide +kernel
theorem d_F_invert_120 : decode b_F_invert 120 = .ok (.iload_n 3, 1) := by decide +kernel
theorem d_F_invert_121 : decode b_F_invert 121 = .ok (.iload_n 3, 1) := by decide +kernel
theorem d_F_invert_122 : decode b_F_invert 122 = .ok (.ifCond .ne 7, 3) := by decide +kernel
theorem d_F_invert_125 : decode b_F_invert 125 = .ok (.iconst 1, 1) := by decide +kernel
theorem d_F_invert_126 : decode b_F_invert 126 = .ok (.goto 4, 3) := by decide +kernel
theorem d_F_invert_129 : decode b_F_invert 129 = .ok (.iconst 0, 1) := by decide +kernel
theorem d_F_invert_130 : decode b_F_invert 130 = .ok (.iastore, 1) := by decide +kernel
theorem d_F_invert_131 : decode b_F_invert 131 = .ok (.iinc 3 1, 3) := by decide +kernel
theorem d_F_invert_134 : decode b_F_invert 134 = .ok (.goto (-21), 3) := by decide +kernel
theorem d_F_invert_137 : decode b_F_invert 137 = .ok (.aload_n 0, 1) := by decide +kernel
theorem d_F_invert_138 : decode b_F_invert 138 = .ok (.aload_n 0, 1) := by decide +kernel
theorem d_F_invert_139 : decode b_F_invert 139 = .ok (.getfield 24, 3) := by decide +kernel
theorem d_F_invert_142 : decode b_F_invert 142 = .ok (.aload_n 2, 1) := by decide +kernel
theorem d_F_invert_143 : decode b_F_invert 143 = .ok (.aload_n 2, 1) := by decide +kernel
theorem d_F_invert_144 : decode b_F_invert 144 = .ok (.invokevirtual 52, 3) := by decide +kernel
theorem d_F_invert_147 : decode b_F_invert 147 = .ok (.return_, 1) := by decide +kernel
theorem d_F_carry_0 : decode b_F_carry 0 = .ok (.iload_n 2, 1) := by decide +kernel
theorem d_F_carry_1 : decode b_F_carry 1 = .ok (.i2l, 1) := by decide +kernel
theorem d_F_carry_2 : decode b_F_carry 2 = .ok (.ldc2_w 35, 3) := by decide +kernel
theorem d_F_carry_5 : decode b_F_carry 5 = .ok (.land, 1) := by decide +kernel
theorem d_F_carry_6 : decode b_F_carry 6 = .ok (.lstore 4, 2) := by decide +kernel
theorem d_F_carry_8 : decode b_F_carry 8 = .ok (.lload 4, 2) := by decide +kernel
theorem d_F_carry_10 : decode b_F_carry 10 = .ok (.ldc2_w 60, 3) := by decide +kernel
theorem d_F_carry_13 : decode b_F_carry 13 = .ok (.lmul, 1) := by decide +kernel
theorem d_F_carry_14 : decode b_F_carry 14 = .ok (.lstore 6, 2) := by decide +kernel
theorem d_F_carry_16 : decode b_F_carry 16 = .ok (.iconst 0, 1) := by decide +kernel
theorem d_F_carry_17 : decode b_F_carry 17 = .ok (.istore 8, 2) := by decide +kernel
theorem d_F_carry_19 : decode b_F_carry 19 = .ok (.iload 8, 2) := by decide +kernel
theorem d_F_carry_21 : decode b_F_carry 21 = .ok (.bipush 8, 2) := by decide +kernel
theorem d_F_carry_23 : decode b_F_carry 23 = .ok (.if_icmp .ge 17, 3) := by decide +kernel
theorem d_F_carry_26 : decode b_F_carry 26 = .ok (.aload_n 0, 1) := by decide +kernel
theorem d_F_carry_27 : decode b_F_carry 27 = .ok (.getfield 27, 3) := by decide +kernel
theorem d_F_carry_30 : decode b_F_carry 30 = .ok (.iload 8, 2) := by decide +kernel
theorem d_F_carry_32 : decode b_F_carry 32 = .ok (.iconst 0, 1) := by decide +kernel
theorem d_F_carry_33 : decode b_F_carry 33 = .ok (.iastore, 1) := by decide +kernel
theorem d_F_carry_34 : decode b_F_carry 34 = .ok (.iinc 8 1, 3) := by decide +kernel
theorem d_F_carry_37 : decode b_F_carry 37 = .ok (.goto (-18), 3) := by decide +kernel
theorem d_F_carry_40 : decode b_F_carry 40 = .ok (.aload_n 0, 1) := by decide +kernel
theorem d_F_carry_41 : decode b_F_carry 41 = .ok (.getfield 27, 3) := by decide +kernel
theorem d_F_carry_44 : decode b_F_carry 44 = .ok (.iconst 0, 1) := by decide +kernel
theorem d_F_carry_45 : decode b_F_carry 45 = .ok (.lload 6, 2) := by decide +kernel
theorem d_F_carry_47 : decode b_F_carry 47 = .ok (.l2i, 1) := by decide +kernel
theorem d_F_carry_48 : decode b_F_carry 48 = .ok (.iastore, 1) := by decide +kernel
theorem d_F_carry_49 : decode b_F_carry 49 = .ok (.lload 6, 2) := by decide +kernel
theorem d_F_carry_51 : decode b_F_carry 51 = .ok (.bipush 32, 2) := by decide +kernel
theorem d_F_carry_53 : decode b_F_carry 53 = .ok (.lushr, 1) := by decide +kernel
theorem d_F_carry_54 : decode b_F_carry 54 = .ok (.lload 4, 2) := by decide +kernel
theorem d_F_carry_56 : decode b_F_carry 56 = .ok (.ladd, 1) := by decide +kernel
theorem d_F_carry_57 : decode b_F_carry 57 = .ok (.lstore 8, 2) := by decide +kernel
theorem d_F_carry_59 : decode b_F_carry 59 = .ok (.aload_n 0, 1) := by decide +kernel
theorem d_F_carry_60 : decode b_F_carry 60 = .ok (.getfield 27, 3) := by decide +kernel
theorem d_F_carry_63 : decode b_F_carry 63 = .ok (.iconst 1, 1) := by decide +kernel
theorem d_F_carry_64 : decode b_F_carry 64 = .ok (.lload 8, 2) := by decide +kernel
theorem d_F_carry_66 : decode b_F_carry 66 = .ok (.l2i, 1) := by decide +kernel
theorem d_F_carry_67 : decode b_F_carry 67 = .ok (.iastore, 1) := by decide +kernel
theorem d_F_carry_68 : decode b_F_carry 68 = .ok (.aload_n 0, 1) := by decide +kernel
theorem d_F_carry_69 : decode b_F_carry 69 = .ok (.getfield 27, 3) := by decide +kernel
theorem d_F_carry_72 : decode b_F_carry 72 = .ok (.iconst 2, 1) := by decide +kernel
theorem d_F_carry_73 : decode b_F_carry 73 = .ok (.lload 8, 2) := by decide +kernel
theorem d_F_carry_75 : decode b_F_carry 75 = .ok (.bipush 32, 2) := by decide +kernel
theorem d_F_carry_77 : decode b_F_carry 77 = .ok (.lushr, 1) := by decide +kernel
theorem d_F_carry_78 : decode b_F_carry 78 = .ok (.l2i, 1) := by decide +kernel
theorem d_F_carry_79 : decode b_F_carry 79 = .ok (.iastore, 1) := by decide +kernel
theorem d_F_carry_80 : decode b_F_carry 80 = .ok (.aload_n 0, 1) := by decide +kernel
theorem d_F_carry_81 : decode b_F_carry 81 = .ok (.aload_n 1, 1) := by decide +kernel
theorem d_F_carry_82 : decode b_F_carry 82 = .ok (.aload_n 0, 1) := by decide +kernel
theorem d_F_carry_83 : decode b_F_carry 83 = .ok (.getfield 27, 3) := by decide +kernel
theorem d_F_carry_86 : decode b_F_carry 86 = .ok (.aload_n 3, 1) := by decide +kernel
theorem d_F_carry_87 : decode b_F_carry 87 = .ok (.invokevirtual 62, 3) := by decide +kernel
theorem d_F_carry_90 : decode b_F_carry 90 = .ok (.return_, 1) := by decide +kernel
end
section
theorem d_K_init_0 : decode b_K_init 0 = .ok (.aload_n 0, 1) := by decide +kernel
theorem d_K_init_1 : decode b_K_init 1 = .ok (.invokespecial 1, 3) := by decide +kernel
theorem d_K_init_4 : decode b_K_init 4 = .ok (.aload_n 0, 1) := by decide +kernel
theorem d_K_init_5 : decode b_K_init 5 = .ok (.iconst 4, 1) := by decide +kernel
theorem d_K_init_6 : decode b_K_init 6 = .ok (.bipush 8, 2) := by decide +kernel
theorem d_K_init_8 : decode b_K_init 8 = .ok (.multianewarray 9 2, 4) := by decide +kernel
theorem d_K_init_12 : decode b_K_init 12 = .ok (.putfield 11, 3) := by decide +kernel
theorem d_K_init_15 : decode b_K_init 15 = .ok (.aload_n 0, 1) := by decide +kernel
theorem d_K_init_16 : decode b_K_init 16 = .ok (.bipush 8, 2) := by decide +kernel
theorem d_K_init_18 : decode b_K_init 18 = .ok (.newarray .int, 2) := by decide +kernel
theorem d_K_init_20 : decode b_K_init 20 = .ok (.putfield 14, 3) := by decide +kernel
theorem d_K_init_23 : decode b_K_init 23 = .ok (.aload_n 0, 1) := by decide +kernel
theorem d_K_init_24 : decode b_K_init 24 = .ok (.bipush 8, 2) := by decide +kernel
theorem d_K_init_26 : decode b_K_init 26 = .ok (.newarray .int, 2) := by decide +kernel
theorem d_K_init_28 : decode b_K_init 28 = .ok (.putfield 18, 3) := by decide +kernel
theorem d_K_init_31 : decode b_K_init 31 = .ok (.aload_n 0, 1) := by decide +kernel
theorem d_K_init_32 : decode b_K_init 32 = .ok (.new 21, 3) := by decide +kernel
theorem d_K_init_35 : decode b_K_init 35 = .ok (.dup, 1) := by decide +kernel
theorem d_K_init_36 : decode b_K_init 36 = .ok (.invokespecial 23, 3) := by decide +kernel
theorem d_K_init_39 : decode b_K_init 39 = .ok (.putfield 24, 3) := by decide +kernel
theorem d_K_init_42 : decode b_K_init 42 = .ok (.return_, 1) := by decide +kernel
theorem d_K_line_0 : decode b_K_line 0 = .ok (.iconst 4, 1) := by decide +kernel
theorem d_K_line_1 : decode b_K_line 1 = .ok (.iload_n 1, 1) := by decide +kernel
theorem d_K_line_2 : decode b_K_line 2 = .ok (.iconst 1, 1) := by decide +kernel
theorem d_K_line_3 : decode b_K_line 3 = .ok (.iand, 1) := by decide +kernel
theorem d_K_line_4 : decode b_K_line 4 = .ok (.imul, 1) := by decide +kernel
theorem d_K_line_5 : decode b_K_line 5 = .ok (.istore 6, 2) := by decide +kernel
theorem d_K_line_7 : decode b_K_line 7 = .ok (.aload_n 0, 1) := by decide +kernel
theorem d_K_line_8 : decode b_K_line 8 = .ok (.getfield 14, 3) := by decide +kernel
theorem d_K_line_11 : decode b_K_line 11 = .ok (.iload 6, 2) := by decide +kernel
theorem d_K_line_13 : decode b_K_line 13 = .ok (.iload_n 2, 1) := by decide +kernel
theorem d_K_line_14 : decode b_K_line 14 = .ok (.iastore, 1) := by decide +kernel
theorem d_K_line_15 : decode b_K_line 15 = .ok (.aload_n 0, 1) := by decide +kernel
theorem d_K_line_16 : decode b_K_line 16 = .ok (.getfield 14, 3) := by decide +kernel
theorem d_K_line_19 : decode b_K_line 19 = .ok (.iload 6, 2) := by decide +kernel
theorem d_K_line_21 : decode b_K_line 21 = .ok (.iconst 1, 1) := by decide +kernel
theorem d_K_line_22 : decode b_K_line 22 = .ok (.iadd, 1) := by decide +kernel
theorem d_K_line_23 : decode b_K_line 23 = .ok (.iload_n 3, 1) := by decide +kernel
theorem d_K_line_24 : decode b_K_line 24 = .ok (.iastore, 1) := by decide +kernel
theorem d_K_line_25 : decode b_K_line 25 = .ok (.aload_n 0, 1) := by decide +kernel
theorem d_K_line_26 : decode b_K_line 26 = .ok (.getfield 14, 3) := by decide +kernel
theorem d_K_line_29 : decode b_K_line 29 = .ok (.iload 6, 2) := by decide +kernel
theorem d_K_line_31 : decode b_K_line 31 = .ok (.iconst 2, 1) := by decide +kernel
theorem d_K_line_32 : decode b_K_line 32 = .ok (.iadd, 1) := by decide +kernel
theorem d_K_line_33 : decode b_K_line 33 = .ok (.iload 4, 2) := by decide +kernel
theorem d_K_line_35 : decode b_K_line 35 = .ok (.iastore, 1) := by decide +kernel
theorem d_K_line_36 : decode b_K_line 36 = .ok (.aload_n 0, 1) := by decide +kernel
theorem d_K_line_37 : decode b_K_line 37 = .ok (.getfield 14, 3) := by decide +kernel
theorem d_K_line_40 : decode b_K_line 40 = .ok (.iload 6, 2) := by decide +kernel
theorem d_K_line_42 : decode b_K_line 42 = .ok (.iconst 3, 1) := by decide +kernel
theorem d_K_line_43 : decode b_K_line 43 = .ok (.iadd, 1) := by decide +kernel
theorem d_K_line_44 : decode b_K_line 44 = .ok (.iload 5, 2) := by decide +kernel
theorem d_K_line_46 : decode b_K_line 46 = .ok (.iastore, 1) := by decide +kernel
theorem d_K_line_47 : decode b_K_line 47 = .ok (.return_, 1) := by decide +kernel
theorem d_K_load_0 : decode b_K_load 0 = .ok (.aload_n 0, 1) := by decide +kernel
theorem d_K_load_1 : decode b_K_load 1 = .ok (.getfield 14, 3) := by decide +kernel
theorem d_K_load_4 : decode b_K_load 4 = .ok (.aload_n 0, 1) := by decide +kernel
theorem d_K_load_5 : decode b_K_load 5 = .ok (.iload_n 1, 1) := by decide +kernel
theorem d_K_load_6 : decode b_K_load 6 = .ok (.invokevirtual 28, 3) := by decide +kernel
theorem d_K_load_9 : decode b_K_load 9 = .ok (.invokestatic 32, 3) := by decide +kernel
theorem d_K_load_12 : decode b_K_load 12 = .ok (.aload_n 0, 1) := by decide +kernel
theorem d_K_load_13 : decode b_K_load 13 = .ok (.getfield 24, 3) := by decide +kernel
theorem d_K_load_16 : decode b_K_load 16 = .ok (.aload_n 0, 1) := by decide +kernel
theorem d_K_load_17 : decode b_K_load 17 = .ok (.iload_n 1, 1) := by decide +kernel
theorem d_K_load_18 : decode b_K_load 18 = .ok (.invokevirtual 28, 3) := by decide +kernel
theorem d_K_load_21 : decode b_K_load 21 = .ok (.invokevirtual 36, 3) := by decide +kernel
theorem d_K_load_24 : decode b_K_load 24 = .ok (.ifCond .eq 5, 3) := by decide +kernel
theorem d_K_load_27 : decode b_K_load 27 = .ok (.iconst 0, 1) := by decide +kernel
theorem d_K_load_28 : decode b_K_load 28 = .ok (.ireturn, 1) := by decide +kernel
theorem d_K_load_29 : decode b_K_load 29 = .ok (.aload_n 0, 1) := by decide +kernel
theorem d_K_load_30 : decode b_K_load 30 = .ok (.iload_n 1, 1) := by decide +kernel
theorem d_K_load_31 : decode b_K_load 31 = .ok (.invokevirtual 28, 3) := by decide +kernel
theorem d_K_load_34 : decode b_K_load 34 = .ok (.aload_n 0, 1) := by decide +kernel
theorem d_K_load_35 : decode b_K_load 35 = .ok (.getfield 24, 3) := by decide +kernel
theorem d_K_load_38 : decode b_K_load 38 = .ok (.getfield 40, 3) := by decide +kernel
theorem d_K_load_41 : decode b_K_load 41 = .ok (.aload_n 0, 1) := by decide +kernel
theorem d_K_load_42 : decode b_K_load 42 = .ok (.iload_n 1, 1) := by decide +kernel
theorem d_K_load_43 : decode b_K_load 43 = .ok (.invokevirtual 28, 3) := by decide +kernel
theorem d_K_load_46 : decode b_K_load 46 = .ok (.invokestatic 43, 3) := by decide +kernel
theorem d_K_load_49 : decode b_K_load 49 = .ok (.pop2, 1) := by decide +kernel
theorem d_K_load_50 : decode b_K_load 50 = .ok (.iconst 1, 1) := by decide +kernel
theorem d_K_load_51 : decode b_K_load 51 = .ok (.ireturn, 1) := by decide +kernel
theorem d_K_at_0 : decode b_K_at 0 = .ok (.aload_n 0, 1) := by decide +kernel
theorem d_K_at_1 : decode b_K_at 1 = .ok (.getfield 11, 3) := by decide +kernel
theorem d_K_at_4 : decode b_K_at 4 = .ok (.iload_n 1, 1) := by decide +kernel
theorem d_K_at_5 : decode b_K_at 5 = .ok (.iconst 3, 1) := by decide +kernel
theorem d_K_at_6 : decode b_K_at 6 = .ok (.iand, 1) := by decide +kernel
theorem d_K_at_7 : decode b_K_at 7 = .ok (.aaload, 1) := by decide +kernel
theorem d_K_at_8 : decode b_K_at 8 = .ok (.areturn, 1) := by decide +kernel
theorem d_K_word_0 : decode b_K_word 0 = .ok (.aload_n 0, 1) := by decide +kernel
theorem d_K_word_1 : decode b_K_word 1 = .ok (.iload_n 1, 1) := by decide +kernel
theorem d_K_word_2 : decode b_K_word 2 = .ok (.invokevirtual 28, 3) := by decide +kernel
theorem d_K_word_5 : decode b_K_word 5 = .ok (.iload_n 2, 1) := by decide +kernel
theorem d_K_word_6 : decode b_K_word 6 = .ok (.bipush 7, 2) := by decide +kernel
theorem d_K_word_8 : decode b_K_word 8 = .ok (.iand, 1) := by decide +kernel
theorem d_K_word_9 : decode b_K_word 9 = .ok (.iaload, 1) := by decide +kernel
theorem d_K_word_10 : decode b_K_word 10 = .ok (.ireturn, 1) := by decide +kernel
theorem d_K_add_0 : decode b_K_add 0 = .ok (.aload_n 0, 1) := by decide +kernel
theorem d_K_add_1 : decode b_K_add 1 = .ok (.getfield 24, 3) := by decide +kernel
theorem d_K_add_4 : decode b_K_add 4 = .ok (.aload_n 0, 1) := by decide +kernel
theorem d_K_add_5 : decode b_K_add 5 = .ok (.iload_n 2, 1) := by decide +kernel
theorem d_K_add_6 : decode b_K_add 6 = .ok (.invokevirtual 28, 3) := by decide +kernel
theorem d_K_add_9 : decode b_K_add 9 = .ok (.aload_n 0, 1) := by decide +kernel
theorem d_K_add_10 : decode b_K_add 10 = .ok (.iload_n 3, 1) := by decide +kernel
theorem d_K_add_11 : decode b_K_add 11 = .ok (.invokevirtual 28, 3) := by decide +kernel
theorem d_K_add_14 : decode b_K_add 14 = .ok (.aload_n 0, 1) := by decide +kernel
theorem d_K_add_15 : decode b_K_add 15 = .ok (.iload_n 1, 1) := by decide +kernel
theorem d_K_add_16 : decode b_K_add 16 = .ok (.invokevirtual 28, 3) := by decide +kernel
theorem d_K_add_19 : decode b_K_add 19 = .ok (.invokevirtual 47, 3) := by decide +kernel
theorem d_K_add_22 : decode b_K_add 22 = .ok (.return_, 1) := by decide +kernel
theorem d_K_subtract_0 : decode b_K_subtract 0 = .ok (.aload_n 0, 1) := by decide +kernel
theorem d_K_subtract_1 : decode b_K_subtract 1 = .ok (.getfield 24, 3) := by decide +kernel
theorem d_K_subtract_4 : decode b_K_subtract 4 = .ok (.aload_n 0, 1) := by decide +kernel
theorem d_K_subtract_5 : decode b_K_subtract 5 = .ok (.iload_n 2, 1) := by decide +kernel
theorem d_K_subtract_6 : decode b_K_subtract 6 = .ok (.invokevirtual 28, 3) := by decide +kernel
theorem d_K_subtract_9 : decode b_K_subtract 9 = .ok (.aload_n 0, 1) := by decide +kernel
theorem d_K_subtract_10 : decode b_K_subtract 10 = .ok (.iload_n 3, 1) := by decide +kernel
theorem d_K_subtract_11 : decode b_K_subtract 11 = .ok (.invokevirtual 28, 3) := by decide +kernel
theorem d_K_subtract_14 : decode b_K_subtract 14 = .ok (.aload_n 0, 1) := by decide +kernel
theorem d_K_subtract_15 : decode b_K_subtract 15 = .ok (.iload_n 1, 1) := by decide +kernel
theorem d_K_subtract_16 : decode b_K_subtract 16 = .ok (.invokevirtual 28, 3) := by decide +kernel
theorem d_K_subtract_19 : decode b_K_subtract 19 = .ok (.invokevirtual 51, 3) := by decide +kernel
theorem d_K_subtract_22 : decode b_K_subtract 22 = .ok (.return_, 1) := by decide +kernel
theorem d_K_multiply_0 : decode b_K_multiply 0 = .ok (.aload_n 0, 1) := by decide +kernel
theorem d_K_multiply_1 : decode b_K_multiply 1 = .ok (.getfield 24, 3) := by decide +kernel
theorem d_K_multiply_4 : decode b_K_multiply 4 = .ok (.aload_n 0, 1) := by decide +kernel
theorem d_K_multiply_5 : decode b_K_multiply 5 = .ok (.iload_n 2, 1) := by decide +kernel
theorem d_K_multiply_6 : decode b_K_multiply 6 = .ok (.invokevirtual 28, 3) := by decide +kernel
theorem d_K_multiply_9 : decode b_K_multiply 9 = .ok (.aload_n 0, 1) := by decide +kernel
theorem d_K_multiply_10 : decode b_K_multiply 10 = .ok (.iload_n 3, 1) := by decide +kernel
theorem d_K_multiply_11 : decode b_K_multiply 11 = .ok (.invokevirtual 28, 3) := by decide +kernel
theorem d_K_multiply_14 : decode b_K_multiply 14 = .ok (.aload_n 0, 1) := by decide +kernel
theorem d_K_multiply_15 : decode b_K_multiply 15 = .ok (.getfield 18, 3) := by decide +kernel
theorem d_K_multiply_18 : decode b_K_multiply 18 = .ok (.invokevirtual 54, 3) := by decide +kernel
theorem d_K_multiply_21 : decode b_K_multiply 21 = .ok (.aload_n 0, 1) := by decide +kernel
theorem d_K_multiply_22 : decode b_K_multiply 22 = .ok (.getfield 18, 3) := by decide +kernel
theorem d_K_multiply_25 : decode b_K_multiply 25 = .ok (.aload_n 0, 1) := by decide +kernel
theorem d_K_multiply_26 : decode b_K_multiply 26 = .ok (.iload_n 1, 1) := by decide +kernel
theorem d_K_multiply_27 : decode b_K_multiply 27 = .ok (.invokevirtual 28, 3) := by decide +kernel
theorem d_K_multiply_30 : decode b_K_multiply 30 = .ok (.invokestatic 32, 3) := by decide +kernel
theorem d_K_multiply_33 : decode b_K_multiply 33 = .ok (.return_, 1) := by decide +kernel
theorem d_K_square_0 : decode b_K_square 0 = .ok (.aload_n 0, 1) := by decide +kernel
theorem d_K_square_1 : decode b_K_square 1 = .ok (.iload_n 1, 1) := by decide +kernel
theorem d_K_square_2 : decode b_K_square 2 = .ok (.iload_n 2, 1) := by decide +kernel
theorem d_K_square_3 : decode b_K_square 3 = .ok (.iload_n 2, 1) := by decide +kernel
theorem d_K_square_4 : decode b_K_square 4 = .ok (.invokevirtual 57, 3) := by decide +kernel
theorem d_K_square_7 : decode b_K_square 7 = .ok (.return_, 1) := by decide +kernel
theorem d_K_squares_0 : decode b_K_squares 0 = .ok (.aload_n 0, 1) := by decide +kernel
theorem d_K_squares_1 : decode b_K_squares 1 = .ok (.iload_n 2, 1) := by decide +kernel
theorem d_K_squares_2 : decode b_K_squares 2 = .ok (.invokevirtual 28, 3) := by decide +kernel
theorem d_K_squares_5 : decode b_K_squares 5 = .ok (.aload_n 0, 1) := by decide +kernel
theorem d_K_squares_6 : decode b_K_squares 6 = .ok (.iload_n 1, 1) := by decide +kernel
theorem d_K_squares_7 : decode b_K_squares 7 = .ok (.invokevirtual 28, 3) := by decide +kernel
theorem d_K_squares_10 : decode b_K_squares 10 = .ok (.invokestatic 32, 3) := by decide +kernel
theorem d_K_squares_13 : decode b_K_squares 13 = .ok (.iload_n 3, 1) := by decide +kernel
theorem d_K_squares_14 : decode b_K_squares 14 = .ok (.bipush 15, 2) := by decide +kernel
theorem d_K_squares_16 : decode b_K_squares 16 = .ok (.iand, 1) := by decide +kernel
theorem d_K_squares_17 : decode b_K_squares 17 = .ok (.istore 4, 2) := by decide +kernel
theorem d_K_squares_19 : decode b_K_squares 19 = .ok (.iload 4, 2) := by decide +kernel
theorem d_K_squares_21 : decode b_K_squares 21 = .ok (.ifCond .lt 15, 3) := by decide +kernel
theorem d_K_squares_24 : decode b_K_squares 24 = .ok (.aload_n 0, 1) := by decide +kernel
theorem d_K_squares_25 : decode b_K_squares 25 = .ok (.iload_n 1, 1) := by decide +kernel
theorem d_K_squares_26 : decode b_K_squares 26 = .ok (.iload_n 1, 1) := by decide +kernel
theorem d_K_squares_27 : decode b_K_squares 27 = .ok (.invokevirtual 60, 3) := by decide +kernel
theorem d_K_squares_30 : decode b_K_squares 30 = .ok (.iinc 4 (-1), 3) := by decide +kernel
theorem d_K_squares_33 : decode b_K_squares 33 = .ok (.goto (-14), 3) := by decide +kernel
theorem d_K_squares_36 : decode b_K_squares 36 = .ok (.return_, 1) := by decide +kernel
theorem d_K_twice_0 : decode b_K_twice 0 = .ok (.aload_n 0, 1) := by decide +kernel
theorem d_K_twice_1 : decode b_K_twice 1 = .ok (.getfield 24, 3) := by decide +kernel
theorem d_K_twice_4 : decode b_K_twice 4 = .ok (.aload_n 0, 1) := by decide +kernel
theorem d_K_twice_5 : decode b_K_twice 5 = .ok (.iload_n 2, 1) := by decide +kernel
theorem d_K_twice_6 : decode b_K_twice 6 = .ok (.invokevirtual 28, 3) := by decide +kernel
theorem d_K_twice_9 : decode b_K_twice 9 = .ok (.aload_n 0, 1) := by decide +kernel
theorem d_K_twice_10 : decode b_K_twice 10 = .ok (.iload_n 2, 1) := by decide +kernel
theorem d_K_twice_11 : decode b_K_twice 11 = .ok (.invokevirtual 28, 3) := by decide +kernel
theorem d_K_twice_14 : decode b_K_twice 14 = .ok (.aload_n 0, 1) := by decide +kernel
theorem d_K_twice_15 : decode b_K_twice 15 = .ok (.iload_n 1, 1) := by decide +kernel
theorem d_K_twice_16 : decode b_K_twice 16 = .ok (.invokevirtual 28, 3) := by decide +kernel
theorem d_K_twice_19 : decode b_K_twice 19 = .ok (.invokevirtual 47, 3) := by decide +kernel
theorem d_K_twice_22 : decode b_K_twice 22 = .ok (.return_, 1) := by decide +kernel
theorem d_K_halve_0 : decode b_K_halve 0 = .ok (.aload_n 0, 1) := by decide +kernel
theorem d_K_halve_1 : decode b_K_halve 1 = .ok (.getfield 24, 3) := by decide +kernel
theorem d_K_halve_4 : decode b_K_halve 4 = .ok (.aload_n 0, 1) := by decide +kernel
theorem d_K_halve_5 : decode b_K_halve 5 = .ok (.iload_n 2, 1) := by decide +kernel
theorem d_K_halve_6 : decode b_K_halve 6 = .ok (.invokevirtual 28, 3) := by decide +kernel
theorem d_K_halve_9 : decode b_K_halve 9 = .ok (.aload_n 0, 1) := by decide +kernel
theorem d_K_halve_10 : decode b_K_halve 10 = .ok (.getfield 18, 3) := by decide +kernel
theorem d_K_halve_13 : decode b_K_halve 13 = .ok (.invokevirtual 64, 3) := by decide +kernel
theorem d_K_halve_16 : decode b_K_halve 16 = .ok (.aload_n 0, 1) := by decide +kernel
theorem d_K_halve_17 : decode b_K_halve 17 = .ok (.getfield 18, 3) := by decide +kernel
theorem d_K_halve_20 : decode b_K_halve 20 = .ok (.aload_n 0, 1) := by decide +kernel
theorem d_K_halve_21 : decode b_K_halve 21 = .ok (.iload_n 1, 1) := by decide +kernel
theorem d_K_halve_22 : decode b_K_halve 22 = .ok (.invokevirtual 28, 3) := by decide +kernel
theorem d_K_halve_25 : decode b_K_halve 25 = .ok (.invokestatic 32, 3) := by decide +kernel
theorem d_K_halve_28 : decode b_K_halve 28 = .ok (.return_, 1) := by decide +kernel
theorem d_K_negate_0 : decode b_K_negate 0 = .ok (.iconst 0, 1) := by decide +kernel
theorem d_K_negate_1 : decode b_K_negate 1 = .ok (.istore_n 3, 1) := by decide +kernel
theorem d_K_negate_2 : decode b_K_negate 2 = .ok (.iload_n 3, 1) := by decide +kernel
theorem d_K_negate_3 : decode b_K_negate 3 = .ok (.bipush 8, 2) := by decide +kernel
theorem d_K_negate_5 : decode b_K_negate 5 = .ok (.if_icmp .ge 16, 3) := by decide +kernel
theorem d_K_negate_8 : decode b_K_negate 8 = .ok (.aload_n 0, 1) := by decide +kernel
theorem d_K_negate_9 : decode b_K_negate 9 = .ok (.getfield 18, 3) := by decide +kernel
theorem d_K_negate_12 : decode b_K_negate 12 = .ok (.iload_n 3, 1) := by decide +kernel
theorem d_K_negate_13 : decode b_K_negate 13 = .ok (.iconst 0, 1) := by decide +kernel
theorem d_K_negate_14 : decode b_K_negate 14 = .ok (.iastore, 1) := by decide +kernel
theorem d_K_negate_15 : decode b_K_negate 15 = .ok (.iinc 3 1, 3) := by decide +kernel
theorem d_K_negate_18 : decode b_K_negate 18 = .ok (.goto (-16), 3) := by decide +kernel
theorem d_K_negate_21 : decode b_K_negate 21 = .ok (.aload_n 0, 1) := by decide +kernel
theorem d_K_negate_22 : decode b_K_negate 22 = .ok (.getfield 24, 3) := by decide +kernel
theorem d_K_negate_25 : decode b_K_negate 25 = .ok (.aload_n 0, 1) := by decide +kernel
theorem d_K_negate_26 : decode b_K_negate 26 = .ok (.getfield 18, 3) := by decide +kernel
theorem d_K_negate_29 : decode b_K_negate 29 = .ok (.aload_n 0, 1) := by decide +kernel
theorem d_K_negate_30 : decode b_K_negate 30 = .ok (.iload_n 2, 1) := by decide +kernel
theorem d_K_negate_31 : decode b_K_negate 31 = .ok (.invokevirtual 28, 3) := by decide +kernel
theorem d_K_negate_34 : decode b_K_negate 34 = .ok (.aload_n 0, 1) := by decide +kernel
theorem d_K_negate_35 : decode b_K_negate 35 = .ok (.iload_n 1, 1) := by decide +kernel
theorem d_K_negate_36 : decode b_K_negate 36 = .ok (.invokevirtual 28, 3) := by decide +kernel
theorem d_K_negate_39 : decode b_K_negate 39 = .ok (.invokevirtual 51, 3) := by decide +kernel
theorem d_K_negate_42 : decode b_K_negate 42 = .ok (.return_, 1) := by decide +kernel
theorem d_K_invert_0 : decode b_K_invert 0 = .ok (.aload_n 0, 1) := by decide +kernel
theorem d_K_invert_1 : decode b_K_invert 1 = .ok (.iload_n 2, 1) := by decide +kernel
theorem d_K_invert_2 : decode b_K_invert 2 = .ok (.invokevirtual 28, 3) := by decide +kernel
theorem d_K_invert_5 : decode b_K_invert 5 = .ok (.invokestatic 67, 3) := by decide +kernel
theorem d_K_invert_8 : decode b_K_invert 8 = .ok (.ifCond .eq 5, 3) := by decide +kernel
theorem d_K_invert_11 : decode b_K_invert 11 = .ok (.iconst 0, 1) := by decide +kernel
theorem d_K_invert_12 : decode b_K_invert 12 = .ok (.ireturn, 1) := by decide +kernel
theorem d_K_invert_13 : decode b_K_invert 13 = .ok (.aload_n 0, 1) := by decide +kernel
theorem d_K_invert_14 : decode b_K_invert 14 = .ok (.getfield 24, 3) := by decide +kernel
theorem d_K_invert_17 : decode b_K_invert 17 = .ok (.aload_n 0, 1) := by decide +kernel
theorem d_K_invert_18 : decode b_K_invert 18 = .ok (.iload_n 2, 1) := by decide +kernel
theorem d_K_invert_19 : decode b_K_invert 19 = .ok (.invokevirtual 28, 3) := by decide +kernel
theorem d_K_invert_22 : decode b_K_invert 22 = .ok (.aload_n 0, 1) := by decide +kernel
theorem d_K_invert_23 : decode b_K_invert 23 = .ok (.getfield 18, 3) := by decide +kernel
theorem d_K_invert_26 : decode b_K_invert 26 = .ok (.invokevirtual 70, 3) := by decide +kernel
theorem d_K_invert_29 : decode b_K_invert 29 = .ok (.aload_n 0, 1) := by decide +kernel
theorem d_K_invert_30 : decode b_K_invert 30 = .ok (.getfield 18, 3) := by decide +kernel
theorem d_K_invert_33 : decode b_K_invert 33 = .ok (.aload_n 0, 1) := by decide +kernel
theorem d_K_invert_34 : decode b_K_invert 34 = .ok (.iload_n 1, 1) := by decide +kernel
theorem d_K_invert_35 : decode b_K_invert 35 = .ok (.invokevirtual 28, 3) := by decide +kernel
theorem d_K_invert_38 : decode b_K_invert 38 = .ok (.invokestatic 32, 3) := by decide +kernel
theorem d_K_invert_41 : decode b_K_invert 41 = .ok (.iconst 1, 1) := by decide +kernel
theorem d_K_invert_42 : decode b_K_invert 42 = .ok (.ireturn, 1) := by decide +kernel
theorem d_K_zero_0 : decode b_K_zero 0 = .ok (.aload_n 0, 1) := by decide +kernel
theorem d_K_zero_1 : decode b_K_zero 1 = .ok (.iload_n 1, 1) := by decide +kernel
theorem d_K_zero_2 : decode b_K_zero 2 = .ok (.invokevirtual 28, 3) := by decide +kernel
theorem d_K_zero_5 : decode b_K_zero 5 = .ok (.invokestatic 67, 3) := by decide +kernel
theorem d_K_zero_8 : decode b_K_zero 8 = .ok (.ireturn, 1) := by decide +kernel
theorem d_K_carry_0 : decode b_K_carry 0 = .ok (.aload_n 0, 1) := by decide +kernel
theorem d_K_carry_1 : decode b_K_carry 1 = .ok (.getfield 24, 3) := by decide +kernel
theorem d_K_carry_4 : decode b_K_carry 4 = .ok (.aload_n 0, 1) := by decide +kernel
theorem d_K_carry_5 : decode b_K_carry 5 = .ok (.iload_n 1, 1) := by decide +kernel
theorem d_K_carry_6 : decode b_K_carry 6 = .ok (.invokevirtual 28, 3) := by decide +kernel
theorem d_K_carry_9 : decode b_K_carry 9 = .ok (.iload_n 2, 1) := by decide +kernel
theorem d_K_carry_10 : decode b_K_carry 10 = .ok (.aload_n 0, 1) := by decide +kernel
theorem d_K_carry_11 : decode b_K_carry 11 = .ok (.getfield 18, 3) := by decide +kernel
theorem d_K_carry_14 : decode b_K_carry 14 = .ok (.invokevirtual 73, 3) := by decide +kernel
theorem d_K_carry_17 : decode b_K_carry 17 = .ok (.aload_n 0, 1) := by decide +kernel
theorem d_K_carry_18 : decode b_K_carry 18 = .ok (.getfield 18, 3) := by decide +kernel
theorem d_K_carry_21 : decode b_K_carry 21 = .ok (.aload_n 0, 1) := by decide +kernel
theorem d_K_carry_22 : decode b_K_carry 22 = .ok (.iload_n 1, 1) := by decide +kernel
theorem d_K_carry_23 : decode b_K_carry 23 = .ok (.invokevirtual 28, 3) := by decide +kernel
theorem d_K_carry_26 : decode b_K_carry 26 = .ok (.invokestatic 32, 3) := by decide +kernel
theorem d_K_carry_29 : decode b_K_carry 29 = .ok (.return_, 1) := by decide +kernel
end
section
theorem d_D_init_0 : decode b_D_init 0 = .ok (.aload_n 0, 1) := by decide +kernel
theorem d_D_init_1 : decode b_D_init 1 = .ok (.invokespecial 1, 3) := by decide +kernel
theorem d_D_init_4 : decode b_D_init 4 = .ok (.aload_n 0, 1) := by decide +kernel
theorem d_D_init_5 : decode b_D_init 5 = .ok (.bipush 64, 2) := by decide +kernel
theorem d_D_init_7 : decode b_D_init 7 = .ok (.newarray .int, 2) := by decide +kernel
theorem d_D_init_9 : decode b_D_init 9 = .ok (.putfield 7, 3) := by decide +kernel
theorem d_D_init_12 : decode b_D_init 12 = .ok (.aload_n 0, 1) := by decide +kernel
theorem d_D_init_13 : decode b_D_init 13 = .ok (.bipush 16, 2) := by decide +kernel
theorem d_D_init_15 : decode b_D_init 15 = .ok (.newarray .int, 2) := by decide +kernel
theorem d_D_init_17 : decode b_D_init 17 = .ok (.putfield 13, 3) := by decide +kernel
theorem d_D_init_20 : decode b_D_init 20 = .ok (.aload_n 0, 1) := by decide +kernel
theorem d_D_init_21 : decode b_D_init 21 = .ok (.bipush 16, 2) := by decide +kernel
theorem d_D_init_23 : decode b_D_init 23 = .ok (.newarray .int, 2) := by decide +kernel
theorem d_D_init_25 : decode b_D_init 25 = .ok (.dup, 1) := by decide +kernel
theorem d_D_init_26 : decode b_D_init 26 = .ok (.iconst 0, 1) := by decide +kernel
theorem d_D_init_27 : decode b_D_init 27 = .ok (.ldc 16, 2) := by decide +kernel
theorem d_D_init_29 : decode b_D_init 29 = .ok (.iastore, 1) := by decide +kernel
theorem d_D_init_30 : decode b_D_init 30 = .ok (.dup, 1) := by decide +kernel
theorem d_D_init_31 : decode b_D_init 31 = .ok (.iconst 1, 1) := by decide +kernel
theorem d_D_init_32 : decode b_D_init 32 = .ok (.ldc 17, 2) := by decide +kernel
theorem d_D_init_34 : decode b_D_init 34 = .ok (.iastore, 1) := by decide +kernel
theorem d_D_init_35 : decode b_D_init 35 = .ok (.dup, 1) := by decide +kernel
theorem d_D_init_36 : decode b_D_init 36 = .ok (.iconst 2, 1) := by decide +kernel
theorem d_D_init_37 : decode b_D_init 37 = .ok (.ldc 18, 2) := by decide +kernel
theorem d_D_init_39 : decode b_D_init 39 = .ok (.iastore, 1) := by decide +kernel
theorem d_D_init_40 : decode b_D_init 40 = .ok (.dup, 1) := by decide +kernel
theorem d_D_init_41 : decode b_D_init 41 = .ok (.iconst 3, 1) := by decide +kernel
theorem d_D_init_42 : decode b_D_init 42 = .ok (.ldc 17, 2) := by decide +kernel
theorem d_D_init_44 : decode b_D_init 44 = .ok (.iastore, 1) := by decide +kernel
theorem d_D_init_45 : decode b_D_init 45 = .ok (.dup, 1) := by decide +kernel
theorem d_D_init_46 : decode b_D_init 46 = .ok (.iconst 4, 1) := by decide +kernel
theorem d_D_init_47 : decode b_D_init 47 = .ok (.ldc 17, 2) := by decide +kernel
theorem d_D_init_49 : decode b_D_init 49 = .ok (.iastore, 1) := by decide +kernel
theorem d_D_init_50 : decode b_D_init 50 = .ok (.dup, 1) := by decide +kernel
theorem d_D_init_51 : decode b_D_init 51 = .ok (.iconst 5, 1) := by decide +kernel
theorem d_D_init_52 : decode b_D_init 52 = .ok (.ldc 17, 2) := by decide +kernel
theorem d_D_init_54 : decode b_D_init 54 = .ok (.iastore, 1) := by decide +kernel
theorem d_D_init_55 : decode b_D_init 55 = .ok (.dup, 1) := by decide +kernel
theorem d_D_init_56 : decode b_D_init 56 = .ok (.bipush 6, 2) := by decide +kernel
theorem d_D_init_58 : decode b_D_init 58 = .ok (.ldc 17, 2) := by decide +kernel
theorem d_D_init_60 : decode b_D_init 60 = .ok (.iastore, 1) := by decide +kernel
theorem d_D_init_61 : decode b_D_init 61 = .ok (.dup, 1) := by decide +kernel
theorem d_D_init_62 : decode b_D_init 62 = .ok (.bipush 7, 2) := by decide +kernel
theorem d_D_init_64 : decode b_D_init 64 = .ok (.ldc 17, 2) := by decide +kernel
theorem d_D_init_66 : decode b_D_init 66 = .ok (.iastore, 1) := by decide +kernel
theorem d_D_init_67 : decode b_D_init 67 = .ok (.dup, 1) := by decide +kernel
theorem d_D_init_68 : decode b_D_init 68 = .ok (.bipush 8, 2) := by decide +kernel
theorem d_D_init_70 : decode b_D_init 70 = .ok (.ldc 17, 2) := by decide +kernel
theorem d_D_init_72 : decode b_D_init 72 = .ok (.iastore, 1) := by decide +kernel
theorem d_D_init_73 : decode b_D_init 73 = .ok (.dup, 1) := by decide +kernel
theorem d_D_init_74 : decode b_D_init 74 = .ok (.bipush 9, 2) := by decide +kernel
theorem d_D_init_76 : decode b_D_init 76 = .ok (.ldc 17, 2) := by decide +kernel
theorem d_D_init_78 : decode b_D_init 78 = .ok (.iastore, 1) := by decide +kernel
theorem d_D_init_79 : decode b_D_init 79 = .ok (.dup, 1) := by decide +kernel
theorem d_D_init_80 : decode b_D_init 80 = .ok (.bipush 10, 2) := by decide +kernel
theorem d_D_init_82 : decode b_D_init 82 = .ok (.ldc 17, 2) := by decide +kernel
theorem d_D_init_84 : decode b_D_init 84 = .ok (.iastore, 1) := by decide +kernel
theorem d_D_init_85 : decode b_D_init 85 = .ok (.dup, 1) := by decide +kernel
theorem d_D_init_86 : decode b_D_init 86 = .ok (.bipush 11, 2) := by decide +kernel
theorem d_D_init_88 : decode b_D_init 88 = .ok (.ldc 17, 2) := by decide +kernel
theorem d_D_init_90 : decode b_D_init 90 = .ok (.iastore, 1) := by decide +kernel
theorem d_D_init_91 : decode b_D_init 91 = .ok (.dup, 1) := by decide +kernel
theorem d_D_init_92 : decode b_D_init 92 = .ok (.bipush 12, 2) := by decide +kernel
theorem d_D_init_94 : decode b_D_init 94 = .ok (.ldc 17, 2) := by decide +kernel
theorem d_D_init_96 : decode b_D_init 96 = .ok (.iastore, 1) := by decide +kernel
theorem d_D_init_97 : decode b_D_init 97 = .ok (.dup, 1) := by decide +kernel
theorem d_D_init_98 : decode b_D_init 98 = .ok (.bipush 13, 2) := by decide +kernel
theorem d_D_init_100 : decode b_D_init 100 = .ok (.ldc 17, 2) := by decide +kernel
theorem d_D_init_102 : decode b_D_init 102 = .ok (.iastore, 1) := by decide +kernel
theorem d_D_init_103 : decode b_D_init 103 = .ok (.dup, 1) := by decide +kernel
theorem d_D_init_104 : decode b_D_init 104 = .ok (.bipush 14, 2) := by decide +kernel
theorem d_D_init_106 : decode b_D_init 106 = .ok (.ldc 17, 2) := by decide +kernel
theorem d_D_init_108 : decode b_D_init 108 = .ok (.iastore, 1) := by decide +kernel
theorem d_D_init_109 : decode b_D_init 109 = .ok (.dup, 1) := by decide +kernel
theorem d_D_init_110 : decode b_D_init 110 = .ok (.bipush 15, 2) := by decide +kernel
theorem d_D_init_112 : decode b_D_init 112 = .ok (.ldc 17, 2) := by decide +kernel
theorem d_D_init_114 : decode b_D_init 114 = .ok (.iastore, 1) := by decide +kernel
theorem d_D_init_115 : decode b_D_init 115 = .ok (.putfield 19, 3) := by decide +kernel
theorem d_D_init_118 : decode b_D_init 118 = .ok (.aload_n 0, 1) := by decide +kernel
theorem d_D_init_119 : decode b_D_init 119 = .ok (.bipush 16, 2) := by decide +kernel
theorem d_D_init_121 : decode b_D_init 121 = .ok (.newarray .int, 2) := by decide +kernel
theorem d_D_init_123 : decode b_D_init 123 = .ok (.putfield 22, 3) := by decide +kernel
theorem d_D_init_126 : decode b_D_init 126 = .ok (.aload_n 0, 1) := by decide +kernel
theorem d_D_init_127 : decode b_D_init 127 = .ok (.bipush 17, 2) := by decide +kernel
theorem d_D_init_129 : decode b_D_init 129 = .ok (.newarray .int, 2) := by decide +kernel
theorem d_D_init_131 : decode b_D_init 131 = .ok (.putfield 25, 3) := by decide +kernel
theorem d_D_init_134 : decode b_D_init 134 = .ok (.aload_n 0, 1) := by decide +kernel
theorem d_D_init_135 : decode b_D_init 135 = .ok (.bipush 16, 2) := by decide +kernel
theorem d_D_init_137 : decode b_D_init 137 = .ok (.newarray .int, 2) := by decide +kernel
theorem d_D_init_139 : decode b_D_init 139 = .ok (.putfield 28, 3) := by decide +kernel
theorem d_D_init_142 : decode b_D_init 142 = .ok (.aload_n 0, 1) := by decide +kernel
theorem d_D_init_143 : decode b_D_init 143 = .ok (.bipush 16, 2) := by decide +kernel
theorem d_D_init_145 : decode b_D_init 145 = .ok (.newarray .int, 2) := by decide +kernel
theorem d_D_init_147 : decode b_D_init 147 = .ok (.putfield 31, 3) := by decide +kernel
theorem d_D_init_150 : decode b_D_init 150 = .ok (.aload_n 0, 1) := by decide +kernel
theorem d_D_init_151 : decode b_D_init 151 = .ok (.bipush 16, 2) := by decide +kernel
theorem d_D_init_153 : decode b_D_init 153 = .ok (.newarray .int, 2) := by decide +kernel
theorem d_D_init_155 : decode b_D_init 155 = .ok (.putfield 34, 3) := by decide +kernel
theorem d_D_init_158 : decode b_D_init 158 = .ok (.aload_n 0, 1) := by decide +kernel
theorem d_D_init_159 : decode b_D_init 159 = .ok (.bipush 17, 2) := by decide +kernel
theorem d_D_init_161 : decode b_D_init 161 = .ok (.newarray .int, 2) := by decide +kernel
theorem d_D_init_163 : decode b_D_init 163 = .ok (.putfield 37, 3) := by decide +kernel
theorem d_D_init_166 : decode b_D_init 166 = .ok (.aload_n 0, 1) := by decide +kernel
theorem d_D_init_167 : decode b_D_init 167 = .ok (.bipush 17, 2) := by decide +kernel
theorem d_D_init_169 : decode b_D_init 169 = .ok (.newarray .int, 2) := by decide +kernel
theorem d_D_init_171 : decode b_D_init 171 = .ok (.putfield 40, 3) := by decide +kernel
theorem d_D_init_174 : decode b_D_init 174 = .ok (.aload_n 0, 1) := by decide +kernel
theorem d_D_init_175 : decode b_D_init 175 = .ok (.bipush 17, 2) := by decide +kernel
theorem d_D_init_177 : decode b_D_init 177 = .ok (.newarray .int, 2) := by decide +kernel
theorem d_D_init_179 : decode b_D_init 179 = .ok (.putfield 43, 3) := by decide +kernel
theorem d_D_init_182 : decode b_D_init 182 = .ok (.aload_n 0, 1) := by decide +kernel
theorem d_D_init_183 : decode b_D_init 183 = .ok (.bipush 17, 2) := by decide +kernel
theorem d_D_init_185 : decode b_D_init 185 = .ok (.newarray .int, 2) := by decide +kernel
theorem d_D_init_187 : decode b_D_init 187 = .ok (.putfield 46, 3) := by decide +kernel
theorem d_D_init_190 : decode b_D_init 190 = .ok (.return_, 1) := by decide +kernel
theorem d_D_line_0 : decode b_D_line 0 = .ok (.iconst 0, 1) := by decide +kernel
theorem d_D_line_1 : decode b_D_line 1 = .ok (.istore 6, 2) := by decide +kernel
theorem d_D_line_3 : decode b_D_line 3 = .ok (.iload 6, 2) := by decide +kernel
theorem d_D_line_5 : decode b_D_line 5 = .ok (.iconst 4, 1) := by decide +kernel
theorem d_D_line_6 : decode b_D_line 6 = .ok (.if_icmp .ge 82, 3) := by decide +kernel
theorem d_D_line_9 : decode b_D_line 9 = .ok (.iload 6, 2) := by decide +kernel
theorem d_D_line_11 : decode b_D_line 11 = .ok (.ifCond .ne 7, 3) := by decide +kernel
theorem d_D_line_14 : decode b_D_line 14 = .ok (.iload_n 2, 1) := by decide +kernel
theorem d_D_line_15 : decode b_D_line 15 = .ok (.goto 26, 3) := by decide +kernel
theorem d_D_line_18 : decode b_D_line 18 = .ok (.iload 6, 2) := by decide +kernel
theorem d_D_line_20 : decode b_D_line 20 = .ok (.iconst 1, 1) := by decide +kernel
theorem d_D_line_21 : decode b_D_line 21 = .ok (.if_icmp .ne 7, 3) := by decide +kernel
theorem d_D_line_24 : decode b_D_line 24 = .ok (.iload_n 3, 1) := by decide +kernel
theorem d_D_line_25 : decode b_D_line 25 = .ok (.goto 16, 3) := by decide +kernel
theorem d_D_line_28 : decode b_D_line 28 = .ok (.iload 6, 2) := by decide +kernel
theorem d_D_line_30 : decode b_D_line 30 = .ok (.iconst 2, 1) := by decide +kernel
theorem d_D_line_31 : decode b_D_line 31 = .ok (.if_icmp .ne 8, 3) := by decide +kernel
theorem d_D_line_34 : decode b_D_line 34 = .ok (.iload 4, 2) := by decide +kernel
theorem d_D_line_36 : decode b_D_line 36 = .ok (.goto 5, 3) := by decide +kernel
theorem d_D_line_39 : decode b_D_line 39 = .ok (.iload 5, 2) := by decide +kernel
theorem d_D_line_41 : decode b_D_line 41 = .ok (.istore 7, 2) := by decide +kernel
theorem d_D_line_43 : decode b_D_line 43 = .ok (.iload_n 1, 1) := by decide +kernel
theorem d_D_line_44 : decode b_D_line 44 = .ok (.iconst 1, 1) := by decide +kernel
theorem d_D_line_45 : decode b_D_line 45 = .ok (.iand, 1) := by decide +kernel
theorem d_D_line_46 : decode b_D_line 46 = .ok (.bipush 8, 2) := by decide +kernel
theorem d_D_line_48 : decode b_D_line 48 = .ok (.imul, 1) := by decide +kernel
theorem d_D_line_49 : decode b_D_line 49 = .ok (.iconst 2, 1) := by decide +kernel
theorem d_D_line_50 : decode b_D_line 50 = .ok (.iload 6, 2) := by decide +kernel
theorem d_D_line_52 : decode b_D_line 52 = .ok (.imul, 1) := by decide +kernel
theorem d_D_line_53 : decode b_D_line 53 = .ok (.iadd, 1) := by decide +kernel
theorem d_D_line_54 : decode b_D_line 54 = .ok (.istore 8, 2) := by decide +kernel
theorem d_D_line_56 : decode b_D_line 56 = .ok (.aload_n 0, 1) := by decide +kernel
theorem d_D_line_57 : decode b_D_line 57 = .ok (.getfield 13, 3) := by decide +kernel
theorem d_D_line_60 : decode b_D_line 60 = .ok (.iload 8, 2) := by decide +kernel
theorem d_D_line_62 : decode b_D_line 62 = .ok (.iload 7, 2) := by decide +kernel
theorem d_D_line_64 : decode b_D_line 64 = .ok (.ldc 17, 2) := by decide +kernel
theorem d_D_line_66 : decode b_D_line 66 = .ok (.iand, 1) := by decide +kernel
theorem d_D_line_67 : decode b_D_line 67 = .ok (.iastore, 1) := by decide +kernel
theorem d_D_line_68 : decode b_D_line 68 = .ok (.aload_n 0, 1) := by decide +kernel
theorem d_D_line_69 : decode b_D_line 69 = .ok (.getfield 13, 3) := by decide +kernel
theorem d_D_line_72 : decode b_D_line 72 = .ok (.iload 8, 2) := by decide +kernel
theorem d_D_line_74 : decode b_D_line 74 = .ok (.iconst 1, 1) := by decide +kernel
theorem d_D_line_75 : decode b_D_line 75 = .ok (.iadd, 1) := by decide +kernel
theorem d_D_line_76 : decode b_D_line 76 = .ok (.iload 7, 2) := by decide +kernel
theorem d_D_line_78 : decode b_D_line 78 = .ok (.bipush 16, 2) := by decide +kernel
theorem d_D_line_80 : decode b_D_line 80 = .ok (.iushr, 1) := by decide +kernel
theorem d_D_line_81 : decode b_D_line 81 = .ok (.iastore, 1) := by decide +kernel
theorem d_D_line_82 : decode b_D_line 82 = .ok (.iinc 6 1, 3) := by decide +kernel
theorem d_D_line_85 : decode b_D_line 85 = .ok (.goto (-82), 3) := by decide +kernel
theorem d_D_line_88 : decode b_D_line 88 = .ok (.return_, 1) := by decide +kernel
theorem d_D_load_0 : decode b_D_load 0 = .ok (.bipush 15, 2) := by decide +kernel
theorem d_D_load_2 : decode b_D_load 2 = .ok (.istore_n 2, 1) := by decide +kernel
theorem d_D_load_3 : decode b_D_load 3 = .ok (.iload_n 2, 1) := by decide +kernel
theorem d_D_load_4 : decode b_D_load 4 = .ok (.ifCond .le 25, 3) := by decide +kernel
theorem d_D_load_7 : decode b_D_load 7 = .ok (.aload_n 0, 1) := by decide +kernel
theorem d_D_load_8 : decode b_D_load 8 = .ok (.getfield 13, 3) := by decide +kernel
theorem d_D_load_11 : decode b_D_load 11 = .ok (.iload_n 2, 1) := by decide +kernel
theorem d_D_load_12 : decode b_D_load 12 = .ok (.iaload, 1) := by decide +kernel
theorem d_D_load_13 : decode b_D_load 13 = .ok (.aload_n 0, 1) := by decide +kernel
theorem d_D_load_14 : decode b_D_load 14 = .ok (.getfield 19, 3) := by decide +kernel
theorem d_D_load_17 : decode b_D_load 17 = .ok (.iload_n 2, 1) := by decide +kernel
theorem d_D_load_18 : decode b_D_load 18 = .ok (.iaload, 1) := by decide +kernel
theorem d_D_load_19 : decode b_D_load 19 = .ok (.if_icmp .ne 10, 3) := by decide +kernel
theorem d_D_load_22 : decode b_D_load 22 = .ok (.iload_n 2, 1) := by decide +kernel
theorem d_D_load_23 : decode b_D_load 23 = .ok (.iconst 1, 1) := by decide +kernel
theorem d_D_load_24 : decode b_D_load 24 = .ok (.isub, 1) := by decide +kernel
theorem d_D_load_25 : decode b_D_load 25 = .ok (.istore_n 2, 1) := by decide +kernel
theorem d_D_load_26 : decode b_D_load 26 = .ok (.goto (-23), 3) := by decide +kernel
theorem d_D_load_29 : decode b_D_load 29 = .ok (.aload_n 0, 1) := by decide +kernel
theorem d_D_load_30 : decode b_D_load 30 = .ok (.getfield 13, 3) := by decide +kernel
theorem d_D_load_33 : decode b_D_load 33 = .ok (.iload_n 2, 1) := by decide +kernel
theorem d_D_load_34 : decode b_D_load 34 = .ok (.iaload, 1) := by decide +kernel
theorem d_D_load_35 : decode b_D_load 35 = .ok (.aload_n 0, 1) := by decide +kernel
theorem d_D_load_36 : decode b_D_load 36 = .ok (.getfield 19, 3) := by decide +kernel
theorem d_D_load_39 : decode b_D_load 39 = .ok (.iload_n 2, 1) := by decide +kernel
theorem d_D_load_40 : decode b_D_load 40 = .ok (.iaload, 1) := by decide +kernel
theorem d_D_load_41 : decode b_D_load 41 = .ok (.if_icmp .lt 7, 3) := by decide +kernel
theorem d_D_load_44 : decode b_D_load 44 = .ok (.iconst 1, 1) := by decide +kernel
theorem d_D_load_45 : decode b_D_load 45 = .ok (.goto 4, 3) := by decide +kernel
theorem d_D_load_48 : decode b_D_load 48 = .ok (.iconst 0, 1) := by decide +kernel
theorem d_D_load_49 : decode b_D_load 49 = .ok (.istore_n 3, 1) := by decide +kernel
theorem d_D_load_50 : decode b_D_load 50 = .ok (.iconst 0, 1) := by decide +kernel
theorem d_D_load_51 : decode b_D_load 51 = .ok (.istore 4, 2) := by decide +kernel
theorem d_D_load_53 : decode b_D_load 53 = .ok (.iload 4, 2) := by decide +kernel
theorem d_D_load_55 : decode b_D_load 55 = .ok (.bipush 16, 2) := by decide +kernel
theorem d_D_load_57 : decode b_D_load 57 = .ok (.if_icmp .ge 23, 3) := by decide +kernel
theorem d_D_load_60 : decode b_D_load 60 = .ok (.aload_n 0, 1) := by decide +kernel
theorem d_D_load_61 : decode b_D_load 61 = .ok (.getfield 25, 3) := by decide +kernel
theorem d_D_load_64 : decode b_D_load 64 = .ok (.iload 4, 2) := by decide +kernel
theorem d_D_load_66 : decode b_D_load 66 = .ok (.aload_n 0, 1) := by decide +kernel
theorem d_D_load_67 : decode b_D_load 67 = .ok (.getfield 13, 3) := by decide +kernel
theorem d_D_load_70 : decode b_D_load 70 = .ok (.iload 4, 2) := by decide +kernel
theorem d_D_load_72 : decode b_D_load 72 = .ok (.iaload, 1) := by decide +kernel
theorem d_D_load_73 : decode b_D_load 73 = .ok (.iastore, 1) := by decide +kernel
theorem d_D_load_74 : decode b_D_load 74 = .ok (.iinc 4 1, 3) := by decide +kernel
theorem d_D_load_77 : decode b_D_load 77 = .ok (.goto (-24), 3) := by decide +kernel
theorem d_D_load_80 : decode b_D_load 80 = .ok (.aload_n 0, 1) := by decide +kernel
theorem d_D_load_81 : decode b_D_load 81 = .ok (.getfield 25, 3) := by decide +kernel
theorem d_D_load_84 : decode b_D_load 84 = .ok (.bipush 16, 2) := by decide +kernel
theorem d_D_load_86 : decode b_D_load 86 = .ok (.iconst 0, 1) := by decide +kernel
theorem d_D_load_87 : decode b_D_load 87 = .ok (.iastore, 1) := by decide +kernel
theorem d_D_load_88 : decode b_D_load 88 = .ok (.aload_n 0, 1) := by decide +kernel
theorem d_D_load_89 : decode b_D_load 89 = .ok (.aload_n 0, 1) := by decide +kernel
theorem d_D_load_90 : decode b_D_load 90 = .ok (.getfield 28, 3) := by decide +kernel
theorem d_D_load_93 : decode b_D_load 93 = .ok (.aload_n 0, 1) := by decide +kernel
theorem d_D_load_94 : decode b_D_load 94 = .ok (.getfield 25, 3) := by decide +kernel
theorem d_D_load_97 : decode b_D_load 97 = .ok (.invokevirtual 49, 3) := by decide +kernel
theorem d_D_load_100 : decode b_D_load 100 = .ok (.aload_n 0, 1) := by decide +kernel
theorem d_D_load_101 : decode b_D_load 101 = .ok (.iload_n 1, 1) := by decide +kernel
theorem d_D_load_102 : decode b_D_load 102 = .ok (.aload_n 0, 1) := by decide +kernel
theorem d_D_load_103 : decode b_D_load 103 = .ok (.getfield 28, 3) := by decide +kernel
theorem d_D_load_106 : decode b_D_load 106 = .ok (.invokevirtual 61, 3) := by decide +kernel
theorem d_D_load_109 : decode b_D_load 109 = .ok (.iload_n 3, 1) := by decide +kernel
theorem d_D_load_110 : decode b_D_load 110 = .ok (.ireturn, 1) := by decide +kernel
theorem d_D_fold_0 : decode b_D_fold 0 = .ok (.aload_n 2, 1) := by decide +kernel
theorem d_D_fold_1 : decode b_D_fold 1 = .ok (.bipush 16, 2) := by decide +kernel
theorem d_D_fold_3 : decode b_D_fold 3 = .ok (.iaload, 1) := by decide +kernel
theorem d_D_fold_4 : decode b_D_fold 4 = .ok (.ifCond .eq 7, 3) := by decide +kernel
theorem d_D_fold_7 : decode b_D_fold 7 = .ok (.iconst 1, 1) := by decide +kernel
theorem d_D_fold_8 : decode b_D_fold 8 = .ok (.goto 4, 3) := by decide +kernel
theorem d_D_fold_11 : decode b_D_fold 11 = .ok (.iconst 0, 1) := by decide +kernel
theorem d_D_fold_12 : decode b_D_fold 12 = .ok (.istore_n 3, 1) := by decide +kernel
theorem d_D_fold_13 : decode b_D_fold 13 = .ok (.iload_n 3, 1) := by decide +kernel
theorem d_D_fold_14 : decode b_D_fold 14 = .ok (.ifCond .ne 55, 3) := by decide +kernel
theorem d_D_fold_17 : decode b_D_fold 17 = .ok (.bipush 15, 2) := by decide +kernel
theorem d_D_fold_19 : decode b_D_fold 19 = .ok (.istore 4, 2) := by decide +kernel
theorem d_D_fold_21 : decode b_D_fold 21 = .ok (.iload 4, 2) := by decide +kernel
theorem d_D_fold_23 : decode b_D_fold 23 = .ok (.ifCond .le 26, 3) := by decide +kernel
theorem d_D_fold_26 : decode b_D_fold 26 = .ok (.aload_n 2, 1) := by decide +kernel
theorem d_D_fold_27 : decode b_D_fold 27 = .ok (.iload 4, 2) := by decide +kernel
theorem d_D_fold_29 : decode b_D_fold 29 = .ok (.iaload, 1) := by decide +kernel
theorem d_D_fold_30 : decode b_D_fold 30 = .ok (.aload_n 0, 1) := by decide +kernel
theorem d_D_fold_31 : decode b_D_fold 31 = .ok (.getfield 19, 3) := by decide +kernel
theorem d_D_fold_34 : decode b_D_fold 34 = .ok (.iload 4, 2) := by decide +kernel
theorem d_D_fold_36 : decode b_D_fold 36 = .ok (.iaload, 1) := by decide +kernel
theorem d_D_fold_37 : decode b_D_fold 37 = .ok (.if_icmp .ne 12, 3) := by decide +kernel
theorem d_D_fold_40 : decode b_D_fold 40 = .ok (.iload 4, 2) := by decide +kernel
theorem d_D_fold_42 : decode b_D_fold 42 = .ok (.iconst 1, 1) := by decide +kernel
theorem d_D_fold_43 : decode b_D_fold 43 = .ok (.isub, 1) := by decide +kernel
theorem d_D_fold_44 : decode b_D_fold 44 = .ok (.istore 4, 2) := by decide +kernel
theorem d_D_fold_46 : decode b_D_fold 46 = .ok (.goto (-25), 3) := by decide +kernel
theorem d_D_fold_49 : decode b_D_fold 49 = .ok (.aload_n 2, 1) := by decide +kernel
theorem d_D_fold_50 : decode b_D_fold 50 = .ok (.iload 4, 2) := by decide +kernel
theorem d_D_fold_52 : decode b_D_fold 52 = .ok (.iaload, 1) := by decide +kernel
theorem d_D_fold_53 : decode b_D_fold 53 = .ok (.aload_n 0, 1) := by decide +kernel
theorem d_D_fold_54 : decode b_D_fold 54 = .ok (.getfield 19, 3) := by decide +kernel
theorem d_D_fold_57 : decode b_D_fold 57 = .ok (.iload 4, 2) := by decide +kernel
theorem d_D_fold_59 : decode b_D_fold 59 = .ok (.iaload, 1) := by decide +kernel
theorem d_D_fold_60 : decode b_D_fold 60 = .ok (.if_icmp .lt 7, 3) := by decide +kernel
theorem d_D_fold_63 : decode b_D_fold 63 = .ok (.iconst 1, 1) := by decide +kernel
theorem d_D_fold_64 : decode b_D_fold 64 = .ok (.goto 4, 3) := by decide +kernel
theorem d_D_fold_67 : decode b_D_fold 67 = .ok (.iconst 0, 1) := by decide +kernel
theorem d_D_fold_68 : decode b_D_fold 68 = .ok (.istore_n 3, 1) := by decide +kernel
theorem d_D_fold_69 : decode b_D_fold 69 = .ok (.iconst 0, 1) := by decide +kernel
theorem d_D_fold_70 : decode b_D_fold 70 = .ok (.istore 4, 2) := by decide +kernel
theorem d_D_fold_72 : decode b_D_fold 72 = .ok (.iconst 0, 1) := by decide +kernel
theorem d_D_fold_73 : decode b_D_fold 73 = .ok (.istore 5, 2) := by decide +kernel
theorem d_D_fold_75 : decode b_D_fold 75 = .ok (.iload 5, 2) := by decide +kernel
theorem d_D_fold_77 : decode b_D_fold 77 = .ok (.bipush 16, 2) := by decide +kernel
theorem d_D_fold_79 : decode b_D_fold 79 = .ok (.if_icmp .ge 50, 3) := by decide +kernel
theorem d_D_fold_82 : decode b_D_fold 82 = .ok (.aload_n 2, 1) := by decide +kernel
theorem d_D_fold_83 : decode b_D_fold 83 = .ok (.iload 5, 2) := by decide +kernel
theorem d_D_fold_85 : decode b_D_fold 85 = .ok (.iaload, 1) := by decide +kernel
theorem d_D_fold_86 : decode b_D_fold 86 = .ok (.iload_n 3, 1) := by decide +kernel
theorem d_D_fold_87 : decode b_D_fold 87 = .ok (.ifCond .eq 13, 3) := by decide +kernel
theorem d_D_fold_90 : decode b_D_fold 90 = .ok (.aload_n 0, 1) := by decide +kernel
theorem d_D_fold_91 : decode b_D_fold 91 = .ok (.getfield 19, 3) := by decide +kernel
theorem d_D_fold_94 : decode b_D_fold 94 = .ok (.iload 5, 2) := by decide +kernel
theorem d_D_fold_96 : decode b_D_fold 96 = .ok (.iaload, 1) := by decide +kernel
theorem d_D_fold_97 : decode b_D_fold 97 = .ok (.goto 4, 3) := by decide +kernel
theorem d_D_fold_100 : decode b_D_fold 100 = .ok (.iconst 0, 1) := by decide +kernel
theorem d_D_fold_101 : decode b_D_fold 101 = .ok (.isub, 1) := by decide +kernel
theorem d_D_fold_102 : decode b_D_fold 102 = .ok (.iload 4, 2) := by decide +kernel
theorem d_D_fold_104 : decode b_D_fold 104 = .ok (.iadd, 1) := by decide +kernel
theorem d_D_fold_105 : decode b_D_fold 105 = .ok (.istore 6, 2) := by decide +kernel
theorem d_D_fold_107 : decode b_D_fold 107 = .ok (.aload_n 1, 1) := by decide +kernel
theorem d_D_fold_108 : decode b_D_fold 108 = .ok (.iload 5, 2) := by decide +kernel
theorem d_D_fold_110 : decode b_D_fold 110 = .ok (.iload 6, 2) := by decide +kernel
theorem d_D_fold_112 : decode b_D_fold 112 = .ok (.ldc 17, 2) := by decide +kernel
theorem d_D_fold_114 : decode b_D_fold 114 = .ok (.iand, 1) := by decide +kernel
theorem d_D_fold_115 : decode b_D_fold 115 = .ok (.iastore, 1) := by decide +kernel
theorem d_D_fold_116 : decode b_D_fold 116 = .ok (.iload 6, 2) := by decide +kernel
theorem d_D_fold_118 : decode b_D_fold 118 = .ok (.bipush 16, 2) := by decide +kernel
theorem d_D_fold_120 : decode b_D_fold 120 = .ok (.ishr, 1) := by decide +kernel
theorem d_D_fold_121 : decode b_D_fold 121 = .ok (.istore 4, 2) := by decide +kernel
theorem d_D_fold_123 : decode b_D_fold 123 = .ok (.iinc 5 1, 3) := by decide +kernel
theorem d_D_fold_126 : decode b_D_fold 126 = .ok (.goto (-51), 3) := by decide +kernel
theorem d_D_fold_129 : decode b_D_fold 129 = .ok (.return_, 1) := by decide +kernel
theorem d_D_give_0 : decode b_D_give 0 = .ok (.iconst 0, 1) := by decide +kernel
theorem d_D_give_1 : decode b_D_give 1 = .ok (.istore_n 3, 1) := by decide +kernel
theorem d_D_give_2 : decode b_D_give 2 = .ok (.iload_n 3, 1) := by decide +kernel
theorem d_D_give_3 : decode b_D_give 3 = .ok (.bipush 16, 2) := by decide +kernel
theorem d_D_give_5 : decode b_D_give 5 = .ok (.if_icmp .ge 25, 3) := by decide +kernel
theorem d_D_give_8 : decode b_D_give 8 = .ok (.aload_n 0, 1) := by decide +kernel
theorem d_D_give_9 : decode b_D_give 9 = .ok (.getfield 7, 3) := by decide +kernel
theorem d_D_give_12 : decode b_D_give 12 = .ok (.iload_n 1, 1) := by decide +kernel
theorem d_D_give_13 : decode b_D_give 13 = .ok (.iconst 3, 1) := by decide +kernel
theorem d_D_give_14 : decode b_D_give 14 = .ok (.iand, 1) := by decide +kernel
theorem d_D_give_15 : decode b_D_give 15 = .ok (.bipush 16, 2) := by decide +kernel
theorem d_D_give_17 : decode b_D_give 17 = .ok (.imul, 1) := by decide +kernel
theorem d_D_give_18 : decode b_D_give 18 = .ok (.iload_n 3, 1) := by decide +kernel
theorem d_D_give_19 : decode b_D_give 19 = .ok (.iadd, 1) := by decide +kernel
theorem d_D_give_20 : decode b_D_give 20 = .ok (.aload_n 2, 1) := by decide +kernel
theorem d_D_give_21 : decode b_D_give 21 = .ok (.iload_n 3, 1) := by decide +kernel
theorem d_D_give_22 : decode b_D_give 22 = .ok (.iaload, 1) := by decide +kernel
theorem d_D_give_23 : decode b_D_give 23 = .ok (.iastore, 1) := by decide +kernel
theorem d_D_give_24 : decode b_D_give 24 = .ok (.iinc 3 1, 3) := by decide +kernel
theorem d_D_give_27 : decode b_D_give 27 = .ok (.goto (-25), 3) := by decide +kernel
theorem d_D_give_30 : decode b_D_give 30 = .ok (.return_, 1) := by decide +kernel
theorem d_D_word_0 : decode b_D_word 0 = .ok (.iload_n 1, 1) := by decide +kernel
theorem d_D_word_1 : decode b_D_word 1 = .ok (.iconst 3, 1) := by decide +kernel
theorem d_D_word_2 : decode b_D_word 2 = .ok (.iand, 1) := by decide +kernel
theorem d_D_word_3 : decode b_D_word 3 = .ok (.bipush 16, 2) := by decide +kernel
theorem d_D_word_5 : decode b_D_word 5 = .ok (.imul, 1) := by decide +kernel
theorem d_D_word_6 : decode b_D_word 6 = .ok (.iload_n 2, 1) := by decide +kernel
theorem d_D_word_7 : decode b_D_word 7 = .ok (.bipush 7, 2) := by decide +kernel
theorem d_D_word_9 : decode b_D_word 9 = .ok (.iand, 1) := by decide +kernel
theorem d_D_word_10 : decode b_D_word 10 = .ok (.iconst 2, 1) := by decide +kernel
theorem d_D_word_11 : decode b_D_word 11 = .ok (.imul, 1) := by decide +kernel
theorem d_D_word_12 : decode b_D_word 12 = .ok (.iadd, 1) := by decide +kernel
theorem d_D_word_13 : decode b_D_word 13 = .ok (.istore_n 3, 1) := by decide +kernel
theorem d_D_word_14 : decode b_D_word 14 = .ok (.aload_n 0, 1) := by decide +kernel
theorem d_D_word_15 : decode b_D_word 15 = .ok (.getfield 7, 3) := by decide +kernel
theorem d_D_word_18 : decode b_D_word 18 = .ok (.iload_n 3, 1) := by decide +kernel
theorem d_D_word_19 : decode b_D_word 19 = .ok (.iaload, 1) := by decide +kernel
theorem d_D_word_20 : decode b_D_word 20 = .ok (.aload_n 0, 1) := by decide +kernel
theorem d_D_word_21 : decode b_D_word 21 = .ok (.getfield 7, 3) := by decide +kernel
theorem d_D_word_24 : decode b_D_word 24 = .ok (.iload_n 3, 1) := by decide +kernel
theorem d_D_word_25 : decode b_D_word 25 = .ok (.iconst 1, 1) := by decide +kernel
theorem d_D_word_26 : decode b_D_word 26 = .ok (.iadd, 1) := by decide +kernel
theorem d_D_word_27 : decode b_D_word 27 = .ok (.iaload, 1) := by decide +kernel
theorem d_D_word_28 : decode b_D_word 28 = .ok (.bipush 16, 2) := by decide +kernel
theorem d_D_word_30 : decode b_D_word 30 = .ok (.ishl, 1) := by decide +kernel
theorem d_D_word_31 : decode b_D_word 31 = .ok (.ior, 1) := by decide +kernel
theorem d_D_word_32 : decode b_D_word 32 = .ok (.ireturn, 1) := by decide +kernel
theorem d_D_add_0 : decode b_D_add 0 = .ok (.aload_n 0, 1) := by decide +kernel
theorem d_D_add_1 : decode b_D_add 1 = .ok (.aload_n 0, 1) := by decide +kernel
theorem d_D_add_2 : decode b_D_add 2 = .ok (.getfield 28, 3) := by decide +kernel
theorem d_D_add_5 : decode b_D_add 5 = .ok (.iload_n 2, 1) := by decide +kernel
theorem d_D_add_6 : decode b_D_add 6 = .ok (.invokevirtual 65, 3) := by decide +kernel
theorem d_D_add_9 : decode b_D_add 9 = .ok (.aload_n 0, 1) := by decide +kernel
theorem d_D_add_10 : decode b_D_add 10 = .ok (.aload_n 0, 1) := by decide +kernel
theorem d_D_add_11 : decode b_D_add 11 = .ok (.getfield 31, 3) := by decide +kernel
theorem d_D_add_14 : decode b_D_add 14 = .ok (.iload_n 3, 1) := by decide +kernel
theorem d_D_add_15 : decode b_D_add 15 = .ok (.invokevirtual 65, 3) := by decide +kernel
theorem d_D_add_18 : decode b_D_add 18 = .ok (.aload_n 0, 1) := by decide +kernel
theorem d_D_add_19 : decode b_D_add 19 = .ok (.aload_n 0, 1) := by decide +kernel
theorem d_D_add_20 : decode b_D_add 20 = .ok (.getfield 28, 3) := by decide +kernel
theorem d_D_add_23 : decode b_D_add 23 = .ok (.aload_n 0, 1) := by decide +kernel
theorem d_D_add_24 : decode b_D_add 24 = .ok (.getfield 28, 3) := by decide +kernel
theorem d_D_add_27 : decode b_D_add 27 = .ok (.aload_n 0, 1) := by decide +kernel
theorem d_D_add_28 : decode b_D_add 28 = .ok (.getfield 31, 3) := by decide +kernel
theorem d_D_add_31 : decode b_D_add 31 = .ok (.invokevirtual 57, 3) := by decide +kernel
theorem d_D_add_34 : decode b_D_add 34 = .ok (.aload_n 0, 1) := by decide +kernel
theorem d_D_add_35 : decode b_D_add 35 = .ok (.iload_n 1, 1) := by decide +kernel
theorem d_D_add_36 : decode b_D_add 36 = .ok (.aload_n 0, 1) := by decide +kernel
theorem d_D_add_37 : decode b_D_add 37 = .ok (.getfield 28, 3) := by decide +kernel
theorem d_D_add_40 : decode b_D_add 40 = .ok (.invokevirtual 61, 3) := by decide +kernel
theorem d_D_add_43 : decode b_D_add 43 = .ok (.return_, 1) := by decide +kernel
theorem d_D_take_0 : decode b_D_take 0 = .ok (.iconst 0, 1) := by decide +kernel
theorem d_D_take_1 : decode b_D_take 1 = .ok (.istore_n 3, 1) := by decide +kernel
theorem d_D_take_2 : decode b_D_take 2 = .ok (.iload_n 3, 1) := by decide +kernel
theorem d_D_take_3 : decode b_D_take 3 = .ok (.bipush 16, 2) := by decide +kernel
theorem d_D_take_5 : decode b_D_take 5 = .ok (.if_icmp .ge 25, 3) := by decide +kernel
theorem d_D_take_8 : decode b_D_take 8 = .ok (.aload_n 1, 1) := by decide +kernel
theorem d_D_take_9 : decode b_D_take 9 = .ok (.iload_n 3, 1) := by decide +kernel
theorem d_D_take_10 : decode b_D_take 10 = .ok (.aload_n 0, 1) := by decide +kernel
theorem d_D_take_11 : decode b_D_take 11 = .ok (.getfield 7, 3) := by decide +kernel
theorem d_D_take_14 : decode b_D_take 14 = .ok (.iload_n 2, 1) := by decide +kernel
theorem d_D_take_15 : decode b_D_take 15 = .ok (.iconst 3, 1) := by decide +kernel
theorem d_D_take_16 : decode b_D_take 16 = .ok (.iand, 1) := by decide +kernel
theorem d_D_take_17 : decode b_D_take 17 = .ok (.bipush 16, 2) := by decide +kernel
theorem d_D_take_19 : decode b_D_take 19 = .ok (.imul, 1) := by decide +kernel
theorem d_D_take_20 : decode b_D_take 20 = .ok (.iload_n 3, 1) := by decide +kernel
theorem d_D_take_21 : decode b_D_take 21 = .ok (.iadd, 1) := by decide +kernel
theorem d_D_take_22 : decode b_D_take 22 = .ok (.iaload, 1) := by decide +kernel
theorem d_D_take_23 : decode b_D_take 23 = .ok (.iastore, 1) := by decide +kernel
theorem d_D_take_24 : decode b_D_take 24 = .ok (.iinc 3 1, 3) := by decide +kernel
theorem d_D_take_27 : decode b_D_take 27 = .ok (.goto (-25), 3) := by decide +kernel
theorem d_D_take_30 : decode b_D_take 30 = .ok (.return_, 1) := by decide +kernel
theorem d_D_plus_0 : decode b_D_plus 0 = .ok (.iconst 0, 1) := by decide +kernel
theorem d_D_plus_1 : decode b_D_plus 1 = .ok (.istore 4, 2) := by decide +kernel
theorem d_D_plus_3 : decode b_D_plus 3 = .ok (.iconst 0, 1) := by decide +kernel
theorem d_D_plus_4 : decode b_D_plus 4 = .ok (.istore 5, 2) := by decide +kernel
theorem d_D_plus_6 : decode b_D_plus 6 = .ok (.iload 5, 2) := by decide +kernel
theorem d_D_plus_8 : decode b_D_plus 8 = .ok (.bipush 16, 2) := by decide +kernel
theorem d_D_plus_10 : decode b_D_plus 10 = .ok (.if_icmp .ge 42, 3) := by decide +kernel
theorem d_D_plus_13 : decode b_D_plus 13 = .ok (.aload_n 2, 1) := by decide +kernel
theorem d_D_plus_14 : decode b_D_plus 14 = .ok (.iload 5, 2) := by decide +kernel
theorem d_D_plus_16 : decode b_D_plus 16 = .ok (.iaload, 1) := by decide +kernel
theorem d_D_plus_17 : decode b_D_plus 17 = .ok (.aload_n 3, 1) := by decide +kernel
theorem d_D_plus_18 : decode b_D_plus 18 = .ok (.iload 5, 2) := by decide +kernel
theorem d_D_plus_20 : decode b_D_plus 20 = .ok (.iaload, 1) := by decide +kernel
theorem d_D_plus_21 : decode b_D_plus 21 = .ok (.iadd, 1) := by decide +kernel
theorem d_D_plus_22 : decode b_D_plus 22 = .ok (.iload 4, 2) := by decide +kernel
theorem d_D_plus_24 : decode b_D_plus 24 = .ok (.iadd, 1) := by decide +kernel
theorem d_D_plus_25 : decode b_D_plus 25 = .ok (.istore 6, 2) := by decide +kernel
theorem d_D_plus_27 : decode b_D_plus 27 = .ok (.aload_n 0, 1) := by decide +kernel
theorem d_D_plus_28 : decode b_D_plus 28 = .ok (.getfield 25, 3) := by decide +kernel
theorem d_D_plus_31 : decode b_D_plus 31 = .ok (.iload 5, 2) := by decide +kernel
theorem d_D_plus_33 : decode b_D_plus 33 = .ok (.iload 6, 2) := by decide +kernel
theorem d_D_plus_35 : decode b_D_plus 35 = .ok (.ldc 17, 2) := by decide +kernel
theorem d_D_plus_37 : decode b_D_plus 37 = .ok (.iand, 1) := by decide +kernel
theorem d_D_plus_38 : decode b_D_plus 38 = .ok (.iastore, 1) := by decide +kernel
theorem d_D_plus_39 : decode b_D_plus 39 = .ok (.iload 6, 2) := by decide +kernel
theorem d_D_plus_41 : decode b_D_plus 41 = .ok (.bipush 16, 2) := by decide +kernel
theorem d_D_plus_43 : decode b_D_plus 43 = .ok (.ishr, 1) := by decide +kernel
theorem d_D_plus_44 : decode b_D_plus 44 = .ok (.istore 4, 2) := by decide +kernel
theorem d_D_plus_46 : decode b_D_plus 46 = .ok (.iinc 5 1, 3) := by decide +kernel
theorem d_D_plus_49 : decode b_D_plus 49 = .ok (.goto (-43), 3) := by decide +kernel
theorem d_D_plus_52 : decode b_D_plus 52 = .ok (.aload_n 0, 1) := by decide +kernel
theorem d_D_plus_53 : decode b_D_plus 53 = .ok (.getfield 25, 3) := by decide +kernel
theorem d_D_plus_56 : decode b_D_plus 56 = .ok (.bipush 16, 2) := by decide +kernel
theorem d_D_plus_58 : decode b_D_plus 58 = .ok (.iload 4, 2) := by decide +kernel
theorem d_D_plus_60 : decode b_D_plus 60 = .ok (.iastore, 1) := by decide +kernel
theorem d_D_plus_61 : decode b_D_plus 61 = .ok (.aload_n 0, 1) := by decide +kernel
theorem d_D_plus_62 : decode b_D_plus 62 = .ok (.aload_n 1, 1) := by decide +kernel
theorem d_D_plus_63 : decode b_D_plus 63 = .ok (.aload_n 0, 1) := by decide +kernel
theorem d_D_plus_64 : decode b_D_plus 64 = .ok (.getfield 25, 3) := by decide +kernel
theorem d_D_plus_67 : decode b_D_plus 67 = .ok (.invokevirtual 49, 3) := by decide +kernel
theorem d_D_plus_70 : decode b_D_plus 70 = .ok (.return_, 1) := by decide +kernel
theorem d_D_subtract_0 : decode b_D_subtract 0 = .ok (.aload_n 0, 1) := by decide +kernel
theorem d_D_subtract_1 : decode b_D_subtract 1 = .ok (.aload_n 0, 1) := by decide +kernel
theorem d_D_subtract_2 : decode b_D_subtract 2 = .ok (.getfield 28, 3) := by decide +kernel
theorem d_D_subtract_5 : decode b_D_subtract 5 = .ok (.iload_n 2, 1) := by decide +kernel
theorem d_D_subtract_6 : decode b_D_subtract 6 = .ok (.invokevirtual 65, 3) := by decide +kernel
theorem d_D_subtract_9 : decode b_D_subtract 9 = .ok (.aload_n 0, 1) := by decide +kernel
theorem d_D_subtract_10 : decode b_D_subtract 10 = .ok (.aload_n 0, 1) := by decide +kernel
theorem d_D_subtract_11 : decode b_D_subtract 11 = .ok (.getfield 31, 3) := by decide +kernel
theorem d_D_subtract_14 : decode b_D_subtract 14 = .ok (.iload_n 3, 1) := by decide +kernel
theorem d_D_subtract_15 : decode b_D_subtract 15 = .ok (.invokevirtual 65, 3) := by decide +kernel
theorem d_D_subtract_18 : decode b_D_subtract 18 = .ok (.aload_n 0, 1) := by decide +kernel
theorem d_D_subtract_19 : decode b_D_subtract 19 = .ok (.aload_n 0, 1) := by decide +kernel
theorem d_D_subtract_20 : decode b_D_subtract 20 = .ok (.getfield 31, 3) := by decide +kernel
theorem d_D_subtract_23 : decode b_D_subtract 23 = .ok (.aload_n 0, 1) := by decide +kernel
theorem d_D_subtract_24 : decode b_D_subtract 24 = .ok (.getfield 31, 3) := by decide +kernel
theorem d_D_subtract_27 : decode b_D_subtract 27 = .ok (.invokevirtual 69, 3) := by decide +kernel
theorem d_D_subtract_30 : decode b_D_subtract 30 = .ok (.aload_n 0, 1) := by decide +kernel
theorem d_D_subtract_31 : decode b_D_subtract 31 = .ok (.aload_n 0, 1) := by decide +kernel
theorem d_D_subtract_32 : decode b_D_subtract 32 = .ok (.getfield 28, 3) := by decide +kernel
theorem d_D_subtract_35 : decode b_D_subtract 35 = .ok (.aload_n 0, 1) := by decide +kernel
theorem d_D_subtract_36 : decode b_D_subtract 36 = .ok (.getfield 28, 3) := by decide +kernel
theorem d_D_subtract_39 : decode b_D_subtract 39 = .ok (.aload_n 0, 1) := by decide +kernel
theorem d_D_subtract_40 : decode b_D_subtract 40 = .ok (.getfield 31, 3) := by decide +kernel
theorem d_D_subtract_43 : decode b_D_subtract 43 = .ok (.invokevirtual 57, 3) := by decide +kernel
theorem d_D_subtract_46 : decode b_D_subtract 46 = .ok (.aload_n 0, 1) := by decide +kernel
theorem d_D_subtract_47 : decode b_D_subtract 47 = .ok (.iload_n 1, 1) := by decide +kernel
theorem d_D_subtract_48 : decode b_D_subtract 48 = .ok (.aload_n 0, 1) := by decide +kernel
theorem d_D_subtract_49 : decode b_D_subtract 49 = .ok (.getfield 28, 3) := by decide +kernel
theorem d_D_subtract_52 : decode b_D_subtract 52 = .ok (.invokevirtual 61, 3) := by decide +kernel
theorem d_D_subtract_55 : decode b_D_subtract 55 = .ok (.return_, 1) := by decide +kernel
theorem d_D_minus_0 : decode b_D_minus 0 = .ok (.aload_n 0, 1) := by decide +kernel
theorem d_D_minus_1 : decode b_D_minus 1 = .ok (.aload_n 2, 1) := by decide +kernel
theorem d_D_minus_2 : decode b_D_minus 2 = .ok (.invokevirtual 53, 3) := by decide +kernel
theorem d_D_minus_5 : decode b_D_minus 5 = .ok (.ifCond .eq 24, 3) := by decide +kernel
theorem d_D_minus_8 : decode b_D_minus 8 = .ok (.iconst 0, 1) := by decide +kernel
theorem d_D_minus_9 : decode b_D_minus 9 = .ok (.istore_n 3, 1) := by decide +kernel
theorem d_D_minus_10 : decode b_D_minus 10 = .ok (.iload_n 3, 1) := by decide +kernel
theorem d_D_minus_11 : decode b_D_minus 11 = .ok (.bipush 16, 2) := by decide +kernel
theorem d_D_minus_13 : decode b_D_minus 13 = .ok (.if_icmp .ge 13, 3) := by decide +kernel
theorem d_D_minus_16 : decode b_D_minus 16 = .ok (.aload_n 1, 1) := by decide +kernel
theorem d_D_minus_17 : decode b_D_minus 17 = .ok (.iload_n 3, 1) := by decide +kernel
theorem d_D_minus_18 : decode b_D_minus 18 = .ok (.iconst 0, 1) := by decide +kernel
theorem d_D_minus_19 : decode b_D_minus 19 = .ok (.iastore, 1) := by decide +kernel
theorem d_D_minus_20 : decode b_D_minus 20 = .ok (.iinc 3 1, 3) := by decide +kernel
theorem d_D_minus_23 : decode b_D_minus 23 = .ok (.goto (-13), 3) := by decide +kernel
theorem d_D_minus_26 : decode b_D_minus 26 = .ok (.goto 52, 3) := by decide +kernel
theorem d_D_minus_29 : decode b_D_minus 29 = .ok (.iconst 0, 1) := by decide +kernel
theorem d_D_minus_30 : decode b_D_minus 30 = .ok (.istore_n 3, 1) := by decide +kernel
theorem d_D_minus_31 : decode b_D_minus 31 = .ok (.iconst 0, 1) := by decide +kernel
theorem d_D_minus_32 : decode b_D_minus 32 = .ok (.istore 4, 2) := by decide +kernel
theorem d_D_minus_34 : decode b_D_minus 34 = .ok (.iload 4, 2) := by decide +kernel
theorem d_D_minus_36 : decode b_D_minus 36 = .ok (.bipush 16, 2) := by decide +kernel
theorem d_D_minus_38 : decode b_D_minus 38 = .ok (.if_icmp .ge 40, 3) := by decide +kernel
theorem d_D_minus_41 : decode b_D_minus 41 = .ok (.aload_n 0, 1) := by decide +kernel
theorem d_D_minus_42 : decode b_D_minus 42 = .ok (.getfield 19, 3) := by decide +kernel
theorem d_D_minus_45 : decode b_D_minus 45 = .ok (.iload 4, 2) := by decide +kernel
theorem d_D_minus_47 : decode b_D_minus 47 = .ok (.iaload, 1) := by decide +kernel
theorem d_D_minus_48 : decode b_D_minus 48 = .ok (.aload_n 2, 1) := by decide +kernel
theorem d_D_minus_49 : decode b_D_minus 49 = .ok (.iload 4, 2) := by decide +kernel
theorem d_D_minus_51 : decode b_D_minus 51 = .ok (.iaload, 1) := by decide +kernel
theorem d_D_minus_52 : decode b_D_minus 52 = .ok (.isub, 1) := by decide +kernel
theorem d_D_minus_53 : decode b_D_minus 53 = .ok (.iload_n 3, 1) := by decide +kernel
theorem d_D_minus_54 : decode b_D_minus 54 = .ok (.iadd, 1) := by decide +kernel
theorem d_D_minus_55 : decode b_D_minus 55 = .ok (.istore 5, 2) := by decide +kernel
theorem d_D_minus_57 : decode b_D_minus 57 = .ok (.aload_n 1, 1) := by decide +kernel
theorem d_D_minus_58 : decode b_D_minus 58 = .ok (.iload 4, 2) := by decide +kernel
theorem d_D_minus_60 : decode b_D_minus 60 = .ok (.iload 5, 2) := by decide +kernel
theorem d_D_minus_62 : decode b_D_minus 62 = .ok (.ldc 17, 2) := by decide +kernel
theorem d_D_minus_64 : decode b_D_minus 64 = .ok (.iand, 1) := by decide +kernel
theorem d_D_minus_65 : decode b_D_minus 65 = .ok (.iastore, 1) := by decide +kernel
theorem d_D_minus_66 : decode b_D_minus 66 = .ok (.iload 5, 2) := by decide +kernel
theorem d_D_minus_68 : decode b_D_minus 68 = .ok (.bipush 16, 2) := by decide +kernel
theorem d_D_minus_70 : decode b_D_minus 70 = .ok (.ishr, 1) := by decide +kernel
theorem d_D_minus_71 : decode b_D_minus 71 = .ok (.istore_n 3, 1) := by decide +kernel
theorem d_D_minus_72 : decode b_D_minus 72 = .ok (.iinc 4 1, 3) := by decide +kernel
theorem d_D_minus_75 : decode b_D_minus 75 = .ok (.goto (-41), 3) := by decide +kernel
theorem d_D_minus_78 : decode b_D_minus 78 = .ok (.return_, 1) := by decide +kernel
theorem d_D_isZero_0 : decode b_D_isZero 0 = .ok (.iconst 1, 1) := by decide +kernel
theorem d_D_isZero_1 : decode b_D_isZero 1 = .ok (.istore_n 2, 1) := by decide +kernel
theorem d_D_isZero_2 : decode b_D_isZero 2 = .ok (.iconst 0, 1) := by decide +kernel
theorem d_D_isZero_3 : decode b_D_isZero 3 = .ok (.istore_n 3, 1) := by decide +kernel
theorem d_D_isZero_4 : decode b_D_isZero 4 = .ok (.iload_n 3, 1) := by decide +kernel
theorem d_D_isZero_5 : decode b_D_isZero 5 = .ok (.bipush 16, 2) := by decide +kernel
theorem d_D_isZero_7 : decode b_D_isZero 7 = .ok (.if_icmp .ge 25, 3) := by decide +kernel
theorem d_D_isZero_10 : decode b_D_isZero 10 = .ok (.iload_n 2, 1) := by decide +kernel
theorem d_D_isZero_11 : decode b_D_isZero 11 = .ok (.ifCond .eq 13, 3) := by decide +kernel
theorem d_D_isZero_14 : decode b_D_isZero 14 = .ok (.aload_n 1, 1) := by decide +kernel
theorem d_D_isZero_15 : decode b_D_isZero 15 = .ok (.iload_n 3, 1) := by decide +kernel
theorem d_D_isZero_16 : decode b_D_isZero 16 = .ok (.iaload, 1) := by decide +kernel
theorem d_D_isZero_17 : decode b_D_isZero 17 = .ok (.ifCond .ne 7, 3) := by decide +kernel
theorem d_D_isZero_20 : decode b_D_isZero 20 = .ok (.iconst 1, 1) := by decide +kernel
theorem d_D_isZero_21 : decode b_D_isZero 21 = .ok (.goto 4, 3) := by decide +kernel
theorem d_D_isZero_24 : decode b_D_isZero 24 = .ok (.iconst 0, 1) := by decide +kernel
theorem d_D_isZero_25 : decode b_D_isZero 25 = .ok (.istore_n 2, 1) := by decide +kernel
theorem d_D_isZero_26 : decode b_D_isZero 26 = .ok (.iinc 3 1, 3) := by decide +kernel
theorem d_D_isZero_29 : decode b_D_isZero 29 = .ok (.goto (-25), 3) := by decide +kernel
theorem d_D_isZero_32 : decode b_D_isZero 32 = .ok (.iload_n 2, 1) := by decide +kernel
theorem d_D_isZero_33 : decode b_D_isZero 33 = .ok (.ireturn, 1) := by decide +kernel
theorem d_D_multiply_0 : decode b_D_multiply 0 = .ok (.aload_n 0, 1) := by decide +kernel
theorem d_D_multiply_1 : decode b_D_multiply 1 = .ok (.aload_n 0, 1) := by decide +kernel
theorem d_D_multiply_2 : decode b_D_multiply 2 = .ok (.getfield 28, 3) := by decide +kernel
theorem d_D_multiply_5 : decode b_D_multiply 5 = .ok (.iload_n 2, 1) := by decide +kernel
theorem d_D_multiply_6 : decode b_D_multiply 6 = .ok (.invokevirtual 65, 3) := by decide +kernel
theorem d_D_multiply_9 : decode b_D_multiply 9 = .ok (.aload_n 0, 1) := by decide +kernel
theorem d_D_multiply_10 : decode b_D_multiply 10 = .ok (.aload_n 0, 1) := by decide +kernel
theorem d_D_multiply_11 : decode b_D_multiply 11 = .ok (.getfield 31, 3) := by decide +kernel
theorem d_D_multiply_14 : decode b_D_multiply 14 = .ok (.iload_n 3, 1) := by decide +kernel
theorem d_D_multiply_15 : decode b_D_multiply 15 = .ok (.invokevirtual 65, 3) := by decide +kernel
theorem d_D_multiply_18 : decode b_D_multiply 18 = .ok (.aload_n 0, 1) := by decide +kernel
theorem d_D_multiply_19 : decode b_D_multiply 19 = .ok (.aload_n 0, 1) := by decide +kernel
theorem d_D_multiply_20 : decode b_D_multiply 20 = .ok (.getfield 28, 3) := by decide +kernel
theorem d_D_multiply_23 : decode b_D_multiply 23 = .ok (.aload_n 0, 1) := by decide +kernel
theorem d_D_multiply_24 : decode b_D_multiply 24 = .ok (.getfield 31, 3) := by decide +kernel
theorem d_D_multiply_27 : decode b_D_multiply 27 = .ok (.invokevirtual 72, 3) := by decide +kernel
theorem d_D_multiply_30 : decode b_D_multiply 30 = .ok (.aload_n 0, 1) := by decide +kernel
theorem d_D_multiply_31 : decode b_D_multiply 31 = .ok (.iload_n 1, 1) := by decide +kernel
theorem d_D_multiply_32 : decode b_D_multiply 32 = .ok (.aload_n 0, 1) := by decide +kernel
theorem d_D_multiply_33 : decode b_D_multiply 33 = .ok (.getfield 34, 3) := by decide +kernel
theorem d_D_multiply_36 : decode b_D_multiply 36 = .ok (.invokevirtual 61, 3) := by decide +kernel
theorem d_D_multiply_39 : decode b_D_multiply 39 = .ok (.return_, 1) := by decide +kernel
theorem d_D_times_0 : decode b_D_times 0 = .ok (.iconst 0, 1) := by decide +kernel
theorem d_D_times_1 : decode b_D_times 1 = .ok (.istore_n 3, 1) := by decide +kernel
theorem d_D_times_2 : decode b_D_times 2 = .ok (.iload_n 3, 1) := by decide +kernel
theorem d_D_times_3 : decode b_D_times 3 = .ok (.bipush 16, 2) := by decide +kernel
theorem d_D_times_5 : decode b_D_times 5 = .ok (.if_icmp .ge 16, 3) := by decide +kernel
theorem d_D_times_8 : decode b_D_times 8 = .ok (.aload_n 0, 1) := by decide +kernel
theorem d_D_times_9 : decode b_D_times 9 = .ok (.getfield 34, 3) := by decide +kernel
theorem d_D_times_12 : decode b_D_times 12 = .ok (.iload_n 3, 1) := by decide +kernel
theorem d_D_times_13 : decode b_D_times 13 = .ok (.iconst 0, 1) := by decide +kernel
theorem d_D_times_14 : decode b_D_times 14 = .ok (.iastore, 1) := by decide +kernel
theorem d_D_times_15 : decode b_D_times 15 = .ok (.iinc 3 1, 3) := by decide +kernel
theorem d_D_times_18 : decode b_D_times 18 = .ok (.goto (-16), 3) := by decide +kernel
theorem d_D_times_21 : decode b_D_times 21 = .ok (.sipush 255, 3) := by decide +kernel
theorem d_D_times_24 : decode b_D_times 24 = .ok (.istore_n 3, 1) := by decide +kernel
theorem d_D_times_25 : decode b_D_times 25 = .ok (.iload_n 3, 1) := by decide +kernel
theorem d_D_times_26 : decode b_D_times 26 = .ok (.ifCond .lt 53, 3) := by decide +kernel
theorem d_D_times_29 : decode b_D_times 29 = .ok (.aload_n 0, 1) := by decide +kernel
theorem d_D_times_30 : decode b_D_times 30 = .ok (.aload_n 0, 1) := by decide +kernel
theorem d_D_times_31 : decode b_D_times 31 = .ok (.getfield 34, 3) := by decide +kernel
theorem d_D_times_34 : decode b_D_times 34 = .ok (.aload_n 0, 1) := by decide +kernel
theorem d_D_times_35 : decode b_D_times 35 = .ok (.getfield 34, 3) := by decide +kernel
theorem d_D_times_38 : decode b_D_times 38 = .ok (.aload_n 0, 1) := by decide +kernel
theorem d_D_times_39 : decode b_D_times 39 = .ok (.getfield 34, 3) := by decide +kernel
theorem d_D_times_42 : decode b_D_times 42 = .ok (.invokevirtual 57, 3) := by decide +kernel
theorem d_D_times_45 : decode b_D_times 45 = .ok (.aload_n 2, 1) := by decide +kernel
theorem d_D_times_46 : decode b_D_times 46 = .ok (.iload_n 3, 1) := by decide +kernel
theorem d_D_times_47 : decode b_D_times 47 = .ok (.iconst 4, 1) := by decide +kernel
theorem d_D_times_48 : decode b_D_times 48 = .ok (.ishr, 1) := by decide +kernel
theorem d_D_times_49 : decode b_D_times 49 = .ok (.iaload, 1) := by decide +kernel
theorem d_D_times_50 : decode b_D_times 50 = .ok (.iload_n 3, 1) := by decide +kernel
theorem d_D_times_51 : decode b_D_times 51 = .ok (.bipush 15, 2) := by decide +kernel
theorem d_D_times_53 : decode b_D_times 53 = .ok (.iand, 1) := by decide +kernel
theorem d_D_times_54 : decode b_D_times 54 = .ok (.ishr, 1) := by decide +kernel
theorem d_D_times_55 : decode b_D_times 55 = .ok (.iconst 1, 1) := by decide +kernel
theorem d_D_times_56 : decode b_D_times 56 = .ok (.iand, 1) := by decide +kernel
theorem d_D_times_57 : decode b_D_times 57 = .ok (.ifCond .eq 16, 3) := by decide +kernel
theorem d_D_times_60 : decode b_D_times 60 = .ok (.aload_n 0, 1) := by decide +kernel
theorem d_D_times_61 : decode b_D_times 61 = .ok (.aload_n 0, 1) := by decide +kernel
theorem d_D_times_62 : decode b_D_times 62 = .ok (.getfield 34, 3) := by decide +kernel
theorem d_D_times_65 : decode b_D_times 65 = .ok (.aload_n 0, 1) := by decide +kernel
theorem d_D_times_66 : decode b_D_times 66 = .ok (.getfield 34, 3) := by decide +kernel
theorem d_D_times_69 : decode b_D_times 69 = .ok (.aload_n 1, 1) := by decide +kernel
theorem d_D_times_70 : decode b_D_times 70 = .ok (.invokevirtual 57, 3) := by decide +kernel
theorem d_D_times_73 : decode b_D_times 73 = .ok (.iinc 3 (-1), 3) := by decide +kernel
theorem d_D_times_76 : decode b_D_times 76 = .ok (.goto (-51), 3) := by decide +kernel
theorem d_D_times_79 : decode b_D_times 79 = .ok (.return_, 1) := by decide +kernel
theorem d_D_square_0 : decode b_D_square 0 = .ok (.aload_n 0, 1) := by decide +kernel
theorem d_D_square_1 : decode b_D_square 1 = .ok (.aload_n 0, 1) := by decide +kernel
theorem d_D_square_2 : decode b_D_square 2 = .ok (.getfield 28, 3) := by decide +kernel
theorem d_D_square_5 : decode b_D_square 5 = .ok (.iload_n 2, 1) := by decide +kernel
theorem d_D_square_6 : decode b_D_square 6 = .ok (.invokevirtual 65, 3) := by decide +kernel
theorem d_D_square_9 : decode b_D_square 9 = .ok (.aload_n 0, 1) := by decide +kernel
theorem d_D_square_10 : decode b_D_square 10 = .ok (.aload_n 0, 1) := by decide +kernel
theorem d_D_square_11 : decode b_D_square 11 = .ok (.getfield 28, 3) := by decide +kernel
theorem d_D_square_14 : decode b_D_square 14 = .ok (.aload_n 0, 1) := by decide +kernel
theorem d_D_square_15 : decode b_D_square 15 = .ok (.getfield 28, 3) := by decide +kernel
theorem d_D_square_18 : decode b_D_square 18 = .ok (.invokevirtual 72, 3) := by decide +kernel
theorem d_D_square_21 : decode b_D_square 21 = .ok (.aload_n 0, 1) := by decide +kernel
theorem d_D_square_22 : decode b_D_square 22 = .ok (.iload_n 1, 1) := by decide +kernel
theorem d_D_square_23 : decode b_D_square 23 = .ok (.aload_n 0, 1) := by decide +kernel
theorem d_D_square_24 : decode b_D_square 24 = .ok (.getfield 34, 3) := by decide +kernel
theorem d_D_square_27 : decode b_D_square 27 = .ok (.invokevirtual 61, 3) := by decide +kernel
theorem d_D_square_30 : decode b_D_square 30 = .ok (.return_, 1) := by decide +kernel
theorem d_D_squares_0 : decode b_D_squares 0 = .ok (.aload_n 0, 1) := by decide +kernel
theorem d_D_squares_1 : decode b_D_squares 1 = .ok (.aload_n 0, 1) := by decide +kernel
theorem d_D_squares_2 : decode b_D_squares 2 = .ok (.getfield 28, 3) := by decide +kernel
theorem d_D_squares_5 : decode b_D_squares 5 = .ok (.iload_n 2, 1) := by decide +kernel
theorem d_D_squares_6 : decode b_D_squares 6 = .ok (.invokevirtual 65, 3) := by decide +kernel
theorem d_D_squares_9 : decode b_D_squares 9 = .ok (.iconst 0, 1) := by decide +kernel
theorem d_D_squares_10 : decode b_D_squares 10 = .ok (.istore 4, 2) := by decide +kernel
theorem d_D_squares_12 : decode b_D_squares 12 = .ok (.iload 4, 2) := by decide +kernel
theorem d_D_squares_14 : decode b_D_squares 14 = .ok (.iload_n 3, 1) := by decide +kernel
theorem d_D_squares_15 : decode b_D_squares 15 = .ok (.bipush 15, 2) := by decide +kernel
theorem d_D_squares_17 : decode b_D_squares 17 = .ok (.iand, 1) := by decide +kernel
theorem d_D_squares_18 : decode b_D_squares 18 = .ok (.if_icmp .gt 33, 3) := by decide +kernel
theorem d_D_squares_21 : decode b_D_squares 21 = .ok (.aload_n 0, 1) := by decide +kernel
theorem d_D_squares_22 : decode b_D_squares 22 = .ok (.aload_n 0, 1) := by decide +kernel
theorem d_D_squares_23 : decode b_D_squares 23 = .ok (.getfield 28, 3) := by decide +kernel
theorem d_D_squares_26 : decode b_D_squares 26 = .ok (.aload_n 0, 1) := by decide +kernel
theorem d_D_squares_27 : decode b_D_squares 27 = .ok (.getfield 28, 3) := by decide +kernel
theorem d_D_squares_30 : decode b_D_squares 30 = .ok (.invokevirtual 72, 3) := by decide +kernel
theorem d_D_squares_33 : decode b_D_squares 33 = .ok (.aload_n 0, 1) := by decide +kernel
theorem d_D_squares_34 : decode b_D_squares 34 = .ok (.aload_n 0, 1) := by decide +kernel
theorem d_D_squares_35 : decode b_D_squares 35 = .ok (.getfield 28, 3) := by decide +kernel
theorem d_D_squares_38 : decode b_D_squares 38 = .ok (.aload_n 0, 1) := by decide +kernel
theorem d_D_squares_39 : decode b_D_squares 39 = .ok (.getfield 34, 3) := by decide +kernel
theorem d_D_squares_42 : decode b_D_squares 42 = .ok (.invokevirtual 75, 3) := by decide +kernel
theorem d_D_squares_45 : decode b_D_squares 45 = .ok (.iinc 4 1, 3) := by decide +kernel
theorem d_D_squares_48 : decode b_D_squares 48 = .ok (.goto (-36), 3) := by decide +kernel
theorem d_D_squares_51 : decode b_D_squares 51 = .ok (.aload_n 0, 1) := by decide +kernel
theorem d_D_squares_52 : decode b_D_squares 52 = .ok (.iload_n 1, 1) := by decide +kernel
theorem d_D_squares_53 : decode b_D_squares 53 = .ok (.aload_n 0, 1) := by decide +kernel
theorem d_D_squares_54 : decode b_D_squares 54 = .ok (.getfield 28, 3) := by decide +kernel
theorem d_D_squares_57 : decode b_D_squares 57 = .ok (.invokevirtual 61, 3) := by decide +kernel
theorem d_D_squares_60 : decode b_D_squares 60 = .ok (.return_, 1) := by decide +kernel
theorem d_D_copy_0 : decode b_D_copy 0 = .ok (.iconst 0, 1) := by decide +kernel
theorem d_D_copy_1 : decode b_D_copy 1 = .ok (.istore_n 3, 1) := by decide +kernel
theorem d_D_copy_2 : decode b_D_copy 2 = .ok (.iload_n 3, 1) := by decide +kernel
theorem d_D_copy_3 : decode b_D_copy 3 = .ok (.bipush 16, 2) := by decide +kernel
theorem d_D_copy_5 : decode b_D_copy 5 = .ok (.if_icmp .ge 15, 3) := by decide +kernel
theorem d_D_copy_8 : decode b_D_copy 8 = .ok (.aload_n 1, 1) := by decide +kernel
theorem d_D_copy_9 : decode b_D_copy 9 = .ok (.iload_n 3, 1) := by decide +kernel
theorem d_D_copy_10 : decode b_D_copy 10 = .ok (.aload_n 2, 1) := by decide +kernel
theorem d_D_copy_11 : decode b_D_copy 11 = .ok (.iload_n 3, 1) := by decide +kernel
theorem d_D_copy_12 : decode b_D_copy 12 = .ok (.iaload, 1) := by decide +kernel
theorem d_D_copy_13 : decode b_D_copy 13 = .ok (.iastore, 1) := by decide +kernel
theorem d_D_copy_14 : decode b_D_copy 14 = .ok (.iinc 3 1, 3) := by decide +kernel
theorem d_D_copy_17 : decode b_D_copy 17 = .ok (.goto (-15), 3) := by decide +kernel
theorem d_D_copy_20 : decode b_D_copy 20 = .ok (.return_, 1) := by decide +kernel
theorem d_D_twice_0 : decode b_D_twice 0 = .ok (.aload_n 0, 1) := by decide +kernel
theorem d_D_twice_1 : decode b_D_twice 1 = .ok (.aload_n 0, 1) := by decide +kernel
theorem d_D_twice_2 : decode b_D_twice 2 = .ok (.getfield 28, 3) := by decide +kernel
theorem d_D_twice_5 : decode b_D_twice 5 = .ok (.iload_n 2, 1) := by decide +kernel
theorem d_D_twice_6 : decode b_D_twice 6 = .ok (.invokevirtual 65, 3) := by decide +kernel
theorem d_D_twice_9 : decode b_D_twice 9 = .ok (.aload_n 0, 1) := by decide +kernel
theorem d_D_twice_10 : decode b_D_twice 10 = .ok (.aload_n 0, 1) := by decide +kernel
theorem d_D_twice_11 : decode b_D_twice 11 = .ok (.getfield 28, 3) := by decide +kernel
theorem d_D_twice_14 : decode b_D_twice 14 = .ok (.aload_n 0, 1) := by decide +kernel
theorem d_D_twice_15 : decode b_D_twice 15 = .ok (.getfield 28, 3) := by decide +kernel
theorem d_D_twice_18 : decode b_D_twice 18 = .ok (.aload_n 0, 1) := by decide +kernel
theorem d_D_twice_19 : decode b_D_twice 19 = .ok (.getfield 28, 3) := by decide +kernel
theorem d_D_twice_22 : decode b_D_twice 22 = .ok (.invokevirtual 57, 3) := by decide +kernel
theorem d_D_twice_25 : decode b_D_twice 25 = .ok (.aload_n 0, 1) := by decide +kernel
theorem d_D_twice_26 : decode b_D_twice 26 = .ok (.iload_n 1, 1) := by decide +kernel
theorem d_D_twice_27 : decode b_D_twice 27 = .ok (.aload_n 0, 1) := by decide +kernel
theorem d_D_twice_28 : decode b_D_twice 28 = .ok (.getfield 28, 3) := by decide +kernel
theorem d_D_twice_31 : decode b_D_twice 31 = .ok (.invokevirtual 61, 3) := by decide +kernel
theorem d_D_twice_34 : decode b_D_twice 34 = .ok (.return_, 1) := by decide +kernel
theorem d_D_halve_0 : decode b_D_halve 0 = .ok (.aload_n 0, 1) := by decide +kernel
theorem d_D_halve_1 : decode b_D_halve 1 = .ok (.aload_n 0, 1) := by decide +kernel
theorem d_D_halve_2 : decode b_D_halve 2 = .ok (.getfield 28, 3) := by decide +kernel
theorem d_D_halve_5 : decode b_D_halve 5 = .ok (.iload_n 2, 1) := by decide +kernel
theorem d_D_halve_6 : decode b_D_halve 6 = .ok (.invokevirtual 65, 3) := by decide +kernel
theorem d_D_halve_9 : decode b_D_halve 9 = .ok (.iconst 0, 1) := by decide +kernel
theorem d_D_halve_10 : decode b_D_halve 10 = .ok (.istore_n 3, 1) := by decide +kernel
theorem d_D_halve_11 : decode b_D_halve 11 = .ok (.aload_n 0, 1) := by decide +kernel
theorem d_D_halve_12 : decode b_D_halve 12 = .ok (.getfield 28, 3) := by decide +kernel
theorem d_D_halve_15 : decode b_D_halve 15 = .ok (.iconst 0, 1) := by decide +kernel
theorem d_D_halve_16 : decode b_D_halve 16 = .ok (.iaload, 1) := by decide +kernel
theorem d_D_halve_17 : decode b_D_halve 17 = .ok (.iconst 1, 1) := by decide +kernel
theorem d_D_halve_18 : decode b_D_halve 18 = .ok (.iand, 1) := by decide +kernel
theorem d_D_halve_19 : decode b_D_halve 19 = .ok (.ifCond .eq 7, 3) := by decide +kernel
theorem d_D_halve_22 : decode b_D_halve 22 = .ok (.iconst 1, 1) := by decide +kernel
theorem d_D_halve_23 : decode b_D_halve 23 = .ok (.goto 4, 3) := by decide +kernel
theorem d_D_halve_26 : decode b_D_halve 26 = .ok (.iconst 0, 1) := by decide +kernel
theorem d_D_halve_27 : decode b_D_halve 27 = .ok (.istore 4, 2) := by decide +kernel
theorem d_D_halve_29 : decode b_D_halve 29 = .ok (.iconst 0, 1) := by decide +kernel
theorem d_D_halve_30 : decode b_D_halve 30 = .ok (.istore 5, 2) := by decide +kernel
theorem d_D_halve_32 : decode b_D_halve 32 = .ok (.iload 5, 2) := by decide +kernel
theorem d_D_halve_34 : decode b_D_halve 34 = .ok (.bipush 16, 2) := by decide +kernel
theorem d_D_halve_36 : decode b_D_halve 36 = .ok (.if_icmp .ge 55, 3) := by decide +kernel
theorem d_D_halve_39 : decode b_D_halve 39 = .ok (.aload_n 0, 1) := by decide +kernel
theorem d_D_halve_40 : decode b_D_halve 40 = .ok (.getfield 28, 3) := by decide +kernel
theorem d_D_halve_43 : decode b_D_halve 43 = .ok (.iload 5, 2) := by decide +kernel
theorem d_D_halve_45 : decode b_D_halve 45 = .ok (.iaload, 1) := by decide +kernel
theorem d_D_halve_46 : decode b_D_halve 46 = .ok (.iload 4, 2) := by decide +kernel
theorem d_D_halve_48 : decode b_D_halve 48 = .ok (.ifCond .eq 13, 3) := by decide +kernel
theorem d_D_halve_51 : decode b_D_halve 51 = .ok (.aload_n 0, 1) := by decide +kernel
theorem d_D_halve_52 : decode b_D_halve 52 = .ok (.getfield 19, 3) := by decide +kernel
theorem d_D_halve_55 : decode b_D_halve 55 = .ok (.iload 5, 2) := by decide +kernel
theorem d_D_halve_57 : decode b_D_halve 57 = .ok (.iaload, 1) := by decide +kernel
theorem d_D_halve_58 : decode b_D_halve 58 = .ok (.goto 4, 3) := by decide +kernel
theorem d_D_halve_61 : decode b_D_halve 61 = .ok (.iconst 0, 1) := by decide +kernel
theorem d_D_halve_62 : decode b_D_halve 62 = .ok (.iadd, 1) := by decide +kernel
theorem d_D_halve_63 : decode b_D_halve 63 = .ok (.iload_n 3, 1) := by decide +kernel
theorem d_D_halve_64 : decode b_D_halve 64 = .ok (.iadd, 1) := by decide +kernel
theorem d_D_halve_65 : decode b_D_halve 65 = .ok (.istore 6, 2) := by decide +kernel
theorem d_D_halve_67 : decode b_D_halve 67 = .ok (.aload_n 0, 1) := by decide +kernel
theorem d_D_halve_68 : decode b_D_halve 68 = .ok (.getfield 25, 3) := by decide +kernel
theorem d_D_halve_71 : decode b_D_halve 71 = .ok (.iload 5, 2) := by decide +kernel
theorem d_D_halve_73 : decode b_D_halve 73 = .ok (.iload 6, 2) := by decide +kernel
theorem d_D_halve_75 : decode b_D_halve 75 = .ok (.ldc 17, 2) := by decide +kernel
theorem d_D_halve_77 : decode b_D_halve 77 = .ok (.iand, 1) := by decide +kernel
theorem d_D_halve_78 : decode b_D_halve 78 = .ok (.iastore, 1) := by decide +kernel
theorem d_D_halve_79 : decode b_D_halve 79 = .ok (.iload 6, 2) := by decide +kernel
theorem d_D_halve_81 : decode b_D_halve 81 = .ok (.bipush 16, 2) := by decide +kernel
theorem d_D_halve_83 : decode b_D_halve 83 = .ok (.ishr, 1) := by decide +kernel
theorem d_D_halve_84 : decode b_D_halve 84 = .ok (.istore_n 3, 1) := by decide +kernel
theorem d_D_halve_85 : decode b_D_halve 85 = .ok (.iinc 5 1, 3) := by decide +kernel
theorem d_D_halve_88 : decode b_D_halve 88 = .ok (.goto (-56), 3) := by decide +kernel
theorem d_D_halve_91 : decode b_D_halve 91 = .ok (.aload_n 0, 1) := by decide +kernel
theorem d_D_halve_92 : decode b_D_halve 92 = .ok (.getfield 25, 3) := by decide +kernel
theorem d_D_halve_95 : decode b_D_halve 95 = .ok (.bipush 16, 2) := by decide +kernel
theorem d_D_halve_97 : decode b_D_halve 97 = .ok (.iload_n 3, 1) := by decide +kernel
theorem d_D_halve_98 : decode b_D_halve 98 = .ok (.iastore, 1) := by decide +kernel
theorem d_D_halve_99 : decode b_D_halve 99 = .ok (.iconst 0, 1) := by decide +kernel
theorem d_D_halve_100 : decode b_D_halve 100 = .ok (.istore 5, 2) := by decide +kernel
theorem d_D_halve_102 : decode b_D_halve 102 = .ok (.iload 5, 2) := by decide +kernel
theorem d_D_halve_104 : decode b_D_halve 104 = .ok (.bipush 16, 2) := by decide +kernel
theorem d_D_halve_106 : decode b_D_halve 106 = .ok (.if_icmp .ge 40, 3) := by decide +kernel
theorem d_D_halve_109 : decode b_D_halve 109 = .ok (.aload_n 0, 1) := by decide +kernel
theorem d_D_halve_110 : decode b_D_halve 110 = .ok (.getfield 28, 3) := by decide +kernel
theorem d_D_halve_113 : decode b_D_halve 113 = .ok (.iload 5, 2) := by decide +kernel
theorem d_D_halve_115 : decode b_D_halve 115 = .ok (.aload_n 0, 1) := by decide +kernel
theorem d_D_halve_116 : decode b_D_halve 116 = .ok (.getfield 25, 3) := by decide +kernel
theorem d_D_halve_119 : decode b_D_halve 119 = .ok (.iload 5, 2) := by decide +kernel
theorem d_D_halve_121 : decode b_D_halve 121 = .ok (.iaload, 1) := by decide +kernel
theorem d_D_halve_122 : decode b_D_halve 122 = .ok (.iconst 1, 1) := by decide +kernel
theorem d_D_halve_123 : decode b_D_halve 123 = .ok (.ishr, 1) := by decide +kernel
theorem d_D_halve_124 : decode b_D_halve 124 = .ok (.aload_n 0, 1) := by decide +kernel
theorem d_D_halve_125 : decode b_D_halve 125 = .ok (.getfield 25, 3) := by decide +kernel
theorem d_D_halve_128 : decode b_D_halve 128 = .ok (.iload 5, 2) := by decide +kernel
theorem d_D_halve_130 : decode b_D_halve 130 = .ok (.iconst 1, 1) := by decide +kernel
theorem d_D_halve_131 : decode b_D_halve 131 = .ok (.iadd, 1) := by decide +kernel
theorem d_D_halve_132 : decode b_D_halve 132 = .ok (.iaload, 1) := by decide +kernel
theorem d_D_halve_133 : decode b_D_halve 133 = .ok (.iconst 1, 1) := by decide +kernel
theorem d_D_halve_134 : decode b_D_halve 134 = .ok (.iand, 1) := by decide +kernel
theorem d_D_halve_135 : decode b_D_halve 135 = .ok (.bipush 15, 2) := by decide +kernel
theorem d_D_halve_137 : decode b_D_halve 137 = .ok (.ishl, 1) := by decide +kernel
theorem d_D_halve_138 : decode b_D_halve 138 = .ok (.ior, 1) := by decide +kernel
theorem d_D_halve_139 : decode b_D_halve 139 = .ok (.iastore, 1) := by decide +kernel
theorem d_D_halve_140 : decode b_D_halve 140 = .ok (.iinc 5 1, 3) := by decide +kernel
theorem d_D_halve_143 : decode b_D_halve 143 = .ok (.goto (-41), 3) := by decide +kernel
theorem d_D_halve_146 : decode b_D_halve 146 = .ok (.aload_n 0, 1) := by decide +kernel
theorem d_D_halve_147 : decode b_D_halve 147 = .ok (.iload_n 1, 1) := by decide +kernel
theorem d_D_halve_148 : decode b_D_halve 148 = .ok (.aload_n 0, 1) := by decide +kernel
theorem d_D_halve_149 : decode b_D_halve 149 = .ok (.getfield 28, 3) := by decide +kernel
theorem d_D_halve_152 : decode b_D_halve 152 = .ok (.invokevirtual 61, 3) := by decide +kernel
theorem d_D_halve_155 : decode b_D_halve 155 = .ok (.return_, 1) := by decide +kernel
theorem d_D_negate_0 : decode b_D_negate 0 = .ok (.aload_n 0, 1) := by decide +kernel
theorem d_D_negate_1 : decode b_D_negate 1 = .ok (.aload_n 0, 1) := by decide +kernel
theorem d_D_negate_2 : decode b_D_negate 2 = .ok (.getfield 28, 3) := by decide +kernel
theorem d_D_negate_5 : decode b_D_negate 5 = .ok (.iload_n 2, 1) := by decide +kernel
theorem d_D_negate_6 : decode b_D_negate 6 = .ok (.invokevirtual 65, 3) := by decide +kernel
theorem d_D_negate_9 : decode b_D_negate 9 = .ok (.aload_n 0, 1) := by decide +kernel
theorem d_D_negate_10 : decode b_D_negate 10 = .ok (.aload_n 0, 1) := by decide +kernel
theorem d_D_negate_11 : decode b_D_negate 11 = .ok (.getfield 28, 3) := by decide +kernel
theorem d_D_negate_14 : decode b_D_negate 14 = .ok (.aload_n 0, 1) := by decide +kernel
theorem d_D_negate_15 : decode b_D_negate 15 = .ok (.getfield 28, 3) := by decide +kernel
theorem d_D_negate_18 : decode b_D_negate 18 = .ok (.invokevirtual 69, 3) := by decide +kernel
theorem d_D_negate_21 : decode b_D_negate 21 = .ok (.aload_n 0, 1) := by decide +kernel
theorem d_D_negate_22 : decode b_D_negate 22 = .ok (.iload_n 1, 1) := by decide +kernel
theorem d_D_negate_23 : decode b_D_negate 23 = .ok (.aload_n 0, 1) := by decide +kernel
theorem d_D_negate_24 : decode b_D_negate 24 = .ok (.getfield 28, 3) := by decide +kernel
theorem d_D_negate_27 : decode b_D_negate 27 = .ok (.invokevirtual 61, 3) := by decide +kernel
theorem d_D_negate_30 : decode b_D_negate 30 = .ok (.return_, 1) := by decide +kernel
theorem d_D_invert_0 : decode b_D_invert 0 = .ok (.aload_n 0, 1) := by decide +kernel
theorem d_D_invert_1 : decode b_D_invert 1 = .ok (.aload_n 0, 1) := by decide +kernel
theorem d_D_invert_2 : decode b_D_invert 2 = .ok (.getfield 31, 3) := by decide +kernel
theorem d_D_invert_5 : decode b_D_invert 5 = .ok (.iload_n 2, 1) := by decide +kernel
theorem d_D_invert_6 : decode b_D_invert 6 = .ok (.invokevirtual 65, 3) := by decide +kernel
theorem d_D_invert_9 : decode b_D_invert 9 = .ok (.aload_n 0, 1) := by decide +kernel
theorem d_D_invert_10 : decode b_D_invert 10 = .ok (.aload_n 0, 1) := by decide +kernel
theorem d_D_invert_11 : decode b_D_invert 11 = .ok (.getfield 31, 3) := by decide +kernel
theorem d_D_invert_14 : decode b_D_invert 14 = .ok (.invokevirtual 53, 3) := by decide +kernel
theorem d_D_invert_17 : decode b_D_invert 17 = .ok (.ifCond .eq 5, 3) := by decide +kernel
theorem d_D_invert_20 : decode b_D_invert 20 = .ok (.iconst 0, 1) := by decide +kernel
theorem d_D_invert_21 : decode b_D_invert 21 = .ok (.ireturn, 1) := by decide +kernel
theorem d_D_invert_22 : decode b_D_invert 22 = .ok (.iconst 0, 1) := by decide +kernel
theorem d_D_invert_23 : decode b_D_invert 23 = .ok (.istore_n 3, 1) := by decide +kernel
theorem d_D_invert_24 : decode b_D_invert 24 = .ok (.iload_n 3, 1) := by decide +kernel
theorem d_D_invert_25 : decode b_D_invert 25 = .ok (.bipush 17, 2) := by decide +kernel
theorem d_D_invert_27 : decode b_D_invert 27 = .ok (.if_icmp .ge 67, 3) := by decide +kernel
theorem d_D_invert_30 : decode b_D_invert 30 = .ok (.aload_n 0, 1) := by decide +kernel
theorem d_D_invert_31 : decode b_D_invert 31 = .ok (.getfield 37, 3) := by decide +kernel
theorem d_D_invert_34 : decode b_D_invert 34 = .ok (.iload_n 3, 1) := by decide +kernel
theorem d_D_invert_35 : decode b_D_invert 35 = .ok (.iload_n 3, 1) := by decide +kernel
theorem d_D_invert_36 : decode b_D_invert 36 = .ok (.bipush 16, 2) := by decide +kernel
theorem d_D_invert_38 : decode b_D_invert 38 = .ok (.if_icmp .ge 12, 3) := by decide +kernel
theorem d_D_invert_41 : decode b_D_invert 41 = .ok (.aload_n 0, 1) := by decide +kernel
theorem d_D_invert_42 : decode b_D_invert 42 = .ok (.getfield 31, 3) := by decide +kernel
theorem d_D_invert_45 : decode b_D_invert 45 = .ok (.iload_n 3, 1) := by decide +kernel
theorem d_D_invert_46 : decode b_D_invert 46 = .ok (.iaload, 1) := by decide +kernel
theorem d_D_invert_47 : decode b_D_invert 47 = .ok (.goto 4, 3) := by decide +kernel
theorem d_D_invert_50 : decode b_D_invert 50 = .ok (.iconst 0, 1) := by decide +kernel
theorem d_D_invert_51 : decode b_D_invert 51 = .ok (.iastore, 1) := by decide +kernel
theorem d_D_invert_52 : decode b_D_invert 52 = .ok (.aload_n 0, 1) := by decide +kernel
theorem d_D_invert_53 : decode b_D_invert 53 = .ok (.getfield 40, 3) := by decide +kernel
theorem d_D_invert_56 : decode b_D_invert 56 = .ok (.iload_n 3, 1) := by decide +kernel
theorem d_D_invert_57 : decode b_D_invert 57 = .ok (.iload_n 3, 1) := by decide +kernel
theorem d_D_invert_58 : decode b_D_invert 58 = .ok (.bipush 16, 2) := by decide +kernel
theorem d_D_invert_60 : decode b_D_invert 60 = .ok (.if_icmp .ge 12, 3) := by decide +kernel
theorem d_D_invert_63 : decode b_D_invert 63 = .ok (.aload_n 0, 1) := by decide +kernel
theorem d_D_invert_64 : decode b_D_invert 64 = .ok (.getfield 19, 3) := by decide +kernel
theorem d_D_invert_67 : decode b_D_invert 67 = .ok (.iload_n 3, 1) := by decide +kernel
theorem d_D_invert_68 : decode b_D_invert 68 = .ok (.iaload, 1) := by decide +kernel
theorem d_D_invert_69 : decode b_D_invert 69 = .ok (.goto 4, 3) := by decide +kernel
theorem d_D_invert_72 : decode b_D_invert 72 = .ok (.iconst 0, 1) := by decide +kernel
theorem d_D_invert_73 : decode b_D_invert 73 = .ok (.iastore, 1) := by decide +kernel
theorem d_D_invert_74 : decode b_D_invert 74 = .ok (.aload_n 0, 1) := by decide +kernel
theorem d_D_invert_75 : decode b_D_invert 75 = .ok (.getfield 43, 3) := by decide +kernel
theorem d_D_invert_78 : decode b_D_invert 78 = .ok (.iload_n 3, 1) := by decide +kernel
theorem d_D_invert_79 : decode b_D_invert 79 = .ok (.iconst 0, 1) := by decide +kernel
theorem d_D_invert_80 : decode b_D_invert 80 = .ok (.iastore, 1) := by decide +kernel
theorem d_D_invert_81 : decode b_D_invert 81 = .ok (.aload_n 0, 1) := by decide +kernel
theorem d_D_invert_82 : decode b_D_invert 82 = .ok (.getfield 46, 3) := by decide +kernel
theorem d_D_invert_85 : decode b_D_invert 85 = .ok (.iload_n 3, 1) := by decide +kernel
theorem d_D_invert_86 : decode b_D_invert 86 = .ok (.iconst 0, 1) := by decide +kernel
theorem d_D_invert_87 : decode b_D_invert 87 = .ok (.iastore, 1) := by decide +kernel
theorem d_D_invert_88 : decode b_D_invert 88 = .ok (.iinc 3 1, 3) := by decide +kernel
theorem d_D_invert_91 : decode b_D_invert 91 = .ok (.goto (-67), 3) := by decide +kernel
theorem d_D_invert_94 : decode b_D_invert 94 = .ok (.aload_n 0, 1) := by decide +kernel
theorem d_D_invert_95 : decode b_D_invert 95 = .ok (.getfield 43, 3) := by decide +kernel
theorem d_D_invert_98 : decode b_D_invert 98 = .ok (.iconst 0, 1) := by decide +kernel
theorem d_D_invert_99 : decode b_D_invert 99 = .ok (.iconst 1, 1) := by decide +kernel
theorem d_D_invert_100 : decode b_D_invert 100 = .ok (.iastore, 1) := by decide +kernel
theorem d_D_invert_101 : decode b_D_invert 101 = .ok (.aload_n 0, 1) := by decide +kernel
theorem d_D_invert_102 : decode b_D_invert 102 = .ok (.getfield 37, 3) := by decide +kernel
theorem d_D_invert_105 : decode b_D_invert 105 = .ok (.invokestatic 78, 3) := by decide +kernel
theorem d_D_invert_108 : decode b_D_invert 108 = .ok (.ifCond .ne 205, 3) := by decide +kernel
theorem d_D_invert_111 : decode b_D_invert 111 = .ok (.aload_n 0, 1) := by decide +kernel
theorem d_D_invert_112 : decode b_D_invert 112 = .ok (.getfield 37, 3) := by decide +kernel
theorem d_D_invert_115 : decode b_D_invert 115 = .ok (.iconst 0, 1) := by decide +kernel
theorem d_D_invert_116 : decode b_D_invert 116 = .ok (.iaload, 1) := by decide +kernel
theorem d_D_invert_117 : decode b_D_invert 117 = .ok (.iconst 1, 1) := by decide +kernel
theorem d_D_invert_118 : decode b_D_invert 118 = .ok (.iand, 1) := by decide +kernel
theorem d_D_invert_119 : decode b_D_invert 119 = .ok (.ifCond .ne 39, 3) := by decide +kernel
theorem d_D_invert_122 : decode b_D_invert 122 = .ok (.aload_n 0, 1) := by decide +kernel
theorem d_D_invert_123 : decode b_D_invert 123 = .ok (.getfield 37, 3) := by decide +kernel
theorem d_D_invert_126 : decode b_D_invert 126 = .ok (.invokestatic 81, 3) := by decide +kernel
theorem d_D_invert_129 : decode b_D_invert 129 = .ok (.aload_n 0, 1) := by decide +kernel
theorem d_D_invert_130 : decode b_D_invert 130 = .ok (.getfield 43, 3) := by decide +kernel
theorem d_D_invert_133 : decode b_D_invert 133 = .ok (.iconst 0, 1) := by decide +kernel
theorem d_D_invert_134 : decode b_D_invert 134 = .ok (.iaload, 1) := by decide +kernel
theorem d_D_invert_135 : decode b_D_invert 135 = .ok (.iconst 1, 1) := by decide +kernel
theorem d_D_invert_136 : decode b_D_invert 136 = .ok (.iand, 1) := by decide +kernel
theorem d_D_invert_137 : decode b_D_invert 137 = .ok (.ifCond .eq 11, 3) := by decide +kernel
theorem d_D_invert_140 : decode b_D_invert 140 = .ok (.aload_n 0, 1) := by decide +kernel
theorem d_D_invert_141 : decode b_D_invert 141 = .ok (.aload_n 0, 1) := by decide +kernel
theorem d_D_invert_142 : decode b_D_invert 142 = .ok (.getfield 43, 3) := by decide +kernel
theorem d_D_invert_145 : decode b_D_invert 145 = .ok (.invokevirtual 85, 3) := by decide +kernel
theorem d_D_invert_148 : decode b_D_invert 148 = .ok (.aload_n 0, 1) := by decide +kernel
theorem d_D_invert_149 : decode b_D_invert 149 = .ok (.getfield 43, 3) := by decide +kernel
theorem d_D_invert_152 : decode b_D_invert 152 = .ok (.invokestatic 81, 3) := by decide +kernel
theorem d_D_invert_155 : decode b_D_invert 155 = .ok (.goto (-44), 3) := by decide +kernel
theorem d_D_invert_158 : decode b_D_invert 158 = .ok (.aload_n 0, 1) := by decide +kernel
theorem d_D_invert_159 : decode b_D_invert 159 = .ok (.getfield 40, 3) := by decide +kernel
theorem d_D_invert_162 : decode b_D_invert 162 = .ok (.iconst 0, 1) := by decide +kernel
theorem d_D_invert_163 : decode b_D_invert 163 = .ok (.iaload, 1) := by decide +kernel
theorem d_D_invert_164 : decode b_D_invert 164 = .ok (.iconst 1, 1) := by decide +kernel
theorem d_D_invert_165 : decode b_D_invert 165 = .ok (.iand, 1) := by decide +kernel
theorem d_D_invert_166 : decode b_D_invert 166 = .ok (.ifCond .ne 39, 3) := by decide +kernel
theorem d_D_invert_169 : decode b_D_invert 169 = .ok (.aload_n 0, 1) := by decide +kernel
theorem d_D_invert_170 : decode b_D_invert 170 = .ok (.getfield 40, 3) := by decide +kernel
theorem d_D_invert_173 : decode b_D_invert 173 = .ok (.invokestatic 81, 3) := by decide +kernel
theorem d_D_invert_176 : decode b_D_invert 176 = .ok (.aload_n 0, 1) := by decide +kernel
theorem d_D_invert_177 : decode b_D_invert 177 = .ok (.getfield 46, 3) := by decide +kernel
theorem d_D_invert_180 : decode b_D_invert 180 = .ok (.iconst 0, 1) := by decide +kernel
theorem d_D_invert_181 : decode b_D_invert 181 = .ok (.iaload, 1) := by decide +kernel
theorem d_D_invert_182 : decode b_D_invert 182 = .ok (.iconst 1, 1) := by decide +kernel
theorem d_D_invert_183 : decode b_D_invert 183 = .ok (.iand, 1) := by decide +kernel
theorem d_D_invert_184 : decode b_D_invert 184 = .ok (.ifCond .eq 11, 3) := by decide +kernel
theorem d_D_invert_187 : decode b_D_invert 187 = .ok (.aload_n 0, 1) := by decide +kernel
theorem d_D_invert_188 : decode b_D_invert 188 = .ok (.aload_n 0, 1) := by decide +kernel
theorem d_D_invert_189 : decode b_D_invert 189 = .ok (.getfield 46, 3) := by decide +kernel
theorem d_D_invert_192 : decode b_D_invert 192 = .ok (.invokevirtual 85, 3) := by decide +kernel
theorem d_D_invert_195 : decode b_D_invert 195 = .ok (.aload_n 0, 1) := by decide +kernel
theorem d_D_invert_196 : decode b_D_invert 196 = .ok (.getfield 46, 3) := by decide +kernel
theorem d_D_invert_199 : decode b_D_invert 199 = .ok (.invokestatic 81, 3) := by decide +kernel
theorem d_D_invert_202 : decode b_D_invert 202 = .ok (.goto (-44), 3) := by decide +kernel
theorem d_D_invert_205 : decode b_D_invert 205 = .ok (.aload_n 0, 1) := by decide +kernel
theorem d_D_invert_206 : decode b_D_invert 206 = .ok (.getfield 37, 3) := by decide +kernel
theorem d_D_invert_209 : decode b_D_invert 209 = .ok (.aload_n 0, 1) := by decide +kernel
theorem d_D_invert_210 : decode b_D_invert 210 = .ok (.getfield 40, 3) := by decide +kernel
theorem d_D_invert_213 : decode b_D_invert 213 = .ok (.invokestatic 88, 3) := by decide +kernel
theorem d_D_invert_216 : decode b_D_invert 216 = .ok (.ifCond .eq 50, 3) := by decide +kernel
theorem d_D_invert_219 : decode b_D_invert 219 = .ok (.aload_n 0, 1) := by decide +kernel
theorem d_D_invert_220 : decode b_D_invert 220 = .ok (.getfield 40, 3) := by decide +kernel
theorem d_D_invert_223 : decode b_D_invert 223 = .ok (.aload_n 0, 1) := by decide +kernel
theorem d_D_invert_224 : decode b_D_invert 224 = .ok (.getfield 37, 3) := by decide +kernel
theorem d_D_invert_227 : decode b_D_invert 227 = .ok (.invokestatic 92, 3) := by decide +kernel
theorem d_D_invert_230 : decode b_D_invert 230 = .ok (.aload_n 0, 1) := by decide +kernel
theorem d_D_invert_231 : decode b_D_invert 231 = .ok (.getfield 46, 3) := by decide +kernel
theorem d_D_invert_234 : decode b_D_invert 234 = .ok (.aload_n 0, 1) := by decide +kernel
theorem d_D_invert_235 : decode b_D_invert 235 = .ok (.getfield 43, 3) := by decide +kernel
theorem d_D_invert_238 : decode b_D_invert 238 = .ok (.invokestatic 88, 3) := by decide +kernel
theorem d_D_invert_241 : decode b_D_invert 241 = .ok (.ifCond .eq 11, 3) := by decide +kernel
theorem d_D_invert_244 : decode b_D_invert 244 = .ok (.aload_n 0, 1) := by decide +kernel
theorem d_D_invert_245 : decode b_D_invert 245 = .ok (.aload_n 0, 1) := by decide +kernel
theorem d_D_invert_246 : decode b_D_invert 246 = .ok (.getfield 46, 3) := by decide +kernel
theorem d_D_invert_249 : decode b_D_invert 249 = .ok (.invokevirtual 85, 3) := by decide +kernel
theorem d_D_invert_252 : decode b_D_invert 252 = .ok (.aload_n 0, 1) := by decide +kernel
theorem d_D_invert_253 : decode b_D_invert 253 = .ok (.getfield 46, 3) := by decide +kernel
theorem d_D_invert_256 : decode b_D_invert 256 = .ok (.aload_n 0, 1) := by decide +kernel
theorem d_D_invert_257 : decode b_D_invert 257 = .ok (.getfield 43, 3) := by decide +kernel
theorem d_D_invert_260 : decode b_D_invert 260 = .ok (.invokestatic 92, 3) := by decide +kernel
theorem d_D_invert_263 : decode b_D_invert 263 = .ok (.goto (-162), 3) := by decide +kernel
theorem d_D_invert_266 : decode b_D_invert 266 = .ok (.aload_n 0, 1) := by decide +kernel
theorem d_D_invert_267 : decode b_D_invert 267 = .ok (.getfield 37, 3) := by decide +kernel
theorem d_D_invert_270 : decode b_D_invert 270 = .ok (.aload_n 0, 1) := by decide +kernel
theorem d_D_invert_271 : decode b_D_invert 271 = .ok (.getfield 40, 3) := by decide +kernel
theorem d_D_invert_274 : decode b_D_invert 274 = .ok (.invokestatic 92, 3) := by decide +kernel
theorem d_D_invert_277 : decode b_D_invert 277 = .ok (.aload_n 0, 1) := by decide +kernel
theorem d_D_invert_278 : decode b_D_invert 278 = .ok (.getfield 43, 3) := by decide +kernel
theorem d_D_invert_281 : decode b_D_invert 281 = .ok (.aload_n 0, 1) := by decide +kernel
theorem d_D_invert_282 : decode b_D_invert 282 = .ok (.getfield 46, 3) := by decide +kernel
theorem d_D_invert_285 : decode b_D_invert 285 = .ok (.invokestatic 88, 3) := by decide +kernel
theorem d_D_invert_288 : decode b_D_invert 288 = .ok (.ifCond .eq 11, 3) := by decide +kernel
theorem d_D_invert_291 : decode b_D_invert 291 = .ok (.aload_n 0, 1) := by decide +kernel
theorem d_D_invert_292 : decode b_D_invert 292 = .ok (.aload_n 0, 1) := by decide +kernel
theorem d_D_invert_293 : decode b_D_invert 293 = .ok (.getfield 43, 3) := by decide +kernel
theorem d_D_invert_296 : decode b_D_invert 296 = .ok (.invokevirtual 85, 3) := by decide +kernel
theorem d_D_invert_299 : decode b_D_invert 299 = .ok (.aload_n 0, 1) := by decide +kernel
theorem d_D_invert_300 : decode b_D_invert 300 = .ok (.getfield 43, 3) := by decide +kernel
theorem d_D_invert_303 : decode b_D_invert 303 = .ok (.aload_n 0, 1) := by decide +kernel
theorem d_D_invert_304 : decode b_D_invert 304 = .ok (.getfield 46, 3) := by decide +kernel
theorem d_D_invert_307 : decode b_D_invert 307 = .ok (.invokestatic 92, 3) := by decide +kernel
theorem d_D_invert_310 : decode b_D_invert 310 = .ok (.goto (-209), 3) := by decide +kernel
theorem d_D_invert_313 : decode b_D_invert 313 = .ok (.iconst 0, 1) := by decide +kernel
theorem d_D_invert_314 : decode b_D_invert 314 = .ok (.istore_n 3, 1) := by decide +kernel
theorem d_D_invert_315 : decode b_D_invert 315 = .ok (.iload_n 3, 1) := by decide +kernel
theorem d_D_invert_316 : decode b_D_invert 316 = .ok (.bipush 16, 2) := by decide +kernel
theorem d_D_invert_318 : decode b_D_invert 318 = .ok (.if_icmp .ge 21, 3) := by decide +kernel
theorem d_D_invert_321 : decode b_D_invert 321 = .ok (.aload_n 0, 1) := by decide +kernel
theorem d_D_invert_322 : decode b_D_invert 322 = .ok (.getfield 28, 3) := by decide +kernel
theorem d_D_invert_325 : decode b_D_invert 325 = .ok (.iload_n 3, 1) := by decide +kernel
theorem d_D_invert_326 : decode b_D_invert 326 = .ok (.aload_n 0, 1) := by decide +kernel
theorem d_D_invert_327 : decode b_D_invert 327 = .ok (.getfield 46, 3) := by decide +kernel
theorem d_D_invert_330 : decode b_D_invert 330 = .ok (.iload_n 3, 1) := by decide +kernel
theorem d_D_invert_331 : decode b_D_invert 331 = .ok (.iaload, 1) := by decide +kernel
theorem d_D_invert_332 : decode b_D_invert 332 = .ok (.iastore, 1) := by decide +kernel
theorem d_D_invert_333 : decode b_D_invert 333 = .ok (.iinc 3 1, 3) := by decide +kernel
theorem d_D_invert_336 : decode b_D_invert 336 = .ok (.goto (-21), 3) := by decide +kernel
theorem d_D_invert_339 : decode b_D_invert 339 = .ok (.aload_n 0, 1) := by decide +kernel
theorem d_D_invert_340 : decode b_D_invert 340 = .ok (.iload_n 1, 1) := by decide +kernel
theorem d_D_invert_341 : decode b_D_invert 341 = .ok (.aload_n 0, 1) := by decide +kernel
theorem d_D_invert_342 : decode b_D_invert 342 = .ok (.getfield 28, 3) := by decide +kernel
theorem d_D_invert_345 : decode b_D_invert 345 = .ok (.invokevirtual 61, 3) := by decide +kernel
theorem d_D_invert_348 : decode b_D_invert 348 = .ok (.iconst 1, 1) := by decide +kernel
theorem d_D_invert_349 : decode b_D_invert 349 = .ok (.ireturn, 1) := by decide +kernel
theorem d_D_nought_0 : decode b_D_nought 0 = .ok (.iconst 0, 1) := by decide +kernel
theorem d_D_nought_1 : decode b_D_nought 1 = .ok (.istore_n 1, 1) := by decide +kernel
theorem d_D_nought_2 : decode b_D_nought 2 = .ok (.iconst 0, 1) := by decide +kernel
theorem d_D_nought_3 : decode b_D_nought 3 = .ok (.istore_n 2, 1) := by decide +kernel
theorem d_D_nought_4 : decode b_D_nought 4 = .ok (.iload_n 2, 1) := by decide +kernel
theorem d_D_nought_5 : decode b_D_nought 5 = .ok (.bipush 17, 2) := by decide +kernel
theorem d_D_nought_7 : decode b_D_nought 7 = .ok (.if_icmp .ge 15, 3) := by decide +kernel
theorem d_D_nought_10 : decode b_D_nought 10 = .ok (.iload_n 1, 1) := by decide +kernel
theorem d_D_nought_11 : decode b_D_nought 11 = .ok (.aload_n 0, 1) := by decide +kernel
theorem d_D_nought_12 : decode b_D_nought 12 = .ok (.iload_n 2, 1) := by decide +kernel
theorem d_D_nought_13 : decode b_D_nought 13 = .ok (.iaload, 1) := by decide +kernel
theorem d_D_nought_14 : decode b_D_nought 14 = .ok (.ior, 1) := by decide +kernel
theorem d_D_nought_15 : decode b_D_nought 15 = .ok (.istore_n 1, 1) := by decide +kernel
theorem d_D_nought_16 : decode b_D_nought 16 = .ok (.iinc 2 1, 3) := by decide +kernel
theorem d_D_nought_19 : decode b_D_nought 19 = .ok (.goto (-15), 3) := by decide +kernel
theorem d_D_nought_22 : decode b_D_nought 22 = .ok (.iload_n 1, 1) := by decide +kernel
theorem d_D_nought_23 : decode b_D_nought 23 = .ok (.ifCond .ne 7, 3) := by decide +kernel
theorem d_D_nought_26 : decode b_D_nought 26 = .ok (.iconst 1, 1) := by decide +kernel
theorem d_D_nought_27 : decode b_D_nought 27 = .ok (.goto 4, 3) := by decide +kernel
theorem d_D_nought_30 : decode b_D_nought 30 = .ok (.iconst 0, 1) := by decide +kernel
theorem d_D_nought_31 : decode b_D_nought 31 = .ok (.ireturn, 1) := by decide +kernel
theorem d_D_half_0 : decode b_D_half 0 = .ok (.iconst 0, 1) := by decide +kernel
theorem d_D_half_1 : decode b_D_half 1 = .ok (.istore_n 1, 1) := by decide +kernel
theorem d_D_half_2 : decode b_D_half 2 = .ok (.iload_n 1, 1) := by decide +kernel
theorem d_D_half_3 : decode b_D_half 3 = .ok (.bipush 16, 2) := by decide +kernel
theorem d_D_half_5 : decode b_D_half 5 = .ok (.if_icmp .ge 28, 3) := by decide +kernel
theorem d_D_half_8 : decode b_D_half 8 = .ok (.aload_n 0, 1) := by decide +kernel
theorem d_D_half_9 : decode b_D_half 9 = .ok (.iload_n 1, 1) := by decide +kernel
theorem d_D_half_10 : decode b_D_half 10 = .ok (.aload_n 0, 1) := by decide +kernel
theorem d_D_half_11 : decode b_D_half 11 = .ok (.iload_n 1, 1) := by decide +kernel
theorem d_D_half_12 : decode b_D_half 12 = .ok (.iaload, 1) := by decide +kernel
theorem d_D_half_13 : decode b_D_half 13 = .ok (.iconst 1, 1) := by decide +kernel
theorem d_D_half_14 : decode b_D_half 14 = .ok (.ishr, 1) := by decide +kernel
theorem d_D_half_15 : decode b_D_half 15 = .ok (.aload_n 0, 1) := by decide +kernel
theorem d_D_half_16 : decode b_D_half 16 = .ok (.iload_n 1, 1) := by decide +kernel
theorem d_D_half_17 : decode b_D_half 17 = .ok (.iconst 1, 1) := by decide +kernel
theorem d_D_half_18 : decode b_D_half 18 = .ok (.iadd, 1) := by decide +kernel
theorem d_D_half_19 : decode b_D_half 19 = .ok (.iaload, 1) := by decide +kernel
theorem d_D_half_20 : decode b_D_half 20 = .ok (.iconst 1, 1) := by decide +kernel
theorem d_D_half_21 : decode b_D_half 21 = .ok (.iand, 1) := by decide +kernel
theorem d_D_half_22 : decode b_D_half 22 = .ok (.bipush 15, 2) := by decide +kernel
theorem d_D_half_24 : decode b_D_half 24 = .ok (.ishl, 1) := by decide +kernel
theorem d_D_half_25 : decode b_D_half 25 = .ok (.ior, 1) := by decide +kernel
theorem d_D_half_26 : decode b_D_half 26 = .ok (.iastore, 1) := by decide +kernel
theorem d_D_half_27 : decode b_D_half 27 = .ok (.iinc 1 1, 3) := by decide +kernel
theorem d_D_half_30 : decode b_D_half 30 = .ok (.goto (-28), 3) := by decide +kernel
theorem d_D_half_33 : decode b_D_half 33 = .ok (.aload_n 0, 1) := by decide +kernel
theorem d_D_half_34 : decode b_D_half 34 = .ok (.bipush 16, 2) := by decide +kernel
theorem d_D_half_36 : decode b_D_half 36 = .ok (.aload_n 0, 1) := by decide +kernel
theorem d_D_half_37 : decode b_D_half 37 = .ok (.bipush 16, 2) := by decide +kernel
theorem d_D_half_39 : decode b_D_half 39 = .ok (.iaload, 1) := by decide +kernel
theorem d_D_half_40 : decode b_D_half 40 = .ok (.iconst 1, 1) := by decide +kernel
theorem d_D_half_41 : decode b_D_half 41 = .ok (.ishr, 1) := by decide +kernel
theorem d_D_half_42 : decode b_D_half 42 = .ok (.iastore, 1) := by decide +kernel
theorem d_D_half_43 : decode b_D_half 43 = .ok (.return_, 1) := by decide +kernel
theorem d_D_more_0 : decode b_D_more 0 = .ok (.iconst 0, 1) := by decide +kernel
theorem d_D_more_1 : decode b_D_more 1 = .ok (.istore_n 2, 1) := by decide +kernel
theorem d_D_more_2 : decode b_D_more 2 = .ok (.iconst 0, 1) := by decide +kernel
theorem d_D_more_3 : decode b_D_more 3 = .ok (.istore_n 3, 1) := by decide +kernel
theorem d_D_more_4 : decode b_D_more 4 = .ok (.iload_n 3, 1) := by decide +kernel
theorem d_D_more_5 : decode b_D_more 5 = .ok (.bipush 17, 2) := by decide +kernel
theorem d_D_more_7 : decode b_D_more 7 = .ok (.if_icmp .ge 47, 3) := by decide +kernel
theorem d_D_more_10 : decode b_D_more 10 = .ok (.aload_n 1, 1) := by decide +kernel
theorem d_D_more_11 : decode b_D_more 11 = .ok (.iload_n 3, 1) := by decide +kernel
theorem d_D_more_12 : decode b_D_more 12 = .ok (.iaload, 1) := by decide +kernel
theorem d_D_more_13 : decode b_D_more 13 = .ok (.iload_n 3, 1) := by decide +kernel
theorem d_D_more_14 : decode b_D_more 14 = .ok (.bipush 16, 2) := by decide +kernel
theorem d_D_more_16 : decode b_D_more 16 = .ok (.if_icmp .ge 12, 3) := by decide +kernel
theorem d_D_more_19 : decode b_D_more 19 = .ok (.aload_n 0, 1) := by decide +kernel
theorem d_D_more_20 : decode b_D_more 20 = .ok (.getfield 19, 3) := by decide +kernel
theorem d_D_more_23 : decode b_D_more 23 = .ok (.iload_n 3, 1) := by decide +kernel
theorem d_D_more_24 : decode b_D_more 24 = .ok (.iaload, 1) := by decide +kernel
theorem d_D_more_25 : decode b_D_more 25 = .ok (.goto 4, 3) := by decide +kernel
theorem d_D_more_28 : decode b_D_more 28 = .ok (.iconst 0, 1) := by decide +kernel
theorem d_D_more_29 : decode b_D_more 29 = .ok (.iadd, 1) := by decide +kernel
theorem d_D_more_30 : decode b_D_more 30 = .ok (.iload_n 2, 1) := by decide +kernel
theorem d_D_more_31 : decode b_D_more 31 = .ok (.iadd, 1) := by decide +kernel
theorem d_D_more_32 : decode b_D_more 32 = .ok (.istore 4, 2) := by decide +kernel
theorem d_D_more_34 : decode b_D_more 34 = .ok (.aload_n 1, 1) := by decide +kernel
theorem d_D_more_35 : decode b_D_more 35 = .ok (.iload_n 3, 1) := by decide +kernel
theorem d_D_more_36 : decode b_D_more 36 = .ok (.iload 4, 2) := by decide +kernel
theorem d_D_more_38 : decode b_D_more 38 = .ok (.ldc 17, 2) := by decide +kernel
theorem d_D_more_40 : decode b_D_more 40 = .ok (.iand, 1) := by decide +kernel
theorem d_D_more_41 : decode b_D_more 41 = .ok (.iastore, 1) := by decide +kernel
theorem d_D_more_42 : decode b_D_more 42 = .ok (.iload 4, 2) := by decide +kernel
theorem d_D_more_44 : decode b_D_more 44 = .ok (.bipush 16, 2) := by decide +kernel
theorem d_D_more_46 : decode b_D_more 46 = .ok (.ishr, 1) := by decide +kernel
theorem d_D_more_47 : decode b_D_more 47 = .ok (.istore_n 2, 1) := by decide +kernel
theorem d_D_more_48 : decode b_D_more 48 = .ok (.iinc 3 1, 3) := by decide +kernel
theorem d_D_more_51 : decode b_D_more 51 = .ok (.goto (-47), 3) := by decide +kernel
theorem d_D_more_54 : decode b_D_more 54 = .ok (.return_, 1) := by decide +kernel
theorem d_D_less_0 : decode b_D_less 0 = .ok (.bipush 16, 2) := by decide +kernel
theorem d_D_less_2 : decode b_D_less 2 = .ok (.istore_n 2, 1) := by decide +kernel
theorem d_D_less_3 : decode b_D_less 3 = .ok (.iload_n 2, 1) := by decide +kernel
theorem d_D_less_4 : decode b_D_less 4 = .ok (.ifCond .le 19, 3) := by decide +kernel
theorem d_D_less_7 : decode b_D_less 7 = .ok (.aload_n 0, 1) := by decide +kernel
theorem d_D_less_8 : decode b_D_less 8 = .ok (.iload_n 2, 1) := by decide +kernel
theorem d_D_less_9 : decode b_D_less 9 = .ok (.iaload, 1) := by decide +kernel
theorem d_D_less_10 : decode b_D_less 10 = .ok (.aload_n 1, 1) := by decide +kernel
theorem d_D_less_11 : decode b_D_less 11 = .ok (.iload_n 2, 1) := by decide +kernel
theorem d_D_less_12 : decode b_D_less 12 = .ok (.iaload, 1) := by decide +kernel
theorem d_D_less_13 : decode b_D_less 13 = .ok (.if_icmp .ne 10, 3) := by decide +kernel
theorem d_D_less_16 : decode b_D_less 16 = .ok (.iload_n 2, 1) := by decide +kernel
theorem d_D_less_17 : decode b_D_less 17 = .ok (.iconst 1, 1) := by decide +kernel
theorem d_D_less_18 : decode b_D_less 18 = .ok (.isub, 1) := by decide +kernel
theorem d_D_less_19 : decode b_D_less 19 = .ok (.istore_n 2, 1) := by decide +kernel
theorem d_D_less_20 : decode b_D_less 20 = .ok (.goto (-17), 3) := by decide +kernel
theorem d_D_less_23 : decode b_D_less 23 = .ok (.aload_n 0, 1) := by decide +kernel
theorem d_D_less_24 : decode b_D_less 24 = .ok (.iload_n 2, 1) := by decide +kernel
theorem d_D_less_25 : decode b_D_less 25 = .ok (.iaload, 1) := by decide +kernel
theorem d_D_less_26 : decode b_D_less 26 = .ok (.aload_n 1, 1) := by decide +kernel
theorem d_D_less_27 : decode b_D_less 27 = .ok (.iload_n 2, 1) := by decide +kernel
theorem d_D_less_28 : decode b_D_less 28 = .ok (.iaload, 1) := by decide +kernel
theorem d_D_less_29 : decode b_D_less 29 = .ok (.if_icmp .ge 7, 3) := by decide +kernel
theorem d_D_less_32 : decode b_D_less 32 = .ok (.iconst 1, 1) := by decide +kernel
theorem d_D_less_33 : decode b_D_less 33 = .ok (.goto 4, 3) := by decide +kernel
theorem d_D_less_36 : decode b_D_less 36 = .ok (.iconst 0, 1) := by decide +kernel
theorem d_D_less_37 : decode b_D_less 37 = .ok (.ireturn, 1) := by decide +kernel
theorem d_D_lessen_0 : decode b_D_lessen 0 = .ok (.iconst 0, 1) := by decide +kernel
theorem d_D_lessen_1 : decode b_D_lessen 1 = .ok (.istore_n 2, 1) := by decide +kernel
theorem d_D_lessen_2 : decode b_D_lessen 2 = .ok (.iconst 0, 1) := by decide +kernel
theorem d_D_lessen_3 : decode b_D_lessen 3 = .ok (.istore_n 3, 1) := by decide +kernel
theorem d_D_lessen_4 : decode b_D_lessen 4 = .ok (.iload_n 3, 1) := by decide +kernel
theorem d_D_lessen_5 : decode b_D_lessen 5 = .ok (.bipush 17, 2) := by decide +kernel
theorem d_D_lessen_7 : decode b_D_lessen 7 = .ok (.if_icmp .ge 34, 3) := by decide +kernel
theorem d_D_lessen_10 : decode b_D_lessen 10 = .ok (.aload_n 0, 1) := by decide +kernel
theorem d_D_lessen_11 : decode b_D_lessen 11 = .ok (.iload_n 3, 1) := by decide +kernel
theorem d_D_lessen_12 : decode b_D_lessen 12 = .ok (.iaload, 1) := by decide +kernel
theorem d_D_lessen_13 : decode b_D_lessen 13 = .ok (.aload_n 1, 1) := by decide +kernel
theorem d_D_lessen_14 : decode b_D_lessen 14 = .ok (.iload_n 3, 1) := by decide +kernel
theorem d_D_lessen_15 : decode b_D_lessen 15 = .ok (.iaload, 1) := by decide +kernel
theorem d_D_lessen_16 : decode b_D_lessen 16 = .ok (.isub, 1) := by decide +kernel
theorem d_D_lessen_17 : decode b_D_lessen 17 = .ok (.iload_n 2, 1) := by decide +kernel
theorem d_D_lessen_18 : decode b_D_lessen 18 = .ok (.iadd, 1) := by decide +kernel
theorem d_D_lessen_19 : decode b_D_lessen 19 = .ok (.istore 4, 2) := by decide +kernel
theorem d_D_lessen_21 : decode b_D_lessen 21 = .ok (.aload_n 0, 1) := by decide +kernel
theorem d_D_lessen_22 : decode b_D_lessen 22 = .ok (.iload_n 3, 1) := by decide +kernel
theorem d_D_lessen_23 : decode b_D_lessen 23 = .ok (.iload 4, 2) := by decide +kernel
theorem d_D_lessen_25 : decode b_D_lessen 25 = .ok (.ldc 17, 2) := by decide +kernel
theorem d_D_lessen_27 : decode b_D_lessen 27 = .ok (.iand, 1) := by decide +kernel
theorem d_D_lessen_28 : decode b_D_lessen 28 = .ok (.iastore, 1) := by decide +kernel
theorem d_D_lessen_29 : decode b_D_lessen 29 = .ok (.iload 4, 2) := by decide +kernel
theorem d_D_lessen_31 : decode b_D_lessen 31 = .ok (.bipush 16, 2) := by decide +kernel
theorem d_D_lessen_33 : decode b_D_lessen 33 = .ok (.ishr, 1) := by decide +kernel
theorem d_D_lessen_34 : decode b_D_lessen 34 = .ok (.istore_n 2, 1) := by decide +kernel
theorem d_D_lessen_35 : decode b_D_lessen 35 = .ok (.iinc 3 1, 3) := by decide +kernel
theorem d_D_lessen_38 : decode b_D_lessen 38 = .ok (.goto (-34), 3) := by decide +kernel
theorem d_D_lessen_41 : decode b_D_lessen 41 = .ok (.return_, 1) := by decide +kernel
theorem d_D_zero_0 : decode b_D_zero 0 = .ok (.aload_n 0, 1) := by decide +kernel
theorem d_D_zero_1 : decode b_D_zero 1 = .ok (.aload_n 0, 1) := by decide +kernel
theorem d_D_zero_2 : decode b_D_zero 2 = .ok (.getfield 28, 3) := by decide +kernel
theorem d_D_zero_5 : decode b_D_zero 5 = .ok (.iload_n 1, 1) := by decide +kernel
theorem d_D_zero_6 : decode b_D_zero 6 = .ok (.invokevirtual 65, 3) := by decide +kernel
theorem d_D_zero_9 : decode b_D_zero 9 = .ok (.aload_n 0, 1) := by decide +kernel
theorem d_D_zero_10 : decode b_D_zero 10 = .ok (.aload_n 0, 1) := by decide +kernel
theorem d_D_zero_11 : decode b_D_zero 11 = .ok (.getfield 28, 3) := by decide +kernel
theorem d_D_zero_14 : decode b_D_zero 14 = .ok (.invokevirtual 53, 3) := by decide +kernel
theorem d_D_zero_17 : decode b_D_zero 17 = .ok (.ireturn, 1) := by decide +kernel
theorem d_D_carry_0 : decode b_D_carry 0 = .ok (.aload_n 0, 1) := by decide +kernel
theorem d_D_carry_1 : decode b_D_carry 1 = .ok (.aload_n 0, 1) := by decide +kernel
theorem d_D_carry_2 : decode b_D_carry 2 = .ok (.getfield 28, 3) := by decide +kernel
theorem d_D_carry_5 : decode b_D_carry 5 = .ok (.iload_n 1, 1) := by decide +kernel
theorem d_D_carry_6 : decode b_D_carry 6 = .ok (.invokevirtual 65, 3) := by decide +kernel
theorem d_D_carry_9 : decode b_D_carry 9 = .ok (.iconst 0, 1) := by decide +kernel
theorem d_D_carry_10 : decode b_D_carry 10 = .ok (.istore_n 3, 1) := by decide +kernel
theorem d_D_carry_11 : decode b_D_carry 11 = .ok (.iload_n 3, 1) := by decide +kernel
theorem d_D_carry_12 : decode b_D_carry 12 = .ok (.bipush 16, 2) := by decide +kernel
theorem d_D_carry_14 : decode b_D_carry 14 = .ok (.if_icmp .ge 16, 3) := by decide +kernel
theorem d_D_carry_17 : decode b_D_carry 17 = .ok (.aload_n 0, 1) := by decide +kernel
theorem d_D_carry_18 : decode b_D_carry 18 = .ok (.getfield 31, 3) := by decide +kernel
theorem d_D_carry_21 : decode b_D_carry 21 = .ok (.iload_n 3, 1) := by decide +kernel
theorem d_D_carry_22 : decode b_D_carry 22 = .ok (.iconst 0, 1) := by decide +kernel
theorem d_D_carry_23 : decode b_D_carry 23 = .ok (.iastore, 1) := by decide +kernel
theorem d_D_carry_24 : decode b_D_carry 24 = .ok (.iinc 3 1, 3) := by decide +kernel
theorem d_D_carry_27 : decode b_D_carry 27 = .ok (.goto (-16), 3) := by decide +kernel
theorem d_D_carry_30 : decode b_D_carry 30 = .ok (.aload_n 0, 1) := by decide +kernel
theorem d_D_carry_31 : decode b_D_carry 31 = .ok (.getfield 31, 3) := by decide +kernel
theorem d_D_carry_34 : decode b_D_carry 34 = .ok (.iconst 0, 1) := by decide +kernel
theorem d_D_carry_35 : decode b_D_carry 35 = .ok (.iload_n 2, 1) := by decide +kernel
theorem d_D_carry_36 : decode b_D_carry 36 = .ok (.ldc 17, 2) := by decide +kernel
theorem d_D_carry_38 : decode b_D_carry 38 = .ok (.iand, 1) := by decide +kernel
theorem d_D_carry_39 : decode b_D_carry 39 = .ok (.iastore, 1) := by decide +kernel
theorem d_D_carry_40 : decode b_D_carry 40 = .ok (.aload_n 0, 1) := by decide +kernel
theorem d_D_carry_41 : decode b_D_carry 41 = .ok (.getfield 31, 3) := by decide +kernel
theorem d_D_carry_44 : decode b_D_carry 44 = .ok (.iconst 1, 1) := by decide +kernel
theorem d_D_carry_45 : decode b_D_carry 45 = .ok (.iload_n 2, 1) := by decide +kernel
theorem d_D_carry_46 : decode b_D_carry 46 = .ok (.bipush 16, 2) := by decide +kernel
theorem d_D_carry_48 : decode b_D_carry 48 = .ok (.iushr, 1) := by decide +kernel
theorem d_D_carry_49 : decode b_D_carry 49 = .ok (.iastore, 1) := by decide +kernel
theorem d_D_carry_50 : decode b_D_carry 50 = .ok (.iconst 0, 1) := by decide +kernel
theorem d_D_carry_51 : decode b_D_carry 51 = .ok (.istore_n 3, 1) := by decide +kernel
theorem d_D_carry_52 : decode b_D_carry 52 = .ok (.iload_n 3, 1) := by decide +kernel
theorem d_D_carry_53 : decode b_D_carry 53 = .ok (.sipush 256, 3) := by decide +kernel
theorem d_D_carry_56 : decode b_D_carry 56 = .ok (.if_icmp .ge 25, 3) := by decide +kernel
theorem d_D_carry_59 : decode b_D_carry 59 = .ok (.aload_n 0, 1) := by decide +kernel
theorem d_D_carry_60 : decode b_D_carry 60 = .ok (.aload_n 0, 1) := by decide +kernel
theorem d_D_carry_61 : decode b_D_carry 61 = .ok (.getfield 31, 3) := by decide +kernel
theorem d_D_carry_64 : decode b_D_carry 64 = .ok (.aload_n 0, 1) := by decide +kernel
theorem d_D_carry_65 : decode b_D_carry 65 = .ok (.getfield 31, 3) := by decide +kernel
theorem d_D_carry_68 : decode b_D_carry 68 = .ok (.aload_n 0, 1) := by decide +kernel
theorem d_D_carry_69 : decode b_D_carry 69 = .ok (.getfield 31, 3) := by decide +kernel
theorem d_D_carry_72 : decode b_D_carry 72 = .ok (.invokevirtual 57, 3) := by decide +kernel
theorem d_D_carry_75 : decode b_D_carry 75 = .ok (.iinc 3 1, 3) := by decide +kernel
theorem d_D_carry_78 : decode b_D_carry 78 = .ok (.goto (-26), 3) := by decide +kernel
theorem d_D_carry_81 : decode b_D_carry 81 = .ok (.aload_n 0, 1) := by decide +kernel
theorem d_D_carry_82 : decode b_D_carry 82 = .ok (.aload_n 0, 1) := by decide +kernel
theorem d_D_carry_83 : decode b_D_carry 83 = .ok (.getfield 28, 3) := by decide +kernel
theorem d_D_carry_86 : decode b_D_carry 86 = .ok (.aload_n 0, 1) := by decide +kernel
theorem d_D_carry_87 : decode b_D_carry 87 = .ok (.getfield 28, 3) := by decide +kernel
theorem d_D_carry_90 : decode b_D_carry 90 = .ok (.aload_n 0, 1) := by decide +kernel
theorem d_D_carry_91 : decode b_D_carry 91 = .ok (.getfield 31, 3) := by decide +kernel
theorem d_D_carry_94 : decode b_D_carry 94 = .ok (.invokevirtual 57, 3) := by decide +kernel
theorem d_D_carry_97 : decode b_D_carry 97 = .ok (.aload_n 0, 1) := by decide +kernel
theorem d_D_carry_98 : decode b_D_carry 98 = .ok (.iload_n 1, 1) := by decide +kernel
theorem d_D_carry_99 : decode b_D_carry 99 = .ok (.aload_n 0, 1) := by decide +kernel
theorem d_D_carry_100 : decode b_D_carry 100 = .ok (.getfield 28, 3) := by decide +kernel
theorem d_D_carry_103 : decode b_D_carry 103 = .ok (.invokevirtual 61, 3) := by decide +kernel
theorem d_D_carry_106 : decode b_D_carry 106 = .ok (.return_, 1) := by decide +kernel
end
section
/-! the world behind the constructors: a base heap, the int arrays that may change, their contents as a memory -/
abbrev Mm : Type := Nat → Nat → Int32
abbrev wg : Type := Heap × (Nat → Prop) × (Nat → Nat) × ClassId × ClassId × va_G
def wB (g : wg) : Heap := g.1
def wA (g : wg) : Nat → Prop := g.2.1
def wL (g : wg) : Nat → Nat := g.2.2.1
def wI (g : wg) : ClassId := g.2.2.2.1
def wR (g : wg) : ClassId := g.2.2.2.2.1
def wV (g : wg) : va_G := g.2.2.2.2.2
def wd (g : wg) (H : Heap) (locs : List Loc) (M : Mm) : Prop :=
  (∀ q, wA g q → H[q]? = some (vp_cell (wI g) (wL g q, .inl (M q)))) ∧ (∀ q, ¬ wA g q → H[q]? = (wB g)[q]?) ∧ ∀ l ∈ locs, wA g l.base
theorem wd.nil {g : wg} {H : Heap} {locs : List Loc} {M : Mm} (h : wd g H locs M) : wd g H [] M := ⟨h.1, h.2.1, fun _ z => by cases z⟩
def kn (g : wg) (U : State) : Prop := va_K (wV g) classes [(wI g, .int), (wR g, .array .int)] U ∧ va_Nw (.fieldLinkNest R_K 40 R_F "prime" "[I" R_K) U ∧ va_Nw (.methodLinkNest R_K 43 y_F_difference R_K) U
theorem kn.warm {g : wg} {s U : State} (hW : s.WarmedH U.vm) (h : kn g s) : kn g U := ⟨va_K.moved hW.alike h.1, va_Nw.warmF hW h.2.1, va_Nw.warmM hW h.2.2⟩
theorem kn.same {g : wg} {u U : State} (h : u.vm = U.vm) (k : kn g u) : kn g U := ⟨va_K.moved (by rw [h]; exact Vm.Alike.refl _) k.1, va_Nw.same rfl h k.2.1, va_Nw.same rfl h k.2.2⟩
def cP (g : wg) (as : List Value) (M : Mm) : Array Value → State → Prop := fun v U => v = as.toArray ∧ wd g U.heap [] M ∧ kn g U
def cQ (g : wg) (post : Option Value → Mm → Prop) : Array Value → State → Outcome → State → Prop := fun _ _ oc t => ∃ (r : Option Value) (M' : Mm), oc = .returned r ∧ post r M' ∧ wd g t.heap [] M'
abbrev rmm (fr lo : Nat) : Room := { frames := fr, cells := 0, slots := 0, locals := lo }
def Ct (l : Launch) (y : MethodName) (cc : ByteArray) (n : Nat) (rt : Option FieldType) (fr lo : Nat) (g : wg) (as : List Value) (M : Mm) (post : Option Value → Mm → Prop) : Prop :=
  Met l y (.code y cc n rt :: tb) (rmm fr lo) (cP g as M) (cQ g post) 0 0 (wA g)
theorem cP.blind {g : wg} {as : List Value} {M : Mm} : FrameBlind (cP g as M) := fun a U f mk h => ⟨h.1, h.2.1, h.2.2.same rfl⟩
def Ev (p : Program) (s : State) (m : MethodId) (args : Array Value) (meth : Method) (c : Code) (cc : ByteArray) (n : Nat) (rt : Option FieldType) (own : String) : Prop :=
  p.tables.exec = Jvm.exec ∧ c.code = cc ∧ meth.sig.returnType = rt ∧ c.maxLocals = n ∧ s.vm.findClass own = some m.cls ∧ (∀ w ∈ tb, w.before args s = true) ∧ meth.locks = false
theorem Ct.of {l : Launch} {y : MethodName} {cc : ByteArray} {n : Nat} {rt : Option FieldType} {fr lo : Nat} {g : wg} {as : List Value} {M : Mm} {post : Option Value → Mm → Prop} (hy : plainName y.cls = true) (hn : (lg_sl as).length ≤ n)
    (body : ∀ (p : Program) (e : Env) (s : State) (m : MethodId) (args : Array Value) (below : List Frame) (meth : Method) (c : Code) (H : Heap) (ls : Array Slot) (Q : State → Prop), Ev p s m args meth c cc n rt y.cls → kn g s → Q = MQ below (cQ g post) args s 0 0 (wA g) → wd g H [] M → lv_has ls n (lv_args 0 as) →
      W p l e (rmm fr lo) s m args below meth c H [] 0 0 Q (F0 m 0 ls [])) : Ct l y cc n rt fr lo g as M post := by
  refine Met.ofW (cc := cc) (maxL := n) (ret := rt) hy rfl ?_
  intro p e s m args below meth c s₁ B hml hv
  obtain ⟨rfl, hW, hK⟩ := hv
  have hts := atoms_spec (ws := .code y cc n rt :: tb) B.pre
  have hl := lv_entry as (n := n) hn
  rw [lg_entry_eq]
  exact body p e s m as.toArray below meth c s.heap _ _ ⟨B.exec, B.bytes, B.returns, hml, findClass_of_methodNamed B.named, fun w hw => hts w (List.mem_cons_of_mem _ hw), B.notSynchronized⟩ hK rfl hW hl
def aok (g : wg) (a n : Nat) : Prop := wA g a ∧ n ≤ wL g a ∧ wL g a < 2 ^ 31
def mst (M : Mm) (a j : Nat) (v : Int32) : Mm := fun q i => if q = a ∧ i = j then v else M q i
def ob (g : wg) (o ci : Nat) (fs : List Value) : Prop := ¬ wA g o ∧ va_at (wV g) classes (o, .inr (ci, fs)) (wB g)
theorem ob.P {g : wg} {o ci : Nat} {fs : List Value} {H : Heap} {locs : List Loc} {M : Mm} (h : ob g o ci fs) (hw : wd g H locs M) : va_P (wV g) classes [(o, .inr (ci, fs))] H := by
  intro k q hk
  have hz : k < 1 := (List.getElem?_eq_some_iff.mp hk).1
  rw [show k = 0 by omega] at hk
  cases hk
  exact h.2.kept (hw.2.1 o h.1)
section WDR
variable {p : Program} {l : Launch} {e : Env} {R : Room} {s : State} {m : MethodId} {args : Array Value} {below : List Frame} {meth : Method} {c : Code} {H : Heap} {locs : List Loc} {cells slots : Nat} {Q : State → Prop}
variable {cc : ByteArray} {pc n : Nat} {ls : Array Slot} {rest : List Value} {g : wg} {M : Mm} {rt : Option FieldType} {own : String} {post : Option Value → Mm → Prop}
theorem ct_v (E : Ev p s m args meth c cc n none own) (hQ : Q = MQ below (cQ g post) args s 0 0 (wA g)) (hw : wd g H locs M) (hd : decode cc pc = .ok (.return_, 1)) (hp : post none M) : W p l e R s m args below meth c H locs 0 0 Q (F0 m pc ls []) := by
  rw [hQ]
  exact W.vret E.1 E.2.1 E.2.2.1 (fun t ht _ => ⟨none, M, rfl, hp, by rw [ht]; exact hw.nil⟩) hw.2.2 hd E.2.2.2.2.2.2
theorem ct_i {v : Int32} (E : Ev p s m args meth c cc n (some .int) own) (hQ : Q = MQ below (cQ g post) args s 0 0 (wA g)) (hw : wd g H locs M) (hd : decode cc pc = .ok (.ireturn, 1)) (hp : post (some (.int v)) M) : W p l e R s m args below meth c H locs 0 0 Q (F0 m pc ls [.int v]) := by
  rw [hQ]
  exact W.iret E.1 E.2.1 E.2.2.1 (fun t ht _ => ⟨_, M, rfl, hp, by rw [ht]; exact hw.nil⟩) hw.2.2 hd E.2.2.2.2.2.2
theorem ct_z {v : Int32} (E : Ev p s m args meth c cc n (some .boolean) own) (hQ : Q = MQ below (cQ g post) args s 0 0 (wA g)) (hw : wd g H locs M) (hv : v = 0 ∨ v = 1) (hd : decode cc pc = .ok (.ireturn, 1)) (hp : post (some (.int v)) M) : W p l e R s m args below meth c H locs 0 0 Q (F0 m pc ls [.int v]) := by
  rw [hQ]
  exact W.zret E.1 E.2.1 E.2.2.1 (by rcases hv with rfl | rfl <;> rfl) (fun t ht _ => ⟨_, M, rfl, hp, by rw [ht]; exact hw.nil⟩) hw.2.2 hd E.2.2.2.2.2.2
theorem ct_l {v : Int64} (E : Ev p s m args meth c cc n (some .long) own) (hQ : Q = MQ below (cQ g post) args s 0 0 (wA g)) (hw : wd g H locs M) (hd : decode cc pc = .ok (.lreturn, 1)) (hp : post (some (.long v)) M) : W p l e R s m args below meth c H locs 0 0 Q (F0 m pc ls [.long v]) := by
  rw [hQ]
  exact W.lret E.1 E.2.1 E.2.2.1 (fun t ht _ => ⟨_, M, rfl, hp, by rw [ht]; exact hw.nil⟩) hw.2.2 hd E.2.2.2.2.2.2
theorem ct_a {v : Nat} {ty : FieldType} (E : Ev p s m args meth c cc n (some (.array ty)) own) (hQ : Q = MQ below (cQ g post) args s 0 0 (wA g)) (hw : wd g H locs M) (hd : decode cc pc = .ok (.areturn, 1)) (hp : post (some (.ref v)) M) : W p l e R s m args below meth c H locs 0 0 Q (F0 m pc ls [.ref v]) := by
  rw [hQ]
  exact W.aret E.1 E.2.1 E.2.2.1 (Or.inr ⟨_, rfl⟩) (Or.inr ⟨_, rfl⟩) (fun t ht _ => ⟨_, M, rfl, hp, by rw [ht]; exact hw.nil⟩) hw.2.2 hd E.2.2.2.2.2.2
theorem wd_ld {a b : Nat} {i : Int32} (E : Ev p s m args meth c cc n rt own) (K : kn g s) (hw : wd g H locs M) (ha : aok g a b) (j : Nat) (hi : i = nI j) (hj : j < b) (hd : decode cc pc = .ok (.iaload, 1))
    (kk : W p l e R s m args below meth c H locs cells slots Q (F0 m (pc + 1) ls (.int (M a j) :: rest))) : W p l e R s m args below meth c H locs cells slots Q (F0 m pc ls (.int i :: .ref a :: rest)) := by
  subst hi
  obtain ⟨h1, h2, h3⟩ := ha
  have hc := nI_clamp (n := j) (by omega)
  exact W.iald (v := .int (M a j)) E.1 E.2.1 (hw.1 a h1) ((K.1.2 0 _ rfl).1 _ (fun j => .int (M a j))) (fun q => by cases q) (by show ¬ (_ ∨ (arrV _ _ _).slots.size ≤ _); rw [arrV_size]; exact nI_in (by omega) h3) (by show (arrV _ _ _).slots[_]? = _; rw [hc, arrV_read _ _ (by omega)]) rfl rfl hd kk
theorem wd_st {a b : Nat} {i x : Int32} (E : Ev p s m args meth c cc n rt own) (K : kn g s) (hw : wd g H locs M) (ha : aok g a b) (j : Nat) (hi : i = nI j) (hj : j < b) (hd : decode cc pc = .ok (.iastore, 1))
    (kk : ∀ (H1 : Heap) (locs1 : List Loc), wd g H1 locs1 (mst M a j x) → W p l e R s m args below meth c H1 locs1 cells slots Q (F0 m (pc + 1) ls rest)) : W p l e R s m args below meth c H locs cells slots Q (F0 m pc ls (.int x :: .int i :: .ref a :: rest)) := by
  subst hi
  obtain ⟨h1, h2, h3⟩ := ha
  have hc := nI_clamp (n := j) (by omega)
  refine W.iast E.1 E.2.1 (hw.1 a h1) ((K.1.2 0 _ rfl).1 _ (fun j => .int (M a j))) (fun q => by cases q) (by show ¬ (_ ∨ (arrV _ _ _).slots.size ≤ _); rw [arrV_size]; exact nI_in (by omega) h3) rfl rfl hd fun H1 e1 z o1 => kk H1 _ ⟨fun q hq => ?_, fun q hq => ?_, fun q hq => ?_⟩
  · by_cases hqa : q = a
    · subst hqa
      rw [e1, hc, vp_cell_i, vp_cell_i, arrV_store]
      congr 2
      funext k
      by_cases hk : k = j
      · subst hk; simp [updV, mst]
      · simp [updV, mst, hk]
    · rw [o1 q hqa, hw.1 q hq]
      congr 2
      rw [show mst M a j x q = M q from by funext k; simp [mst, hqa]]
  · rw [o1 q (fun z => hq (by rw [z]; exact h1)), hw.2.1 q hq]
  · rcases List.mem_append.mp hq with h | h
    · exact hw.2.2 q h
    · rw [List.mem_singleton.mp h]; exact h1
theorem wd_get {o ci : Nat} {fs : List Value} {C : String} {T : u_T} {N index : Nat} {v : Value} (E : Ev p s m args meth c cc n rt own) (K : kn g s) (hw : wd g H locs M) (ho : ob g o ci fs) (hc : classes[ci]? = some (C, T, N)) (hin : ∀ w ∈ u_ws C T N, w ∈ tb) (k : Nat) (hk : k < N) (hlk : Cond.fieldLink own index (T k).1 (T k).2.1 (T k).2.2.1 ∈ tb) (hv : fs[k]? = some v) (hd : decode cc pc = .ok (.getfield index, 3))
    (kk : W p l e R s m args below meth c H locs cells slots Q (F0 m (pc + 3) ls (v :: rest))) : W p l e R s m args below meth c H locs cells slots Q (F0 m pc ls (.ref o :: rest)) :=
  va_get E.1 E.2.1 E.2.2.2.2.2.1 hin E.2.2.2.2.1 K.1 (ho.P hw) 0 rfl hc k hk (E.2.2.2.2.2.1 _ hlk) (fun _ h9 => h9) hv hd kk
theorem wd_getN {o ci : Nat} {fs : List Value} {C host : String} {T : u_T} {N index : Nat} {v : Value} (E : Ev p s m args meth c cc n rt own) (K : kn g s) (hw : wd g H locs M) (ho : ob g o ci fs) (hc : classes[ci]? = some (C, T, N)) (hin : ∀ w ∈ u_ws C T N, w ∈ tb) (k : Nat) (hk : k < N) (hlk : va_Nw (Cond.fieldLinkNest own index (T k).1 (T k).2.1 (T k).2.2.1 host) s) (hv : fs[k]? = some v) (hd : decode cc pc = .ok (.getfield index, 3))
    (kk : W p l e R s m args below meth c H locs cells slots Q (F0 m (pc + 3) ls (v :: rest))) : W p l e R s m args below meth c H locs cells slots Q (F0 m pc ls (.ref o :: rest)) :=
  va_getN E.1 E.2.1 E.2.2.2.2.2.1 hin E.2.2.2.2.1 K.1 (ho.P hw) 0 rfl hc k hk (va_Nw.use rfl hlk) (fun _ h9 => h9) hv hd kk
def rgs (g : wg) (a : Nat) (f : Nat → Nat) : Prop := ¬ wA g a ∧ (wB g)[a]? = some (vp_cell (wR g) (4, .inr (.inr (.inr (.inr (fun k => some (f k)))))))
theorem wd_ald {a : Nat} {f : Nat → Nat} {i : Int32} (E : Ev p s m args meth c cc n rt own) (K : kn g s) (hw : wd g H locs M) (ha : rgs g a f) (j : Nat) (hi : i = nI j) (hj : j < 4) (hd : decode cc pc = .ok (.aaload, 1))
    (kk : W p l e R s m args below meth c H locs cells slots Q (F0 m (pc + 1) ls (.ref (f j) :: rest))) : W p l e R s m args below meth c H locs cells slots Q (F0 m pc ls (.int i :: .ref a :: rest)) := by
  subst hi
  have hc := nI_clamp (n := j) (by omega)
  exact W.aald (v := .ref (f j)) (ty := .array .int) E.1 E.2.1 (by rw [hw.2.1 a ha.1]; exact ha.2) ((K.1.2 1 _ rfl).1 _ (fun j => va_rf (some (f j)))) rfl (fun q => by cases q) (by show ¬ (_ ∨ (arrV _ _ _).slots.size ≤ _); rw [arrV_size]; exact nI_in hj (show 4 < 2 ^ 31 by decide)) (by show (arrV _ _ _).slots[_]? = _; rw [hc, arrV_read _ _ (by omega)]; rfl) rfl rfl hd kk
theorem ct_run {a : Array Value} {st0 : List Value} (hw : wd g H locs M) (hr : va_Run p l e R s m args below meth c H locs cells slots 0 0 (F0 m pc ls st0) rest (cQ g post a) (wA g))
    (kk : ∀ (r : Option Value) (M' : Mm) (H' : Heap) (locs' : List Loc), post r M' → wd g H' locs' M' → W p l e R s m args below meth c H' locs' cells slots Q (F0 m (pc + 3) ls (r.toList ++ rest))) : W p l e R s m args below meth c H locs cells slots Q (F0 m pc ls st0) := by
  intro T hT X
  obtain ⟨v, st₀, t, T', L, h0, X', hL, e1, e2, ⟨r, M', hv, hp, hw'⟩, st⟩ := hr T hT X
  cases hv
  obtain ⟨t2, a1, b1⟩ := kk v M' T'.heap (locs ++ L) hp ⟨by rw [e1]; exact hw'.1, by rw [e1]; exact hw'.2.1, fun q hq => by
    rcases List.mem_append.mp hq with h | h
    · exact hw.2.2 q h
    · exact hL q h⟩ T' rfl X'
  exact ⟨t2, st t2 a1, b1⟩
end WDR
section WDC
variable {p : Program} {l : Launch} {e : Env} {R : Room} {s : State} {m : MethodId} {args : Array Value} {below : List Frame} {meth : Method} {c : Code} {H : Heap} {locs : List Loc} {cells slots : Nat} {Q : State → Prop}
variable {cc cc' : ByteArray} {pc n n' fr lo index b ci : Nat} {ls : Array Slot} {rest st0 as fs : List Value} {g : wg} {M : Mm} {rt rt' : Option FieldType} {own host C : String} {post : Option Value → Mm → Prop} {y : MethodName} {q : vw_C}
theorem tb_code {k : Cond} (h : k ∈ tb) : GoodIn tb (k :: tb) := fun w hw => by
  have h2 : w ∈ tb := by
    rcases List.mem_cons.mp hw with rfl | h3
    · exact h
    · exact h3
  exact ⟨h2, good_of_word (List.mem_filter.mp h2).2⟩
theorem ct_cb {k : Nat} (E : Ev p s m args meth c cc n rt own) (hcode : Cond.code y cc' n' rt' ∈ tb) (hini : Cond.initialized y.cls ∈ tb) (hlk : Cond.methodLink own index y ∈ tb) (hd : y.cls ≠ "java/lang/invoke/MethodHandle" ∧ y.cls ≠ "java/lang/invoke/VarHandle" ∧ (parseMethodDescriptor y.desc).map (fun d => d.parameters.length) = some k) (hR : fr + 1 ≤ R.frames ∧ 8 + (n' + 11) + lo ≤ R.locals) :
    CallB R s args own index y cc' n' rt' (.code y cc' n' rt' :: tb) (rmm fr lo) 0 0 k :=
  callB_of k (Ts := tb) E.2.2.2.2.2.1 (tb_code hcode) rfl rfl rfl (E.2.2.2.2.2.1 _ hini) (E.2.2.2.2.2.1 _ hlk) hd hR
theorem ct_pre (K : kn g s) (hw : wd g H locs M) : PreS s H (cP g as M) as := ⟨cP.blind, fun U hU hWm => ⟨rfl, by rw [hU]; exact hw.nil, K.warm hWm⟩⟩
theorem ct_S (E : Ev p s m args meth c cc n rt own) (K : kn g s) (hw : wd g H locs M) (hl : ls.size = n) (hC : Ct l y cc' n' rt' fr lo g as M post) (hcode : Cond.code y cc' n' rt' ∈ tb) (hini : Cond.initialized y.cls ∈ tb) (hlk : Cond.methodLink own index y ∈ tb) (hst : Cond.static y ∈ tb) (k : Nat) (hd : y.cls ≠ "java/lang/invoke/MethodHandle" ∧ y.cls ≠ "java/lang/invoke/VarHandle" ∧ (parseMethodDescriptor y.desc).map (fun d => d.parameters.length) = some k) (hn : as.length = k) (hR : fr + 1 ≤ R.frames ∧ 8 + (n' + 11) + lo ≤ R.locals)
    (hstk : st0 = as.reverse ++ rest) (hW : (rest.map fun v => v.category).sum ≤ 8) (hf : cells ≤ R.cells ∧ slots ≤ R.slots) (hdg : decode cc pc = .ok (.invokestatic index, 3))
    (kk : ∀ (r : Option Value) (M' : Mm) (H' : Heap) (locs' : List Loc), post r M' → wd g H' locs' M' → W p l e R s m args below meth c H' locs' cells slots Q (F0 m (pc + 3) ls (r.toList ++ rest))) : W p l e R s m args below meth c H locs cells slots Q (F0 m pc ls st0) :=
  ct_run hw (va_runS ⟨E.1, E.2.1, E.2.2.2.1, E.2.2.2.2.1, E.2.2.2.2.2.1⟩ hC ⟨ct_cb E hcode hini hlk hd hR, E.2.2.2.2.2.1 _ hst⟩ (ct_pre K hw) rfl hn hl hstk (lv_room hW) hdg hf) kk
theorem ct_SN (E : Ev p s m args meth c cc n rt own) (K : kn g s) (hw : wd g H locs M) (hl : ls.size = n) (hC : Ct l y cc' n' rt' fr lo g as M post) (hcode : Cond.code y cc' n' rt' ∈ tb) (hini : Cond.initialized y.cls ∈ tb) (hlk : va_Nw (.methodLinkNest own index y host) s) (hst : Cond.static y ∈ tb) (k : Nat) (hd : y.cls ≠ "java/lang/invoke/MethodHandle" ∧ y.cls ≠ "java/lang/invoke/VarHandle" ∧ (parseMethodDescriptor y.desc).map (fun d => d.parameters.length) = some k) (hn : as.length = k) (hR : fr + 1 ≤ R.frames ∧ 8 + (n' + 11) + lo ≤ R.locals)
    (hstk : st0 = as.reverse ++ rest) (hW : (rest.map fun v => v.category).sum ≤ 8) (hf : cells ≤ R.cells ∧ slots ≤ R.slots) (hdg : decode cc pc = .ok (.invokestatic index, 3))
    (kk : ∀ (r : Option Value) (M' : Mm) (H' : Heap) (locs' : List Loc), post r M' → wd g H' locs' M' → W p l e R s m args below meth c H' locs' cells slots Q (F0 m (pc + 3) ls (r.toList ++ rest))) : W p l e R s m args below meth c H locs cells slots Q (F0 m pc ls st0) :=
  ct_run hw (va_runSN ⟨E.1, E.2.1, E.2.2.2.1, E.2.2.2.2.1, E.2.2.2.2.2.1⟩ hC ⟨va_cnB k E.2.2.2.2.2.1 (tb_code hcode) rfl rfl rfl hlk (E.2.2.2.2.2.1 _ hini) hd hR, E.2.2.2.2.2.1 _ hst, trivial⟩ (ct_pre K hw) rfl hn hl hstk (lv_room hW) hdg hf) kk
theorem ct_V (E : Ev p s m args meth c cc n rt own) (K : kn g s) (hw : wd g H locs M) (hl : ls.size = n) (ho : ob g b ci fs) (hcl : classes[ci]? = some q) (hC : Ct l y cc' n' rt' fr lo g (.ref b :: as) M post) (hcode : Cond.code y cc' n' rt' ∈ tb) (hini : Cond.initialized y.cls ∈ tb) (hlk : Cond.methodLink own index y ∈ tb) (hin : Cond.instanceMethod y ∈ tb) (hse : Cond.selects q.1 y y ∈ tb) (k : Nat) (hd : y.cls ≠ "java/lang/invoke/MethodHandle" ∧ y.cls ≠ "java/lang/invoke/VarHandle" ∧ (parseMethodDescriptor y.desc).map (fun d => d.parameters.length) = some k) (hn : as.length = k) (hR : fr + 1 ≤ R.frames ∧ 8 + (n' + 11) + lo ≤ R.locals)
    (hstk : st0 = as.reverse ++ .ref b :: rest) (hW : (rest.map fun v => v.category).sum ≤ 8) (hf : cells ≤ R.cells ∧ slots ≤ R.slots) (hdg : decode cc pc = .ok (.invokevirtual index, 3))
    (kk : ∀ (r : Option Value) (M' : Mm) (H' : Heap) (locs' : List Loc), post r M' → wd g H' locs' M' → W p l e R s m args below meth c H' locs' cells slots Q (F0 m (pc + 3) ls (r.toList ++ rest))) : W p l e R s m args below meth c H locs cells slots Q (F0 m pc ls st0) :=
  ct_run hw (va_runV (C := q.1) ⟨E.1, E.2.1, E.2.2.2.1, E.2.2.2.2.1, E.2.2.2.2.2.1⟩ hC ⟨ct_cb E hcode hini hlk hd hR, E.2.2.2.2.2.1 _ hin, E.2.2.2.2.2.1 _ hse⟩ ⟨cP.blind, va_recv K.1 (ho.P hw) hcl (q0 := 0) rfl, (ct_pre K hw).2⟩ rfl hn hl hstk (lv_room hW) hdg hf) kk
end WDC
end
section
/-! numbers: words, longs, and rows of words as numbers -/
def w4 (v : Int32) : Nat := v.toBitVec.toNat
def w8 (v : Int64) : Nat := v.toBitVec.toNat
theorem w4_lt (v : Int32) : w4 v < 4294967296 := v.toBitVec.isLt
theorem w8_lt (v : Int64) : w8 v < 18446744073709551616 := v.toBitVec.isLt
theorem w4_inj {a b : Int32} (h : w4 a = w4 b) : a = b := Int32.toBitVec_inj.mp (BitVec.eq_of_toNat_eq h)
theorem w8_inj {a b : Int64} (h : w8 a = w8 b) : a = b := Int64.toBitVec_inj.mp (BitVec.eq_of_toNat_eq h)
theorem w4_nI (n : Nat) : w4 (nI n) = n % 4294967296 := by
  unfold w4 nI; first | rfl | simp
theorem w4_add (a b : Int32) : w4 (a + b) = (w4 a + w4 b) % 4294967296 := by
  unfold w4; rw [Int32.toBitVec_add, BitVec.toNat_add]
theorem w4_mul (a b : Int32) : w4 (a * b) = (w4 a * w4 b) % 4294967296 := by
  unfold w4; rw [Int32.toBitVec_mul, BitVec.toNat_mul]
theorem w8_add (a b : Int64) : w8 (a + b) = (w8 a + w8 b) % 18446744073709551616 := by
  unfold w8; rw [Int64.toBitVec_add, BitVec.toNat_add]
theorem w8_mul (a b : Int64) : w8 (a * b) = (w8 a * w8 b) % 18446744073709551616 := by
  unfold w8; rw [Int64.toBitVec_mul, BitVec.toNat_mul]
theorem w8_sub (a b : Int64) : w8 (a - b) = (18446744073709551616 - w8 b + w8 a) % 18446744073709551616 := by
  unfold w8; rw [Int64.toBitVec_sub, BitVec.toNat_sub]
theorem w8_0 : w8 0 = 0 := by decide
theorem w8_1 : w8 1 = 1 := by decide
theorem w4_0 : w4 0 = 0 := by decide
theorem w4_1 : w4 1 = 1 := by decide
theorem w8_i (a : Int32) : w8 (a.toInt64 &&& 4294967295) = w4 a := by
  unfold w8 w4
  rw [Int64.toBitVec_and, Int32.toBitVec_toInt64]
  have h : (4294967295 : Int64).toBitVec = BitVec.ofNat 64 (2 ^ 32 - 1) := by decide
  rw [h]
  have h2 : a.toBitVec.signExtend 64 &&& BitVec.ofNat 64 (2 ^ 32 - 1) = a.toBitVec.zeroExtend 64 := by
    apply BitVec.eq_of_getLsbD_eq
    intro i hi
    simp only [BitVec.getLsbD_and, BitVec.getLsbD_signExtend, BitVec.getLsbD_ofNat, BitVec.getLsbD_setWidth, Nat.testBit_two_pow_sub_one]
    by_cases h3 : i < 32
    · simp [h3, hi]
    · have h4 : a.toBitVec.getLsbD i = false := BitVec.getLsbD_of_ge _ _ (by omega)
      simp [h3, hi, h4]
  rw [h2, BitVec.toNat_setWidth, Nat.mod_eq_of_lt]
  exact Nat.lt_of_lt_of_le a.toBitVec.isLt (by decide)
theorem w4_l (a : Int64) : w4 a.toInt32 = w8 a % 4294967296 := by
  unfold w8 w4
  rw [Int64.toBitVec_toInt32, BitVec.signExtend_eq_setWidth_of_le _ (by decide), BitVec.toNat_setWidth]
theorem w8_s32 (a : Int64) : w8 (a.toUInt64 >>> ((32 : Int32).toInt64.toUInt64 &&& Int64.toUInt64 63)).toInt64 = w8 a / 4294967296 := by
  unfold w8
  have h : ((32 : Int32).toInt64.toUInt64 &&& Int64.toUInt64 63) = 32 := by decide
  rw [h]
  show (a.toUInt64 >>> (32 : UInt64)).toBitVec.toNat = _
  rw [UInt64.toBitVec_shiftRight, BitVec.ushiftRight_eq', BitVec.toNat_ushiftRight, Nat.shiftRight_eq_div_pow]
  rfl
theorem w8_neg (a : Int64) : a < 0 ↔ 9223372036854775808 ≤ w8 a := by
  rw [Int64.lt_iff_toInt_lt]
  show a.toBitVec.toInt < 0 ↔ _
  rw [BitVec.toInt_eq_toNat_cond]
  have := a.toBitVec.isLt
  unfold w8
  split <;> omega
theorem w4_int {a : Int32} (h : w4 a < 2147483648) : a.toInt = (w4 a : Int) := by
  show a.toBitVec.toInt = _
  rw [BitVec.toInt_eq_toNat_cond]
  unfold w4 at h ⊢
  rw [if_pos (by omega)]
theorem w4_of {a : Int32} {n : Nat} (h : a.toInt = (n : Int)) : w4 a = n := by
  have h2 : a.toBitVec.toInt = (n : Int) := h
  rw [BitVec.toInt_eq_toNat_cond] at h2
  have := a.toBitVec.isLt
  unfold w4
  split at h2 <;> omega
theorem w4_and (a m : Int32) (k : Nat) (hm : m.toBitVec.toNat = 2 ^ k - 1) (hk : k < 32) : w4 (a &&& m) = w4 a % 2 ^ k := by
  rw [pk_and a k hm, w4_nI]
  unfold w4
  have h1 : a.toBitVec.toNat % 2 ^ k < 2 ^ k := Nat.mod_lt _ (Nat.two_pow_pos k)
  have h2 : 2 ^ k ≤ 2 ^ 32 := Nat.pow_le_pow_right (by decide) (Nat.le_of_lt hk)
  exact Nat.mod_eq_of_lt (Nat.lt_of_lt_of_le h1 h2)
theorem i_add {a b : Int32} {x y : Int} (ha : a.toInt = x) (hb : b.toInt = y) (h1 : -2147483648 ≤ x + y) (h2 : x + y < 2147483648) : (a + b).toInt = x + y := by
  rw [Jvm.Kit.i32_add (by omega) (by omega), ha, hb]
theorem i_sub {a b : Int32} {x y : Int} (ha : a.toInt = x) (hb : b.toInt = y) (h1 : -2147483648 ≤ x - y) (h2 : x - y < 2147483648) : (a - b).toInt = x - y := by
  rw [Int32.toInt_sub, ha, hb]
  first | exact Jvm.Kit.bmod32 h1 h2 | (unfold Int.bmod; omega)
/-- a digit and what is carried on -/
theorem dg_step (v : Int32) : w4 (v &&& 65535) < 65536 ∧ (w4 (v &&& 65535) : Int) + 65536 * (v >>> ((16 : Int32) &&& 31)).toInt = v.toInt := by
  have h1 := w4_and v 65535 16 (by decide) (by decide)
  have h2 := pk_shr v ((16 : Int32) &&& 31) 16 (by decide)
  rw [h1, h2, Int.shiftRight_eq_div_pow]
  have h3 : v.toInt = if 2 * w4 v < 4294967296 then (w4 v : Int) else (w4 v : Int) - 4294967296 := by
    show v.toBitVec.toInt = _
    rw [BitVec.toInt_eq_toNat_cond]
    rfl
  have := w4_lt v
  rw [h3]
  split <;> omega
def vN (B : Nat) (f : Nat → Int32) : Nat → Nat
  | 0 => 0
  | n + 1 => vN B f n + w4 (f n) * B ^ n
termination_by n => n
theorem vN_0 (B : Nat) (f : Nat → Int32) : vN B f 0 = 0 := by rw [vN]
theorem vN_s (B : Nat) (f : Nat → Int32) (n : Nat) : vN B f (n + 1) = vN B f n + w4 (f n) * B ^ n := by rw [vN]
theorem vN_congr {B : Nat} {f h : Nat → Int32} : ∀ {n : Nat}, (∀ j, j < n → f j = h j) → vN B f n = vN B h n
  | 0, _ => by rw [vN_0, vN_0]
  | n + 1, e => by
    rw [vN, vN, vN_congr (fun j hj => e j (by omega)), e n (by omega)]
theorem vN_lt {B : Nat} {f : Nat → Int32} : ∀ {n : Nat}, (∀ j, j < n → w4 (f j) < B) → vN B f n < B ^ n
  | 0, _ => by rw [vN_0]; exact Nat.one_pos
  | n + 1, e => by
    have h1 := vN_lt (n := n) (fun j hj => e j (by omega))
    have h2 := Nat.mul_le_mul_right (B ^ n) (e n (by omega))
    rw [vN, Nat.pow_succ, Nat.mul_comm (B ^ n) B]
    rw [Nat.succ_mul] at h2
    omega
theorem vN_lt32 (f : Nat → Int32) (n : Nat) : vN 4294967296 f n < 4294967296 ^ n := vN_lt (fun j _ => w4_lt _)
/-- from the highest place down: the first that differs decides -/
theorem vN_cmp {B : Nat} {f h : Nat → Int32} {i : Nat} : ∀ {n : Nat}, i < n → (∀ j, j < n → w4 (f j) < B) → (∀ j, i < j → j < n → f j = h j) → w4 (f i) < w4 (h i) → vN B f n < vN B h n
  | 0, hi, _, _, _ => absurd hi (Nat.not_lt_zero _)
  | n + 1, hi, hf, he, hl => by
    rw [vN, vN]
    by_cases hin : i = n
    · subst hin
      have h1 := vN_lt (n := i) (fun j hj => hf j (by omega))
      have h2 := Nat.mul_le_mul_right (B ^ i) hl
      rw [Nat.succ_mul] at h2
      omega
    · have := vN_cmp (B := B) (f := f) (h := h) (i := i) (n := n) (by omega) (fun j hj => hf j (by omega)) (fun j h1 h2 => he j h1 (by omega)) hl
      rw [he n (by omega) (by omega)]
      omega
theorem vN_zero {B : Nat} {f : Nat → Int32} (hB : 0 < B) : ∀ {n : Nat}, vN B f n = 0 ↔ ∀ j, j < n → f j = 0
  | 0 => ⟨fun _ j hj => absurd hj (Nat.not_lt_zero _), fun _ => vN_0 _ _⟩
  | n + 1 => by
    rw [vN]
    have ih := vN_zero (B := B) (f := f) hB (n := n)
    have hp := Nat.pow_pos (n := n) hB
    constructor
    · intro h j hj
      have h1 : vN B f n = 0 := by omega
      have h2 : w4 (f n) * B ^ n = 0 := by omega
      rcases Nat.mul_eq_zero.mp h2 with h3 | h3
      · by_cases hjn : j = n
        · subst hjn; exact w4_inj (by rw [h3, w4_0])
        · exact ih.mp h1 j (by omega)
      · omega
    · intro h
      rw [ih.mpr (fun j hj => h j (by omega)), h n (by omega), w4_0]
      simp
/-- a word of a number -/
theorem vN_dig {B : Nat} {f : Nat → Int32} (hB : 0 < B) {k : Nat} : ∀ {n : Nat}, k < n → (∀ j, j < n → w4 (f j) < B) → vN B f n / B ^ k % B = w4 (f k)
  | 0, hk, _ => absurd hk (Nat.not_lt_zero _)
  | n + 1, hk, hf => by
    have hp := Nat.pow_pos (n := k) hB
    rw [vN]
    by_cases hkn : k = n
    · subst hkn
      have h1 := vN_lt (n := k) (fun j hj => hf j (by omega))
      rw [Nat.add_mul_div_right _ _ hp, Nat.div_eq_of_lt h1, Nat.zero_add, Nat.mod_eq_of_lt (hf k (by omega))]
    · have ih := vN_dig (B := B) (f := f) hB (k := k) (n := n) (by omega) (fun j hj => hf j (by omega))
      have e : B ^ n = B * B ^ (n - k - 1) * B ^ k := by
        rw [← Nat.pow_succ', ← Nat.pow_add]; congr 1; omega
      rw [e, ← Nat.mul_assoc, Nat.add_mul_div_right _ _ hp, ← Nat.mul_assoc, Nat.mul_comm (w4 (f n)) B, Nat.mul_assoc, Nat.add_mul_mod_self_left]
      exact ih
theorem vN_ext {B : Nat} {f h : Nat → Int32} (hB : 0 < B) {n : Nat} (hf : ∀ j, j < n → w4 (f j) < B) (hh : ∀ j, j < n → w4 (h j) < B) (e : vN B f n = vN B h n) : ∀ j, j < n → f j = h j := by
  intro j hj
  apply w4_inj
  rw [← vN_dig hB hj hf, ← vN_dig hB hj hh, e]
/-- memory: all but the first i places of the row t stay -/
def kp (M M' : Mm) (t i : Nat) : Prop := ∀ q j, (q = t → i ≤ j) → M' q j = M q j
theorem kp.rf {M : Mm} {t i : Nat} : kp M M t i := fun _ _ _ => rfl
theorem kp.st {M M' : Mm} {t i : Nat} (h : kp M M' t i) (v : Int32) : kp M (mst M' t i v) t (i + 1) := by
  intro q j hq
  unfold mst
  rw [if_neg (by rintro ⟨rfl, rfl⟩; have := hq rfl; omega)]
  exact h q j (fun z => by have := hq z; omega)
theorem kp.out {M M' : Mm} {t i q : Nat} (h : kp M M' t i) (hq : q ≠ t) : M' q = M q := funext fun j => h q j (fun z => absurd z hq)
theorem mst_at {M : Mm} {t i : Nat} {v : Int32} : mst M t i v t i = v := by simp [mst]
theorem mst_ne {M : Mm} {t i q j : Nat} {v : Int32} (h : q = t → j ≠ i) : mst M t i v q j = M q j := by
  unfold mst
  rw [if_neg (by rintro ⟨h1, h2⟩; exact h h1 h2)]
theorem mst_out {M : Mm} {t i q : Nat} {v : Int32} (h : q ≠ t) : mst M t i v q = M q := funext fun j => mst_ne (fun z => absurd z h)
theorem vN_mst {B : Nat} {M : Mm} {t i : Nat} {v : Int32} : vN B (mst M t i v t) (i + 1) = vN B (M t) i + w4 v * B ^ i := by
  rw [vN, mst_at, vN_congr (fun j hj => mst_ne (fun _ => by omega))]
end
section
/-! steps of the loops, in plain numbers -/
theorem kp.tr {M M1 M2 : Mm} {t i : Nat} (h : kp M M1 t i) (h2 : kp M1 M2 t i) : kp M M2 t i := fun q j hq => (h2 q j hq).trans (h q j hq)
theorem or_zero (a b : Int32) : a ||| b = 0 ↔ a = 0 ∧ b = 0 := by
  rw [← Int32.toBitVec_inj, ← Int32.toBitVec_inj, ← Int32.toBitVec_inj, Int32.toBitVec_or]
  exact BitVec.or_eq_zero_iff
abbrev B4 : Nat := 4294967296
abbrev V8 (f : Nat → Int32) : Nat := vN 4294967296 f 8
abbrev TT : Nat := 115792089237316195423570985008687907853269984665640564039457584007913129639936
abbrev PP : Nat := 115792089237316195423570985008687907853269984665640564039457584007908834671663
theorem V8_lt (f : Nat → Int32) : V8 f < TT := Nat.lt_of_lt_of_eq (vN_lt32 f 8) (by decide)
theorem num_add {vt va vb c c' z a b B P : Nat} (h : vt + c * P = va + vb) (hs : z + c' * B = a + b + c) : vt + z * P + c' * (P * B) = va + a * P + (vb + b * P) := by grind
theorem num_sub {vt va vb c c' z a b B P : Nat} (h : vt + vb = va + c * P) (hs : z + b + c = a + c' * B) : vt + z * P + (vb + b * P) = va + a * P + c' * (P * B) := by grind
theorem num_put {vt vr vb c c' z r b w B P : Nat} (h : vt + c * P = vr + w * vb) (hs : z + c' * B = w * b + r + c) : vt + z * P + c' * (P * B) = vr + r * P + w * (vb + b * P) := by grind
theorem sum_step {cv v cv' : Int64} {a b z : Int32} (e1 : v = cv + ((a.toInt64 &&& 4294967295) + (b.toInt64 &&& 4294967295))) (hc : w8 cv ≤ 1) (ez : z = v.toInt32) (ec : cv' = (v.toUInt64 >>> ((Int32.toInt64 32).toUInt64 &&& Int64.toUInt64 63)).toInt64) :
    w8 cv' ≤ 1 ∧ w4 z + w8 cv' * 4294967296 = w4 a + w4 b + w8 cv := by
  have h1 := w4_lt a
  have h2 := w4_lt b
  have h3 : w8 v = w8 cv + (w4 a + w4 b) := by
    rw [e1, w8_add, w8_add, w8_i, w8_i]
    omega
  have h4 : w8 cv' = w8 v / 4294967296 := by rw [ec]; exact w8_s32 v
  have h5 : w4 z = w8 v % 4294967296 := by rw [ez]; exact w4_l v
  omega
theorem dif_step {cv v : Int64} {a b z : Int32} (e1 : v = (a.toInt64 &&& 4294967295) - (b.toInt64 &&& 4294967295) - cv) (hc : w8 cv ≤ 1) (ez : z = v.toInt32) :
    (0 ≤ v → w4 z + w4 b + w8 cv = w4 a) ∧ (¬ 0 ≤ v → w4 z + w4 b + w8 cv = w4 a + 4294967296) := by
  have h1 := w4_lt a
  have h2 := w4_lt b
  have h3 : w8 v = (18446744073709551616 - w8 cv + (18446744073709551616 - w4 b + w4 a) % 18446744073709551616) % 18446744073709551616 := by
    rw [e1, w8_sub, w8_sub, w8_i, w8_i]
  have h5 : w4 z = w8 v % 4294967296 := by rw [ez]; exact w4_l v
  have h6 : 0 ≤ v ↔ ¬ 9223372036854775808 ≤ w8 v := by
    rw [← w8_neg, Int64.lt_iff_toInt_lt, Int64.le_iff_toInt_le]
    omega
  constructor
  · intro h; rw [h6] at h; omega
  · intro h; rw [h6] at h; omega
theorem put_step {cv v cv' : Int64} {w b r z : Int32} (e1 : v = cv + ((w.toInt64 &&& 4294967295) * (b.toInt64 &&& 4294967295) + (r.toInt64 &&& 4294967295))) (hc : w8 cv < 4294967296) (ez : z = v.toInt32) (ec : cv' = (v.toUInt64 >>> ((Int32.toInt64 32).toUInt64 &&& Int64.toUInt64 63)).toInt64) :
    w8 cv' < 4294967296 ∧ w4 z + w8 cv' * 4294967296 = w4 w * w4 b + w4 r + w8 cv := by
  have h1 := w4_lt w
  have h2 := w4_lt b
  have h3 := w4_lt r
  have hm : w4 w * w4 b ≤ 4294967295 * 4294967295 := Nat.mul_le_mul (by omega) (by omega)
  have h4 : w8 v = w8 cv + (w4 w * w4 b + w4 r) := by
    rw [e1, w8_add, w8_add, w8_mul, w8_i, w8_i, w8_i]
    omega
  have h5 : w8 cv' = w8 v / 4294967296 := by rw [ec]; exact w8_s32 v
  have h6 : w4 z = w8 v % 4294967296 := by rw [ez]; exact w4_l v
  omega
end
section
theorem ltL_iff (a b : Int32) : ((a.toInt64 &&& 4294967295) ≤ (b.toInt64 &&& 4294967295)) ↔ w4 a ≤ w4 b := by
  have h1 : ∀ z : Int32, (z.toInt64 &&& 4294967295).toInt = (w4 z : Int) := fun z => by
    show (z.toInt64 &&& 4294967295).toBitVec.toInt = _
    have h2 := w8_i z
    have h3 := w4_lt z
    rw [BitVec.toInt_eq_toNat_cond]
    unfold w8 at h2
    rw [h2, if_pos (by omega)]
  rw [Int64.le_iff_toInt_le, h1, h1]
  omega
set_option maxHeartbeats 4000000 in
set_option maxRecDepth 100000 in
/-- Field.copy(a, t) -/
theorem c_F_copy (l : Launch) (g : wg) (a t : Nat) (M : Mm) (ha : aok g a 8) (ht : aok g t 8) : Ct l y_F_copy b_F_copy 3 none 0 0 g [.ref a, .ref t] M (fun r M' => r = none ∧ kp M M' t 8 ∧ ∀ j, j < 8 → M' t j = M a j) := by
  refine Ct.of rfl (Nat.le_of_ble_eq_true rfl) (fun p e s m args below meth c H ls Q E K hQ hW hl => ?_)
  have hx := E.1
  have hb := E.2.1
  have hown := E.2.2.2.2.1
  have hts := E.2.2.2.2.2.1
  have hl : lv_has ls 3 [(0, .ref a), (1, .ref t)] := hl
  have loop : ∀ (d i : Nat) (M1 : Mm) (H : Heap) (locs : List Loc) (ls : Array Slot), i ≤ 8 → 8 + 1 ≤ i + d → kp M M1 t i → (∀ j, j < i → M1 t j = M a j) → wd g H locs M1 → lv_has ls 3 [(2, .int (nI i)), (0, .ref a), (1, .ref t)] → W p l e (rmm 0 0) s m args below meth c H locs 0 0 Q (F0 m 2 ls []) := by
    intro d
    induction d with
    | zero => intro i M1 H locs ls h1 h2; exact absurd h2 (by omega)
    | succ d ih =>
      intro i M1 H locs ls h1 h2 hk hI hW hl
      refine lv_iload_n hx hb d_F_copy_2 rfl (lv_at hl 0 rfl) ?_
      refine lv_bipush (v := 8) hx hb d_F_copy_3 (by decide) ?_
      refine lv_icmp_ge (tgt := 20) hx hb d_F_copy_5 (by decide) (fun c1 => ?_) (fun c1 => ?_)
      · have c2 := (nI_leI (a := 8) (b := i) (by decide) (by omega)).mp c1
        obtain rfl : i = 8 := by omega
        exact ct_v E hQ hW d_F_copy_20 ⟨rfl, hk, hI⟩
      · have c2 : i < 8 := Nat.not_le.mp (fun z => c1 ((nI_leI (a := 8) (b := i) (by decide) (by omega)).mpr z))
        refine lv_aload_n hx hb d_F_copy_8 rfl (lv_at hl 2 rfl) ?_
        refine lv_iload_n hx hb d_F_copy_9 rfl (lv_at hl 0 rfl) ?_
        refine lv_aload_n hx hb d_F_copy_10 rfl (lv_at hl 1 rfl) ?_
        refine lv_iload_n hx hb d_F_copy_11 rfl (lv_at hl 0 rfl) ?_
        refine wd_ld E K hW ha i rfl (by omega) d_F_copy_12 ?_
        refine lv_topi (fun v ev => ?_)
        refine wd_st E K hW ht i rfl (by omega) d_F_copy_13 (fun H locs hW => ?_)
        refine lv_iinc (v := (nI (i + 1))) (lv' := [(2, .int (nI (i + 1))), (0, .ref a), (1, .ref t)]) hx hb d_F_copy_14 hl (k := 0) rfl (nI_1 _) (by decide) rfl (fun ls hl => ?_)
        refine lv_goto (tgt := 2) hx hb d_F_copy_17 (by decide) ?_
        refine ih (i + 1) _ H locs ls (by omega) (by omega) (hk.st _) (fun j hj => ?_) hW hl
        by_cases hji : j = i
        · subst hji; rw [mst_at, ev]; exact hk a j (fun _ => Nat.le_refl _)
        · rw [mst_ne (fun _ => hji)]; exact hI j (by omega)
  refine lv_iconst (v := 0) hx hb d_F_copy_0 (by decide) ?_
  refine lv_istore_n (lv' := [(2, .int 0), (0, .ref a), (1, .ref t)]) hx hb d_F_copy_1 rfl hl (by decide) rfl (fun ls hl => ?_)
  exact loop 9 0 M H [] ls (by omega) (by omega) kp.rf (fun j hj => absurd hj (by omega)) hW hl
set_option maxHeartbeats 4000000 in
set_option maxRecDepth 100000 in
/-- Field.isZero(a) -/
theorem c_F_isZero (l : Launch) (g : wg) (a : Nat) (M : Mm) (ha : aok g a 8) : Ct l y_F_isZero b_F_isZero 3 (some .boolean) 0 0 g [.ref a] M (fun r M' => r = some (.int (if V8 (M a) = 0 then 1 else 0)) ∧ M' = M) := by
  refine Ct.of rfl (Nat.le_of_ble_eq_true rfl) (fun p e s m args below meth c H ls Q E K hQ hW hl => ?_)
  have hx := E.1
  have hb := E.2.1
  have hown := E.2.2.2.2.1
  have hts := E.2.2.2.2.2.1
  have hl : lv_has ls 3 [(0, .ref a)] := hl
  have loop : ∀ (d i : Nat) (al : Int32) (ls : Array Slot), i ≤ 8 → 8 + 1 ≤ i + d → (al = 0 ↔ ∀ j, j < i → M a j = 0) → lv_has ls 3 [(2, .int (nI i)), (1, .int al), (0, .ref a)] → W p l e (rmm 0 0) s m args below meth c H [] 0 0 Q (F0 m 4 ls []) := by
    intro d
    induction d with
    | zero => intro i al ls h1 h2; exact absurd h2 (by omega)
    | succ d ih =>
      intro i al ls h1 h2 hI hl
      refine lv_iload_n hx hb d_F_isZero_4 rfl (lv_at hl 0 rfl) ?_
      refine lv_bipush (v := 8) hx hb d_F_isZero_5 (by decide) ?_
      refine lv_icmp_ge (tgt := 22) hx hb d_F_isZero_7 (by decide) (fun c1 => ?_) (fun c1 => ?_)
      · have c2 := (nI_leI (a := 8) (b := i) (by decide) (by omega)).mp c1
        obtain rfl : i = 8 := by omega
        have hz := vN_zero (B := 4294967296) (f := M a) (by decide) (n := 8)
        refine lv_iload_n hx hb d_F_isZero_22 rfl (lv_at hl 1 rfl) ?_
        refine lv_if_ne (tgt := 30) hx hb d_F_isZero_23 (by decide) (fun c3 => ?_) (fun c3 => ?_)
        · have hv : ¬ V8 (M a) = 0 := fun z => c3 (hI.mpr (hz.mp z))
          refine lv_iconst (v := 0) hx hb d_F_isZero_30 (by decide) ?_
          exact ct_z E hQ hW (Or.inl rfl) d_F_isZero_31 ⟨by rw [if_neg hv], rfl⟩
        · have hv : V8 (M a) = 0 := hz.mpr (hI.mp c3)
          refine lv_iconst (v := 1) hx hb d_F_isZero_26 (by decide) ?_
          refine lv_goto (tgt := 31) hx hb d_F_isZero_27 (by decide) ?_
          exact ct_z E hQ hW (Or.inr rfl) d_F_isZero_31 ⟨by rw [if_pos hv], rfl⟩
      · have c2 : i < 8 := Nat.not_le.mp (fun z => c1 ((nI_leI (a := 8) (b := i) (by decide) (by omega)).mpr z))
        refine lv_iload_n hx hb d_F_isZero_10 rfl (lv_at hl 1 rfl) ?_
        refine lv_aload_n hx hb d_F_isZero_11 rfl (lv_at hl 2 rfl) ?_
        refine lv_iload_n hx hb d_F_isZero_12 rfl (lv_at hl 0 rfl) ?_
        refine wd_ld E K hW ha i rfl (by omega) d_F_isZero_13 ?_
        refine lv_ior hx hb d_F_isZero_14 ?_
        refine lv_topi (fun u eu => ?_)
        refine lv_istore_n (lv' := [(1, .int u), (2, .int (nI i)), (0, .ref a)]) hx hb d_F_isZero_15 rfl hl (by decide) rfl (fun ls hl => ?_)
        refine lv_iinc (v := (nI (i + 1))) (lv' := [(2, .int (nI (i + 1))), (1, .int u), (0, .ref a)]) hx hb d_F_isZero_16 hl (k := 1) rfl (nI_1 _) (by decide) rfl (fun ls hl => ?_)
        refine lv_goto (tgt := 4) hx hb d_F_isZero_19 (by decide) ?_
        refine ih (i + 1) u ls (by omega) (by omega) ?_ hl
        rw [eu, or_zero, hI]
        exact ⟨fun z j hj => by
          by_cases hji : j = i
          · rw [hji]; exact z.2
          · exact z.1 j (by omega), fun z => ⟨fun j hj => z j (by omega), z i (by omega)⟩⟩
  refine lv_iconst (v := 0) hx hb d_F_isZero_0 (by decide) ?_
  refine lv_istore_n (lv' := [(1, .int 0), (0, .ref a)]) hx hb d_F_isZero_1 rfl hl (by decide) rfl (fun ls hl => ?_)
  refine lv_iconst (v := 0) hx hb d_F_isZero_2 (by decide) ?_
  refine lv_istore_n (lv' := [(2, .int 0), (1, .int 0), (0, .ref a)]) hx hb d_F_isZero_3 rfl hl (by decide) rfl (fun ls hl => ?_)
  exact loop 9 0 0 ls (by omega) (by omega) ⟨fun _ j hj => absurd hj (by omega), fun _ => rfl⟩ hl
set_option maxHeartbeats 4000000 in
set_option maxRecDepth 100000 in
/-- Field.isLess(a) -/
theorem c_F_isLess (l : Launch) (g : wg) (o pr bk on rw pw bs : Nat) (mn : Int32) (a : Nat) (M : Mm) (ho : ob g o 1 [.ref pr, .ref bk, .ref on, .ref rw, .ref pw, .ref bs, .int mn]) (hp : aok g pr 8) (ha : aok g a 8) : Ct l y_F_isLess b_F_isLess 3 (some .boolean) 0 0 g [.ref o, .ref a] M (fun r M' => r = some (.int (if V8 (M a) < V8 (M pr) then 1 else 0)) ∧ M' = M) := by
  refine Ct.of rfl (Nat.le_of_ble_eq_true rfl) (fun p e s m args below meth c H ls Q E K hQ hW hl => ?_)
  have hx := E.1
  have hb := E.2.1
  have hown := E.2.2.2.2.1
  have hts := E.2.2.2.2.2.1
  have hl : lv_has ls 3 [(0, .ref o), (1, .ref a)] := hl
  have loop : ∀ (k : Nat) (v : Int32) (ls : Array Slot), v = nI k + (-1) → k ≤ 8 → (∀ j, k ≤ j → j < 8 → M a j = M pr j) → lv_has ls 3 [(2, .int v), (0, .ref o), (1, .ref a)] → W p l e (rmm 0 0) s m args below meth c H [] 0 0 Q (F0 m 3 ls []) := by
    intro k
    induction k with
    | zero =>
      intro v ls hv h1 hI hl
      subst hv
      refine lv_iload_n hx hb d_F_isLess_3 rfl (lv_at hl 0 rfl) ?_
      refine lv_if_lt (tgt := 54) hx hb d_F_isLess_4 (by decide) (fun c1 => ?_) (fun c1 => ?_)
      · refine lv_iconst (v := 0) hx hb d_F_isLess_54 (by decide) ?_
        have hv : ¬ V8 (M a) < V8 (M pr) := by rw [V8, V8, vN_congr (fun j hj => hI j (by omega) hj)]; exact Nat.lt_irrefl _
        exact ct_z E hQ hW (Or.inl rfl) d_F_isLess_55 ⟨by rw [if_neg hv], rfl⟩
      · exact absurd (by decide) c1
    | succ k ih =>
      intro v ls hv h1 hI hl
      rw [pk_m1] at hv
      subst hv
      refine lv_iload_n hx hb d_F_isLess_3 rfl (lv_at hl 0 rfl) ?_
      refine lv_if_lt (tgt := 54) hx hb d_F_isLess_4 (by decide) (fun c1 => ?_) (fun c1 => ?_)
      · exact absurd c1 (nI_pos (by omega))
      · refine lv_aload_n hx hb d_F_isLess_7 rfl (lv_at hl 2 rfl) ?_
        refine lv_iload_n hx hb d_F_isLess_8 rfl (lv_at hl 0 rfl) ?_
        refine wd_ld E K hW ha k rfl (by omega) d_F_isLess_9 ?_
        refine lv_aload_n hx hb d_F_isLess_10 rfl (lv_at hl 1 rfl) ?_
        refine wd_get E K hW ho rfl i_F 0 (by decide) k_21 rfl d_F_isLess_11 ?_
        refine lv_iload_n hx hb d_F_isLess_14 rfl (lv_at hl 0 rfl) ?_
        refine wd_ld E K hW hp k rfl (by omega) d_F_isLess_15 ?_
        refine lv_icmp_eq (tgt := 48) hx hb d_F_isLess_16 (by decide) (fun c2 => ?_) (fun c2 => ?_)
        · refine lv_iinc (v := (nI k + (-1))) (lv' := [(2, .int (nI k + (-1))), (0, .ref o), (1, .ref a)]) hx hb d_F_isLess_48 hl (k := 0) rfl rfl (by decide) rfl (fun ls hl => ?_)
          refine lv_goto (tgt := 3) hx hb d_F_isLess_51 (by decide) ?_
          refine ih _ ls rfl (by omega) (fun j h2 h3 => ?_) hl
          by_cases hjk : j = k
          · rw [hjk]; exact c2
          · exact hI j (by omega) h3
        · refine lv_aload_n hx hb d_F_isLess_19 rfl (lv_at hl 2 rfl) ?_
          refine lv_iload_n hx hb d_F_isLess_20 rfl (lv_at hl 0 rfl) ?_
          refine wd_ld E K hW ha k rfl (by omega) d_F_isLess_21 ?_
          refine lv_i2l hx hb d_F_isLess_22 rfl ?_
          refine lv_ldc2 hx hb hown (hts _ k_77) d_F_isLess_23 ?_
          refine lv_land hx hb d_F_isLess_26 ?_
          refine lv_aload_n hx hb d_F_isLess_27 rfl (lv_at hl 1 rfl) ?_
          refine wd_get E K hW ho rfl i_F 0 (by decide) k_21 rfl d_F_isLess_28 ?_
          refine lv_iload_n hx hb d_F_isLess_31 rfl (lv_at hl 0 rfl) ?_
          refine wd_ld E K hW hp k rfl (by omega) d_F_isLess_32 ?_
          refine lv_i2l hx hb d_F_isLess_33 rfl ?_
          refine lv_ldc2 hx hb hown (hts _ k_77) d_F_isLess_34 ?_
          refine lv_land hx hb d_F_isLess_37 ?_
          refine W.lcmp hx hb d_F_isLess_38 ?_
          refine lv_if_ge (tgt := 46) hx hb d_F_isLess_39 (by decide) (fun c3 => ?_) (fun c3 => ?_)
          · have hv : ¬ V8 (M a) < V8 (M pr) := by
              have h4 : w4 (M pr k) < w4 (M a k) := by
                have h5 := (ltL_iff (M pr k) (M a k)).mp ((lg_cmp_ge _ _).mp c3)
                have h7 : w4 (M a k) ≠ w4 (M pr k) := fun z => c2 (w4_inj z)
                omega
              have h8 := vN_cmp (B := 4294967296) (f := M pr) (h := M a) (n := 8) (i := k) (by omega) (fun j _ => w4_lt _) (fun j h2 h3 => (hI j (by omega) h3).symm) h4
              exact Nat.not_lt.mpr (Nat.le_of_lt h8)
            refine lv_iconst (v := 0) hx hb d_F_isLess_46 (by decide) ?_
            exact ct_z E hQ hW (Or.inl rfl) d_F_isLess_47 ⟨by rw [if_neg hv], rfl⟩
          · have hv : V8 (M a) < V8 (M pr) := by
              have h4 : w4 (M a k) < w4 (M pr k) := by
                have h5 : ¬ _ := fun z => c3 ((lg_cmp_ge _ _).mpr ((ltL_iff (M pr k) (M a k)).mpr z))
                omega
              exact vN_cmp (B := 4294967296) (f := M a) (h := M pr) (n := 8) (i := k) (by omega) (fun j _ => w4_lt _) (fun j h2 h3 => (hI j (by omega) h3)) h4
            refine lv_iconst (v := 1) hx hb d_F_isLess_42 (by decide) ?_
            refine lv_goto (tgt := 47) hx hb d_F_isLess_43 (by decide) ?_
            exact ct_z E hQ hW (Or.inr rfl) d_F_isLess_47 ⟨by rw [if_pos hv], rfl⟩
  refine lv_bipush (v := 7) hx hb d_F_isLess_0 (by decide) ?_
  refine lv_istore_n (lv' := [(2, .int 7), (0, .ref o), (1, .ref a)]) hx hb d_F_isLess_2 rfl hl (by decide) rfl (fun ls hl => ?_)
  exact loop 8 7 ls (by decide) (by omega) (fun j h2 h3 => absurd h3 (by omega)) hl
set_option maxHeartbeats 4000000 in
set_option maxRecDepth 100000 in
/-- Field.sum(a, b, t) -/
theorem c_F_sum (l : Launch) (g : wg) (a b t : Nat) (M : Mm) (ha : aok g a 8) (hb2 : aok g b 8) (ht : aok g t 8) : Ct l y_F_sum b_F_sum 6 (some .long) 0 0 g [.ref a, .ref b, .ref t] M (fun r M' => ∃ cv : Int64, r = some (.long cv) ∧ kp M M' t 8 ∧ w8 cv ≤ 1 ∧ V8 (M' t) + w8 cv * TT = V8 (M a) + V8 (M b)) := by
  refine Ct.of rfl (Nat.le_of_ble_eq_true rfl) (fun p e s m args below meth c H ls Q E K hQ hW hl => ?_)
  have hx := E.1
  have hb := E.2.1
  have hown := E.2.2.2.2.1
  have hts := E.2.2.2.2.2.1
  have hl : lv_has ls 6 [(0, .ref a), (1, .ref b), (2, .ref t)] := hl
  have loop : ∀ (d i : Nat) (M1 : Mm) (H : Heap) (locs : List Loc) (cv : Int64) (ls : Array Slot), i ≤ 8 → 8 + 1 ≤ i + d → kp M M1 t i → w8 cv ≤ 1 → vN 4294967296 (M1 t) i + w8 cv * 4294967296 ^ i = vN 4294967296 (M a) i + vN 4294967296 (M b) i → wd g H locs M1 → lv_has ls 6 [(5, .int (nI i)), (3, .long cv), (0, .ref a), (1, .ref b), (2, .ref t)] → W p l e (rmm 0 0) s m args below meth c H locs 0 0 Q (F0 m 5 ls []) := by
    intro d
    induction d with
    | zero => intro i M1 H locs cv ls h1 h2; exact absurd h2 (by omega)
    | succ d ih =>
      intro i M1 H locs cv ls h1 h2 hk hc hI hW hl
      refine lv_iload hx hb d_F_sum_5 (lv_at hl 0 rfl) ?_
      refine lv_bipush (v := 8) hx hb d_F_sum_7 (by decide) ?_
      refine lv_icmp_ge (tgt := 51) hx hb d_F_sum_9 (by decide) (fun c1 => ?_) (fun c1 => ?_)
      · have c2 := (nI_leI (a := 8) (b := i) (by decide) (by omega)).mp c1
        obtain rfl : i = 8 := by omega
        refine lv_lload_n hx hb d_F_sum_51 rfl (lv_at hl 1 rfl) ?_
        exact ct_l E hQ hW d_F_sum_52 ⟨cv, rfl, hk, hc, hI⟩
      · have c2 : i < 8 := Nat.not_le.mp (fun z => c1 ((nI_leI (a := 8) (b := i) (by decide) (by omega)).mpr z))
        refine lv_lload_n hx hb d_F_sum_12 rfl (lv_at hl 1 rfl) ?_
        refine lv_aload_n hx hb d_F_sum_13 rfl (lv_at hl 2 rfl) ?_
        refine lv_iload hx hb d_F_sum_14 (lv_at hl 0 rfl) ?_
        refine wd_ld E K hW ha i rfl (by omega) d_F_sum_16 ?_
        refine lv_i2l hx hb d_F_sum_17 rfl ?_
        refine lv_ldc2 hx hb hown (hts _ k_77) d_F_sum_18 ?_
        refine lv_land hx hb d_F_sum_21 ?_
        refine lv_aload_n hx hb d_F_sum_22 rfl (lv_at hl 3 rfl) ?_
        refine lv_iload hx hb d_F_sum_23 (lv_at hl 0 rfl) ?_
        refine wd_ld E K hW hb2 i rfl (by omega) d_F_sum_25 ?_
        refine lv_i2l hx hb d_F_sum_26 rfl ?_
        refine lv_ldc2 hx hb hown (hts _ k_77) d_F_sum_27 ?_
        refine lv_land hx hb d_F_sum_30 ?_
        refine lv_ladd hx hb d_F_sum_31 ?_
        refine lv_ladd hx hb d_F_sum_32 ?_
        refine lv_topl (fun v ev => ?_)
        refine lv_lstore_n (lv' := [(3, .long v), (5, .int (nI i)), (0, .ref a), (1, .ref b), (2, .ref t)]) hx hb d_F_sum_33 rfl hl (by decide) rfl (fun ls hl => ?_)
        refine lv_aload_n hx hb d_F_sum_34 rfl (lv_at hl 4 rfl) ?_
        refine lv_iload hx hb d_F_sum_35 (lv_at hl 1 rfl) ?_
        refine lv_lload_n hx hb d_F_sum_37 rfl (lv_at hl 0 rfl) ?_
        refine lv_l2i hx hb d_F_sum_38 rfl ?_
        refine lv_topi (fun z ez => ?_)
        refine wd_st E K hW ht i rfl (by omega) d_F_sum_39 (fun H locs hW => ?_)
        refine lv_lload_n hx hb d_F_sum_40 rfl (lv_at hl 0 rfl) ?_
        refine lv_bipush (v := 32) hx hb d_F_sum_41 (by decide) ?_
        refine lv_lushr hx hb d_F_sum_43 rfl ?_
        refine lv_topl (fun c2v ec2v => ?_)
        refine lv_lstore_n (lv' := [(3, .long c2v), (5, .int (nI i)), (0, .ref a), (1, .ref b), (2, .ref t)]) hx hb d_F_sum_44 rfl hl (by decide) rfl (fun ls hl => ?_)
        refine lv_iinc (v := (nI (i + 1))) (lv' := [(5, .int (nI (i + 1))), (3, .long c2v), (0, .ref a), (1, .ref b), (2, .ref t)]) hx hb d_F_sum_45 hl (k := 1) rfl (nI_1 _) (by decide) rfl (fun ls hl => ?_)
        refine lv_goto (tgt := 5) hx hb d_F_sum_48 (by decide) ?_
        rw [hk a i (fun _ => Nat.le_refl _), hk b i (fun _ => Nat.le_refl _)] at ev
        obtain ⟨s1, s2⟩ := sum_step ev hc ez ec2v
        refine ih (i + 1) _ H locs c2v ls (by omega) (by omega) (hk.st _) s1 ?_ hW (lv_sub hl [0, 1, 2, 3, 4] rfl)
        rw [vN_mst, vN, vN, Nat.pow_succ]
        exact num_add hI s2
  refine lv_lconst (v := 0) hx hb d_F_sum_0 (by decide) ?_
  refine lv_lstore_n (lv' := [(3, .long 0), (0, .ref a), (1, .ref b), (2, .ref t)]) hx hb d_F_sum_1 rfl hl (by decide) rfl (fun ls hl => ?_)
  refine lv_iconst (v := 0) hx hb d_F_sum_2 (by decide) ?_
  refine lv_istore (lv' := [(5, .int 0), (3, .long 0), (0, .ref a), (1, .ref b), (2, .ref t)]) hx hb d_F_sum_3 hl (by decide) rfl (fun ls hl => ?_)
  exact loop 9 0 M H [] 0 ls (by omega) (by omega) kp.rf (by decide) (by simp [vN, w8_0]) hW hl
set_option maxHeartbeats 4000000 in
set_option maxRecDepth 100000 in
/-- Field.difference(a, b, t) -/
theorem c_F_difference (l : Launch) (g : wg) (a b t : Nat) (M : Mm) (ha : aok g a 8) (hb2 : aok g b 8) (ht : aok g t 8) : Ct l y_F_difference b_F_difference 8 (some .long) 0 0 g [.ref a, .ref b, .ref t] M (fun r M' => ∃ cv : Int64, r = some (.long cv) ∧ kp M M' t 8 ∧ w8 cv ≤ 1 ∧ V8 (M' t) + V8 (M b) = V8 (M a) + w8 cv * TT) := by
  refine Ct.of rfl (Nat.le_of_ble_eq_true rfl) (fun p e s m args below meth c H ls Q E K hQ hW hl => ?_)
  have hx := E.1
  have hb := E.2.1
  have hown := E.2.2.2.2.1
  have hts := E.2.2.2.2.2.1
  have hl : lv_has ls 8 [(0, .ref a), (1, .ref b), (2, .ref t)] := hl
  have loop : ∀ (d i : Nat) (M1 : Mm) (H : Heap) (locs : List Loc) (cv : Int64) (ls : Array Slot), i ≤ 8 → 8 + 1 ≤ i + d → kp M M1 t i → w8 cv ≤ 1 → vN 4294967296 (M1 t) i + vN 4294967296 (M b) i = vN 4294967296 (M a) i + w8 cv * 4294967296 ^ i → wd g H locs M1 → lv_has ls 8 [(5, .int (nI i)), (3, .long cv), (0, .ref a), (1, .ref b), (2, .ref t)] → W p l e (rmm 0 0) s m args below meth c H locs 0 0 Q (F0 m 5 ls []) := by
    intro d
    induction d with
    | zero => intro i M1 H locs cv ls h1 h2; exact absurd h2 (by omega)
    | succ d ih =>
      intro i M1 H locs cv ls h1 h2 hk hc hI hW hl
      refine lv_iload hx hb d_F_difference_5 (lv_at hl 0 rfl) ?_
      refine lv_bipush (v := 8) hx hb d_F_difference_7 (by decide) ?_
      refine lv_icmp_ge (tgt := 61) hx hb d_F_difference_9 (by decide) (fun c1 => ?_) (fun c1 => ?_)
      · have c2 := (nI_leI (a := 8) (b := i) (by decide) (by omega)).mp c1
        obtain rfl : i = 8 := by omega
        refine lv_lload_n hx hb d_F_difference_61 rfl (lv_at hl 1 rfl) ?_
        exact ct_l E hQ hW d_F_difference_62 ⟨cv, rfl, hk, hc, hI⟩
      · have c2 : i < 8 := Nat.not_le.mp (fun z => c1 ((nI_leI (a := 8) (b := i) (by decide) (by omega)).mpr z))
        refine lv_aload_n hx hb d_F_difference_12 rfl (lv_at hl 2 rfl) ?_
        refine lv_iload hx hb d_F_difference_13 (lv_at hl 0 rfl) ?_
        refine wd_ld E K hW ha i rfl (by omega) d_F_difference_15 ?_
        refine lv_i2l hx hb d_F_difference_16 rfl ?_
        refine lv_ldc2 hx hb hown (hts _ k_77) d_F_difference_17 ?_
        refine lv_land hx hb d_F_difference_20 ?_
        refine lv_aload_n hx hb d_F_difference_21 rfl (lv_at hl 3 rfl) ?_
        refine lv_iload hx hb d_F_difference_22 (lv_at hl 0 rfl) ?_
        refine wd_ld E K hW hb2 i rfl (by omega) d_F_difference_24 ?_
        refine lv_i2l hx hb d_F_difference_25 rfl ?_
        refine lv_ldc2 hx hb hown (hts _ k_77) d_F_difference_26 ?_
        refine lv_land hx hb d_F_difference_29 ?_
        refine lv_lsub hx hb d_F_difference_30 ?_
        refine lv_lload_n hx hb d_F_difference_31 rfl (lv_at hl 1 rfl) ?_
        refine lv_lsub hx hb d_F_difference_32 ?_
        refine lv_topl (fun v ev => ?_)
        refine lv_lstore (lv' := [(6, .long v), (5, .int (nI i)), (3, .long cv), (0, .ref a), (1, .ref b), (2, .ref t)]) hx hb d_F_difference_33 hl (by decide) rfl (fun ls hl => ?_)
        refine lv_aload_n hx hb d_F_difference_35 rfl (lv_at hl 5 rfl) ?_
        refine lv_iload hx hb d_F_difference_36 (lv_at hl 1 rfl) ?_
        refine lv_lload hx hb d_F_difference_38 (lv_at hl 0 rfl) ?_
        refine lv_l2i hx hb d_F_difference_40 rfl ?_
        refine lv_topi (fun z ez => ?_)
        refine wd_st E K hW ht i rfl (by omega) d_F_difference_41 (fun H locs hW => ?_)
        rw [hk a i (fun _ => Nat.le_refl _), hk b i (fun _ => Nat.le_refl _)] at ev
        obtain ⟨s1, s2⟩ := dif_step ev hc ez
        refine lv_lload hx hb d_F_difference_42 (lv_at hl 0 rfl) ?_
        refine lv_lconst (v := 0) hx hb d_F_difference_44 (by decide) ?_
        refine W.lcmp hx hb d_F_difference_45 ?_
        refine lv_if_ge (tgt := 53) hx hb d_F_difference_46 (by decide) (fun c3 => ?_) (fun c3 => ?_)
        · refine lv_lconst (v := 0) hx hb d_F_difference_53 (by decide) ?_
          refine lv_lstore_n (lv' := [(3, .long 0), (6, .long v), (5, .int (nI i)), (0, .ref a), (1, .ref b), (2, .ref t)]) hx hb d_F_difference_54 rfl hl (by decide) rfl (fun ls hl => ?_)
          refine lv_iinc (v := (nI (i + 1))) (lv' := [(5, .int (nI (i + 1))), (3, .long 0), (6, .long v), (0, .ref a), (1, .ref b), (2, .ref t)]) hx hb d_F_difference_55 hl (k := 2) rfl (nI_1 _) (by decide) rfl (fun ls hl => ?_)
          refine lv_goto (tgt := 5) hx hb d_F_difference_58 (by decide) ?_
          refine ih (i + 1) _ H locs 0 ls (by omega) (by omega) (hk.st _) (by decide) ?_ hW (lv_sub hl [0, 1, 3, 4, 5] rfl)
          rw [vN_mst, vN, vN, Nat.pow_succ]
          have s3 := s1 ((lg_cmp_ge _ _).mp c3)
          exact num_sub hI (by rw [w8_0]; omega)
        · refine lv_lconst (v := 1) hx hb d_F_difference_49 (by decide) ?_
          refine lv_goto (tgt := 54) hx hb d_F_difference_50 (by decide) ?_
          refine lv_lstore_n (lv' := [(3, .long 1), (6, .long v), (5, .int (nI i)), (0, .ref a), (1, .ref b), (2, .ref t)]) hx hb d_F_difference_54 rfl hl (by decide) rfl (fun ls hl => ?_)
          refine lv_iinc (v := (nI (i + 1))) (lv' := [(5, .int (nI (i + 1))), (3, .long 1), (6, .long v), (0, .ref a), (1, .ref b), (2, .ref t)]) hx hb d_F_difference_55 hl (k := 2) rfl (nI_1 _) (by decide) rfl (fun ls hl => ?_)
          refine lv_goto (tgt := 5) hx hb d_F_difference_58 (by decide) ?_
          refine ih (i + 1) _ H locs 1 ls (by omega) (by omega) (hk.st _) (by decide) ?_ hW (lv_sub hl [0, 1, 3, 4, 5] rfl)
          rw [vN_mst, vN, vN, Nat.pow_succ]
          have s3 := s2 (fun z => c3 ((lg_cmp_ge _ _).mpr z))
          exact num_sub hI (by rw [w8_1]; omega)
  refine lv_lconst (v := 0) hx hb d_F_difference_0 (by decide) ?_
  refine lv_lstore_n (lv' := [(3, .long 0), (0, .ref a), (1, .ref b), (2, .ref t)]) hx hb d_F_difference_1 rfl hl (by decide) rfl (fun ls hl => ?_)
  refine lv_iconst (v := 0) hx hb d_F_difference_2 (by decide) ?_
  refine lv_istore (lv' := [(5, .int 0), (3, .long 0), (0, .ref a), (1, .ref b), (2, .ref t)]) hx hb d_F_difference_3 hl (by decide) rfl (fun ls hl => ?_)
  exact loop 9 0 M H [] 0 ls (by omega) (by omega) kp.rf (by decide) (by simp [vN, w8_0]) hW hl
end
section
theorem add_fin {A B S c D br P T : Nat} (hA : A < P) (hB : B < P) (hP : P < T) (hT : T < 2 * P) (hc : c ≤ 1) (hS : S < T) (e : S + c * T = A + B) (hb : br ≤ 1) (hD : D < T) (e2 : D + P = S + br * T) (hx : c ≠ 0 ∨ ¬ S < P) : D = (A + B) % P := by
  have h : D = A + B - P ∧ P ≤ A + B := by
    rcases (show c = 0 ∨ c = 1 by omega) with rfl | rfl <;> rcases (show br = 0 ∨ br = 1 by omega) with rfl | rfl <;> omega
  rw [h.1, Nat.mod_eq_sub_mod h.2, Nat.mod_eq_of_lt (by omega)]
theorem add_fin0 {A B S P : Nat} (e : S = A + B) (h : S < P) : S = (A + B) % P := by rw [← e, Nat.mod_eq_of_lt h]
theorem sub_fin0 {A B S P : Nat} (hA : A < P) (hB : B < P) (e : S + B = A) : S = (A + (P - B)) % P := by
  rw [show A + (P - B) = S + P by omega, Nat.add_mod_right, Nat.mod_eq_of_lt (by omega)]
theorem sub_fin {A B S c D br P T : Nat} (hA : A < P) (hB : B < P) (hP : P < T) (hT : T < 2 * P) (hc : c ≤ 1) (hc0 : c ≠ 0) (hS : S < T) (e : S + B = A + c * T) (hb : br ≤ 1) (hD : D < T) (e2 : D + br * T = S + P) : D = (A + (P - B)) % P := by
  have h : D = A + (P - B) ∧ A + (P - B) < P := by
    rcases (show c = 1 by omega) with rfl
    rcases (show br = 0 ∨ br = 1 by omega) with rfl | rfl <;> omega
  rw [h.1, Nat.mod_eq_of_lt h.2]
theorem put_fin {M M1 : Mm} {rw b : Nat} {cv v : Int64} {wv z8 z9 : Int32} (hc : w8 cv < 4294967296) (ev : v = cv + ((M rw 8).toInt64 &&& 4294967295)) (e8 : z8 = v.toInt32) (e9 : z9 = M rw 9 + (v.toUInt64 >>> ((Int32.toInt64 32).toUInt64 &&& Int64.toUInt64 63)).toInt64.toInt32)
    (hI : vN 4294967296 (M1 rw) 8 + w8 cv * 4294967296 ^ 8 = vN 4294967296 (M rw) 8 + w4 wv * vN 4294967296 (M b) 8) (hsz : vN 4294967296 (M rw) 10 + w4 wv * V8 (M b) < 4294967296 ^ 10) :
    vN 4294967296 (mst (mst M1 rw 8 z8) rw 9 z9 rw) 10 = vN 4294967296 (M rw) 10 + w4 wv * V8 (M b) := by
  have h8 := w4_lt (M rw 8)
  have h9 := w4_lt (M rw 9)
  have hv : w8 v = w8 cv + w4 (M rw 8) := by rw [ev, w8_add, w8_i]; omega
  have k8 : w4 z8 = w8 v % 4294967296 := by rw [e8]; exact w4_l v
  have k9 : w4 z9 = (w4 (M rw 9) + w8 v / 4294967296) % 4294967296 := by
    rw [e9, w4_add, w4_l]
    have := w8_s32 v
    rw [show w8 (v.toUInt64 >>> ((Int32.toInt64 32).toUInt64 &&& Int64.toUInt64 63)).toInt64 = w8 v / 4294967296 from this]
    omega
  rw [vN_mst, vN_mst]
  rw [show vN 4294967296 (M rw) 10 = vN 4294967296 (M rw) 8 + w4 (M rw 8) * 4294967296 ^ 8 + w4 (M rw 9) * 4294967296 ^ 9 by rw [vN_s, vN_s]] at hsz ⊢
  generalize w4 wv * V8 (M b) = X at hsz hI ⊢
  generalize vN 4294967296 (M rw) 8 = a0 at hsz hI ⊢
  generalize vN 4294967296 (M1 rw) 8 = a1 at hsz hI ⊢
  have hq : w8 v / 4294967296 ≤ 1 := by omega
  have hs : w4 z8 + (w8 v / 4294967296) * 4294967296 = w8 cv + w4 (M rw 8) := by omega
  generalize w8 v / 4294967296 = q at *
  generalize w4 z8 = y8 at *
  generalize w4 z9 = y9 at *
  generalize w4 (M rw 8) = r8 at *
  generalize w4 (M rw 9) = r9 at *
  generalize w8 cv = cc at *
  have k : y9 = r9 + q := by
    rw [k9]
    apply Nat.mod_eq_of_lt
    omega
  omega
set_option maxHeartbeats 4000000 in
set_option maxRecDepth 100000 in
/-- Field.add(a, b, t) -/
theorem c_F_add (l : Launch) (g : wg) (o pr bk on rw pw bs : Nat) (mn : Int32) (a b t : Nat) (M : Mm) (ho : ob g o 1 [.ref pr, .ref bk, .ref on, .ref rw, .ref pw, .ref bs, .int mn]) (hp : aok g pr 8) (ha : aok g a 8) (hb2 : aok g b 8) (ht : aok g t 8) (hne : pr ≠ t) (h8 : V8 (M pr) = PP) (hA : V8 (M a) < PP) (hB : V8 (M b) < PP) : Ct l y_F_add b_F_add 6 none 1 27 g [.ref o, .ref a, .ref b, .ref t] M (fun r M' => r = none ∧ kp M M' t 8 ∧ V8 (M' t) = (V8 (M a) + V8 (M b)) % PP) := by
  refine Ct.of rfl (Nat.le_of_ble_eq_true rfl) (fun p e s m args below meth c H ls Q E K hQ hW hl => ?_)
  have hx := E.1
  have hb := E.2.1
  have hown := E.2.2.2.2.1
  have hts := E.2.2.2.2.2.1
  have hl : lv_has ls 6 [(0, .ref o), (1, .ref a), (2, .ref b), (3, .ref t)] := hl
  refine lv_aload_n hx hb d_F_add_0 rfl (lv_at hl 1 rfl) ?_
  refine lv_aload_n hx hb d_F_add_1 rfl (lv_at hl 2 rfl) ?_
  refine lv_aload_n hx hb d_F_add_2 rfl (lv_at hl 3 rfl) ?_
  refine ct_S E K hW hl.1 (c_F_sum l g a b t M ha hb2 ht) k_95 k_2 k_93 k_94 3 (by decide +kernel) rfl (by decide) rfl (Nat.le_of_ble_eq_true rfl) ⟨Nat.zero_le _, Nat.zero_le _⟩ d_F_add_3 (fun r M1 H locs hq hW => ?_)
  obtain ⟨cv, rfl, k1, c1, e1⟩ := hq
  refine W.eq (g2 := F0 m 6 ls [.long cv]) rfl ?_
  have p1 : V8 (M1 pr) = PP := by rw [k1.out hne]; exact h8
  refine lv_lstore (lv' := [(4, .long cv), (0, .ref o), (1, .ref a), (2, .ref b), (3, .ref t)]) hx hb d_F_add_6 hl (by decide) rfl (fun ls hl => ?_)
  refine lv_lload hx hb d_F_add_8 (lv_at hl 0 rfl) ?_
  refine lv_lconst (v := 0) hx hb d_F_add_10 (by decide) ?_
  refine W.lcmp hx hb d_F_add_11 ?_
  have fin : ∀ (H : Heap) (locs : List Loc), wd g H locs M1 → w8 cv ≠ 0 ∨ ¬ V8 (M1 t) < PP → W p l e (rmm 1 27) s m args below meth c H locs 0 0 Q (F0 m 23 ls []) := by
    intro H locs hW hx2
    refine lv_aload_n hx hb d_F_add_23 rfl (lv_at hl 4 rfl) ?_
    refine lv_aload_n hx hb d_F_add_24 rfl (lv_at hl 1 rfl) ?_
    refine wd_get E K hW ho rfl i_F 0 (by decide) k_21 rfl d_F_add_25 ?_
    refine lv_aload_n hx hb d_F_add_28 rfl (lv_at hl 4 rfl) ?_
    refine ct_S E K hW hl.1 (c_F_difference l g t pr t M1 ht hp ht) k_80 k_2 k_97 k_79 3 (by decide +kernel) rfl (by decide) rfl (Nat.le_of_ble_eq_true rfl) ⟨Nat.zero_le _, Nat.zero_le _⟩ d_F_add_29 (fun r M2 H locs hq hW => ?_)
    obtain ⟨bv, rfl, k2, c2, e2⟩ := hq
    refine W.eq (g2 := F0 m 32 ls [.long bv]) rfl ?_
    refine lv_pop2_2 hx hb d_F_add_32 rfl ?_
    refine ct_v E hQ hW d_F_add_33 ⟨rfl, k1.tr k2, ?_⟩
    rw [p1] at e2
    exact add_fin hA hB (by decide) (by decide) c1 (V8_lt _) e1 c2 (V8_lt _) e2 hx2
  refine lv_if_ne (tgt := 23) hx hb d_F_add_12 (by decide) (fun c3 => ?_) (fun c3 => ?_)
  · exact fin H locs hW (Or.inl (fun z => c3 ((lg_cmp_eq _ _).mpr (w8_inj (by rw [z, w8_0])))))
  · have cz : w8 cv = 0 := by rw [(lg_cmp_eq _ _).mp c3]; exact w8_0
    refine lv_aload_n hx hb d_F_add_15 rfl (lv_at hl 1 rfl) ?_
    refine lv_aload_n hx hb d_F_add_16 rfl (lv_at hl 4 rfl) ?_
    refine ct_V E K hW hl.1 ho rfl (c_F_isLess l g o pr bk on rw pw bs mn t M1 ho hp ht) k_76 k_2 k_96 k_74 k_75 1 (by decide +kernel) rfl (by decide) rfl (Nat.le_of_ble_eq_true rfl) ⟨Nat.zero_le _, Nat.zero_le _⟩ d_F_add_17 (fun r M2 H locs hq hW => ?_)
    rw [p1] at hq
    obtain ⟨rfl, hM⟩ := hq
    rw [hM] at hW
    refine W.eq (g2 := F0 m 20 ls [.int (if V8 (M1 t) < PP then 1 else 0)]) rfl ?_
    refine lv_if_ne (tgt := 33) hx hb d_F_add_20 (by decide) (fun c4 => ?_) (fun c4 => ?_)
    · refine ct_v E hQ hW d_F_add_33 ⟨rfl, k1, ?_⟩
      have h9 : V8 (M1 t) < PP := Decidable.byContradiction (fun z => c4 (if_neg z))
      rw [cz] at e1
      exact add_fin0 (by rw [Nat.zero_mul, Nat.add_zero] at e1; exact e1) h9
    · exact fin H locs hW (Or.inr (fun z => by rw [if_pos z] at c4; exact absurd c4 (by decide)))
set_option maxHeartbeats 4000000 in
set_option maxRecDepth 100000 in
/-- Field.subtract(a, b, t) -/
theorem c_F_subtract (l : Launch) (g : wg) (o pr bk on rw pw bs : Nat) (mn : Int32) (a b t : Nat) (M : Mm) (ho : ob g o 1 [.ref pr, .ref bk, .ref on, .ref rw, .ref pw, .ref bs, .int mn]) (hp : aok g pr 8) (ha : aok g a 8) (hb2 : aok g b 8) (ht : aok g t 8) (hne : pr ≠ t) (h8 : V8 (M pr) = PP) (hA : V8 (M a) < PP) (hB : V8 (M b) < PP) : Ct l y_F_subtract b_F_subtract 4 none 1 27 g [.ref o, .ref a, .ref b, .ref t] M (fun r M' => r = none ∧ kp M M' t 8 ∧ V8 (M' t) = (V8 (M a) + (PP - V8 (M b))) % PP) := by
  refine Ct.of rfl (Nat.le_of_ble_eq_true rfl) (fun p e s m args below meth c H ls Q E K hQ hW hl => ?_)
  have hx := E.1
  have hb := E.2.1
  have hown := E.2.2.2.2.1
  have hts := E.2.2.2.2.2.1
  have hl : lv_has ls 4 [(0, .ref o), (1, .ref a), (2, .ref b), (3, .ref t)] := hl
  refine lv_aload_n hx hb d_F_subtract_0 rfl (lv_at hl 1 rfl) ?_
  refine lv_aload_n hx hb d_F_subtract_1 rfl (lv_at hl 2 rfl) ?_
  refine lv_aload_n hx hb d_F_subtract_2 rfl (lv_at hl 3 rfl) ?_
  refine ct_S E K hW hl.1 (c_F_difference l g a b t M ha hb2 ht) k_80 k_2 k_97 k_79 3 (by decide +kernel) rfl (by decide) rfl (Nat.le_of_ble_eq_true rfl) ⟨Nat.zero_le _, Nat.zero_le _⟩ d_F_subtract_3 (fun r M1 H locs hq hW => ?_)
  obtain ⟨cv, rfl, k1, c1, e1⟩ := hq
  refine W.eq (g2 := F0 m 6 ls [.long cv]) rfl ?_
  have p1 : V8 (M1 pr) = PP := by rw [k1.out hne]; exact h8
  refine lv_lconst (v := 0) hx hb d_F_subtract_6 (by decide) ?_
  refine W.lcmp hx hb d_F_subtract_7 ?_
  refine lv_if_eq (tgt := 21) hx hb d_F_subtract_8 (by decide) (fun c3 => ?_) (fun c3 => ?_)
  · have cz : w8 cv = 0 := by rw [(lg_cmp_eq _ _).mp c3]; exact w8_0
    rw [cz] at e1
    exact ct_v E hQ hW d_F_subtract_21 ⟨rfl, k1, sub_fin0 hA hB (by rw [Nat.zero_mul, Nat.add_zero] at e1; exact e1)⟩
  · have cz : w8 cv ≠ 0 := fun z => c3 ((lg_cmp_eq _ _).mpr (w8_inj (by rw [z, w8_0])))
    refine lv_aload_n hx hb d_F_subtract_11 rfl (lv_at hl 3 rfl) ?_
    refine lv_aload_n hx hb d_F_subtract_12 rfl (lv_at hl 0 rfl) ?_
    refine wd_get E K hW ho rfl i_F 0 (by decide) k_21 rfl d_F_subtract_13 ?_
    refine lv_aload_n hx hb d_F_subtract_16 rfl (lv_at hl 3 rfl) ?_
    refine ct_S E K hW hl.1 (c_F_sum l g t pr t M1 ht hp ht) k_95 k_2 k_93 k_94 3 (by decide +kernel) rfl (by decide) rfl (Nat.le_of_ble_eq_true rfl) ⟨Nat.zero_le _, Nat.zero_le _⟩ d_F_subtract_17 (fun r M2 H locs hq hW => ?_)
    obtain ⟨bv, rfl, k2, c2, e2⟩ := hq
    refine W.eq (g2 := F0 m 20 ls [.long bv]) rfl ?_
    refine lv_pop2_2 hx hb d_F_subtract_20 rfl ?_
    rw [p1] at e2
    exact ct_v E hQ hW d_F_subtract_21 ⟨rfl, k1.tr k2, sub_fin hA hB (by decide) (by decide) c1 cz (V8_lt _) e1 c2 (V8_lt _) e2⟩
set_option maxHeartbeats 4000000 in
set_option maxRecDepth 100000 in
/-- Field.put(word, b) -/
theorem c_F_put (l : Launch) (g : wg) (o pr bk on rw pw bs : Nat) (mn : Int32) (wv : Int32) (b : Nat) (M : Mm) (ho : ob g o 1 [.ref pr, .ref bk, .ref on, .ref rw, .ref pw, .ref bs, .int mn]) (hr : aok g rw 10) (hb2 : aok g b 8) (hne : b ≠ rw) (hsz : vN 4294967296 (M rw) 10 + w4 wv * V8 (M b) < 4294967296 ^ 10) : Ct l y_F_put b_F_put 6 none 0 0 g [.ref o, .int wv, .ref b] M (fun r M' => r = none ∧ kp M M' rw 10 ∧ vN 4294967296 (M' rw) 10 = vN 4294967296 (M rw) 10 + w4 wv * V8 (M b)) := by
  refine Ct.of rfl (Nat.le_of_ble_eq_true rfl) (fun p e s m args below meth c H ls Q E K hQ hW hl => ?_)
  have hx := E.1
  have hb := E.2.1
  have hown := E.2.2.2.2.1
  have hts := E.2.2.2.2.2.1
  have hl : lv_has ls 6 [(0, .ref o), (1, .int wv), (2, .ref b)] := hl
  have loop : ∀ (d i : Nat) (M1 : Mm) (H : Heap) (locs : List Loc) (cv : Int64) (ls : Array Slot), i ≤ 8 → 8 + 1 ≤ i + d → kp M M1 rw i → w8 cv < 4294967296 → vN 4294967296 (M1 rw) i + w8 cv * 4294967296 ^ i = vN 4294967296 (M rw) i + w4 wv * vN 4294967296 (M b) i → wd g H locs M1 → lv_has ls 6 [(5, .int (nI i)), (3, .long cv), (0, .ref o), (1, .int wv), (2, .ref b)] → W p l e (rmm 0 0) s m args below meth c H locs 0 0 Q (F0 m 5 ls []) := by
    intro d
    induction d with
    | zero => intro i M1 H locs cv ls h1 h2; exact absurd h2 (by omega)
    | succ d ih =>
      intro i M1 H locs cv ls h1 h2 hk hc hI hW hl
      refine lv_iload hx hb d_F_put_5 (lv_at hl 0 rfl) ?_
      refine lv_bipush (v := 8) hx hb d_F_put_7 (by decide) ?_
      refine lv_icmp_ge (tgt := 64) hx hb d_F_put_9 (by decide) (fun c1 => ?_) (fun c1 => ?_)
      · have c2 := (nI_leI (a := 8) (b := i) (by decide) (by omega)).mp c1
        obtain rfl : i = 8 := by omega
        refine lv_lload_n hx hb d_F_put_64 rfl (lv_at hl 1 rfl) ?_
        refine lv_aload_n hx hb d_F_put_65 rfl (lv_at hl 2 rfl) ?_
        refine wd_get E K hW ho rfl i_F 3 (by decide) k_25 rfl d_F_put_66 ?_
        refine lv_bipush (v := 8) hx hb d_F_put_69 (by decide) ?_
        refine wd_ld E K hW hr 8 (by decide) (by decide) d_F_put_71 ?_
        refine lv_i2l hx hb d_F_put_72 rfl ?_
        refine lv_ldc2 hx hb hown (hts _ k_77) d_F_put_73 ?_
        refine lv_land hx hb d_F_put_76 ?_
        refine lv_ladd hx hb d_F_put_77 ?_
        refine lv_topl (fun v ev => ?_)
        refine lv_lstore_n (lv' := [(3, .long v), (5, .int (nI 8)), (0, .ref o), (1, .int wv), (2, .ref b)]) hx hb d_F_put_78 rfl hl (by decide) rfl (fun ls hl => ?_)
        refine lv_aload_n hx hb d_F_put_79 rfl (lv_at hl 2 rfl) ?_
        refine wd_get E K hW ho rfl i_F 3 (by decide) k_25 rfl d_F_put_80 ?_
        refine lv_bipush (v := 8) hx hb d_F_put_83 (by decide) ?_
        refine lv_lload_n hx hb d_F_put_85 rfl (lv_at hl 0 rfl) ?_
        refine lv_l2i hx hb d_F_put_86 rfl ?_
        refine lv_topi (fun z8 ez8 => ?_)
        refine wd_st E K hW hr 8 (by decide) (by decide) d_F_put_87 (fun H locs hW => ?_)
        refine lv_aload_n hx hb d_F_put_88 rfl (lv_at hl 2 rfl) ?_
        refine wd_get E K hW ho rfl i_F 3 (by decide) k_25 rfl d_F_put_89 ?_
        refine lv_bipush (v := 9) hx hb d_F_put_92 (by decide) ?_
        refine lv_dup2_11 hx hb d_F_put_94 rfl rfl ?_
        refine wd_ld E K hW hr 9 (by decide) (by decide) d_F_put_95 ?_
        refine lv_lload_n hx hb d_F_put_96 rfl (lv_at hl 0 rfl) ?_
        refine lv_bipush (v := 32) hx hb d_F_put_97 (by decide) ?_
        refine lv_lushr hx hb d_F_put_99 rfl ?_
        refine lv_l2i hx hb d_F_put_100 rfl ?_
        refine lv_iadd hx hb d_F_put_101 ?_
        refine lv_topi (fun z9 ez9 => ?_)
        refine wd_st E K hW hr 9 (by decide) (by decide) d_F_put_102 (fun H locs hW => ?_)
        rw [hk rw 8 (fun _ => Nat.le_refl _)] at ev
        rw [mst_ne (fun _ => by decide), hk rw 9 (fun _ => by decide)] at ez9
        refine ct_v E hQ hW d_F_put_103 ⟨rfl, (hk.st _).st _, ?_⟩
        exact put_fin hc ev ez8 ez9 hI hsz
      · have c2 : i < 8 := Nat.not_le.mp (fun z => c1 ((nI_leI (a := 8) (b := i) (by decide) (by omega)).mpr z))
        refine lv_lload_n hx hb d_F_put_12 rfl (lv_at hl 1 rfl) ?_
        refine lv_iload_n hx hb d_F_put_13 rfl (lv_at hl 3 rfl) ?_
        refine lv_i2l hx hb d_F_put_14 rfl ?_
        refine lv_ldc2 hx hb hown (hts _ k_77) d_F_put_15 ?_
        refine lv_land hx hb d_F_put_18 ?_
        refine lv_aload_n hx hb d_F_put_19 rfl (lv_at hl 4 rfl) ?_
        refine lv_iload hx hb d_F_put_20 (lv_at hl 0 rfl) ?_
        refine wd_ld E K hW hb2 i rfl (by omega) d_F_put_22 ?_
        refine lv_i2l hx hb d_F_put_23 rfl ?_
        refine lv_ldc2 hx hb hown (hts _ k_77) d_F_put_24 ?_
        refine lv_land hx hb d_F_put_27 ?_
        refine lv_lmul hx hb d_F_put_28 ?_
        refine lv_aload_n hx hb d_F_put_29 rfl (lv_at hl 2 rfl) ?_
        refine wd_get E K hW ho rfl i_F 3 (by decide) k_25 rfl d_F_put_30 ?_
        refine lv_iload hx hb d_F_put_33 (lv_at hl 0 rfl) ?_
        refine wd_ld E K hW hr i rfl (by omega) d_F_put_35 ?_
        refine lv_i2l hx hb d_F_put_36 rfl ?_
        refine lv_ldc2 hx hb hown (hts _ k_77) d_F_put_37 ?_
        refine lv_land hx hb d_F_put_40 ?_
        refine lv_ladd hx hb d_F_put_41 ?_
        refine lv_ladd hx hb d_F_put_42 ?_
        refine lv_topl (fun v ev => ?_)
        refine lv_lstore_n (lv' := [(3, .long v), (5, .int (nI i)), (0, .ref o), (1, .int wv), (2, .ref b)]) hx hb d_F_put_43 rfl hl (by decide) rfl (fun ls hl => ?_)
        refine lv_aload_n hx hb d_F_put_44 rfl (lv_at hl 2 rfl) ?_
        refine wd_get E K hW ho rfl i_F 3 (by decide) k_25 rfl d_F_put_45 ?_
        refine lv_iload hx hb d_F_put_48 (lv_at hl 1 rfl) ?_
        refine lv_lload_n hx hb d_F_put_50 rfl (lv_at hl 0 rfl) ?_
        refine lv_l2i hx hb d_F_put_51 rfl ?_
        refine lv_topi (fun z ez => ?_)
        refine wd_st E K hW hr i rfl (by omega) d_F_put_52 (fun H locs hW => ?_)
        refine lv_lload_n hx hb d_F_put_53 rfl (lv_at hl 0 rfl) ?_
        refine lv_bipush (v := 32) hx hb d_F_put_54 (by decide) ?_
        refine lv_lushr hx hb d_F_put_56 rfl ?_
        refine lv_topl (fun c2v ec2v => ?_)
        refine lv_lstore_n (lv' := [(3, .long c2v), (5, .int (nI i)), (0, .ref o), (1, .int wv), (2, .ref b)]) hx hb d_F_put_57 rfl hl (by decide) rfl (fun ls hl => ?_)
        refine lv_iinc (v := (nI (i + 1))) (lv' := [(5, .int (nI (i + 1))), (3, .long c2v), (0, .ref o), (1, .int wv), (2, .ref b)]) hx hb d_F_put_58 hl (k := 1) rfl (nI_1 _) (by decide) rfl (fun ls hl => ?_)
        refine lv_goto (tgt := 5) hx hb d_F_put_61 (by decide) ?_
        rw [hk b i (fun h => absurd h hne), hk rw i (fun _ => Nat.le_refl _)] at ev
        obtain ⟨s1, s2⟩ := put_step ev hc ez ec2v
        refine ih (i + 1) _ H locs c2v ls (by omega) (by omega) (hk.st _) s1 ?_ hW (lv_sub hl [0, 1, 2, 3, 4] rfl)
        rw [vN_mst, vN, vN, Nat.pow_succ]
        exact num_put hI s2
  refine lv_lconst (v := 0) hx hb d_F_put_0 (by decide) ?_
  refine lv_lstore_n (lv' := [(3, .long 0), (0, .ref o), (1, .int wv), (2, .ref b)]) hx hb d_F_put_1 rfl hl (by decide) rfl (fun ls hl => ?_)
  refine lv_iconst (v := 0) hx hb d_F_put_2 (by decide) ?_
  refine lv_istore (lv' := [(5, .int 0), (3, .long 0), (0, .ref o), (1, .int wv), (2, .ref b)]) hx hb d_F_put_3 hl (by decide) rfl (fun ls hl => ?_)
  exact loop 9 0 M H [] 0 ls (by omega) (by omega) kp.rf (by decide) (by simp [vN, w8_0]) hW hl
end
section
theorem fin_red {V S c D br P T : Nat} (hV : V < 2 * P) (hP : P < T) (hT : T < 2 * P) (hc : c ≤ 1) (hS : S < T) (e : S + c * T = V) (hb : br ≤ 1) (hD : D < T) (e2 : D + P = S + br * T) (hx : c ≠ 0 ∨ ¬ S < P) : D = V % P := by
  have h : D = V - P ∧ P ≤ V := by
    rcases (show c = 0 ∨ c = 1 by omega) with rfl | rfl <;> rcases (show br = 0 ∨ br = 1 by omega) with rfl | rfl <;> omega
  rw [h.1, Nat.mod_eq_sub_mod h.2, Nat.mod_eq_of_lt (by omega)]
theorem vN_shift {B : Nat} {f h : Nat → Int32} : ∀ {n : Nat}, (∀ j, j < n → h j = f (j + 1)) → vN B f (n + 1) = w4 (f 0) + B * vN B h n
  | 0, _ => by rw [vN_s, vN_0, vN_0]; simp
  | n + 1, e => by
    rw [vN_s, vN_shift (n := n) (fun j hj => e j (by omega)), vN_s, e n (by omega), Nat.mul_add, Nat.pow_succ]
    grind
theorem red_step {r r' Bi B va b q P z m : Nat} (hI : r * Bi = va * b + q * P) (e : r' * B = r + z * b + m * P) : r' * (Bi * B) = (va + z * Bi) * b + (q + m * Bi) * P := by grind
theorem red_bnd {r r' B b P z m : Nat} (hr : r < 2 * P) (hz : z < B) (hm : m < B) (hb : b < P) (e : r' * B = r + z * b + m * P) : r' < 2 * P := by
  have h1 : z * b ≤ (B - 1) * P := Nat.mul_le_mul (by omega) (by omega)
  have h2 : m * P ≤ (B - 1) * P := Nat.mul_le_mul (by omega) (by omega)
  have h3 : (B - 1) * P + P = B * P := by rw [← Nat.succ_mul]; congr 1; omega
  have h4 : r' * B < (2 * P) * B := by
    rw [Nat.mul_comm (2 * P) B, ← Nat.mul_assoc, Nat.mul_comm B 2, Nat.mul_assoc]
    omega
  exact Nat.lt_of_mul_lt_mul_right h4
theorem red_m0 {r m : Nat} (hm : m = (r % 4294967296 * 3525653809) % 4294967296) : (r + m * PP) % 4294967296 = 0 := by
  have e1 : PP = 115792089237316195423570985008687907853269984665640564039457584007908834671663 := rfl
  rw [e1]
  omega
theorem PPv : PP = 115792089237316195423570985008687907853269984665640564039457584007908834671663 := rfl
theorem TTv : TT = 115792089237316195423570985008687907853269984665640564039457584007913129639936 := rfl
theorem red_sz1 {r z b : Nat} (hr : r < 2 * PP) (hz : z < 4294967296) (hb : b < PP) : r + z * b < 4294967296 ^ 10 := by
  have h1 : z * b ≤ 4294967295 * PP := Nat.mul_le_mul (by omega) (Nat.le_of_lt hb)
  have e1 := PPv
  rw [e1] at h1 hr
  omega
theorem red_sz2 {r z b m : Nat} (hr : r < 2 * PP) (hz : z < 4294967296) (hb : b < PP) (hm : m < 4294967296) : r + z * b + m * PP < 4294967296 ^ 10 := by
  have h1 : z * b ≤ 4294967295 * PP := Nat.mul_le_mul (by omega) (Nat.le_of_lt hb)
  have h2 : m * PP ≤ 4294967295 * PP := Nat.mul_le_mul_right _ (by omega)
  have e1 := PPv
  rw [e1] at h1 h2 hr ⊢
  omega
theorem row_val (f : Nat → Int32) (h : vN 4294967296 f 10 < 2 * PP) : w4 (f 8) ≤ 1 ∧ vN 4294967296 f 8 + w4 (f 8) * TT = vN 4294967296 f 10 := by
  have h10 : vN 4294967296 f 10 = vN 4294967296 f 8 + w4 (f 8) * 4294967296 ^ 8 + w4 (f 9) * 4294967296 ^ 9 := by rw [vN_s, vN_s]
  rw [h10] at h ⊢
  have e1 := PPv
  have e2 := TTv
  rw [e1] at h
  rw [e2]
  omega
theorem red_end {V va b q R : Nat} (hI : V * TT = va * b + q * PP) (hR : R = V % PP) : R < PP ∧ R * TT % PP = va * b % PP := by
  subst hR
  refine ⟨Nat.mod_lt _ (by decide), ?_⟩
  rw [Nat.mod_mul_mod, hI, Nat.add_mul_mod_self_right]
theorem vN_low (f : Nat → Int32) (n : Nat) : vN 4294967296 f (n + 1) % 4294967296 = w4 (f 0) := by
  have h := vN_dig (B := 4294967296) (f := f) (by decide) (k := 0) (n := n + 1) (by omega) (fun j _ => w4_lt _)
  rw [Nat.pow_zero, Nat.div_one] at h
  exact h
theorem vN_all0 {B : Nat} {f : Nat → Int32} {n : Nat} (hB : 0 < B) (h : ∀ j, j < n → f j = 0) : vN B f n = 0 := (vN_zero hB).mpr h
end
section
set_option maxHeartbeats 4000000 in
set_option maxRecDepth 100000 in
/-- Field.reduced(a, b, t) -/
theorem c_F_reduced (l : Launch) (g : wg) (o pr bk on rw pw bs : Nat) (mn : Int32) (a b t : Nat) (M : Mm) (ho : ob g o 1 [.ref pr, .ref bk, .ref on, .ref rw, .ref pw, .ref bs, .int mn]) (hp : aok g pr 8) (hr : aok g rw 10) (ha : aok g a 8) (hb2 : aok g b 8) (ht : aok g t 8) (na : a ≠ rw) (nb : b ≠ rw) (nt : t ≠ rw) (np : pr ≠ rw) (npt : pr ≠ t) (h8 : V8 (M pr) = PP) (hmn : w4 mn = 3525653809) (hB : V8 (M b) < PP) : Ct l y_F_reduced b_F_reduced 6 none 1 27 g [.ref o, .ref a, .ref b, .ref t] M (fun r M' => r = none ∧ (∀ q, q ≠ t → q ≠ rw → M' q = M q) ∧ V8 (M' t) < PP ∧ V8 (M' t) * TT % PP = V8 (M a) * V8 (M b) % PP) := by
  refine Ct.of rfl (Nat.le_of_ble_eq_true rfl) (fun p e s m args below meth c H ls Q E K hQ hW hl => ?_)
  have hx := E.1
  have hb := E.2.1
  have hown := E.2.2.2.2.1
  have hts := E.2.2.2.2.2.1
  have hl : lv_has ls 6 [(0, .ref o), (1, .ref a), (2, .ref b), (3, .ref t)] := hl
  have fin : ∀ (M3 MR : Mm) (H : Heap) (locs : List Loc) (ls : Array Slot) (bv : Int32), kp M MR rw 10 → kp MR M3 t 8 → (∀ j, j < 8 → M3 t j = MR rw j) → vN 4294967296 (MR rw) 10 < 2 * PP → (∃ q, vN 4294967296 (MR rw) 10 * TT = V8 (M a) * V8 (M b) + q * PP) → ((bv = 0 ↔ MR rw 8 = 0)) → wd g H locs M3 → lv_has ls 6 [(4, .int bv), (0, .ref o), (1, .ref a), (2, .ref b), (3, .ref t)] → W p l e (rmm 1 27) s m args below meth c H locs 0 0 Q (F0 m 152 ls []) := by
    intro M3 MR H locs ls bv k1 k2 hc hV hq0 hbv hW hl
    obtain ⟨q, hq0⟩ := hq0
    obtain ⟨v1, v2⟩ := row_val _ hV
    have ev : V8 (M3 t) = vN 4294967296 (MR rw) 8 := vN_congr hc
    rw [← ev] at v2
    have p3 : V8 (M3 pr) = PP := by rw [k2.out npt, k1.out np]; exact h8
    have fr3 : ∀ q, q ≠ t → q ≠ rw → M3 q = M q := fun q h1 h2 => by rw [k2.out h1, k1.out h2]
    have fin2 : ∀ (H : Heap) (locs : List Loc), wd g H locs M3 → (w4 (MR rw 8) ≠ 0 ∨ ¬ V8 (M3 t) < PP) → W p l e (rmm 1 27) s m args below meth c H locs 0 0 Q (F0 m 165 ls []) := by
      intro H locs hW hx2
      refine lv_aload_n hx hb d_F_reduced_165 rfl (lv_at hl 4 rfl) ?_
      refine lv_aload_n hx hb d_F_reduced_166 rfl (lv_at hl 1 rfl) ?_
      refine wd_get E K hW ho rfl i_F 0 (by decide) k_21 rfl d_F_reduced_167 ?_
      refine lv_aload_n hx hb d_F_reduced_170 rfl (lv_at hl 4 rfl) ?_
      refine ct_S E K hW hl.1 (c_F_difference l g t pr t M3 ht hp ht) k_80 k_2 k_97 k_79 3 (by decide +kernel) rfl (by decide) rfl (Nat.le_of_ble_eq_true rfl) ⟨Nat.zero_le _, Nat.zero_le _⟩ d_F_reduced_171 (fun r M4 H locs hq hW => ?_)
      obtain ⟨dv, rfl, k4, c4, e4⟩ := hq
      refine W.eq (g2 := F0 m 174 ls [.long dv]) rfl ?_
      refine lv_pop2_2 hx hb d_F_reduced_174 rfl ?_
      rw [p3] at e4
      exact ct_v E hQ hW d_F_reduced_175 ⟨rfl, fun q h1 h2 => by rw [k4.out h1]; exact fr3 q h1 h2, red_end hq0 (fin_red hV (by decide) (by decide) v1 (V8_lt _) v2 c4 (V8_lt _) e4 hx2)⟩
    refine lv_iload hx hb d_F_reduced_152 (lv_at hl 0 rfl) ?_
    refine lv_if_ne (tgt := 165) hx hb d_F_reduced_154 (by decide) (fun c5 => ?_) (fun c5 => ?_)
    · exact fin2 H locs hW (Or.inl (fun z => c5 (hbv.mpr (w4_inj (by rw [z, w4_0])))))
    · have z8 : w4 (MR rw 8) = 0 := by rw [hbv.mp c5]; exact w4_0
      refine lv_aload_n hx hb d_F_reduced_157 rfl (lv_at hl 1 rfl) ?_
      refine lv_aload_n hx hb d_F_reduced_158 rfl (lv_at hl 4 rfl) ?_
      refine ct_V E K hW hl.1 ho rfl (c_F_isLess l g o pr bk on rw pw bs mn t M3 ho hp ht) k_76 k_2 k_96 k_74 k_75 1 (by decide +kernel) rfl (by decide) rfl (Nat.le_of_ble_eq_true rfl) ⟨Nat.zero_le _, Nat.zero_le _⟩ d_F_reduced_159 (fun r M4 H locs hq hW => ?_)
      rw [p3] at hq
      obtain ⟨rfl, hM⟩ := hq
      rw [hM] at hW
      refine W.eq (g2 := F0 m 162 ls [.int (if V8 (M3 t) < PP then 1 else 0)]) rfl ?_
      refine lv_if_ne (tgt := 175) hx hb d_F_reduced_162 (by decide) (fun c6 => ?_) (fun c6 => ?_)
      · have h9 : V8 (M3 t) < PP := Decidable.byContradiction (fun z => c6 (if_neg z))
        rw [z8, Nat.zero_mul, Nat.add_zero] at v2
        exact ct_v E hQ hW d_F_reduced_175 ⟨rfl, fr3, red_end hq0 (by rw [← v2, Nat.mod_eq_of_lt h9])⟩
      · exact fin2 H locs hW (Or.inr (fun z => by rw [if_pos z] at c6; exact absurd c6 (by decide)))
  have loop : ∀ (d i : Nat) (M1 : Mm) (H : Heap) (locs : List Loc) (q : Nat) (ls : Array Slot), i ≤ 8 → 8 + 1 ≤ i + d → kp M M1 rw 10 → vN 4294967296 (M1 rw) 10 * 4294967296 ^ i = vN 4294967296 (M a) i * V8 (M b) + q * PP → vN 4294967296 (M1 rw) 10 < 2 * PP → wd g H locs M1 → lv_has ls 6 [(4, .int (nI i)), (0, .ref o), (1, .ref a), (2, .ref b), (3, .ref t)] → W p l e (rmm 1 27) s m args below meth c H locs 0 0 Q (F0 m 27 ls []) := by
    intro d
    induction d with
    | zero => intro i M1 H locs q ls h1 h2; exact absurd h2 (by omega)
    | succ d ih =>
      intro i M1 H locs q ls h1 h2 hk hI hV hW hl
      refine lv_iload hx hb d_F_reduced_27 (lv_at hl 0 rfl) ?_
      refine lv_bipush (v := 8) hx hb d_F_reduced_29 (by decide) ?_
      refine lv_icmp_ge (tgt := 108) hx hb d_F_reduced_31 (by decide) (fun c1 => ?_) (fun c1 => ?_)
      · have c2 := (nI_leI (a := 8) (b := i) (by decide) (by omega)).mp c1
        obtain rfl : i = 8 := by omega
        have loop3 : ∀ (d3 i : Nat) (M3 : Mm) (H : Heap) (locs : List Loc) (bv : Int32) (ls : Array Slot), i ≤ 8 → 8 + 1 ≤ i + d3 → kp M1 M3 t i → (∀ j, j < i → M3 t j = M1 rw j) → (bv = 0 ↔ M1 rw 8 = 0) → wd g H locs M3 → lv_has ls 6 [(5, .int (nI i)), (4, .int bv), (0, .ref o), (1, .ref a), (2, .ref b), (3, .ref t)] → W p l e (rmm 1 27) s m args below meth c H locs 0 0 Q (F0 m 128 ls []) := by
          intro d3
          induction d3 with
          | zero => intro i M3 H locs bv ls h1 h2; exact absurd h2 (by omega)
          | succ d3 ih3 =>
            intro i M3 H locs bv ls h1 h2 k3 hc hbv hW hl
            refine lv_iload hx hb d_F_reduced_128 (lv_at hl 0 rfl) ?_
            refine lv_bipush (v := 8) hx hb d_F_reduced_130 (by decide) ?_
            refine lv_icmp_ge (tgt := 152) hx hb d_F_reduced_132 (by decide) (fun c1 => ?_) (fun c1 => ?_)
            · have c2 := (nI_leI (a := 8) (b := i) (by decide) (by omega)).mp c1
              obtain rfl : i = 8 := by omega
              exact fin M3 M1 H locs ls bv hk k3 hc hV ⟨q, hI⟩ hbv hW (lv_sub hl [1, 2, 3, 4, 5] rfl)
            · have c2 : i < 8 := Nat.not_le.mp (fun z => c1 ((nI_leI (a := 8) (b := i) (by decide) (by omega)).mpr z))
              refine lv_aload_n hx hb d_F_reduced_135 rfl (lv_at hl 5 rfl) ?_
              refine lv_iload hx hb d_F_reduced_136 (lv_at hl 0 rfl) ?_
              refine lv_aload_n hx hb d_F_reduced_138 rfl (lv_at hl 2 rfl) ?_
              refine wd_get E K hW ho rfl i_F 3 (by decide) k_25 rfl d_F_reduced_139 ?_
              refine lv_iload hx hb d_F_reduced_142 (lv_at hl 0 rfl) ?_
              refine wd_ld E K hW hr i rfl (by omega) d_F_reduced_144 ?_
              refine lv_topi (fun v ev => ?_)
              refine wd_st E K hW ht i rfl (by omega) d_F_reduced_145 (fun H locs hW => ?_)
              refine lv_iinc (v := (nI (i + 1))) (lv' := [(5, .int (nI (i + 1))), (4, .int bv), (0, .ref o), (1, .ref a), (2, .ref b), (3, .ref t)]) hx hb d_F_reduced_146 hl (k := 0) rfl (nI_1 _) (by decide) rfl (fun ls hl => ?_)
              refine lv_goto (tgt := 128) hx hb d_F_reduced_149 (by decide) ?_
              refine ih3 (i + 1) _ H locs bv ls (by omega) (by omega) (k3.st _) (fun j hj => ?_) hbv hW (lv_sub hl [0, 1, 2, 3, 4, 5] rfl)
              by_cases hji : j = i
              · subst hji; rw [mst_at, ev]; exact k3 rw j (fun h => absurd h.symm nt)
              · rw [mst_ne (fun _ => hji)]; exact hc j (by omega)
        refine lv_aload_n hx hb d_F_reduced_108 rfl (lv_at hl 1 rfl) ?_
        refine wd_get E K hW ho rfl i_F 3 (by decide) k_25 rfl d_F_reduced_109 ?_
        refine lv_bipush (v := 8) hx hb d_F_reduced_112 (by decide) ?_
        refine wd_ld E K hW hr 8 (by decide) (by decide) d_F_reduced_114 ?_
        refine lv_if_eq (tgt := 122) hx hb d_F_reduced_115 (by decide) (fun c3 => ?_) (fun c3 => ?_)
        · refine lv_iconst (v := 0) hx hb d_F_reduced_122 (by decide) ?_
          refine lv_istore (lv' := [(4, .int 0), (0, .ref o), (1, .ref a), (2, .ref b), (3, .ref t)]) hx hb d_F_reduced_123 hl (by decide) rfl (fun ls hl => ?_)
          refine lv_iconst (v := 0) hx hb d_F_reduced_125 (by decide) ?_
          refine lv_istore (lv' := [(5, .int 0), (4, .int 0), (0, .ref o), (1, .ref a), (2, .ref b), (3, .ref t)]) hx hb d_F_reduced_126 hl (by decide) rfl (fun ls hl => ?_)
          exact loop3 9 0 M1 H locs 0 ls (by omega) (by omega) kp.rf (fun j hj => absurd hj (by omega)) ⟨fun _ => c3, fun _ => rfl⟩ hW (lv_sub hl [0, 1, 2, 3, 4, 5] rfl)
        · refine lv_iconst (v := 1) hx hb d_F_reduced_118 (by decide) ?_
          refine lv_goto (tgt := 123) hx hb d_F_reduced_119 (by decide) ?_
          refine lv_istore (lv' := [(4, .int 1), (0, .ref o), (1, .ref a), (2, .ref b), (3, .ref t)]) hx hb d_F_reduced_123 hl (by decide) rfl (fun ls hl => ?_)
          refine lv_iconst (v := 0) hx hb d_F_reduced_125 (by decide) ?_
          refine lv_istore (lv' := [(5, .int 0), (4, .int 1), (0, .ref o), (1, .ref a), (2, .ref b), (3, .ref t)]) hx hb d_F_reduced_126 hl (by decide) rfl (fun ls hl => ?_)
          exact loop3 9 0 M1 H locs 1 ls (by omega) (by omega) kp.rf (fun j hj => absurd hj (by omega)) ⟨fun h => absurd h (by decide), fun h => absurd h c3⟩ hW (lv_sub hl [0, 1, 2, 3, 4, 5] rfl)
      · have c2 : i < 8 := Nat.not_le.mp (fun z => c1 ((nI_leI (a := 8) (b := i) (by decide) (by omega)).mpr z))
        have ea : M1 a i = M a i := by rw [hk.out na]
        have eb : V8 (M1 b) = V8 (M b) := by rw [hk.out nb]
        have zl := w4_lt (M1 a i)
        refine lv_aload_n hx hb d_F_reduced_34 rfl (lv_at hl 1 rfl) ?_
        refine lv_aload_n hx hb d_F_reduced_35 rfl (lv_at hl 2 rfl) ?_
        refine lv_iload hx hb d_F_reduced_36 (lv_at hl 0 rfl) ?_
        refine wd_ld E K hW ha i rfl (by omega) d_F_reduced_38 ?_
        refine lv_aload_n hx hb d_F_reduced_39 rfl (lv_at hl 3 rfl) ?_
        refine ct_V E K hW hl.1 ho rfl (c_F_put l g o pr bk on rw pw bs mn (M1 a i) b M1 ho hr hb2 nb (by rw [eb]; exact red_sz1 hV zl hB)) k_121 k_2 k_118 k_120 k_1001 2 (by decide +kernel) rfl (by decide) rfl (Nat.le_of_ble_eq_true rfl) ⟨Nat.zero_le _, Nat.zero_le _⟩ d_F_reduced_40 (fun r M2 H locs hq hW => ?_)
        obtain ⟨rfl, k2, e2⟩ := hq
        refine W.eq (g2 := F0 m 43 ls []) rfl ?_
        rw [eb] at e2
        have ep : V8 (M2 pr) = PP := by rw [k2.out np, hk.out np]; exact h8
        refine lv_aload_n hx hb d_F_reduced_43 rfl (lv_at hl 1 rfl) ?_
        refine lv_aload_n hx hb d_F_reduced_44 rfl (lv_at hl 1 rfl) ?_
        refine wd_get E K hW ho rfl i_F 3 (by decide) k_25 rfl d_F_reduced_45 ?_
        refine lv_iconst (v := 0) hx hb d_F_reduced_48 (by decide) ?_
        refine wd_ld E K hW hr 0 (by decide) (by decide) d_F_reduced_49 ?_
        refine lv_aload_n hx hb d_F_reduced_50 rfl (lv_at hl 1 rfl) ?_
        refine wd_get E K hW ho rfl i_F 6 (by decide) k_28 rfl d_F_reduced_51 ?_
        refine lv_imul hx hb d_F_reduced_54 ?_
        refine lv_aload_n hx hb d_F_reduced_55 rfl (lv_at hl 1 rfl) ?_
        refine wd_get E K hW ho rfl i_F 0 (by decide) k_21 rfl d_F_reduced_56 ?_
        have ml := w4_lt (M2 rw 0 * mn)
        refine ct_V E K hW hl.1 ho rfl (c_F_put l g o pr bk on rw pw bs mn (M2 rw 0 * mn) pr M2 ho hr hp np (by rw [ep, e2]; exact red_sz2 hV zl hB ml)) k_121 k_2 k_118 k_120 k_1001 2 (by decide +kernel) rfl (by decide) rfl (Nat.le_of_ble_eq_true rfl) ⟨Nat.zero_le _, Nat.zero_le _⟩ d_F_reduced_59 (fun r M3 H locs hq hW => ?_)
        obtain ⟨rfl, k3, e3⟩ := hq
        refine W.eq (g2 := F0 m 62 ls []) rfl ?_
        rw [ep, e2] at e3
        have z0 : w4 (M3 rw 0) = 0 := by
          rw [← vN_low (M3 rw) 9, e3, ← e2]
          apply red_m0
          rw [vN_low, w4_mul, hmn]
        have loop2 : ∀ (d2 k : Nat) (M4 : Mm) (H : Heap) (locs : List Loc) (ls : Array Slot), k ≤ 9 → 9 + 1 ≤ k + d2 → kp M3 M4 rw k → (∀ j, j < k → M4 rw j = M3 rw (j + 1)) → wd g H locs M4 → lv_has ls 6 [(5, .int (nI k)), (4, .int (nI i)), (0, .ref o), (1, .ref a), (2, .ref b), (3, .ref t)] → W p l e (rmm 1 27) s m args below meth c H locs 0 0 Q (F0 m 65 ls []) := by
          intro d2
          induction d2 with
          | zero => intro k M4 H locs ls h1 h2; exact absurd h2 (by omega)
          | succ d2 ih2 =>
            intro k M4 H locs ls h1 h2 k4 h4 hW hl
            refine lv_iload hx hb d_F_reduced_65 (lv_at hl 0 rfl) ?_
            refine lv_bipush (v := 8) hx hb d_F_reduced_67 (by decide) ?_
            refine lv_icmp_gt (tgt := 94) hx hb d_F_reduced_69 (by decide) (fun c1 => ?_) (fun c1 => ?_)
            · have c2 : 8 < k := (nI_ltI (a := 8) (b := k) (by decide) (by omega)).mp c1
              obtain rfl : k = 9 := by omega
              refine lv_aload_n hx hb d_F_reduced_94 rfl (lv_at hl 2 rfl) ?_
              refine wd_get E K hW ho rfl i_F 3 (by decide) k_25 rfl d_F_reduced_95 ?_
              refine lv_bipush (v := 9) hx hb d_F_reduced_98 (by decide) ?_
              refine lv_iconst (v := 0) hx hb d_F_reduced_100 (by decide) ?_
              refine wd_st E K hW hr 9 (by decide) (by decide) d_F_reduced_101 (fun H locs hW => ?_)
              have zv : vN 4294967296 (mst M4 rw 9 0 rw) 10 * 4294967296 = vN 4294967296 (M1 rw) 10 + w4 (M1 a i) * V8 (M b) + w4 (M2 rw 0 * mn) * PP := by
                rw [vN_mst, w4_0, Nat.zero_mul, Nat.add_zero, ← e3, vN_shift (h := M4 rw) (n := 9) h4, z0, Nat.zero_add, Nat.mul_comm]
              refine lv_iinc (v := (nI (i + 1))) (lv' := [(4, .int (nI (i + 1))), (5, .int (nI 9)), (0, .ref o), (1, .ref a), (2, .ref b), (3, .ref t)]) hx hb d_F_reduced_102 hl (k := 1) rfl (nI_1 _) (by decide) rfl (fun ls hl => ?_)
              refine lv_goto (tgt := 27) hx hb d_F_reduced_105 (by decide) ?_
              refine ih (i + 1) _ H locs (q + w4 (M2 rw 0 * mn) * 4294967296 ^ i) ls (by omega) (by omega) (((hk.tr k2).tr k3).tr (k4.st 0)) ?_ (red_bnd hV zl ml hB zv) hW (lv_sub hl [0, 2, 3, 4, 5] rfl)
              rw [vN_s 4294967296 (M a) i, show 4294967296 ^ (i + 1) = 4294967296 ^ i * 4294967296 from Nat.pow_succ _ _]
              have rs := red_step hI zv
              rw [ea] at rs
              exact rs
            · have c2 : k < 9 := Nat.lt_succ_of_le (Nat.not_lt.mp (fun z => c1 ((nI_ltI (a := 8) (b := k) (by decide) (by omega)).mpr z)))
              refine lv_aload_n hx hb d_F_reduced_72 rfl (lv_at hl 2 rfl) ?_
              refine wd_get E K hW ho rfl i_F 3 (by decide) k_25 rfl d_F_reduced_73 ?_
              refine lv_iload hx hb d_F_reduced_76 (lv_at hl 0 rfl) ?_
              refine lv_aload_n hx hb d_F_reduced_78 rfl (lv_at hl 2 rfl) ?_
              refine wd_get E K hW ho rfl i_F 3 (by decide) k_25 rfl d_F_reduced_79 ?_
              refine lv_iload hx hb d_F_reduced_82 (lv_at hl 0 rfl) ?_
              refine lv_iconst (v := 1) hx hb d_F_reduced_84 (by decide) ?_
              refine lv_iadd hx hb d_F_reduced_85 ?_
              refine wd_ld E K hW hr (k + 1) (nI_1 k) (by omega) d_F_reduced_86 ?_
              refine lv_topi (fun v ev => ?_)
              refine wd_st E K hW hr k rfl (by omega) d_F_reduced_87 (fun H locs hW => ?_)
              refine lv_iinc (v := (nI (k + 1))) (lv' := [(5, .int (nI (k + 1))), (4, .int (nI i)), (0, .ref o), (1, .ref a), (2, .ref b), (3, .ref t)]) hx hb d_F_reduced_88 hl (k := 0) rfl (nI_1 _) (by decide) rfl (fun ls hl => ?_)
              refine lv_goto (tgt := 65) hx hb d_F_reduced_91 (by decide) ?_
              refine ih2 (k + 1) _ H locs ls (by omega) (by omega) (k4.st _) (fun j hj => ?_) hW (lv_sub hl [0, 1, 2, 3, 4, 5] rfl)
              by_cases hji : j = k
              · subst hji; rw [mst_at, ev]; exact k4 rw (j + 1) (fun _ => by omega)
              · rw [mst_ne (fun _ => hji)]; exact h4 j (by omega)
        refine lv_iconst (v := 0) hx hb d_F_reduced_62 (by decide) ?_
        refine lv_istore (lv' := [(5, .int 0), (4, .int (nI i)), (0, .ref o), (1, .ref a), (2, .ref b), (3, .ref t)]) hx hb d_F_reduced_63 hl (by decide) rfl (fun ls hl => ?_)
        exact loop2 10 0 M3 H locs ls (by omega) (by omega) kp.rf (fun j hj => absurd hj (by omega)) hW (lv_sub hl [0, 1, 2, 3, 4, 5] rfl)
  have loop0 : ∀ (d i : Nat) (M1 : Mm) (H : Heap) (locs : List Loc) (ls : Array Slot), i ≤ 10 → 10 + 1 ≤ i + d → kp M M1 rw i → (∀ j, j < i → M1 rw j = 0) → wd g H locs M1 → lv_has ls 6 [(4, .int (nI i)), (0, .ref o), (1, .ref a), (2, .ref b), (3, .ref t)] → W p l e (rmm 1 27) s m args below meth c H locs 0 0 Q (F0 m 3 ls []) := by
    intro d
    induction d with
    | zero => intro i M1 H locs ls h1 h2; exact absurd h2 (by omega)
    | succ d ih =>
      intro i M1 H locs ls h1 h2 hk hI hW hl
      refine lv_iload hx hb d_F_reduced_3 (lv_at hl 0 rfl) ?_
      refine lv_bipush (v := 10) hx hb d_F_reduced_5 (by decide) ?_
      refine lv_icmp_ge (tgt := 24) hx hb d_F_reduced_7 (by decide) (fun c1 => ?_) (fun c1 => ?_)
      · have c2 := (nI_leI (a := 10) (b := i) (by decide) (by omega)).mp c1
        obtain rfl : i = 10 := by omega
        refine lv_iconst (v := 0) hx hb d_F_reduced_24 (by decide) ?_
        refine lv_istore (lv' := [(4, .int 0), (0, .ref o), (1, .ref a), (2, .ref b), (3, .ref t)]) hx hb d_F_reduced_25 hl (by decide) rfl (fun ls hl => ?_)
        have hz := vN_all0 (B := 4294967296) (by decide) hI
        exact loop 9 0 M1 H locs 0 ls (by omega) (by omega) hk (by rw [hz, vN_0]; simp) (by rw [hz]; decide) hW (lv_sub hl [0, 1, 2, 3, 4] rfl)
      · have c2 : i < 10 := Nat.not_le.mp (fun z => c1 ((nI_leI (a := 10) (b := i) (by decide) (by omega)).mpr z))
        refine lv_aload_n hx hb d_F_reduced_10 rfl (lv_at hl 1 rfl) ?_
        refine wd_get E K hW ho rfl i_F 3 (by decide) k_25 rfl d_F_reduced_11 ?_
        refine lv_iload hx hb d_F_reduced_14 (lv_at hl 0 rfl) ?_
        refine lv_iconst (v := 0) hx hb d_F_reduced_16 (by decide) ?_
        refine wd_st E K hW hr i rfl (by omega) d_F_reduced_17 (fun H locs hW => ?_)
        refine lv_iinc (v := (nI (i + 1))) (lv' := [(4, .int (nI (i + 1))), (0, .ref o), (1, .ref a), (2, .ref b), (3, .ref t)]) hx hb d_F_reduced_18 hl (k := 0) rfl (nI_1 _) (by decide) rfl (fun ls hl => ?_)
        refine lv_goto (tgt := 3) hx hb d_F_reduced_21 (by decide) ?_
        refine ih (i + 1) _ H locs ls (by omega) (by omega) (hk.st _) (fun j hj => ?_) hW hl
        by_cases hji : j = i
        · subst hji; rw [mst_at]
        · rw [mst_ne (fun _ => hji)]; exact hI j (by omega)
  refine lv_iconst (v := 0) hx hb d_F_reduced_0 (by decide) ?_
  refine lv_istore (lv' := [(4, .int 0), (0, .ref o), (1, .ref a), (2, .ref b), (3, .ref t)]) hx hb d_F_reduced_1 hl (by decide) rfl (fun ls hl => ?_)
  exact loop0 11 0 M H [] ls (by omega) (by omega) kp.rf (fun j hj => absurd hj (by omega)) hW hl
end
section
theorem can_T {u v : Nat} (h : u * TT % PP = v * TT % PP) : u % PP = v % PP := by
  have e : TT * 91248989341183975618893650062416139444822672217621753343178995607984094583082 = 1 + 91248989341183975618893650062416139444822672217621753343178995607987479196977 * PP := by decide
  have h2 : u * TT * 91248989341183975618893650062416139444822672217621753343178995607984094583082 % PP = v * TT * 91248989341183975618893650062416139444822672217621753343178995607984094583082 % PP := by rw [Nat.mul_mod, h, ← Nat.mul_mod]
  have h3 : ∀ z : Nat, z * TT * 91248989341183975618893650062416139444822672217621753343178995607984094583082 % PP = z % PP := fun z => by
    rw [Nat.mul_assoc, e, Nat.mul_add, Nat.mul_one, ← Nat.mul_assoc, Nat.add_mul_mod_self_right]
  rw [h3, h3] at h2
  exact h2
abbrev BK : Nat := 18446752466076602529
abbrev ON : Nat := 4294968273
theorem BKm (z : Nat) : z * BK % PP = z * TT * TT % PP := by
  have e : TT * TT = BK + 115792089237316195423570985008687907853269984665640564039457584007917424608209 * PP := by decide
  rw [Nat.mul_assoc, e, Nat.mul_add, ← Nat.mul_assoc, Nat.add_mul_mod_self_right]
theorem mont_mul {A B R1 R2 : Nat} (h1 : R1 * TT % PP = A * B % PP) (h2 : R2 * TT % PP = R1 * BK % PP) (h3 : R2 < PP) : R2 = A * B % PP := by
  rw [BKm, Nat.mul_mod (R1 * TT) TT, h1, ← Nat.mul_mod] at h2
  have h4 := can_T h2
  rw [Nat.mod_eq_of_lt h3] at h4
  exact h4
/-- the base of the power: a times 2^256 -/
theorem mont_in {A R : Nat} (h : R * TT % PP = A * BK % PP) : R % PP = A * TT % PP := by
  rw [BKm] at h
  exact can_T h
theorem mont_pw {A c d R U V : Nat} (h : R * TT % PP = U * V % PP) (hU : U % PP = A ^ c * TT % PP) (hV : V % PP = A ^ d * TT % PP) : R % PP = A ^ (c + d) * TT % PP := by
  have e : ∀ (u v T : Nat), u * T * (v * T) = u * v * T * T := fun u v T => by grind
  apply can_T
  rw [h, Nat.mul_mod, hU, hV, ← Nat.mul_mod, Nat.pow_add, e]
theorem mont_out {A c R U : Nat} (h : R * TT % PP = U * 1 % PP) (hU : U % PP = A ^ c * TT % PP) (h3 : R < PP) : R = A ^ c % PP := by
  rw [Nat.mul_one, hU] at h
  have h4 := can_T h
  rw [Nat.mod_eq_of_lt h3] at h4
  exact h4
def pW (j : Nat) : Int32 := if j = 0 then -977 else if j = 1 then -2 else -1
theorem V8_of {f : Nat → Int32} {n : Nat} (h : w4 (f 0) + w4 (f 1) * 4294967296 + w4 (f 2) * 4294967296 ^ 2 + w4 (f 3) * 4294967296 ^ 3 + w4 (f 4) * 4294967296 ^ 4 + w4 (f 5) * 4294967296 ^ 5 + w4 (f 6) * 4294967296 ^ 6 + w4 (f 7) * 4294967296 ^ 7 = n) : V8 f = n := by
  rw [V8, vN_s, vN_s, vN_s, vN_s, vN_s, vN_s, vN_s, vN_s, vN_0, ← h]
  omega
theorem V8_pW {f : Nat → Int32} (h : ∀ j, j < 8 → f j = pW j) : V8 f = PP := by
  apply V8_of
  rw [h 0 (by decide), h 1 (by decide), h 2 (by decide), h 3 (by decide), h 4 (by decide), h 5 (by decide), h 6 (by decide), h 7 (by decide)]
  decide
theorem inv_bit : ∀ k, k < 256 → ((((if k < 32 then pW 0 - 2 else pW (k / 32)) >>> ((nI k - nI k / 32 * 32) &&& 31)) &&& 1 = 1) ↔ (PP - 2) / 2 ^ k % 2 = 1) := by decide +kernel
theorem exp_step (k : Nat) : (PP - 2) / 2 ^ k = (PP - 2) / 2 ^ (k + 1) + (PP - 2) / 2 ^ (k + 1) + (PP - 2) / 2 ^ k % 2 := by
  rw [Nat.pow_succ, ← Nat.div_div_eq_div_mul]
  omega
theorem or_disj {a b : Int32} {n : Nat} (ha : w4 a < 2147483648) (hb : w4 b = n * 2147483648) : w4 (a ||| b) = w4 a + n * 2147483648 := by
  unfold w4 at *
  rw [Int32.toBitVec_or, BitVec.toNat_or, hb, Nat.or_comm]
  have h := Nat.two_pow_add_eq_or_of_lt (i := 31) (b := a.toBitVec.toNat) (by omega) n
  rw [show n * 2147483648 = 2 ^ 31 * n by omega, ← h]
  omega
theorem half_word {a v : Int32} {y : Int64} (e : v = (a.toUInt32 >>> (Int32.toUInt32 1 &&& Int32.toUInt32 31)).toInt32 ||| (y.toInt32 <<< ((31 : Int32) &&& 31))) : 2 * w4 v + w4 a % 2 = w4 a + w8 y % 2 * 4294967296 := by
  have h1 : w4 (a.toUInt32 >>> (Int32.toUInt32 1 &&& Int32.toUInt32 31)).toInt32 = w4 a / 2 := pk_ushr a 1 1 (by decide)
  have h2 : w4 (y.toInt32 <<< ((31 : Int32) &&& 31)) = w4 y.toInt32 * 2 ^ 31 % 2 ^ 32 := pk_shl y.toInt32 ((31 : Int32) &&& 31) 31 (by decide)
  rw [w4_l] at h2
  have h3 := w4_lt a
  have h4 := or_disj (a := (a.toUInt32 >>> (Int32.toUInt32 1 &&& Int32.toUInt32 31)).toInt32) (b := y.toInt32 <<< ((31 : Int32) &&& 31)) (n := w8 y % 2) (by omega) (by omega)
  rw [e, h4, h1]
  omega
theorem num_half {hn f0 fn vb z nx B P : Nat} (h : 2 * hn + f0 = vb + fn % 2 * P) (hs : 2 * z + fn % 2 = fn + nx * B) : 2 * (hn + z * P) + f0 = vb + fn * P + nx * (P * B) := by grind
theorem bitOdd (a : Int32) : a &&& 1 = 1 ↔ w4 a % 2 = 1 := by
  have h := w4_and a 1 1 (by decide) (by decide)
  constructor
  · intro z; rw [z, w4_1] at h; omega
  · intro z; apply w4_inj; rw [h, w4_1]; omega
theorem carry_val {w : Int32} {wl v xl : Int64} {b0 b1 b2 : Int32} (e1 : wl = w.toInt64 &&& 4294967295) (e2 : v = wl * 977) (e3 : b0 = v.toInt32) (e4 : xl = (v.toUInt64 >>> ((Int32.toInt64 32).toUInt64 &&& Int64.toUInt64 63)).toInt64 + wl) (e5 : b1 = xl.toInt32) (e6 : b2 = (xl.toUInt64 >>> ((Int32.toInt64 32).toUInt64 &&& Int64.toUInt64 63)).toInt64.toInt32) :
    w4 b0 + w4 b1 * 4294967296 + w4 b2 * 4294967296 ^ 2 = w4 w * ON := by
  have h0 := w4_lt w
  have h1 : w8 wl = w4 w := by rw [e1]; exact w8_i w
  have h2 : w8 v = w4 w * 977 := by
    rw [e2, w8_mul, h1, show w8 977 = 977 by decide]; omega
  have h3 : w4 b0 = w8 v % 4294967296 := by rw [e3]; exact w4_l v
  have h4 : w8 xl = w8 v / 4294967296 + w4 w := by
    rw [e4, w8_add, h1]
    have := w8_s32 v
    rw [show w8 (v.toUInt64 >>> ((Int32.toInt64 32).toUInt64 &&& Int64.toUInt64 63)).toInt64 = w8 v / 4294967296 from this]
    omega
  have h5 : w4 b1 = w8 xl % 4294967296 := by rw [e5]; exact w4_l xl
  have h6 : w4 b2 = w8 xl / 4294967296 % 4294967296 := by
    rw [e6, w4_l]
    have := w8_s32 xl
    rw [show w8 (xl.toUInt64 >>> ((Int32.toInt64 32).toUInt64 &&& Int64.toUInt64 63)).toInt64 = w8 xl / 4294967296 from this]
  rw [show ON = 4294968273 from rfl]
  omega
def Fo (g : wg) (o pr bk on rw pw bs : Nat) (mn : Int32) : Prop := ob g o 1 [.ref pr, .ref bk, .ref on, .ref rw, .ref pw, .ref bs, .int mn] ∧ (aok g pr 8 ∧ aok g bk 8 ∧ aok g on 8 ∧ aok g rw 10 ∧ aok g pw 8 ∧ aok g bs 8) ∧ (pr ≠ bk ∧ pr ≠ on ∧ pr ≠ rw ∧ pr ≠ pw ∧ pr ≠ bs ∧ bk ≠ on ∧ bk ≠ rw ∧ bk ≠ pw ∧ bk ≠ bs ∧ on ≠ rw ∧ on ≠ pw ∧ on ≠ bs ∧ rw ≠ pw ∧ rw ≠ bs ∧ pw ≠ bs) ∧ w4 mn = 3525653809
def Fc (M : Mm) (pr bk on : Nat) : Prop := (∀ j, j < 8 → M pr j = pW j) ∧ V8 (M bk) = BK ∧ V8 (M on) = ON
def fx (z pr bk on rw pw bs : Nat) : Prop := z ≠ pr ∧ z ≠ bk ∧ z ≠ on ∧ z ≠ rw ∧ z ≠ pw ∧ z ≠ bs
theorem Fc.kept {M M' : Mm} {pr bk on : Nat} (h : Fc M pr bk on) (h1 : M' pr = M pr) (h2 : M' bk = M bk) (h3 : M' on = M on) : Fc M' pr bk on := by
  unfold Fc
  rw [h1, h2, h3]
  exact h
theorem carry_mem {M1 : Mm} {bs n : Nat} {b0 b1 b2 : Int32} (hI : ∀ j, j < 8 → M1 bs j = 0) (h : w4 b0 + w4 b1 * 4294967296 + w4 b2 * 4294967296 ^ 2 = n) : V8 (mst (mst (mst M1 bs 0 b0) bs 1 b1) bs 2 b2 bs) = n := by
  have k : ∀ j, 2 < j → j < 8 → w4 (mst (mst (mst M1 bs 0 b0) bs 1 b1) bs 2 b2 bs j) = 0 := fun j h1 h2 => by
    rw [mst_ne (fun _ => by omega), mst_ne (fun _ => by omega), mst_ne (fun _ => by omega), hI j h2, w4_0]
  have k0 : mst (mst (mst M1 bs 0 b0) bs 1 b1) bs 2 b2 bs 0 = b0 := by rw [mst_ne (fun _ => by decide), mst_ne (fun _ => by decide), mst_at]
  have k1 : mst (mst (mst M1 bs 0 b0) bs 1 b1) bs 2 b2 bs 1 = b1 := by rw [mst_ne (fun _ => by decide), mst_at]
  have k2 : mst (mst (mst M1 bs 0 b0) bs 1 b1) bs 2 b2 bs 2 = b2 := by rw [mst_at]
  apply V8_of
  rw [k0, k1, k2, k 3 (by decide) (by decide), k 4 (by decide) (by decide), k 5 (by decide) (by decide), k 6 (by decide) (by decide), k 7 (by decide) (by decide), h]
  omega
theorem bit0 {u : Nat} (h : ¬ u % 2 = 1) : u % 2 = 0 := by omega
theorem half_even {V u : Nat} (h : V % 4294967296 = u) (h2 : ¬ u % 2 = 1) : V % 2 = 0 := by omega
theorem half_odd {V u : Nat} (h : V % 4294967296 = u) (h2 : u % 2 = 1) : V % 2 = 1 := by omega
theorem half_odd2 {V : Nat} (h : V % 2 = 1) : (V + PP) % 2 = 0 := by rw [PPv]; omega
theorem half_fin {V V' u tv S T : Nat} (h0 : V % 4294967296 = u) (h : 2 * V' + u % 2 = V + tv % 2 * T) (hS : V + tv * T = S) (hev : S % 2 = 0) (ht : tv ≤ 1) (hT : T % 2 = 0 := by decide) : V' = S / 2 := by
  rcases (show tv = 0 ∨ tv = 1 by omega) with rfl | rfl
  · omega
  · omega
theorem carry_lt {u : Nat} (h : u < 4294967296) : u * ON < PP := by
  rw [PPv, show ON = 4294968273 from rfl]
  omega
end
section
set_option maxHeartbeats 4000000 in
set_option maxRecDepth 100000 in
/-- Field.multiply(a, b, t) -/
theorem c_F_multiply (l : Launch) (g : wg) (o pr bk on rw pw bs : Nat) (mn : Int32) (a b t : Nat) (M : Mm) (hF : Fo g o pr bk on rw pw bs mn) (hC : Fc M pr bk on) (ha : aok g a 8) (hb2 : aok g b 8) (ht : aok g t 8) (na : a ≠ rw) (nb : b ≠ rw) (nt : fx t pr bk on rw pw bs) (hB : V8 (M b) < PP) : Ct l y_F_multiply b_F_multiply 4 none 2 52 g [.ref o, .ref a, .ref b, .ref t] M (fun r M' => r = none ∧ (∀ q, q ≠ t → q ≠ rw → M' q = M q) ∧ V8 (M' t) = V8 (M a) * V8 (M b) % PP) := by
  refine Ct.of rfl (Nat.le_of_ble_eq_true rfl) (fun p e s m args below meth c H ls Q E K hQ hW hl => ?_)
  have hx := E.1
  have hb := E.2.1
  have hown := E.2.2.2.2.1
  have hts := E.2.2.2.2.2.1
  have hl : lv_has ls 4 [(0, .ref o), (1, .ref a), (2, .ref b), (3, .ref t)] := hl
  obtain ⟨ho, ⟨hp, hbk, hon, hr, hpw, hbs⟩, ⟨d1, d2, d3, d4, d5, d6, d7, d8, d9, d10, d11, d12, d13, d14, d15⟩, hmn⟩ := hF
  obtain ⟨hcp, hcb, hco⟩ := id hC
  have h8 := V8_pW hcp
  obtain ⟨t1, t2, t3, t4, t5, t6⟩ := nt
  refine lv_aload_n hx hb d_F_multiply_0 rfl (lv_at hl 0 rfl) ?_
  refine lv_aload_n hx hb d_F_multiply_1 rfl (lv_at hl 1 rfl) ?_
  refine lv_aload_n hx hb d_F_multiply_2 rfl (lv_at hl 2 rfl) ?_
  refine lv_aload_n hx hb d_F_multiply_3 rfl (lv_at hl 3 rfl) ?_
  refine ct_V E K hW hl.1 ho rfl (c_F_reduced l g o pr bk on rw pw bs mn a b t M ho hp hr ha hb2 ht na nb t4 d3 t1.symm h8 hmn hB) k_117 k_2 k_114 k_115 k_116 3 (by decide +kernel) rfl (by decide) rfl (Nat.le_of_ble_eq_true rfl) ⟨Nat.zero_le _, Nat.zero_le _⟩ d_F_multiply_4 (fun r M1 H locs hq hW => ?_)
  obtain ⟨rfl, f1, l1, e1⟩ := hq
  refine W.eq (g2 := F0 m 7 ls []) rfl ?_
  have p1 : V8 (M1 pr) = PP := by rw [f1 pr t1.symm d3]; exact h8
  have b1 : V8 (M1 bk) = BK := by rw [f1 bk t2.symm d7]; exact hcb
  refine lv_aload_n hx hb d_F_multiply_7 rfl (lv_at hl 0 rfl) ?_
  refine lv_aload_n hx hb d_F_multiply_8 rfl (lv_at hl 3 rfl) ?_
  refine lv_aload_n hx hb d_F_multiply_9 rfl (lv_at hl 0 rfl) ?_
  refine wd_get E K hW ho rfl i_F 1 (by decide) k_23 rfl d_F_multiply_10 ?_
  refine lv_aload_n hx hb d_F_multiply_13 rfl (lv_at hl 3 rfl) ?_
  refine ct_V E K hW hl.1 ho rfl (c_F_reduced l g o pr bk on rw pw bs mn t bk t M1 ho hp hr ht hbk ht t4 d7 t4 d3 t1.symm p1 hmn (by rw [b1]; decide)) k_117 k_2 k_114 k_115 k_116 3 (by decide +kernel) rfl (by decide) rfl (Nat.le_of_ble_eq_true rfl) ⟨Nat.zero_le _, Nat.zero_le _⟩ d_F_multiply_14 (fun r M2 H locs hq hW => ?_)
  obtain ⟨rfl, f2, l2, e2⟩ := hq
  refine W.eq (g2 := F0 m 17 ls []) rfl ?_
  rw [b1] at e2
  exact ct_v E hQ hW d_F_multiply_17 ⟨rfl, fun q h1 h2 => (f2 q h1 h2).trans (f1 q h1 h2), mont_mul e1 e2 l2⟩
set_option maxHeartbeats 4000000 in
set_option maxRecDepth 100000 in
/-- Field.halve(a, t) -/
theorem c_F_halve (l : Launch) (g : wg) (o pr bk on rw pw bs : Nat) (mn : Int32) (a t : Nat) (M : Mm) (ho : ob g o 1 [.ref pr, .ref bk, .ref on, .ref rw, .ref pw, .ref bs, .int mn]) (hp : aok g pr 8) (ha : aok g a 8) (ht : aok g t 8) (nat : a ≠ t) (npt : pr ≠ t) (h8 : V8 (M pr) = PP) : Ct l y_F_halve b_F_halve 6 none 1 25 g [.ref o, .ref a, .ref t] M (fun r M' => r = none ∧ kp M M' t 8 ∧ V8 (M' t) = (if V8 (M a) % 2 = 1 then V8 (M a) + PP else V8 (M a)) / 2) := by
  refine Ct.of rfl (Nat.le_of_ble_eq_true rfl) (fun p e s m args below meth c H ls Q E K hQ hW hl => ?_)
  have hx := E.1
  have hb := E.2.1
  have hown := E.2.2.2.2.1
  have hts := E.2.2.2.2.2.1
  have hl : lv_has ls 6 [(0, .ref o), (1, .ref a), (2, .ref t)] := hl
  have fin : ∀ (S : Nat) (M2 : Mm) (tv : Int64) (H : Heap) (locs : List Loc) (ls : Array Slot), kp M M2 t 8 → w8 tv ≤ 1 → V8 (M2 t) + w8 tv * TT = S → S % 2 = 0 → S = (if V8 (M a) % 2 = 1 then V8 (M a) + PP else V8 (M a)) → wd g H locs M2 → lv_has ls 6 [(3, .long tv), (0, .ref o), (1, .ref a), (2, .ref t)] → W p l e (rmm 1 25) s m args below meth c H locs 0 0 Q (F0 m 26 ls []) := by
    intro S M2 tv H locs ls k2 htv hS hev hSe hW hl
    have loop : ∀ (d i : Nat) (M3 : Mm) (H : Heap) (locs : List Loc) (ls : Array Slot), i ≤ 8 → 8 + 1 ≤ i + d → kp M2 M3 t i → 2 * vN 4294967296 (M3 t) i + w4 (M2 t 0) % 2 = vN 4294967296 (M2 t) i + (if i < 8 then w4 (M2 t i) % 2 else w8 tv % 2) * 4294967296 ^ i → wd g H locs M3 → lv_has ls 6 [(5, .int (nI i)), (3, .long tv), (0, .ref o), (1, .ref a), (2, .ref t)] → W p l e (rmm 1 25) s m args below meth c H locs 0 0 Q (F0 m 29 ls []) := by
      intro d
      induction d with
      | zero => intro i M3 H locs ls h1 h2; exact absurd h2 (by omega)
      | succ d ih =>
        intro i M3 H locs ls h1 h2 k3 hI hW hl
        refine lv_iload hx hb d_F_halve_29 (lv_at hl 0 rfl) ?_
        refine lv_bipush (v := 8) hx hb d_F_halve_31 (by decide) ?_
        refine lv_icmp_ge (tgt := 81) hx hb d_F_halve_33 (by decide) (fun c1 => ?_) (fun c1 => ?_)
        · have c2 := (nI_leI (a := 8) (b := i) (by decide) (by omega)).mp c1
          obtain rfl : i = 8 := by omega
          refine ct_v E hQ hW d_F_halve_81 ⟨rfl, k2.tr k3, ?_⟩
          rw [← hSe]
          rw [if_neg (by decide)] at hI
          exact half_fin (vN_low (M2 t) 7) hI hS hev htv
        · have c2 : i < 8 := Nat.not_le.mp (fun z => c1 ((nI_leI (a := 8) (b := i) (by decide) (by omega)).mpr z))
          have e0 : M3 t i = M2 t i := k3 t i (fun _ => Nat.le_refl _)
          refine lv_aload_n hx hb d_F_halve_36 rfl (lv_at hl 4 rfl) ?_
          refine lv_iload hx hb d_F_halve_37 (lv_at hl 0 rfl) ?_
          refine lv_aload_n hx hb d_F_halve_39 rfl (lv_at hl 4 rfl) ?_
          refine lv_iload hx hb d_F_halve_40 (lv_at hl 0 rfl) ?_
          refine wd_ld E K hW ht i rfl (by omega) d_F_halve_42 ?_
          refine lv_iconst (v := 1) hx hb d_F_halve_43 (by decide) ?_
          refine lv_iushr hx hb d_F_halve_44 rfl ?_
          refine lv_iload hx hb d_F_halve_45 (lv_at hl 0 rfl) ?_
          refine lv_iconst (v := 1) hx hb d_F_halve_47 (by decide) ?_
          refine lv_iadd hx hb d_F_halve_48 ?_
          refine lv_bipush (v := 8) hx hb d_F_halve_49 (by decide) ?_
          refine lv_icmp_ge (tgt := 68) hx hb d_F_halve_51 (by decide) (fun c3 => ?_) (fun c3 => ?_)
          · have c4 : 8 ≤ i + 1 := (nI_leI (a := 8) (b := i + 1) (by decide) (by omega)).mp (by rw [nI_1] at c3; exact c3)
            refine lv_lload_n hx hb d_F_halve_68 rfl (lv_at hl 1 rfl) ?_
            refine lv_l2i hx hb d_F_halve_69 rfl ?_
            refine lv_bipush (v := 31) hx hb d_F_halve_70 (by decide) ?_
            refine lv_ishl hx hb d_F_halve_72 ?_
            refine lv_ior hx hb d_F_halve_73 ?_
            refine lv_topi (fun z ez => ?_)
            refine wd_st E K hW ht i rfl (by omega) d_F_halve_74 (fun H locs hW => ?_)
            refine lv_iinc (v := (nI (i + 1))) (lv' := [(5, .int (nI (i + 1))), (3, .long tv), (0, .ref o), (1, .ref a), (2, .ref t)]) hx hb d_F_halve_75 hl (k := 0) rfl (nI_1 _) (by decide) rfl (fun ls hl => ?_)
            refine lv_goto (tgt := 29) hx hb d_F_halve_78 (by decide) ?_
            rw [e0] at ez
            have hz := half_word ez
            refine ih (i + 1) _ H locs ls (by omega) (by omega) (k3.st _) ?_ hW (lv_sub hl [0, 1, 2, 3, 4] rfl)
            rw [if_pos c2] at hI
            rw [vN_mst, vN_s, Nat.pow_succ]
            rw [if_neg (by omega)]
            exact num_half hI hz
          · have c4 : ¬ 8 ≤ i + 1 := fun z => c3 (by rw [nI_1]; exact (nI_leI (a := 8) (b := i + 1) (by decide) (by omega)).mpr z)
            refine lv_aload_n hx hb d_F_halve_54 rfl (lv_at hl 4 rfl) ?_
            refine lv_iload hx hb d_F_halve_55 (lv_at hl 0 rfl) ?_
            refine lv_iconst (v := 1) hx hb d_F_halve_57 (by decide) ?_
            refine lv_iadd hx hb d_F_halve_58 ?_
            refine wd_ld E K hW ht (i + 1) (nI_1 i) (by omega) d_F_halve_59 ?_
            refine lv_i2l hx hb d_F_halve_60 rfl ?_
            refine lv_ldc2 hx hb hown (hts _ k_77) d_F_halve_61 ?_
            refine lv_land hx hb d_F_halve_64 ?_
            refine lv_goto (tgt := 69) hx hb d_F_halve_65 (by decide) ?_
            refine lv_l2i hx hb d_F_halve_69 rfl ?_
            refine lv_bipush (v := 31) hx hb d_F_halve_70 (by decide) ?_
            refine lv_ishl hx hb d_F_halve_72 ?_
            refine lv_ior hx hb d_F_halve_73 ?_
            refine lv_topi (fun z ez => ?_)
            refine wd_st E K hW ht i rfl (by omega) d_F_halve_74 (fun H locs hW => ?_)
            refine lv_iinc (v := (nI (i + 1))) (lv' := [(5, .int (nI (i + 1))), (3, .long tv), (0, .ref o), (1, .ref a), (2, .ref t)]) hx hb d_F_halve_75 hl (k := 0) rfl (nI_1 _) (by decide) rfl (fun ls hl => ?_)
            refine lv_goto (tgt := 29) hx hb d_F_halve_78 (by decide) ?_
            rw [e0] at ez
            rw [k3 t (i + 1) (fun _ => by omega)] at ez
            have hz := half_word ez
            refine ih (i + 1) _ H locs ls (by omega) (by omega) (k3.st _) ?_ hW (lv_sub hl [0, 1, 2, 3, 4] rfl)
            rw [if_pos c2] at hI
            rw [vN_mst, vN_s, Nat.pow_succ]
            rw [if_pos (by omega)]
            rw [w8_i] at hz
            exact num_half hI hz
    refine lv_iconst (v := 0) hx hb d_F_halve_26 (by decide) ?_
    refine lv_istore (lv' := [(5, .int 0), (3, .long tv), (0, .ref o), (1, .ref a), (2, .ref t)]) hx hb d_F_halve_27 hl (by decide) rfl (fun ls hl => ?_)
    exact loop 9 0 M2 H locs ls (by omega) (by omega) kp.rf (by simp [vN_0]) hW (lv_sub hl [0, 1, 2, 3, 4] rfl)
  refine lv_lconst (v := 0) hx hb d_F_halve_0 (by decide) ?_
  refine lv_lstore_n (lv' := [(3, .long 0), (0, .ref o), (1, .ref a), (2, .ref t)]) hx hb d_F_halve_1 rfl hl (by decide) rfl (fun ls hl => ?_)
  refine lv_aload_n hx hb d_F_halve_2 rfl (lv_at hl 2 rfl) ?_
  refine lv_aload_n hx hb d_F_halve_3 rfl (lv_at hl 3 rfl) ?_
  refine ct_S E K hW hl.1 (c_F_copy l g a t M ha ht) k_72 k_2 k_144 k_71 2 (by decide +kernel) rfl (by decide) rfl (Nat.le_of_ble_eq_true rfl) ⟨Nat.zero_le _, Nat.zero_le _⟩ d_F_halve_4 (fun r M1 H locs hq hW => ?_)
  obtain ⟨rfl, k1, c1⟩ := hq
  refine W.eq (g2 := F0 m 7 ls []) rfl ?_
  have v1 : V8 (M1 t) = V8 (M a) := vN_congr c1
  have a1 : M1 a = M a := k1.out nat
  have od := bitOdd (M a 0)
  have lw := vN_low (M a) 7
  refine lv_aload_n hx hb d_F_halve_7 rfl (lv_at hl 2 rfl) ?_
  refine lv_iconst (v := 0) hx hb d_F_halve_8 (by decide) ?_
  refine wd_ld E K hW ha 0 (by decide) (by decide) d_F_halve_9 ?_
  refine lv_iconst (v := 1) hx hb d_F_halve_10 (by decide) ?_
  refine lv_iand hx hb d_F_halve_11 ?_
  refine lv_iconst (v := 1) hx hb d_F_halve_12 (by decide) ?_
  refine lv_icmp_ne (tgt := 26) hx hb d_F_halve_13 (by decide) (fun c3 => ?_) (fun c3 => ?_)
  · rw [a1] at c3
    have ev : V8 (M a) % 2 = 0 := half_even lw (fun z => c3 (od.mpr z))
    exact fin (V8 (M a)) M1 0 H locs ls k1 (by decide) (by rw [v1, w8_0, Nat.zero_mul, Nat.add_zero]) ev (by rw [if_neg (by rw [ev]; decide)]) hW (lv_sub hl [0, 1, 2, 3] rfl)
  · rw [a1] at c3
    have ev : V8 (M a) % 2 = 1 := half_odd lw (od.mp c3)
    refine lv_aload_n hx hb d_F_halve_16 rfl (lv_at hl 2 rfl) ?_
    refine lv_aload_n hx hb d_F_halve_17 rfl (lv_at hl 1 rfl) ?_
    refine wd_get E K hW ho rfl i_F 0 (by decide) k_21 rfl d_F_halve_18 ?_
    refine lv_aload_n hx hb d_F_halve_21 rfl (lv_at hl 3 rfl) ?_
    refine ct_S E K hW hl.1 (c_F_sum l g a pr t M1 ha hp ht) k_95 k_2 k_93 k_94 3 (by decide +kernel) rfl (by decide) rfl (Nat.le_of_ble_eq_true rfl) ⟨Nat.zero_le _, Nat.zero_le _⟩ d_F_halve_22 (fun r M2 H locs hq hW => ?_)
    obtain ⟨cv, rfl, k2, hc, e2⟩ := hq
    refine W.eq (g2 := F0 m 25 ls [.long cv]) rfl ?_
    rw [a1, k1.out npt, h8] at e2
    refine lv_lstore_n (lv' := [(3, .long cv), (0, .ref o), (1, .ref a), (2, .ref t)]) hx hb d_F_halve_25 rfl hl (by decide) rfl (fun ls hl => ?_)
    exact fin (V8 (M a) + PP) M2 cv H locs ls (k1.tr k2) hc e2 (half_odd2 ev) (by rw [if_pos ev]) hW (lv_sub hl [0, 1, 2, 3] rfl)
set_option maxHeartbeats 4000000 in
set_option maxRecDepth 100000 in
/-- Field.carry(a, word, t) -/
theorem c_F_carry (l : Launch) (g : wg) (o pr bk on rw pw bs : Nat) (mn : Int32) (a : Nat) (wv : Int32) (t : Nat) (M : Mm) (ho : ob g o 1 [.ref pr, .ref bk, .ref on, .ref rw, .ref pw, .ref bs, .int mn]) (hp : aok g pr 8) (hbs : aok g bs 8) (ha : aok g a 8) (ht : aok g t 8) (nab : a ≠ bs) (npt : pr ≠ t) (npb : pr ≠ bs) (h8 : V8 (M pr) = PP) (hA : V8 (M a) < PP) : Ct l y_F_carry b_F_carry 10 none 2 52 g [.ref o, .ref a, .int wv, .ref t] M (fun r M' => r = none ∧ (∀ q, q ≠ t → q ≠ bs → M' q = M q) ∧ V8 (M' t) = (V8 (M a) + w4 wv * ON) % PP) := by
  refine Ct.of rfl (Nat.le_of_ble_eq_true rfl) (fun p e s m args below meth c H ls Q E K hQ hW hl => ?_)
  have hx := E.1
  have hb := E.2.1
  have hown := E.2.2.2.2.1
  have hts := E.2.2.2.2.2.1
  have hl : lv_has ls 10 [(0, .ref o), (1, .ref a), (2, .int wv), (3, .ref t)] := hl
  refine lv_iload_n hx hb d_F_carry_0 rfl (lv_at hl 2 rfl) ?_
  refine lv_i2l hx hb d_F_carry_1 rfl ?_
  refine lv_ldc2 hx hb hown (hts _ k_77) d_F_carry_2 ?_
  refine lv_land hx hb d_F_carry_5 ?_
  refine lv_topl (fun wl ewl => ?_)
  refine lv_lstore (lv' := [(4, .long wl), (0, .ref o), (1, .ref a), (2, .int wv), (3, .ref t)]) hx hb d_F_carry_6 hl (by decide) rfl (fun ls hl => ?_)
  refine lv_lload hx hb d_F_carry_8 (lv_at hl 0 rfl) ?_
  refine lv_ldc2 hx hb hown (hts _ k_172) d_F_carry_10 ?_
  refine lv_lmul hx hb d_F_carry_13 ?_
  refine lv_topl (fun v ev => ?_)
  refine lv_lstore (lv' := [(6, .long v), (4, .long wl), (0, .ref o), (1, .ref a), (2, .int wv), (3, .ref t)]) hx hb d_F_carry_14 hl (by decide) rfl (fun ls hl => ?_)
  have loop : ∀ (d i : Nat) (M1 : Mm) (H : Heap) (locs : List Loc) (ls : Array Slot), i ≤ 8 → 8 + 1 ≤ i + d → kp M M1 bs i → (∀ j, j < i → M1 bs j = 0) → wd g H locs M1 → lv_has ls 10 [(8, .int (nI i)), (6, .long v), (4, .long wl), (0, .ref o), (1, .ref a), (2, .int wv), (3, .ref t)] → W p l e (rmm 2 52) s m args below meth c H locs 0 0 Q (F0 m 19 ls []) := by
    intro d
    induction d with
    | zero => intro i M1 H locs ls h1 h2; exact absurd h2 (by omega)
    | succ d ih =>
      intro i M1 H locs ls h1 h2 hk hI hW hl
      refine lv_iload hx hb d_F_carry_19 (lv_at hl 0 rfl) ?_
      refine lv_bipush (v := 8) hx hb d_F_carry_21 (by decide) ?_
      refine lv_icmp_ge (tgt := 40) hx hb d_F_carry_23 (by decide) (fun c1 => ?_) (fun c1 => ?_)
      · have c2 := (nI_leI (a := 8) (b := i) (by decide) (by omega)).mp c1
        obtain rfl : i = 8 := by omega
        refine lv_aload_n hx hb d_F_carry_40 rfl (lv_at hl 3 rfl) ?_
        refine wd_get E K hW ho rfl i_F 5 (by decide) k_27 rfl d_F_carry_41 ?_
        refine lv_iconst (v := 0) hx hb d_F_carry_44 (by decide) ?_
        refine lv_lload hx hb d_F_carry_45 (lv_at hl 1 rfl) ?_
        refine lv_l2i hx hb d_F_carry_47 rfl ?_
        refine lv_topi (fun b0 eb0 => ?_)
        refine wd_st E K hW hbs 0 (by decide) (by decide) d_F_carry_48 (fun H locs hW => ?_)
        refine lv_lload hx hb d_F_carry_49 (lv_at hl 1 rfl) ?_
        refine lv_bipush (v := 32) hx hb d_F_carry_51 (by decide) ?_
        refine lv_lushr hx hb d_F_carry_53 rfl ?_
        refine lv_lload hx hb d_F_carry_54 (lv_at hl 2 rfl) ?_
        refine lv_ladd hx hb d_F_carry_56 ?_
        refine lv_topl (fun xl exl => ?_)
        refine lv_lstore (lv' := [(8, .long xl), (6, .long v), (4, .long wl), (0, .ref o), (1, .ref a), (2, .int wv), (3, .ref t)]) hx hb d_F_carry_57 hl (by decide) rfl (fun ls hl => ?_)
        refine lv_aload_n hx hb d_F_carry_59 rfl (lv_at hl 3 rfl) ?_
        refine wd_get E K hW ho rfl i_F 5 (by decide) k_27 rfl d_F_carry_60 ?_
        refine lv_iconst (v := 1) hx hb d_F_carry_63 (by decide) ?_
        refine lv_lload hx hb d_F_carry_64 (lv_at hl 0 rfl) ?_
        refine lv_l2i hx hb d_F_carry_66 rfl ?_
        refine lv_topi (fun b1 eb1 => ?_)
        refine wd_st E K hW hbs 1 (by decide) (by decide) d_F_carry_67 (fun H locs hW => ?_)
        refine lv_aload_n hx hb d_F_carry_68 rfl (lv_at hl 3 rfl) ?_
        refine wd_get E K hW ho rfl i_F 5 (by decide) k_27 rfl d_F_carry_69 ?_
        refine lv_iconst (v := 2) hx hb d_F_carry_72 (by decide) ?_
        refine lv_lload hx hb d_F_carry_73 (lv_at hl 0 rfl) ?_
        refine lv_bipush (v := 32) hx hb d_F_carry_75 (by decide) ?_
        refine lv_lushr hx hb d_F_carry_77 rfl ?_
        refine lv_l2i hx hb d_F_carry_78 rfl ?_
        refine lv_topi (fun b2 eb2 => ?_)
        refine wd_st E K hW hbs 2 (by decide) (by decide) d_F_carry_79 (fun H locs hW => ?_)
        have cvv := carry_val ewl ev eb0 exl eb1 eb2
        obtain ⟨M2, eM⟩ : ∃ M2, M2 = (mst (mst (mst M1 bs 0 b0) bs 1 b1) bs 2 b2) := ⟨_, rfl⟩
        rw [← eM] at hW
        have o2 : ∀ q, q ≠ bs → M2 q = M q := fun q h => by rw [eM, mst_out h, mst_out h, mst_out h, hk.out h]
        have vb : V8 (M2 bs) = w4 wv * ON := by rw [eM]; exact carry_mem hI cvv
        have wl4 := w4_lt wv
        refine lv_aload_n hx hb d_F_carry_80 rfl (lv_at hl 3 rfl) ?_
        refine lv_aload_n hx hb d_F_carry_81 rfl (lv_at hl 4 rfl) ?_
        refine lv_aload_n hx hb d_F_carry_82 rfl (lv_at hl 3 rfl) ?_
        refine wd_get E K hW ho rfl i_F 5 (by decide) k_27 rfl d_F_carry_83 ?_
        refine lv_aload_n hx hb d_F_carry_86 rfl (lv_at hl 6 rfl) ?_
        refine ct_V E K hW hl.1 ho rfl (c_F_add l g o pr bk on rw pw bs mn a bs t M2 ho hp ha hbs ht npt (by rw [o2 pr npb]; exact h8) (by rw [o2 a nab]; exact hA) (by rw [vb]; exact carry_lt wl4)) k_92 k_2 k_173 k_90 k_91 3 (by decide +kernel) rfl (by decide) rfl (Nat.le_of_ble_eq_true rfl) ⟨Nat.zero_le _, Nat.zero_le _⟩ d_F_carry_87 (fun r M3 H locs hq hW => ?_)
        obtain ⟨rfl, k3, e3⟩ := hq
        refine W.eq (g2 := F0 m 90 ls []) rfl ?_
        rw [vb, o2 a nab] at e3
        exact ct_v E hQ hW d_F_carry_90 ⟨rfl, fun q h1 h2 => by rw [k3.out h1, o2 q h2], e3⟩
      · have c2 : i < 8 := Nat.not_le.mp (fun z => c1 ((nI_leI (a := 8) (b := i) (by decide) (by omega)).mpr z))
        refine lv_aload_n hx hb d_F_carry_26 rfl (lv_at hl 3 rfl) ?_
        refine wd_get E K hW ho rfl i_F 5 (by decide) k_27 rfl d_F_carry_27 ?_
        refine lv_iload hx hb d_F_carry_30 (lv_at hl 0 rfl) ?_
        refine lv_iconst (v := 0) hx hb d_F_carry_32 (by decide) ?_
        refine wd_st E K hW hbs i rfl (by omega) d_F_carry_33 (fun H locs hW => ?_)
        refine lv_iinc (v := (nI (i + 1))) (lv' := [(8, .int (nI (i + 1))), (6, .long v), (4, .long wl), (0, .ref o), (1, .ref a), (2, .int wv), (3, .ref t)]) hx hb d_F_carry_34 hl (k := 0) rfl (nI_1 _) (by decide) rfl (fun ls hl => ?_)
        refine lv_goto (tgt := 19) hx hb d_F_carry_37 (by decide) ?_
        refine ih (i + 1) _ H locs ls (by omega) (by omega) (hk.st _) (fun j hj => ?_) hW hl
        by_cases hji : j = i
        · subst hji; rw [mst_at]
        · rw [mst_ne (fun _ => hji)]; exact hI j (by omega)
  refine lv_iconst (v := 0) hx hb d_F_carry_16 (by decide) ?_
  refine lv_istore (lv' := [(8, .int 0), (6, .long v), (4, .long wl), (0, .ref o), (1, .ref a), (2, .int wv), (3, .ref t)]) hx hb d_F_carry_17 hl (by decide) rfl (fun ls hl => ?_)
  exact loop 9 0 M H [] ls (by omega) (by omega) kp.rf (fun j hj => absurd hj (by omega)) hW hl
set_option maxHeartbeats 4000000 in
set_option maxRecDepth 100000 in
/-- Field.invert(a, t) -/
theorem c_F_invert (l : Launch) (g : wg) (o pr bk on rw pw bs : Nat) (mn : Int32) (a t : Nat) (M : Mm) (hF : Fo g o pr bk on rw pw bs mn) (hC : Fc M pr bk on) (ha : aok g a 8) (ht : aok g t 8) (na : a ≠ rw) (nt : fx t pr bk on rw pw bs) : Ct l y_F_invert b_F_invert 5 none 2 52 g [.ref o, .ref a, .ref t] M (fun r M' => r = none ∧ (∀ q, q ≠ t → q ≠ rw → q ≠ pw → q ≠ bs → M' q = M q) ∧ V8 (M' t) = V8 (M a) ^ (PP - 2) % PP) := by
  refine Ct.of rfl (Nat.le_of_ble_eq_true rfl) (fun p e s m args below meth c H ls Q E K hQ hW hl => ?_)
  have hx := E.1
  have hb := E.2.1
  have hown := E.2.2.2.2.1
  have hts := E.2.2.2.2.2.1
  have hl : lv_has ls 5 [(0, .ref o), (1, .ref a), (2, .ref t)] := hl
  obtain ⟨ho, ⟨hp, hbk, hon, hr, hpw, hbs⟩, ⟨d1, d2, d3, d4, d5, d6, d7, d8, d9, d10, d11, d12, d13, d14, d15⟩, hmn⟩ := hF
  obtain ⟨hcp, hcb, hco⟩ := id hC
  have h8 := V8_pW hcp
  obtain ⟨t1, t2, t3, t4, t5, t6⟩ := nt
  have loop : ∀ (k : Nat) (v : Int32) (M1 : Mm) (H : Heap) (locs : List Loc) (ls : Array Slot), v = nI k + (-1) → k ≤ 256 → (∀ q, q ≠ rw → q ≠ pw → q ≠ bs → M1 q = M q) → V8 (M1 bs) < PP → V8 (M1 bs) % PP = V8 (M a) * TT % PP → V8 (M1 pw) < PP → V8 (M1 pw) % PP = V8 (M a) ^ ((PP - 2) / 2 ^ k) * TT % PP → wd g H locs M1 → lv_has ls 5 [(3, .int v), (0, .ref o), (1, .ref a), (2, .ref t)] → W p l e (rmm 2 52) s m args below meth c H locs 0 0 Q (F0 m 28 ls []) := by
    intro k
    induction k with
    | zero =>
      intro v M1 H locs ls hv h1 fq hbl hbe hpl hpe hW hl
      subst hv
      refine lv_iload_n hx hb d_F_invert_28 rfl (lv_at hl 0 rfl) ?_
      refine lv_if_lt (tgt := 111) hx hb d_F_invert_29 (by decide) (fun c1 => ?_) (fun c1 => ?_)
      · have loop2 : ∀ (d2 i : Nat) (M2 : Mm) (H : Heap) (locs : List Loc) (ls : Array Slot), i ≤ 8 → 8 + 1 ≤ i + d2 → kp M1 M2 t i → (∀ j, j < i → M2 t j = if j = 0 then 1 else 0) → wd g H locs M2 → lv_has ls 5 [(3, .int (nI i)), (0, .ref o), (1, .ref a), (2, .ref t)] → W p l e (rmm 2 52) s m args below meth c H locs 0 0 Q (F0 m 113 ls []) := by
          intro d2
          induction d2 with
          | zero => intro i M2 H locs ls h1 h2; exact absurd h2 (by omega)
          | succ d2 ih2 =>
            intro i M2 H locs ls h1 h2 k2 hI2 hW hl
            refine lv_iload_n hx hb d_F_invert_113 rfl (lv_at hl 0 rfl) ?_
            refine lv_bipush (v := 8) hx hb d_F_invert_114 (by decide) ?_
            refine lv_icmp_ge (tgt := 137) hx hb d_F_invert_116 (by decide) (fun c1 => ?_) (fun c1 => ?_)
            · have c2 := (nI_leI (a := 8) (b := i) (by decide) (by omega)).mp c1
              obtain rfl : i = 8 := by omega
              refine lv_aload_n hx hb d_F_invert_137 rfl (lv_at hl 1 rfl) ?_
              refine lv_aload_n hx hb d_F_invert_138 rfl (lv_at hl 1 rfl) ?_
              refine wd_get E K hW ho rfl i_F 4 (by decide) k_26 rfl d_F_invert_139 ?_
              refine lv_aload_n hx hb d_F_invert_142 rfl (lv_at hl 3 rfl) ?_
              refine lv_aload_n hx hb d_F_invert_143 rfl (lv_at hl 3 rfl) ?_
              have v1 : V8 (M2 t) = 1 := by
                apply V8_of
                rw [hI2 0 (by decide), hI2 1 (by decide), hI2 2 (by decide), hI2 3 (by decide), hI2 4 (by decide), hI2 5 (by decide), hI2 6 (by decide), hI2 7 (by decide)]
                decide
              have p2 : V8 (M2 pr) = PP := by rw [k2.out t1.symm, fq pr d3 d4 d5]; exact h8
              refine ct_V E K hW hl.1 ho rfl (c_F_reduced l g o pr bk on rw pw bs mn pw t t M2 ho hp hr hpw ht ht d13.symm t4 t4 d3 t1.symm p2 hmn (by rw [v1]; decide)) k_117 k_2 k_114 k_115 k_116 3 (by decide +kernel) rfl (by decide) rfl (Nat.le_of_ble_eq_true rfl) ⟨Nat.zero_le _, Nat.zero_le _⟩ d_F_invert_144 (fun r M3 H locs hq hW => ?_)
              obtain ⟨rfl, f3, l3, e3⟩ := hq
              refine W.eq (g2 := F0 m 147 ls []) rfl ?_
              rw [v1, k2.out t5.symm] at e3
              refine ct_v E hQ hW d_F_invert_147 ⟨rfl, fun q h1 h2 h3 h4 => ?_, ?_⟩
              · rw [f3 q h1 h2, k2.out h1]; exact fq q h2 h3 h4
              · exact mont_out e3 hpe l3
            · have c2 : i < 8 := Nat.not_le.mp (fun z => c1 ((nI_leI (a := 8) (b := i) (by decide) (by omega)).mpr z))
              refine lv_aload_n hx hb d_F_invert_119 rfl (lv_at hl 3 rfl) ?_
              refine lv_iload_n hx hb d_F_invert_120 rfl (lv_at hl 0 rfl) ?_
              refine lv_iload_n hx hb d_F_invert_121 rfl (lv_at hl 0 rfl) ?_
              refine lv_if_ne (tgt := 129) hx hb d_F_invert_122 (by decide) (fun c3 => ?_) (fun c3 => ?_)
              · refine lv_iconst (v := 0) hx hb d_F_invert_129 (by decide) ?_
                refine wd_st E K hW ht i rfl (by omega) d_F_invert_130 (fun H locs hW => ?_)
                refine lv_iinc (v := (nI (i + 1))) (lv' := [(3, .int (nI (i + 1))), (0, .ref o), (1, .ref a), (2, .ref t)]) hx hb d_F_invert_131 hl (k := 0) rfl (nI_1 _) (by decide) rfl (fun ls hl => ?_)
                refine lv_goto (tgt := 113) hx hb d_F_invert_134 (by decide) ?_
                refine ih2 (i + 1) _ H locs ls (by omega) (by omega) (k2.st _) (fun j hj => ?_) hW hl
                by_cases hji : j = i
                · subst hji; rw [mst_at, if_neg (fun z => c3 (by rw [z]; rfl))]
                · rw [mst_ne (fun _ => hji)]; exact hI2 j (by omega)
              · refine lv_iconst (v := 1) hx hb d_F_invert_125 (by decide) ?_
                refine lv_goto (tgt := 130) hx hb d_F_invert_126 (by decide) ?_
                refine wd_st E K hW ht i rfl (by omega) d_F_invert_130 (fun H locs hW => ?_)
                refine lv_iinc (v := (nI (i + 1))) (lv' := [(3, .int (nI (i + 1))), (0, .ref o), (1, .ref a), (2, .ref t)]) hx hb d_F_invert_131 hl (k := 0) rfl (nI_1 _) (by decide) rfl (fun ls hl => ?_)
                refine lv_goto (tgt := 113) hx hb d_F_invert_134 (by decide) ?_
                refine ih2 (i + 1) _ H locs ls (by omega) (by omega) (k2.st _) (fun j hj => ?_) hW hl
                have hi0 : i = 0 := (nI_eq (a := i) (b := 0) (by omega) (by decide)).mp c3
                by_cases hji : j = i
                · subst hji; rw [mst_at, if_pos hi0]
                · rw [mst_ne (fun _ => hji)]; exact hI2 j (by omega)
        refine lv_iconst (v := 0) hx hb d_F_invert_111 (by decide) ?_
        refine lv_istore_n (lv' := [(3, .int 0), (0, .ref o), (1, .ref a), (2, .ref t)]) hx hb d_F_invert_112 rfl hl (by decide) rfl (fun ls hl => ?_)
        exact loop2 9 0 M1 H locs ls (by omega) (by omega) kp.rf (fun j hj => absurd hj (by omega)) hW (lv_sub hl [0, 1, 2, 3] rfl)
      · exact absurd (by decide) c1
    | succ k ih =>
      intro v M1 H locs ls hv h1 fq hbl hbe hpl hpe hW hl
      rw [pk_m1] at hv
      subst hv
      refine lv_iload_n hx hb d_F_invert_28 rfl (lv_at hl 0 rfl) ?_
      refine lv_if_lt (tgt := 111) hx hb d_F_invert_29 (by decide) (fun c1 => ?_) (fun c1 => ?_)
      · exact absurd c1 (nI_pos (by omega))
      · have p1 : V8 (M1 pr) = PP := by rw [fq pr d3 d4 d5]; exact h8
        refine lv_aload_n hx hb d_F_invert_32 rfl (lv_at hl 1 rfl) ?_
        refine lv_aload_n hx hb d_F_invert_33 rfl (lv_at hl 1 rfl) ?_
        refine wd_get E K hW ho rfl i_F 4 (by decide) k_26 rfl d_F_invert_34 ?_
        refine lv_aload_n hx hb d_F_invert_37 rfl (lv_at hl 1 rfl) ?_
        refine wd_get E K hW ho rfl i_F 4 (by decide) k_26 rfl d_F_invert_38 ?_
        refine lv_aload_n hx hb d_F_invert_41 rfl (lv_at hl 1 rfl) ?_
        refine wd_get E K hW ho rfl i_F 4 (by decide) k_26 rfl d_F_invert_42 ?_
        refine ct_V E K hW hl.1 ho rfl (c_F_reduced l g o pr bk on rw pw bs mn pw pw pw M1 ho hp hr hpw hpw hpw d13.symm d13.symm d13.symm d3 d4 p1 hmn hpl) k_117 k_2 k_114 k_115 k_116 3 (by decide +kernel) rfl (by decide) rfl (Nat.le_of_ble_eq_true rfl) ⟨Nat.zero_le _, Nat.zero_le _⟩ d_F_invert_45 (fun r M2 H locs hq hW => ?_)
        obtain ⟨rfl, f2, l2, e2⟩ := hq
        refine W.eq (g2 := F0 m 48 ls []) rfl ?_
        have q2 : ∀ q, q ≠ rw → q ≠ pw → q ≠ bs → M2 q = M q := fun q h1 h2 h3 => (f2 q h2 h1).trans (fq q h1 h2 h3)
        have g2 := mont_pw e2 hpe hpe
        have b2l : V8 (M2 bs) < PP := by rw [f2 bs d15.symm d14.symm]; exact hbl
        have b2e : V8 (M2 bs) % PP = V8 (M a) ^ 1 * TT % PP := by rw [f2 bs d15.symm d14.symm, Nat.pow_one]; exact hbe
        have fin : ∀ (H : Heap) (locs : List Loc) (ls : Array Slot) (wv : Int32), wv = (if k < 32 then pW 0 - 2 else pW (k / 32)) → wd g H locs M2 → lv_has ls 5 [(4, .int wv), (3, .int (nI k)), (0, .ref o), (1, .ref a), (2, .ref t)] → W p l e (rmm 2 52) s m args below meth c H locs 0 0 Q (F0 m 76 ls []) := by
          intro H locs ls wv ewv hW hl
          have hbit := inv_bit k (by omega)
          rw [← ewv] at hbit
          have hes := exp_step k
          refine lv_iload hx hb d_F_invert_76 (lv_at hl 0 rfl) ?_
          refine lv_iload_n hx hb d_F_invert_78 rfl (lv_at hl 1 rfl) ?_
          refine lv_bipush (v := 32) hx hb d_F_invert_79 (by decide) ?_
          refine lv_irem hx hb d_F_invert_81 (by decide) ?_
          refine lv_ishr hx hb d_F_invert_82 ?_
          refine lv_iconst (v := 1) hx hb d_F_invert_83 (by decide) ?_
          refine lv_iand hx hb d_F_invert_84 ?_
          refine lv_iconst (v := 1) hx hb d_F_invert_85 (by decide) ?_
          refine lv_icmp_ne (tgt := 105) hx hb d_F_invert_86 (by decide) (fun c4 => ?_) (fun c4 => ?_)
          · have z0 : (PP - 2) / 2 ^ k % 2 = 0 := bit0 (fun z => c4 (hbit.mpr z))
            rw [z0, Nat.add_zero] at hes
            rw [← hes] at g2
            refine lv_iinc (v := (nI k + (-1))) (lv' := [(3, .int (nI k + (-1))), (4, .int wv), (0, .ref o), (1, .ref a), (2, .ref t)]) hx hb d_F_invert_105 hl (k := 1) rfl rfl (by decide) rfl (fun ls hl => ?_)
            refine lv_goto (tgt := 28) hx hb d_F_invert_108 (by decide) ?_
            exact ih _ M2 H locs ls rfl (by omega) q2 b2l (by rw [f2 bs d15.symm d14.symm]; exact hbe) l2 g2 hW (lv_sub hl [0, 2, 3, 4] rfl)
          · have z0 : (PP - 2) / 2 ^ k % 2 = 1 := hbit.mp c4
            rw [z0] at hes
            have p2 : V8 (M2 pr) = PP := by rw [q2 pr d3 d4 d5]; exact h8
            refine lv_aload_n hx hb d_F_invert_89 rfl (lv_at hl 2 rfl) ?_
            refine lv_aload_n hx hb d_F_invert_90 rfl (lv_at hl 2 rfl) ?_
            refine wd_get E K hW ho rfl i_F 4 (by decide) k_26 rfl d_F_invert_91 ?_
            refine lv_aload_n hx hb d_F_invert_94 rfl (lv_at hl 2 rfl) ?_
            refine wd_get E K hW ho rfl i_F 5 (by decide) k_27 rfl d_F_invert_95 ?_
            refine lv_aload_n hx hb d_F_invert_98 rfl (lv_at hl 2 rfl) ?_
            refine wd_get E K hW ho rfl i_F 4 (by decide) k_26 rfl d_F_invert_99 ?_
            refine ct_V E K hW hl.1 ho rfl (c_F_reduced l g o pr bk on rw pw bs mn pw bs pw M2 ho hp hr hpw hbs hpw d13.symm d14.symm d13.symm d3 d4 p2 hmn b2l) k_117 k_2 k_114 k_115 k_116 3 (by decide +kernel) rfl (by decide) rfl (Nat.le_of_ble_eq_true rfl) ⟨Nat.zero_le _, Nat.zero_le _⟩ d_F_invert_102 (fun r M3 H locs hq hW => ?_)
            obtain ⟨rfl, f3, l3, e3⟩ := hq
            refine W.eq (g2 := F0 m 105 ls []) rfl ?_
            have g3 := mont_pw e3 g2 b2e
            rw [← hes] at g3
            refine lv_iinc (v := (nI k + (-1))) (lv' := [(3, .int (nI k + (-1))), (4, .int wv), (0, .ref o), (1, .ref a), (2, .ref t)]) hx hb d_F_invert_105 hl (k := 1) rfl rfl (by decide) rfl (fun ls hl => ?_)
            refine lv_goto (tgt := 28) hx hb d_F_invert_108 (by decide) ?_
            exact ih _ M3 H locs ls rfl (by omega) (fun q h1 h2 h3 => (f3 q h2 h1).trans (q2 q h1 h2 h3)) (by rw [f3 bs d15.symm d14.symm]; exact b2l) (by rw [f3 bs d15.symm d14.symm, f2 bs d15.symm d14.symm]; exact hbe) l3 g3 hW (lv_sub hl [0, 2, 3, 4] rfl)
        refine lv_iload_n hx hb d_F_invert_48 rfl (lv_at hl 0 rfl) ?_
        refine lv_bipush (v := 32) hx hb d_F_invert_49 (by decide) ?_
        refine lv_icmp_ge (tgt := 65) hx hb d_F_invert_51 (by decide) (fun c3 => ?_) (fun c3 => ?_)
        · have c5 : ¬ k < 32 := Nat.not_lt.mpr ((nI_leI (a := 32) (b := k) (by decide) (by omega)).mp c3)
          refine lv_aload_n hx hb d_F_invert_65 rfl (lv_at hl 1 rfl) ?_
          refine wd_get E K hW ho rfl i_F 0 (by decide) k_21 rfl d_F_invert_66 ?_
          refine lv_iload_n hx hb d_F_invert_69 rfl (lv_at hl 0 rfl) ?_
          refine lv_bipush (v := 32) hx hb d_F_invert_70 (by decide) ?_
          refine lv_idiv hx hb d_F_invert_72 (by decide) ?_
          refine wd_ld E K hW hp (k / 32) (pk_div (by omega) (by decide) (by decide)) (by omega) d_F_invert_73 ?_
          refine lv_topi (fun wv ewv => ?_)
          refine lv_istore (lv' := [(4, .int wv), (3, .int (nI k)), (0, .ref o), (1, .ref a), (2, .ref t)]) hx hb d_F_invert_74 hl (by decide) rfl (fun ls hl => ?_)
          exact fin H locs ls wv (by rw [ewv, if_neg c5, q2 pr d3 d4 d5]; exact hcp _ (by omega)) hW (lv_sub hl [0, 1, 2, 3, 4] rfl)
        · have c5 : k < 32 := Nat.not_le.mp (fun z => c3 ((nI_leI (a := 32) (b := k) (by decide) (by omega)).mpr z))
          refine lv_aload_n hx hb d_F_invert_54 rfl (lv_at hl 1 rfl) ?_
          refine wd_get E K hW ho rfl i_F 0 (by decide) k_21 rfl d_F_invert_55 ?_
          refine lv_iconst (v := 0) hx hb d_F_invert_58 (by decide) ?_
          refine wd_ld E K hW hp 0 (by decide) (by decide) d_F_invert_59 ?_
          refine lv_iconst (v := 2) hx hb d_F_invert_60 (by decide) ?_
          refine lv_isub hx hb d_F_invert_61 ?_
          refine lv_goto (tgt := 74) hx hb d_F_invert_62 (by decide) ?_
          refine lv_topi (fun wv ewv => ?_)
          refine lv_istore (lv' := [(4, .int wv), (3, .int (nI k)), (0, .ref o), (1, .ref a), (2, .ref t)]) hx hb d_F_invert_74 hl (by decide) rfl (fun ls hl => ?_)
          exact fin H locs ls wv (by rw [ewv, if_pos c5, q2 pr d3 d4 d5, hcp 0 (by decide)]) hW (lv_sub hl [0, 1, 2, 3, 4] rfl)
  refine lv_aload_n hx hb d_F_invert_0 rfl (lv_at hl 0 rfl) ?_
  refine lv_aload_n hx hb d_F_invert_1 rfl (lv_at hl 1 rfl) ?_
  refine lv_aload_n hx hb d_F_invert_2 rfl (lv_at hl 0 rfl) ?_
  refine wd_get E K hW ho rfl i_F 1 (by decide) k_23 rfl d_F_invert_3 ?_
  refine lv_aload_n hx hb d_F_invert_6 rfl (lv_at hl 0 rfl) ?_
  refine wd_get E K hW ho rfl i_F 5 (by decide) k_27 rfl d_F_invert_7 ?_
  refine ct_V E K hW hl.1 ho rfl (c_F_reduced l g o pr bk on rw pw bs mn a bk bs M ho hp hr ha hbk hbs na d7 d14.symm d3 d5 h8 hmn (by rw [hcb]; decide)) k_117 k_2 k_114 k_115 k_116 3 (by decide +kernel) rfl (by decide) rfl (Nat.le_of_ble_eq_true rfl) ⟨Nat.zero_le _, Nat.zero_le _⟩ d_F_invert_10 (fun r M1 H locs hq hW => ?_)
  obtain ⟨rfl, f1, l1, e1⟩ := hq
  refine W.eq (g2 := F0 m 13 ls []) rfl ?_
  rw [hcb] at e1
  refine lv_aload_n hx hb d_F_invert_13 rfl (lv_at hl 0 rfl) ?_
  refine wd_get E K hW ho rfl i_F 2 (by decide) k_24 rfl d_F_invert_14 ?_
  refine lv_aload_n hx hb d_F_invert_17 rfl (lv_at hl 0 rfl) ?_
  refine wd_get E K hW ho rfl i_F 4 (by decide) k_26 rfl d_F_invert_18 ?_
  refine ct_S E K hW hl.1 (c_F_copy l g on pw M1 hon hpw) k_72 k_2 k_144 k_71 2 (by decide +kernel) rfl (by decide) rfl (Nat.le_of_ble_eq_true rfl) ⟨Nat.zero_le _, Nat.zero_le _⟩ d_F_invert_21 (fun r M2 H locs hq hW => ?_)
  obtain ⟨rfl, k2, c2⟩ := hq
  refine W.eq (g2 := F0 m 24 ls []) rfl ?_
  have v2 : V8 (M2 pw) = ON := by rw [V8, vN_congr c2, f1 on d12 d10]; exact hco
  refine lv_sipush (v := 255) hx hb d_F_invert_24 (by decide) ?_
  refine lv_istore_n (lv' := [(3, .int 255), (0, .ref o), (1, .ref a), (2, .ref t)]) hx hb d_F_invert_27 rfl hl (by decide) rfl (fun ls hl => ?_)
  refine loop 256 255 M2 H locs ls (by decide) (by omega) (fun q h1 h2 h3 => ?_) ?_ ?_ ?_ ?_ hW (lv_sub hl [0, 1, 2, 3] rfl)
  · rw [k2.out h2]; exact f1 q h3 h1
  · rw [k2.out d15.symm]; exact l1
  · rw [k2.out d15.symm]; exact mont_in e1
  · rw [v2]; decide
  · rw [v2, show (PP - 2) / 2 ^ 256 = 0 by decide, Nat.pow_zero, Nat.one_mul]; decide
end
section
/-! number theory: Fermat's theorem, Pocklington's, and that PP is prime -/
def prm (p : Nat) : Prop := 2 ≤ p ∧ ∀ d, d ∣ p → d = 1 ∨ d = p
theorem prm_cop {p a : Nat} (hp : prm p) (h : ¬ p ∣ a) : Nat.Coprime p a := by
  rcases hp.2 (Nat.gcd p a) (Nat.gcd_dvd_left p a) with h1 | h1
  · exact h1
  · exact absurd (by have := Nat.gcd_dvd_right p a; rw [h1] at this; exact this) h
theorem prm_dvd {p a b : Nat} (hp : prm p) (h : p ∣ a * b) : p ∣ a ∨ p ∣ b := by
  by_cases ha : p ∣ a
  · exact Or.inl ha
  · exact Or.inr ((prm_cop hp ha).dvd_of_dvd_mul_left h)
def chs : Nat → Nat → Nat
  | _, 0 => 1
  | 0, _ + 1 => 0
  | n + 1, k + 1 => chs n k + chs n (k + 1)
theorem chs_0 (n : Nat) : chs n 0 = 1 := by cases n <;> rfl
theorem chs_s (n k : Nat) : chs (n + 1) (k + 1) = chs n k + chs n (k + 1) := rfl
theorem chs_big : ∀ n k, n < k → chs n k = 0
  | 0, 0, h => absurd h (by omega)
  | 0, k + 1, _ => rfl
  | n + 1, 0, h => absurd h (by omega)
  | n + 1, k + 1, h => by rw [chs_s, chs_big n k (by omega), chs_big n (k + 1) (by omega)]
theorem chs_self : ∀ n, chs n n = 1
  | 0 => rfl
  | n + 1 => by rw [chs_s, chs_self n, chs_big n (n + 1) (by omega)]
theorem chs_abs : ∀ n k, (k + 1) * chs (n + 1) (k + 1) = (n + 1) * chs n k
  | 0, 0 => rfl
  | 0, k + 1 => by rw [chs_s, chs_big 0 (k + 1) (by omega), chs_big 0 (k + 1 + 1) (by omega)]; omega
  | n + 1, 0 => by
    have ih := chs_abs n 0
    rw [chs_0] at ih
    have e := chs_s (n + 1) 0
    rw [chs_0] at e
    rw [e, chs_0]
    omega
  | n + 1, k + 1 => by
    have h1 := chs_abs n k
    have h2 := chs_abs n (k + 1)
    rw [chs_s (n + 1) (k + 1)]
    have e1 : chs (n + 1) (k + 1) = chs n k + chs n (k + 1) := chs_s n k
    grind
def bsum (f : Nat → Nat) : Nat → Nat
  | 0 => 0
  | n + 1 => bsum f n + f n
theorem bsum_s (f : Nat → Nat) (n : Nat) : bsum f (n + 1) = bsum f n + f n := rfl
theorem pas_sum (a n : Nat) : ∀ m, bsum (fun k => chs (n + 1) k * a ^ k) (m + 1) = a * bsum (fun k => chs n k * a ^ k) m + bsum (fun k => chs n k * a ^ k) (m + 1)
  | 0 => by simp [bsum, chs_0]
  | m + 1 => by
    rw [bsum_s, pas_sum a n m, bsum_s _ (m + 1), bsum_s _ m, chs_s, Nat.pow_succ]
    grind
theorem binom (a : Nat) : ∀ n, (a + 1) ^ n = bsum (fun k => chs n k * a ^ k) (n + 1)
  | 0 => by simp [bsum, chs]
  | n + 1 => by
    rw [pas_sum, bsum_s _ (n + 1), chs_big n (n + 1) (by omega), Nat.zero_mul, Nat.add_zero, ← binom a n, Nat.pow_succ]
    grind
theorem chs_prm {p k : Nat} (hp : prm p) (h0 : 0 < k) (hk : k < p) : p ∣ chs p k := by
  obtain ⟨n, rfl⟩ : ∃ n, p = n + 1 := ⟨p - 1, by have := hp.1; omega⟩
  obtain ⟨j, rfl⟩ : ∃ j, k = j + 1 := ⟨k - 1, by omega⟩
  have h := chs_abs n j
  have h2 : (n + 1) ∣ (j + 1) * chs (n + 1) (j + 1) := by rw [h]; exact Nat.dvd_mul_right _ _
  rcases prm_dvd hp h2 with h3 | h3
  · exact absurd (Nat.le_of_dvd (by omega) h3) (by omega)
  · exact h3
theorem flt_sum {p a : Nat} (hp : prm p) : ∀ m, m < p → bsum (fun k => chs p k * a ^ k) (m + 1) % p = 1 % p
  | 0, _ => by simp [bsum, chs_0]
  | m + 1, h => by
    rw [bsum_s, Nat.add_mod, flt_sum hp m (by omega)]
    have h1 := chs_prm hp (k := m + 1) (by omega) h
    rw [Nat.mod_eq_zero_of_dvd (Nat.dvd_trans h1 (Nat.dvd_mul_right _ _)), Nat.add_zero, Nat.mod_mod]
theorem flt {p : Nat} (hp : prm p) : ∀ a, a ^ p % p = a % p
  | 0 => by rw [Nat.zero_pow (by have := hp.1; omega)]
  | a + 1 => by
    have h1 := hp.1
    have h2 := flt_sum (a := a) hp (p - 1) (by omega)
    rw [show p - 1 + 1 = p by omega] at h2
    rw [binom, bsum_s, Nat.add_mod, h2, chs_self, Nat.one_mul, flt hp a, ← Nat.add_mod, Nat.add_comm]
theorem flt1 {p a : Nat} (hp : prm p) (h : ¬ p ∣ a) : a ^ (p - 1) % p = 1 := by
  have h1 := hp.1
  have h2 := flt hp a
  have ha : 0 < a := Nat.pos_of_ne_zero (fun z => h (by rw [z]; exact Nat.dvd_zero _))
  have hpos : 0 < a ^ (p - 1) := Nat.pow_pos ha
  have e : a ^ p = a * a ^ (p - 1) := by rw [← Nat.pow_succ']; congr 1; omega
  have h3 : p ∣ a * (a ^ (p - 1) - 1) := by
    rw [Nat.mul_sub, Nat.mul_one, ← e]
    exact Nat.dvd_of_mod_eq_zero (Nat.sub_mod_eq_zero_of_mod_eq h2)
  rcases prm_dvd hp h3 with h4 | h4
  · exact absurd h4 h
  · obtain ⟨c, hc⟩ := h4
    rw [show a ^ (p - 1) = 1 + p * c by omega, Nat.add_mul_mod_self_left, Nat.mod_eq_of_lt (by omega)]
theorem pow_gcd {a n : Nat} : ∀ (u v : Nat), a ^ u % n = 1 % n → a ^ v % n = 1 % n → a ^ (Nat.gcd u v) % n = 1 % n := by
  intro u v
  induction u, v using Nat.gcd.induction with
  | H0 v => intro _ h; rw [Nat.gcd_zero_left]; exact h
  | H1 u v hu ih =>
    intro h1 h2
    rw [Nat.gcd_rec]
    refine ih ?_ h1
    have e : a ^ v = (a ^ u) ^ (v / u) * a ^ (v % u) := by rw [← Nat.pow_mul, ← Nat.pow_add, Nat.div_add_mod]
    rw [e, Nat.mul_mod, Nat.pow_mod, h1, ← Nat.pow_mod, Nat.one_pow, ← Nat.mul_mod, Nat.one_mul] at h2
    exact h2
theorem mod_of_dvd {s N u v : Nat} (h : s ∣ N) (e : u % N = v % N) : u % s = v % s := by
  rw [← Nat.mod_mod_of_dvd u h, e, Nat.mod_mod_of_dvd v h]
theorem pow_mul_one {a n u : Nat} (k : Nat) (h : a ^ u % n = 1 % n) : a ^ (u * k) % n = 1 % n := by
  rw [Nat.pow_mul, Nat.pow_mod, h, ← Nat.pow_mod, Nat.one_pow]
theorem pock {N q a s c : Nat} (hq : prm q) (hN : 2 ≤ N) (hd : q ∣ N - 1) (h1 : a ^ (N - 1) % N = 1) (hc : a ^ ((N - 1) / q) % N = c) (h2 : Nat.gcd (c + (N - 1)) N = 1) (hs : prm s) (hsN : s ∣ N) : q ∣ s - 1 := by
  refine Decidable.byContradiction fun hn => ?_
  have hs2 := hs.1
  have e1 : a ^ (N - 1) % s = 1 % s := mod_of_dvd hsN (by rw [h1, Nat.mod_eq_of_lt (by omega)])
  have ha : ¬ s ∣ a := fun z => by
    have h3 : s ∣ a ^ (N - 1) := Nat.dvd_trans z (by
      rw [show N - 1 = (N - 2) + 1 by omega, Nat.pow_succ]
      exact Nat.dvd_mul_left _ _)
    rw [Nat.mod_eq_zero_of_dvd h3, Nat.mod_eq_of_lt (by omega)] at e1
    omega
  have e2 : a ^ (s - 1) % s = 1 % s := by rw [flt1 hs ha, Nat.mod_eq_of_lt (by omega)]
  have e3 := pow_gcd _ _ e1 e2
  have hg1 := Nat.gcd_dvd_left (N - 1) (s - 1)
  have hg2 := Nat.gcd_dvd_right (N - 1) (s - 1)
  generalize Nat.gcd (N - 1) (s - 1) = u at e3 hg1 hg2
  have hcop : Nat.Coprime u q := ((prm_cop hq (fun z => hn (Nat.dvd_trans z hg2))).symm)
  obtain ⟨k, hk⟩ : u ∣ (N - 1) / q := by
    apply hcop.dvd_of_dvd_mul_left
    rw [Nat.mul_div_cancel' hd]
    exact hg1
  have e4 := pow_mul_one k e3
  rw [← hk] at e4
  have e5 : c % s = 1 % s := by rw [← hc, Nat.mod_mod_of_dvd _ hsN, e4]
  have h5 : s ∣ c + (N - 1) := by
    apply Nat.dvd_of_mod_eq_zero
    rw [Nat.add_mod, e5, ← Nat.add_mod, show 1 + (N - 1) = N by omega]
    exact Nat.mod_eq_zero_of_dvd hsN
  have h6 := Nat.dvd_gcd h5 hsN
  rw [h2] at h6
  have := Nat.le_of_dvd (by decide) h6
  omega
theorem prm_of {N : Nat} (hN : 2 ≤ N) (h : ∀ s, prm s → s ∣ N → N < s * s) : prm N := by
  obtain ⟨s, ⟨hs1, hs2⟩, hmin⟩ := pk_least (fun d => 2 ≤ d ∧ d ∣ N) ⟨N, hN, Nat.dvd_refl N⟩
  have hps : prm s := by
    refine ⟨hs1, fun d hd => ?_⟩
    have hd0 : 0 < d := Nat.pos_of_dvd_of_pos hd (by omega)
    have hdl := Nat.le_of_dvd (by omega) hd
    by_cases h1 : d = 1
    · exact Or.inl h1
    · right
      have := hmin d
      rcases Nat.lt_or_ge d s with h2 | h2
      · exact absurd ⟨by omega, Nat.dvd_trans hd hs2⟩ (hmin d h2)
      · omega
  have hl := h s hps hs2
  refine ⟨hN, fun d hd => ?_⟩
  obtain ⟨c, hc⟩ := hd
  by_cases h1 : d = 1
  · exact Or.inl h1
  · right
    have hd0 : d ≠ 0 := fun z => by rw [z, Nat.zero_mul] at hc; omega
    have hc0 : c ≠ 0 := fun z => by rw [z, Nat.mul_zero] at hc; omega
    by_cases h2 : c = 1
    · rw [hc, h2, Nat.mul_one]
    · exfalso
      have h3 : s ≤ d := by
        rcases Nat.lt_or_ge d s with h4 | h4
        · exact absurd ⟨by omega, ⟨c, hc⟩⟩ (hmin d h4)
        · exact h4
      have h5 : s ≤ c := by
        rcases Nat.lt_or_ge c s with h4 | h4
        · exact absurd ⟨by omega, ⟨d, by rw [hc, Nat.mul_comm]⟩⟩ (hmin c h4)
        · exact h4
      have h6 := Nat.mul_le_mul h3 h5
      omega
def pwm (n : Nat) : Nat → Nat → Nat → Nat
  | 0, _, _ => 1 % n
  | f + 1, a, e => if e = 0 then 1 % n else if e % 2 = 1 then a * pwm n f (a * a % n) (e / 2) % n else pwm n f (a * a % n) (e / 2)
theorem pwm_eq (n : Nat) : ∀ (f a e : Nat), e < 2 ^ f → pwm n f a e = a ^ e % n
  | 0, a, e, h => by
    have : e = 0 := by omega
    subst this
    rfl
  | f + 1, a, e, h => by
    have ih := pwm_eq n f (a * a % n) (e / 2) (by rw [Nat.pow_succ] at h; omega)
    have e0 : (a * a % n) ^ (e / 2) % n = a ^ (2 * (e / 2)) % n := by
      rw [← Nat.pow_mod, Nat.pow_mul, Nat.pow_two]
    rw [e0] at ih
    unfold pwm
    by_cases h0 : e = 0
    · subst h0; rw [if_pos rfl]; rfl
    · rw [if_neg h0, ih]
      by_cases h1 : e % 2 = 1
      · rw [if_pos h1, Nat.mul_mod_mod, ← Nat.pow_succ']
        congr 2
        omega
      · rw [if_neg h1]
        congr 2
        omega
theorem prm_small {p : Nat} (h : 2 ≤ p ∧ ∀ d, d < p + 1 → d ∣ p → d = 1 ∨ d = p) : prm p := ⟨h.1, fun d hd => h.2 d (Nat.lt_succ_of_le (Nat.le_of_dvd (by have := h.1; omega) hd)) hd⟩
theorem prm_cop2 {p q : Nat} (hp : prm p) (hq : prm q) (h : p ≠ q) : Nat.Coprime p q := prm_cop hp (fun z => by
  rcases hq.2 p z with h1 | h1
  · have := hp.1; omega
  · exact h h1)
theorem pock1 {N q f a c : Nat} (hq : prm q) (hN : 2 ≤ N) (hd : q ∣ N - 1) (hf : N < 2 ^ f) (h1 : pwm N f a (N - 1) = 1) (hc : pwm N f a ((N - 1) / q) = c) (h2 : Nat.gcd (c + (N - 1)) N = 1) : ∀ s, prm s → s ∣ N → q ∣ s - 1 := fun s hs hsN =>
  pock hq hN hd (by rw [← pwm_eq N f a _ (by omega)]; exact h1) (by rw [← pwm_eq N f a _ (Nat.lt_of_le_of_lt (Nat.div_le_self _ _) (by omega))]; exact hc) h2 hs hsN
theorem sq_lt {N F s : Nat} (hs : 2 ≤ s) (h : F ∣ s - 1) (hF : N < F * F) : N < s * s := by
  have h1 := Nat.le_of_dvd (by omega) h
  have h2 := Nat.mul_le_mul (show F ≤ s by omega) (show F ≤ s by omega)
  omega
theorem prm_2 : prm 2 := prm_small (by decide +kernel)
theorem prm_5 : prm 5 := prm_small (by decide +kernel)
theorem prm_7 : prm 7 := prm_small (by decide +kernel)
theorem prm_29 : prm 29 := prm_small (by decide +kernel)
theorem prm_53 : prm 53 := prm_small (by decide +kernel)
theorem prm_67 : prm 67 := prm_small (by decide +kernel)
theorem prm_103 : prm 103 := prm_small (by decide +kernel)
theorem prm_239 : prm 239 := prm_small (by decide +kernel)
theorem prm_a : prm 107590001 := by
  refine prm_of (by decide) (fun s hs hsN => ?_)
  have g0 := pock1 (N := 107590001) (q := 7) (f := 27) (a := 2) (c := 95730224) prm_7 (by decide) (Nat.dvd_of_mod_eq_zero (by decide +kernel)) (by decide +kernel) (by decide +kernel) (by decide +kernel) (by decide +kernel) s hs hsN
  have g1 := pock1 (N := 107590001) (q := 29) (f := 27) (a := 2) (c := 68236646) prm_29 (by decide) (Nat.dvd_of_mod_eq_zero (by decide +kernel)) (by decide +kernel) (by decide +kernel) (by decide +kernel) (by decide +kernel) s hs hsN
  have g2 := pock1 (N := 107590001) (q := 53) (f := 27) (a := 2) (c := 26896163) prm_53 (by decide) (Nat.dvd_of_mod_eq_zero (by decide +kernel)) (by decide +kernel) (by decide +kernel) (by decide +kernel) (by decide +kernel) s hs hsN
  have p0 := g0
  have p1 := Nat.Coprime.mul_dvd_of_dvd_of_dvd (by decide +kernel) p0 g1
  have p2 := Nat.Coprime.mul_dvd_of_dvd_of_dvd (by decide +kernel) p1 g2
  exact sq_lt hs.1 p2 (by decide +kernel)
theorem prm_b : prm 96557 := by
  refine prm_of (by decide) (fun s hs hsN => ?_)
  have g0 := pock1 (N := 96557) (q := 2) (f := 17) (a := 2) (c := 96556) prm_2 (by decide) (Nat.dvd_of_mod_eq_zero (by decide +kernel)) (by decide +kernel) (by decide +kernel) (by decide +kernel) (by decide +kernel) s hs hsN
  have g1 := pock1 (N := 96557) (q := 239) (f := 17) (a := 2) (c := 29586) prm_239 (by decide) (Nat.dvd_of_mod_eq_zero (by decide +kernel)) (by decide +kernel) (by decide +kernel) (by decide +kernel) (by decide +kernel) s hs hsN
  have p0 := g0
  have p1 := Nat.Coprime.mul_dvd_of_dvd_of_dvd (by decide +kernel) p0 g1
  exact sq_lt hs.1 p1 (by decide +kernel)
theorem prm_c : prm 41201 := by
  refine prm_of (by decide) (fun s hs hsN => ?_)
  have g0 := pock1 (N := 41201) (q := 5) (f := 16) (a := 3) (c := 18549) prm_5 (by decide) (Nat.dvd_of_mod_eq_zero (by decide +kernel)) (by decide +kernel) (by decide +kernel) (by decide +kernel) (by decide +kernel) s hs hsN
  have g1 := pock1 (N := 41201) (q := 103) (f := 16) (a := 3) (c := 16839) prm_103 (by decide) (Nat.dvd_of_mod_eq_zero (by decide +kernel)) (by decide +kernel) (by decide +kernel) (by decide +kernel) (by decide +kernel) s hs hsN
  have p0 := g0
  have p1 := Nat.Coprime.mul_dvd_of_dvd_of_dvd (by decide +kernel) p0 g1
  exact sq_lt hs.1 p1 (by decide +kernel)
theorem prm_d : prm 4423 := by
  refine prm_of (by decide) (fun s hs hsN => ?_)
  have g0 := pock1 (N := 4423) (q := 2) (f := 13) (a := 3) (c := 4422) prm_2 (by decide) (Nat.dvd_of_mod_eq_zero (by decide +kernel)) (by decide +kernel) (by decide +kernel) (by decide +kernel) (by decide +kernel) s hs hsN
  have g1 := pock1 (N := 4423) (q := 67) (f := 13) (a := 3) (c := 4365) prm_67 (by decide) (Nat.dvd_of_mod_eq_zero (by decide +kernel)) (by decide +kernel) (by decide +kernel) (by decide +kernel) (by decide +kernel) s hs hsN
  have p0 := g0
  have p1 := Nat.Coprime.mul_dvd_of_dvd_of_dvd (by decide +kernel) p0 g1
  exact sq_lt hs.1 p1 (by decide +kernel)
theorem prm_r : prm 255515944373312847190720520512484175977 := by
  refine prm_of (by decide) (fun s hs hsN => ?_)
  have g0 := pock1 (N := 255515944373312847190720520512484175977) (q := 107590001) (f := 128) (a := 2) (c := 82381214149343919061612748413412685903) prm_a (by decide) (Nat.dvd_of_mod_eq_zero (by decide +kernel)) (by decide +kernel) (by decide +kernel) (by decide +kernel) (by decide +kernel) s hs hsN
  have g1 := pock1 (N := 255515944373312847190720520512484175977) (q := 96557) (f := 128) (a := 2) (c := 47418180093458530687350227428022525796) prm_b (by decide) (Nat.dvd_of_mod_eq_zero (by decide +kernel)) (by decide +kernel) (by decide +kernel) (by decide +kernel) (by decide +kernel) s hs hsN
  have g2 := pock1 (N := 255515944373312847190720520512484175977) (q := 41201) (f := 128) (a := 2) (c := 59616289389101383442534369920580220360) prm_c (by decide) (Nat.dvd_of_mod_eq_zero (by decide +kernel)) (by decide +kernel) (by decide +kernel) (by decide +kernel) (by decide +kernel) s hs hsN
  have g3 := pock1 (N := 255515944373312847190720520512484175977) (q := 4423) (f := 128) (a := 2) (c := 149333951050610460645192270230135358721) prm_d (by decide) (Nat.dvd_of_mod_eq_zero (by decide +kernel)) (by decide +kernel) (by decide +kernel) (by decide +kernel) (by decide +kernel) s hs hsN
  have p0 := g0
  have p1 := Nat.Coprime.mul_dvd_of_dvd_of_dvd (by decide +kernel) p0 g1
  have p2 := Nat.Coprime.mul_dvd_of_dvd_of_dvd (by decide +kernel) p1 g2
  have p3 := Nat.Coprime.mul_dvd_of_dvd_of_dvd (by decide +kernel) p2 g3
  exact sq_lt hs.1 p3 (by decide +kernel)
theorem prm_q : prm 205115282021455665897114700593932402728804164701536103180137503955397371 := by
  refine prm_of (by decide) (fun s hs hsN => ?_)
  have g0 := pock1 (N := 205115282021455665897114700593932402728804164701536103180137503955397371) (q := 255515944373312847190720520512484175977) (f := 237) (a := 2) (c := 53072002638256206696760401718638995221936714922431175139555783581918754) prm_r (by decide) (Nat.dvd_of_mod_eq_zero (by decide +kernel)) (by decide +kernel) (by decide +kernel) (by decide +kernel) (by decide +kernel) s hs hsN
  have p0 := g0
  exact sq_lt hs.1 p0 (by decide +kernel)
theorem prm_P0 : prm 115792089237316195423570985008687907853269984665640564039457584007908834671663 := by
  refine prm_of (by decide) (fun s hs hsN => ?_)
  have g0 := pock1 (N := 115792089237316195423570985008687907853269984665640564039457584007908834671663) (q := 205115282021455665897114700593932402728804164701536103180137503955397371) (f := 256) (a := 2) (c := 30133174243114333125352536507925183895021889065932097717961225114769139489296) prm_q (by decide) (Nat.dvd_of_mod_eq_zero (by decide +kernel)) (by decide +kernel) (by decide +kernel) (by decide +kernel) (by decide +kernel) s hs hsN
  have p0 := g0
  exact sq_lt hs.1 p0 (by decide +kernel)
theorem prm_PP : prm PP := prm_P0
end
section
/-! the reference: rows of digits below 65536 -/
abbrev V16 (f : Nat → Int32) : Nat := vN 65536 f 16
abbrev V17 (f : Nat → Int32) : Nat := vN 65536 f 17
def dg (f : Nat → Int32) (n : Nat) : Prop := ∀ j, j < n → w4 (f j) < 65536
theorem V16_lt {f : Nat → Int32} (h : dg f 16) : V16 f < TT := Nat.lt_of_lt_of_eq (vN_lt h) (by decide)
theorem dg.cg {f h : Nat → Int32} {n : Nat} (hf : dg f n) (e : ∀ j, j < n → h j = f j) : dg h n := fun j hj => by rw [e j hj]; exact hf j hj
theorem dg.le {f : Nat → Int32} {n k : Nat} (hf : dg f n) (h : k ≤ n) : dg f k := fun j hj => hf j (by omega)
theorem dg.st {M : Mm} {t i : Nat} {v : Int32} (h : dg (M t) i) (hv : w4 v < 65536) : dg (mst M t i v t) (i + 1) := fun j hj => by
  by_cases hji : j = i
  · subst hji; rw [mst_at]; exact hv
  · rw [mst_ne (fun _ => hji)]; exact h j (by omega)
theorem ix16 (r : Int32) (i : Nat) : (r &&& 3) * 16 + nI i = nI (w4 r % 4 * 16 + i) := by
  rw [pk_and r 2 (by decide), show (16 : Int32) = nI 16 from rfl, pk_mul, nI_add]
  rfl
theorem lt_dig {a b : Int32} (ha : w4 a < 65536) (hb : w4 b < 65536) : a < b ↔ w4 a < w4 b := by
  rw [Int32.lt_iff_toInt_lt, w4_int (by omega), w4_int (by omega)]
  omega
theorem le_dig {a b : Int32} (ha : w4 a < 65536) (hb : w4 b < 65536) : a ≤ b ↔ w4 a ≤ w4 b := by
  rw [Int32.le_iff_toInt_le, w4_int (by omega), w4_int (by omega)]
  omega
theorem cmp_dig {f h : Nat → Int32} {k n : Nat} (hk : k < n) (he : ∀ j, k < j → j < n → f j = h j) (hs : k = 0 ∨ f k ≠ h k) (df : dg f n) (dh : dg h n) : vN 65536 h n ≤ vN 65536 f n ↔ w4 (h k) ≤ w4 (f k) := by
  rcases Nat.lt_trichotomy (w4 (f k)) (w4 (h k)) with h1 | h1 | h1
  · have := vN_cmp (B := 65536) hk df he h1
    omega
  · have e : f k = h k := w4_inj h1
    have h0 : k = 0 := by
      rcases hs with h2 | h2
      · exact h2
      · exact absurd e h2
    have : vN 65536 f n = vN 65536 h n := vN_congr (fun j hj => by
      by_cases hj0 : j = k
      · rw [hj0]; exact e
      · exact he j (by omega) hj)
    omega
  · have := vN_cmp (B := 65536) hk dh (fun j a b => (he j a b).symm) h1
    omega
theorem sub_dig {a b c v z c' : Int32} (ha : w4 a < 65536) (hb : w4 b < 65536) (hc : -1 ≤ c.toInt ∧ c.toInt ≤ 0) (ev : v = a - b + c) (ez : z = v &&& 65535) (ec : c' = v >>> ((16 : Int32) &&& 31)) :
    w4 z < 65536 ∧ (w4 z : Int) + 65536 * c'.toInt = (w4 a : Int) - w4 b + c.toInt ∧ (-1 ≤ c'.toInt ∧ c'.toInt ≤ 0) := by
  have hv : v.toInt = (w4 a : Int) - w4 b + c.toInt := by
    rw [ev]
    refine i_add (i_sub (w4_int (by omega)) (w4_int (by omega)) (by omega) (by omega)) rfl (by omega) (by omega)
  obtain ⟨h1, h2⟩ := dg_step v
  rw [← ez] at h1 h2
  rw [← ec, hv] at h2
  exact ⟨h1, h2, by omega⟩
theorem add_dig {a b c v z c' : Int32} (ha : w4 a < 65536) (hb : w4 b < 65536) (hc : 0 ≤ c.toInt ∧ c.toInt ≤ 1) (ev : v = a + b + c) (ez : z = v &&& 65535) (ec : c' = v >>> ((16 : Int32) &&& 31)) :
    w4 z < 65536 ∧ (w4 z : Int) + 65536 * c'.toInt = (w4 a : Int) + w4 b + c.toInt ∧ (0 ≤ c'.toInt ∧ c'.toInt ≤ 1) := by
  have hv : v.toInt = (w4 a : Int) + w4 b + c.toInt := by
    rw [ev]
    refine i_add (i_add (w4_int (by omega)) (w4_int (by omega)) (by omega) (by omega)) rfl (by omega) (by omega)
  obtain ⟨h1, h2⟩ := dg_step v
  rw [← ez] at h1 h2
  rw [← ec, hv] at h2
  exact ⟨h1, h2, by omega⟩
theorem num_isub {vt va vb z a b P : Nat} {c c' : Int} (h : (vt : Int) + c * P = va - vb) (hs : (z : Int) + 65536 * c' = a - b + c) : ((vt + z * P : Nat) : Int) + c' * ((P * 65536 : Nat) : Int) = ((va + a * P : Nat) : Int) - ((vb + b * P : Nat) : Int) := by
  simp only [Int.natCast_add, Int.natCast_mul]
  grind
theorem num_iadd {vt va vb z a b P : Nat} {c c' : Int} (h : (vt : Int) + c * P = va + vb) (hs : (z : Int) + 65536 * c' = a + b + c) : ((vt + z * P : Nat) : Int) + c' * ((P * 65536 : Nat) : Int) = ((va + a * P : Nat) : Int) + ((vb + b * P : Nat) : Int) := by
  simp only [Int.natCast_add, Int.natCast_mul]
  grind
theorem half_dig {a b v : Int32} (ha : w4 a < 65536) (e : v = (a >>> ((1 : Int32) &&& 31)) ||| ((b &&& 1) <<< ((15 : Int32) &&& 31))) : w4 v < 65536 ∧ 2 * w4 v + w4 a % 2 = w4 a + w4 b % 2 * 65536 := by
  have h1 : w4 (a >>> ((1 : Int32) &&& 31)) = w4 a / 2 := by
    apply w4_of
    rw [pk_shr a ((1 : Int32) &&& 31) 1 (by decide), w4_int (by omega), Int.shiftRight_eq_div_pow]
    omega
  have h2 : w4 ((b &&& 1) <<< ((15 : Int32) &&& 31)) = w4 (b &&& 1) * 2 ^ 15 % 2 ^ 32 := pk_shl (b &&& 1) ((15 : Int32) &&& 31) 15 (by decide)
  have h3 := w4_and b 1 1 (by decide) (by decide)
  have h4 : w4 ((a >>> ((1 : Int32) &&& 31)) ||| ((b &&& 1) <<< ((15 : Int32) &&& 31))) = w4 a / 2 + w4 b % 2 * 32768 := by
    rw [h3] at h2
    unfold w4 at *
    rw [Int32.toBitVec_or, BitVec.toNat_or, h1, h2, Nat.or_comm]
    have h := Nat.two_pow_add_eq_or_of_lt (i := 15) (b := a.toBitVec.toNat / 2) (by omega) (b.toBitVec.toNat % 2)
    rw [show b.toBitVec.toNat % 2 ^ 1 * 2 ^ 15 % 2 ^ 32 = 2 ^ 15 * (b.toBitVec.toNat % 2) by omega, ← h]
    omega
  rw [e, h4]
  omega
def Dn (i : Nat) : Nat := if i = 0 then 64 else if i = 4 then 17 else if 8 ≤ i then 17 else 16
def Dv (g : wg) (o : Nat) (A : Nat → Nat) : Prop := ob g o 2 [.ref (A 0), .ref (A 1), .ref (A 2), .ref (A 3), .ref (A 4), .ref (A 5), .ref (A 6), .ref (A 7), .ref (A 8), .ref (A 9), .ref (A 10), .ref (A 11)] ∧ (∀ i, i < 12 → aok g (A i) (Dn i)) ∧ ∀ i j, i < 12 → j < 12 → A i = A j → i = j
theorem Dv.k0 {g : wg} {o : Nat} {A : Nat → Nat} (h : Dv g o A) : aok g (A 0) 64 := h.2.1 0 (by decide)
theorem Dv.k1 {g : wg} {o : Nat} {A : Nat → Nat} (h : Dv g o A) : aok g (A 1) 16 := h.2.1 1 (by decide)
theorem Dv.k2 {g : wg} {o : Nat} {A : Nat → Nat} (h : Dv g o A) : aok g (A 2) 16 := h.2.1 2 (by decide)
theorem Dv.k4 {g : wg} {o : Nat} {A : Nat → Nat} (h : Dv g o A) : aok g (A 4) 17 := h.2.1 4 (by decide)
theorem Dv.k5 {g : wg} {o : Nat} {A : Nat → Nat} (h : Dv g o A) : aok g (A 5) 16 := h.2.1 5 (by decide)
theorem Dv.k6 {g : wg} {o : Nat} {A : Nat → Nat} (h : Dv g o A) : aok g (A 6) 16 := h.2.1 6 (by decide)
theorem Dv.k7 {g : wg} {o : Nat} {A : Nat → Nat} (h : Dv g o A) : aok g (A 7) 16 := h.2.1 7 (by decide)
theorem Dv.k8 {g : wg} {o : Nat} {A : Nat → Nat} (h : Dv g o A) : aok g (A 8) 17 := h.2.1 8 (by decide)
theorem Dv.k9 {g : wg} {o : Nat} {A : Nat → Nat} (h : Dv g o A) : aok g (A 9) 17 := h.2.1 9 (by decide)
theorem Dv.k10 {g : wg} {o : Nat} {A : Nat → Nat} (h : Dv g o A) : aok g (A 10) 17 := h.2.1 10 (by decide)
theorem Dv.k11 {g : wg} {o : Nat} {A : Nat → Nat} (h : Dv g o A) : aok g (A 11) 17 := h.2.1 11 (by decide)
theorem Dv.ne {g : wg} {o : Nat} {A : Nat → Nat} (h : Dv g o A) (i j : Nat) (hi : i < 12 := by decide) (hj : j < 12 := by decide) (hij : i ≠ j := by decide) : A i ≠ A j := fun z => hij (h.2.2 i j hi hj z)
def qW (j : Nat) : Int32 := if j = 0 then 64559 else if j = 2 then 65534 else 65535
def Dc (M : Mm) (A : Nat → Nat) : Prop := ∀ j, j < 16 → M (A 2) j = qW j
theorem qW_dg {f : Nat → Int32} (h : ∀ j, j < 16 → f j = qW j) : dg f 16 := fun j hj => by
  rw [h j hj]
  unfold qW
  repeat' split
  all_goals decide
theorem V16_qW {f : Nat → Int32} (h : ∀ j, j < 16 → f j = qW j) : V16 f = PP := by
  rw [V16, vN_congr h]
  simp only [vN_s, vN_0]
  decide
theorem aok.le {g : wg} {a n k : Nat} (h : aok g a n) (hk : k ≤ n) : aok g a k := ⟨h.1, by have := h.2.1; omega, h.2.2⟩
theorem fold_fin {vt w wt P T : Nat} {c : Int} {b : Nat} (h : (vt : Int) + c * T = w - b) (hv : vt < T) (hc : -1 ≤ c ∧ c ≤ 0) (hw : w < T) (hP : P < T) (hT : T < 2 * P) (hlt : w + wt * T < 2 * P) (hb : (b = 0 ∧ w + wt * T < P) ∨ (b = P ∧ P ≤ w + wt * T)) : vt = (w + wt * T) % P := by
  have hwt : wt = 0 ∨ wt = 1 := by
    rcases Nat.lt_or_ge wt 2 with h1 | h1
    · omega
    · have := Nat.mul_le_mul_right T h1
      omega
  have hcc : c = -1 ∨ c = 0 := by omega
  rcases hb with ⟨rfl, h1⟩ | ⟨rfl, h1⟩
  · rw [Nat.mod_eq_of_lt h1]
    rcases hwt with rfl | rfl <;> rcases hcc with rfl | rfl <;> omega
  · rw [Nat.mod_eq_sub_mod h1, Nat.mod_eq_of_lt (by omega)]
    rcases hwt with rfl | rfl <;> rcases hcc with rfl | rfl <;> omega
end
section
theorem less_fin {vt a b T : Nat} {c : Int} (h : (vt : Int) + c * T = a - b) (hv : vt < T) (ha : a < T) (hc : -1 ≤ c ∧ c ≤ 0) (hle : b ≤ a) : vt = a - b := by
  rcases (show c = -1 ∨ c = 0 by omega) with rfl | rfl <;> omega
theorem more_fin {vt a b T : Nat} {c : Int} (h : (vt : Int) + c * T = a + b) (hv : vt < T) (hc : 0 ≤ c ∧ c ≤ 1) (hlt : a + b < T) : vt = a + b := by
  rcases (show c = 0 ∨ c = 1 by omega) with rfl | rfl <;> omega
theorem half_top {a z : Int32} (ha : w4 a < 65536) (e : z = a >>> ((1 : Int32) &&& 31)) : w4 z < 65536 ∧ w4 z = w4 a / 2 := by
  have h1 : w4 (a >>> ((1 : Int32) &&& 31)) = w4 a / 2 := by
    apply w4_of
    rw [pk_shr a ((1 : Int32) &&& 31) 1 (by decide), w4_int (by omega), Int.shiftRight_eq_div_pow]
    omega
  rw [e, h1]
  omega
theorem vN_low16 (f : Nat → Int32) (n : Nat) : vN 65536 f (n + 1) % 2 = w4 (f 0) % 2 := by
  induction n with
  | zero => rw [vN_s, vN_0]; simp
  | succ n ih => rw [vN_s, Nat.pow_succ, ← Nat.mul_assoc]; omega
theorem half_fin2 {v' va u a z T : Nat} (h0 : (va + a * T) % 2 = u % 2) (h : 2 * v' + u % 2 = va + a % 2 * T) (hz : z = a / 2) : v' + z * T = (va + a * T) / 2 := by
  have e : a * T = (a % 2) * T + 2 * (a / 2 * T) := by
    have := Nat.mod_add_div a 2
    rw [← Nat.mul_assoc, ← Nat.add_mul, this]
  rw [hz]
  rw [e] at h0 ⊢
  generalize a / 2 * T = q at *
  generalize a % 2 * T = p at *
  omega
set_option maxHeartbeats 4000000 in
set_option maxRecDepth 100000 in
/-- Model.take(t, r) -/
theorem c_D_take (l : Launch) (g : wg) (o : Nat) (A : Nat → Nat) (t : Nat) (rv : Int32) (M : Mm) (hD : Dv g o A) (ht : aok g t 16) (nt : t ≠ A 0) : Ct l y_D_take b_D_take 4 none 0 0 g [.ref o, .ref t, .int rv] M (fun r M' => r = none ∧ kp M M' t 16 ∧ ∀ j, j < 16 → M' t j = M (A 0) (w4 rv % 4 * 16 + j)) := by
  refine Ct.of rfl (Nat.le_of_ble_eq_true rfl) (fun p e s m args below meth c H ls Q E K hQ hW hl => ?_)
  have hx := E.1
  have hb := E.2.1
  have hown := E.2.2.2.2.1
  have hts := E.2.2.2.2.2.1
  have hl : lv_has ls 4 [(0, .ref o), (1, .ref t), (2, .int rv)] := hl
  have loop : ∀ (d i : Nat) (M1 : Mm) (H : Heap) (locs : List Loc) (ls : Array Slot), i ≤ 16 → 16 + 1 ≤ i + d → kp M M1 t i → (∀ j, j < i → M1 t j = M (A 0) (w4 rv % 4 * 16 + j)) → wd g H locs M1 → lv_has ls 4 [(3, .int (nI i)), (0, .ref o), (1, .ref t), (2, .int rv)] → W p l e (rmm 0 0) s m args below meth c H locs 0 0 Q (F0 m 2 ls []) := by
    intro d
    induction d with
    | zero => intro i M1 H locs ls h1 h2; exact absurd h2 (by omega)
    | succ d ih =>
      intro i M1 H locs ls h1 h2 hk hI hW hl
      refine lv_iload_n hx hb d_D_take_2 rfl (lv_at hl 0 rfl) ?_
      refine lv_bipush (v := 16) hx hb d_D_take_3 (by decide) ?_
      refine lv_icmp_ge (tgt := 30) hx hb d_D_take_5 (by decide) (fun c1 => ?_) (fun c1 => ?_)
      · have c2 := (nI_leI (a := 16) (b := i) (by decide) (by omega)).mp c1
        obtain rfl : i = 16 := by omega
        exact ct_v E hQ hW d_D_take_30 ⟨rfl, hk, hI⟩
      · have c2 : i < 16 := Nat.not_le.mp (fun z => c1 ((nI_leI (a := 16) (b := i) (by decide) (by omega)).mpr z))
        refine lv_aload_n hx hb d_D_take_8 rfl (lv_at hl 2 rfl) ?_
        refine lv_iload_n hx hb d_D_take_9 rfl (lv_at hl 0 rfl) ?_
        refine lv_aload_n hx hb d_D_take_10 rfl (lv_at hl 1 rfl) ?_
        refine wd_get E K hW hD.1 rfl i_D 0 (by decide) k_183 rfl d_D_take_11 ?_
        refine lv_iload_n hx hb d_D_take_14 rfl (lv_at hl 3 rfl) ?_
        refine lv_iconst (v := 3) hx hb d_D_take_15 (by decide) ?_
        refine lv_iand hx hb d_D_take_16 ?_
        refine lv_bipush (v := 16) hx hb d_D_take_17 (by decide) ?_
        refine lv_imul hx hb d_D_take_19 ?_
        refine lv_iload_n hx hb d_D_take_20 rfl (lv_at hl 0 rfl) ?_
        refine lv_iadd hx hb d_D_take_21 ?_
        refine wd_ld E K hW hD.k0 (w4 rv % 4 * 16 + i) (ix16 rv i) (by omega) d_D_take_22 ?_
        refine lv_topi (fun v ev => ?_)
        refine wd_st E K hW ht i rfl (by omega) d_D_take_23 (fun H locs hW => ?_)
        refine lv_iinc (v := (nI (i + 1))) (lv' := [(3, .int (nI (i + 1))), (0, .ref o), (1, .ref t), (2, .int rv)]) hx hb d_D_take_24 hl (k := 0) rfl (nI_1 _) (by decide) rfl (fun ls hl => ?_)
        refine lv_goto (tgt := 2) hx hb d_D_take_27 (by decide) ?_
        refine ih (i + 1) _ H locs ls (by omega) (by omega) (hk.st _) (fun j hj => ?_) hW hl
        by_cases hji : j = i
        · subst hji; rw [mst_at, ev]; exact hk (A 0) _ (fun z => absurd z.symm nt)
        · rw [mst_ne (fun _ => hji)]; exact hI j (by omega)
  refine lv_iconst (v := 0) hx hb d_D_take_0 (by decide) ?_
  refine lv_istore_n (lv' := [(3, .int 0), (0, .ref o), (1, .ref t), (2, .int rv)]) hx hb d_D_take_1 rfl hl (by decide) rfl (fun ls hl => ?_)
  exact loop 17 0 M H [] ls (by omega) (by omega) kp.rf (fun j hj => absurd hj (by omega)) hW hl
set_option maxHeartbeats 4000000 in
set_option maxRecDepth 100000 in
/-- Model.give(r, f) -/
theorem c_D_give (l : Launch) (g : wg) (o : Nat) (A : Nat → Nat) (rv : Int32) (f : Nat) (M : Mm) (hD : Dv g o A) (hf : aok g f 16) (nf : f ≠ A 0) : Ct l y_D_give b_D_give 4 none 0 0 g [.ref o, .int rv, .ref f] M (fun r M' => r = none ∧ (∀ q, q ≠ A 0 → M' q = M q) ∧ (∀ j, j < 16 → M' (A 0) (w4 rv % 4 * 16 + j) = M f j) ∧ ∀ j, (j < w4 rv % 4 * 16 ∨ w4 rv % 4 * 16 + 16 ≤ j) → M' (A 0) j = M (A 0) j) := by
  refine Ct.of rfl (Nat.le_of_ble_eq_true rfl) (fun p e s m args below meth c H ls Q E K hQ hW hl => ?_)
  have hx := E.1
  have hb := E.2.1
  have hown := E.2.2.2.2.1
  have hts := E.2.2.2.2.2.1
  have hl : lv_has ls 4 [(0, .ref o), (1, .int rv), (2, .ref f)] := hl
  have loop : ∀ (d i : Nat) (M1 : Mm) (H : Heap) (locs : List Loc) (ls : Array Slot), i ≤ 16 → 16 + 1 ≤ i + d → (∀ q, q ≠ A 0 → M1 q = M q) → (∀ j, j < i → M1 (A 0) (w4 rv % 4 * 16 + j) = M f j) → (∀ j, (j < w4 rv % 4 * 16 ∨ w4 rv % 4 * 16 + 16 ≤ j) → M1 (A 0) j = M (A 0) j) → wd g H locs M1 → lv_has ls 4 [(3, .int (nI i)), (0, .ref o), (1, .int rv), (2, .ref f)] → W p l e (rmm 0 0) s m args below meth c H locs 0 0 Q (F0 m 2 ls []) := by
    intro d
    induction d with
    | zero => intro i M1 H locs ls h1 h2; exact absurd h2 (by omega)
    | succ d ih =>
      intro i M1 H locs ls h1 h2 hk hI hO hW hl
      refine lv_iload_n hx hb d_D_give_2 rfl (lv_at hl 0 rfl) ?_
      refine lv_bipush (v := 16) hx hb d_D_give_3 (by decide) ?_
      refine lv_icmp_ge (tgt := 30) hx hb d_D_give_5 (by decide) (fun c1 => ?_) (fun c1 => ?_)
      · have c2 := (nI_leI (a := 16) (b := i) (by decide) (by omega)).mp c1
        obtain rfl : i = 16 := by omega
        exact ct_v E hQ hW d_D_give_30 ⟨rfl, hk, hI, hO⟩
      · have c2 : i < 16 := Nat.not_le.mp (fun z => c1 ((nI_leI (a := 16) (b := i) (by decide) (by omega)).mpr z))
        refine lv_aload_n hx hb d_D_give_8 rfl (lv_at hl 1 rfl) ?_
        refine wd_get E K hW hD.1 rfl i_D 0 (by decide) k_183 rfl d_D_give_9 ?_
        refine lv_iload_n hx hb d_D_give_12 rfl (lv_at hl 2 rfl) ?_
        refine lv_iconst (v := 3) hx hb d_D_give_13 (by decide) ?_
        refine lv_iand hx hb d_D_give_14 ?_
        refine lv_bipush (v := 16) hx hb d_D_give_15 (by decide) ?_
        refine lv_imul hx hb d_D_give_17 ?_
        refine lv_iload_n hx hb d_D_give_18 rfl (lv_at hl 0 rfl) ?_
        refine lv_iadd hx hb d_D_give_19 ?_
        refine lv_aload_n hx hb d_D_give_20 rfl (lv_at hl 3 rfl) ?_
        refine lv_iload_n hx hb d_D_give_21 rfl (lv_at hl 0 rfl) ?_
        refine wd_ld E K hW hf i rfl (by omega) d_D_give_22 ?_
        refine lv_topi (fun v ev => ?_)
        refine wd_st E K hW hD.k0 (w4 rv % 4 * 16 + i) (ix16 rv i) (by omega) d_D_give_23 (fun H locs hW => ?_)
        refine lv_iinc (v := (nI (i + 1))) (lv' := [(3, .int (nI (i + 1))), (0, .ref o), (1, .int rv), (2, .ref f)]) hx hb d_D_give_24 hl (k := 0) rfl (nI_1 _) (by decide) rfl (fun ls hl => ?_)
        refine lv_goto (tgt := 2) hx hb d_D_give_27 (by decide) ?_
        refine ih (i + 1) _ H locs ls (by omega) (by omega) (fun q hq => by rw [mst_out hq]; exact hk q hq) (fun j hj => ?_) (fun j hj => by rw [mst_ne (fun _ => by omega)]; exact hO j hj) hW hl
        by_cases hji : j = i
        · subst hji; rw [mst_at, ev, hk f nf]
        · rw [mst_ne (fun _ => by omega)]; exact hI j (by omega)
  refine lv_iconst (v := 0) hx hb d_D_give_0 (by decide) ?_
  refine lv_istore_n (lv' := [(3, .int 0), (0, .ref o), (1, .int rv), (2, .ref f)]) hx hb d_D_give_1 rfl hl (by decide) rfl (fun ls hl => ?_)
  exact loop 17 0 M H [] ls (by omega) (by omega) (fun _ _ => rfl) (fun j hj => absurd hj (by omega)) (fun _ _ => rfl) hW hl
set_option maxHeartbeats 4000000 in
set_option maxRecDepth 100000 in
/-- Model.copy(t, f) -/
theorem c_D_copy (l : Launch) (g : wg) (o : Nat) (A : Nat → Nat) (t f : Nat) (M : Mm) (ht : aok g t 16) (hf : aok g f 16) : Ct l y_D_copy b_D_copy 4 none 0 0 g [.ref o, .ref t, .ref f] M (fun r M' => r = none ∧ kp M M' t 16 ∧ ∀ j, j < 16 → M' t j = M f j) := by
  refine Ct.of rfl (Nat.le_of_ble_eq_true rfl) (fun p e s m args below meth c H ls Q E K hQ hW hl => ?_)
  have hx := E.1
  have hb := E.2.1
  have hown := E.2.2.2.2.1
  have hts := E.2.2.2.2.2.1
  have hl : lv_has ls 4 [(0, .ref o), (1, .ref t), (2, .ref f)] := hl
  have loop : ∀ (d i : Nat) (M1 : Mm) (H : Heap) (locs : List Loc) (ls : Array Slot), i ≤ 16 → 16 + 1 ≤ i + d → kp M M1 t i → (∀ j, j < i → M1 t j = M f j) → wd g H locs M1 → lv_has ls 4 [(3, .int (nI i)), (0, .ref o), (1, .ref t), (2, .ref f)] → W p l e (rmm 0 0) s m args below meth c H locs 0 0 Q (F0 m 2 ls []) := by
    intro d
    induction d with
    | zero => intro i M1 H locs ls h1 h2; exact absurd h2 (by omega)
    | succ d ih =>
      intro i M1 H locs ls h1 h2 hk hI hW hl
      refine lv_iload_n hx hb d_D_copy_2 rfl (lv_at hl 0 rfl) ?_
      refine lv_bipush (v := 16) hx hb d_D_copy_3 (by decide) ?_
      refine lv_icmp_ge (tgt := 20) hx hb d_D_copy_5 (by decide) (fun c1 => ?_) (fun c1 => ?_)
      · have c2 := (nI_leI (a := 16) (b := i) (by decide) (by omega)).mp c1
        obtain rfl : i = 16 := by omega
        exact ct_v E hQ hW d_D_copy_20 ⟨rfl, hk, hI⟩
      · have c2 : i < 16 := Nat.not_le.mp (fun z => c1 ((nI_leI (a := 16) (b := i) (by decide) (by omega)).mpr z))
        refine lv_aload_n hx hb d_D_copy_8 rfl (lv_at hl 2 rfl) ?_
        refine lv_iload_n hx hb d_D_copy_9 rfl (lv_at hl 0 rfl) ?_
        refine lv_aload_n hx hb d_D_copy_10 rfl (lv_at hl 3 rfl) ?_
        refine lv_iload_n hx hb d_D_copy_11 rfl (lv_at hl 0 rfl) ?_
        refine wd_ld E K hW hf i rfl (by omega) d_D_copy_12 ?_
        refine lv_topi (fun v ev => ?_)
        refine wd_st E K hW ht i rfl (by omega) d_D_copy_13 (fun H locs hW => ?_)
        refine lv_iinc (v := (nI (i + 1))) (lv' := [(3, .int (nI (i + 1))), (0, .ref o), (1, .ref t), (2, .ref f)]) hx hb d_D_copy_14 hl (k := 0) rfl (nI_1 _) (by decide) rfl (fun ls hl => ?_)
        refine lv_goto (tgt := 2) hx hb d_D_copy_17 (by decide) ?_
        refine ih (i + 1) _ H locs ls (by omega) (by omega) (hk.st _) (fun j hj => ?_) hW hl
        by_cases hji : j = i
        · subst hji; rw [mst_at, ev]; exact hk f j (fun _ => Nat.le_refl _)
        · rw [mst_ne (fun _ => hji)]; exact hI j (by omega)
  refine lv_iconst (v := 0) hx hb d_D_copy_0 (by decide) ?_
  refine lv_istore_n (lv' := [(3, .int 0), (0, .ref o), (1, .ref t), (2, .ref f)]) hx hb d_D_copy_1 rfl hl (by decide) rfl (fun ls hl => ?_)
  exact loop 17 0 M H [] ls (by omega) (by omega) kp.rf (fun j hj => absurd hj (by omega)) hW hl
set_option maxHeartbeats 4000000 in
set_option maxRecDepth 100000 in
/-- Model.isZero(a) -/
theorem c_D_isZero (l : Launch) (g : wg) (o : Nat) (A : Nat → Nat) (a : Nat) (M : Mm) (ha : aok g a 16) : Ct l y_D_isZero b_D_isZero 4 (some .boolean) 0 0 g [.ref o, .ref a] M (fun r M' => r = some (.int (if V16 (M a) = 0 then 1 else 0)) ∧ M' = M) := by
  refine Ct.of rfl (Nat.le_of_ble_eq_true rfl) (fun p e s m args below meth c H ls Q E K hQ hW hl => ?_)
  have hx := E.1
  have hb := E.2.1
  have hown := E.2.2.2.2.1
  have hts := E.2.2.2.2.2.1
  have hl : lv_has ls 4 [(0, .ref o), (1, .ref a)] := hl
  have hz := vN_zero (B := 65536) (f := M a) (by decide) (n := 16)
  have loop : ∀ (d i : Nat) (al : Int32) (ls : Array Slot), i ≤ 16 → 16 + 1 ≤ i + d → ((al = 1 ∧ ∀ j, j < i → M a j = 0) ∨ (al = 0 ∧ ¬ ∀ j, j < i → M a j = 0)) → lv_has ls 4 [(3, .int (nI i)), (2, .int al), (0, .ref o), (1, .ref a)] → W p l e (rmm 0 0) s m args below meth c H [] 0 0 Q (F0 m 4 ls []) := by
    intro d
    induction d with
    | zero => intro i al ls h1 h2; exact absurd h2 (by omega)
    | succ d ih =>
      intro i al ls h1 h2 hI hl
      refine lv_iload_n hx hb d_D_isZero_4 rfl (lv_at hl 0 rfl) ?_
      refine lv_bipush (v := 16) hx hb d_D_isZero_5 (by decide) ?_
      refine lv_icmp_ge (tgt := 32) hx hb d_D_isZero_7 (by decide) (fun c1 => ?_) (fun c1 => ?_)
      · have c2 := (nI_leI (a := 16) (b := i) (by decide) (by omega)).mp c1
        obtain rfl : i = 16 := by omega
        refine lv_iload_n hx hb d_D_isZero_32 rfl (lv_at hl 1 rfl) ?_
        exact ct_z E hQ hW (by rcases hI with ⟨h, _⟩ | ⟨h, _⟩; exact Or.inr h; exact Or.inl h) d_D_isZero_33 ⟨by rcases hI with ⟨h, h2⟩ | ⟨h, h2⟩; rw [h, if_pos (hz.mpr h2)]; rw [h, if_neg (fun z => h2 (hz.mp z))], rfl⟩
      · have c2 : i < 16 := Nat.not_le.mp (fun z => c1 ((nI_leI (a := 16) (b := i) (by decide) (by omega)).mpr z))
        refine lv_iload_n hx hb d_D_isZero_10 rfl (lv_at hl 1 rfl) ?_
        refine lv_if_eq (tgt := 24) hx hb d_D_isZero_11 (by decide) (fun c3 => ?_) (fun c3 => ?_)
        · have hn : ¬ ∀ j, j < i → M a j = 0 := by rcases hI with ⟨h, h2⟩ | ⟨h, h2⟩; exact absurd (h.symm.trans c3) (by decide); exact h2
          refine lv_iconst (v := 0) hx hb d_D_isZero_24 (by decide) ?_
          refine lv_istore_n (lv' := [(2, .int 0), (3, .int (nI i)), (0, .ref o), (1, .ref a)]) hx hb d_D_isZero_25 rfl hl (by decide) rfl (fun ls hl => ?_)
          refine lv_iinc (v := (nI (i + 1))) (lv' := [(3, .int (nI (i + 1))), (2, .int 0), (0, .ref o), (1, .ref a)]) hx hb d_D_isZero_26 hl (k := 1) rfl (nI_1 _) (by decide) rfl (fun ls hl => ?_)
          refine lv_goto (tgt := 4) hx hb d_D_isZero_29 (by decide) ?_
          exact ih (i + 1) 0 ls (by omega) (by omega) (Or.inr ⟨rfl, fun z => hn (fun j hj => z j (by omega))⟩) (lv_sub hl [0, 1, 2, 3] rfl)
        · have hy : ∀ j, j < i → M a j = 0 := by rcases hI with ⟨h, h2⟩ | ⟨h, h2⟩; exact h2; exact absurd h c3
          refine lv_aload_n hx hb d_D_isZero_14 rfl (lv_at hl 3 rfl) ?_
          refine lv_iload_n hx hb d_D_isZero_15 rfl (lv_at hl 0 rfl) ?_
          refine wd_ld E K hW ha i rfl (by omega) d_D_isZero_16 ?_
          refine lv_if_ne (tgt := 24) hx hb d_D_isZero_17 (by decide) (fun c4 => ?_) (fun c4 => ?_)
          · refine lv_iconst (v := 0) hx hb d_D_isZero_24 (by decide) ?_
            refine lv_istore_n (lv' := [(2, .int 0), (3, .int (nI i)), (0, .ref o), (1, .ref a)]) hx hb d_D_isZero_25 rfl hl (by decide) rfl (fun ls hl => ?_)
            refine lv_iinc (v := (nI (i + 1))) (lv' := [(3, .int (nI (i + 1))), (2, .int 0), (0, .ref o), (1, .ref a)]) hx hb d_D_isZero_26 hl (k := 1) rfl (nI_1 _) (by decide) rfl (fun ls hl => ?_)
            refine lv_goto (tgt := 4) hx hb d_D_isZero_29 (by decide) ?_
            exact ih (i + 1) 0 ls (by omega) (by omega) (Or.inr ⟨rfl, fun z => c4 (z i (by omega))⟩) (lv_sub hl [0, 1, 2, 3] rfl)
          · refine lv_iconst (v := 1) hx hb d_D_isZero_20 (by decide) ?_
            refine lv_goto (tgt := 25) hx hb d_D_isZero_21 (by decide) ?_
            refine lv_istore_n (lv' := [(2, .int 1), (3, .int (nI i)), (0, .ref o), (1, .ref a)]) hx hb d_D_isZero_25 rfl hl (by decide) rfl (fun ls hl => ?_)
            refine lv_iinc (v := (nI (i + 1))) (lv' := [(3, .int (nI (i + 1))), (2, .int 1), (0, .ref o), (1, .ref a)]) hx hb d_D_isZero_26 hl (k := 1) rfl (nI_1 _) (by decide) rfl (fun ls hl => ?_)
            refine lv_goto (tgt := 4) hx hb d_D_isZero_29 (by decide) ?_
            refine ih (i + 1) 1 ls (by omega) (by omega) (Or.inl ⟨rfl, fun j hj => ?_⟩) (lv_sub hl [0, 1, 2, 3] rfl)
            by_cases hji : j = i
            · rw [hji]; exact c4
            · exact hy j (by omega)
  refine lv_iconst (v := 1) hx hb d_D_isZero_0 (by decide) ?_
  refine lv_istore_n (lv' := [(2, .int 1), (0, .ref o), (1, .ref a)]) hx hb d_D_isZero_1 rfl hl (by decide) rfl (fun ls hl => ?_)
  refine lv_iconst (v := 0) hx hb d_D_isZero_2 (by decide) ?_
  refine lv_istore_n (lv' := [(3, .int 0), (2, .int 1), (0, .ref o), (1, .ref a)]) hx hb d_D_isZero_3 rfl hl (by decide) rfl (fun ls hl => ?_)
  exact loop 17 0 1 ls (by omega) (by omega) (Or.inl ⟨rfl, fun j hj => absurd hj (by omega)⟩) (lv_sub hl [0, 1, 2, 3] rfl)
set_option maxHeartbeats 4000000 in
set_option maxRecDepth 100000 in
/-- Model.nought(a) -/
theorem c_D_nought (l : Launch) (g : wg) (a : Nat) (M : Mm) (ha : aok g a 17) : Ct l y_D_nought b_D_nought 3 (some .boolean) 0 0 g [.ref a] M (fun r M' => r = some (.int (if V17 (M a) = 0 then 1 else 0)) ∧ M' = M) := by
  refine Ct.of rfl (Nat.le_of_ble_eq_true rfl) (fun p e s m args below meth c H ls Q E K hQ hW hl => ?_)
  have hx := E.1
  have hb := E.2.1
  have hown := E.2.2.2.2.1
  have hts := E.2.2.2.2.2.1
  have hl : lv_has ls 3 [(0, .ref a)] := hl
  have hz := vN_zero (B := 65536) (f := M a) (by decide) (n := 17)
  have loop : ∀ (d i : Nat) (al : Int32) (ls : Array Slot), i ≤ 17 → 17 + 1 ≤ i + d → (al = 0 ↔ ∀ j, j < i → M a j = 0) → lv_has ls 3 [(2, .int (nI i)), (1, .int al), (0, .ref a)] → W p l e (rmm 0 0) s m args below meth c H [] 0 0 Q (F0 m 4 ls []) := by
    intro d
    induction d with
    | zero => intro i al ls h1 h2; exact absurd h2 (by omega)
    | succ d ih =>
      intro i al ls h1 h2 hI hl
      refine lv_iload_n hx hb d_D_nought_4 rfl (lv_at hl 0 rfl) ?_
      refine lv_bipush (v := 17) hx hb d_D_nought_5 (by decide) ?_
      refine lv_icmp_ge (tgt := 22) hx hb d_D_nought_7 (by decide) (fun c1 => ?_) (fun c1 => ?_)
      · have c2 := (nI_leI (a := 17) (b := i) (by decide) (by omega)).mp c1
        obtain rfl : i = 17 := by omega
        refine lv_iload_n hx hb d_D_nought_22 rfl (lv_at hl 1 rfl) ?_
        refine lv_if_ne (tgt := 30) hx hb d_D_nought_23 (by decide) (fun c3 => ?_) (fun c3 => ?_)
        · have hv : ¬ V17 (M a) = 0 := fun z => c3 (hI.mpr (hz.mp z))
          refine lv_iconst (v := 0) hx hb d_D_nought_30 (by decide) ?_
          exact ct_z E hQ hW (Or.inl rfl) d_D_nought_31 ⟨by rw [if_neg hv], rfl⟩
        · have hv : V17 (M a) = 0 := hz.mpr (hI.mp c3)
          refine lv_iconst (v := 1) hx hb d_D_nought_26 (by decide) ?_
          refine lv_goto (tgt := 31) hx hb d_D_nought_27 (by decide) ?_
          exact ct_z E hQ hW (Or.inr rfl) d_D_nought_31 ⟨by rw [if_pos hv], rfl⟩
      · have c2 : i < 17 := Nat.not_le.mp (fun z => c1 ((nI_leI (a := 17) (b := i) (by decide) (by omega)).mpr z))
        refine lv_iload_n hx hb d_D_nought_10 rfl (lv_at hl 1 rfl) ?_
        refine lv_aload_n hx hb d_D_nought_11 rfl (lv_at hl 2 rfl) ?_
        refine lv_iload_n hx hb d_D_nought_12 rfl (lv_at hl 0 rfl) ?_
        refine wd_ld E K hW ha i rfl (by omega) d_D_nought_13 ?_
        refine lv_ior hx hb d_D_nought_14 ?_
        refine lv_topi (fun u eu => ?_)
        refine lv_istore_n (lv' := [(1, .int u), (2, .int (nI i)), (0, .ref a)]) hx hb d_D_nought_15 rfl hl (by decide) rfl (fun ls hl => ?_)
        refine lv_iinc (v := (nI (i + 1))) (lv' := [(2, .int (nI (i + 1))), (1, .int u), (0, .ref a)]) hx hb d_D_nought_16 hl (k := 1) rfl (nI_1 _) (by decide) rfl (fun ls hl => ?_)
        refine lv_goto (tgt := 4) hx hb d_D_nought_19 (by decide) ?_
        refine ih (i + 1) u ls (by omega) (by omega) ?_ hl
        rw [eu, or_zero, hI]
        exact ⟨fun z j hj => by
          by_cases hji : j = i
          · rw [hji]; exact z.2
          · exact z.1 j (by omega), fun z => ⟨fun j hj => z j (by omega), z i (by omega)⟩⟩
  refine lv_iconst (v := 0) hx hb d_D_nought_0 (by decide) ?_
  refine lv_istore_n (lv' := [(1, .int 0), (0, .ref a)]) hx hb d_D_nought_1 rfl hl (by decide) rfl (fun ls hl => ?_)
  refine lv_iconst (v := 0) hx hb d_D_nought_2 (by decide) ?_
  refine lv_istore_n (lv' := [(2, .int 0), (1, .int 0), (0, .ref a)]) hx hb d_D_nought_3 rfl hl (by decide) rfl (fun ls hl => ?_)
  exact loop 18 0 0 ls (by omega) (by omega) ⟨fun _ j hj => absurd hj (by omega), fun _ => rfl⟩ hl
set_option maxHeartbeats 4000000 in
set_option maxRecDepth 100000 in
/-- Model.less(a, b) -/
theorem c_D_less (l : Launch) (g : wg) (a b : Nat) (M : Mm) (ha : aok g a 17) (hb2 : aok g b 17) (da : dg (M a) 17) (db : dg (M b) 17) : Ct l y_D_less b_D_less 3 (some .boolean) 0 0 g [.ref a, .ref b] M (fun r M' => r = some (.int (if V17 (M a) < V17 (M b) then 1 else 0)) ∧ M' = M) := by
  refine Ct.of rfl (Nat.le_of_ble_eq_true rfl) (fun p e s m args below meth c H ls Q E K hQ hW hl => ?_)
  have hx := E.1
  have hb := E.2.1
  have hown := E.2.2.2.2.1
  have hts := E.2.2.2.2.2.1
  have hl : lv_has ls 3 [(0, .ref a), (1, .ref b)] := hl
  have loop : ∀ (k : Nat) (ls : Array Slot), k < 17 → (∀ j, k < j → j < 17 → M a j = M b j) → lv_has ls 3 [(2, .int (nI k)), (0, .ref a), (1, .ref b)] → W p l e (rmm 0 0) s m args below meth c H [] 0 0 Q (F0 m 3 ls []) := by
    intro k
    induction k with
    | zero =>
      intro ls hk he hl
      refine lv_iload_n hx hb d_D_less_3 rfl (lv_at hl 0 rfl) ?_
      refine lv_if_le (tgt := 23) hx hb d_D_less_4 (by decide) (fun c1 => ?_) (fun c1 => ?_)
      · have hs : (0 : Nat) = 0 ∨ M a 0 ≠ M b 0 := Or.inl rfl
        have hc := cmp_dig hk he hs da db
        refine lv_aload_n hx hb d_D_less_23 rfl (lv_at hl 1 rfl) ?_
        refine lv_iload_n hx hb d_D_less_24 rfl (lv_at hl 0 rfl) ?_
        refine wd_ld E K hW ha 0 rfl (by omega) d_D_less_25 ?_
        refine lv_aload_n hx hb d_D_less_26 rfl (lv_at hl 2 rfl) ?_
        refine lv_iload_n hx hb d_D_less_27 rfl (lv_at hl 0 rfl) ?_
        refine wd_ld E K hW hb2 0 rfl (by omega) d_D_less_28 ?_
        refine lv_icmp_ge (tgt := 36) hx hb d_D_less_29 (by decide) (fun c5 => ?_) (fun c5 => ?_)
        · have hv : ¬ V17 (M a) < V17 (M b) := Nat.not_lt.mpr (hc.mpr ((le_dig (db _ hk) (da _ hk)).mp c5))
          refine lv_iconst (v := 0) hx hb d_D_less_36 (by decide) ?_
          exact ct_z E hQ hW (Or.inl rfl) d_D_less_37 ⟨by rw [if_neg hv], rfl⟩
        · have hv : V17 (M a) < V17 (M b) := Nat.not_le.mp (fun z => c5 ((le_dig (db _ hk) (da _ hk)).mpr (hc.mp z)))
          refine lv_iconst (v := 1) hx hb d_D_less_32 (by decide) ?_
          refine lv_goto (tgt := 37) hx hb d_D_less_33 (by decide) ?_
          exact ct_z E hQ hW (Or.inr rfl) d_D_less_37 ⟨by rw [if_pos hv], rfl⟩
      · exact absurd (by decide) c1
    | succ k ih =>
      intro ls hk he hl
      refine lv_iload_n hx hb d_D_less_3 rfl (lv_at hl 0 rfl) ?_
      refine lv_if_le (tgt := 23) hx hb d_D_less_4 (by decide) (fun c1 => ?_) (fun c1 => ?_)
      · exact absurd c1 (nI_nle (by omega) (by omega))
      · refine lv_aload_n hx hb d_D_less_7 rfl (lv_at hl 1 rfl) ?_
        refine lv_iload_n hx hb d_D_less_8 rfl (lv_at hl 0 rfl) ?_
        refine wd_ld E K hW ha (k + 1) rfl (by omega) d_D_less_9 ?_
        refine lv_aload_n hx hb d_D_less_10 rfl (lv_at hl 2 rfl) ?_
        refine lv_iload_n hx hb d_D_less_11 rfl (lv_at hl 0 rfl) ?_
        refine wd_ld E K hW hb2 (k + 1) rfl (by omega) d_D_less_12 ?_
        refine lv_icmp_ne (tgt := 23) hx hb d_D_less_13 (by decide) (fun c2 => ?_) (fun c2 => ?_)
        · have hs : k + 1 = 0 ∨ M a (k + 1) ≠ M b (k + 1) := Or.inr c2
          have hc := cmp_dig hk he hs da db
          refine lv_aload_n hx hb d_D_less_23 rfl (lv_at hl 1 rfl) ?_
          refine lv_iload_n hx hb d_D_less_24 rfl (lv_at hl 0 rfl) ?_
          refine wd_ld E K hW ha (k + 1) rfl (by omega) d_D_less_25 ?_
          refine lv_aload_n hx hb d_D_less_26 rfl (lv_at hl 2 rfl) ?_
          refine lv_iload_n hx hb d_D_less_27 rfl (lv_at hl 0 rfl) ?_
          refine wd_ld E K hW hb2 (k + 1) rfl (by omega) d_D_less_28 ?_
          refine lv_icmp_ge (tgt := 36) hx hb d_D_less_29 (by decide) (fun c5 => ?_) (fun c5 => ?_)
          · have hv : ¬ V17 (M a) < V17 (M b) := Nat.not_lt.mpr (hc.mpr ((le_dig (db _ hk) (da _ hk)).mp c5))
            refine lv_iconst (v := 0) hx hb d_D_less_36 (by decide) ?_
            exact ct_z E hQ hW (Or.inl rfl) d_D_less_37 ⟨by rw [if_neg hv], rfl⟩
          · have hv : V17 (M a) < V17 (M b) := Nat.not_le.mp (fun z => c5 ((le_dig (db _ hk) (da _ hk)).mpr (hc.mp z)))
            refine lv_iconst (v := 1) hx hb d_D_less_32 (by decide) ?_
            refine lv_goto (tgt := 37) hx hb d_D_less_33 (by decide) ?_
            exact ct_z E hQ hW (Or.inr rfl) d_D_less_37 ⟨by rw [if_pos hv], rfl⟩
        · refine lv_iload_n hx hb d_D_less_16 rfl (lv_at hl 0 rfl) ?_
          refine lv_iconst (v := 1) hx hb d_D_less_17 (by decide) ?_
          refine lv_isub hx hb d_D_less_18 ?_
          refine W.eq (g2 := F0 m 19 ls [.int (nI k)]) (congrArg (fun z => F0 m 19 ls [.int z]) (nI_pred k)) ?_
          refine lv_istore_n (lv' := [(2, .int (nI k)), (0, .ref a), (1, .ref b)]) hx hb d_D_less_19 rfl hl (by decide) rfl (fun ls hl => ?_)
          refine lv_goto (tgt := 3) hx hb d_D_less_20 (by decide) ?_
          exact ih ls (by omega) (fun j h1 h2 => by
            by_cases hj : j = k + 1
            · rw [hj]; exact c2
            · exact he j (by omega) h2) (lv_sub hl [0, 1, 2] rfl)
  refine lv_bipush (v := 16) hx hb d_D_less_0 (by decide) ?_
  refine lv_istore_n (lv' := [(2, .int 16), (0, .ref a), (1, .ref b)]) hx hb d_D_less_2 rfl hl (by decide) rfl (fun ls hl => ?_)
  exact loop 16 ls (by omega) (fun j h1 h2 => absurd h2 (by omega)) hl
set_option maxHeartbeats 4000000 in
set_option maxRecDepth 100000 in
/-- Model.lessen(a, b) -/
theorem c_D_lessen (l : Launch) (g : wg) (a b : Nat) (M : Mm) (ha : aok g a 17) (hb2 : aok g b 17) (da : dg (M a) 17) (db : dg (M b) 17) (hle : V17 (M b) ≤ V17 (M a)) : Ct l y_D_lessen b_D_lessen 5 none 0 0 g [.ref a, .ref b] M (fun r M' => r = none ∧ kp M M' a 17 ∧ dg (M' a) 17 ∧ V17 (M' a) = V17 (M a) - V17 (M b)) := by
  refine Ct.of rfl (Nat.le_of_ble_eq_true rfl) (fun p e s m args below meth c H ls Q E K hQ hW hl => ?_)
  have hx := E.1
  have hb := E.2.1
  have hown := E.2.2.2.2.1
  have hts := E.2.2.2.2.2.1
  have hl : lv_has ls 5 [(0, .ref a), (1, .ref b)] := hl
  have loop : ∀ (d i : Nat) (M1 : Mm) (H : Heap) (locs : List Loc) (cv : Int32) (ls : Array Slot), i ≤ 17 → 17 + 1 ≤ i + d → kp M M1 a i → dg (M1 a) i → (-1 ≤ cv.toInt ∧ cv.toInt ≤ 0) → ((vN 65536 (M1 a) i : Nat) : Int) + cv.toInt * ((65536 ^ i : Nat) : Int) = ((vN 65536 (M a) i : Nat) : Int) - ((vN 65536 (M b) i : Nat) : Int) → wd g H locs M1 → lv_has ls 5 [(3, .int (nI i)), (2, .int cv), (0, .ref a), (1, .ref b)] → W p l e (rmm 0 0) s m args below meth c H locs 0 0 Q (F0 m 4 ls []) := by
    intro d
    induction d with
    | zero => intro i M1 H locs cv ls h1 h2; exact absurd h2 (by omega)
    | succ d ih =>
      intro i M1 H locs cv ls h1 h2 hk hd hc hI hW hl
      refine lv_iload_n hx hb d_D_lessen_4 rfl (lv_at hl 0 rfl) ?_
      refine lv_bipush (v := 17) hx hb d_D_lessen_5 (by decide) ?_
      refine lv_icmp_ge (tgt := 41) hx hb d_D_lessen_7 (by decide) (fun c1 => ?_) (fun c1 => ?_)
      · have c2 := (nI_leI (a := 17) (b := i) (by decide) (by omega)).mp c1
        obtain rfl : i = 17 := by omega
        exact ct_v E hQ hW d_D_lessen_41 ⟨rfl, hk, hd, less_fin hI (vN_lt hd) (vN_lt da) hc hle⟩
      · have c2 : i < 17 := Nat.not_le.mp (fun z => c1 ((nI_leI (a := 17) (b := i) (by decide) (by omega)).mpr z))
        refine lv_aload_n hx hb d_D_lessen_10 rfl (lv_at hl 2 rfl) ?_
        refine lv_iload_n hx hb d_D_lessen_11 rfl (lv_at hl 0 rfl) ?_
        refine wd_ld E K hW ha i rfl (by omega) d_D_lessen_12 ?_
        refine lv_aload_n hx hb d_D_lessen_13 rfl (lv_at hl 3 rfl) ?_
        refine lv_iload_n hx hb d_D_lessen_14 rfl (lv_at hl 0 rfl) ?_
        refine wd_ld E K hW hb2 i rfl (by omega) d_D_lessen_15 ?_
        refine lv_isub hx hb d_D_lessen_16 ?_
        refine lv_iload_n hx hb d_D_lessen_17 rfl (lv_at hl 1 rfl) ?_
        refine lv_iadd hx hb d_D_lessen_18 ?_
        refine lv_topi (fun v ev => ?_)
        refine lv_istore (lv' := [(4, .int v), (3, .int (nI i)), (2, .int cv), (0, .ref a), (1, .ref b)]) hx hb d_D_lessen_19 hl (by decide) rfl (fun ls hl => ?_)
        refine lv_aload_n hx hb d_D_lessen_21 rfl (lv_at hl 3 rfl) ?_
        refine lv_iload_n hx hb d_D_lessen_22 rfl (lv_at hl 1 rfl) ?_
        refine lv_iload hx hb d_D_lessen_23 (lv_at hl 0 rfl) ?_
        refine lv_ldc hx hb hown (hts _ k_181) d_D_lessen_25 ?_
        refine lv_iand hx hb d_D_lessen_27 ?_
        refine lv_topi (fun z ez => ?_)
        refine wd_st E K hW ha i rfl (by omega) d_D_lessen_28 (fun H locs hW => ?_)
        refine lv_iload hx hb d_D_lessen_29 (lv_at hl 0 rfl) ?_
        refine lv_bipush (v := 16) hx hb d_D_lessen_31 (by decide) ?_
        refine lv_ishr hx hb d_D_lessen_33 ?_
        refine lv_topi (fun c2v ec2v => ?_)
        refine lv_istore_n (lv' := [(2, .int c2v), (4, .int v), (3, .int (nI i)), (0, .ref a), (1, .ref b)]) hx hb d_D_lessen_34 rfl hl (by decide) rfl (fun ls hl => ?_)
        refine lv_iinc (v := (nI (i + 1))) (lv' := [(3, .int (nI (i + 1))), (2, .int c2v), (4, .int v), (0, .ref a), (1, .ref b)]) hx hb d_D_lessen_35 hl (k := 2) rfl (nI_1 _) (by decide) rfl (fun ls hl => ?_)
        refine lv_goto (tgt := 4) hx hb d_D_lessen_38 (by decide) ?_
        rw [hk a i (fun _ => Nat.le_refl _), hk b i (fun _ => Nat.le_refl _)] at ev
        obtain ⟨s1, s2, s3⟩ := sub_dig (da i (by omega)) (db i (by omega)) hc ev ez ec2v
        refine ih (i + 1) _ H locs c2v ls (by omega) (by omega) (hk.st _) (hd.st s1) s3 ?_ hW (lv_sub hl [0, 1, 3, 4] rfl)
        rw [vN_mst, vN_s, vN_s, Nat.pow_succ]
        exact num_isub hI s2
  refine lv_iconst (v := 0) hx hb d_D_lessen_0 (by decide) ?_
  refine lv_istore_n (lv' := [(2, .int 0), (0, .ref a), (1, .ref b)]) hx hb d_D_lessen_1 rfl hl (by decide) rfl (fun ls hl => ?_)
  refine lv_iconst (v := 0) hx hb d_D_lessen_2 (by decide) ?_
  refine lv_istore_n (lv' := [(3, .int 0), (2, .int 0), (0, .ref a), (1, .ref b)]) hx hb d_D_lessen_3 rfl hl (by decide) rfl (fun ls hl => ?_)
  exact loop 18 0 M H [] 0 ls (by omega) (by omega) kp.rf (fun j hj => absurd hj (by omega)) (by decide) (by simp [vN_0]) hW hl
set_option maxHeartbeats 4000000 in
set_option maxRecDepth 100000 in
/-- Model.half(a) -/
theorem c_D_half (l : Launch) (g : wg) (a : Nat) (M : Mm) (ha : aok g a 17) (da : dg (M a) 17) : Ct l y_D_half b_D_half 2 none 0 0 g [.ref a] M (fun r M' => r = none ∧ kp M M' a 17 ∧ dg (M' a) 17 ∧ V17 (M' a) = V17 (M a) / 2) := by
  refine Ct.of rfl (Nat.le_of_ble_eq_true rfl) (fun p e s m args below meth c H ls Q E K hQ hW hl => ?_)
  have hx := E.1
  have hb := E.2.1
  have hown := E.2.2.2.2.1
  have hts := E.2.2.2.2.2.1
  have hl : lv_has ls 2 [(0, .ref a)] := hl
  have loop : ∀ (d i : Nat) (M1 : Mm) (H : Heap) (locs : List Loc) (ls : Array Slot), i ≤ 16 → 16 + 1 ≤ i + d → kp M M1 a i → dg (M1 a) i → 2 * vN 65536 (M1 a) i + w4 (M a 0) % 2 = vN 65536 (M a) i + w4 (M a i) % 2 * 65536 ^ i → wd g H locs M1 → lv_has ls 2 [(1, .int (nI i)), (0, .ref a)] → W p l e (rmm 0 0) s m args below meth c H locs 0 0 Q (F0 m 2 ls []) := by
    intro d
    induction d with
    | zero => intro i M1 H locs ls h1 h2; exact absurd h2 (by omega)
    | succ d ih =>
      intro i M1 H locs ls h1 h2 hk hd hI hW hl
      refine lv_iload_n hx hb d_D_half_2 rfl (lv_at hl 0 rfl) ?_
      refine lv_bipush (v := 16) hx hb d_D_half_3 (by decide) ?_
      refine lv_icmp_ge (tgt := 33) hx hb d_D_half_5 (by decide) (fun c1 => ?_) (fun c1 => ?_)
      · have c2 := (nI_leI (a := 16) (b := i) (by decide) (by omega)).mp c1
        obtain rfl : i = 16 := by omega
        refine lv_aload_n hx hb d_D_half_33 rfl (lv_at hl 1 rfl) ?_
        refine lv_bipush (v := 16) hx hb d_D_half_34 (by decide) ?_
        refine lv_aload_n hx hb d_D_half_36 rfl (lv_at hl 1 rfl) ?_
        refine lv_bipush (v := 16) hx hb d_D_half_37 (by decide) ?_
        refine wd_ld E K hW ha 16 (by decide) (by decide) d_D_half_39 ?_
        refine lv_iconst (v := 1) hx hb d_D_half_40 (by decide) ?_
        refine lv_ishr hx hb d_D_half_41 ?_
        refine lv_topi (fun z ez => ?_)
        refine wd_st E K hW ha 16 (by decide) (by decide) d_D_half_42 (fun H locs hW => ?_)
        rw [hk a 16 (fun _ => Nat.le_refl _)] at ez
        obtain ⟨s1, s2⟩ := half_top (da 16 (by decide)) ez
        refine ct_v E hQ hW d_D_half_43 ⟨rfl, hk.st _, hd.st s1, ?_⟩
        rw [V17, V17, vN_mst, vN_s 65536 (M a) 16]
        exact half_fin2 (by rw [← vN_s]; exact vN_low16 (M a) 16) hI s2
      · have c2 : i < 16 := Nat.not_le.mp (fun z => c1 ((nI_leI (a := 16) (b := i) (by decide) (by omega)).mpr z))
        refine lv_aload_n hx hb d_D_half_8 rfl (lv_at hl 1 rfl) ?_
        refine lv_iload_n hx hb d_D_half_9 rfl (lv_at hl 0 rfl) ?_
        refine lv_aload_n hx hb d_D_half_10 rfl (lv_at hl 1 rfl) ?_
        refine lv_iload_n hx hb d_D_half_11 rfl (lv_at hl 0 rfl) ?_
        refine wd_ld E K hW ha i rfl (by omega) d_D_half_12 ?_
        refine lv_iconst (v := 1) hx hb d_D_half_13 (by decide) ?_
        refine lv_ishr hx hb d_D_half_14 ?_
        refine lv_aload_n hx hb d_D_half_15 rfl (lv_at hl 1 rfl) ?_
        refine lv_iload_n hx hb d_D_half_16 rfl (lv_at hl 0 rfl) ?_
        refine lv_iconst (v := 1) hx hb d_D_half_17 (by decide) ?_
        refine lv_iadd hx hb d_D_half_18 ?_
        refine wd_ld E K hW ha (i + 1) (nI_1 i) (by omega) d_D_half_19 ?_
        refine lv_iconst (v := 1) hx hb d_D_half_20 (by decide) ?_
        refine lv_iand hx hb d_D_half_21 ?_
        refine lv_bipush (v := 15) hx hb d_D_half_22 (by decide) ?_
        refine lv_ishl hx hb d_D_half_24 ?_
        refine lv_ior hx hb d_D_half_25 ?_
        refine lv_topi (fun z ez => ?_)
        refine wd_st E K hW ha i rfl (by omega) d_D_half_26 (fun H locs hW => ?_)
        refine lv_iinc (v := (nI (i + 1))) (lv' := [(1, .int (nI (i + 1))), (0, .ref a)]) hx hb d_D_half_27 hl (k := 0) rfl (nI_1 _) (by decide) rfl (fun ls hl => ?_)
        refine lv_goto (tgt := 2) hx hb d_D_half_30 (by decide) ?_
        rw [hk a i (fun _ => Nat.le_refl _), hk a (i + 1) (fun _ => by omega)] at ez
        obtain ⟨s1, s2⟩ := half_dig (da i (by omega)) ez
        refine ih (i + 1) _ H locs ls (by omega) (by omega) (hk.st _) (hd.st s1) ?_ hW hl
        rw [vN_mst, vN_s, Nat.pow_succ]
        exact num_half hI s2
  refine lv_iconst (v := 0) hx hb d_D_half_0 (by decide) ?_
  refine lv_istore_n (lv' := [(1, .int 0), (0, .ref a)]) hx hb d_D_half_1 rfl hl (by decide) rfl (fun ls hl => ?_)
  exact loop 17 0 M H [] ls (by omega) (by omega) kp.rf (fun j hj => absurd hj (by omega)) (by simp [vN_0]) hW hl
set_option maxHeartbeats 4000000 in
set_option maxRecDepth 100000 in
/-- Model.more(a) -/
theorem c_D_more (l : Launch) (g : wg) (o : Nat) (A : Nat → Nat) (a : Nat) (M : Mm) (hD : Dv g o A) (hC : Dc M A) (ha : aok g a 17) (na : A 2 ≠ a) (da : dg (M a) 17) (hlt : V17 (M a) + PP < 65536 ^ 17) : Ct l y_D_more b_D_more 5 none 0 0 g [.ref o, .ref a] M (fun r M' => r = none ∧ kp M M' a 17 ∧ dg (M' a) 17 ∧ V17 (M' a) = V17 (M a) + PP) := by
  refine Ct.of rfl (Nat.le_of_ble_eq_true rfl) (fun p e s m args below meth c H ls Q E K hQ hW hl => ?_)
  have hx := E.1
  have hb := E.2.1
  have hown := E.2.2.2.2.1
  have hts := E.2.2.2.2.2.1
  have hl : lv_has ls 5 [(0, .ref o), (1, .ref a)] := hl
  have dp := qW_dg hC
  have vp : vN 65536 (M (A 2)) 16 = PP := V16_qW hC
  have loop : ∀ (d i : Nat) (M1 : Mm) (H : Heap) (locs : List Loc) (cv : Int32) (ls : Array Slot), i ≤ 17 → 17 + 1 ≤ i + d → kp M M1 a i → dg (M1 a) i → (0 ≤ cv.toInt ∧ cv.toInt ≤ 1) → ((vN 65536 (M1 a) i : Nat) : Int) + cv.toInt * ((65536 ^ i : Nat) : Int) = ((vN 65536 (M a) i : Nat) : Int) + (((if i < 17 then vN 65536 (M (A 2)) i else PP) : Nat) : Int) → wd g H locs M1 → lv_has ls 5 [(3, .int (nI i)), (2, .int cv), (0, .ref o), (1, .ref a)] → W p l e (rmm 0 0) s m args below meth c H locs 0 0 Q (F0 m 4 ls []) := by
    intro d
    induction d with
    | zero => intro i M1 H locs cv ls h1 h2; exact absurd h2 (by omega)
    | succ d ih =>
      intro i M1 H locs cv ls h1 h2 hk hd hc hI hW hl
      refine lv_iload_n hx hb d_D_more_4 rfl (lv_at hl 0 rfl) ?_
      refine lv_bipush (v := 17) hx hb d_D_more_5 (by decide) ?_
      refine lv_icmp_ge (tgt := 54) hx hb d_D_more_7 (by decide) (fun c1 => ?_) (fun c1 => ?_)
      · have c2 := (nI_leI (a := 17) (b := i) (by decide) (by omega)).mp c1
        obtain rfl : i = 17 := by omega
        rw [if_neg (by decide)] at hI
        exact ct_v E hQ hW d_D_more_54 ⟨rfl, hk, hd, more_fin hI (vN_lt hd) hc hlt⟩
      · have c2 : i < 17 := Nat.not_le.mp (fun z => c1 ((nI_leI (a := 17) (b := i) (by decide) (by omega)).mpr z))
        refine lv_aload_n hx hb d_D_more_10 rfl (lv_at hl 3 rfl) ?_
        refine lv_iload_n hx hb d_D_more_11 rfl (lv_at hl 0 rfl) ?_
        refine wd_ld E K hW ha i rfl (by omega) d_D_more_12 ?_
        refine lv_iload_n hx hb d_D_more_13 rfl (lv_at hl 0 rfl) ?_
        refine lv_bipush (v := 16) hx hb d_D_more_14 (by decide) ?_
        refine lv_icmp_ge (tgt := 28) hx hb d_D_more_16 (by decide) (fun c3 => ?_) (fun c3 => ?_)
        · have c4 : 16 ≤ i := (nI_leI (a := 16) (b := i) (by decide) (by omega)).mp c3
          obtain rfl : i = 16 := by omega
          refine lv_iconst (v := 0) hx hb d_D_more_28 (by decide) ?_
          refine lv_iadd hx hb d_D_more_29 ?_
          refine lv_iload_n hx hb d_D_more_30 rfl (lv_at hl 1 rfl) ?_
          refine lv_iadd hx hb d_D_more_31 ?_
          refine lv_topi (fun v ev => ?_)
          refine lv_istore (lv' := [(4, .int v), (3, .int (nI 16)), (2, .int cv), (0, .ref o), (1, .ref a)]) hx hb d_D_more_32 hl (by decide) rfl (fun ls hl => ?_)
          refine lv_aload_n hx hb d_D_more_34 rfl (lv_at hl 4 rfl) ?_
          refine lv_iload_n hx hb d_D_more_35 rfl (lv_at hl 1 rfl) ?_
          refine lv_iload hx hb d_D_more_36 (lv_at hl 0 rfl) ?_
          refine lv_ldc hx hb hown (hts _ k_181) d_D_more_38 ?_
          refine lv_iand hx hb d_D_more_40 ?_
          refine lv_topi (fun z ez => ?_)
          refine wd_st E K hW ha 16 rfl (by omega) d_D_more_41 (fun H locs hW => ?_)
          refine lv_iload hx hb d_D_more_42 (lv_at hl 0 rfl) ?_
          refine lv_bipush (v := 16) hx hb d_D_more_44 (by decide) ?_
          refine lv_ishr hx hb d_D_more_46 ?_
          refine lv_topi (fun c2v ec2v => ?_)
          refine lv_istore_n (lv' := [(2, .int c2v), (4, .int v), (3, .int (nI 16)), (0, .ref o), (1, .ref a)]) hx hb d_D_more_47 rfl hl (by decide) rfl (fun ls hl => ?_)
          refine lv_iinc (v := (nI (16 + 1))) (lv' := [(3, .int (nI (16 + 1))), (2, .int c2v), (4, .int v), (0, .ref o), (1, .ref a)]) hx hb d_D_more_48 hl (k := 2) rfl (nI_1 _) (by decide) rfl (fun ls hl => ?_)
          refine lv_goto (tgt := 4) hx hb d_D_more_51 (by decide) ?_
          rw [hk a 16 (fun _ => Nat.le_refl _)] at ev
          obtain ⟨s1, s2, s3⟩ := add_dig (da 16 (by omega)) (by decide : w4 0 < 65536) hc ev ez ec2v
          rw [if_pos (by omega)] at hI
          refine ih (16 + 1) _ H locs c2v ls (by omega) (by omega) (hk.st _) (hd.st s1) s3 ?_ hW (lv_sub hl [0, 1, 3, 4] rfl)
          rw [vN_mst, vN_s 65536 (M a) 16, show (65536 : Nat) ^ (16 + 1) = 65536 ^ 16 * 65536 from rfl, if_neg (by decide)]
          rw [vp] at hI
          have h9 := num_iadd hI s2
          rw [w4_0, Nat.zero_mul, Nat.add_zero] at h9
          exact h9
        · have c4 : i < 16 := Nat.not_le.mp (fun z => c3 ((nI_leI (a := 16) (b := i) (by decide) (by omega)).mpr z))
          refine lv_aload_n hx hb d_D_more_19 rfl (lv_at hl 2 rfl) ?_
          refine wd_get E K hW hD.1 rfl i_D 2 (by decide) k_185 rfl d_D_more_20 ?_
          refine lv_iload_n hx hb d_D_more_23 rfl (lv_at hl 0 rfl) ?_
          refine wd_ld E K hW hD.k2 i rfl (by omega) d_D_more_24 ?_
          refine lv_goto (tgt := 29) hx hb d_D_more_25 (by decide) ?_
          refine lv_iadd hx hb d_D_more_29 ?_
          refine lv_iload_n hx hb d_D_more_30 rfl (lv_at hl 1 rfl) ?_
          refine lv_iadd hx hb d_D_more_31 ?_
          refine lv_topi (fun v ev => ?_)
          refine lv_istore (lv' := [(4, .int v), (3, .int (nI i)), (2, .int cv), (0, .ref o), (1, .ref a)]) hx hb d_D_more_32 hl (by decide) rfl (fun ls hl => ?_)
          refine lv_aload_n hx hb d_D_more_34 rfl (lv_at hl 4 rfl) ?_
          refine lv_iload_n hx hb d_D_more_35 rfl (lv_at hl 1 rfl) ?_
          refine lv_iload hx hb d_D_more_36 (lv_at hl 0 rfl) ?_
          refine lv_ldc hx hb hown (hts _ k_181) d_D_more_38 ?_
          refine lv_iand hx hb d_D_more_40 ?_
          refine lv_topi (fun z ez => ?_)
          refine wd_st E K hW ha i rfl (by omega) d_D_more_41 (fun H locs hW => ?_)
          refine lv_iload hx hb d_D_more_42 (lv_at hl 0 rfl) ?_
          refine lv_bipush (v := 16) hx hb d_D_more_44 (by decide) ?_
          refine lv_ishr hx hb d_D_more_46 ?_
          refine lv_topi (fun c2v ec2v => ?_)
          refine lv_istore_n (lv' := [(2, .int c2v), (4, .int v), (3, .int (nI i)), (0, .ref o), (1, .ref a)]) hx hb d_D_more_47 rfl hl (by decide) rfl (fun ls hl => ?_)
          refine lv_iinc (v := (nI (i + 1))) (lv' := [(3, .int (nI (i + 1))), (2, .int c2v), (4, .int v), (0, .ref o), (1, .ref a)]) hx hb d_D_more_48 hl (k := 2) rfl (nI_1 _) (by decide) rfl (fun ls hl => ?_)
          refine lv_goto (tgt := 4) hx hb d_D_more_51 (by decide) ?_
          rw [hk a i (fun _ => Nat.le_refl _), hk (A 2) i (fun z => absurd z na)] at ev
          obtain ⟨s1, s2, s3⟩ := add_dig (da i (by omega)) (dp i c4) hc ev ez ec2v
          rw [if_pos (by omega)] at hI
          refine ih (i + 1) _ H locs c2v ls (by omega) (by omega) (hk.st _) (hd.st s1) s3 ?_ hW (lv_sub hl [0, 1, 3, 4] rfl)
          rw [vN_mst, vN_s, Nat.pow_succ, if_pos (by omega), vN_s 65536 (M (A 2)) i]
          exact num_iadd hI s2
  refine lv_iconst (v := 0) hx hb d_D_more_0 (by decide) ?_
  refine lv_istore_n (lv' := [(2, .int 0), (0, .ref o), (1, .ref a)]) hx hb d_D_more_1 rfl hl (by decide) rfl (fun ls hl => ?_)
  refine lv_iconst (v := 0) hx hb d_D_more_2 (by decide) ?_
  refine lv_istore_n (lv' := [(3, .int 0), (2, .int 0), (0, .ref o), (1, .ref a)]) hx hb d_D_more_3 rfl hl (by decide) rfl (fun ls hl => ?_)
  exact loop 18 0 M H [] 0 ls (by omega) (by omega) kp.rf (fun j hj => absurd hj (by omega)) (by decide) (by simp [vN_0]) hW hl
end
section
theorem plus_top {vt a b T : Nat} {c : Int32} (h : (vt : Int) + c.toInt * T = a + b) (hc : 0 ≤ c.toInt ∧ c.toInt ≤ 1) : w4 c < 65536 ∧ vt + w4 c * T = a + b := by
  rcases (show c.toInt = 0 ∨ c.toInt = 1 by omega) with h1 | h1
  · have h2 : w4 c = 0 := w4_of h1
    rw [h1] at h; rw [h2]; omega
  · have h2 : w4 c = 1 := w4_of h1
    rw [h1] at h; rw [h2]; omega
theorem sum_lt2 {a b P : Nat} (ha : a < P) (hb : b < P) : a + b < 2 * P := by omega
theorem minus_fin {vt a P T : Nat} {c : Int} (h : (vt : Int) + c * T = P - a) (hv : vt < T) (hP : P < T) (ha : a < P) (h0 : a ≠ 0) (hc : -1 ≤ c ∧ c ≤ 0) : vt = (P - a) % P := by
  rw [Nat.mod_eq_of_lt (by omega)]
  rcases (show c = -1 ∨ c = 0 by omega) with rfl | rfl <;> omega
theorem sh_small : ∀ j, j < 16 → ((nI j &&& 31).toBitVec.smod 32).toNat = j := by decide
theorem times_bit {a : Int32} (ha : w4 a < 65536) (k : Nat) (hk : k < 256) : (a >>> ((nI k &&& 15) &&& 31)) &&& 1 = 0 ↔ w4 a / 2 ^ (k % 16) % 2 = 0 := by
  rw [pk_andN (by omega) 4 (by decide)]
  have hj : k % 2 ^ 4 < 16 := by omega
  rw [show k % 16 = k % 2 ^ 4 from rfl]
  generalize k % 2 ^ 4 = j at hj ⊢
  have h1 : w4 (a >>> (nI j &&& 31)) = w4 a / 2 ^ j := by
    apply w4_of
    rw [pk_shr a (nI j &&& 31) j (sh_small j hj), w4_int (by omega), Int.shiftRight_eq_div_pow]
    norm_cast
  have h2 := w4_and (a >>> (nI j &&& 31)) 1 1 (by decide) (by decide)
  rw [h1] at h2
  constructor
  · intro z; rw [z, w4_0] at h2; exact h2.symm
  · intro z; apply w4_inj; rw [h2, w4_0]; exact z
theorem bit_dig (V k : Nat) : V / 2 ^ k % 2 = (V / 65536 ^ (k / 16) % 65536) / 2 ^ (k % 16) % 2 := by
  have e : 2 ^ k = 65536 ^ (k / 16) * 2 ^ (k % 16) := by
    rw [show (65536 : Nat) = 2 ^ 16 from rfl, ← Nat.pow_mul, ← Nat.pow_add, Nat.div_add_mod]
  rw [e, ← Nat.div_div_eq_div_mul]
  generalize V / 65536 ^ (k / 16) = u
  have hr : k % 16 < 16 := Nat.mod_lt _ (by decide)
  generalize k % 16 = r at hr
  have h1 := Nat.testBit_mod_two_pow u 16 r
  rw [Nat.testBit_eq_decide_div_mod_eq, Nat.testBit_eq_decide_div_mod_eq] at h1
  simp only [hr, decide_true, Bool.true_and, decide_eq_decide] at h1
  rw [show (65536 : Nat) = 2 ^ 16 from rfl]
  generalize u % 2 ^ 16 / 2 ^ r = s at *
  generalize u / 2 ^ r = w at *
  omega
theorem dbl_mod {u a P z : Nat} (h : z = u * a % P) : (z + z) % P = (u + u) * a % P := by
  rw [h, ← Nat.add_mod, ← Nat.add_mul]
theorem inc_mod {u a P z : Nat} (h : z = u * a % P) : (z + a) % P = (u + 1) * a % P := by
  rw [h, Nat.mod_add_mod, Nat.add_mul, Nat.one_mul]
theorem half_pow (V k : Nat) : V / 2 ^ k = V / 2 ^ (k + 1) + V / 2 ^ (k + 1) + V / 2 ^ k % 2 := by
  rw [Nat.pow_succ, ← Nat.div_div_eq_div_mul]
  generalize V / 2 ^ k = u
  omega
theorem fold_big {a u : Nat} (h : u ≠ 0) : PP ≤ a + u * TT := by
  have h1 := Nat.mul_le_mul_right TT (show 1 ≤ u by omega)
  have h2 : PP ≤ TT := by decide
  rw [Nat.one_mul] at h1
  exact Nat.le_trans h2 (Nat.le_trans h1 (Nat.le_add_left _ _))
theorem bit1 {u : Nat} (h : ¬ u % 2 = 0) : u % 2 = 1 := by omega
end
section
set_option maxHeartbeats 4000000 in
set_option maxRecDepth 100000 in
/-- Model.fold(t, w) -/
theorem c_D_fold (l : Launch) (g : wg) (o : Nat) (A : Nat → Nat) (t wv : Nat) (M : Mm) (hD : Dv g o A) (hC : Dc M A) (ht : aok g t 16) (hw : aok g wv 17) (nt : wv ≠ t) (ntp : A 2 ≠ t) (dw : dg (M wv) 17) (hlt : V17 (M wv) < 2 * PP) : Ct l y_D_fold b_D_fold 7 none 0 0 g [.ref o, .ref t, .ref wv] M (fun r M' => r = none ∧ kp M M' t 16 ∧ dg (M' t) 16 ∧ V16 (M' t) = V17 (M wv) % PP) := by
  refine Ct.of rfl (Nat.le_of_ble_eq_true rfl) (fun p e s m args below meth c H ls Q E K hQ hW hl => ?_)
  have hx := E.1
  have hb := E.2.1
  have hown := E.2.2.2.2.1
  have hts := E.2.2.2.2.2.1
  have hl : lv_has ls 7 [(0, .ref o), (1, .ref t), (2, .ref wv)] := hl
  have dp := qW_dg hC
  have vp : vN 65536 (M (A 2)) 16 = PP := V16_qW hC
  have d6 : dg (M wv) 16 := dw.le (by decide)
  have v7 : V17 (M wv) = vN 65536 (M wv) 16 + w4 (M wv 16) * TT := vN_s _ _ _
  have fin : ∀ (bg : Int32) (ls : Array Slot), ((bg = 0 ∧ V17 (M wv) < PP) ∨ (bg = 1 ∧ PP ≤ V17 (M wv))) → lv_has ls 7 [(3, .int bg), (0, .ref o), (1, .ref t), (2, .ref wv)] → W p l e (rmm 0 0) s m args below meth c H [] 0 0 Q (F0 m 69 ls []) := by
    intro bg ls hbg hl
    have loop : ∀ (d i : Nat) (M1 : Mm) (H : Heap) (locs : List Loc) (cv : Int32) (ls : Array Slot), i ≤ 16 → 16 + 1 ≤ i + d → kp M M1 t i → dg (M1 t) i → (-1 ≤ cv.toInt ∧ cv.toInt ≤ 0) → ((vN 65536 (M1 t) i : Nat) : Int) + cv.toInt * ((65536 ^ i : Nat) : Int) = ((vN 65536 (M wv) i : Nat) : Int) - (((if bg = 0 then 0 else vN 65536 (M (A 2)) i) : Nat) : Int) → wd g H locs M1 → lv_has ls 7 [(5, .int (nI i)), (4, .int cv), (3, .int bg), (0, .ref o), (1, .ref t), (2, .ref wv)] → W p l e (rmm 0 0) s m args below meth c H locs 0 0 Q (F0 m 75 ls []) := by
      intro d
      induction d with
      | zero => intro i M1 H locs cv ls h1 h2; exact absurd h2 (by omega)
      | succ d ih =>
        intro i M1 H locs cv ls h1 h2 hk hd hc hI hW hl
        refine lv_iload hx hb d_D_fold_75 (lv_at hl 0 rfl) ?_
        refine lv_bipush (v := 16) hx hb d_D_fold_77 (by decide) ?_
        refine lv_icmp_ge (tgt := 129) hx hb d_D_fold_79 (by decide) (fun c1 => ?_) (fun c1 => ?_)
        · have c2 := (nI_leI (a := 16) (b := i) (by decide) (by omega)).mp c1
          obtain rfl : i = 16 := by omega
          refine ct_v E hQ hW d_D_fold_129 ⟨rfl, hk, hd, ?_⟩
          rw [v7] at hlt hbg ⊢
          rw [vp] at hI
          refine fold_fin hI (V16_lt hd) hc (V16_lt d6) (by decide) (by decide) hlt ?_
          rcases hbg with ⟨h1, h2⟩ | ⟨h1, h2⟩
          · exact Or.inl ⟨if_pos h1, h2⟩
          · exact Or.inr ⟨if_neg (by rw [h1]; decide), h2⟩
        · have c2 : i < 16 := Nat.not_le.mp (fun z => c1 ((nI_leI (a := 16) (b := i) (by decide) (by omega)).mpr z))
          refine lv_aload_n hx hb d_D_fold_82 rfl (lv_at hl 5 rfl) ?_
          refine lv_iload hx hb d_D_fold_83 (lv_at hl 0 rfl) ?_
          refine wd_ld E K hW hw i rfl (by omega) d_D_fold_85 ?_
          refine lv_iload_n hx hb d_D_fold_86 rfl (lv_at hl 2 rfl) ?_
          refine lv_if_eq (tgt := 100) hx hb d_D_fold_87 (by decide) (fun c3 => ?_) (fun c3 => ?_)
          · refine lv_iconst (v := 0) hx hb d_D_fold_100 (by decide) ?_
            refine lv_isub hx hb d_D_fold_101 ?_
            refine lv_iload hx hb d_D_fold_102 (lv_at hl 1 rfl) ?_
            refine lv_iadd hx hb d_D_fold_104 ?_
            refine lv_topi (fun v ev => ?_)
            refine lv_istore (lv' := [(6, .int v), (5, .int (nI i)), (4, .int cv), (3, .int bg), (0, .ref o), (1, .ref t), (2, .ref wv)]) hx hb d_D_fold_105 hl (by decide) rfl (fun ls hl => ?_)
            refine lv_aload_n hx hb d_D_fold_107 rfl (lv_at hl 5 rfl) ?_
            refine lv_iload hx hb d_D_fold_108 (lv_at hl 1 rfl) ?_
            refine lv_iload hx hb d_D_fold_110 (lv_at hl 0 rfl) ?_
            refine lv_ldc hx hb hown (hts _ k_181) d_D_fold_112 ?_
            refine lv_iand hx hb d_D_fold_114 ?_
            refine lv_topi (fun z ez => ?_)
            refine wd_st E K hW ht i rfl (by omega) d_D_fold_115 (fun H locs hW => ?_)
            refine lv_iload hx hb d_D_fold_116 (lv_at hl 0 rfl) ?_
            refine lv_bipush (v := 16) hx hb d_D_fold_118 (by decide) ?_
            refine lv_ishr hx hb d_D_fold_120 ?_
            refine lv_topi (fun c2v ec2v => ?_)
            refine lv_istore (lv' := [(4, .int c2v), (6, .int v), (5, .int (nI i)), (3, .int bg), (0, .ref o), (1, .ref t), (2, .ref wv)]) hx hb d_D_fold_121 hl (by decide) rfl (fun ls hl => ?_)
            refine lv_iinc (v := (nI (i + 1))) (lv' := [(5, .int (nI (i + 1))), (4, .int c2v), (6, .int v), (3, .int bg), (0, .ref o), (1, .ref t), (2, .ref wv)]) hx hb d_D_fold_123 hl (k := 2) rfl (nI_1 _) (by decide) rfl (fun ls hl => ?_)
            refine lv_goto (tgt := 75) hx hb d_D_fold_126 (by decide) ?_
            rw [hk wv i (fun z => absurd z nt)] at ev
            obtain ⟨s1, s2, s3⟩ := sub_dig (d6 i c2) (by decide : w4 0 < 65536) hc ev ez ec2v
            rw [if_pos c3] at hI
            refine ih (i + 1) _ H locs c2v ls (by omega) (by omega) (hk.st _) (hd.st s1) s3 ?_ hW (lv_sub hl [0, 1, 3, 4, 5, 6] rfl)
            rw [if_pos c3, vN_mst, vN_s, Nat.pow_succ]
            have h9 := num_isub hI s2
            rw [w4_0, Nat.zero_mul, Nat.add_zero] at h9
            exact h9
          · refine lv_aload_n hx hb d_D_fold_90 rfl (lv_at hl 3 rfl) ?_
            refine wd_get E K hW hD.1 rfl i_D 2 (by decide) k_185 rfl d_D_fold_91 ?_
            refine lv_iload hx hb d_D_fold_94 (lv_at hl 0 rfl) ?_
            refine wd_ld E K hW hD.k2 i rfl (by omega) d_D_fold_96 ?_
            refine lv_goto (tgt := 101) hx hb d_D_fold_97 (by decide) ?_
            refine lv_isub hx hb d_D_fold_101 ?_
            refine lv_iload hx hb d_D_fold_102 (lv_at hl 1 rfl) ?_
            refine lv_iadd hx hb d_D_fold_104 ?_
            refine lv_topi (fun v ev => ?_)
            refine lv_istore (lv' := [(6, .int v), (5, .int (nI i)), (4, .int cv), (3, .int bg), (0, .ref o), (1, .ref t), (2, .ref wv)]) hx hb d_D_fold_105 hl (by decide) rfl (fun ls hl => ?_)
            refine lv_aload_n hx hb d_D_fold_107 rfl (lv_at hl 5 rfl) ?_
            refine lv_iload hx hb d_D_fold_108 (lv_at hl 1 rfl) ?_
            refine lv_iload hx hb d_D_fold_110 (lv_at hl 0 rfl) ?_
            refine lv_ldc hx hb hown (hts _ k_181) d_D_fold_112 ?_
            refine lv_iand hx hb d_D_fold_114 ?_
            refine lv_topi (fun z ez => ?_)
            refine wd_st E K hW ht i rfl (by omega) d_D_fold_115 (fun H locs hW => ?_)
            refine lv_iload hx hb d_D_fold_116 (lv_at hl 0 rfl) ?_
            refine lv_bipush (v := 16) hx hb d_D_fold_118 (by decide) ?_
            refine lv_ishr hx hb d_D_fold_120 ?_
            refine lv_topi (fun c2v ec2v => ?_)
            refine lv_istore (lv' := [(4, .int c2v), (6, .int v), (5, .int (nI i)), (3, .int bg), (0, .ref o), (1, .ref t), (2, .ref wv)]) hx hb d_D_fold_121 hl (by decide) rfl (fun ls hl => ?_)
            refine lv_iinc (v := (nI (i + 1))) (lv' := [(5, .int (nI (i + 1))), (4, .int c2v), (6, .int v), (3, .int bg), (0, .ref o), (1, .ref t), (2, .ref wv)]) hx hb d_D_fold_123 hl (k := 2) rfl (nI_1 _) (by decide) rfl (fun ls hl => ?_)
            refine lv_goto (tgt := 75) hx hb d_D_fold_126 (by decide) ?_
            rw [hk wv i (fun z => absurd z nt), hk (A 2) i (fun z => absurd z ntp)] at ev
            obtain ⟨s1, s2, s3⟩ := sub_dig (d6 i c2) (dp i c2) hc ev ez ec2v
            rw [if_neg c3] at hI
            refine ih (i + 1) _ H locs c2v ls (by omega) (by omega) (hk.st _) (hd.st s1) s3 ?_ hW (lv_sub hl [0, 1, 3, 4, 5, 6] rfl)
            rw [if_neg c3, vN_mst, vN_s, vN_s, Nat.pow_succ]
            exact num_isub hI s2
    refine lv_iconst (v := 0) hx hb d_D_fold_69 (by decide) ?_
    refine lv_istore (lv' := [(4, .int 0), (3, .int bg), (0, .ref o), (1, .ref t), (2, .ref wv)]) hx hb d_D_fold_70 hl (by decide) rfl (fun ls hl => ?_)
    refine lv_iconst (v := 0) hx hb d_D_fold_72 (by decide) ?_
    refine lv_istore (lv' := [(5, .int 0), (4, .int 0), (3, .int bg), (0, .ref o), (1, .ref t), (2, .ref wv)]) hx hb d_D_fold_73 hl (by decide) rfl (fun ls hl => ?_)
    exact loop 17 0 M H [] 0 ls (by omega) (by omega) kp.rf (fun j hj => absurd hj (by omega)) (by decide) (by simp [vN_0]) hW (lv_sub hl [0, 1, 2, 3, 4, 5] rfl)
  refine lv_aload_n hx hb d_D_fold_0 rfl (lv_at hl 2 rfl) ?_
  refine lv_bipush (v := 16) hx hb d_D_fold_1 (by decide) ?_
  refine wd_ld E K hW hw 16 (by decide) (by decide) d_D_fold_3 ?_
  refine lv_if_eq (tgt := 11) hx hb d_D_fold_4 (by decide) (fun c1 => ?_) (fun c1 => ?_)
  · have z16 : V17 (M wv) = vN 65536 (M wv) 16 := by rw [v7, c1, w4_0, Nat.zero_mul, Nat.add_zero]
    refine lv_iconst (v := 0) hx hb d_D_fold_11 (by decide) ?_
    refine lv_istore_n (lv' := [(3, .int 0), (0, .ref o), (1, .ref t), (2, .ref wv)]) hx hb d_D_fold_12 rfl hl (by decide) rfl (fun ls hl => ?_)
    refine lv_iload_n hx hb d_D_fold_13 rfl (lv_at hl 0 rfl) ?_
    refine lv_if_ne (tgt := 69) hx hb d_D_fold_14 (by decide) (fun c2 => ?_) (fun c2 => ?_)
    · exact absurd rfl c2
    · have cl : ∀ (k : Nat) (ls : Array Slot), k < 16 → (∀ j, k < j → j < 16 → M wv j = M (A 2) j) → lv_has ls 7 [(4, .int (nI k)), (3, .int 0), (0, .ref o), (1, .ref t), (2, .ref wv)] → W p l e (rmm 0 0) s m args below meth c H [] 0 0 Q (F0 m 21 ls []) := by
        intro k
        induction k with
        | zero =>
          intro ls hk he hl
          refine lv_iload hx hb d_D_fold_21 (lv_at hl 0 rfl) ?_
          refine lv_if_le (tgt := 49) hx hb d_D_fold_23 (by decide) (fun c1 => ?_) (fun c1 => ?_)
          · have hs : (0 : Nat) = 0 ∨ M wv 0 ≠ M (A 2) 0 := Or.inl rfl
            have hc := cmp_dig hk he hs d6 dp
            rw [vp] at hc
            refine lv_aload_n hx hb d_D_fold_49 rfl (lv_at hl 4 rfl) ?_
            refine lv_iload hx hb d_D_fold_50 (lv_at hl 0 rfl) ?_
            refine wd_ld E K hW hw 0 rfl (by omega) d_D_fold_52 ?_
            refine lv_aload_n hx hb d_D_fold_53 rfl (lv_at hl 2 rfl) ?_
            refine wd_get E K hW hD.1 rfl i_D 2 (by decide) k_185 rfl d_D_fold_54 ?_
            refine lv_iload hx hb d_D_fold_57 (lv_at hl 0 rfl) ?_
            refine wd_ld E K hW hD.k2 0 rfl (by omega) d_D_fold_59 ?_
            refine lv_icmp_lt (tgt := 67) hx hb d_D_fold_60 (by decide) (fun c5 => ?_) (fun c5 => ?_)
            · have hv : V17 (M wv) < PP := by rw [z16]; exact Nat.not_le.mp (fun z => Nat.not_lt.mpr (hc.mp z) ((lt_dig (d6 _ hk) (dp _ hk)).mp c5))
              refine lv_iconst (v := 0) hx hb d_D_fold_67 (by decide) ?_
              refine lv_istore_n (lv' := [(3, .int 0), (4, .int (nI 0)), (0, .ref o), (1, .ref t), (2, .ref wv)]) hx hb d_D_fold_68 rfl hl (by decide) rfl (fun ls hl => ?_)
              exact fin 0 ls (Or.inl ⟨rfl, hv⟩) (lv_sub hl [0, 2, 3, 4] rfl)
            · have hv : PP ≤ V17 (M wv) := by rw [z16]; exact hc.mpr (Nat.not_lt.mp (fun z => c5 ((lt_dig (d6 _ hk) (dp _ hk)).mpr z)))
              refine lv_iconst (v := 1) hx hb d_D_fold_63 (by decide) ?_
              refine lv_goto (tgt := 68) hx hb d_D_fold_64 (by decide) ?_
              refine lv_istore_n (lv' := [(3, .int 1), (4, .int (nI 0)), (0, .ref o), (1, .ref t), (2, .ref wv)]) hx hb d_D_fold_68 rfl hl (by decide) rfl (fun ls hl => ?_)
              exact fin 1 ls (Or.inr ⟨rfl, hv⟩) (lv_sub hl [0, 2, 3, 4] rfl)
          · exact absurd (by decide) c1
        | succ k ih =>
          intro ls hk he hl
          refine lv_iload hx hb d_D_fold_21 (lv_at hl 0 rfl) ?_
          refine lv_if_le (tgt := 49) hx hb d_D_fold_23 (by decide) (fun c1 => ?_) (fun c1 => ?_)
          · exact absurd c1 (nI_nle (by omega) (by omega))
          · refine lv_aload_n hx hb d_D_fold_26 rfl (lv_at hl 4 rfl) ?_
            refine lv_iload hx hb d_D_fold_27 (lv_at hl 0 rfl) ?_
            refine wd_ld E K hW hw (k + 1) rfl (by omega) d_D_fold_29 ?_
            refine lv_aload_n hx hb d_D_fold_30 rfl (lv_at hl 2 rfl) ?_
            refine wd_get E K hW hD.1 rfl i_D 2 (by decide) k_185 rfl d_D_fold_31 ?_
            refine lv_iload hx hb d_D_fold_34 (lv_at hl 0 rfl) ?_
            refine wd_ld E K hW hD.k2 (k + 1) rfl (by omega) d_D_fold_36 ?_
            refine lv_icmp_ne (tgt := 49) hx hb d_D_fold_37 (by decide) (fun c2 => ?_) (fun c2 => ?_)
            · have hs : k + 1 = 0 ∨ M wv (k + 1) ≠ M (A 2) (k + 1) := Or.inr c2
              have hc := cmp_dig hk he hs d6 dp
              rw [vp] at hc
              refine lv_aload_n hx hb d_D_fold_49 rfl (lv_at hl 4 rfl) ?_
              refine lv_iload hx hb d_D_fold_50 (lv_at hl 0 rfl) ?_
              refine wd_ld E K hW hw (k + 1) rfl (by omega) d_D_fold_52 ?_
              refine lv_aload_n hx hb d_D_fold_53 rfl (lv_at hl 2 rfl) ?_
              refine wd_get E K hW hD.1 rfl i_D 2 (by decide) k_185 rfl d_D_fold_54 ?_
              refine lv_iload hx hb d_D_fold_57 (lv_at hl 0 rfl) ?_
              refine wd_ld E K hW hD.k2 (k + 1) rfl (by omega) d_D_fold_59 ?_
              refine lv_icmp_lt (tgt := 67) hx hb d_D_fold_60 (by decide) (fun c5 => ?_) (fun c5 => ?_)
              · have hv : V17 (M wv) < PP := by rw [z16]; exact Nat.not_le.mp (fun z => Nat.not_lt.mpr (hc.mp z) ((lt_dig (d6 _ hk) (dp _ hk)).mp c5))
                refine lv_iconst (v := 0) hx hb d_D_fold_67 (by decide) ?_
                refine lv_istore_n (lv' := [(3, .int 0), (4, .int (nI (k + 1))), (0, .ref o), (1, .ref t), (2, .ref wv)]) hx hb d_D_fold_68 rfl hl (by decide) rfl (fun ls hl => ?_)
                exact fin 0 ls (Or.inl ⟨rfl, hv⟩) (lv_sub hl [0, 2, 3, 4] rfl)
              · have hv : PP ≤ V17 (M wv) := by rw [z16]; exact hc.mpr (Nat.not_lt.mp (fun z => c5 ((lt_dig (d6 _ hk) (dp _ hk)).mpr z)))
                refine lv_iconst (v := 1) hx hb d_D_fold_63 (by decide) ?_
                refine lv_goto (tgt := 68) hx hb d_D_fold_64 (by decide) ?_
                refine lv_istore_n (lv' := [(3, .int 1), (4, .int (nI (k + 1))), (0, .ref o), (1, .ref t), (2, .ref wv)]) hx hb d_D_fold_68 rfl hl (by decide) rfl (fun ls hl => ?_)
                exact fin 1 ls (Or.inr ⟨rfl, hv⟩) (lv_sub hl [0, 2, 3, 4] rfl)
            · refine lv_iload hx hb d_D_fold_40 (lv_at hl 0 rfl) ?_
              refine lv_iconst (v := 1) hx hb d_D_fold_42 (by decide) ?_
              refine lv_isub hx hb d_D_fold_43 ?_
              refine W.eq (g2 := F0 m 44 ls [.int (nI k)]) (congrArg (fun z => F0 m 44 ls [.int z]) (nI_pred k)) ?_
              refine lv_istore (lv' := [(4, .int (nI k)), (3, .int 0), (0, .ref o), (1, .ref t), (2, .ref wv)]) hx hb d_D_fold_44 hl (by decide) rfl (fun ls hl => ?_)
              refine lv_goto (tgt := 21) hx hb d_D_fold_46 (by decide) ?_
              exact ih ls (by omega) (fun j h1 h2 => by
                by_cases hj : j = k + 1
                · rw [hj]; exact c2
                · exact he j (by omega) h2) (lv_sub hl [0, 1, 2, 3, 4] rfl)
      refine lv_bipush (v := 15) hx hb d_D_fold_17 (by decide) ?_
      refine lv_istore (lv' := [(4, .int 15), (3, .int 0), (0, .ref o), (1, .ref t), (2, .ref wv)]) hx hb d_D_fold_19 hl (by decide) rfl (fun ls hl => ?_)
      exact cl 15 ls (by omega) (fun j h1 h2 => absurd h2 (by omega)) (lv_sub hl [0, 1, 2, 3, 4] rfl)
  · have hv : PP ≤ V17 (M wv) := by rw [v7]; exact fold_big (fun z => c1 (w4_inj (by rw [z, w4_0])))
    refine lv_iconst (v := 1) hx hb d_D_fold_7 (by decide) ?_
    refine lv_goto (tgt := 12) hx hb d_D_fold_8 (by decide) ?_
    refine lv_istore_n (lv' := [(3, .int 1), (0, .ref o), (1, .ref t), (2, .ref wv)]) hx hb d_D_fold_12 rfl hl (by decide) rfl (fun ls hl => ?_)
    refine lv_iload_n hx hb d_D_fold_13 rfl (lv_at hl 0 rfl) ?_
    refine lv_if_ne (tgt := 69) hx hb d_D_fold_14 (by decide) (fun c2 => ?_) (fun c2 => ?_)
    · exact fin 1 ls (Or.inr ⟨rfl, hv⟩) (lv_sub hl [0, 1, 2, 3] rfl)
    · exact absurd c2 (by decide)
set_option maxHeartbeats 4000000 in
set_option maxRecDepth 100000 in
/-- Model.plus(t, a, b) -/
theorem c_D_plus (l : Launch) (g : wg) (o : Nat) (A : Nat → Nat) (t a b : Nat) (M : Mm) (hD : Dv g o A) (hC : Dc M A) (ht : aok g t 16) (ha : aok g a 16) (hb2 : aok g b 16) (nt4 : A 4 ≠ t) (nt2 : A 2 ≠ t) (na : a ≠ A 4) (nb : b ≠ A 4) (da : dg (M a) 16) (db : dg (M b) 16) (hA : V16 (M a) < PP) (hB : V16 (M b) < PP) : Ct l y_D_plus b_D_plus 7 none 1 26 g [.ref o, .ref t, .ref a, .ref b] M (fun r M' => r = none ∧ (∀ q, q ≠ t → q ≠ A 4 → M' q = M q) ∧ dg (M' t) 16 ∧ V16 (M' t) = (V16 (M a) + V16 (M b)) % PP) := by
  refine Ct.of rfl (Nat.le_of_ble_eq_true rfl) (fun p e s m args below meth c H ls Q E K hQ hW hl => ?_)
  have hx := E.1
  have hb := E.2.1
  have hown := E.2.2.2.2.1
  have hts := E.2.2.2.2.2.1
  have hl : lv_has ls 7 [(0, .ref o), (1, .ref t), (2, .ref a), (3, .ref b)] := hl
  have loop : ∀ (d i : Nat) (M1 : Mm) (H : Heap) (locs : List Loc) (cv : Int32) (ls : Array Slot), i ≤ 16 → 16 + 1 ≤ i + d → kp M M1 (A 4) i → dg (M1 (A 4)) i → (0 ≤ cv.toInt ∧ cv.toInt ≤ 1) → ((vN 65536 (M1 (A 4)) i : Nat) : Int) + cv.toInt * ((65536 ^ i : Nat) : Int) = ((vN 65536 (M a) i : Nat) : Int) + ((vN 65536 (M b) i : Nat) : Int) → wd g H locs M1 → lv_has ls 7 [(5, .int (nI i)), (4, .int cv), (0, .ref o), (1, .ref t), (2, .ref a), (3, .ref b)] → W p l e (rmm 1 26) s m args below meth c H locs 0 0 Q (F0 m 6 ls []) := by
    intro d
    induction d with
    | zero => intro i M1 H locs cv ls h1 h2; exact absurd h2 (by omega)
    | succ d ih =>
      intro i M1 H locs cv ls h1 h2 hk hd hc hI hW hl
      refine lv_iload hx hb d_D_plus_6 (lv_at hl 0 rfl) ?_
      refine lv_bipush (v := 16) hx hb d_D_plus_8 (by decide) ?_
      refine lv_icmp_ge (tgt := 52) hx hb d_D_plus_10 (by decide) (fun c1 => ?_) (fun c1 => ?_)
      · have c2 := (nI_leI (a := 16) (b := i) (by decide) (by omega)).mp c1
        obtain rfl : i = 16 := by omega
        obtain ⟨t1, t2⟩ := plus_top hI hc
        refine lv_aload_n hx hb d_D_plus_52 rfl (lv_at hl 2 rfl) ?_
        refine wd_get E K hW hD.1 rfl i_D 4 (by decide) k_187 rfl d_D_plus_53 ?_
        refine lv_bipush (v := 16) hx hb d_D_plus_56 (by decide) ?_
        refine lv_iload hx hb d_D_plus_58 (lv_at hl 1 rfl) ?_
        refine wd_st E K hW hD.k4 16 (by decide) (by decide) d_D_plus_60 (fun H locs hW => ?_)
        have e17 : V17 (mst M1 (A 4) 16 cv (A 4)) = V16 (M a) + V16 (M b) := by rw [V17, vN_mst]; exact t2
        have o2 : ∀ q, q ≠ A 4 → mst M1 (A 4) 16 cv q = M q := fun q h => by rw [mst_out h, hk.out h]
        refine lv_aload_n hx hb d_D_plus_61 rfl (lv_at hl 2 rfl) ?_
        refine lv_aload_n hx hb d_D_plus_62 rfl (lv_at hl 3 rfl) ?_
        refine lv_aload_n hx hb d_D_plus_63 rfl (lv_at hl 2 rfl) ?_
        refine wd_get E K hW hD.1 rfl i_D 4 (by decide) k_187 rfl d_D_plus_64 ?_
        refine ct_V E K hW hl.1 hD.1 rfl (c_D_fold l g o A t (A 4) (mst M1 (A 4) 16 cv) hD (fun j hj => by rw [o2 _ (hD.ne 2 4)]; exact hC j hj) ht hD.k4 nt4 nt2 (hd.st t1) (by rw [e17]; exact sum_lt2 hA hB)) k_231 k_3 k_228 k_230 k_1002 2 (by decide +kernel) rfl (by decide) rfl (Nat.le_of_ble_eq_true rfl) ⟨Nat.zero_le _, Nat.zero_le _⟩ d_D_plus_67 (fun r M2 H locs hq hW => ?_)
        obtain ⟨rfl, k2, d2, e2⟩ := hq
        refine W.eq (g2 := F0 m 70 ls []) rfl ?_
        rw [e17] at e2
        exact ct_v E hQ hW d_D_plus_70 ⟨rfl, fun q h1 h2 => by rw [k2.out h1, o2 q h2], d2, e2⟩
      · have c2 : i < 16 := Nat.not_le.mp (fun z => c1 ((nI_leI (a := 16) (b := i) (by decide) (by omega)).mpr z))
        refine lv_aload_n hx hb d_D_plus_13 rfl (lv_at hl 4 rfl) ?_
        refine lv_iload hx hb d_D_plus_14 (lv_at hl 0 rfl) ?_
        refine wd_ld E K hW ha i rfl (by omega) d_D_plus_16 ?_
        refine lv_aload_n hx hb d_D_plus_17 rfl (lv_at hl 5 rfl) ?_
        refine lv_iload hx hb d_D_plus_18 (lv_at hl 0 rfl) ?_
        refine wd_ld E K hW hb2 i rfl (by omega) d_D_plus_20 ?_
        refine lv_iadd hx hb d_D_plus_21 ?_
        refine lv_iload hx hb d_D_plus_22 (lv_at hl 1 rfl) ?_
        refine lv_iadd hx hb d_D_plus_24 ?_
        refine lv_topi (fun v ev => ?_)
        refine lv_istore (lv' := [(6, .int v), (5, .int (nI i)), (4, .int cv), (0, .ref o), (1, .ref t), (2, .ref a), (3, .ref b)]) hx hb d_D_plus_25 hl (by decide) rfl (fun ls hl => ?_)
        refine lv_aload_n hx hb d_D_plus_27 rfl (lv_at hl 3 rfl) ?_
        refine wd_get E K hW hD.1 rfl i_D 4 (by decide) k_187 rfl d_D_plus_28 ?_
        refine lv_iload hx hb d_D_plus_31 (lv_at hl 1 rfl) ?_
        refine lv_iload hx hb d_D_plus_33 (lv_at hl 0 rfl) ?_
        refine lv_ldc hx hb hown (hts _ k_181) d_D_plus_35 ?_
        refine lv_iand hx hb d_D_plus_37 ?_
        refine lv_topi (fun z ez => ?_)
        refine wd_st E K hW hD.k4 i rfl (by omega) d_D_plus_38 (fun H locs hW => ?_)
        refine lv_iload hx hb d_D_plus_39 (lv_at hl 0 rfl) ?_
        refine lv_bipush (v := 16) hx hb d_D_plus_41 (by decide) ?_
        refine lv_ishr hx hb d_D_plus_43 ?_
        refine lv_topi (fun c2v ec2v => ?_)
        refine lv_istore (lv' := [(4, .int c2v), (6, .int v), (5, .int (nI i)), (0, .ref o), (1, .ref t), (2, .ref a), (3, .ref b)]) hx hb d_D_plus_44 hl (by decide) rfl (fun ls hl => ?_)
        refine lv_iinc (v := (nI (i + 1))) (lv' := [(5, .int (nI (i + 1))), (4, .int c2v), (6, .int v), (0, .ref o), (1, .ref t), (2, .ref a), (3, .ref b)]) hx hb d_D_plus_46 hl (k := 2) rfl (nI_1 _) (by decide) rfl (fun ls hl => ?_)
        refine lv_goto (tgt := 6) hx hb d_D_plus_49 (by decide) ?_
        rw [hk a i (fun z => absurd z na), hk b i (fun z => absurd z nb)] at ev
        obtain ⟨s1, s2, s3⟩ := add_dig (da i c2) (db i c2) hc ev ez ec2v
        refine ih (i + 1) _ H locs c2v ls (by omega) (by omega) (hk.st _) (hd.st s1) s3 ?_ hW (lv_sub hl [0, 1, 3, 4, 5, 6] rfl)
        rw [vN_mst, vN_s, vN_s, Nat.pow_succ]
        exact num_iadd hI s2
  refine lv_iconst (v := 0) hx hb d_D_plus_0 (by decide) ?_
  refine lv_istore (lv' := [(4, .int 0), (0, .ref o), (1, .ref t), (2, .ref a), (3, .ref b)]) hx hb d_D_plus_1 hl (by decide) rfl (fun ls hl => ?_)
  refine lv_iconst (v := 0) hx hb d_D_plus_3 (by decide) ?_
  refine lv_istore (lv' := [(5, .int 0), (4, .int 0), (0, .ref o), (1, .ref t), (2, .ref a), (3, .ref b)]) hx hb d_D_plus_4 hl (by decide) rfl (fun ls hl => ?_)
  exact loop 17 0 M H [] 0 ls (by omega) (by omega) kp.rf (fun j hj => absurd hj (by omega)) (by decide) (by simp [vN_0]) hW (lv_sub hl [0, 1, 2, 3, 4, 5] rfl)
set_option maxHeartbeats 4000000 in
set_option maxRecDepth 100000 in
/-- Model.minus(t, a) -/
theorem c_D_minus (l : Launch) (g : wg) (o : Nat) (A : Nat → Nat) (t a : Nat) (M : Mm) (hD : Dv g o A) (hC : Dc M A) (ht : aok g t 16) (ha : aok g a 16) (nt2 : A 2 ≠ t) (da : dg (M a) 16) (hA : V16 (M a) < PP) : Ct l y_D_minus b_D_minus 6 none 1 23 g [.ref o, .ref t, .ref a] M (fun r M' => r = none ∧ kp M M' t 16 ∧ dg (M' t) 16 ∧ V16 (M' t) = (PP - V16 (M a)) % PP) := by
  refine Ct.of rfl (Nat.le_of_ble_eq_true rfl) (fun p e s m args below meth c H ls Q E K hQ hW hl => ?_)
  have hx := E.1
  have hb := E.2.1
  have hown := E.2.2.2.2.1
  have hts := E.2.2.2.2.2.1
  have hl : lv_has ls 6 [(0, .ref o), (1, .ref t), (2, .ref a)] := hl
  have dp := qW_dg hC
  have vp : vN 65536 (M (A 2)) 16 = PP := V16_qW hC
  refine lv_aload_n hx hb d_D_minus_0 rfl (lv_at hl 0 rfl) ?_
  refine lv_aload_n hx hb d_D_minus_1 rfl (lv_at hl 2 rfl) ?_
  refine ct_V E K hW hl.1 hD.1 rfl (c_D_isZero l g o A a M ha) k_263 k_3 k_260 k_262 k_1007 1 (by decide +kernel) rfl (by decide) rfl (Nat.le_of_ble_eq_true rfl) ⟨Nat.zero_le _, Nat.zero_le _⟩ d_D_minus_2 (fun r M1 H locs hq hW => ?_)
  obtain ⟨rfl, hM⟩ := hq
  rw [hM] at hW
  refine W.eq (g2 := F0 m 5 ls [.int (if V16 (M a) = 0 then 1 else 0)]) rfl ?_
  refine lv_if_eq (tgt := 29) hx hb d_D_minus_5 (by decide) (fun c0 => ?_) (fun c0 => ?_)
  · have hn : ¬ V16 (M a) = 0 := fun z => by rw [if_pos z] at c0; exact absurd c0 (by decide)
    have loop : ∀ (d i : Nat) (M1 : Mm) (H : Heap) (locs : List Loc) (cv : Int32) (ls : Array Slot), i ≤ 16 → 16 + 1 ≤ i + d → kp M M1 t i → dg (M1 t) i → (-1 ≤ cv.toInt ∧ cv.toInt ≤ 0) → ((vN 65536 (M1 t) i : Nat) : Int) + cv.toInt * ((65536 ^ i : Nat) : Int) = ((vN 65536 (M (A 2)) i : Nat) : Int) - ((vN 65536 (M a) i : Nat) : Int) → wd g H locs M1 → lv_has ls 6 [(4, .int (nI i)), (3, .int cv), (0, .ref o), (1, .ref t), (2, .ref a)] → W p l e (rmm 1 23) s m args below meth c H locs 0 0 Q (F0 m 34 ls []) := by
      intro d
      induction d with
      | zero => intro i M1 H locs cv ls h1 h2; exact absurd h2 (by omega)
      | succ d ih =>
        intro i M1 H locs cv ls h1 h2 hk hd hc hI hW hl
        refine lv_iload hx hb d_D_minus_34 (lv_at hl 0 rfl) ?_
        refine lv_bipush (v := 16) hx hb d_D_minus_36 (by decide) ?_
        refine lv_icmp_ge (tgt := 78) hx hb d_D_minus_38 (by decide) (fun c1 => ?_) (fun c1 => ?_)
        · have c2 := (nI_leI (a := 16) (b := i) (by decide) (by omega)).mp c1
          obtain rfl : i = 16 := by omega
          rw [vp] at hI
          exact ct_v E hQ hW d_D_minus_78 ⟨rfl, hk, hd, minus_fin hI (V16_lt hd) (by decide) hA hn hc⟩
        · have c2 : i < 16 := Nat.not_le.mp (fun z => c1 ((nI_leI (a := 16) (b := i) (by decide) (by omega)).mpr z))
          refine lv_aload_n hx hb d_D_minus_41 rfl (lv_at hl 2 rfl) ?_
          refine wd_get E K hW hD.1 rfl i_D 2 (by decide) k_185 rfl d_D_minus_42 ?_
          refine lv_iload hx hb d_D_minus_45 (lv_at hl 0 rfl) ?_
          refine wd_ld E K hW hD.k2 i rfl (by omega) d_D_minus_47 ?_
          refine lv_aload_n hx hb d_D_minus_48 rfl (lv_at hl 4 rfl) ?_
          refine lv_iload hx hb d_D_minus_49 (lv_at hl 0 rfl) ?_
          refine wd_ld E K hW ha i rfl (by omega) d_D_minus_51 ?_
          refine lv_isub hx hb d_D_minus_52 ?_
          refine lv_iload_n hx hb d_D_minus_53 rfl (lv_at hl 1 rfl) ?_
          refine lv_iadd hx hb d_D_minus_54 ?_
          refine lv_topi (fun v ev => ?_)
          refine lv_istore (lv' := [(5, .int v), (4, .int (nI i)), (3, .int cv), (0, .ref o), (1, .ref t), (2, .ref a)]) hx hb d_D_minus_55 hl (by decide) rfl (fun ls hl => ?_)
          refine lv_aload_n hx hb d_D_minus_57 rfl (lv_at hl 4 rfl) ?_
          refine lv_iload hx hb d_D_minus_58 (lv_at hl 1 rfl) ?_
          refine lv_iload hx hb d_D_minus_60 (lv_at hl 0 rfl) ?_
          refine lv_ldc hx hb hown (hts _ k_181) d_D_minus_62 ?_
          refine lv_iand hx hb d_D_minus_64 ?_
          refine lv_topi (fun z ez => ?_)
          refine wd_st E K hW ht i rfl (by omega) d_D_minus_65 (fun H locs hW => ?_)
          refine lv_iload hx hb d_D_minus_66 (lv_at hl 0 rfl) ?_
          refine lv_bipush (v := 16) hx hb d_D_minus_68 (by decide) ?_
          refine lv_ishr hx hb d_D_minus_70 ?_
          refine lv_topi (fun c2v ec2v => ?_)
          refine lv_istore_n (lv' := [(3, .int c2v), (5, .int v), (4, .int (nI i)), (0, .ref o), (1, .ref t), (2, .ref a)]) hx hb d_D_minus_71 rfl hl (by decide) rfl (fun ls hl => ?_)
          refine lv_iinc (v := (nI (i + 1))) (lv' := [(4, .int (nI (i + 1))), (3, .int c2v), (5, .int v), (0, .ref o), (1, .ref t), (2, .ref a)]) hx hb d_D_minus_72 hl (k := 2) rfl (nI_1 _) (by decide) rfl (fun ls hl => ?_)
          refine lv_goto (tgt := 34) hx hb d_D_minus_75 (by decide) ?_
          rw [hk a i (fun _ => Nat.le_refl _), hk (A 2) i (fun z => absurd z nt2)] at ev
          obtain ⟨s1, s2, s3⟩ := sub_dig (dp i c2) (da i c2) hc ev ez ec2v
          refine ih (i + 1) _ H locs c2v ls (by omega) (by omega) (hk.st _) (hd.st s1) s3 ?_ hW (lv_sub hl [0, 1, 3, 4, 5] rfl)
          rw [vN_mst, vN_s, vN_s, Nat.pow_succ]
          exact num_isub hI s2
    refine lv_iconst (v := 0) hx hb d_D_minus_29 (by decide) ?_
    refine lv_istore_n (lv' := [(3, .int 0), (0, .ref o), (1, .ref t), (2, .ref a)]) hx hb d_D_minus_30 rfl hl (by decide) rfl (fun ls hl => ?_)
    refine lv_iconst (v := 0) hx hb d_D_minus_31 (by decide) ?_
    refine lv_istore (lv' := [(4, .int 0), (3, .int 0), (0, .ref o), (1, .ref t), (2, .ref a)]) hx hb d_D_minus_32 hl (by decide) rfl (fun ls hl => ?_)
    exact loop 17 0 M H locs 0 ls (by omega) (by omega) kp.rf (fun j hj => absurd hj (by omega)) (by decide) (by simp [vN_0]) hW (lv_sub hl [0, 1, 2, 3, 4] rfl)
  · have hz : V16 (M a) = 0 := Decidable.byContradiction (fun z => c0 (if_neg z))
    have loop : ∀ (d i : Nat) (M1 : Mm) (H : Heap) (locs : List Loc) (ls : Array Slot), i ≤ 16 → 16 + 1 ≤ i + d → kp M M1 t i → (∀ j, j < i → M1 t j = 0) → wd g H locs M1 → lv_has ls 6 [(3, .int (nI i)), (0, .ref o), (1, .ref t), (2, .ref a)] → W p l e (rmm 1 23) s m args below meth c H locs 0 0 Q (F0 m 10 ls []) := by
      intro d
      induction d with
      | zero => intro i M1 H locs ls h1 h2; exact absurd h2 (by omega)
      | succ d ih =>
        intro i M1 H locs ls h1 h2 hk hI hW hl
        refine lv_iload_n hx hb d_D_minus_10 rfl (lv_at hl 0 rfl) ?_
        refine lv_bipush (v := 16) hx hb d_D_minus_11 (by decide) ?_
        refine lv_icmp_ge (tgt := 26) hx hb d_D_minus_13 (by decide) (fun c1 => ?_) (fun c1 => ?_)
        · have c2 := (nI_leI (a := 16) (b := i) (by decide) (by omega)).mp c1
          obtain rfl : i = 16 := by omega
          refine lv_goto (tgt := 78) hx hb d_D_minus_26 (by decide) ?_
          have v0 := vN_all0 (B := 65536) (by decide) hI
          exact ct_v E hQ hW d_D_minus_78 ⟨rfl, hk, fun j hj => by rw [hI j hj]; decide, by rw [hz, V16, v0]; decide⟩
        · have c2 : i < 16 := Nat.not_le.mp (fun z => c1 ((nI_leI (a := 16) (b := i) (by decide) (by omega)).mpr z))
          refine lv_aload_n hx hb d_D_minus_16 rfl (lv_at hl 2 rfl) ?_
          refine lv_iload_n hx hb d_D_minus_17 rfl (lv_at hl 0 rfl) ?_
          refine lv_iconst (v := 0) hx hb d_D_minus_18 (by decide) ?_
          refine wd_st E K hW ht i rfl (by omega) d_D_minus_19 (fun H locs hW => ?_)
          refine lv_iinc (v := (nI (i + 1))) (lv' := [(3, .int (nI (i + 1))), (0, .ref o), (1, .ref t), (2, .ref a)]) hx hb d_D_minus_20 hl (k := 0) rfl (nI_1 _) (by decide) rfl (fun ls hl => ?_)
          refine lv_goto (tgt := 10) hx hb d_D_minus_23 (by decide) ?_
          refine ih (i + 1) _ H locs ls (by omega) (by omega) (hk.st _) (fun j hj => ?_) hW hl
          by_cases hji : j = i
          · subst hji; rw [mst_at]
          · rw [mst_ne (fun _ => hji)]; exact hI j (by omega)
    refine lv_iconst (v := 0) hx hb d_D_minus_8 (by decide) ?_
    refine lv_istore_n (lv' := [(3, .int 0), (0, .ref o), (1, .ref t), (2, .ref a)]) hx hb d_D_minus_9 rfl hl (by decide) rfl (fun ls hl => ?_)
    exact loop 17 0 M H locs ls (by omega) (by omega) kp.rf (fun j hj => absurd hj (by omega)) hW hl
set_option maxHeartbeats 4000000 in
set_option maxRecDepth 100000 in
/-- Model.times(a, b) -/
theorem c_D_times (l : Launch) (g : wg) (o : Nat) (A : Nat → Nat) (a b : Nat) (M : Mm) (hD : Dv g o A) (hC : Dc M A) (ha : aok g a 16) (hb2 : aok g b 16) (na4 : a ≠ A 4) (na7 : a ≠ A 7) (nb4 : b ≠ A 4) (nb7 : b ≠ A 7) (da : dg (M a) 16) (db : dg (M b) 16) (hA : V16 (M a) < PP) : Ct l y_D_times b_D_times 4 none 2 52 g [.ref o, .ref a, .ref b] M (fun r M' => r = none ∧ (∀ q, q ≠ A 7 → q ≠ A 4 → M' q = M q) ∧ dg (M' (A 7)) 16 ∧ V16 (M' (A 7)) = V16 (M b) * V16 (M a) % PP) := by
  refine Ct.of rfl (Nat.le_of_ble_eq_true rfl) (fun p e s m args below meth c H ls Q E K hQ hW hl => ?_)
  have hx := E.1
  have hb := E.2.1
  have hown := E.2.2.2.2.1
  have hts := E.2.2.2.2.2.1
  have hl : lv_has ls 4 [(0, .ref o), (1, .ref a), (2, .ref b)] := hl
  have loop : ∀ (k : Nat) (v : Int32) (M1 : Mm) (H : Heap) (locs : List Loc) (ls : Array Slot), v = nI k + (-1) → k ≤ 256 → (∀ q, q ≠ A 7 → q ≠ A 4 → M1 q = M q) → dg (M1 (A 7)) 16 → V16 (M1 (A 7)) = V16 (M b) / 2 ^ k * V16 (M a) % PP → wd g H locs M1 → lv_has ls 4 [(3, .int v), (0, .ref o), (1, .ref a), (2, .ref b)] → W p l e (rmm 2 52) s m args below meth c H locs 0 0 Q (F0 m 25 ls []) := by
    intro k
    induction k with
    | zero =>
      intro v M1 H locs ls hvv h1 fq hd hv hW hl
      subst hvv
      refine lv_iload_n hx hb d_D_times_25 rfl (lv_at hl 0 rfl) ?_
      refine lv_if_lt (tgt := 79) hx hb d_D_times_26 (by decide) (fun c1 => ?_) (fun c1 => ?_)
      · rw [Nat.pow_zero, Nat.div_one] at hv
        exact ct_v E hQ hW d_D_times_79 ⟨rfl, fq, hd, hv⟩
      · exact absurd (by decide) c1
    | succ k ih =>
      intro v M1 H locs ls hvv h1 fq hd hv hW hl
      rw [pk_m1] at hvv
      subst hvv
      refine lv_iload_n hx hb d_D_times_25 rfl (lv_at hl 0 rfl) ?_
      refine lv_if_lt (tgt := 79) hx hb d_D_times_26 (by decide) (fun c1 => ?_) (fun c1 => ?_)
      · exact absurd c1 (nI_pos (by omega))
      · have C1 : Dc M1 A := fun j hj => by rw [fq _ (hD.ne 2 7) (hD.ne 2 4)]; exact hC j hj
        have zl : V16 (M1 (A 7)) < PP := by rw [hv]; exact Nat.mod_lt _ (by decide)
        refine lv_aload_n hx hb d_D_times_29 rfl (lv_at hl 1 rfl) ?_
        refine lv_aload_n hx hb d_D_times_30 rfl (lv_at hl 1 rfl) ?_
        refine wd_get E K hW hD.1 rfl i_D 7 (by decide) k_190 rfl d_D_times_31 ?_
        refine lv_aload_n hx hb d_D_times_34 rfl (lv_at hl 1 rfl) ?_
        refine wd_get E K hW hD.1 rfl i_D 7 (by decide) k_190 rfl d_D_times_35 ?_
        refine lv_aload_n hx hb d_D_times_38 rfl (lv_at hl 1 rfl) ?_
        refine wd_get E K hW hD.1 rfl i_D 7 (by decide) k_190 rfl d_D_times_39 ?_
        refine ct_V E K hW hl.1 hD.1 rfl (c_D_plus l g o A (A 7) (A 7) (A 7) M1 hD C1 hD.k7 hD.k7 hD.k7 (hD.ne 4 7) (hD.ne 2 7) (hD.ne 7 4) (hD.ne 7 4) hd hd zl zl) k_251 k_3 k_248 k_250 k_1005 3 (by decide +kernel) rfl (by decide) rfl (Nat.le_of_ble_eq_true rfl) ⟨Nat.zero_le _, Nat.zero_le _⟩ d_D_times_42 (fun r M2 H locs hq hW => ?_)
        obtain ⟨rfl, f2, d2, e2⟩ := hq
        refine W.eq (g2 := F0 m 45 ls []) rfl ?_
        have q2 : ∀ q, q ≠ A 7 → q ≠ A 4 → M2 q = M q := fun q h1 h2 => (f2 q h1 h2).trans (fq q h1 h2)
        rw [dbl_mod hv] at e2
        have hh := half_pow (V16 (M b)) k
        have bd := bit_dig (V16 (M b)) k
        rw [vN_dig (B := 65536) (by decide) (k := k / 16) (n := 16) (by omega) db] at bd
        have tbit := times_bit (db (k / 16) (by omega)) k (by omega)
        rw [← bd] at tbit
        refine lv_aload_n hx hb d_D_times_45 rfl (lv_at hl 3 rfl) ?_
        refine lv_iload_n hx hb d_D_times_46 rfl (lv_at hl 0 rfl) ?_
        refine lv_iconst (v := 4) hx hb d_D_times_47 (by decide) ?_
        refine lv_ishr hx hb d_D_times_48 ?_
        refine wd_ld E K hW hb2 (k / 16) (pk_shrN (by omega) ((4 : Int32) &&& 31) 4 (by decide)) (by omega) d_D_times_49 ?_
        refine lv_iload_n hx hb d_D_times_50 rfl (lv_at hl 0 rfl) ?_
        refine lv_bipush (v := 15) hx hb d_D_times_51 (by decide) ?_
        refine lv_iand hx hb d_D_times_53 ?_
        refine lv_ishr hx hb d_D_times_54 ?_
        refine lv_iconst (v := 1) hx hb d_D_times_55 (by decide) ?_
        refine lv_iand hx hb d_D_times_56 ?_
        refine lv_if_eq (tgt := 73) hx hb d_D_times_57 (by decide) (fun c3 => ?_) (fun c3 => ?_)
        · rw [q2 b nb7 nb4] at c3
          rw [tbit.mp c3, Nat.add_zero] at hh
          rw [← hh] at e2
          refine lv_iinc (v := (nI k + (-1))) (lv' := [(3, .int (nI k + (-1))), (0, .ref o), (1, .ref a), (2, .ref b)]) hx hb d_D_times_73 hl (k := 0) rfl rfl (by decide) rfl (fun ls hl => ?_)
          refine lv_goto (tgt := 25) hx hb d_D_times_76 (by decide) ?_
          exact ih _ M2 H locs ls rfl (by omega) q2 d2 e2 hW (lv_sub hl [0, 1, 2, 3] rfl)
        · rw [q2 b nb7 nb4] at c3
          have b1 : V16 (M b) / 2 ^ k % 2 = 1 := bit1 (fun z => c3 (tbit.mpr z))
          rw [b1] at hh
          have C2 : Dc M2 A := fun j hj => by rw [q2 _ (hD.ne 2 7) (hD.ne 2 4)]; exact hC j hj
          have zl2 : V16 (M2 (A 7)) < PP := by rw [e2]; exact Nat.mod_lt _ (by decide)
          have a2 : M2 a = M a := q2 a na7 na4
          refine lv_aload_n hx hb d_D_times_60 rfl (lv_at hl 1 rfl) ?_
          refine lv_aload_n hx hb d_D_times_61 rfl (lv_at hl 1 rfl) ?_
          refine wd_get E K hW hD.1 rfl i_D 7 (by decide) k_190 rfl d_D_times_62 ?_
          refine lv_aload_n hx hb d_D_times_65 rfl (lv_at hl 1 rfl) ?_
          refine wd_get E K hW hD.1 rfl i_D 7 (by decide) k_190 rfl d_D_times_66 ?_
          refine lv_aload_n hx hb d_D_times_69 rfl (lv_at hl 2 rfl) ?_
          refine ct_V E K hW hl.1 hD.1 rfl (c_D_plus l g o A (A 7) (A 7) a M2 hD C2 hD.k7 hD.k7 ha (hD.ne 4 7) (hD.ne 2 7) (hD.ne 7 4) na4 d2 (by rw [a2]; exact da) zl2 (by rw [a2]; exact hA)) k_251 k_3 k_248 k_250 k_1005 3 (by decide +kernel) rfl (by decide) rfl (Nat.le_of_ble_eq_true rfl) ⟨Nat.zero_le _, Nat.zero_le _⟩ d_D_times_70 (fun r M3 H locs hq hW => ?_)
          obtain ⟨rfl, f3, d3, e3⟩ := hq
          refine W.eq (g2 := F0 m 73 ls []) rfl ?_
          rw [a2, inc_mod e2, ← hh] at e3
          refine lv_iinc (v := (nI k + (-1))) (lv' := [(3, .int (nI k + (-1))), (0, .ref o), (1, .ref a), (2, .ref b)]) hx hb d_D_times_73 hl (k := 0) rfl rfl (by decide) rfl (fun ls hl => ?_)
          refine lv_goto (tgt := 25) hx hb d_D_times_76 (by decide) ?_
          exact ih _ M3 H locs ls rfl (by omega) (fun q h1 h2 => (f3 q h1 h2).trans (q2 q h1 h2)) d3 e3 hW (lv_sub hl [0, 1, 2, 3] rfl)
  have loop0 : ∀ (d i : Nat) (M1 : Mm) (H : Heap) (locs : List Loc) (ls : Array Slot), i ≤ 16 → 16 + 1 ≤ i + d → kp M M1 (A 7) i → (∀ j, j < i → M1 (A 7) j = 0) → wd g H locs M1 → lv_has ls 4 [(3, .int (nI i)), (0, .ref o), (1, .ref a), (2, .ref b)] → W p l e (rmm 2 52) s m args below meth c H locs 0 0 Q (F0 m 2 ls []) := by
    intro d
    induction d with
    | zero => intro i M1 H locs ls h1 h2; exact absurd h2 (by omega)
    | succ d ih =>
      intro i M1 H locs ls h1 h2 hk hI hW hl
      refine lv_iload_n hx hb d_D_times_2 rfl (lv_at hl 0 rfl) ?_
      refine lv_bipush (v := 16) hx hb d_D_times_3 (by decide) ?_
      refine lv_icmp_ge (tgt := 21) hx hb d_D_times_5 (by decide) (fun c1 => ?_) (fun c1 => ?_)
      · have c2 := (nI_leI (a := 16) (b := i) (by decide) (by omega)).mp c1
        obtain rfl : i = 16 := by omega
        refine lv_sipush (v := 255) hx hb d_D_times_21 (by decide) ?_
        refine lv_istore_n (lv' := [(3, .int 255), (0, .ref o), (1, .ref a), (2, .ref b)]) hx hb d_D_times_24 rfl hl (by decide) rfl (fun ls hl => ?_)
        have v0 := vN_all0 (B := 65536) (by decide) hI
        exact loop 256 255 M1 H locs ls (by decide) (by omega) (fun q h1 _ => hk.out h1) (fun j hj => by rw [hI j hj]; decide) (by rw [V16, v0, Nat.div_eq_of_lt (V16_lt db), Nat.zero_mul]; rfl) hW (lv_sub hl [0, 1, 2, 3] rfl)
      · have c2 : i < 16 := Nat.not_le.mp (fun z => c1 ((nI_leI (a := 16) (b := i) (by decide) (by omega)).mpr z))
        refine lv_aload_n hx hb d_D_times_8 rfl (lv_at hl 1 rfl) ?_
        refine wd_get E K hW hD.1 rfl i_D 7 (by decide) k_190 rfl d_D_times_9 ?_
        refine lv_iload_n hx hb d_D_times_12 rfl (lv_at hl 0 rfl) ?_
        refine lv_iconst (v := 0) hx hb d_D_times_13 (by decide) ?_
        refine wd_st E K hW hD.k7 i rfl (by omega) d_D_times_14 (fun H locs hW => ?_)
        refine lv_iinc (v := (nI (i + 1))) (lv' := [(3, .int (nI (i + 1))), (0, .ref o), (1, .ref a), (2, .ref b)]) hx hb d_D_times_15 hl (k := 0) rfl (nI_1 _) (by decide) rfl (fun ls hl => ?_)
        refine lv_goto (tgt := 2) hx hb d_D_times_18 (by decide) ?_
        refine ih (i + 1) _ H locs ls (by omega) (by omega) (hk.st _) (fun j hj => ?_) hW hl
        by_cases hji : j = i
        · subst hji; rw [mst_at]
        · rw [mst_ne (fun _ => hji)]; exact hI j (by omega)
  refine lv_iconst (v := 0) hx hb d_D_times_0 (by decide) ?_
  refine lv_istore_n (lv' := [(3, .int 0), (0, .ref o), (1, .ref a), (2, .ref b)]) hx hb d_D_times_1 rfl hl (by decide) rfl (fun ls hl => ?_)
  exact loop0 17 0 M H [] ls (by omega) (by omega) kp.rf (fun j hj => absurd hj (by omega)) hW hl
end
section
/-! the reference's own state: four numbers X and the line's words Lw -/
def nv (f : Nat → Nat) : Nat → Nat
  | 0 => 0
  | n + 1 => nv f n + f n * 4294967296 ^ n
termination_by n => n
theorem nv_0 (f : Nat → Nat) : nv f 0 = 0 := by rw [nv]
theorem nv_s (f : Nat → Nat) (n : Nat) : nv f (n + 1) = nv f n + f n * 4294967296 ^ n := by rw [nv]
theorem nv_w {f : Nat → Int32} {h : Nat → Nat} : ∀ {n : Nat}, (∀ j, j < n → w4 (f j) = h j) → vN 4294967296 f n = nv h n
  | 0, _ => by rw [vN_0, nv_0]
  | n + 1, e => by rw [vN_s, nv_s, nv_w (fun j hj => e j (by omega)), e n (by omega)]
theorem nv_d {f : Nat → Int32} {h : Nat → Nat} : ∀ {n : Nat}, (∀ j, j < n → w4 (f (2 * j)) = h j % 65536 ∧ w4 (f (2 * j + 1)) = h j / 65536) → vN 65536 f (2 * n) = nv h n
  | 0, _ => by rw [vN_0, nv_0]
  | n + 1, e => by
    rw [show 2 * (n + 1) = 2 * n + 1 + 1 by omega, vN_s, vN_s, nv_s, nv_d (fun j hj => e j (by omega)), (e n (by omega)).1, (e n (by omega)).2]
    rw [show 65536 ^ (2 * n + 1) = 65536 ^ (2 * n) * 65536 from Nat.pow_succ _ _, Nat.pow_mul, show 65536 ^ 2 = 4294967296 from rfl]
    have h1 := Nat.mod_add_div (h n) 65536
    generalize 4294967296 ^ n = u
    have h2 : h n * u = (h n % 65536 + 65536 * (h n / 65536)) * u := by rw [h1]
    rw [h2]
    grind
def MI (M : Mm) (A : Nat → Nat) (X Lw : Nat → Nat) : Prop := Dc M A ∧ (∀ k, k < 4 → X k < PP ∧ dg (fun j => M (A 0) (k * 16 + j)) 16 ∧ vN 65536 (fun j => M (A 0) (k * 16 + j)) 16 = X k) ∧ (∀ j, j < 8 → Lw j < 4294967296) ∧ ∀ j, j < 8 → w4 (M (A 1) (2 * j)) = Lw j % 65536 ∧ w4 (M (A 1) (2 * j + 1)) = Lw j / 65536
theorem MI.kept {M M' : Mm} {A X Lw : Nat → Nat} (h : MI M A X Lw) (h0 : M' (A 0) = M (A 0)) (h1 : M' (A 1) = M (A 1)) (h2 : M' (A 2) = M (A 2)) : MI M' A X Lw := by
  unfold MI Dc
  rw [h0, h1, h2]
  exact h
theorem up_ne {X : Nat → Nat} {k j v : Nat} (h : j ≠ k) : va_up X k v j = X j := if_neg h
theorem r4 (v : Int32) : w4 v % 4 < 4 := Nat.mod_lt _ (by decide)
theorem MI.tk {M M1 : Mm} {A X Lw : Nat → Nat} {t : Nat} {rv : Int32} (h : MI M A X Lw) (c : ∀ j, j < 16 → M1 t j = M (A 0) (w4 rv % 4 * 16 + j)) : dg (M1 t) 16 ∧ V16 (M1 t) = X (w4 rv % 4) ∧ V16 (M1 t) < PP := by
  obtain ⟨h1, h2, h3⟩ := h.2.1 _ (r4 rv)
  have e : V16 (M1 t) = X (w4 rv % 4) := by rw [← h3]; exact vN_congr c
  exact ⟨dg.cg h2 c, e, by rw [e]; exact h1⟩
theorem MI.gv {M M1 : Mm} {A X Lw : Nat → Nat} {f v : Nat} {rv : Int32} (h : MI M A X Lw) (n1 : A 1 ≠ A 0) (n2 : A 2 ≠ A 0) (ho : ∀ q, q ≠ A 0 → M1 q = M q) (c : ∀ j, j < 16 → M1 (A 0) (w4 rv % 4 * 16 + j) = M f j) (c2 : ∀ j, (j < w4 rv % 4 * 16 ∨ w4 rv % 4 * 16 + 16 ≤ j) → M1 (A 0) j = M (A 0) j) (hd : dg (M f) 16) (hv : V16 (M f) = v) (hl : v < PP) : MI M1 A (va_up X (w4 rv % 4) v) Lw := by
  refine ⟨fun j hj => by rw [ho _ n2]; exact h.1 j hj, fun k hk => ?_, h.2.2.1, fun j hj => by rw [ho _ n1]; exact h.2.2.2 j hj⟩
  by_cases hkr : k = w4 rv % 4
  · subst hkr
    rw [va_up_self]
    exact ⟨hl, dg.cg hd c, by rw [← hv]; exact vN_congr c⟩
  · rw [up_ne hkr]
    obtain ⟨h1, h2, h3⟩ := h.2.1 k hk
    have e : ∀ j, j < 16 → M1 (A 0) (k * 16 + j) = M (A 0) (k * 16 + j) := fun j hj => c2 _ (by omega)
    exact ⟨h1, dg.cg h2 e, by rw [← h3]; exact vN_congr e⟩
def dfr (M M' : Mm) (A : Nat → Nat) : Prop := ∀ q, (∀ i, i < 12 → q ≠ A i) → M' q = M q
def sqn (v : Nat) : Nat → Nat
  | 0 => v
  | m + 1 => sqn v m * sqn v m % PP
theorem sqn_lt {v : Nat} (h : v < PP) : ∀ m, sqn v m < PP
  | 0 => h
  | _ + 1 => Nat.mod_lt _ (by decide)
theorem sub_mod2 {a b P : Nat} : (a + (P - b) % P) % P = (a + (P - b)) % P := by rw [Nat.add_mod_mod]
theorem TT_ON (a w : Nat) : (a + w * TT % PP) % PP = (a + w * ON) % PP := by
  rw [Nat.add_mod_mod]
  have e : TT = ON + 1 * PP := by decide
  rw [e, Nat.mul_add, ← Nat.mul_assoc, ← Nat.add_assoc, Nat.add_mul_mod_self_right]
theorem word_dig {X k : Nat} {f : Nat → Int32} {v : Int32} (hd : dg f 16) (hX : vN 65536 f 16 = X) (hk : k < 8) (e : v = f (2 * k) ||| (f (2 * k + 1) <<< ((16 : Int32) &&& 31))) : w4 v = X / 4294967296 ^ k % 4294967296 := by
  have h0 := hd (2 * k) (by omega)
  have h1 := hd (2 * k + 1) (by omega)
  have e2 : w4 (f (2 * k + 1) <<< ((16 : Int32) &&& 31)) = w4 (f (2 * k + 1)) * 2 ^ 16 % 2 ^ 32 := pk_shl _ ((16 : Int32) &&& 31) 16 (by decide)
  have e3 : w4 v = w4 (f (2 * k)) + w4 (f (2 * k + 1)) * 65536 := by
    rw [e]
    unfold w4 at *
    rw [Int32.toBitVec_or, BitVec.toNat_or, e2, Nat.or_comm]
    have h := Nat.two_pow_add_eq_or_of_lt (i := 16) (b := (f (2 * k)).toBitVec.toNat) (by omega) ((f (2 * k + 1)).toBitVec.toNat)
    rw [show (f (2 * k + 1)).toBitVec.toNat * 2 ^ 16 % 2 ^ 32 = 2 ^ 16 * (f (2 * k + 1)).toBitVec.toNat by omega, ← h]
    omega
  have d0 := vN_dig (B := 65536) (f := f) (by decide) (k := 2 * k) (n := 16) (by omega) hd
  have d1 := vN_dig (B := 65536) (f := f) (by decide) (k := 2 * k + 1) (n := 16) (by omega) hd
  rw [hX] at d0 d1
  rw [e3, ← d0, ← d1, Nat.pow_succ, ← Nat.div_div_eq_div_mul, Nat.pow_mul, show 65536 ^ 2 = 4294967296 from rfl]
  generalize X / 4294967296 ^ k = u
  omega
end
section
theorem vN_two {B : Nat} {f : Nat → Int32} {n : Nat} (hB : 0 < B) (h : ∀ j, 1 < j → j < n + 2 → f j = 0) : vN B f (n + 2) = w4 (f 0) + w4 (f 1) * B := by
  induction n with
  | zero => rw [vN_s, vN_s, vN_0]; simp
  | succ n ih => rw [vN_s, ih (fun j h1 h2 => h j h1 (by omega)), h (n + 2) (by omega) (by omega), w4_0, Nat.zero_mul, Nat.add_zero]
theorem bitEven (a : Int32) : a &&& 1 = 0 ↔ w4 a % 2 = 0 := by
  have h := w4_and a 1 1 (by decide) (by decide)
  constructor
  · intro z; rw [z, w4_0] at h; omega
  · intro z; apply w4_inj; rw [h, w4_0]; omega
theorem half_lt {S : Nat} (h : S < 2 * PP) : S / 2 < PP := by
  generalize PP = P at *
  omega
theorem dh_lt {a : Nat} (h : a < PP) : a < 2 * PP := by
  generalize PP = P at *
  omega
theorem sum_lt2b {a : Nat} (h : a < PP) : a + PP < 2 * PP := by
  generalize PP = P at *
  omega
theorem dhalf_fin {v' va u a S : Nat} {W : Nat} (h0 : W % 2 = u % 2) (hW : W = va + a * 65536 ^ 16) (hS : W = S) (h : 2 * v' + u % 2 = va + a % 2 * 65536 ^ 16) (hev : S % 2 = 0) (hl : S < 2 * PP) (ha : a < 65536) : v' = S / 2 := by
  subst hS
  have e1 := PPv
  rw [e1] at hl
  have ha1 : a = 0 ∨ a = 1 := by omega
  rcases ha1 with rfl | rfl <;> omega
set_option maxHeartbeats 4000000 in
set_option maxRecDepth 100000 in
/-- Model.add -/
theorem c_D_add (l : Launch) (g : wg) (o : Nat) (A : Nat → Nat) (rv pv qv : Int32) (X Lw : Nat → Nat) (M : Mm) (hD : Dv g o A) (hM : MI M A X Lw) : Ct l y_D_add b_D_add 4 none 2 52 g [.ref o, .int rv, .int pv, .int qv] M (fun r M' => r = none ∧ dfr M M' A ∧ MI M' A (va_up X (w4 rv % 4) ((X (w4 pv % 4) + X (w4 qv % 4)) % PP)) Lw) := by
  refine Ct.of rfl (Nat.le_of_ble_eq_true rfl) (fun p e s m args below meth c H ls Q E K hQ hW hl => ?_)
  have hx := E.1
  have hb := E.2.1
  have hown := E.2.2.2.2.1
  have hts := E.2.2.2.2.2.1
  have hl : lv_has ls 4 [(0, .ref o), (1, .int rv), (2, .int pv), (3, .int qv)] := hl
  refine lv_aload_n hx hb d_D_add_0 rfl (lv_at hl 0 rfl) ?_
  refine lv_aload_n hx hb d_D_add_1 rfl (lv_at hl 0 rfl) ?_
  refine wd_get E K hW hD.1 rfl i_D 5 (by decide) k_188 rfl d_D_add_2 ?_
  refine lv_iload_n hx hb d_D_add_5 rfl (lv_at hl 2 rfl) ?_
  refine ct_V E K hW hl.1 hD.1 rfl (c_D_take l g o A (A 5) pv M hD hD.k5 (hD.ne 5 0)) k_247 k_3 k_244 k_246 k_1004 2 (by decide +kernel) rfl (by decide) rfl (Nat.le_of_ble_eq_true rfl) ⟨Nat.zero_le _, Nat.zero_le _⟩ d_D_add_6 (fun r M1 H locs hq hW => ?_)
  obtain ⟨rfl, k1, t1⟩ := hq
  refine W.eq (g2 := F0 m 9 ls []) rfl ?_
  have x1 := hM.tk t1
  have m1 := hM.kept (k1.out (hD.ne 0 5)) (k1.out (hD.ne 1 5)) (k1.out (hD.ne 2 5))
  refine lv_aload_n hx hb d_D_add_9 rfl (lv_at hl 0 rfl) ?_
  refine lv_aload_n hx hb d_D_add_10 rfl (lv_at hl 0 rfl) ?_
  refine wd_get E K hW hD.1 rfl i_D 6 (by decide) k_189 rfl d_D_add_11 ?_
  refine lv_iload_n hx hb d_D_add_14 rfl (lv_at hl 3 rfl) ?_
  refine ct_V E K hW hl.1 hD.1 rfl (c_D_take l g o A (A 6) qv M1 hD hD.k6 (hD.ne 6 0)) k_247 k_3 k_244 k_246 k_1004 2 (by decide +kernel) rfl (by decide) rfl (Nat.le_of_ble_eq_true rfl) ⟨Nat.zero_le _, Nat.zero_le _⟩ d_D_add_15 (fun r M2 H locs hq hW => ?_)
  obtain ⟨rfl, k2, t2⟩ := hq
  refine W.eq (g2 := F0 m 18 ls []) rfl ?_
  have x2 := m1.tk t2
  have m2 := m1.kept (k2.out (hD.ne 0 6)) (k2.out (hD.ne 1 6)) (k2.out (hD.ne 2 6))
  have y1 : M2 (A 5) = M1 (A 5) := k2.out (hD.ne 5 6)
  refine lv_aload_n hx hb d_D_add_18 rfl (lv_at hl 0 rfl) ?_
  refine lv_aload_n hx hb d_D_add_19 rfl (lv_at hl 0 rfl) ?_
  refine wd_get E K hW hD.1 rfl i_D 5 (by decide) k_188 rfl d_D_add_20 ?_
  refine lv_aload_n hx hb d_D_add_23 rfl (lv_at hl 0 rfl) ?_
  refine wd_get E K hW hD.1 rfl i_D 5 (by decide) k_188 rfl d_D_add_24 ?_
  refine lv_aload_n hx hb d_D_add_27 rfl (lv_at hl 0 rfl) ?_
  refine wd_get E K hW hD.1 rfl i_D 6 (by decide) k_189 rfl d_D_add_28 ?_
  refine ct_V E K hW hl.1 hD.1 rfl (c_D_plus l g o A (A 5) (A 5) (A 6) M2 hD m2.1 hD.k5 hD.k5 hD.k6 (hD.ne 4 5) (hD.ne 2 5) (hD.ne 5 4) (hD.ne 6 4) (by rw [y1]; exact x1.1) x2.1 (by rw [y1]; exact x1.2.2) x2.2.2) k_251 k_3 k_248 k_250 k_1005 3 (by decide +kernel) rfl (by decide) rfl (Nat.le_of_ble_eq_true rfl) ⟨Nat.zero_le _, Nat.zero_le _⟩ d_D_add_31 (fun r M3 H locs hq hW => ?_)
  obtain ⟨rfl, f3, d3, e3⟩ := hq
  refine W.eq (g2 := F0 m 34 ls []) rfl ?_
  have m3 := m2.kept (f3 _ (hD.ne 0 5) (hD.ne 0 4)) (f3 _ (hD.ne 1 5) (hD.ne 1 4)) (f3 _ (hD.ne 2 5) (hD.ne 2 4))
  rw [y1, x1.2.1, x2.2.1] at e3
  refine lv_aload_n hx hb d_D_add_34 rfl (lv_at hl 0 rfl) ?_
  refine lv_iload_n hx hb d_D_add_35 rfl (lv_at hl 1 rfl) ?_
  refine lv_aload_n hx hb d_D_add_36 rfl (lv_at hl 0 rfl) ?_
  refine wd_get E K hW hD.1 rfl i_D 5 (by decide) k_188 rfl d_D_add_37 ?_
  refine ct_V E K hW hl.1 hD.1 rfl (c_D_give l g o A rv (A 5) M3 hD hD.k5 (hD.ne 5 0)) k_235 k_3 k_232 k_234 k_1003 2 (by decide +kernel) rfl (by decide) rfl (Nat.le_of_ble_eq_true rfl) ⟨Nat.zero_le _, Nat.zero_le _⟩ d_D_add_40 (fun r M4 H locs hq hW => ?_)
  obtain ⟨rfl, g4, c4, u4⟩ := hq
  refine W.eq (g2 := F0 m 43 ls []) rfl ?_
  have mg := m3.gv (hD.ne 1 0) (hD.ne 2 0) g4 c4 u4 d3 e3 (Nat.mod_lt _ (by decide))
  exact ct_v E hQ hW d_D_add_43 ⟨rfl, fun q h => (g4 _ (h 0 (by decide))).trans ((f3 _ (h 5 (by decide)) (h 4 (by decide))).trans ((k2.out (h 6 (by decide))).trans (k1.out (h 5 (by decide))))), mg⟩
set_option maxHeartbeats 4000000 in
set_option maxRecDepth 100000 in
/-- Model.subtract -/
theorem c_D_subtract (l : Launch) (g : wg) (o : Nat) (A : Nat → Nat) (rv pv qv : Int32) (X Lw : Nat → Nat) (M : Mm) (hD : Dv g o A) (hM : MI M A X Lw) : Ct l y_D_subtract b_D_subtract 4 none 2 52 g [.ref o, .int rv, .int pv, .int qv] M (fun r M' => r = none ∧ dfr M M' A ∧ MI M' A (va_up X (w4 rv % 4) ((X (w4 pv % 4) + (PP - X (w4 qv % 4))) % PP)) Lw) := by
  refine Ct.of rfl (Nat.le_of_ble_eq_true rfl) (fun p e s m args below meth c H ls Q E K hQ hW hl => ?_)
  have hx := E.1
  have hb := E.2.1
  have hown := E.2.2.2.2.1
  have hts := E.2.2.2.2.2.1
  have hl : lv_has ls 4 [(0, .ref o), (1, .int rv), (2, .int pv), (3, .int qv)] := hl
  refine lv_aload_n hx hb d_D_subtract_0 rfl (lv_at hl 0 rfl) ?_
  refine lv_aload_n hx hb d_D_subtract_1 rfl (lv_at hl 0 rfl) ?_
  refine wd_get E K hW hD.1 rfl i_D 5 (by decide) k_188 rfl d_D_subtract_2 ?_
  refine lv_iload_n hx hb d_D_subtract_5 rfl (lv_at hl 2 rfl) ?_
  refine ct_V E K hW hl.1 hD.1 rfl (c_D_take l g o A (A 5) pv M hD hD.k5 (hD.ne 5 0)) k_247 k_3 k_244 k_246 k_1004 2 (by decide +kernel) rfl (by decide) rfl (Nat.le_of_ble_eq_true rfl) ⟨Nat.zero_le _, Nat.zero_le _⟩ d_D_subtract_6 (fun r M1 H locs hq hW => ?_)
  obtain ⟨rfl, k1, t1⟩ := hq
  refine W.eq (g2 := F0 m 9 ls []) rfl ?_
  have x1 := hM.tk t1
  have m1 := hM.kept (k1.out (hD.ne 0 5)) (k1.out (hD.ne 1 5)) (k1.out (hD.ne 2 5))
  refine lv_aload_n hx hb d_D_subtract_9 rfl (lv_at hl 0 rfl) ?_
  refine lv_aload_n hx hb d_D_subtract_10 rfl (lv_at hl 0 rfl) ?_
  refine wd_get E K hW hD.1 rfl i_D 6 (by decide) k_189 rfl d_D_subtract_11 ?_
  refine lv_iload_n hx hb d_D_subtract_14 rfl (lv_at hl 3 rfl) ?_
  refine ct_V E K hW hl.1 hD.1 rfl (c_D_take l g o A (A 6) qv M1 hD hD.k6 (hD.ne 6 0)) k_247 k_3 k_244 k_246 k_1004 2 (by decide +kernel) rfl (by decide) rfl (Nat.le_of_ble_eq_true rfl) ⟨Nat.zero_le _, Nat.zero_le _⟩ d_D_subtract_15 (fun r M2 H locs hq hW => ?_)
  obtain ⟨rfl, k2, t2⟩ := hq
  refine W.eq (g2 := F0 m 18 ls []) rfl ?_
  have x2 := m1.tk t2
  have m2 := m1.kept (k2.out (hD.ne 0 6)) (k2.out (hD.ne 1 6)) (k2.out (hD.ne 2 6))
  have y1 : M2 (A 5) = M1 (A 5) := k2.out (hD.ne 5 6)
  refine lv_aload_n hx hb d_D_subtract_18 rfl (lv_at hl 0 rfl) ?_
  refine lv_aload_n hx hb d_D_subtract_19 rfl (lv_at hl 0 rfl) ?_
  refine wd_get E K hW hD.1 rfl i_D 6 (by decide) k_189 rfl d_D_subtract_20 ?_
  refine lv_aload_n hx hb d_D_subtract_23 rfl (lv_at hl 0 rfl) ?_
  refine wd_get E K hW hD.1 rfl i_D 6 (by decide) k_189 rfl d_D_subtract_24 ?_
  refine ct_V E K hW hl.1 hD.1 rfl (c_D_minus l g o A (A 6) (A 6) M2 hD m2.1 hD.k6 hD.k6 (hD.ne 2 6) x2.1 x2.2.2) k_259 k_3 k_256 k_258 k_1006 2 (by decide +kernel) rfl (by decide) rfl (Nat.le_of_ble_eq_true rfl) ⟨Nat.zero_le _, Nat.zero_le _⟩ d_D_subtract_27 (fun r M3 H locs hq hW => ?_)
  obtain ⟨rfl, k3, d3, e3⟩ := hq
  refine W.eq (g2 := F0 m 30 ls []) rfl ?_
  have m3 := m2.kept (k3.out (hD.ne 0 6)) (k3.out (hD.ne 1 6)) (k3.out (hD.ne 2 6))
  have y2 : M3 (A 5) = M1 (A 5) := (k3.out (hD.ne 5 6)).trans y1
  have l3 : V16 (M3 (A 6)) < PP := by rw [e3]; exact Nat.mod_lt _ (by decide)
  refine lv_aload_n hx hb d_D_subtract_30 rfl (lv_at hl 0 rfl) ?_
  refine lv_aload_n hx hb d_D_subtract_31 rfl (lv_at hl 0 rfl) ?_
  refine wd_get E K hW hD.1 rfl i_D 5 (by decide) k_188 rfl d_D_subtract_32 ?_
  refine lv_aload_n hx hb d_D_subtract_35 rfl (lv_at hl 0 rfl) ?_
  refine wd_get E K hW hD.1 rfl i_D 5 (by decide) k_188 rfl d_D_subtract_36 ?_
  refine lv_aload_n hx hb d_D_subtract_39 rfl (lv_at hl 0 rfl) ?_
  refine wd_get E K hW hD.1 rfl i_D 6 (by decide) k_189 rfl d_D_subtract_40 ?_
  refine ct_V E K hW hl.1 hD.1 rfl (c_D_plus l g o A (A 5) (A 5) (A 6) M3 hD m3.1 hD.k5 hD.k5 hD.k6 (hD.ne 4 5) (hD.ne 2 5) (hD.ne 5 4) (hD.ne 6 4) (by rw [y2]; exact x1.1) d3 (by rw [y2]; exact x1.2.2) l3) k_251 k_3 k_248 k_250 k_1005 3 (by decide +kernel) rfl (by decide) rfl (Nat.le_of_ble_eq_true rfl) ⟨Nat.zero_le _, Nat.zero_le _⟩ d_D_subtract_43 (fun r M4 H locs hq hW => ?_)
  obtain ⟨rfl, f4, d4, e4⟩ := hq
  refine W.eq (g2 := F0 m 46 ls []) rfl ?_
  have m4 := m3.kept (f4 _ (hD.ne 0 5) (hD.ne 0 4)) (f4 _ (hD.ne 1 5) (hD.ne 1 4)) (f4 _ (hD.ne 2 5) (hD.ne 2 4))
  rw [y2, e3, x1.2.1, x2.2.1, sub_mod2] at e4
  refine lv_aload_n hx hb d_D_subtract_46 rfl (lv_at hl 0 rfl) ?_
  refine lv_iload_n hx hb d_D_subtract_47 rfl (lv_at hl 1 rfl) ?_
  refine lv_aload_n hx hb d_D_subtract_48 rfl (lv_at hl 0 rfl) ?_
  refine wd_get E K hW hD.1 rfl i_D 5 (by decide) k_188 rfl d_D_subtract_49 ?_
  refine ct_V E K hW hl.1 hD.1 rfl (c_D_give l g o A rv (A 5) M4 hD hD.k5 (hD.ne 5 0)) k_235 k_3 k_232 k_234 k_1003 2 (by decide +kernel) rfl (by decide) rfl (Nat.le_of_ble_eq_true rfl) ⟨Nat.zero_le _, Nat.zero_le _⟩ d_D_subtract_52 (fun r M5 H locs hq hW => ?_)
  obtain ⟨rfl, g5, c5, u5⟩ := hq
  refine W.eq (g2 := F0 m 55 ls []) rfl ?_
  have mg := m4.gv (hD.ne 1 0) (hD.ne 2 0) g5 c5 u5 d4 e4 (Nat.mod_lt _ (by decide))
  exact ct_v E hQ hW d_D_subtract_55 ⟨rfl, fun q h => (g5 _ (h 0 (by decide))).trans ((f4 _ (h 5 (by decide)) (h 4 (by decide))).trans ((k3.out (h 6 (by decide))).trans ((k2.out (h 6 (by decide))).trans (k1.out (h 5 (by decide)))))), mg⟩
set_option maxHeartbeats 4000000 in
set_option maxRecDepth 100000 in
/-- Model.multiply -/
theorem c_D_multiply (l : Launch) (g : wg) (o : Nat) (A : Nat → Nat) (rv pv qv : Int32) (X Lw : Nat → Nat) (M : Mm) (hD : Dv g o A) (hM : MI M A X Lw) : Ct l y_D_multiply b_D_multiply 4 none 3 75 g [.ref o, .int rv, .int pv, .int qv] M (fun r M' => r = none ∧ dfr M M' A ∧ MI M' A (va_up X (w4 rv % 4) (X (w4 pv % 4) * X (w4 qv % 4) % PP)) Lw) := by
  refine Ct.of rfl (Nat.le_of_ble_eq_true rfl) (fun p e s m args below meth c H ls Q E K hQ hW hl => ?_)
  have hx := E.1
  have hb := E.2.1
  have hown := E.2.2.2.2.1
  have hts := E.2.2.2.2.2.1
  have hl : lv_has ls 4 [(0, .ref o), (1, .int rv), (2, .int pv), (3, .int qv)] := hl
  refine lv_aload_n hx hb d_D_multiply_0 rfl (lv_at hl 0 rfl) ?_
  refine lv_aload_n hx hb d_D_multiply_1 rfl (lv_at hl 0 rfl) ?_
  refine wd_get E K hW hD.1 rfl i_D 5 (by decide) k_188 rfl d_D_multiply_2 ?_
  refine lv_iload_n hx hb d_D_multiply_5 rfl (lv_at hl 2 rfl) ?_
  refine ct_V E K hW hl.1 hD.1 rfl (c_D_take l g o A (A 5) pv M hD hD.k5 (hD.ne 5 0)) k_247 k_3 k_244 k_246 k_1004 2 (by decide +kernel) rfl (by decide) rfl (Nat.le_of_ble_eq_true rfl) ⟨Nat.zero_le _, Nat.zero_le _⟩ d_D_multiply_6 (fun r M1 H locs hq hW => ?_)
  obtain ⟨rfl, k1, t1⟩ := hq
  refine W.eq (g2 := F0 m 9 ls []) rfl ?_
  have x1 := hM.tk t1
  have m1 := hM.kept (k1.out (hD.ne 0 5)) (k1.out (hD.ne 1 5)) (k1.out (hD.ne 2 5))
  refine lv_aload_n hx hb d_D_multiply_9 rfl (lv_at hl 0 rfl) ?_
  refine lv_aload_n hx hb d_D_multiply_10 rfl (lv_at hl 0 rfl) ?_
  refine wd_get E K hW hD.1 rfl i_D 6 (by decide) k_189 rfl d_D_multiply_11 ?_
  refine lv_iload_n hx hb d_D_multiply_14 rfl (lv_at hl 3 rfl) ?_
  refine ct_V E K hW hl.1 hD.1 rfl (c_D_take l g o A (A 6) qv M1 hD hD.k6 (hD.ne 6 0)) k_247 k_3 k_244 k_246 k_1004 2 (by decide +kernel) rfl (by decide) rfl (Nat.le_of_ble_eq_true rfl) ⟨Nat.zero_le _, Nat.zero_le _⟩ d_D_multiply_15 (fun r M2 H locs hq hW => ?_)
  obtain ⟨rfl, k2, t2⟩ := hq
  refine W.eq (g2 := F0 m 18 ls []) rfl ?_
  have x2 := m1.tk t2
  have m2 := m1.kept (k2.out (hD.ne 0 6)) (k2.out (hD.ne 1 6)) (k2.out (hD.ne 2 6))
  have y1 : M2 (A 5) = M1 (A 5) := k2.out (hD.ne 5 6)
  refine lv_aload_n hx hb d_D_multiply_18 rfl (lv_at hl 0 rfl) ?_
  refine lv_aload_n hx hb d_D_multiply_19 rfl (lv_at hl 0 rfl) ?_
  refine wd_get E K hW hD.1 rfl i_D 5 (by decide) k_188 rfl d_D_multiply_20 ?_
  refine lv_aload_n hx hb d_D_multiply_23 rfl (lv_at hl 0 rfl) ?_
  refine wd_get E K hW hD.1 rfl i_D 6 (by decide) k_189 rfl d_D_multiply_24 ?_
  refine ct_V E K hW hl.1 hD.1 rfl (c_D_times l g o A (A 5) (A 6) M2 hD m2.1 hD.k5 hD.k6 (hD.ne 5 4) (hD.ne 5 7) (hD.ne 6 4) (hD.ne 6 7) (by rw [y1]; exact x1.1) x2.1 (by rw [y1]; exact x1.2.2)) k_271 k_3 k_268 k_270 k_1008 2 (by decide +kernel) rfl (by decide) rfl (Nat.le_of_ble_eq_true rfl) ⟨Nat.zero_le _, Nat.zero_le _⟩ d_D_multiply_27 (fun r M3 H locs hq hW => ?_)
  obtain ⟨rfl, f3, d3, e3⟩ := hq
  refine W.eq (g2 := F0 m 30 ls []) rfl ?_
  have m3 := m2.kept (f3 _ (hD.ne 0 7) (hD.ne 0 4)) (f3 _ (hD.ne 1 7) (hD.ne 1 4)) (f3 _ (hD.ne 2 7) (hD.ne 2 4))
  rw [y1, x1.2.1, x2.2.1, Nat.mul_comm] at e3
  refine lv_aload_n hx hb d_D_multiply_30 rfl (lv_at hl 0 rfl) ?_
  refine lv_iload_n hx hb d_D_multiply_31 rfl (lv_at hl 1 rfl) ?_
  refine lv_aload_n hx hb d_D_multiply_32 rfl (lv_at hl 0 rfl) ?_
  refine wd_get E K hW hD.1 rfl i_D 7 (by decide) k_190 rfl d_D_multiply_33 ?_
  refine ct_V E K hW hl.1 hD.1 rfl (c_D_give l g o A rv (A 7) M3 hD hD.k7 (hD.ne 7 0)) k_235 k_3 k_232 k_234 k_1003 2 (by decide +kernel) rfl (by decide) rfl (Nat.le_of_ble_eq_true rfl) ⟨Nat.zero_le _, Nat.zero_le _⟩ d_D_multiply_36 (fun r M4 H locs hq hW => ?_)
  obtain ⟨rfl, g4, c4, u4⟩ := hq
  refine W.eq (g2 := F0 m 39 ls []) rfl ?_
  have mg := m3.gv (hD.ne 1 0) (hD.ne 2 0) g4 c4 u4 d3 e3 (Nat.mod_lt _ (by decide))
  exact ct_v E hQ hW d_D_multiply_39 ⟨rfl, fun q h => (g4 _ (h 0 (by decide))).trans ((f3 _ (h 7 (by decide)) (h 4 (by decide))).trans ((k2.out (h 6 (by decide))).trans (k1.out (h 5 (by decide))))), mg⟩
set_option maxHeartbeats 4000000 in
set_option maxRecDepth 100000 in
/-- Model.square -/
theorem c_D_square (l : Launch) (g : wg) (o : Nat) (A : Nat → Nat) (rv pv : Int32) (X Lw : Nat → Nat) (M : Mm) (hD : Dv g o A) (hM : MI M A X Lw) : Ct l y_D_square b_D_square 3 none 3 75 g [.ref o, .int rv, .int pv] M (fun r M' => r = none ∧ dfr M M' A ∧ MI M' A (va_up X (w4 rv % 4) (X (w4 pv % 4) * X (w4 pv % 4) % PP)) Lw) := by
  refine Ct.of rfl (Nat.le_of_ble_eq_true rfl) (fun p e s m args below meth c H ls Q E K hQ hW hl => ?_)
  have hx := E.1
  have hb := E.2.1
  have hown := E.2.2.2.2.1
  have hts := E.2.2.2.2.2.1
  have hl : lv_has ls 3 [(0, .ref o), (1, .int rv), (2, .int pv)] := hl
  refine lv_aload_n hx hb d_D_square_0 rfl (lv_at hl 0 rfl) ?_
  refine lv_aload_n hx hb d_D_square_1 rfl (lv_at hl 0 rfl) ?_
  refine wd_get E K hW hD.1 rfl i_D 5 (by decide) k_188 rfl d_D_square_2 ?_
  refine lv_iload_n hx hb d_D_square_5 rfl (lv_at hl 2 rfl) ?_
  refine ct_V E K hW hl.1 hD.1 rfl (c_D_take l g o A (A 5) pv M hD hD.k5 (hD.ne 5 0)) k_247 k_3 k_244 k_246 k_1004 2 (by decide +kernel) rfl (by decide) rfl (Nat.le_of_ble_eq_true rfl) ⟨Nat.zero_le _, Nat.zero_le _⟩ d_D_square_6 (fun r M1 H locs hq hW => ?_)
  obtain ⟨rfl, k1, t1⟩ := hq
  refine W.eq (g2 := F0 m 9 ls []) rfl ?_
  have x1 := hM.tk t1
  have m1 := hM.kept (k1.out (hD.ne 0 5)) (k1.out (hD.ne 1 5)) (k1.out (hD.ne 2 5))
  refine lv_aload_n hx hb d_D_square_9 rfl (lv_at hl 0 rfl) ?_
  refine lv_aload_n hx hb d_D_square_10 rfl (lv_at hl 0 rfl) ?_
  refine wd_get E K hW hD.1 rfl i_D 5 (by decide) k_188 rfl d_D_square_11 ?_
  refine lv_aload_n hx hb d_D_square_14 rfl (lv_at hl 0 rfl) ?_
  refine wd_get E K hW hD.1 rfl i_D 5 (by decide) k_188 rfl d_D_square_15 ?_
  refine ct_V E K hW hl.1 hD.1 rfl (c_D_times l g o A (A 5) (A 5) M1 hD m1.1 hD.k5 hD.k5 (hD.ne 5 4) (hD.ne 5 7) (hD.ne 5 4) (hD.ne 5 7) x1.1 x1.1 x1.2.2) k_271 k_3 k_268 k_270 k_1008 2 (by decide +kernel) rfl (by decide) rfl (Nat.le_of_ble_eq_true rfl) ⟨Nat.zero_le _, Nat.zero_le _⟩ d_D_square_18 (fun r M2 H locs hq hW => ?_)
  obtain ⟨rfl, f2, d2, e2⟩ := hq
  refine W.eq (g2 := F0 m 21 ls []) rfl ?_
  have m2 := m1.kept (f2 _ (hD.ne 0 7) (hD.ne 0 4)) (f2 _ (hD.ne 1 7) (hD.ne 1 4)) (f2 _ (hD.ne 2 7) (hD.ne 2 4))
  rw [x1.2.1] at e2
  refine lv_aload_n hx hb d_D_square_21 rfl (lv_at hl 0 rfl) ?_
  refine lv_iload_n hx hb d_D_square_22 rfl (lv_at hl 1 rfl) ?_
  refine lv_aload_n hx hb d_D_square_23 rfl (lv_at hl 0 rfl) ?_
  refine wd_get E K hW hD.1 rfl i_D 7 (by decide) k_190 rfl d_D_square_24 ?_
  refine ct_V E K hW hl.1 hD.1 rfl (c_D_give l g o A rv (A 7) M2 hD hD.k7 (hD.ne 7 0)) k_235 k_3 k_232 k_234 k_1003 2 (by decide +kernel) rfl (by decide) rfl (Nat.le_of_ble_eq_true rfl) ⟨Nat.zero_le _, Nat.zero_le _⟩ d_D_square_27 (fun r M3 H locs hq hW => ?_)
  obtain ⟨rfl, g3, c3, u3⟩ := hq
  refine W.eq (g2 := F0 m 30 ls []) rfl ?_
  have mg := m2.gv (hD.ne 1 0) (hD.ne 2 0) g3 c3 u3 d2 e2 (Nat.mod_lt _ (by decide))
  exact ct_v E hQ hW d_D_square_30 ⟨rfl, fun q h => (g3 _ (h 0 (by decide))).trans ((f2 _ (h 7 (by decide)) (h 4 (by decide))).trans (k1.out (h 5 (by decide)))), mg⟩
set_option maxHeartbeats 4000000 in
set_option maxRecDepth 100000 in
/-- Model.twice -/
theorem c_D_twice (l : Launch) (g : wg) (o : Nat) (A : Nat → Nat) (rv pv : Int32) (X Lw : Nat → Nat) (M : Mm) (hD : Dv g o A) (hM : MI M A X Lw) : Ct l y_D_twice b_D_twice 3 none 2 52 g [.ref o, .int rv, .int pv] M (fun r M' => r = none ∧ dfr M M' A ∧ MI M' A (va_up X (w4 rv % 4) ((X (w4 pv % 4) + X (w4 pv % 4)) % PP)) Lw) := by
  refine Ct.of rfl (Nat.le_of_ble_eq_true rfl) (fun p e s m args below meth c H ls Q E K hQ hW hl => ?_)
  have hx := E.1
  have hb := E.2.1
  have hown := E.2.2.2.2.1
  have hts := E.2.2.2.2.2.1
  have hl : lv_has ls 3 [(0, .ref o), (1, .int rv), (2, .int pv)] := hl
  refine lv_aload_n hx hb d_D_twice_0 rfl (lv_at hl 0 rfl) ?_
  refine lv_aload_n hx hb d_D_twice_1 rfl (lv_at hl 0 rfl) ?_
  refine wd_get E K hW hD.1 rfl i_D 5 (by decide) k_188 rfl d_D_twice_2 ?_
  refine lv_iload_n hx hb d_D_twice_5 rfl (lv_at hl 2 rfl) ?_
  refine ct_V E K hW hl.1 hD.1 rfl (c_D_take l g o A (A 5) pv M hD hD.k5 (hD.ne 5 0)) k_247 k_3 k_244 k_246 k_1004 2 (by decide +kernel) rfl (by decide) rfl (Nat.le_of_ble_eq_true rfl) ⟨Nat.zero_le _, Nat.zero_le _⟩ d_D_twice_6 (fun r M1 H locs hq hW => ?_)
  obtain ⟨rfl, k1, t1⟩ := hq
  refine W.eq (g2 := F0 m 9 ls []) rfl ?_
  have x1 := hM.tk t1
  have m1 := hM.kept (k1.out (hD.ne 0 5)) (k1.out (hD.ne 1 5)) (k1.out (hD.ne 2 5))
  refine lv_aload_n hx hb d_D_twice_9 rfl (lv_at hl 0 rfl) ?_
  refine lv_aload_n hx hb d_D_twice_10 rfl (lv_at hl 0 rfl) ?_
  refine wd_get E K hW hD.1 rfl i_D 5 (by decide) k_188 rfl d_D_twice_11 ?_
  refine lv_aload_n hx hb d_D_twice_14 rfl (lv_at hl 0 rfl) ?_
  refine wd_get E K hW hD.1 rfl i_D 5 (by decide) k_188 rfl d_D_twice_15 ?_
  refine lv_aload_n hx hb d_D_twice_18 rfl (lv_at hl 0 rfl) ?_
  refine wd_get E K hW hD.1 rfl i_D 5 (by decide) k_188 rfl d_D_twice_19 ?_
  refine ct_V E K hW hl.1 hD.1 rfl (c_D_plus l g o A (A 5) (A 5) (A 5) M1 hD m1.1 hD.k5 hD.k5 hD.k5 (hD.ne 4 5) (hD.ne 2 5) (hD.ne 5 4) (hD.ne 5 4) x1.1 x1.1 x1.2.2 x1.2.2) k_251 k_3 k_248 k_250 k_1005 3 (by decide +kernel) rfl (by decide) rfl (Nat.le_of_ble_eq_true rfl) ⟨Nat.zero_le _, Nat.zero_le _⟩ d_D_twice_22 (fun r M2 H locs hq hW => ?_)
  obtain ⟨rfl, f2, d2, e2⟩ := hq
  refine W.eq (g2 := F0 m 25 ls []) rfl ?_
  have m2 := m1.kept (f2 _ (hD.ne 0 5) (hD.ne 0 4)) (f2 _ (hD.ne 1 5) (hD.ne 1 4)) (f2 _ (hD.ne 2 5) (hD.ne 2 4))
  rw [x1.2.1] at e2
  refine lv_aload_n hx hb d_D_twice_25 rfl (lv_at hl 0 rfl) ?_
  refine lv_iload_n hx hb d_D_twice_26 rfl (lv_at hl 1 rfl) ?_
  refine lv_aload_n hx hb d_D_twice_27 rfl (lv_at hl 0 rfl) ?_
  refine wd_get E K hW hD.1 rfl i_D 5 (by decide) k_188 rfl d_D_twice_28 ?_
  refine ct_V E K hW hl.1 hD.1 rfl (c_D_give l g o A rv (A 5) M2 hD hD.k5 (hD.ne 5 0)) k_235 k_3 k_232 k_234 k_1003 2 (by decide +kernel) rfl (by decide) rfl (Nat.le_of_ble_eq_true rfl) ⟨Nat.zero_le _, Nat.zero_le _⟩ d_D_twice_31 (fun r M3 H locs hq hW => ?_)
  obtain ⟨rfl, g3, c3, u3⟩ := hq
  refine W.eq (g2 := F0 m 34 ls []) rfl ?_
  have mg := m2.gv (hD.ne 1 0) (hD.ne 2 0) g3 c3 u3 d2 e2 (Nat.mod_lt _ (by decide))
  exact ct_v E hQ hW d_D_twice_34 ⟨rfl, fun q h => (g3 _ (h 0 (by decide))).trans ((f2 _ (h 5 (by decide)) (h 4 (by decide))).trans (k1.out (h 5 (by decide)))), mg⟩
set_option maxHeartbeats 4000000 in
set_option maxRecDepth 100000 in
/-- Model.negate -/
theorem c_D_negate (l : Launch) (g : wg) (o : Nat) (A : Nat → Nat) (rv pv : Int32) (X Lw : Nat → Nat) (M : Mm) (hD : Dv g o A) (hM : MI M A X Lw) : Ct l y_D_negate b_D_negate 3 none 2 48 g [.ref o, .int rv, .int pv] M (fun r M' => r = none ∧ dfr M M' A ∧ MI M' A (va_up X (w4 rv % 4) ((PP - X (w4 pv % 4)) % PP)) Lw) := by
  refine Ct.of rfl (Nat.le_of_ble_eq_true rfl) (fun p e s m args below meth c H ls Q E K hQ hW hl => ?_)
  have hx := E.1
  have hb := E.2.1
  have hown := E.2.2.2.2.1
  have hts := E.2.2.2.2.2.1
  have hl : lv_has ls 3 [(0, .ref o), (1, .int rv), (2, .int pv)] := hl
  refine lv_aload_n hx hb d_D_negate_0 rfl (lv_at hl 0 rfl) ?_
  refine lv_aload_n hx hb d_D_negate_1 rfl (lv_at hl 0 rfl) ?_
  refine wd_get E K hW hD.1 rfl i_D 5 (by decide) k_188 rfl d_D_negate_2 ?_
  refine lv_iload_n hx hb d_D_negate_5 rfl (lv_at hl 2 rfl) ?_
  refine ct_V E K hW hl.1 hD.1 rfl (c_D_take l g o A (A 5) pv M hD hD.k5 (hD.ne 5 0)) k_247 k_3 k_244 k_246 k_1004 2 (by decide +kernel) rfl (by decide) rfl (Nat.le_of_ble_eq_true rfl) ⟨Nat.zero_le _, Nat.zero_le _⟩ d_D_negate_6 (fun r M1 H locs hq hW => ?_)
  obtain ⟨rfl, k1, t1⟩ := hq
  refine W.eq (g2 := F0 m 9 ls []) rfl ?_
  have x1 := hM.tk t1
  have m1 := hM.kept (k1.out (hD.ne 0 5)) (k1.out (hD.ne 1 5)) (k1.out (hD.ne 2 5))
  refine lv_aload_n hx hb d_D_negate_9 rfl (lv_at hl 0 rfl) ?_
  refine lv_aload_n hx hb d_D_negate_10 rfl (lv_at hl 0 rfl) ?_
  refine wd_get E K hW hD.1 rfl i_D 5 (by decide) k_188 rfl d_D_negate_11 ?_
  refine lv_aload_n hx hb d_D_negate_14 rfl (lv_at hl 0 rfl) ?_
  refine wd_get E K hW hD.1 rfl i_D 5 (by decide) k_188 rfl d_D_negate_15 ?_
  refine ct_V E K hW hl.1 hD.1 rfl (c_D_minus l g o A (A 5) (A 5) M1 hD m1.1 hD.k5 hD.k5 (hD.ne 2 5) x1.1 x1.2.2) k_259 k_3 k_256 k_258 k_1006 2 (by decide +kernel) rfl (by decide) rfl (Nat.le_of_ble_eq_true rfl) ⟨Nat.zero_le _, Nat.zero_le _⟩ d_D_negate_18 (fun r M2 H locs hq hW => ?_)
  obtain ⟨rfl, k2, d2, e2⟩ := hq
  refine W.eq (g2 := F0 m 21 ls []) rfl ?_
  have m2 := m1.kept (k2.out (hD.ne 0 5)) (k2.out (hD.ne 1 5)) (k2.out (hD.ne 2 5))
  rw [x1.2.1] at e2
  refine lv_aload_n hx hb d_D_negate_21 rfl (lv_at hl 0 rfl) ?_
  refine lv_iload_n hx hb d_D_negate_22 rfl (lv_at hl 1 rfl) ?_
  refine lv_aload_n hx hb d_D_negate_23 rfl (lv_at hl 0 rfl) ?_
  refine wd_get E K hW hD.1 rfl i_D 5 (by decide) k_188 rfl d_D_negate_24 ?_
  refine ct_V E K hW hl.1 hD.1 rfl (c_D_give l g o A rv (A 5) M2 hD hD.k5 (hD.ne 5 0)) k_235 k_3 k_232 k_234 k_1003 2 (by decide +kernel) rfl (by decide) rfl (Nat.le_of_ble_eq_true rfl) ⟨Nat.zero_le _, Nat.zero_le _⟩ d_D_negate_27 (fun r M3 H locs hq hW => ?_)
  obtain ⟨rfl, g3, c3, u3⟩ := hq
  refine W.eq (g2 := F0 m 30 ls []) rfl ?_
  have mg := m2.gv (hD.ne 1 0) (hD.ne 2 0) g3 c3 u3 d2 e2 (Nat.mod_lt _ (by decide))
  exact ct_v E hQ hW d_D_negate_30 ⟨rfl, fun q h => (g3 _ (h 0 (by decide))).trans ((k2.out (h 5 (by decide))).trans (k1.out (h 5 (by decide)))), mg⟩
set_option maxHeartbeats 4000000 in
set_option maxRecDepth 100000 in
/-- Model.zero -/
theorem c_D_zero (l : Launch) (g : wg) (o : Nat) (A : Nat → Nat) (pv : Int32) (X Lw : Nat → Nat) (M : Mm) (hD : Dv g o A) (hM : MI M A X Lw) : Ct l y_D_zero b_D_zero 2 (some .boolean) 1 23 g [.ref o, .int pv] M (fun r M' => r = some (.int (if X (w4 pv % 4) = 0 then 1 else 0)) ∧ dfr M M' A ∧ MI M' A X Lw) := by
  refine Ct.of rfl (Nat.le_of_ble_eq_true rfl) (fun p e s m args below meth c H ls Q E K hQ hW hl => ?_)
  have hx := E.1
  have hb := E.2.1
  have hown := E.2.2.2.2.1
  have hts := E.2.2.2.2.2.1
  have hl : lv_has ls 2 [(0, .ref o), (1, .int pv)] := hl
  refine lv_aload_n hx hb d_D_zero_0 rfl (lv_at hl 0 rfl) ?_
  refine lv_aload_n hx hb d_D_zero_1 rfl (lv_at hl 0 rfl) ?_
  refine wd_get E K hW hD.1 rfl i_D 5 (by decide) k_188 rfl d_D_zero_2 ?_
  refine lv_iload_n hx hb d_D_zero_5 rfl (lv_at hl 1 rfl) ?_
  refine ct_V E K hW hl.1 hD.1 rfl (c_D_take l g o A (A 5) pv M hD hD.k5 (hD.ne 5 0)) k_247 k_3 k_244 k_246 k_1004 2 (by decide +kernel) rfl (by decide) rfl (Nat.le_of_ble_eq_true rfl) ⟨Nat.zero_le _, Nat.zero_le _⟩ d_D_zero_6 (fun r M1 H locs hq hW => ?_)
  obtain ⟨rfl, k1, t1⟩ := hq
  refine W.eq (g2 := F0 m 9 ls []) rfl ?_
  have x1 := hM.tk t1
  have m1 := hM.kept (k1.out (hD.ne 0 5)) (k1.out (hD.ne 1 5)) (k1.out (hD.ne 2 5))
  refine lv_aload_n hx hb d_D_zero_9 rfl (lv_at hl 0 rfl) ?_
  refine lv_aload_n hx hb d_D_zero_10 rfl (lv_at hl 0 rfl) ?_
  refine wd_get E K hW hD.1 rfl i_D 5 (by decide) k_188 rfl d_D_zero_11 ?_
  refine ct_V E K hW hl.1 hD.1 rfl (c_D_isZero l g o A (A 5) M1 hD.k5) k_263 k_3 k_260 k_262 k_1007 1 (by decide +kernel) rfl (by decide) rfl (Nat.le_of_ble_eq_true rfl) ⟨Nat.zero_le _, Nat.zero_le _⟩ d_D_zero_14 (fun r M2 H locs hq hW => ?_)
  rw [x1.2.1] at hq
  obtain ⟨rfl, hM⟩ := hq
  rw [hM] at hW
  refine W.eq (g2 := F0 m 17 ls [.int (if X (w4 pv % 4) = 0 then 1 else 0)]) rfl ?_
  exact ct_z E hQ hW (by by_cases z : X (w4 pv % 4) = 0; exact Or.inr (if_pos z); exact Or.inl (if_neg z)) d_D_zero_17 ⟨rfl, fun q h => k1.out (h 5 (by decide)), m1⟩
set_option maxHeartbeats 4000000 in
set_option maxRecDepth 100000 in
/-- Model.squares -/
theorem c_D_squares (l : Launch) (g : wg) (o : Nat) (A : Nat → Nat) (rv pv nv2 : Int32) (X Lw : Nat → Nat) (M : Mm) (hD : Dv g o A) (hM : MI M A X Lw) : Ct l y_D_squares b_D_squares 5 none 3 75 g [.ref o, .int rv, .int pv, .int nv2] M (fun r M' => r = none ∧ dfr M M' A ∧ MI M' A (va_up X (w4 rv % 4) (sqn (X (w4 pv % 4)) (w4 nv2 % 16 + 1))) Lw) := by
  refine Ct.of rfl (Nat.le_of_ble_eq_true rfl) (fun p e s m args below meth c H ls Q E K hQ hW hl => ?_)
  have hx := E.1
  have hb := E.2.1
  have hown := E.2.2.2.2.1
  have hts := E.2.2.2.2.2.1
  have hl : lv_has ls 5 [(0, .ref o), (1, .int rv), (2, .int pv), (3, .int nv2)] := hl
  refine lv_aload_n hx hb d_D_squares_0 rfl (lv_at hl 0 rfl) ?_
  refine lv_aload_n hx hb d_D_squares_1 rfl (lv_at hl 0 rfl) ?_
  refine wd_get E K hW hD.1 rfl i_D 5 (by decide) k_188 rfl d_D_squares_2 ?_
  refine lv_iload_n hx hb d_D_squares_5 rfl (lv_at hl 2 rfl) ?_
  refine ct_V E K hW hl.1 hD.1 rfl (c_D_take l g o A (A 5) pv M hD hD.k5 (hD.ne 5 0)) k_247 k_3 k_244 k_246 k_1004 2 (by decide +kernel) rfl (by decide) rfl (Nat.le_of_ble_eq_true rfl) ⟨Nat.zero_le _, Nat.zero_le _⟩ d_D_squares_6 (fun r M1 H locs hq hW => ?_)
  obtain ⟨rfl, k1, t1⟩ := hq
  refine W.eq (g2 := F0 m 9 ls []) rfl ?_
  have x1 := hM.tk t1
  have m1 := hM.kept (k1.out (hD.ne 0 5)) (k1.out (hD.ne 1 5)) (k1.out (hD.ne 2 5))
  have en : nv2 &&& 15 = nI (w4 nv2 % 16) := pk_and nv2 4 (by decide)
  have n16 : w4 nv2 % 16 < 16 := Nat.mod_lt _ (by decide)
  have loop : ∀ (d i : Nat) (M2 : Mm) (H : Heap) (locs : List Loc) (ls : Array Slot), i ≤ w4 nv2 % 16 + 1 → w4 nv2 % 16 + 2 ≤ i + d → dfr M M2 A → MI M2 A X Lw → dg (M2 (A 5)) 16 → V16 (M2 (A 5)) = sqn (X (w4 pv % 4)) i → wd g H locs M2 → lv_has ls 5 [(4, .int (nI i)), (0, .ref o), (1, .int rv), (2, .int pv), (3, .int nv2)] → W p l e (rmm 3 75) s m args below meth c H locs 0 0 Q (F0 m 12 ls []) := by
    intro d
    induction d with
    | zero => intro i M2 H locs ls h1 h2; exact absurd h2 (by omega)
    | succ d ih =>
      intro i M2 H locs ls h1 h2 hf hm hd hv hW hl
      refine lv_iload hx hb d_D_squares_12 (lv_at hl 0 rfl) ?_
      refine lv_iload_n hx hb d_D_squares_14 rfl (lv_at hl 4 rfl) ?_
      refine lv_bipush (v := 15) hx hb d_D_squares_15 (by decide) ?_
      refine lv_iand hx hb d_D_squares_17 ?_
      refine lv_icmp_gt (tgt := 51) hx hb d_D_squares_18 (by decide) (fun c1 => ?_) (fun c1 => ?_)
      · rw [en] at c1
        have c2 := (nI_ltI (by omega) (by omega)).mp c1
        obtain rfl : i = w4 nv2 % 16 + 1 := by omega
        refine lv_aload_n hx hb d_D_squares_51 rfl (lv_at hl 1 rfl) ?_
        refine lv_iload_n hx hb d_D_squares_52 rfl (lv_at hl 2 rfl) ?_
        refine lv_aload_n hx hb d_D_squares_53 rfl (lv_at hl 1 rfl) ?_
        refine wd_get E K hW hD.1 rfl i_D 5 (by decide) k_188 rfl d_D_squares_54 ?_
        refine ct_V E K hW hl.1 hD.1 rfl (c_D_give l g o A rv (A 5) M2 hD hD.k5 (hD.ne 5 0)) k_235 k_3 k_232 k_234 k_1003 2 (by decide +kernel) rfl (by decide) rfl (Nat.le_of_ble_eq_true rfl) ⟨Nat.zero_le _, Nat.zero_le _⟩ d_D_squares_57 (fun r M3 H locs hq hW => ?_)
        obtain ⟨rfl, g3, c3, u3⟩ := hq
        refine W.eq (g2 := F0 m 60 ls []) rfl ?_
        have mg := hm.gv (hD.ne 1 0) (hD.ne 2 0) g3 c3 u3 hd hv (sqn_lt (hM.2.1 _ (r4 pv)).1 _)
        exact ct_v E hQ hW d_D_squares_60 ⟨rfl, fun q h => (g3 _ (h 0 (by decide))).trans (hf q h), mg⟩
      · rw [en] at c1
        have c2 : i ≤ w4 nv2 % 16 := Nat.not_lt.mp (fun z => c1 ((nI_ltI (by omega) (by omega)).mpr z))
        have xl : V16 (M2 (A 5)) < PP := by rw [hv]; exact sqn_lt (hM.2.1 _ (r4 pv)).1 _
        refine lv_aload_n hx hb d_D_squares_21 rfl (lv_at hl 1 rfl) ?_
        refine lv_aload_n hx hb d_D_squares_22 rfl (lv_at hl 1 rfl) ?_
        refine wd_get E K hW hD.1 rfl i_D 5 (by decide) k_188 rfl d_D_squares_23 ?_
        refine lv_aload_n hx hb d_D_squares_26 rfl (lv_at hl 1 rfl) ?_
        refine wd_get E K hW hD.1 rfl i_D 5 (by decide) k_188 rfl d_D_squares_27 ?_
        refine ct_V E K hW hl.1 hD.1 rfl (c_D_times l g o A (A 5) (A 5) M2 hD hm.1 hD.k5 hD.k5 (hD.ne 5 4) (hD.ne 5 7) (hD.ne 5 4) (hD.ne 5 7) hd hd xl) k_271 k_3 k_268 k_270 k_1008 2 (by decide +kernel) rfl (by decide) rfl (Nat.le_of_ble_eq_true rfl) ⟨Nat.zero_le _, Nat.zero_le _⟩ d_D_squares_30 (fun r M3 H locs hq hW => ?_)
        obtain ⟨rfl, f3, d3, e3⟩ := hq
        refine W.eq (g2 := F0 m 33 ls []) rfl ?_
        have m3 := hm.kept (f3 _ (hD.ne 0 7) (hD.ne 0 4)) (f3 _ (hD.ne 1 7) (hD.ne 1 4)) (f3 _ (hD.ne 2 7) (hD.ne 2 4))
        rw [hv] at e3
        refine lv_aload_n hx hb d_D_squares_33 rfl (lv_at hl 1 rfl) ?_
        refine lv_aload_n hx hb d_D_squares_34 rfl (lv_at hl 1 rfl) ?_
        refine wd_get E K hW hD.1 rfl i_D 5 (by decide) k_188 rfl d_D_squares_35 ?_
        refine lv_aload_n hx hb d_D_squares_38 rfl (lv_at hl 1 rfl) ?_
        refine wd_get E K hW hD.1 rfl i_D 7 (by decide) k_190 rfl d_D_squares_39 ?_
        refine ct_V E K hW hl.1 hD.1 rfl (c_D_copy l g o A (A 5) (A 7) M3 hD.k5 hD.k7) k_283 k_3 k_280 k_282 k_1009 2 (by decide +kernel) rfl (by decide) rfl (Nat.le_of_ble_eq_true rfl) ⟨Nat.zero_le _, Nat.zero_le _⟩ d_D_squares_42 (fun r M4 H locs hq hW => ?_)
        obtain ⟨rfl, k4, t4⟩ := hq
        refine W.eq (g2 := F0 m 45 ls []) rfl ?_
        refine lv_iinc (v := (nI (i + 1))) (lv' := [(4, .int (nI (i + 1))), (0, .ref o), (1, .int rv), (2, .int pv), (3, .int nv2)]) hx hb d_D_squares_45 hl (k := 0) rfl (nI_1 _) (by decide) rfl (fun ls hl => ?_)
        refine lv_goto (tgt := 12) hx hb d_D_squares_48 (by decide) ?_
        refine ih (i + 1) M4 H locs ls (by omega) (by omega) (fun q h => (k4.out (h 5 (by decide))).trans ((f3 _ (h 7 (by decide)) (h 4 (by decide))).trans (hf q h))) (m3.kept (k4.out (hD.ne 0 5)) (k4.out (hD.ne 1 5)) (k4.out (hD.ne 2 5))) (d3.cg t4) ?_ hW (lv_sub hl [0, 1, 2, 3, 4] rfl)
        rw [sqn, ← e3]; exact vN_congr t4
  refine lv_iconst (v := 0) hx hb d_D_squares_9 (by decide) ?_
  refine lv_istore (lv' := [(4, .int 0), (0, .ref o), (1, .int rv), (2, .int pv), (3, .int nv2)]) hx hb d_D_squares_10 hl (by decide) rfl (fun ls hl => ?_)
  exact loop (w4 nv2 % 16 + 2) 0 M1 H locs ls (by omega) (by omega) (fun q h => k1.out (h 5 (by decide))) m1 x1.1 x1.2.1 hW (lv_sub hl [0, 1, 2, 3, 4] rfl)
set_option maxHeartbeats 4000000 in
set_option maxRecDepth 100000 in
/-- Model.word -/
theorem c_D_word (l : Launch) (g : wg) (o : Nat) (A : Nat → Nat) (rv av : Int32) (X Lw : Nat → Nat) (M : Mm) (hD : Dv g o A) (hM : MI M A X Lw) : Ct l y_D_word b_D_word 4 (some .int) 0 0 g [.ref o, .int rv, .int av] M (fun r M' => (∃ v : Int32, r = some (.int v) ∧ w4 v = X (w4 rv % 4) / 4294967296 ^ (w4 av % 8) % 4294967296) ∧ dfr M M' A ∧ M' = M) := by
  refine Ct.of rfl (Nat.le_of_ble_eq_true rfl) (fun p e s m args below meth c H ls Q E K hQ hW hl => ?_)
  have hx := E.1
  have hb := E.2.1
  have hown := E.2.2.2.2.1
  have hts := E.2.2.2.2.2.1
  have hl : lv_has ls 4 [(0, .ref o), (1, .int rv), (2, .int av)] := hl
  have hr4 := r4 rv
  have ha8 : w4 av % 8 < 8 := Nat.mod_lt _ (by decide)
  refine lv_iload_n hx hb d_D_word_0 rfl (lv_at hl 1 rfl) ?_
  refine lv_iconst (v := 3) hx hb d_D_word_1 (by decide) ?_
  refine lv_iand hx hb d_D_word_2 ?_
  refine lv_bipush (v := 16) hx hb d_D_word_3 (by decide) ?_
  refine lv_imul hx hb d_D_word_5 ?_
  refine lv_iload_n hx hb d_D_word_6 rfl (lv_at hl 2 rfl) ?_
  refine lv_bipush (v := 7) hx hb d_D_word_7 (by decide) ?_
  refine lv_iand hx hb d_D_word_9 ?_
  refine lv_iconst (v := 2) hx hb d_D_word_10 (by decide) ?_
  refine lv_imul hx hb d_D_word_11 ?_
  refine lv_iadd hx hb d_D_word_12 ?_
  refine lv_topi (fun iv eiv => ?_)
  refine lv_istore_n (lv' := [(3, .int iv), (0, .ref o), (1, .int rv), (2, .int av)]) hx hb d_D_word_13 rfl hl (by decide) rfl (fun ls hl => ?_)
  have ei : iv = nI (w4 rv % 4 * 16 + 2 * (w4 av % 8)) := by
    rw [eiv, pk_and rv 2 (by decide), pk_and av 3 (by decide), show (16 : Int32) = nI 16 from rfl, show (2 : Int32) = nI 2 from rfl, pk_mul, pk_mul, nI_add]
    show nI (w4 rv % 4 * 16 + w4 av % 8 * 2) = _
    congr 1; omega
  refine lv_aload_n hx hb d_D_word_14 rfl (lv_at hl 1 rfl) ?_
  refine wd_get E K hW hD.1 rfl i_D 0 (by decide) k_183 rfl d_D_word_15 ?_
  refine lv_iload_n hx hb d_D_word_18 rfl (lv_at hl 0 rfl) ?_
  refine wd_ld E K hW hD.k0 (w4 rv % 4 * 16 + 2 * (w4 av % 8)) ei (by omega) d_D_word_19 ?_
  refine lv_aload_n hx hb d_D_word_20 rfl (lv_at hl 1 rfl) ?_
  refine wd_get E K hW hD.1 rfl i_D 0 (by decide) k_183 rfl d_D_word_21 ?_
  refine lv_iload_n hx hb d_D_word_24 rfl (lv_at hl 0 rfl) ?_
  refine lv_iconst (v := 1) hx hb d_D_word_25 (by decide) ?_
  refine lv_iadd hx hb d_D_word_26 ?_
  refine wd_ld E K hW hD.k0 (w4 rv % 4 * 16 + (2 * (w4 av % 8) + 1)) (by rw [ei, nI_1]; congr 1) (by omega) d_D_word_27 ?_
  refine lv_bipush (v := 16) hx hb d_D_word_28 (by decide) ?_
  refine lv_ishl hx hb d_D_word_30 ?_
  refine lv_ior hx hb d_D_word_31 ?_
  refine lv_topi (fun wv ewv => ?_)
  obtain ⟨h1, h2, h3⟩ := hM.2.1 _ (r4 rv)
  exact ct_i E hQ hW d_D_word_32 ⟨⟨wv, rfl, word_dig h2 h3 ha8 ewv⟩, fun _ _ => rfl, rfl⟩
set_option maxHeartbeats 4000000 in
set_option maxRecDepth 100000 in
/-- Model.carry -/
theorem c_D_carry (l : Launch) (g : wg) (o : Nat) (A : Nat → Nat) (rv wv : Int32) (X Lw : Nat → Nat) (M : Mm) (hD : Dv g o A) (hM : MI M A X Lw) : Ct l y_D_carry b_D_carry 4 none 2 52 g [.ref o, .int rv, .int wv] M (fun r M' => r = none ∧ dfr M M' A ∧ MI M' A (va_up X (w4 rv % 4) ((X (w4 rv % 4) + w4 wv * ON) % PP)) Lw) := by
  refine Ct.of rfl (Nat.le_of_ble_eq_true rfl) (fun p e s m args below meth c H ls Q E K hQ hW hl => ?_)
  have hx := E.1
  have hb := E.2.1
  have hown := E.2.2.2.2.1
  have hts := E.2.2.2.2.2.1
  have hl : lv_has ls 4 [(0, .ref o), (1, .int rv), (2, .int wv)] := hl
  refine lv_aload_n hx hb d_D_carry_0 rfl (lv_at hl 0 rfl) ?_
  refine lv_aload_n hx hb d_D_carry_1 rfl (lv_at hl 0 rfl) ?_
  refine wd_get E K hW hD.1 rfl i_D 5 (by decide) k_188 rfl d_D_carry_2 ?_
  refine lv_iload_n hx hb d_D_carry_5 rfl (lv_at hl 1 rfl) ?_
  refine ct_V E K hW hl.1 hD.1 rfl (c_D_take l g o A (A 5) rv M hD hD.k5 (hD.ne 5 0)) k_247 k_3 k_244 k_246 k_1004 2 (by decide +kernel) rfl (by decide) rfl (Nat.le_of_ble_eq_true rfl) ⟨Nat.zero_le _, Nat.zero_le _⟩ d_D_carry_6 (fun r M1 H locs hq hW => ?_)
  obtain ⟨rfl, k1, t1⟩ := hq
  refine W.eq (g2 := F0 m 9 ls []) rfl ?_
  have x1 := hM.tk t1
  have m1 := hM.kept (k1.out (hD.ne 0 5)) (k1.out (hD.ne 1 5)) (k1.out (hD.ne 2 5))
  have loop2 : ∀ (d2 i : Nat) (M3 : Mm) (H : Heap) (locs : List Loc) (ls : Array Slot), i ≤ 256 → 256 + 1 ≤ i + d2 → dfr M M3 A → MI M3 A X Lw → M3 (A 5) = M1 (A 5) → dg (M3 (A 6)) 16 → V16 (M3 (A 6)) = w4 wv * 2 ^ i % PP → wd g H locs M3 → lv_has ls 4 [(3, .int (nI i)), (0, .ref o), (1, .int rv), (2, .int wv)] → W p l e (rmm 2 52) s m args below meth c H locs 0 0 Q (F0 m 52 ls []) := by
    intro d2
    induction d2 with
    | zero => intro i M3 H locs ls h1 h2; exact absurd h2 (by omega)
    | succ d2 ih2 =>
      intro i M3 H locs ls h1 h2 hf hm hx5 hd hv hW hl
      refine lv_iload_n hx hb d_D_carry_52 rfl (lv_at hl 0 rfl) ?_
      refine lv_sipush (v := 256) hx hb d_D_carry_53 (by decide) ?_
      refine lv_icmp_ge (tgt := 81) hx hb d_D_carry_56 (by decide) (fun c1 => ?_) (fun c1 => ?_)
      · have c2 := (nI_leI (a := 256) (b := i) (by decide) (by omega)).mp c1
        obtain rfl : i = 256 := by omega
        have yl : V16 (M3 (A 6)) < PP := by rw [hv]; exact Nat.mod_lt _ (by decide)
        refine lv_aload_n hx hb d_D_carry_81 rfl (lv_at hl 1 rfl) ?_
        refine lv_aload_n hx hb d_D_carry_82 rfl (lv_at hl 1 rfl) ?_
        refine wd_get E K hW hD.1 rfl i_D 5 (by decide) k_188 rfl d_D_carry_83 ?_
        refine lv_aload_n hx hb d_D_carry_86 rfl (lv_at hl 1 rfl) ?_
        refine wd_get E K hW hD.1 rfl i_D 5 (by decide) k_188 rfl d_D_carry_87 ?_
        refine lv_aload_n hx hb d_D_carry_90 rfl (lv_at hl 1 rfl) ?_
        refine wd_get E K hW hD.1 rfl i_D 6 (by decide) k_189 rfl d_D_carry_91 ?_
        refine ct_V E K hW hl.1 hD.1 rfl (c_D_plus l g o A (A 5) (A 5) (A 6) M3 hD hm.1 hD.k5 hD.k5 hD.k6 (hD.ne 4 5) (hD.ne 2 5) (hD.ne 5 4) (hD.ne 6 4) (by rw [hx5]; exact x1.1) hd (by rw [hx5]; exact x1.2.2) yl) k_251 k_3 k_248 k_250 k_1005 3 (by decide +kernel) rfl (by decide) rfl (Nat.le_of_ble_eq_true rfl) ⟨Nat.zero_le _, Nat.zero_le _⟩ d_D_carry_94 (fun r M4 H locs hq hW => ?_)
        obtain ⟨rfl, f4, d4, e4⟩ := hq
        refine W.eq (g2 := F0 m 97 ls []) rfl ?_
        have m4 := hm.kept (f4 _ (hD.ne 0 5) (hD.ne 0 4)) (f4 _ (hD.ne 1 5) (hD.ne 1 4)) (f4 _ (hD.ne 2 5) (hD.ne 2 4))
        rw [hx5, x1.2.1, hv, show (2 : Nat) ^ 256 = TT from rfl, TT_ON] at e4
        refine lv_aload_n hx hb d_D_carry_97 rfl (lv_at hl 1 rfl) ?_
        refine lv_iload_n hx hb d_D_carry_98 rfl (lv_at hl 2 rfl) ?_
        refine lv_aload_n hx hb d_D_carry_99 rfl (lv_at hl 1 rfl) ?_
        refine wd_get E K hW hD.1 rfl i_D 5 (by decide) k_188 rfl d_D_carry_100 ?_
        refine ct_V E K hW hl.1 hD.1 rfl (c_D_give l g o A rv (A 5) M4 hD hD.k5 (hD.ne 5 0)) k_235 k_3 k_232 k_234 k_1003 2 (by decide +kernel) rfl (by decide) rfl (Nat.le_of_ble_eq_true rfl) ⟨Nat.zero_le _, Nat.zero_le _⟩ d_D_carry_103 (fun r M5 H locs hq hW => ?_)
        obtain ⟨rfl, g5, c5, u5⟩ := hq
        refine W.eq (g2 := F0 m 106 ls []) rfl ?_
        have mg := m4.gv (hD.ne 1 0) (hD.ne 2 0) g5 c5 u5 d4 e4 (Nat.mod_lt _ (by decide))
        exact ct_v E hQ hW d_D_carry_106 ⟨rfl, fun q h => (g5 _ (h 0 (by decide))).trans ((f4 _ (h 5 (by decide)) (h 4 (by decide))).trans (hf q h)), mg⟩
      · have c2 : i < 256 := Nat.not_le.mp (fun z => c1 ((nI_leI (a := 256) (b := i) (by decide) (by omega)).mpr z))
        have yl : V16 (M3 (A 6)) < PP := by rw [hv]; exact Nat.mod_lt _ (by decide)
        refine lv_aload_n hx hb d_D_carry_59 rfl (lv_at hl 1 rfl) ?_
        refine lv_aload_n hx hb d_D_carry_60 rfl (lv_at hl 1 rfl) ?_
        refine wd_get E K hW hD.1 rfl i_D 6 (by decide) k_189 rfl d_D_carry_61 ?_
        refine lv_aload_n hx hb d_D_carry_64 rfl (lv_at hl 1 rfl) ?_
        refine wd_get E K hW hD.1 rfl i_D 6 (by decide) k_189 rfl d_D_carry_65 ?_
        refine lv_aload_n hx hb d_D_carry_68 rfl (lv_at hl 1 rfl) ?_
        refine wd_get E K hW hD.1 rfl i_D 6 (by decide) k_189 rfl d_D_carry_69 ?_
        refine ct_V E K hW hl.1 hD.1 rfl (c_D_plus l g o A (A 6) (A 6) (A 6) M3 hD hm.1 hD.k6 hD.k6 hD.k6 (hD.ne 4 6) (hD.ne 2 6) (hD.ne 6 4) (hD.ne 6 4) hd hd yl yl) k_251 k_3 k_248 k_250 k_1005 3 (by decide +kernel) rfl (by decide) rfl (Nat.le_of_ble_eq_true rfl) ⟨Nat.zero_le _, Nat.zero_le _⟩ d_D_carry_72 (fun r M4 H locs hq hW => ?_)
        obtain ⟨rfl, f4, d4, e4⟩ := hq
        refine W.eq (g2 := F0 m 75 ls []) rfl ?_
        have m4 := hm.kept (f4 _ (hD.ne 0 6) (hD.ne 0 4)) (f4 _ (hD.ne 1 6) (hD.ne 1 4)) (f4 _ (hD.ne 2 6) (hD.ne 2 4))
        rw [hv, ← Nat.add_mod] at e4
        refine lv_iinc (v := (nI (i + 1))) (lv' := [(3, .int (nI (i + 1))), (0, .ref o), (1, .int rv), (2, .int wv)]) hx hb d_D_carry_75 hl (k := 0) rfl (nI_1 _) (by decide) rfl (fun ls hl => ?_)
        refine lv_goto (tgt := 52) hx hb d_D_carry_78 (by decide) ?_
        refine ih2 (i + 1) M4 H locs ls (by omega) (by omega) (fun q h => (f4 _ (h 6 (by decide)) (h 4 (by decide))).trans (hf q h)) m4 ((f4 _ (hD.ne 5 6) (hD.ne 5 4)).trans hx5) d4 ?_ hW (lv_sub hl [0, 1, 2, 3] rfl)
        rw [e4, Nat.pow_succ, ← Nat.mul_assoc, Nat.mul_two]
  have loop : ∀ (d i : Nat) (M2 : Mm) (H : Heap) (locs : List Loc) (ls : Array Slot), i ≤ 16 → 16 + 1 ≤ i + d → kp M1 M2 (A 6) i → (∀ j, j < i → M2 (A 6) j = 0) → wd g H locs M2 → lv_has ls 4 [(3, .int (nI i)), (0, .ref o), (1, .int rv), (2, .int wv)] → W p l e (rmm 2 52) s m args below meth c H locs 0 0 Q (F0 m 11 ls []) := by
    intro d
    induction d with
    | zero => intro i M2 H locs ls h1 h2; exact absurd h2 (by omega)
    | succ d ih =>
      intro i M2 H locs ls h1 h2 hk hI hW hl
      refine lv_iload_n hx hb d_D_carry_11 rfl (lv_at hl 0 rfl) ?_
      refine lv_bipush (v := 16) hx hb d_D_carry_12 (by decide) ?_
      refine lv_icmp_ge (tgt := 30) hx hb d_D_carry_14 (by decide) (fun c1 => ?_) (fun c1 => ?_)
      · have c2 := (nI_leI (a := 16) (b := i) (by decide) (by omega)).mp c1
        obtain rfl : i = 16 := by omega
        refine lv_aload_n hx hb d_D_carry_30 rfl (lv_at hl 1 rfl) ?_
        refine wd_get E K hW hD.1 rfl i_D 6 (by decide) k_189 rfl d_D_carry_31 ?_
        refine lv_iconst (v := 0) hx hb d_D_carry_34 (by decide) ?_
        refine lv_iload_n hx hb d_D_carry_35 rfl (lv_at hl 3 rfl) ?_
        refine lv_ldc hx hb hown (hts _ k_181) d_D_carry_36 ?_
        refine lv_iand hx hb d_D_carry_38 ?_
        refine lv_topi (fun y0 ey0 => ?_)
        refine wd_st E K hW hD.k6 0 (by decide) (by decide) d_D_carry_39 (fun H locs hW => ?_)
        refine lv_aload_n hx hb d_D_carry_40 rfl (lv_at hl 1 rfl) ?_
        refine wd_get E K hW hD.1 rfl i_D 6 (by decide) k_189 rfl d_D_carry_41 ?_
        refine lv_iconst (v := 1) hx hb d_D_carry_44 (by decide) ?_
        refine lv_iload_n hx hb d_D_carry_45 rfl (lv_at hl 3 rfl) ?_
        refine lv_bipush (v := 16) hx hb d_D_carry_46 (by decide) ?_
        refine lv_iushr hx hb d_D_carry_48 rfl ?_
        refine lv_topi (fun y1 ey1 => ?_)
        refine wd_st E K hW hD.k6 1 (by decide) (by decide) d_D_carry_49 (fun H locs hW => ?_)
        have hwl := w4_lt wv
        have z0 : w4 y0 = w4 wv % 65536 := by rw [ey0]; exact w4_and wv 65535 16 (by decide) (by decide)
        have z1 : w4 y1 = w4 wv / 65536 := by rw [ey1]; exact pk_ushr wv 16 16 (by decide)
        obtain ⟨M3, eM⟩ : ∃ M3, M3 = (mst (mst M2 (A 6) 0 y0) (A 6) 1 y1) := ⟨_, rfl⟩
        rw [← eM] at hW
        have o3 : ∀ q, q ≠ A 6 → M3 q = M1 q := fun q h => by rw [eM, mst_out h, mst_out h, hk.out h]
        have b0 : M3 (A 6) 0 = y0 := by rw [eM, mst_ne (fun _ => by decide), mst_at]
        have b1 : M3 (A 6) 1 = y1 := by rw [eM, mst_at]
        have bj : ∀ j, 1 < j → j < 16 → M3 (A 6) j = 0 := fun j h1 h2 => by rw [eM, mst_ne (fun _ => by omega), mst_ne (fun _ => by omega)]; exact hI j h2
        have dy : dg (M3 (A 6)) 16 := fun j hj => by
          rcases (show j = 0 ∨ j = 1 ∨ 1 < j by omega) with rfl | rfl | h9
          · rw [b0, z0]; omega
          · rw [b1, z1]; omega
          · rw [bj j h9 hj]; decide
        have vy : V16 (M3 (A 6)) = w4 wv := by rw [V16, vN_two (by decide) bj, b0, b1, z0, z1]; omega
        refine lv_iconst (v := 0) hx hb d_D_carry_50 (by decide) ?_
        refine lv_istore_n (lv' := [(3, .int 0), (0, .ref o), (1, .int rv), (2, .int wv)]) hx hb d_D_carry_51 rfl hl (by decide) rfl (fun ls hl => ?_)
        refine loop2 257 0 M3 H locs ls (by omega) (by omega) (fun q h => (o3 q (h 6 (by decide))).trans (k1.out (h 5 (by decide)))) (m1.kept (o3 _ (hD.ne 0 6)) (o3 _ (hD.ne 1 6)) (o3 _ (hD.ne 2 6))) (o3 _ (hD.ne 5 6)) dy ?_ hW (lv_sub hl [0, 1, 2, 3] rfl)
        rw [vy, Nat.pow_zero, Nat.mul_one, Nat.mod_eq_of_lt (Nat.lt_of_lt_of_le hwl (by decide))]
      · have c2 : i < 16 := Nat.not_le.mp (fun z => c1 ((nI_leI (a := 16) (b := i) (by decide) (by omega)).mpr z))
        refine lv_aload_n hx hb d_D_carry_17 rfl (lv_at hl 1 rfl) ?_
        refine wd_get E K hW hD.1 rfl i_D 6 (by decide) k_189 rfl d_D_carry_18 ?_
        refine lv_iload_n hx hb d_D_carry_21 rfl (lv_at hl 0 rfl) ?_
        refine lv_iconst (v := 0) hx hb d_D_carry_22 (by decide) ?_
        refine wd_st E K hW hD.k6 i rfl (by omega) d_D_carry_23 (fun H locs hW => ?_)
        refine lv_iinc (v := (nI (i + 1))) (lv' := [(3, .int (nI (i + 1))), (0, .ref o), (1, .int rv), (2, .int wv)]) hx hb d_D_carry_24 hl (k := 0) rfl (nI_1 _) (by decide) rfl (fun ls hl => ?_)
        refine lv_goto (tgt := 11) hx hb d_D_carry_27 (by decide) ?_
        refine ih (i + 1) _ H locs ls (by omega) (by omega) (hk.st _) (fun j hj => ?_) hW hl
        by_cases hji : j = i
        · subst hji; rw [mst_at]
        · rw [mst_ne (fun _ => hji)]; exact hI j (by omega)
  refine lv_iconst (v := 0) hx hb d_D_carry_9 (by decide) ?_
  refine lv_istore_n (lv' := [(3, .int 0), (0, .ref o), (1, .int rv), (2, .int wv)]) hx hb d_D_carry_10 rfl hl (by decide) rfl (fun ls hl => ?_)
  exact loop 17 0 M1 H locs ls (by omega) (by omega) kp.rf (fun j hj => absurd hj (by omega)) hW (lv_sub hl [0, 1, 2, 3] rfl)
set_option maxHeartbeats 4000000 in
set_option maxRecDepth 100000 in
/-- Model.halve -/
theorem c_D_halve (l : Launch) (g : wg) (o : Nat) (A : Nat → Nat) (rv pv : Int32) (X Lw : Nat → Nat) (M : Mm) (hD : Dv g o A) (hM : MI M A X Lw) : Ct l y_D_halve b_D_halve 7 none 1 23 g [.ref o, .int rv, .int pv] M (fun r M' => r = none ∧ dfr M M' A ∧ MI M' A (va_up X (w4 rv % 4) ((if X (w4 pv % 4) % 2 = 1 then X (w4 pv % 4) + PP else X (w4 pv % 4)) / 2)) Lw) := by
  refine Ct.of rfl (Nat.le_of_ble_eq_true rfl) (fun p e s m args below meth c H ls Q E K hQ hW hl => ?_)
  have hx := E.1
  have hb := E.2.1
  have hown := E.2.2.2.2.1
  have hts := E.2.2.2.2.2.1
  have hl : lv_has ls 7 [(0, .ref o), (1, .int rv), (2, .int pv)] := hl
  refine lv_aload_n hx hb d_D_halve_0 rfl (lv_at hl 0 rfl) ?_
  refine lv_aload_n hx hb d_D_halve_1 rfl (lv_at hl 0 rfl) ?_
  refine wd_get E K hW hD.1 rfl i_D 5 (by decide) k_188 rfl d_D_halve_2 ?_
  refine lv_iload_n hx hb d_D_halve_5 rfl (lv_at hl 2 rfl) ?_
  refine ct_V E K hW hl.1 hD.1 rfl (c_D_take l g o A (A 5) pv M hD hD.k5 (hD.ne 5 0)) k_247 k_3 k_244 k_246 k_1004 2 (by decide +kernel) rfl (by decide) rfl (Nat.le_of_ble_eq_true rfl) ⟨Nat.zero_le _, Nat.zero_le _⟩ d_D_halve_6 (fun r M1 H locs hq hW => ?_)
  obtain ⟨rfl, k1, t1⟩ := hq
  refine W.eq (g2 := F0 m 9 ls []) rfl ?_
  have x1 := hM.tk t1
  have m1 := hM.kept (k1.out (hD.ne 0 5)) (k1.out (hD.ne 1 5)) (k1.out (hD.ne 2 5))
  have dp := qW_dg hM.1
  have vp : vN 65536 (M (A 2)) 16 = PP := V16_qW hM.1
  have p1 : M1 (A 2) = M (A 2) := k1.out (hD.ne 2 5)
  have hXl := (hM.2.1 _ (r4 pv)).1
  have par := vN_low16 (M1 (A 5)) 15
  rw [show vN 65536 (M1 (A 5)) (15 + 1) = X (w4 pv % 4) from x1.2.1] at par
  have fin : ∀ (S : Nat) (M2 : Mm) (H : Heap) (locs : List Loc) (ls : Array Slot), (∀ q, q ≠ A 4 → M2 q = M1 q) → dg (M2 (A 4)) 17 → V17 (M2 (A 4)) = S → S % 2 = 0 → S < 2 * PP → S = (if X (w4 pv % 4) % 2 = 1 then X (w4 pv % 4) + PP else X (w4 pv % 4)) → wd g H locs M2 → lv_has ls 7 [(0, .ref o), (1, .int rv), (2, .int pv)] → W p l e (rmm 1 23) s m args below meth c H locs 0 0 Q (F0 m 99 ls []) := by
    intro S M2 H locs ls o2 d2 v2 hev hSl hSe hW hl
    have m2 := m1.kept (o2 _ (hD.ne 0 4)) (o2 _ (hD.ne 1 4)) (o2 _ (hD.ne 2 4))
    have loop3 : ∀ (d3 i : Nat) (M3 : Mm) (H : Heap) (locs : List Loc) (ls : Array Slot), i ≤ 16 → 16 + 1 ≤ i + d3 → kp M2 M3 (A 5) i → dg (M3 (A 5)) i → 2 * vN 65536 (M3 (A 5)) i + w4 (M2 (A 4) 0) % 2 = vN 65536 (M2 (A 4)) i + w4 (M2 (A 4) i) % 2 * 65536 ^ i → wd g H locs M3 → lv_has ls 7 [(5, .int (nI i)), (0, .ref o), (1, .int rv), (2, .int pv)] → W p l e (rmm 1 23) s m args below meth c H locs 0 0 Q (F0 m 102 ls []) := by
      intro d3
      induction d3 with
      | zero => intro i M3 H locs ls h1 h2; exact absurd h2 (by omega)
      | succ d3 ih3 =>
        intro i M3 H locs ls h1 h2 k3 hd hI hW hl
        refine lv_iload hx hb d_D_halve_102 (lv_at hl 0 rfl) ?_
        refine lv_bipush (v := 16) hx hb d_D_halve_104 (by decide) ?_
        refine lv_icmp_ge (tgt := 146) hx hb d_D_halve_106 (by decide) (fun c1 => ?_) (fun c1 => ?_)
        · have c2 := (nI_leI (a := 16) (b := i) (by decide) (by omega)).mp c1
          obtain rfl : i = 16 := by omega
          have m3 := m2.kept (k3.out (hD.ne 0 5)) (k3.out (hD.ne 1 5)) (k3.out (hD.ne 2 5))
          have v3 : V16 (M3 (A 5)) = S / 2 := dhalf_fin (vN_low16 (M2 (A 4)) 16) (vN_s 65536 (M2 (A 4)) 16) v2 hI hev hSl (d2 16 (by decide))
          rw [hSe] at v3
          refine lv_aload_n hx hb d_D_halve_146 rfl (lv_at hl 1 rfl) ?_
          refine lv_iload_n hx hb d_D_halve_147 rfl (lv_at hl 2 rfl) ?_
          refine lv_aload_n hx hb d_D_halve_148 rfl (lv_at hl 1 rfl) ?_
          refine wd_get E K hW hD.1 rfl i_D 5 (by decide) k_188 rfl d_D_halve_149 ?_
          refine ct_V E K hW hl.1 hD.1 rfl (c_D_give l g o A rv (A 5) M3 hD hD.k5 (hD.ne 5 0)) k_235 k_3 k_232 k_234 k_1003 2 (by decide +kernel) rfl (by decide) rfl (Nat.le_of_ble_eq_true rfl) ⟨Nat.zero_le _, Nat.zero_le _⟩ d_D_halve_152 (fun r M4 H locs hq hW => ?_)
          obtain ⟨rfl, g4, c4, u4⟩ := hq
          refine W.eq (g2 := F0 m 155 ls []) rfl ?_
          have mg := m3.gv (hD.ne 1 0) (hD.ne 2 0) g4 c4 u4 hd v3 (by rw [← hSe]; exact half_lt hSl)
          exact ct_v E hQ hW d_D_halve_155 ⟨rfl, fun q h => (g4 _ (h 0 (by decide))).trans ((k3.out (h 5 (by decide))).trans ((o2 q (h 4 (by decide))).trans (k1.out (h 5 (by decide))))), mg⟩
        · have c2 : i < 16 := Nat.not_le.mp (fun z => c1 ((nI_leI (a := 16) (b := i) (by decide) (by omega)).mpr z))
          refine lv_aload_n hx hb d_D_halve_109 rfl (lv_at hl 1 rfl) ?_
          refine wd_get E K hW hD.1 rfl i_D 5 (by decide) k_188 rfl d_D_halve_110 ?_
          refine lv_iload hx hb d_D_halve_113 (lv_at hl 0 rfl) ?_
          refine lv_aload_n hx hb d_D_halve_115 rfl (lv_at hl 1 rfl) ?_
          refine wd_get E K hW hD.1 rfl i_D 4 (by decide) k_187 rfl d_D_halve_116 ?_
          refine lv_iload hx hb d_D_halve_119 (lv_at hl 0 rfl) ?_
          refine wd_ld E K hW hD.k4 i rfl (by omega) d_D_halve_121 ?_
          refine lv_iconst (v := 1) hx hb d_D_halve_122 (by decide) ?_
          refine lv_ishr hx hb d_D_halve_123 ?_
          refine lv_aload_n hx hb d_D_halve_124 rfl (lv_at hl 1 rfl) ?_
          refine wd_get E K hW hD.1 rfl i_D 4 (by decide) k_187 rfl d_D_halve_125 ?_
          refine lv_iload hx hb d_D_halve_128 (lv_at hl 0 rfl) ?_
          refine lv_iconst (v := 1) hx hb d_D_halve_130 (by decide) ?_
          refine lv_iadd hx hb d_D_halve_131 ?_
          refine wd_ld E K hW hD.k4 (i + 1) (nI_1 i) (by omega) d_D_halve_132 ?_
          refine lv_iconst (v := 1) hx hb d_D_halve_133 (by decide) ?_
          refine lv_iand hx hb d_D_halve_134 ?_
          refine lv_bipush (v := 15) hx hb d_D_halve_135 (by decide) ?_
          refine lv_ishl hx hb d_D_halve_137 ?_
          refine lv_ior hx hb d_D_halve_138 ?_
          refine lv_topi (fun z ez => ?_)
          refine wd_st E K hW hD.k5 i rfl (by omega) d_D_halve_139 (fun H locs hW => ?_)
          refine lv_iinc (v := (nI (i + 1))) (lv' := [(5, .int (nI (i + 1))), (0, .ref o), (1, .int rv), (2, .int pv)]) hx hb d_D_halve_140 hl (k := 0) rfl (nI_1 _) (by decide) rfl (fun ls hl => ?_)
          refine lv_goto (tgt := 102) hx hb d_D_halve_143 (by decide) ?_
          rw [k3.out (hD.ne 4 5)] at ez
          obtain ⟨s1, s2⟩ := half_dig (d2 i (by omega)) ez
          refine ih3 (i + 1) _ H locs ls (by omega) (by omega) (k3.st _) (hd.st s1) ?_ hW (lv_sub hl [0, 1, 2, 3] rfl)
          rw [vN_mst, vN_s, Nat.pow_succ]
          exact num_half hI s2
    refine lv_iconst (v := 0) hx hb d_D_halve_99 (by decide) ?_
    refine lv_istore (lv' := [(5, .int 0), (0, .ref o), (1, .int rv), (2, .int pv)]) hx hb d_D_halve_100 hl (by decide) rfl (fun ls hl => ?_)
    exact loop3 17 0 M2 H locs ls (by omega) (by omega) kp.rf (fun j hj => absurd hj (by omega)) (by simp [vN_0]) hW (lv_sub hl [0, 1, 2, 3] rfl)
  have loop : ∀ (d i : Nat) (M2 : Mm) (H : Heap) (locs : List Loc) (cv ov : Int32) (ls : Array Slot), i ≤ 16 → 16 + 1 ≤ i + d → kp M1 M2 (A 4) i → dg (M2 (A 4)) i → (0 ≤ cv.toInt ∧ cv.toInt ≤ 1) → ((ov = 0 ∧ X (w4 pv % 4) % 2 = 0) ∨ (ov = 1 ∧ X (w4 pv % 4) % 2 = 1)) → ((vN 65536 (M2 (A 4)) i : Nat) : Int) + cv.toInt * ((65536 ^ i : Nat) : Int) = ((vN 65536 (M1 (A 5)) i : Nat) : Int) + (((if ov = 0 then 0 else vN 65536 (M1 (A 2)) i) : Nat) : Int) → wd g H locs M2 → lv_has ls 7 [(5, .int (nI i)), (3, .int cv), (4, .int ov), (0, .ref o), (1, .int rv), (2, .int pv)] → W p l e (rmm 1 23) s m args below meth c H locs 0 0 Q (F0 m 32 ls []) := by
    intro d
    induction d with
    | zero => intro i M2 H locs cv ov ls h1 h2; exact absurd h2 (by omega)
    | succ d ih =>
      intro i M2 H locs cv ov ls h1 h2 hk hd hc hov hI hW hl
      refine lv_iload hx hb d_D_halve_32 (lv_at hl 0 rfl) ?_
      refine lv_bipush (v := 16) hx hb d_D_halve_34 (by decide) ?_
      refine lv_icmp_ge (tgt := 91) hx hb d_D_halve_36 (by decide) (fun c1 => ?_) (fun c1 => ?_)
      · have c2 := (nI_leI (a := 16) (b := i) (by decide) (by omega)).mp c1
        obtain rfl : i = 16 := by omega
        obtain ⟨t1, t2⟩ := plus_top hI hc
        refine lv_aload_n hx hb d_D_halve_91 rfl (lv_at hl 3 rfl) ?_
        refine wd_get E K hW hD.1 rfl i_D 4 (by decide) k_187 rfl d_D_halve_92 ?_
        refine lv_bipush (v := 16) hx hb d_D_halve_95 (by decide) ?_
        refine lv_iload_n hx hb d_D_halve_97 rfl (lv_at hl 1 rfl) ?_
        refine wd_st E K hW hD.k4 16 (by decide) (by decide) d_D_halve_98 (fun H locs hW => ?_)
        have e17 : V17 (mst M2 (A 4) 16 cv (A 4)) = X (w4 pv % 4) + (if ov = 0 then 0 else PP) := by
          rw [V17, vN_mst, show vN 65536 (M2 (A 4)) 16 + w4 cv * 65536 ^ 16 = _ from t2, show vN 65536 (M1 (A 5)) 16 = X (w4 pv % 4) from x1.2.1, p1, vp]
        have ob9 : ∀ q, q ≠ A 4 → mst M2 (A 4) 16 cv q = M1 q := fun q h => by rw [mst_out h, hk.out h]
        rcases hov with ⟨rfl, h9⟩ | ⟨rfl, h9⟩
        · exact fin (X (w4 pv % 4)) _ H locs ls ob9 (hd.st t1) (by rw [e17, if_pos rfl]; rfl) h9 (dh_lt hXl) (by rw [if_neg (by rw [h9]; decide)]) hW (lv_sub hl [3, 4, 5] rfl)
        · exact fin (X (w4 pv % 4) + PP) _ H locs ls ob9 (hd.st t1) (by rw [e17, if_neg (by decide)]) (half_odd2 h9) (sum_lt2b hXl) (by rw [if_pos h9]) hW (lv_sub hl [3, 4, 5] rfl)
      · have c2 : i < 16 := Nat.not_le.mp (fun z => c1 ((nI_leI (a := 16) (b := i) (by decide) (by omega)).mpr z))
        refine lv_aload_n hx hb d_D_halve_39 rfl (lv_at hl 3 rfl) ?_
        refine wd_get E K hW hD.1 rfl i_D 5 (by decide) k_188 rfl d_D_halve_40 ?_
        refine lv_iload hx hb d_D_halve_43 (lv_at hl 0 rfl) ?_
        refine wd_ld E K hW hD.k5 i rfl (by omega) d_D_halve_45 ?_
        refine lv_iload hx hb d_D_halve_46 (lv_at hl 2 rfl) ?_
        refine lv_if_eq (tgt := 61) hx hb d_D_halve_48 (by decide) (fun c3 => ?_) (fun c3 => ?_)
        · refine lv_iconst (v := 0) hx hb d_D_halve_61 (by decide) ?_
          refine lv_iadd hx hb d_D_halve_62 ?_
          refine lv_iload_n hx hb d_D_halve_63 rfl (lv_at hl 1 rfl) ?_
          refine lv_iadd hx hb d_D_halve_64 ?_
          refine lv_topi (fun v ev => ?_)
          refine lv_istore (lv' := [(6, .int v), (5, .int (nI i)), (3, .int cv), (4, .int ov), (0, .ref o), (1, .int rv), (2, .int pv)]) hx hb d_D_halve_65 hl (by decide) rfl (fun ls hl => ?_)
          refine lv_aload_n hx hb d_D_halve_67 rfl (lv_at hl 4 rfl) ?_
          refine wd_get E K hW hD.1 rfl i_D 4 (by decide) k_187 rfl d_D_halve_68 ?_
          refine lv_iload hx hb d_D_halve_71 (lv_at hl 1 rfl) ?_
          refine lv_iload hx hb d_D_halve_73 (lv_at hl 0 rfl) ?_
          refine lv_ldc hx hb hown (hts _ k_181) d_D_halve_75 ?_
          refine lv_iand hx hb d_D_halve_77 ?_
          refine lv_topi (fun z ez => ?_)
          refine wd_st E K hW hD.k4 i rfl (by omega) d_D_halve_78 (fun H locs hW => ?_)
          refine lv_iload hx hb d_D_halve_79 (lv_at hl 0 rfl) ?_
          refine lv_bipush (v := 16) hx hb d_D_halve_81 (by decide) ?_
          refine lv_ishr hx hb d_D_halve_83 ?_
          refine lv_topi (fun c2v ec2v => ?_)
          refine lv_istore_n (lv' := [(3, .int c2v), (6, .int v), (5, .int (nI i)), (4, .int ov), (0, .ref o), (1, .int rv), (2, .int pv)]) hx hb d_D_halve_84 rfl hl (by decide) rfl (fun ls hl => ?_)
          refine lv_iinc (v := (nI (i + 1))) (lv' := [(5, .int (nI (i + 1))), (3, .int c2v), (6, .int v), (4, .int ov), (0, .ref o), (1, .int rv), (2, .int pv)]) hx hb d_D_halve_85 hl (k := 2) rfl (nI_1 _) (by decide) rfl (fun ls hl => ?_)
          refine lv_goto (tgt := 32) hx hb d_D_halve_88 (by decide) ?_
          rw [hk (A 5) i (fun z => absurd z (hD.ne 5 4))] at ev
          obtain ⟨s1, s2, s3⟩ := add_dig (x1.1 i c2) (by decide : w4 0 < 65536) hc ev ez ec2v
          rw [if_pos c3] at hI
          refine ih (i + 1) _ H locs c2v ov ls (by omega) (by omega) (hk.st _) (hd.st s1) s3 hov ?_ hW (lv_sub hl [0, 1, 3, 4, 5, 6] rfl)
          rw [if_pos c3, vN_mst, vN_s, Nat.pow_succ]
          have h9 := num_iadd hI s2
          rw [w4_0, Nat.zero_mul, Nat.add_zero] at h9
          exact h9
        · refine lv_aload_n hx hb d_D_halve_51 rfl (lv_at hl 3 rfl) ?_
          refine wd_get E K hW hD.1 rfl i_D 2 (by decide) k_185 rfl d_D_halve_52 ?_
          refine lv_iload hx hb d_D_halve_55 (lv_at hl 0 rfl) ?_
          refine wd_ld E K hW hD.k2 i rfl (by omega) d_D_halve_57 ?_
          refine lv_goto (tgt := 62) hx hb d_D_halve_58 (by decide) ?_
          refine lv_iadd hx hb d_D_halve_62 ?_
          refine lv_iload_n hx hb d_D_halve_63 rfl (lv_at hl 1 rfl) ?_
          refine lv_iadd hx hb d_D_halve_64 ?_
          refine lv_topi (fun v ev => ?_)
          refine lv_istore (lv' := [(6, .int v), (5, .int (nI i)), (3, .int cv), (4, .int ov), (0, .ref o), (1, .int rv), (2, .int pv)]) hx hb d_D_halve_65 hl (by decide) rfl (fun ls hl => ?_)
          refine lv_aload_n hx hb d_D_halve_67 rfl (lv_at hl 4 rfl) ?_
          refine wd_get E K hW hD.1 rfl i_D 4 (by decide) k_187 rfl d_D_halve_68 ?_
          refine lv_iload hx hb d_D_halve_71 (lv_at hl 1 rfl) ?_
          refine lv_iload hx hb d_D_halve_73 (lv_at hl 0 rfl) ?_
          refine lv_ldc hx hb hown (hts _ k_181) d_D_halve_75 ?_
          refine lv_iand hx hb d_D_halve_77 ?_
          refine lv_topi (fun z ez => ?_)
          refine wd_st E K hW hD.k4 i rfl (by omega) d_D_halve_78 (fun H locs hW => ?_)
          refine lv_iload hx hb d_D_halve_79 (lv_at hl 0 rfl) ?_
          refine lv_bipush (v := 16) hx hb d_D_halve_81 (by decide) ?_
          refine lv_ishr hx hb d_D_halve_83 ?_
          refine lv_topi (fun c2v ec2v => ?_)
          refine lv_istore_n (lv' := [(3, .int c2v), (6, .int v), (5, .int (nI i)), (4, .int ov), (0, .ref o), (1, .int rv), (2, .int pv)]) hx hb d_D_halve_84 rfl hl (by decide) rfl (fun ls hl => ?_)
          refine lv_iinc (v := (nI (i + 1))) (lv' := [(5, .int (nI (i + 1))), (3, .int c2v), (6, .int v), (4, .int ov), (0, .ref o), (1, .int rv), (2, .int pv)]) hx hb d_D_halve_85 hl (k := 2) rfl (nI_1 _) (by decide) rfl (fun ls hl => ?_)
          refine lv_goto (tgt := 32) hx hb d_D_halve_88 (by decide) ?_
          rw [hk (A 5) i (fun z => absurd z (hD.ne 5 4)), hk (A 2) i (fun z => absurd z (hD.ne 2 4))] at ev
          obtain ⟨s1, s2, s3⟩ := add_dig (x1.1 i c2) (by rw [p1]; exact dp i c2) hc ev ez ec2v
          rw [if_neg c3] at hI
          refine ih (i + 1) _ H locs c2v ov ls (by omega) (by omega) (hk.st _) (hd.st s1) s3 hov ?_ hW (lv_sub hl [0, 1, 3, 4, 5, 6] rfl)
          rw [if_neg c3, vN_mst, vN_s, vN_s, Nat.pow_succ]
          exact num_iadd hI s2
  refine lv_iconst (v := 0) hx hb d_D_halve_9 (by decide) ?_
  refine lv_istore_n (lv' := [(3, .int 0), (0, .ref o), (1, .int rv), (2, .int pv)]) hx hb d_D_halve_10 rfl hl (by decide) rfl (fun ls hl => ?_)
  refine lv_aload_n hx hb d_D_halve_11 rfl (lv_at hl 1 rfl) ?_
  refine wd_get E K hW hD.1 rfl i_D 5 (by decide) k_188 rfl d_D_halve_12 ?_
  refine lv_iconst (v := 0) hx hb d_D_halve_15 (by decide) ?_
  refine wd_ld E K hW hD.k5 0 (by decide) (by decide) d_D_halve_16 ?_
  refine lv_iconst (v := 1) hx hb d_D_halve_17 (by decide) ?_
  refine lv_iand hx hb d_D_halve_18 ?_
  refine lv_if_eq (tgt := 26) hx hb d_D_halve_19 (by decide) (fun c0 => ?_) (fun c0 => ?_)
  · have pe : X (w4 pv % 4) % 2 = 0 := by rw [par]; exact (bitEven _).mp c0
    refine lv_iconst (v := 0) hx hb d_D_halve_26 (by decide) ?_
    refine lv_istore (lv' := [(4, .int 0), (3, .int 0), (0, .ref o), (1, .int rv), (2, .int pv)]) hx hb d_D_halve_27 hl (by decide) rfl (fun ls hl => ?_)
    refine lv_iconst (v := 0) hx hb d_D_halve_29 (by decide) ?_
    refine lv_istore (lv' := [(5, .int 0), (4, .int 0), (3, .int 0), (0, .ref o), (1, .int rv), (2, .int pv)]) hx hb d_D_halve_30 hl (by decide) rfl (fun ls hl => ?_)
    exact loop 17 0 M1 H locs 0 0 ls (by omega) (by omega) kp.rf (fun j hj => absurd hj (by omega)) (by decide) (Or.inl ⟨rfl, pe⟩) (by simp [vN_0]) hW (lv_sub hl [0, 2, 1, 3, 4, 5] rfl)
  · have pe : X (w4 pv % 4) % 2 = 1 := by rw [par]; exact bit1 (fun z => c0 ((bitEven _).mpr z))
    refine lv_iconst (v := 1) hx hb d_D_halve_22 (by decide) ?_
    refine lv_goto (tgt := 27) hx hb d_D_halve_23 (by decide) ?_
    refine lv_istore (lv' := [(4, .int 1), (3, .int 0), (0, .ref o), (1, .int rv), (2, .int pv)]) hx hb d_D_halve_27 hl (by decide) rfl (fun ls hl => ?_)
    refine lv_iconst (v := 0) hx hb d_D_halve_29 (by decide) ?_
    refine lv_istore (lv' := [(5, .int 0), (4, .int 1), (3, .int 0), (0, .ref o), (1, .int rv), (2, .int pv)]) hx hb d_D_halve_30 hl (by decide) rfl (fun ls hl => ?_)
    exact loop 17 0 M1 H locs 0 1 ls (by omega) (by omega) kp.rf (fun j hj => absurd hj (by omega)) (by decide) (Or.inr ⟨rfl, pe⟩) (by simp [vN_0]) hW (lv_sub hl [0, 2, 1, 3, 4, 5] rfl)
end
section
/-! the reference's line, load, invert: plain numbers -/
theorem ix8 (hv : Int32) {k : Nat} {c : Int32} (hc : c = nI (2 * k)) : (hv &&& 1) * 8 + c = nI (w4 hv % 2 * 8 + 2 * k) := by
  rw [pk_and hv 1 (by decide), show (8 : Int32) = nI 8 from rfl, pk_mul, hc, nI_add]
  rfl
theorem MI.ln {M : Mm} {A X Lw : Nat → Nat} {hh k : Nat} {wv y0 y1 : Int32} (h : MI M A X Lw) (n0 : A 0 ≠ A 1) (n2 : A 2 ≠ A 1) (e0 : w4 y0 = w4 wv % 65536) (e1 : w4 y1 = w4 wv / 65536) : MI (mst (mst M (A 1) (hh * 8 + 2 * k) y0) (A 1) (hh * 8 + 2 * k + 1) y1) A X (va_up Lw (hh * 4 + k) (w4 wv)) := by
  refine ⟨fun j hj => by rw [mst_out n2, mst_out n2]; exact h.1 j hj, fun i hi => by rw [mst_out n0, mst_out n0]; exact h.2.1 i hi, fun j hj => ?_, fun j hj => ?_⟩
  · by_cases hj2 : j = hh * 4 + k
    · subst hj2; rw [va_up_self]; exact w4_lt wv
    · rw [up_ne hj2]; exact h.2.2.1 j hj
  · by_cases hj2 : j = hh * 4 + k
    · subst hj2
      rw [va_up_self, show 2 * (hh * 4 + k) = hh * 8 + 2 * k by omega, mst_ne (fun _ => by omega), mst_at, mst_at]
      exact ⟨e0, e1⟩
    · rw [up_ne hj2, mst_ne (fun _ => by omega), mst_ne (fun _ => by omega), mst_ne (fun _ => by omega), mst_ne (fun _ => by omega)]
      exact h.2.2.2 j hj
abbrev lnF (Lw : Nat → Nat) (hv a b c d : Int32) : Nat → Nat := va_up (va_up (va_up (va_up Lw (w4 hv % 2 * 4 + 0) (w4 a)) (w4 hv % 2 * 4 + 1) (w4 b)) (w4 hv % 2 * 4 + 2) (w4 c)) (w4 hv % 2 * 4 + 3) (w4 d)
theorem MI.ld {M : Mm} {A X Lw : Nat → Nat} (h : MI M A X Lw) : dg (M (A 1)) 16 ∧ V16 (M (A 1)) = nv Lw 8 := by
  refine ⟨fun j hj => ?_, nv_d (n := 8) h.2.2.2⟩
  have h1 := h.2.2.2 (j / 2) (by omega)
  have h2 := h.2.2.1 (j / 2) (by omega)
  rcases (show j = 2 * (j / 2) ∨ j = 2 * (j / 2) + 1 by omega) with e | e
  · rw [e, h1.1]; omega
  · rw [e, h1.2]; omega
theorem T2P {u : Nat} (h : u < TT) : u < 2 * PP := Nat.lt_trans h (by decide)
def IV (Y U V E G : Nat) : Prop := E < PP ∧ G < PP ∧ U % PP = E * Y % PP ∧ V % PP = G * Y % PP ∧ Nat.gcd U V = 1 ∧ 0 < V ∧ U ≤ PP ∧ V ≤ PP
theorem can2 {a b : Nat} (h : 2 * a % PP = 2 * b % PP) : a % PP = b % PP := by
  have e : 2 * 57896044618658097711785492504343953926634992332820282019728792003954417335832 = 1 + 1 * PP := by decide
  have h2 : 57896044618658097711785492504343953926634992332820282019728792003954417335832 * (2 * a) % PP = 57896044618658097711785492504343953926634992332820282019728792003954417335832 * (2 * b) % PP := by rw [Nat.mul_mod, h, ← Nat.mul_mod]
  have h3 : ∀ z : Nat, 57896044618658097711785492504343953926634992332820282019728792003954417335832 * (2 * z) % PP = z % PP := fun z => by
    rw [← Nat.mul_assoc, Nat.mul_comm 57896044618658097711785492504343953926634992332820282019728792003954417335832 2, e, Nat.add_mul, Nat.one_mul, Nat.one_mul, Nat.add_mul_mod_self_left]
  rw [h3, h3] at h2
  exact h2
theorem can_add {a b c d P : Nat} (hP : 0 < P) (h : (a + b) % P = (c + d) % P) (hb : b % P = d % P) : a % P = c % P := by
  have h1 : (a + d) % P = (c + d) % P := by rw [← h, Nat.add_mod, ← hb, ← Nat.add_mod]
  have hd : ∀ z : Nat, (z + d + (P * (d / P + 1) - d)) % P = z % P := fun z => by
    have h3 : d ≤ P * (d / P + 1) := by
      have := Nat.mod_add_div d P
      have := Nat.mod_lt d hP
      rw [Nat.mul_add, Nat.mul_one]
      omega
    rw [show z + d + (P * (d / P + 1) - d) = z + P * (d / P + 1) by omega, Nat.add_mul_mod_self_left]
  rw [← hd a, ← hd c, Nat.add_mod, h1, ← Nat.add_mod]
abbrev hfE (E : Nat) : Nat := (if E % 2 = 1 then E + PP else E) / 2
theorem hfE_2 (E : Nat) : 2 * hfE E = (if E % 2 = 1 then E + PP else E) := by
  unfold hfE
  have e := PPv
  rw [e]
  split <;> omega
theorem hfE_lt {E : Nat} (h : E < PP) : hfE E < PP := by
  unfold hfE
  generalize PP = P at *
  split <;> omega
theorem hfE_m {U E Y : Nat} (h : U % PP = E * Y % PP) (he : U % 2 = 0) : U / 2 % PP = hfE E * Y % PP := by
  apply can2
  rw [← Nat.mul_assoc, hfE_2, show 2 * (U / 2) = U by omega, h]
  split
  · rw [Nat.add_mul, Nat.mul_comm PP Y, Nat.add_mul_mod_self_right]
  · rfl
theorem IV.hu {Y U V E G : Nat} (h : IV Y U V E G) (he : U % 2 = 0) : IV Y (U / 2) V (hfE E) G := by
  obtain ⟨h1, h2, h3, h4, h5, h6, h7, h8⟩ := h
  refine ⟨hfE_lt h1, h2, hfE_m h3 he, h4, ?_, h6, Nat.le_trans (Nat.div_le_self _ _) h7, h8⟩
  exact Nat.Coprime.coprime_dvd_left ⟨2, by omega⟩ h5
theorem IV.hw {Y U V E G : Nat} (h : IV Y U V E G) (he : V % 2 = 0) : IV Y U (V / 2) E (hfE G) := by
  obtain ⟨h1, h2, h3, h4, h5, h6, h7, h8⟩ := h
  refine ⟨h1, hfE_lt h2, h3, hfE_m h4 he, ?_, by omega, h7, Nat.le_trans (Nat.div_le_self _ _) h8⟩
  exact Nat.Coprime.coprime_dvd_right ⟨2, by omega⟩ h5
abbrev sbE (G E : Nat) : Nat := (if G < E then G + PP else G) - E
theorem sbE_lt {G E : Nat} (hG : G < PP) (hE : E < PP) : sbE G E < PP := by
  unfold sbE
  generalize PP = P at *
  split <;> omega
theorem sbE_m {U V E G Y : Nat} (hU : U % PP = E * Y % PP) (hV : V % PP = G * Y % PP) (hE : E < PP) (hl : U ≤ V) : (V - U) % PP = sbE G E * Y % PP := by
  refine can_add (b := U) (d := E * Y) (by decide) ?_ hU
  rw [Nat.sub_add_cancel hl, ← Nat.add_mul, hV]
  unfold sbE
  split
  · rw [Nat.sub_add_cancel (Nat.le_trans (Nat.le_of_lt hE) (Nat.le_add_left _ _)), Nat.add_mul, Nat.mul_comm PP Y, Nat.add_mul_mod_self_right]
  · rw [Nat.sub_add_cancel (by omega)]
theorem IV.sv {Y U V E G : Nat} (h : IV Y U V E G) (hl : U < V) : IV Y U (V - U) E (sbE G E) := by
  obtain ⟨h1, h2, h3, h4, h5, h6, h7, h8⟩ := h
  refine ⟨h1, sbE_lt h2 h1, h3, sbE_m h3 h4 h1 (Nat.le_of_lt hl), ?_, by omega, h7, Nat.le_trans (Nat.sub_le _ _) h8⟩
  rw [Nat.gcd_sub_self_right (Nat.le_of_lt hl)]
  exact h5
theorem IV.su {Y U V E G : Nat} (h : IV Y U V E G) (hl : ¬ U < V) : IV Y (U - V) V (sbE E G) G := by
  obtain ⟨h1, h2, h3, h4, h5, h6, h7, h8⟩ := h
  refine ⟨sbE_lt h1 h2, h2, sbE_m h4 h3 h2 (by omega), h4, ?_, h6, Nat.le_trans (Nat.sub_le _ _) h7, h8⟩
  rw [Nat.gcd_comm, Nat.gcd_sub_self_right (by omega), Nat.gcd_comm]
  exact h5
theorem IV.fin {Y V E G : Nat} (h : IV Y 0 V E G) (hY : Y < PP) (h0 : Y ≠ 0) : G = Y ^ (PP - 2) % PP := by
  obtain ⟨h1, h2, h3, h4, h5, h6, h7, h8⟩ := h
  rw [Nat.gcd_zero_left] at h5
  rw [h5] at h4
  have hn : ¬ PP ∣ Y := fun z => by
    have := Nat.le_of_dvd (by omega) z
    omega
  have hf := flt1 prm_PP hn
  have e : Y ^ (PP - 1) = Y * Y ^ (PP - 2) := by rw [show PP - 1 = PP - 2 + 1 by decide, Nat.pow_succ']
  have h9 : G % PP = G * (Y * Y ^ (PP - 2)) % PP := by rw [← e, Nat.mul_mod, hf, Nat.mul_one, Nat.mod_mod]
  rw [← Nat.mul_assoc, Nat.mul_mod, ← h4, ← Nat.mul_mod, Nat.one_mul, Nat.mod_eq_of_lt h2] at h9
  exact h9
theorem IV.start {Y : Nat} (hY : Y < PP) (h0 : Y ≠ 0) : IV Y Y PP 1 0 := by
  refine ⟨by decide, by decide, by rw [Nat.one_mul], by rw [Nat.zero_mul, Nat.mod_self]; rfl, ?_, by decide, Nat.le_of_lt hY, Nat.le_refl _⟩
  rw [Nat.gcd_comm]
  exact prm_cop prm_PP (fun z => by
    have := Nat.le_of_dvd (by omega) z
    omega)
theorem more_lt {a : Nat} (h : a < PP) : a + PP < 65536 ^ 17 := by
  have e := PPv
  rw [e] at h ⊢
  omega
def SI (M M1 : Mm) (A X Lw : Nat → Nat) (Y U V E G : Nat) : Prop := MI M1 A X Lw ∧ dfr M M1 A ∧ (dg (M1 (A 8)) 17 ∧ dg (M1 (A 9)) 17 ∧ dg (M1 (A 10)) 17 ∧ dg (M1 (A 11)) 17) ∧ (V17 (M1 (A 8)) = U ∧ V17 (M1 (A 9)) = V ∧ V17 (M1 (A 10)) = E ∧ V17 (M1 (A 11)) = G) ∧ IV Y U V E G
theorem V17_16 {f : Nat → Int32} (h : f 16 = 0) : V17 f = V16 f := by
  rw [V17, vN_s, h, w4_0, Nat.zero_mul, Nat.add_zero]
end
section
theorem sb_le {G E : Nat} (hE : E < PP) : E ≤ (if G < E then G + PP else G) := by
  generalize PP = P at *
  split <;> omega
theorem inv_top {f : Nat → Int32} {G : Nat} (h : V17 f = G) (hG : G < PP) : vN 65536 f 16 = vN 65536 f 16 + w4 (f 16) * 65536 ^ 16 := by
  rw [V17, vN_s] at h
  have e := PPv
  rw [e] at hG
  omega
set_option maxHeartbeats 4000000 in
set_option maxRecDepth 100000 in
/-- Model.line -/
theorem c_D_line (l : Launch) (g : wg) (o : Nat) (A : Nat → Nat) (hv a1 a2 a3 a4 : Int32) (X Lw : Nat → Nat) (M : Mm) (hD : Dv g o A) (hM : MI M A X Lw) : Ct l y_D_line b_D_line 9 none 0 0 g [.ref o, .int hv, .int a1, .int a2, .int a3, .int a4] M (fun r M' => r = none ∧ dfr M M' A ∧ MI M' A X (lnF Lw hv a1 a2 a3 a4)) := by
  refine Ct.of rfl (Nat.le_of_ble_eq_true rfl) (fun p e s m args below meth c H ls Q E K hQ hW hl => ?_)
  have hx := E.1
  have hb := E.2.1
  have hown := E.2.2.2.2.1
  have hts := E.2.2.2.2.2.1
  have hl : lv_has ls 9 [(0, .ref o), (1, .int hv), (2, .int a1), (3, .int a2), (4, .int a3), (5, .int a4)] := hl
  have hh2 : w4 hv % 2 < 2 := Nat.mod_lt _ (by decide)
  have rnd : ∀ (k : Nat) (wv : Int32) (M1 : Mm) (Lx : Nat → Nat) (H : Heap) (locs : List Loc) (ls : Array Slot), k < 4 → MI M1 A X Lx → dfr M M1 A → wd g H locs M1 → lv_has ls 9 [(7, .int wv), (6, .int (nI k)), (0, .ref o), (1, .int hv), (2, .int a1), (3, .int a2), (4, .int a3), (5, .int a4)] → (∀ (M2 : Mm) (H : Heap) (locs : List Loc) (ls : Array Slot), MI M2 A X (va_up Lx (w4 hv % 2 * 4 + k) (w4 wv)) → dfr M M2 A → wd g H locs M2 → lv_has ls 9 [(6, .int (nI (k + 1))), (0, .ref o), (1, .int hv), (2, .int a1), (3, .int a2), (4, .int a3), (5, .int a4)] → W p l e (rmm 0 0) s m args below meth c H locs 0 0 Q (F0 m 3 ls [])) → W p l e (rmm 0 0) s m args below meth c H locs 0 0 Q (F0 m 43 ls []) := by
    intro k wv M1 Lx H locs ls hk hm hf hW hl kk
    refine lv_iload_n hx hb d_D_line_43 rfl (lv_at hl 3 rfl) ?_
    refine lv_iconst (v := 1) hx hb d_D_line_44 (by decide) ?_
    refine lv_iand hx hb d_D_line_45 ?_
    refine lv_bipush (v := 8) hx hb d_D_line_46 (by decide) ?_
    refine lv_imul hx hb d_D_line_48 ?_
    refine lv_iconst (v := 2) hx hb d_D_line_49 (by decide) ?_
    refine lv_iload hx hb d_D_line_50 (lv_at hl 1 rfl) ?_
    refine lv_imul hx hb d_D_line_52 ?_
    refine lv_iadd hx hb d_D_line_53 ?_
    refine lv_topi (fun tv etv => ?_)
    refine lv_istore (lv' := [(8, .int tv), (7, .int wv), (6, .int (nI k)), (0, .ref o), (1, .int hv), (2, .int a1), (3, .int a2), (4, .int a3), (5, .int a4)]) hx hb d_D_line_54 hl (by decide) rfl (fun ls hl => ?_)
    have ei : tv = nI (w4 hv % 2 * 8 + 2 * k) := by rw [etv]; exact ix8 hv (by rw [show (2 : Int32) = nI 2 from rfl, pk_mul])
    refine lv_aload_n hx hb d_D_line_56 rfl (lv_at hl 3 rfl) ?_
    refine wd_get E K hW hD.1 rfl i_D 1 (by decide) k_184 rfl d_D_line_57 ?_
    refine lv_iload hx hb d_D_line_60 (lv_at hl 0 rfl) ?_
    refine lv_iload hx hb d_D_line_62 (lv_at hl 1 rfl) ?_
    refine lv_ldc hx hb hown (hts _ k_181) d_D_line_64 ?_
    refine lv_iand hx hb d_D_line_66 ?_
    refine lv_topi (fun y0 ey0 => ?_)
    refine wd_st E K hW hD.k1 (w4 hv % 2 * 8 + 2 * k) ei (by omega) d_D_line_67 (fun H locs hW => ?_)
    refine lv_aload_n hx hb d_D_line_68 rfl (lv_at hl 3 rfl) ?_
    refine wd_get E K hW hD.1 rfl i_D 1 (by decide) k_184 rfl d_D_line_69 ?_
    refine lv_iload hx hb d_D_line_72 (lv_at hl 0 rfl) ?_
    refine lv_iconst (v := 1) hx hb d_D_line_74 (by decide) ?_
    refine lv_iadd hx hb d_D_line_75 ?_
    refine lv_iload hx hb d_D_line_76 (lv_at hl 1 rfl) ?_
    refine lv_bipush (v := 16) hx hb d_D_line_78 (by decide) ?_
    refine lv_iushr hx hb d_D_line_80 rfl ?_
    refine lv_topi (fun y1 ey1 => ?_)
    refine wd_st E K hW hD.k1 (w4 hv % 2 * 8 + 2 * k + 1) (by rw [ei, nI_1]) (by omega) d_D_line_81 (fun H locs hW => ?_)
    refine lv_iinc (v := (nI (k + 1))) (lv' := [(6, .int (nI (k + 1))), (8, .int tv), (7, .int wv), (0, .ref o), (1, .int hv), (2, .int a1), (3, .int a2), (4, .int a3), (5, .int a4)]) hx hb d_D_line_82 hl (k := 2) rfl (nI_1 _) (by decide) rfl (fun ls hl => ?_)
    refine lv_goto (tgt := 3) hx hb d_D_line_85 (by decide) ?_
    refine kk _ H locs ls (hm.ln (hD.ne 0 1) (hD.ne 2 1) (by rw [ey0]; exact w4_and wv 65535 16 (by decide) (by decide)) (by rw [ey1]; exact pk_ushr wv 16 16 (by decide))) (fun q h => by rw [mst_out (h 1 (by decide)), mst_out (h 1 (by decide))]; exact hf q h) hW (lv_sub hl [0, 3, 4, 5, 6, 7, 8] rfl)
  refine lv_iconst (v := 0) hx hb d_D_line_0 (by decide) ?_
  refine lv_istore (lv' := [(6, .int 0), (0, .ref o), (1, .int hv), (2, .int a1), (3, .int a2), (4, .int a3), (5, .int a4)]) hx hb d_D_line_1 hl (by decide) rfl (fun ls hl => ?_)
  refine lv_iload hx hb d_D_line_3 (lv_at hl 0 rfl) ?_
  refine lv_iconst (v := 4) hx hb d_D_line_5 (by decide) ?_
  refine lv_icmp_ge (tgt := 88) hx hb d_D_line_6 (by decide) (fun c1 => ?_) (fun c1 => ?_)
  · exact absurd c1 (by decide)
  · refine lv_iload hx hb d_D_line_9 (lv_at hl 0 rfl) ?_
    refine lv_if_ne (tgt := 18) hx hb d_D_line_11 (by decide) (fun c1 => ?_) (fun c1 => ?_)
    · exact absurd c1 (by decide)
    · refine lv_iload_n hx hb d_D_line_14 rfl (lv_at hl 3 rfl) ?_
      refine lv_goto (tgt := 41) hx hb d_D_line_15 (by decide) ?_
      refine lv_istore (lv' := [(7, .int a1), (6, .int 0), (0, .ref o), (1, .int hv), (2, .int a1), (3, .int a2), (4, .int a3), (5, .int a4)]) hx hb d_D_line_41 hl (by decide) rfl (fun ls hl => ?_)
      refine rnd 0 a1 M _ H [] ls (by decide) hM (fun _ _ => rfl) hW (lv_sub hl [0, 1, 2, 3, 4, 5, 6, 7] rfl) (fun M1 H locs ls hm1 hf1 hW hl => ?_)
      refine lv_iload hx hb d_D_line_3 (lv_at hl 0 rfl) ?_
      refine lv_iconst (v := 4) hx hb d_D_line_5 (by decide) ?_
      refine lv_icmp_ge (tgt := 88) hx hb d_D_line_6 (by decide) (fun c1 => ?_) (fun c1 => ?_)
      · exact absurd c1 (by decide)
      · refine lv_iload hx hb d_D_line_9 (lv_at hl 0 rfl) ?_
        refine lv_if_ne (tgt := 18) hx hb d_D_line_11 (by decide) (fun c1 => ?_) (fun c1 => ?_)
        · refine lv_iload hx hb d_D_line_18 (lv_at hl 0 rfl) ?_
          refine lv_iconst (v := 1) hx hb d_D_line_20 (by decide) ?_
          refine lv_icmp_ne (tgt := 28) hx hb d_D_line_21 (by decide) (fun c1 => ?_) (fun c1 => ?_)
          · exact absurd c1 (by decide)
          · refine lv_iload_n hx hb d_D_line_24 rfl (lv_at hl 4 rfl) ?_
            refine lv_goto (tgt := 41) hx hb d_D_line_25 (by decide) ?_
            refine lv_istore (lv' := [(7, .int a2), (6, .int 1), (0, .ref o), (1, .int hv), (2, .int a1), (3, .int a2), (4, .int a3), (5, .int a4)]) hx hb d_D_line_41 hl (by decide) rfl (fun ls hl => ?_)
            refine rnd 1 a2 M1 _ H locs ls (by decide) hm1 hf1 hW (lv_sub hl [0, 1, 2, 3, 4, 5, 6, 7] rfl) (fun M2 H locs ls hm2 hf2 hW hl => ?_)
            refine lv_iload hx hb d_D_line_3 (lv_at hl 0 rfl) ?_
            refine lv_iconst (v := 4) hx hb d_D_line_5 (by decide) ?_
            refine lv_icmp_ge (tgt := 88) hx hb d_D_line_6 (by decide) (fun c1 => ?_) (fun c1 => ?_)
            · exact absurd c1 (by decide)
            · refine lv_iload hx hb d_D_line_9 (lv_at hl 0 rfl) ?_
              refine lv_if_ne (tgt := 18) hx hb d_D_line_11 (by decide) (fun c1 => ?_) (fun c1 => ?_)
              · refine lv_iload hx hb d_D_line_18 (lv_at hl 0 rfl) ?_
                refine lv_iconst (v := 1) hx hb d_D_line_20 (by decide) ?_
                refine lv_icmp_ne (tgt := 28) hx hb d_D_line_21 (by decide) (fun c1 => ?_) (fun c1 => ?_)
                · refine lv_iload hx hb d_D_line_28 (lv_at hl 0 rfl) ?_
                  refine lv_iconst (v := 2) hx hb d_D_line_30 (by decide) ?_
                  refine lv_icmp_ne (tgt := 39) hx hb d_D_line_31 (by decide) (fun c1 => ?_) (fun c1 => ?_)
                  · exact absurd c1 (by decide)
                  · refine lv_iload hx hb d_D_line_34 (lv_at hl 5 rfl) ?_
                    refine lv_goto (tgt := 41) hx hb d_D_line_36 (by decide) ?_
                    refine lv_istore (lv' := [(7, .int a3), (6, .int 2), (0, .ref o), (1, .int hv), (2, .int a1), (3, .int a2), (4, .int a3), (5, .int a4)]) hx hb d_D_line_41 hl (by decide) rfl (fun ls hl => ?_)
                    refine rnd 2 a3 M2 _ H locs ls (by decide) hm2 hf2 hW (lv_sub hl [0, 1, 2, 3, 4, 5, 6, 7] rfl) (fun M3 H locs ls hm3 hf3 hW hl => ?_)
                    refine lv_iload hx hb d_D_line_3 (lv_at hl 0 rfl) ?_
                    refine lv_iconst (v := 4) hx hb d_D_line_5 (by decide) ?_
                    refine lv_icmp_ge (tgt := 88) hx hb d_D_line_6 (by decide) (fun c1 => ?_) (fun c1 => ?_)
                    · exact absurd c1 (by decide)
                    · refine lv_iload hx hb d_D_line_9 (lv_at hl 0 rfl) ?_
                      refine lv_if_ne (tgt := 18) hx hb d_D_line_11 (by decide) (fun c1 => ?_) (fun c1 => ?_)
                      · refine lv_iload hx hb d_D_line_18 (lv_at hl 0 rfl) ?_
                        refine lv_iconst (v := 1) hx hb d_D_line_20 (by decide) ?_
                        refine lv_icmp_ne (tgt := 28) hx hb d_D_line_21 (by decide) (fun c1 => ?_) (fun c1 => ?_)
                        · refine lv_iload hx hb d_D_line_28 (lv_at hl 0 rfl) ?_
                          refine lv_iconst (v := 2) hx hb d_D_line_30 (by decide) ?_
                          refine lv_icmp_ne (tgt := 39) hx hb d_D_line_31 (by decide) (fun c1 => ?_) (fun c1 => ?_)
                          · refine lv_iload hx hb d_D_line_39 (lv_at hl 6 rfl) ?_
                            refine lv_istore (lv' := [(7, .int a4), (6, .int 3), (0, .ref o), (1, .int hv), (2, .int a1), (3, .int a2), (4, .int a3), (5, .int a4)]) hx hb d_D_line_41 hl (by decide) rfl (fun ls hl => ?_)
                            refine rnd 3 a4 M3 _ H locs ls (by decide) hm3 hf3 hW (lv_sub hl [0, 1, 2, 3, 4, 5, 6, 7] rfl) (fun M4 H locs ls hm4 hf4 hW hl => ?_)
                            refine lv_iload hx hb d_D_line_3 (lv_at hl 0 rfl) ?_
                            refine lv_iconst (v := 4) hx hb d_D_line_5 (by decide) ?_
                            refine lv_icmp_ge (tgt := 88) hx hb d_D_line_6 (by decide) (fun c1 => ?_) (fun c1 => ?_)
                            · exact ct_v E hQ hW d_D_line_88 ⟨rfl, hf4, hm4⟩
                            · exact absurd (by decide) c1
                          · exact absurd c1 (by decide)
                        · exact absurd c1 (by decide)
                      · exact absurd c1 (by decide)
                · exact absurd c1 (by decide)
              · exact absurd c1 (by decide)
        · exact absurd c1 (by decide)
set_option maxHeartbeats 4000000 in
set_option maxRecDepth 100000 in
/-- Model.load -/
theorem c_D_load (l : Launch) (g : wg) (o : Nat) (A : Nat → Nat) (rv : Int32) (X Lw : Nat → Nat) (M : Mm) (hD : Dv g o A) (hM : MI M A X Lw) : Ct l y_D_load b_D_load 5 (some .boolean) 1 26 g [.ref o, .int rv] M (fun r M' => r = some (.int (if PP ≤ nv Lw 8 then 1 else 0)) ∧ dfr M M' A ∧ MI M' A (va_up X (w4 rv % 4) (nv Lw 8 % PP)) Lw) := by
  refine Ct.of rfl (Nat.le_of_ble_eq_true rfl) (fun p e s m args below meth c H ls Q E K hQ hW hl => ?_)
  have hx := E.1
  have hb := E.2.1
  have hown := E.2.2.2.2.1
  have hts := E.2.2.2.2.2.1
  have hl : lv_has ls 5 [(0, .ref o), (1, .int rv)] := hl
  obtain ⟨dl, vl⟩ := hM.ld
  have dp := qW_dg hM.1
  have vp : vN 65536 (M (A 2)) 16 = PP := V16_qW hM.1
  have fin : ∀ (bg : Int32) (ls : Array Slot), bg = (if PP ≤ nv Lw 8 then 1 else 0) → lv_has ls 5 [(3, .int bg), (0, .ref o), (1, .int rv)] → W p l e (rmm 1 26) s m args below meth c H [] 0 0 Q (F0 m 50 ls []) := by
    intro bg ls hbg hl
    have loop : ∀ (d i : Nat) (M1 : Mm) (H : Heap) (locs : List Loc) (ls : Array Slot), i ≤ 16 → 16 + 1 ≤ i + d → kp M M1 (A 4) i → (∀ j, j < i → M1 (A 4) j = M (A 1) j) → wd g H locs M1 → lv_has ls 5 [(4, .int (nI i)), (3, .int bg), (0, .ref o), (1, .int rv)] → W p l e (rmm 1 26) s m args below meth c H locs 0 0 Q (F0 m 53 ls []) := by
      intro d
      induction d with
      | zero => intro i M1 H locs ls h1 h2; exact absurd h2 (by omega)
      | succ d ih =>
        intro i M1 H locs ls h1 h2 hk hI hW hl
        refine lv_iload hx hb d_D_load_53 (lv_at hl 0 rfl) ?_
        refine lv_bipush (v := 16) hx hb d_D_load_55 (by decide) ?_
        refine lv_icmp_ge (tgt := 80) hx hb d_D_load_57 (by decide) (fun c1 => ?_) (fun c1 => ?_)
        · have c2 := (nI_leI (a := 16) (b := i) (by decide) (by omega)).mp c1
          obtain rfl : i = 16 := by omega
          refine lv_aload_n hx hb d_D_load_80 rfl (lv_at hl 2 rfl) ?_
          refine wd_get E K hW hD.1 rfl i_D 4 (by decide) k_187 rfl d_D_load_81 ?_
          refine lv_bipush (v := 16) hx hb d_D_load_84 (by decide) ?_
          refine lv_iconst (v := 0) hx hb d_D_load_86 (by decide) ?_
          refine wd_st E K hW hD.k4 16 (by decide) (by decide) d_D_load_87 (fun H locs hW => ?_)
          have e17 : V17 (mst M1 (A 4) 16 0 (A 4)) = nv Lw 8 := by rw [V17, vN_mst, w4_0, Nat.zero_mul, Nat.add_zero, ← vl]; exact vN_congr hI
          have o2 : ∀ q, q ≠ A 4 → mst M1 (A 4) 16 0 q = M q := fun q h => by rw [mst_out h, hk.out h]
          have d17 : dg (mst M1 (A 4) 16 0 (A 4)) 17 := dg.st (dg.cg dl hI) (by decide)
          have m2 := hM.kept (M' := mst M1 (A 4) 16 0) (o2 _ (hD.ne 0 4)) (o2 _ (hD.ne 1 4)) (o2 _ (hD.ne 2 4))
          refine lv_aload_n hx hb d_D_load_88 rfl (lv_at hl 2 rfl) ?_
          refine lv_aload_n hx hb d_D_load_89 rfl (lv_at hl 2 rfl) ?_
          refine wd_get E K hW hD.1 rfl i_D 5 (by decide) k_188 rfl d_D_load_90 ?_
          refine lv_aload_n hx hb d_D_load_93 rfl (lv_at hl 2 rfl) ?_
          refine wd_get E K hW hD.1 rfl i_D 4 (by decide) k_187 rfl d_D_load_94 ?_
          refine ct_V E K hW hl.1 hD.1 rfl (c_D_fold l g o A (A 5) (A 4) (mst M1 (A 4) 16 0) hD m2.1 hD.k5 hD.k4 (hD.ne 4 5) (hD.ne 2 5) d17 (by rw [e17, ← vl]; exact T2P (V16_lt dl))) k_231 k_3 k_228 k_230 k_1002 2 (by decide +kernel) rfl (by decide) rfl (Nat.le_of_ble_eq_true rfl) ⟨Nat.zero_le _, Nat.zero_le _⟩ d_D_load_97 (fun r M2 H locs hq hW => ?_)
          obtain ⟨rfl, k2, d2, e2⟩ := hq
          refine W.eq (g2 := F0 m 100 ls []) rfl ?_
          rw [e17] at e2
          have m3 := m2.kept (k2.out (hD.ne 0 5)) (k2.out (hD.ne 1 5)) (k2.out (hD.ne 2 5))
          refine lv_aload_n hx hb d_D_load_100 rfl (lv_at hl 2 rfl) ?_
          refine lv_iload_n hx hb d_D_load_101 rfl (lv_at hl 3 rfl) ?_
          refine lv_aload_n hx hb d_D_load_102 rfl (lv_at hl 2 rfl) ?_
          refine wd_get E K hW hD.1 rfl i_D 5 (by decide) k_188 rfl d_D_load_103 ?_
          refine ct_V E K hW hl.1 hD.1 rfl (c_D_give l g o A rv (A 5) M2 hD hD.k5 (hD.ne 5 0)) k_235 k_3 k_232 k_234 k_1003 2 (by decide +kernel) rfl (by decide) rfl (Nat.le_of_ble_eq_true rfl) ⟨Nat.zero_le _, Nat.zero_le _⟩ d_D_load_106 (fun r M3 H locs hq hW => ?_)
          obtain ⟨rfl, g3, c3, u3⟩ := hq
          refine W.eq (g2 := F0 m 109 ls []) rfl ?_
          have mg := m3.gv (hD.ne 1 0) (hD.ne 2 0) g3 c3 u3 d2 e2 (Nat.mod_lt _ (by decide))
          refine lv_iload_n hx hb d_D_load_109 rfl (lv_at hl 1 rfl) ?_
          exact ct_z E hQ hW (by rw [hbg]; by_cases z : PP ≤ nv Lw 8; exact Or.inr (if_pos z); exact Or.inl (if_neg z)) d_D_load_110 ⟨by rw [hbg], fun q h => (g3 _ (h 0 (by decide))).trans ((k2.out (h 5 (by decide))).trans (o2 q (h 4 (by decide)))), mg⟩
        · have c2 : i < 16 := Nat.not_le.mp (fun z => c1 ((nI_leI (a := 16) (b := i) (by decide) (by omega)).mpr z))
          refine lv_aload_n hx hb d_D_load_60 rfl (lv_at hl 2 rfl) ?_
          refine wd_get E K hW hD.1 rfl i_D 4 (by decide) k_187 rfl d_D_load_61 ?_
          refine lv_iload hx hb d_D_load_64 (lv_at hl 0 rfl) ?_
          refine lv_aload_n hx hb d_D_load_66 rfl (lv_at hl 2 rfl) ?_
          refine wd_get E K hW hD.1 rfl i_D 1 (by decide) k_184 rfl d_D_load_67 ?_
          refine lv_iload hx hb d_D_load_70 (lv_at hl 0 rfl) ?_
          refine wd_ld E K hW hD.k1 i rfl (by omega) d_D_load_72 ?_
          refine lv_topi (fun v ev => ?_)
          refine wd_st E K hW hD.k4 i rfl (by omega) d_D_load_73 (fun H locs hW => ?_)
          refine lv_iinc (v := (nI (i + 1))) (lv' := [(4, .int (nI (i + 1))), (3, .int bg), (0, .ref o), (1, .int rv)]) hx hb d_D_load_74 hl (k := 0) rfl (nI_1 _) (by decide) rfl (fun ls hl => ?_)
          refine lv_goto (tgt := 53) hx hb d_D_load_77 (by decide) ?_
          refine ih (i + 1) _ H locs ls (by omega) (by omega) (hk.st _) (fun j hj => ?_) hW (lv_sub hl [0, 1, 2, 3] rfl)
          by_cases hji : j = i
          · subst hji; rw [mst_at, ev]; exact hk (A 1) _ (fun z => absurd z (hD.ne 1 4))
          · rw [mst_ne (fun _ => hji)]; exact hI j (by omega)
    refine lv_iconst (v := 0) hx hb d_D_load_50 (by decide) ?_
    refine lv_istore (lv' := [(4, .int 0), (3, .int bg), (0, .ref o), (1, .int rv)]) hx hb d_D_load_51 hl (by decide) rfl (fun ls hl => ?_)
    exact loop 17 0 M H [] ls (by omega) (by omega) kp.rf (fun j hj => absurd hj (by omega)) hW (lv_sub hl [0, 1, 2, 3] rfl)
  have cl : ∀ (k : Nat) (ls : Array Slot), k < 16 → (∀ j, k < j → j < 16 → M (A 1) j = M (A 2) j) → lv_has ls 5 [(2, .int (nI k)), (0, .ref o), (1, .int rv)] → W p l e (rmm 1 26) s m args below meth c H [] 0 0 Q (F0 m 3 ls []) := by
    intro k
    induction k with
    | zero =>
      intro ls hk he hl
      refine lv_iload_n hx hb d_D_load_3 rfl (lv_at hl 0 rfl) ?_
      refine lv_if_le (tgt := 29) hx hb d_D_load_4 (by decide) (fun c1 => ?_) (fun c1 => ?_)
      · have hs : (0 : Nat) = 0 ∨ M (A 1) 0 ≠ M (A 2) 0 := Or.inl rfl
        have hc := cmp_dig hk he hs dl dp
        rw [vp, show vN 65536 (M (A 1)) 16 = nv Lw 8 from vl] at hc
        refine lv_aload_n hx hb d_D_load_29 rfl (lv_at hl 1 rfl) ?_
        refine wd_get E K hW hD.1 rfl i_D 1 (by decide) k_184 rfl d_D_load_30 ?_
        refine lv_iload_n hx hb d_D_load_33 rfl (lv_at hl 0 rfl) ?_
        refine wd_ld E K hW hD.k1 0 rfl (by omega) d_D_load_34 ?_
        refine lv_aload_n hx hb d_D_load_35 rfl (lv_at hl 1 rfl) ?_
        refine wd_get E K hW hD.1 rfl i_D 2 (by decide) k_185 rfl d_D_load_36 ?_
        refine lv_iload_n hx hb d_D_load_39 rfl (lv_at hl 0 rfl) ?_
        refine wd_ld E K hW hD.k2 0 rfl (by omega) d_D_load_40 ?_
        refine lv_icmp_lt (tgt := 48) hx hb d_D_load_41 (by decide) (fun c5 => ?_) (fun c5 => ?_)
        · have hv : ¬ PP ≤ nv Lw 8 := fun z => Nat.not_lt.mpr (hc.mp z) ((lt_dig (dl _ hk) (dp _ hk)).mp c5)
          refine lv_iconst (v := 0) hx hb d_D_load_48 (by decide) ?_
          refine lv_istore_n (lv' := [(3, .int 0), (2, .int (nI 0)), (0, .ref o), (1, .int rv)]) hx hb d_D_load_49 rfl hl (by decide) rfl (fun ls hl => ?_)
          exact fin 0 ls (by rw [if_neg hv]) (lv_sub hl [0, 2, 3] rfl)
        · have hv : PP ≤ nv Lw 8 := hc.mpr (Nat.not_lt.mp (fun z => c5 ((lt_dig (dl _ hk) (dp _ hk)).mpr z)))
          refine lv_iconst (v := 1) hx hb d_D_load_44 (by decide) ?_
          refine lv_goto (tgt := 49) hx hb d_D_load_45 (by decide) ?_
          refine lv_istore_n (lv' := [(3, .int 1), (2, .int (nI 0)), (0, .ref o), (1, .int rv)]) hx hb d_D_load_49 rfl hl (by decide) rfl (fun ls hl => ?_)
          exact fin 1 ls (by rw [if_pos hv]) (lv_sub hl [0, 2, 3] rfl)
      · exact absurd (by decide) c1
    | succ k ih =>
      intro ls hk he hl
      refine lv_iload_n hx hb d_D_load_3 rfl (lv_at hl 0 rfl) ?_
      refine lv_if_le (tgt := 29) hx hb d_D_load_4 (by decide) (fun c1 => ?_) (fun c1 => ?_)
      · exact absurd c1 (nI_nle (by omega) (by omega))
      · refine lv_aload_n hx hb d_D_load_7 rfl (lv_at hl 1 rfl) ?_
        refine wd_get E K hW hD.1 rfl i_D 1 (by decide) k_184 rfl d_D_load_8 ?_
        refine lv_iload_n hx hb d_D_load_11 rfl (lv_at hl 0 rfl) ?_
        refine wd_ld E K hW hD.k1 (k + 1) rfl (by omega) d_D_load_12 ?_
        refine lv_aload_n hx hb d_D_load_13 rfl (lv_at hl 1 rfl) ?_
        refine wd_get E K hW hD.1 rfl i_D 2 (by decide) k_185 rfl d_D_load_14 ?_
        refine lv_iload_n hx hb d_D_load_17 rfl (lv_at hl 0 rfl) ?_
        refine wd_ld E K hW hD.k2 (k + 1) rfl (by omega) d_D_load_18 ?_
        refine lv_icmp_ne (tgt := 29) hx hb d_D_load_19 (by decide) (fun c2 => ?_) (fun c2 => ?_)
        · have hs : k + 1 = 0 ∨ M (A 1) (k + 1) ≠ M (A 2) (k + 1) := Or.inr c2
          have hc := cmp_dig hk he hs dl dp
          rw [vp, show vN 65536 (M (A 1)) 16 = nv Lw 8 from vl] at hc
          refine lv_aload_n hx hb d_D_load_29 rfl (lv_at hl 1 rfl) ?_
          refine wd_get E K hW hD.1 rfl i_D 1 (by decide) k_184 rfl d_D_load_30 ?_
          refine lv_iload_n hx hb d_D_load_33 rfl (lv_at hl 0 rfl) ?_
          refine wd_ld E K hW hD.k1 (k + 1) rfl (by omega) d_D_load_34 ?_
          refine lv_aload_n hx hb d_D_load_35 rfl (lv_at hl 1 rfl) ?_
          refine wd_get E K hW hD.1 rfl i_D 2 (by decide) k_185 rfl d_D_load_36 ?_
          refine lv_iload_n hx hb d_D_load_39 rfl (lv_at hl 0 rfl) ?_
          refine wd_ld E K hW hD.k2 (k + 1) rfl (by omega) d_D_load_40 ?_
          refine lv_icmp_lt (tgt := 48) hx hb d_D_load_41 (by decide) (fun c5 => ?_) (fun c5 => ?_)
          · have hv : ¬ PP ≤ nv Lw 8 := fun z => Nat.not_lt.mpr (hc.mp z) ((lt_dig (dl _ hk) (dp _ hk)).mp c5)
            refine lv_iconst (v := 0) hx hb d_D_load_48 (by decide) ?_
            refine lv_istore_n (lv' := [(3, .int 0), (2, .int (nI (k + 1))), (0, .ref o), (1, .int rv)]) hx hb d_D_load_49 rfl hl (by decide) rfl (fun ls hl => ?_)
            exact fin 0 ls (by rw [if_neg hv]) (lv_sub hl [0, 2, 3] rfl)
          · have hv : PP ≤ nv Lw 8 := hc.mpr (Nat.not_lt.mp (fun z => c5 ((lt_dig (dl _ hk) (dp _ hk)).mpr z)))
            refine lv_iconst (v := 1) hx hb d_D_load_44 (by decide) ?_
            refine lv_goto (tgt := 49) hx hb d_D_load_45 (by decide) ?_
            refine lv_istore_n (lv' := [(3, .int 1), (2, .int (nI (k + 1))), (0, .ref o), (1, .int rv)]) hx hb d_D_load_49 rfl hl (by decide) rfl (fun ls hl => ?_)
            exact fin 1 ls (by rw [if_pos hv]) (lv_sub hl [0, 2, 3] rfl)
        · refine lv_iload_n hx hb d_D_load_22 rfl (lv_at hl 0 rfl) ?_
          refine lv_iconst (v := 1) hx hb d_D_load_23 (by decide) ?_
          refine lv_isub hx hb d_D_load_24 ?_
          refine W.eq (g2 := F0 m 25 ls [.int (nI k)]) (congrArg (fun z => F0 m 25 ls [.int z]) (nI_pred k)) ?_
          refine lv_istore_n (lv' := [(2, .int (nI k)), (0, .ref o), (1, .int rv)]) hx hb d_D_load_25 rfl hl (by decide) rfl (fun ls hl => ?_)
          refine lv_goto (tgt := 3) hx hb d_D_load_26 (by decide) ?_
          exact ih ls (by omega) (fun j h1 h2 => by
            by_cases hj : j = k + 1
            · rw [hj]; exact c2
            · exact he j (by omega) h2) (lv_sub hl [0, 1, 2] rfl)
  refine lv_bipush (v := 15) hx hb d_D_load_0 (by decide) ?_
  refine lv_istore_n (lv' := [(2, .int 15), (0, .ref o), (1, .int rv)]) hx hb d_D_load_2 rfl hl (by decide) rfl (fun ls hl => ?_)
  exact cl 15 ls (by omega) (fun j h1 h2 => absurd h2 (by omega)) (lv_sub hl [0, 1, 2] rfl)
set_option maxHeartbeats 4000000 in
set_option maxRecDepth 100000 in
/-- Model.invert -/
theorem c_D_invert (l : Launch) (g : wg) (o : Nat) (A : Nat → Nat) (rv pv : Int32) (X Lw : Nat → Nat) (M : Mm) (hD : Dv g o A) (hM : MI M A X Lw) : Ct l y_D_invert b_D_invert 4 (some .boolean) 1 24 g [.ref o, .int rv, .int pv] M (fun r M' => r = some (.int (if X (w4 pv % 4) = 0 then 0 else 1)) ∧ dfr M M' A ∧ MI M' A (if X (w4 pv % 4) = 0 then X else va_up X (w4 rv % 4) (X (w4 pv % 4) ^ (PP - 2) % PP)) Lw) := by
  refine Ct.of rfl (Nat.le_of_ble_eq_true rfl) (fun p e s m args below meth c H ls Q E K hQ hW hl => ?_)
  have hx := E.1
  have hb := E.2.1
  have hown := E.2.2.2.2.1
  have hts := E.2.2.2.2.2.1
  have hl : lv_has ls 4 [(0, .ref o), (1, .int rv), (2, .int pv)] := hl
  refine lv_aload_n hx hb d_D_invert_0 rfl (lv_at hl 0 rfl) ?_
  refine lv_aload_n hx hb d_D_invert_1 rfl (lv_at hl 0 rfl) ?_
  refine wd_get E K hW hD.1 rfl i_D 6 (by decide) k_189 rfl d_D_invert_2 ?_
  refine lv_iload_n hx hb d_D_invert_5 rfl (lv_at hl 2 rfl) ?_
  refine ct_V E K hW hl.1 hD.1 rfl (c_D_take l g o A (A 6) pv M hD hD.k6 (hD.ne 6 0)) k_247 k_3 k_244 k_246 k_1004 2 (by decide +kernel) rfl (by decide) rfl (Nat.le_of_ble_eq_true rfl) ⟨Nat.zero_le _, Nat.zero_le _⟩ d_D_invert_6 (fun r M1 H locs hq hW => ?_)
  obtain ⟨rfl, k1, t1⟩ := hq
  refine W.eq (g2 := F0 m 9 ls []) rfl ?_
  have x1 := hM.tk t1
  have m1 := hM.kept (k1.out (hD.ne 0 6)) (k1.out (hD.ne 1 6)) (k1.out (hD.ne 2 6))
  refine lv_aload_n hx hb d_D_invert_9 rfl (lv_at hl 0 rfl) ?_
  refine lv_aload_n hx hb d_D_invert_10 rfl (lv_at hl 0 rfl) ?_
  refine wd_get E K hW hD.1 rfl i_D 6 (by decide) k_189 rfl d_D_invert_11 ?_
  refine ct_V E K hW hl.1 hD.1 rfl (c_D_isZero l g o A (A 6) M1 hD.k6) k_263 k_3 k_260 k_262 k_1007 1 (by decide +kernel) rfl (by decide) rfl (Nat.le_of_ble_eq_true rfl) ⟨Nat.zero_le _, Nat.zero_le _⟩ d_D_invert_14 (fun r M2 H locs hq hW => ?_)
  rw [x1.2.1] at hq
  obtain ⟨rfl, hMe⟩ := hq
  rw [hMe] at hW
  refine W.eq (g2 := F0 m 17 ls [.int (if X (w4 pv % 4) = 0 then 1 else 0)]) rfl ?_
  refine lv_if_eq (tgt := 22) hx hb d_D_invert_17 (by decide) (fun c0 => ?_) (fun c0 => ?_)
  · have hn : X (w4 pv % 4) ≠ 0 := fun z => by rw [if_pos z] at c0; exact absurd c0 (by decide)
    obtain ⟨Y, eY⟩ : ∃ Y, Y = X (w4 pv % 4) := ⟨_, rfl⟩
    have hYl : Y < PP := by rw [eY]; exact (hM.2.1 _ (r4 pv)).1
    have hY0 : Y ≠ 0 := by rw [eY]; exact hn
    have main : ∀ n, (∀ (U V E2 G : Nat) (M2 : Mm) (H : Heap) (locs : List Loc) (ls : Array Slot), U + V < n → SI M M2 A X Lw Y U V E2 G → wd g H locs M2 → lv_has ls 4 [(0, .ref o), (1, .int rv), (2, .int pv)] → W p l e (rmm 1 24) s m args below meth c H locs 0 0 Q (F0 m 101 ls [])) ∧ (∀ (U V E2 G : Nat) (M2 : Mm) (H : Heap) (locs : List Loc) (ls : Array Slot), U + V < n → U ≠ 0 → SI M M2 A X Lw Y U V E2 G → wd g H locs M2 → lv_has ls 4 [(0, .ref o), (1, .int rv), (2, .int pv)] → W p l e (rmm 1 24) s m args below meth c H locs 0 0 Q (F0 m 111 ls [])) ∧ (∀ (U V E2 G : Nat) (M2 : Mm) (H : Heap) (locs : List Loc) (ls : Array Slot), U + V < n → U ≠ 0 → U % 2 = 1 → SI M M2 A X Lw Y U V E2 G → wd g H locs M2 → lv_has ls 4 [(0, .ref o), (1, .int rv), (2, .int pv)] → W p l e (rmm 1 24) s m args below meth c H locs 0 0 Q (F0 m 158 ls [])) := by
      intro n
      induction n with
      | zero => exact ⟨fun U V E2 G M2 H locs ls h => absurd h (by omega), fun U V E2 G M2 H locs ls h => absurd h (by omega), fun U V E2 G M2 H locs ls h => absurd h (by omega)⟩
      | succ n ih =>
        obtain ⟨i101, i111, i158⟩ := ih
        have n158 : ∀ (U V E2 G : Nat) (M2 : Mm) (H : Heap) (locs : List Loc) (ls : Array Slot), U + V < n + 1 → U ≠ 0 → U % 2 = 1 → SI M M2 A X Lw Y U V E2 G → wd g H locs M2 → lv_has ls 4 [(0, .ref o), (1, .int rv), (2, .int pv)] → W p l e (rmm 1 24) s m args below meth c H locs 0 0 Q (F0 m 158 ls []) := by
          intro U V E2 G M2 H locs ls hn9 hU0 hUo hS hW hl
          obtain ⟨hm, hf, ⟨d8, d9, d10, d11⟩, ⟨v8, v9, v10, v11⟩, iv⟩ := id hS
          obtain ⟨iE, iG, -, -, -, iV0, -, -⟩ := id iv
          have pr9 : V17 (M2 (A 9)) % 2 = w4 (M2 (A 9) 0) % 2 := vN_low16 _ 16
          rw [v9] at pr9
          refine lv_aload_n hx hb d_D_invert_158 rfl (lv_at hl 0 rfl) ?_
          refine wd_get E K hW hD.1 rfl i_D 9 (by decide) k_192 rfl d_D_invert_159 ?_
          refine lv_iconst (v := 0) hx hb d_D_invert_162 (by decide) ?_
          refine wd_ld E K hW hD.k9 0 (by decide) (by decide) d_D_invert_163 ?_
          refine lv_iconst (v := 1) hx hb d_D_invert_164 (by decide) ?_
          refine lv_iand hx hb d_D_invert_165 ?_
          refine lv_if_ne (tgt := 205) hx hb d_D_invert_166 (by decide) (fun c4 => ?_) (fun c4 => ?_)
          · have vo : V % 2 = 1 := by rw [pr9]; exact bit1 (fun z => c4 ((bitEven _).mpr z))
            refine lv_aload_n hx hb d_D_invert_205 rfl (lv_at hl 0 rfl) ?_
            refine wd_get E K hW hD.1 rfl i_D 8 (by decide) k_191 rfl d_D_invert_206 ?_
            refine lv_aload_n hx hb d_D_invert_209 rfl (lv_at hl 0 rfl) ?_
            refine wd_get E K hW hD.1 rfl i_D 9 (by decide) k_192 rfl d_D_invert_210 ?_
            refine ct_S E K hW hl.1 (c_D_less l g (A 8) (A 9) M2 hD.k8 hD.k9 d8 d9) k_312 k_3 k_310 k_311 2 (by decide +kernel) rfl (by decide) rfl (Nat.le_of_ble_eq_true rfl) ⟨Nat.zero_le _, Nat.zero_le _⟩ d_D_invert_213 (fun r M3 H locs hq hW => ?_)
            rw [v8, v9] at hq
            obtain ⟨rfl, hMe⟩ := hq
            rw [hMe] at hW
            refine W.eq (g2 := F0 m 216 ls [.int (if U < V then 1 else 0)]) rfl ?_
            refine lv_if_eq (tgt := 266) hx hb d_D_invert_216 (by decide) (fun c6 => ?_) (fun c6 => ?_)
            · have nl9 : ¬ U < V := fun z => by rw [if_pos z] at c6; exact absurd c6 (by decide)
              refine lv_aload_n hx hb d_D_invert_266 rfl (lv_at hl 0 rfl) ?_
              refine wd_get E K hW hD.1 rfl i_D 8 (by decide) k_191 rfl d_D_invert_267 ?_
              refine lv_aload_n hx hb d_D_invert_270 rfl (lv_at hl 0 rfl) ?_
              refine wd_get E K hW hD.1 rfl i_D 9 (by decide) k_192 rfl d_D_invert_271 ?_
              refine ct_S E K hW hl.1 (c_D_lessen l g (A 8) (A 9) M2 hD.k8 hD.k9 d8 d9 (by rw [v8, v9]; omega)) k_315 k_3 k_313 k_314 2 (by decide +kernel) rfl (by decide) rfl (Nat.le_of_ble_eq_true rfl) ⟨Nat.zero_le _, Nat.zero_le _⟩ d_D_invert_274 (fun r M3 H locs hq hW => ?_)
              obtain ⟨rfl, k3, d3, e3⟩ := hq
              refine W.eq (g2 := F0 m 277 ls []) rfl ?_
              rw [v8, v9] at e3
              have ya : M3 (A 10) = M2 (A 10) := k3.out (hD.ne 10 8)
              have yb : M3 (A 11) = M2 (A 11) := k3.out (hD.ne 11 8)
              refine lv_aload_n hx hb d_D_invert_277 rfl (lv_at hl 0 rfl) ?_
              refine wd_get E K hW hD.1 rfl i_D 10 (by decide) k_193 rfl d_D_invert_278 ?_
              refine lv_aload_n hx hb d_D_invert_281 rfl (lv_at hl 0 rfl) ?_
              refine wd_get E K hW hD.1 rfl i_D 11 (by decide) k_194 rfl d_D_invert_282 ?_
              refine ct_S E K hW hl.1 (c_D_less l g (A 10) (A 11) M3 hD.k10 hD.k11 (by rw [ya]; exact d10) (by rw [yb]; exact d11)) k_312 k_3 k_310 k_311 2 (by decide +kernel) rfl (by decide) rfl (Nat.le_of_ble_eq_true rfl) ⟨Nat.zero_le _, Nat.zero_le _⟩ d_D_invert_285 (fun r M4 H locs hq hW => ?_)
              rw [ya, yb, v10, v11] at hq
              obtain ⟨rfl, hMe⟩ := hq
              rw [hMe] at hW
              refine W.eq (g2 := F0 m 288 ls [.int (if E2 < G then 1 else 0)]) rfl ?_
              refine lv_if_eq (tgt := 299) hx hb d_D_invert_288 (by decide) (fun c7 => ?_) (fun c7 => ?_)
              · have nl : ¬ E2 < G := fun z => by rw [if_pos z] at c7; exact absurd c7 (by decide)
                have ec : V17 (M3 (A 10)) = (if E2 < G then E2 + PP else E2) := by rw [ya, v10, if_neg nl]
                have o4 : ∀ q, q ≠ A 8 → q ≠ A 10 → M3 q = M2 q := fun q h1 h2 => k3.out h1
                have v4a : dg (M3 (A 8)) 17 ∧ V17 (M3 (A 8)) = U - V := ⟨d3, e3⟩
                have d4c : dg (M3 (A 10)) 17 := by rw [ya]; exact d10
                have yc : M3 (A 11) = M2 (A 11) := o4 _ (hD.ne 11 8) (hD.ne 11 10)
                refine lv_aload_n hx hb d_D_invert_299 rfl (lv_at hl 0 rfl) ?_
                refine wd_get E K hW hD.1 rfl i_D 10 (by decide) k_193 rfl d_D_invert_300 ?_
                refine lv_aload_n hx hb d_D_invert_303 rfl (lv_at hl 0 rfl) ?_
                refine wd_get E K hW hD.1 rfl i_D 11 (by decide) k_194 rfl d_D_invert_304 ?_
                refine ct_S E K hW hl.1 (c_D_lessen l g (A 10) (A 11) M3 hD.k10 hD.k11 d4c (by rw [yc]; exact d11) (by rw [ec, yc, v11]; exact sb_le iG)) k_315 k_3 k_313 k_314 2 (by decide +kernel) rfl (by decide) rfl (Nat.le_of_ble_eq_true rfl) ⟨Nat.zero_le _, Nat.zero_le _⟩ d_D_invert_307 (fun r M5 H locs hq hW => ?_)
                obtain ⟨rfl, k5, d5, e5⟩ := hq
                refine W.eq (g2 := F0 m 310 ls []) rfl ?_
                rw [ec, yc, v11] at e5
                have o5 : ∀ q, q ≠ A 8 → q ≠ A 10 → M5 q = M2 q := fun q h1 h2 => (k5.out h2).trans (o4 q h1 h2)
                have y5 : M5 (A 8) = M3 (A 8) := k5.out (hD.ne 8 10)
                refine lv_goto (tgt := 101) hx hb d_D_invert_310 (by decide) ?_
                exact i101 _ _ _ _ M5 H locs ls (by omega) ⟨hm.kept (o5 _ (hD.ne 0 8) (hD.ne 0 10)) (o5 _ (hD.ne 1 8) (hD.ne 1 10)) (o5 _ (hD.ne 2 8) (hD.ne 2 10)), fun q h => (o5 q (h 8 (by decide)) (h 10 (by decide))).trans (hf q h), ⟨(by rw [y5]; exact v4a.1), (by rw [o5 _ (hD.ne 9 8) (hD.ne 9 10)]; exact d9), d5, (by rw [o5 _ (hD.ne 11 8) (hD.ne 11 10)]; exact d11)⟩, ⟨(by rw [y5]; exact v4a.2), (by rw [o5 _ (hD.ne 9 8) (hD.ne 9 10)]; exact v9), e5, (by rw [o5 _ (hD.ne 11 8) (hD.ne 11 10)]; exact v11)⟩, (iv.su nl9)⟩ hW (lv_sub hl [0, 1, 2] rfl)
              · have nl : E2 < G := Decidable.byContradiction (fun z => c7 (if_neg z))
                refine lv_aload_n hx hb d_D_invert_291 rfl (lv_at hl 0 rfl) ?_
                refine lv_aload_n hx hb d_D_invert_292 rfl (lv_at hl 0 rfl) ?_
                refine wd_get E K hW hD.1 rfl i_D 10 (by decide) k_193 rfl d_D_invert_293 ?_
                refine ct_V E K hW hl.1 hD.1 rfl (c_D_more l g o A (A 10) M3 hD (fun j hj => by rw [k3.out (hD.ne 2 8)]; exact hm.1 j hj) hD.k10 (hD.ne 2 10) (by rw [ya]; exact d10) (by rw [ya, v10]; exact more_lt iE)) k_309 k_3 k_306 k_308 k_1010 1 (by decide +kernel) rfl (by decide) rfl (Nat.le_of_ble_eq_true rfl) ⟨Nat.zero_le _, Nat.zero_le _⟩ d_D_invert_296 (fun r M4 H locs hq hW => ?_)
                obtain ⟨rfl, k4, d4, e4⟩ := hq
                refine W.eq (g2 := F0 m 299 ls []) rfl ?_
                have ec : V17 (M4 (A 10)) = (if E2 < G then E2 + PP else E2) := by rw [e4, ya, v10, if_pos nl]
                have o4 : ∀ q, q ≠ A 8 → q ≠ A 10 → M4 q = M2 q := fun q h1 h2 => (k4.out h2).trans (k3.out h1)
                have y4 : M4 (A 8) = M3 (A 8) := k4.out (hD.ne 8 10)
                have v4a : dg (M4 (A 8)) 17 ∧ V17 (M4 (A 8)) = U - V := by rw [y4]; exact ⟨d3, e3⟩
                have d4c := d4
                have yc : M4 (A 11) = M2 (A 11) := o4 _ (hD.ne 11 8) (hD.ne 11 10)
                refine lv_aload_n hx hb d_D_invert_299 rfl (lv_at hl 0 rfl) ?_
                refine wd_get E K hW hD.1 rfl i_D 10 (by decide) k_193 rfl d_D_invert_300 ?_
                refine lv_aload_n hx hb d_D_invert_303 rfl (lv_at hl 0 rfl) ?_
                refine wd_get E K hW hD.1 rfl i_D 11 (by decide) k_194 rfl d_D_invert_304 ?_
                refine ct_S E K hW hl.1 (c_D_lessen l g (A 10) (A 11) M4 hD.k10 hD.k11 d4c (by rw [yc]; exact d11) (by rw [ec, yc, v11]; exact sb_le iG)) k_315 k_3 k_313 k_314 2 (by decide +kernel) rfl (by decide) rfl (Nat.le_of_ble_eq_true rfl) ⟨Nat.zero_le _, Nat.zero_le _⟩ d_D_invert_307 (fun r M5 H locs hq hW => ?_)
                obtain ⟨rfl, k5, d5, e5⟩ := hq
                refine W.eq (g2 := F0 m 310 ls []) rfl ?_
                rw [ec, yc, v11] at e5
                have o5 : ∀ q, q ≠ A 8 → q ≠ A 10 → M5 q = M2 q := fun q h1 h2 => (k5.out h2).trans (o4 q h1 h2)
                have y5 : M5 (A 8) = M4 (A 8) := k5.out (hD.ne 8 10)
                refine lv_goto (tgt := 101) hx hb d_D_invert_310 (by decide) ?_
                exact i101 _ _ _ _ M5 H locs ls (by omega) ⟨hm.kept (o5 _ (hD.ne 0 8) (hD.ne 0 10)) (o5 _ (hD.ne 1 8) (hD.ne 1 10)) (o5 _ (hD.ne 2 8) (hD.ne 2 10)), fun q h => (o5 q (h 8 (by decide)) (h 10 (by decide))).trans (hf q h), ⟨(by rw [y5]; exact v4a.1), (by rw [o5 _ (hD.ne 9 8) (hD.ne 9 10)]; exact d9), d5, (by rw [o5 _ (hD.ne 11 8) (hD.ne 11 10)]; exact d11)⟩, ⟨(by rw [y5]; exact v4a.2), (by rw [o5 _ (hD.ne 9 8) (hD.ne 9 10)]; exact v9), e5, (by rw [o5 _ (hD.ne 11 8) (hD.ne 11 10)]; exact v11)⟩, (iv.su nl9)⟩ hW (lv_sub hl [0, 1, 2] rfl)
            · have nl9 : U < V := Decidable.byContradiction (fun z => c6 (if_neg z))
              refine lv_aload_n hx hb d_D_invert_219 rfl (lv_at hl 0 rfl) ?_
              refine wd_get E K hW hD.1 rfl i_D 9 (by decide) k_192 rfl d_D_invert_220 ?_
              refine lv_aload_n hx hb d_D_invert_223 rfl (lv_at hl 0 rfl) ?_
              refine wd_get E K hW hD.1 rfl i_D 8 (by decide) k_191 rfl d_D_invert_224 ?_
              refine ct_S E K hW hl.1 (c_D_lessen l g (A 9) (A 8) M2 hD.k9 hD.k8 d9 d8 (by rw [v9, v8]; omega)) k_315 k_3 k_313 k_314 2 (by decide +kernel) rfl (by decide) rfl (Nat.le_of_ble_eq_true rfl) ⟨Nat.zero_le _, Nat.zero_le _⟩ d_D_invert_227 (fun r M3 H locs hq hW => ?_)
              obtain ⟨rfl, k3, d3, e3⟩ := hq
              refine W.eq (g2 := F0 m 230 ls []) rfl ?_
              rw [v9, v8] at e3
              have ya : M3 (A 11) = M2 (A 11) := k3.out (hD.ne 11 9)
              have yb : M3 (A 10) = M2 (A 10) := k3.out (hD.ne 10 9)
              refine lv_aload_n hx hb d_D_invert_230 rfl (lv_at hl 0 rfl) ?_
              refine wd_get E K hW hD.1 rfl i_D 11 (by decide) k_194 rfl d_D_invert_231 ?_
              refine lv_aload_n hx hb d_D_invert_234 rfl (lv_at hl 0 rfl) ?_
              refine wd_get E K hW hD.1 rfl i_D 10 (by decide) k_193 rfl d_D_invert_235 ?_
              refine ct_S E K hW hl.1 (c_D_less l g (A 11) (A 10) M3 hD.k11 hD.k10 (by rw [ya]; exact d11) (by rw [yb]; exact d10)) k_312 k_3 k_310 k_311 2 (by decide +kernel) rfl (by decide) rfl (Nat.le_of_ble_eq_true rfl) ⟨Nat.zero_le _, Nat.zero_le _⟩ d_D_invert_238 (fun r M4 H locs hq hW => ?_)
              rw [ya, yb, v11, v10] at hq
              obtain ⟨rfl, hMe⟩ := hq
              rw [hMe] at hW
              refine W.eq (g2 := F0 m 241 ls [.int (if G < E2 then 1 else 0)]) rfl ?_
              refine lv_if_eq (tgt := 252) hx hb d_D_invert_241 (by decide) (fun c7 => ?_) (fun c7 => ?_)
              · have nl : ¬ G < E2 := fun z => by rw [if_pos z] at c7; exact absurd c7 (by decide)
                have ec : V17 (M3 (A 11)) = (if G < E2 then G + PP else G) := by rw [ya, v11, if_neg nl]
                have o4 : ∀ q, q ≠ A 9 → q ≠ A 11 → M3 q = M2 q := fun q h1 h2 => k3.out h1
                have v4a : dg (M3 (A 9)) 17 ∧ V17 (M3 (A 9)) = V - U := ⟨d3, e3⟩
                have d4c : dg (M3 (A 11)) 17 := by rw [ya]; exact d11
                have yc : M3 (A 10) = M2 (A 10) := o4 _ (hD.ne 10 9) (hD.ne 10 11)
                refine lv_aload_n hx hb d_D_invert_252 rfl (lv_at hl 0 rfl) ?_
                refine wd_get E K hW hD.1 rfl i_D 11 (by decide) k_194 rfl d_D_invert_253 ?_
                refine lv_aload_n hx hb d_D_invert_256 rfl (lv_at hl 0 rfl) ?_
                refine wd_get E K hW hD.1 rfl i_D 10 (by decide) k_193 rfl d_D_invert_257 ?_
                refine ct_S E K hW hl.1 (c_D_lessen l g (A 11) (A 10) M3 hD.k11 hD.k10 d4c (by rw [yc]; exact d10) (by rw [ec, yc, v10]; exact sb_le iE)) k_315 k_3 k_313 k_314 2 (by decide +kernel) rfl (by decide) rfl (Nat.le_of_ble_eq_true rfl) ⟨Nat.zero_le _, Nat.zero_le _⟩ d_D_invert_260 (fun r M5 H locs hq hW => ?_)
                obtain ⟨rfl, k5, d5, e5⟩ := hq
                refine W.eq (g2 := F0 m 263 ls []) rfl ?_
                rw [ec, yc, v10] at e5
                have o5 : ∀ q, q ≠ A 9 → q ≠ A 11 → M5 q = M2 q := fun q h1 h2 => (k5.out h2).trans (o4 q h1 h2)
                have y5 : M5 (A 9) = M3 (A 9) := k5.out (hD.ne 9 11)
                refine lv_goto (tgt := 101) hx hb d_D_invert_263 (by decide) ?_
                exact i101 _ _ _ _ M5 H locs ls (by omega) ⟨hm.kept (o5 _ (hD.ne 0 9) (hD.ne 0 11)) (o5 _ (hD.ne 1 9) (hD.ne 1 11)) (o5 _ (hD.ne 2 9) (hD.ne 2 11)), fun q h => (o5 q (h 9 (by decide)) (h 11 (by decide))).trans (hf q h), ⟨(by rw [o5 _ (hD.ne 8 9) (hD.ne 8 11)]; exact d8), (by rw [y5]; exact v4a.1), (by rw [o5 _ (hD.ne 10 9) (hD.ne 10 11)]; exact d10), d5⟩, ⟨(by rw [o5 _ (hD.ne 8 9) (hD.ne 8 11)]; exact v8), (by rw [y5]; exact v4a.2), (by rw [o5 _ (hD.ne 10 9) (hD.ne 10 11)]; exact v10), e5⟩, (iv.sv nl9)⟩ hW (lv_sub hl [0, 1, 2] rfl)
              · have nl : G < E2 := Decidable.byContradiction (fun z => c7 (if_neg z))
                refine lv_aload_n hx hb d_D_invert_244 rfl (lv_at hl 0 rfl) ?_
                refine lv_aload_n hx hb d_D_invert_245 rfl (lv_at hl 0 rfl) ?_
                refine wd_get E K hW hD.1 rfl i_D 11 (by decide) k_194 rfl d_D_invert_246 ?_
                refine ct_V E K hW hl.1 hD.1 rfl (c_D_more l g o A (A 11) M3 hD (fun j hj => by rw [k3.out (hD.ne 2 9)]; exact hm.1 j hj) hD.k11 (hD.ne 2 11) (by rw [ya]; exact d11) (by rw [ya, v11]; exact more_lt iG)) k_309 k_3 k_306 k_308 k_1010 1 (by decide +kernel) rfl (by decide) rfl (Nat.le_of_ble_eq_true rfl) ⟨Nat.zero_le _, Nat.zero_le _⟩ d_D_invert_249 (fun r M4 H locs hq hW => ?_)
                obtain ⟨rfl, k4, d4, e4⟩ := hq
                refine W.eq (g2 := F0 m 252 ls []) rfl ?_
                have ec : V17 (M4 (A 11)) = (if G < E2 then G + PP else G) := by rw [e4, ya, v11, if_pos nl]
                have o4 : ∀ q, q ≠ A 9 → q ≠ A 11 → M4 q = M2 q := fun q h1 h2 => (k4.out h2).trans (k3.out h1)
                have y4 : M4 (A 9) = M3 (A 9) := k4.out (hD.ne 9 11)
                have v4a : dg (M4 (A 9)) 17 ∧ V17 (M4 (A 9)) = V - U := by rw [y4]; exact ⟨d3, e3⟩
                have d4c := d4
                have yc : M4 (A 10) = M2 (A 10) := o4 _ (hD.ne 10 9) (hD.ne 10 11)
                refine lv_aload_n hx hb d_D_invert_252 rfl (lv_at hl 0 rfl) ?_
                refine wd_get E K hW hD.1 rfl i_D 11 (by decide) k_194 rfl d_D_invert_253 ?_
                refine lv_aload_n hx hb d_D_invert_256 rfl (lv_at hl 0 rfl) ?_
                refine wd_get E K hW hD.1 rfl i_D 10 (by decide) k_193 rfl d_D_invert_257 ?_
                refine ct_S E K hW hl.1 (c_D_lessen l g (A 11) (A 10) M4 hD.k11 hD.k10 d4c (by rw [yc]; exact d10) (by rw [ec, yc, v10]; exact sb_le iE)) k_315 k_3 k_313 k_314 2 (by decide +kernel) rfl (by decide) rfl (Nat.le_of_ble_eq_true rfl) ⟨Nat.zero_le _, Nat.zero_le _⟩ d_D_invert_260 (fun r M5 H locs hq hW => ?_)
                obtain ⟨rfl, k5, d5, e5⟩ := hq
                refine W.eq (g2 := F0 m 263 ls []) rfl ?_
                rw [ec, yc, v10] at e5
                have o5 : ∀ q, q ≠ A 9 → q ≠ A 11 → M5 q = M2 q := fun q h1 h2 => (k5.out h2).trans (o4 q h1 h2)
                have y5 : M5 (A 9) = M4 (A 9) := k5.out (hD.ne 9 11)
                refine lv_goto (tgt := 101) hx hb d_D_invert_263 (by decide) ?_
                exact i101 _ _ _ _ M5 H locs ls (by omega) ⟨hm.kept (o5 _ (hD.ne 0 9) (hD.ne 0 11)) (o5 _ (hD.ne 1 9) (hD.ne 1 11)) (o5 _ (hD.ne 2 9) (hD.ne 2 11)), fun q h => (o5 q (h 9 (by decide)) (h 11 (by decide))).trans (hf q h), ⟨(by rw [o5 _ (hD.ne 8 9) (hD.ne 8 11)]; exact d8), (by rw [y5]; exact v4a.1), (by rw [o5 _ (hD.ne 10 9) (hD.ne 10 11)]; exact d10), d5⟩, ⟨(by rw [o5 _ (hD.ne 8 9) (hD.ne 8 11)]; exact v8), (by rw [y5]; exact v4a.2), (by rw [o5 _ (hD.ne 10 9) (hD.ne 10 11)]; exact v10), e5⟩, (iv.sv nl9)⟩ hW (lv_sub hl [0, 1, 2] rfl)
          · have ve : V % 2 = 0 := by rw [pr9]; exact (bitEven _).mp c4
            refine lv_aload_n hx hb d_D_invert_169 rfl (lv_at hl 0 rfl) ?_
            refine wd_get E K hW hD.1 rfl i_D 9 (by decide) k_192 rfl d_D_invert_170 ?_
            refine ct_S E K hW hl.1 (c_D_half l g (A 9) M2 hD.k9 d9) k_305 k_3 k_303 k_304 1 (by decide +kernel) rfl (by decide) rfl (Nat.le_of_ble_eq_true rfl) ⟨Nat.zero_le _, Nat.zero_le _⟩ d_D_invert_173 (fun r M3 H locs hq hW => ?_)
            obtain ⟨rfl, k3, d3, e3⟩ := hq
            refine W.eq (g2 := F0 m 176 ls []) rfl ?_
            rw [v9] at e3
            have y3 : M3 (A 11) = M2 (A 11) := k3.out (hD.ne 11 9)
            have pr3 : V17 (M3 (A 11)) % 2 = w4 (M3 (A 11) 0) % 2 := vN_low16 _ 16
            rw [y3, v11] at pr3
            refine lv_aload_n hx hb d_D_invert_176 rfl (lv_at hl 0 rfl) ?_
            refine wd_get E K hW hD.1 rfl i_D 11 (by decide) k_194 rfl d_D_invert_177 ?_
            refine lv_iconst (v := 0) hx hb d_D_invert_180 (by decide) ?_
            refine wd_ld E K hW hD.k11 0 (by decide) (by decide) d_D_invert_181 ?_
            refine lv_iconst (v := 1) hx hb d_D_invert_182 (by decide) ?_
            refine lv_iand hx hb d_D_invert_183 ?_
            refine lv_if_eq (tgt := 195) hx hb d_D_invert_184 (by decide) (fun c5 => ?_) (fun c5 => ?_)
            · rw [y3] at c5
              have od : ¬ G % 2 = 1 := by rw [pr3, (bitEven _).mp c5]; decide
              have ec : V17 (M3 (A 11)) = (if G % 2 = 1 then G + PP else G) := by rw [y3, v11, if_neg od]
              have o4 : ∀ q, q ≠ A 9 → q ≠ A 11 → M3 q = M2 q := fun q h1 h2 => k3.out h1
              have v4a : dg (M3 (A 9)) 17 ∧ V17 (M3 (A 9)) = V / 2 := ⟨d3, e3⟩
              have d4c : dg (M3 (A 11)) 17 := by rw [y3]; exact d11
              refine lv_aload_n hx hb d_D_invert_195 rfl (lv_at hl 0 rfl) ?_
              refine wd_get E K hW hD.1 rfl i_D 11 (by decide) k_194 rfl d_D_invert_196 ?_
              refine ct_S E K hW hl.1 (c_D_half l g (A 11) M3 hD.k11 d4c) k_305 k_3 k_303 k_304 1 (by decide +kernel) rfl (by decide) rfl (Nat.le_of_ble_eq_true rfl) ⟨Nat.zero_le _, Nat.zero_le _⟩ d_D_invert_199 (fun r M5 H locs hq hW => ?_)
              obtain ⟨rfl, k5, d5, e5⟩ := hq
              refine W.eq (g2 := F0 m 202 ls []) rfl ?_
              rw [ec] at e5
              have o5 : ∀ q, q ≠ A 9 → q ≠ A 11 → M5 q = M2 q := fun q h1 h2 => (k5.out h2).trans (o4 q h1 h2)
              have y5 : M5 (A 9) = M3 (A 9) := k5.out (hD.ne 9 11)
              refine lv_goto (tgt := 158) hx hb d_D_invert_202 (by decide) ?_
              exact i158 _ _ _ _ M5 H locs ls (by omega) hU0 hUo ⟨hm.kept (o5 _ (hD.ne 0 9) (hD.ne 0 11)) (o5 _ (hD.ne 1 9) (hD.ne 1 11)) (o5 _ (hD.ne 2 9) (hD.ne 2 11)), fun q h => (o5 q (h 9 (by decide)) (h 11 (by decide))).trans (hf q h), ⟨(by rw [o5 _ (hD.ne 8 9) (hD.ne 8 11)]; exact d8), (by rw [y5]; exact v4a.1), (by rw [o5 _ (hD.ne 10 9) (hD.ne 10 11)]; exact d10), d5⟩, ⟨(by rw [o5 _ (hD.ne 8 9) (hD.ne 8 11)]; exact v8), (by rw [y5]; exact v4a.2), (by rw [o5 _ (hD.ne 10 9) (hD.ne 10 11)]; exact v10), e5⟩, (iv.hw ve)⟩ hW (lv_sub hl [0, 1, 2] rfl)
            · rw [y3] at c5
              have od : G % 2 = 1 := by rw [pr3]; exact bit1 (fun z => c5 ((bitEven _).mpr z))
              refine lv_aload_n hx hb d_D_invert_187 rfl (lv_at hl 0 rfl) ?_
              refine lv_aload_n hx hb d_D_invert_188 rfl (lv_at hl 0 rfl) ?_
              refine wd_get E K hW hD.1 rfl i_D 11 (by decide) k_194 rfl d_D_invert_189 ?_
              refine ct_V E K hW hl.1 hD.1 rfl (c_D_more l g o A (A 11) M3 hD (fun j hj => by rw [k3.out (hD.ne 2 9)]; exact hm.1 j hj) hD.k11 (hD.ne 2 11) (by rw [y3]; exact d11) (by rw [y3, v11]; exact more_lt iG)) k_309 k_3 k_306 k_308 k_1010 1 (by decide +kernel) rfl (by decide) rfl (Nat.le_of_ble_eq_true rfl) ⟨Nat.zero_le _, Nat.zero_le _⟩ d_D_invert_192 (fun r M4 H locs hq hW => ?_)
              obtain ⟨rfl, k4, d4, e4⟩ := hq
              refine W.eq (g2 := F0 m 195 ls []) rfl ?_
              have ec : V17 (M4 (A 11)) = (if G % 2 = 1 then G + PP else G) := by rw [e4, y3, v11, if_pos od]
              have o4 : ∀ q, q ≠ A 9 → q ≠ A 11 → M4 q = M2 q := fun q h1 h2 => (k4.out h2).trans (k3.out h1)
              have y4 : M4 (A 9) = M3 (A 9) := k4.out (hD.ne 9 11)
              have v4a : dg (M4 (A 9)) 17 ∧ V17 (M4 (A 9)) = V / 2 := by rw [y4]; exact ⟨d3, e3⟩
              have d4c := d4
              refine lv_aload_n hx hb d_D_invert_195 rfl (lv_at hl 0 rfl) ?_
              refine wd_get E K hW hD.1 rfl i_D 11 (by decide) k_194 rfl d_D_invert_196 ?_
              refine ct_S E K hW hl.1 (c_D_half l g (A 11) M4 hD.k11 d4c) k_305 k_3 k_303 k_304 1 (by decide +kernel) rfl (by decide) rfl (Nat.le_of_ble_eq_true rfl) ⟨Nat.zero_le _, Nat.zero_le _⟩ d_D_invert_199 (fun r M5 H locs hq hW => ?_)
              obtain ⟨rfl, k5, d5, e5⟩ := hq
              refine W.eq (g2 := F0 m 202 ls []) rfl ?_
              rw [ec] at e5
              have o5 : ∀ q, q ≠ A 9 → q ≠ A 11 → M5 q = M2 q := fun q h1 h2 => (k5.out h2).trans (o4 q h1 h2)
              have y5 : M5 (A 9) = M4 (A 9) := k5.out (hD.ne 9 11)
              refine lv_goto (tgt := 158) hx hb d_D_invert_202 (by decide) ?_
              exact i158 _ _ _ _ M5 H locs ls (by omega) hU0 hUo ⟨hm.kept (o5 _ (hD.ne 0 9) (hD.ne 0 11)) (o5 _ (hD.ne 1 9) (hD.ne 1 11)) (o5 _ (hD.ne 2 9) (hD.ne 2 11)), fun q h => (o5 q (h 9 (by decide)) (h 11 (by decide))).trans (hf q h), ⟨(by rw [o5 _ (hD.ne 8 9) (hD.ne 8 11)]; exact d8), (by rw [y5]; exact v4a.1), (by rw [o5 _ (hD.ne 10 9) (hD.ne 10 11)]; exact d10), d5⟩, ⟨(by rw [o5 _ (hD.ne 8 9) (hD.ne 8 11)]; exact v8), (by rw [y5]; exact v4a.2), (by rw [o5 _ (hD.ne 10 9) (hD.ne 10 11)]; exact v10), e5⟩, (iv.hw ve)⟩ hW (lv_sub hl [0, 1, 2] rfl)
        have n111 : ∀ (U V E2 G : Nat) (M2 : Mm) (H : Heap) (locs : List Loc) (ls : Array Slot), U + V < n + 1 → U ≠ 0 → SI M M2 A X Lw Y U V E2 G → wd g H locs M2 → lv_has ls 4 [(0, .ref o), (1, .int rv), (2, .int pv)] → W p l e (rmm 1 24) s m args below meth c H locs 0 0 Q (F0 m 111 ls []) := by
          intro U V E2 G M2 H locs ls hn9 hU0 hS hW hl
          obtain ⟨hm, hf, ⟨d8, d9, d10, d11⟩, ⟨v8, v9, v10, v11⟩, iv⟩ := id hS
          obtain ⟨iE, iG, -, -, -, iV0, -, -⟩ := id iv
          have pr8 : V17 (M2 (A 8)) % 2 = w4 (M2 (A 8) 0) % 2 := vN_low16 _ 16
          rw [v8] at pr8
          refine lv_aload_n hx hb d_D_invert_111 rfl (lv_at hl 0 rfl) ?_
          refine wd_get E K hW hD.1 rfl i_D 8 (by decide) k_191 rfl d_D_invert_112 ?_
          refine lv_iconst (v := 0) hx hb d_D_invert_115 (by decide) ?_
          refine wd_ld E K hW hD.k8 0 (by decide) (by decide) d_D_invert_116 ?_
          refine lv_iconst (v := 1) hx hb d_D_invert_117 (by decide) ?_
          refine lv_iand hx hb d_D_invert_118 ?_
          refine lv_if_ne (tgt := 158) hx hb d_D_invert_119 (by decide) (fun c4 => ?_) (fun c4 => ?_)
          · have uo : U % 2 = 1 := by rw [pr8]; exact bit1 (fun z => c4 ((bitEven _).mpr z))
            exact n158 U V E2 G M2 H locs ls hn9 hU0 uo hS hW hl
          · have ue : U % 2 = 0 := by rw [pr8]; exact (bitEven _).mp c4
            refine lv_aload_n hx hb d_D_invert_122 rfl (lv_at hl 0 rfl) ?_
            refine wd_get E K hW hD.1 rfl i_D 8 (by decide) k_191 rfl d_D_invert_123 ?_
            refine ct_S E K hW hl.1 (c_D_half l g (A 8) M2 hD.k8 d8) k_305 k_3 k_303 k_304 1 (by decide +kernel) rfl (by decide) rfl (Nat.le_of_ble_eq_true rfl) ⟨Nat.zero_le _, Nat.zero_le _⟩ d_D_invert_126 (fun r M3 H locs hq hW => ?_)
            obtain ⟨rfl, k3, d3, e3⟩ := hq
            refine W.eq (g2 := F0 m 129 ls []) rfl ?_
            rw [v8] at e3
            have y3 : M3 (A 10) = M2 (A 10) := k3.out (hD.ne 10 8)
            have pr3 : V17 (M3 (A 10)) % 2 = w4 (M3 (A 10) 0) % 2 := vN_low16 _ 16
            rw [y3, v10] at pr3
            refine lv_aload_n hx hb d_D_invert_129 rfl (lv_at hl 0 rfl) ?_
            refine wd_get E K hW hD.1 rfl i_D 10 (by decide) k_193 rfl d_D_invert_130 ?_
            refine lv_iconst (v := 0) hx hb d_D_invert_133 (by decide) ?_
            refine wd_ld E K hW hD.k10 0 (by decide) (by decide) d_D_invert_134 ?_
            refine lv_iconst (v := 1) hx hb d_D_invert_135 (by decide) ?_
            refine lv_iand hx hb d_D_invert_136 ?_
            refine lv_if_eq (tgt := 148) hx hb d_D_invert_137 (by decide) (fun c5 => ?_) (fun c5 => ?_)
            · rw [y3] at c5
              have od : ¬ E2 % 2 = 1 := by rw [pr3, (bitEven _).mp c5]; decide
              have ec : V17 (M3 (A 10)) = (if E2 % 2 = 1 then E2 + PP else E2) := by rw [y3, v10, if_neg od]
              have o4 : ∀ q, q ≠ A 8 → q ≠ A 10 → M3 q = M2 q := fun q h1 h2 => k3.out h1
              have v4a : dg (M3 (A 8)) 17 ∧ V17 (M3 (A 8)) = U / 2 := ⟨d3, e3⟩
              have d4c : dg (M3 (A 10)) 17 := by rw [y3]; exact d10
              refine lv_aload_n hx hb d_D_invert_148 rfl (lv_at hl 0 rfl) ?_
              refine wd_get E K hW hD.1 rfl i_D 10 (by decide) k_193 rfl d_D_invert_149 ?_
              refine ct_S E K hW hl.1 (c_D_half l g (A 10) M3 hD.k10 d4c) k_305 k_3 k_303 k_304 1 (by decide +kernel) rfl (by decide) rfl (Nat.le_of_ble_eq_true rfl) ⟨Nat.zero_le _, Nat.zero_le _⟩ d_D_invert_152 (fun r M5 H locs hq hW => ?_)
              obtain ⟨rfl, k5, d5, e5⟩ := hq
              refine W.eq (g2 := F0 m 155 ls []) rfl ?_
              rw [ec] at e5
              have o5 : ∀ q, q ≠ A 8 → q ≠ A 10 → M5 q = M2 q := fun q h1 h2 => (k5.out h2).trans (o4 q h1 h2)
              have y5 : M5 (A 8) = M3 (A 8) := k5.out (hD.ne 8 10)
              refine lv_goto (tgt := 111) hx hb d_D_invert_155 (by decide) ?_
              exact i111 _ _ _ _ M5 H locs ls (by omega) (by omega) ⟨hm.kept (o5 _ (hD.ne 0 8) (hD.ne 0 10)) (o5 _ (hD.ne 1 8) (hD.ne 1 10)) (o5 _ (hD.ne 2 8) (hD.ne 2 10)), fun q h => (o5 q (h 8 (by decide)) (h 10 (by decide))).trans (hf q h), ⟨(by rw [y5]; exact v4a.1), (by rw [o5 _ (hD.ne 9 8) (hD.ne 9 10)]; exact d9), d5, (by rw [o5 _ (hD.ne 11 8) (hD.ne 11 10)]; exact d11)⟩, ⟨(by rw [y5]; exact v4a.2), (by rw [o5 _ (hD.ne 9 8) (hD.ne 9 10)]; exact v9), e5, (by rw [o5 _ (hD.ne 11 8) (hD.ne 11 10)]; exact v11)⟩, (iv.hu ue)⟩ hW (lv_sub hl [0, 1, 2] rfl)
            · rw [y3] at c5
              have od : E2 % 2 = 1 := by rw [pr3]; exact bit1 (fun z => c5 ((bitEven _).mpr z))
              refine lv_aload_n hx hb d_D_invert_140 rfl (lv_at hl 0 rfl) ?_
              refine lv_aload_n hx hb d_D_invert_141 rfl (lv_at hl 0 rfl) ?_
              refine wd_get E K hW hD.1 rfl i_D 10 (by decide) k_193 rfl d_D_invert_142 ?_
              refine ct_V E K hW hl.1 hD.1 rfl (c_D_more l g o A (A 10) M3 hD (fun j hj => by rw [k3.out (hD.ne 2 8)]; exact hm.1 j hj) hD.k10 (hD.ne 2 10) (by rw [y3]; exact d10) (by rw [y3, v10]; exact more_lt iE)) k_309 k_3 k_306 k_308 k_1010 1 (by decide +kernel) rfl (by decide) rfl (Nat.le_of_ble_eq_true rfl) ⟨Nat.zero_le _, Nat.zero_le _⟩ d_D_invert_145 (fun r M4 H locs hq hW => ?_)
              obtain ⟨rfl, k4, d4, e4⟩ := hq
              refine W.eq (g2 := F0 m 148 ls []) rfl ?_
              have ec : V17 (M4 (A 10)) = (if E2 % 2 = 1 then E2 + PP else E2) := by rw [e4, y3, v10, if_pos od]
              have o4 : ∀ q, q ≠ A 8 → q ≠ A 10 → M4 q = M2 q := fun q h1 h2 => (k4.out h2).trans (k3.out h1)
              have y4 : M4 (A 8) = M3 (A 8) := k4.out (hD.ne 8 10)
              have v4a : dg (M4 (A 8)) 17 ∧ V17 (M4 (A 8)) = U / 2 := by rw [y4]; exact ⟨d3, e3⟩
              have d4c := d4
              refine lv_aload_n hx hb d_D_invert_148 rfl (lv_at hl 0 rfl) ?_
              refine wd_get E K hW hD.1 rfl i_D 10 (by decide) k_193 rfl d_D_invert_149 ?_
              refine ct_S E K hW hl.1 (c_D_half l g (A 10) M4 hD.k10 d4c) k_305 k_3 k_303 k_304 1 (by decide +kernel) rfl (by decide) rfl (Nat.le_of_ble_eq_true rfl) ⟨Nat.zero_le _, Nat.zero_le _⟩ d_D_invert_152 (fun r M5 H locs hq hW => ?_)
              obtain ⟨rfl, k5, d5, e5⟩ := hq
              refine W.eq (g2 := F0 m 155 ls []) rfl ?_
              rw [ec] at e5
              have o5 : ∀ q, q ≠ A 8 → q ≠ A 10 → M5 q = M2 q := fun q h1 h2 => (k5.out h2).trans (o4 q h1 h2)
              have y5 : M5 (A 8) = M4 (A 8) := k5.out (hD.ne 8 10)
              refine lv_goto (tgt := 111) hx hb d_D_invert_155 (by decide) ?_
              exact i111 _ _ _ _ M5 H locs ls (by omega) (by omega) ⟨hm.kept (o5 _ (hD.ne 0 8) (hD.ne 0 10)) (o5 _ (hD.ne 1 8) (hD.ne 1 10)) (o5 _ (hD.ne 2 8) (hD.ne 2 10)), fun q h => (o5 q (h 8 (by decide)) (h 10 (by decide))).trans (hf q h), ⟨(by rw [y5]; exact v4a.1), (by rw [o5 _ (hD.ne 9 8) (hD.ne 9 10)]; exact d9), d5, (by rw [o5 _ (hD.ne 11 8) (hD.ne 11 10)]; exact d11)⟩, ⟨(by rw [y5]; exact v4a.2), (by rw [o5 _ (hD.ne 9 8) (hD.ne 9 10)]; exact v9), e5, (by rw [o5 _ (hD.ne 11 8) (hD.ne 11 10)]; exact v11)⟩, (iv.hu ue)⟩ hW (lv_sub hl [0, 1, 2] rfl)
        have n101 : ∀ (U V E2 G : Nat) (M2 : Mm) (H : Heap) (locs : List Loc) (ls : Array Slot), U + V < n + 1 → SI M M2 A X Lw Y U V E2 G → wd g H locs M2 → lv_has ls 4 [(0, .ref o), (1, .int rv), (2, .int pv)] → W p l e (rmm 1 24) s m args below meth c H locs 0 0 Q (F0 m 101 ls []) := by
          intro U V E2 G M2 H locs ls hn9  hS hW hl
          obtain ⟨hm, hf, ⟨d8, d9, d10, d11⟩, ⟨v8, v9, v10, v11⟩, iv⟩ := id hS
          obtain ⟨iE, iG, -, -, -, iV0, -, -⟩ := id iv
          refine lv_aload_n hx hb d_D_invert_101 rfl (lv_at hl 0 rfl) ?_
          refine wd_get E K hW hD.1 rfl i_D 8 (by decide) k_191 rfl d_D_invert_102 ?_
          refine ct_S E K hW hl.1 (c_D_nought l g (A 8) M2 hD.k8) k_302 k_3 k_300 k_301 1 (by decide +kernel) rfl (by decide) rfl (Nat.le_of_ble_eq_true rfl) ⟨Nat.zero_le _, Nat.zero_le _⟩ d_D_invert_105 (fun r M3 H locs hq hW => ?_)
          rw [v8] at hq
          obtain ⟨rfl, hMe⟩ := hq
          rw [hMe] at hW
          refine W.eq (g2 := F0 m 108 ls [.int (if U = 0 then 1 else 0)]) rfl ?_
          refine lv_if_ne (tgt := 313) hx hb d_D_invert_108 (by decide) (fun c4 => ?_) (fun c4 => ?_)
          · have uz : U = 0 := Decidable.byContradiction (fun z => c4 (if_neg z))
            subst uz
            have gf := iv.fin hYl hY0
            have loop : ∀ (d i : Nat) (M3 : Mm) (H : Heap) (locs : List Loc) (ls : Array Slot), i ≤ 16 → 16 + 1 ≤ i + d → kp M2 M3 (A 5) i → (∀ j, j < i → M3 (A 5) j = M2 (A 11) j) → wd g H locs M3 → lv_has ls 4 [(3, .int (nI i)), (0, .ref o), (1, .int rv), (2, .int pv)] → W p l e (rmm 1 24) s m args below meth c H locs 0 0 Q (F0 m 315 ls []) := by
              intro d
              induction d with
              | zero => intro i M3 H locs ls h1 h2; exact absurd h2 (by omega)
              | succ d ih =>
                intro i M3 H locs ls h1 h2 hk hI hW hl
                refine lv_iload_n hx hb d_D_invert_315 rfl (lv_at hl 0 rfl) ?_
                refine lv_bipush (v := 16) hx hb d_D_invert_316 (by decide) ?_
                refine lv_icmp_ge (tgt := 339) hx hb d_D_invert_318 (by decide) (fun c1 => ?_) (fun c1 => ?_)
                · have c2 := (nI_leI (a := 16) (b := i) (by decide) (by omega)).mp c1
                  obtain rfl : i = 16 := by omega
                  have o9 : ∀ q, q ≠ A 5 → M3 q = M2 q := fun q h => hk.out h
                  have m9 := hm.kept (o9 _ (hD.ne 0 5)) (o9 _ (hD.ne 1 5)) (o9 _ (hD.ne 2 5))
                  have dx : dg (M3 (A 5)) 16 := dg.cg (d11.le (by decide)) hI
                  have vx : V16 (M3 (A 5)) = Y ^ (PP - 2) % PP := by rw [← gf, ← v11, V16, vN_congr hI, V17, vN_s 65536 (M2 (A 11)) 16]; exact inv_top v11 iG
                  refine lv_aload_n hx hb d_D_invert_339 rfl (lv_at hl 1 rfl) ?_
                  refine lv_iload_n hx hb d_D_invert_340 rfl (lv_at hl 2 rfl) ?_
                  refine lv_aload_n hx hb d_D_invert_341 rfl (lv_at hl 1 rfl) ?_
                  refine wd_get E K hW hD.1 rfl i_D 5 (by decide) k_188 rfl d_D_invert_342 ?_
                  refine ct_V E K hW hl.1 hD.1 rfl (c_D_give l g o A rv (A 5) M3 hD hD.k5 (hD.ne 5 0)) k_235 k_3 k_232 k_234 k_1003 2 (by decide +kernel) rfl (by decide) rfl (Nat.le_of_ble_eq_true rfl) ⟨Nat.zero_le _, Nat.zero_le _⟩ d_D_invert_345 (fun r M4 H locs hq hW => ?_)
                  obtain ⟨rfl, g4, c4, u4⟩ := hq
                  refine W.eq (g2 := F0 m 348 ls []) rfl ?_
                  have mg := m9.gv (hD.ne 1 0) (hD.ne 2 0) g4 c4 u4 dx vx (Nat.mod_lt _ (by decide))
                  refine lv_iconst (v := 1) hx hb d_D_invert_348 (by decide) ?_
                  exact ct_z E hQ hW (Or.inr rfl) d_D_invert_349 ⟨by rw [if_neg hn], fun q h => (g4 _ (h 0 (by decide))).trans ((o9 q (h 5 (by decide))).trans (hf q h)), by rw [if_neg hn, ← eY]; exact mg⟩
                · have c2 : i < 16 := Nat.not_le.mp (fun z => c1 ((nI_leI (a := 16) (b := i) (by decide) (by omega)).mpr z))
                  refine lv_aload_n hx hb d_D_invert_321 rfl (lv_at hl 1 rfl) ?_
                  refine wd_get E K hW hD.1 rfl i_D 5 (by decide) k_188 rfl d_D_invert_322 ?_
                  refine lv_iload_n hx hb d_D_invert_325 rfl (lv_at hl 0 rfl) ?_
                  refine lv_aload_n hx hb d_D_invert_326 rfl (lv_at hl 1 rfl) ?_
                  refine wd_get E K hW hD.1 rfl i_D 11 (by decide) k_194 rfl d_D_invert_327 ?_
                  refine lv_iload_n hx hb d_D_invert_330 rfl (lv_at hl 0 rfl) ?_
                  refine wd_ld E K hW hD.k11 i rfl (by omega) d_D_invert_331 ?_
                  refine lv_topi (fun v ev => ?_)
                  refine wd_st E K hW hD.k5 i rfl (by omega) d_D_invert_332 (fun H locs hW => ?_)
                  refine lv_iinc (v := (nI (i + 1))) (lv' := [(3, .int (nI (i + 1))), (0, .ref o), (1, .int rv), (2, .int pv)]) hx hb d_D_invert_333 hl (k := 0) rfl (nI_1 _) (by decide) rfl (fun ls hl => ?_)
                  refine lv_goto (tgt := 315) hx hb d_D_invert_336 (by decide) ?_
                  refine ih (i + 1) _ H locs ls (by omega) (by omega) (hk.st _) (fun j hj => ?_) hW (lv_sub hl [0, 1, 2, 3] rfl)
                  by_cases hji : j = i
                  · subst hji; rw [mst_at, ev]; exact hk (A 11) _ (fun z => absurd z (hD.ne 11 5))
                  · rw [mst_ne (fun _ => hji)]; exact hI j (by omega)
            refine lv_iconst (v := 0) hx hb d_D_invert_313 (by decide) ?_
            refine lv_istore_n (lv' := [(3, .int 0), (0, .ref o), (1, .int rv), (2, .int pv)]) hx hb d_D_invert_314 rfl hl (by decide) rfl (fun ls hl => ?_)
            exact loop 17 0 M2 H locs ls (by omega) (by omega) kp.rf (fun j hj => absurd hj (by omega)) hW (lv_sub hl [0, 1, 2, 3] rfl)
          · have uz : U ≠ 0 := fun z => by rw [if_pos z] at c4; exact absurd c4 (by decide)
            exact n111 U V E2 G M2 H locs ls hn9 uz hS hW hl
        exact ⟨n101, n111, n158⟩
    have loop0 : ∀ (d0 i : Nat) (M2 : Mm) (H : Heap) (locs : List Loc) (ls : Array Slot), i ≤ 17 → 17 + 1 ≤ i + d0 → (∀ q, q ≠ A 8 → q ≠ A 9 → q ≠ A 10 → q ≠ A 11 → M2 q = M1 q) → (∀ j, j < i → M2 (A 8) j = (if j < 16 then M1 (A 6) j else 0) ∧ M2 (A 9) j = (if j < 16 then M1 (A 2) j else 0) ∧ M2 (A 10) j = 0 ∧ M2 (A 11) j = 0) → wd g H locs M2 → lv_has ls 4 [(3, .int (nI i)), (0, .ref o), (1, .int rv), (2, .int pv)] → W p l e (rmm 1 24) s m args below meth c H locs 0 0 Q (F0 m 24 ls []) := by
      intro d0
      induction d0 with
      | zero => intro i M2 H locs ls h1 h2; exact absurd h2 (by omega)
      | succ d0 ih0 =>
        intro i M2 H locs ls h1 h2 hk hI hW hl
        refine lv_iload_n hx hb d_D_invert_24 rfl (lv_at hl 0 rfl) ?_
        refine lv_bipush (v := 17) hx hb d_D_invert_25 (by decide) ?_
        refine lv_icmp_ge (tgt := 94) hx hb d_D_invert_27 (by decide) (fun c1 => ?_) (fun c1 => ?_)
        · have c2 := (nI_leI (a := 17) (b := i) (by decide) (by omega)).mp c1
          obtain rfl : i = 17 := by omega
          refine lv_aload_n hx hb d_D_invert_94 rfl (lv_at hl 1 rfl) ?_
          refine wd_get E K hW hD.1 rfl i_D 10 (by decide) k_193 rfl d_D_invert_95 ?_
          refine lv_iconst (v := 0) hx hb d_D_invert_98 (by decide) ?_
          refine lv_iconst (v := 1) hx hb d_D_invert_99 (by decide) ?_
          refine wd_st E K hW hD.k10 0 (by decide) (by decide) d_D_invert_100 (fun H locs hW => ?_)
          obtain ⟨M3, eM⟩ : ∃ M3, M3 = (mst M2 (A 10) 0 1) := ⟨_, rfl⟩
          rw [← eM] at hW
          have o3 : ∀ q, q ≠ A 10 → M3 q = M2 q := fun q h => by rw [eM, mst_out h]
          have q8 : ∀ j, j < 17 → M3 (A 8) j = if j < 16 then M1 (A 6) j else 0 := fun j hj => by rw [o3 _ (hD.ne 8 10)]; exact (hI j hj).1
          have q9 : ∀ j, j < 17 → M3 (A 9) j = if j < 16 then M1 (A 2) j else 0 := fun j hj => by rw [o3 _ (hD.ne 9 10)]; exact (hI j hj).2.1
          have q11 : ∀ j, j < 17 → M3 (A 11) j = 0 := fun j hj => by rw [o3 _ (hD.ne 11 10)]; exact (hI j hj).2.2.2
          have q10 : ∀ j, j < 17 → M3 (A 10) j = if j = 0 then 1 else 0 := fun j hj => by
            rw [eM]
            by_cases h0 : j = 0
            · subst h0; rw [mst_at]; rfl
            · rw [mst_ne (fun _ => h0), if_neg h0]; exact (hI j hj).2.2.1
          have p1 : M1 (A 2) = M (A 2) := k1.out (hD.ne 2 6)
          have dp := qW_dg hM.1
          have w8v : V17 (M3 (A 8)) = Y := by rw [V17_16 (by rw [q8 16 (by decide)]; rfl), eY, ← x1.2.1]; exact vN_congr (fun j hj => by rw [q8 j (by omega), if_pos hj])
          have w9v : V17 (M3 (A 9)) = PP := by rw [V17_16 (by rw [q9 16 (by decide)]; rfl), ← V16_qW hM.1, ← p1]; exact vN_congr (fun j hj => by rw [q9 j (by omega), if_pos hj])
          have w10v : V17 (M3 (A 10)) = 1 := by rw [V17, vN_two (n := 15) (by decide) (fun j h1 h2 => by rw [q10 j (by omega), if_neg (by omega)]), q10 0 (by decide), q10 1 (by decide)]; decide
          have w11v : V17 (M3 (A 11)) = 0 := vN_all0 (by decide) q11
          have e8 : dg (M3 (A 8)) 17 := fun j hj => by rw [q8 j hj]; split; exact x1.1 j (by omega); decide
          have e9 : dg (M3 (A 9)) 17 := fun j hj => by rw [q9 j hj]; split; rw [p1]; exact dp j (by omega); decide
          have e10 : dg (M3 (A 10)) 17 := fun j hj => by rw [q10 j hj]; split <;> decide
          have e11 : dg (M3 (A 11)) 17 := fun j hj => by rw [q11 j hj]; decide
          have o4 : ∀ q, q ≠ A 8 → q ≠ A 9 → q ≠ A 10 → q ≠ A 11 → M3 q = M1 q := fun q h1 h2 h3 h4 => (o3 q h3).trans (hk q h1 h2 h3 h4)
          exact (main (Y + PP + 1)).1 Y PP 1 0 M3 H locs ls (by omega) ⟨m1.kept (o4 _ (hD.ne 0 8) (hD.ne 0 9) (hD.ne 0 10) (hD.ne 0 11)) (o4 _ (hD.ne 1 8) (hD.ne 1 9) (hD.ne 1 10) (hD.ne 1 11)) (o4 _ (hD.ne 2 8) (hD.ne 2 9) (hD.ne 2 10) (hD.ne 2 11)), fun q h => (o4 q (h 8 (by decide)) (h 9 (by decide)) (h 10 (by decide)) (h 11 (by decide))).trans (k1.out (h 6 (by decide))), ⟨e8, e9, e10, e11⟩, ⟨w8v, w9v, w10v, w11v⟩, IV.start hYl hY0⟩ hW (lv_sub hl [1, 2, 3] rfl)
        · have c2 : i < 17 := Nat.not_le.mp (fun z => c1 ((nI_leI (a := 17) (b := i) (by decide) (by omega)).mpr z))
          refine lv_aload_n hx hb d_D_invert_30 rfl (lv_at hl 1 rfl) ?_
          refine wd_get E K hW hD.1 rfl i_D 8 (by decide) k_191 rfl d_D_invert_31 ?_
          refine lv_iload_n hx hb d_D_invert_34 rfl (lv_at hl 0 rfl) ?_
          refine lv_iload_n hx hb d_D_invert_35 rfl (lv_at hl 0 rfl) ?_
          refine lv_bipush (v := 16) hx hb d_D_invert_36 (by decide) ?_
          refine lv_icmp_ge (tgt := 50) hx hb d_D_invert_38 (by decide) (fun c3 => ?_) (fun c3 => ?_)
          · have c5 : 16 ≤ i := (nI_leI (a := 16) (b := i) (by decide) (by omega)).mp c3
            refine lv_iconst (v := 0) hx hb d_D_invert_50 (by decide) ?_
            refine wd_st E K hW hD.k8 i rfl (by omega) d_D_invert_51 (fun H locs hW => ?_)
            refine lv_aload_n hx hb d_D_invert_52 rfl (lv_at hl 1 rfl) ?_
            refine wd_get E K hW hD.1 rfl i_D 9 (by decide) k_192 rfl d_D_invert_53 ?_
            refine lv_iload_n hx hb d_D_invert_56 rfl (lv_at hl 0 rfl) ?_
            refine lv_iload_n hx hb d_D_invert_57 rfl (lv_at hl 0 rfl) ?_
            refine lv_bipush (v := 16) hx hb d_D_invert_58 (by decide) ?_
            refine lv_icmp_ge (tgt := 72) hx hb d_D_invert_60 (by decide) (fun c4 => ?_) (fun c4 => ?_)
            · refine lv_iconst (v := 0) hx hb d_D_invert_72 (by decide) ?_
              refine wd_st E K hW hD.k9 i rfl (by omega) d_D_invert_73 (fun H locs hW => ?_)
              refine lv_aload_n hx hb d_D_invert_74 rfl (lv_at hl 1 rfl) ?_
              refine wd_get E K hW hD.1 rfl i_D 10 (by decide) k_193 rfl d_D_invert_75 ?_
              refine lv_iload_n hx hb d_D_invert_78 rfl (lv_at hl 0 rfl) ?_
              refine lv_iconst (v := 0) hx hb d_D_invert_79 (by decide) ?_
              refine wd_st E K hW hD.k10 i rfl (by omega) d_D_invert_80 (fun H locs hW => ?_)
              refine lv_aload_n hx hb d_D_invert_81 rfl (lv_at hl 1 rfl) ?_
              refine wd_get E K hW hD.1 rfl i_D 11 (by decide) k_194 rfl d_D_invert_82 ?_
              refine lv_iload_n hx hb d_D_invert_85 rfl (lv_at hl 0 rfl) ?_
              refine lv_iconst (v := 0) hx hb d_D_invert_86 (by decide) ?_
              refine wd_st E K hW hD.k11 i rfl (by omega) d_D_invert_87 (fun H locs hW => ?_)
              refine lv_iinc (v := (nI (i + 1))) (lv' := [(3, .int (nI (i + 1))), (0, .ref o), (1, .int rv), (2, .int pv)]) hx hb d_D_invert_88 hl (k := 0) rfl (nI_1 _) (by decide) rfl (fun ls hl => ?_)
              refine lv_goto (tgt := 24) hx hb d_D_invert_91 (by decide) ?_
              refine ih0 (i + 1) _ H locs ls (by omega) (by omega) (fun q h1 h2 h3 h4 => by rw [mst_out h4, mst_out h3, mst_out h2, mst_out h1]; exact hk q h1 h2 h3 h4) (fun j hj => ?_) hW (lv_sub hl [0, 1, 2, 3] rfl)
              by_cases hji : j = i
              · subst hji
                rw [mst_out (hD.ne 8 11), mst_out (hD.ne 8 10), mst_out (hD.ne 8 9), mst_at, mst_out (hD.ne 9 11), mst_out (hD.ne 9 10), mst_at, mst_out (hD.ne 10 11), mst_at, mst_at, if_neg (by omega), if_neg (by omega)]
                exact ⟨rfl, rfl, rfl, rfl⟩
              · rw [mst_ne (fun _ => hji), mst_ne (fun _ => hji), mst_ne (fun _ => hji), mst_ne (fun _ => hji), mst_ne (fun _ => hji), mst_ne (fun _ => hji), mst_ne (fun _ => hji), mst_ne (fun _ => hji), mst_ne (fun _ => hji), mst_ne (fun _ => hji), mst_ne (fun _ => hji), mst_ne (fun _ => hji), mst_ne (fun _ => hji), mst_ne (fun _ => hji), mst_ne (fun _ => hji), mst_ne (fun _ => hji)]
                exact hI j (by omega)
            · exact absurd c3 c4
          · have c5 : i < 16 := Nat.not_le.mp (fun z => c3 ((nI_leI (a := 16) (b := i) (by decide) (by omega)).mpr z))
            refine lv_aload_n hx hb d_D_invert_41 rfl (lv_at hl 1 rfl) ?_
            refine wd_get E K hW hD.1 rfl i_D 6 (by decide) k_189 rfl d_D_invert_42 ?_
            refine lv_iload_n hx hb d_D_invert_45 rfl (lv_at hl 0 rfl) ?_
            refine wd_ld E K hW hD.k6 i rfl (by omega) d_D_invert_46 ?_
            refine lv_goto (tgt := 51) hx hb d_D_invert_47 (by decide) ?_
            refine lv_topi (fun zu ezu => ?_)
            refine wd_st E K hW hD.k8 i rfl (by omega) d_D_invert_51 (fun H locs hW => ?_)
            refine lv_aload_n hx hb d_D_invert_52 rfl (lv_at hl 1 rfl) ?_
            refine wd_get E K hW hD.1 rfl i_D 9 (by decide) k_192 rfl d_D_invert_53 ?_
            refine lv_iload_n hx hb d_D_invert_56 rfl (lv_at hl 0 rfl) ?_
            refine lv_iload_n hx hb d_D_invert_57 rfl (lv_at hl 0 rfl) ?_
            refine lv_bipush (v := 16) hx hb d_D_invert_58 (by decide) ?_
            refine lv_icmp_ge (tgt := 72) hx hb d_D_invert_60 (by decide) (fun c4 => ?_) (fun c4 => ?_)
            · exact absurd c4 c3
            · refine lv_aload_n hx hb d_D_invert_63 rfl (lv_at hl 1 rfl) ?_
              refine wd_get E K hW hD.1 rfl i_D 2 (by decide) k_185 rfl d_D_invert_64 ?_
              refine lv_iload_n hx hb d_D_invert_67 rfl (lv_at hl 0 rfl) ?_
              refine wd_ld E K hW hD.k2 i rfl (by omega) d_D_invert_68 ?_
              refine lv_goto (tgt := 73) hx hb d_D_invert_69 (by decide) ?_
              refine lv_topi (fun zv ezv => ?_)
              refine wd_st E K hW hD.k9 i rfl (by omega) d_D_invert_73 (fun H locs hW => ?_)
              refine lv_aload_n hx hb d_D_invert_74 rfl (lv_at hl 1 rfl) ?_
              refine wd_get E K hW hD.1 rfl i_D 10 (by decide) k_193 rfl d_D_invert_75 ?_
              refine lv_iload_n hx hb d_D_invert_78 rfl (lv_at hl 0 rfl) ?_
              refine lv_iconst (v := 0) hx hb d_D_invert_79 (by decide) ?_
              refine wd_st E K hW hD.k10 i rfl (by omega) d_D_invert_80 (fun H locs hW => ?_)
              refine lv_aload_n hx hb d_D_invert_81 rfl (lv_at hl 1 rfl) ?_
              refine wd_get E K hW hD.1 rfl i_D 11 (by decide) k_194 rfl d_D_invert_82 ?_
              refine lv_iload_n hx hb d_D_invert_85 rfl (lv_at hl 0 rfl) ?_
              refine lv_iconst (v := 0) hx hb d_D_invert_86 (by decide) ?_
              refine wd_st E K hW hD.k11 i rfl (by omega) d_D_invert_87 (fun H locs hW => ?_)
              refine lv_iinc (v := (nI (i + 1))) (lv' := [(3, .int (nI (i + 1))), (0, .ref o), (1, .int rv), (2, .int pv)]) hx hb d_D_invert_88 hl (k := 0) rfl (nI_1 _) (by decide) rfl (fun ls hl => ?_)
              refine lv_goto (tgt := 24) hx hb d_D_invert_91 (by decide) ?_
              refine ih0 (i + 1) _ H locs ls (by omega) (by omega) (fun q h1 h2 h3 h4 => by rw [mst_out h4, mst_out h3, mst_out h2, mst_out h1]; exact hk q h1 h2 h3 h4) (fun j hj => ?_) hW (lv_sub hl [0, 1, 2, 3] rfl)
              by_cases hji : j = i
              · subst hji
                rw [mst_out (hD.ne 8 11), mst_out (hD.ne 8 10), mst_out (hD.ne 8 9), mst_at, mst_out (hD.ne 9 11), mst_out (hD.ne 9 10), mst_at, mst_out (hD.ne 10 11), mst_at, mst_at, if_pos c5, if_pos c5]
                refine ⟨?_, ?_, rfl, rfl⟩
                · rw [ezu, hk _ (hD.ne 6 8) (hD.ne 6 9) (hD.ne 6 10) (hD.ne 6 11)]
                · rw [ezv, mst_out (hD.ne 2 8), hk _ (hD.ne 2 8) (hD.ne 2 9) (hD.ne 2 10) (hD.ne 2 11)]
              · rw [mst_ne (fun _ => hji), mst_ne (fun _ => hji), mst_ne (fun _ => hji), mst_ne (fun _ => hji), mst_ne (fun _ => hji), mst_ne (fun _ => hji), mst_ne (fun _ => hji), mst_ne (fun _ => hji), mst_ne (fun _ => hji), mst_ne (fun _ => hji), mst_ne (fun _ => hji), mst_ne (fun _ => hji), mst_ne (fun _ => hji), mst_ne (fun _ => hji), mst_ne (fun _ => hji), mst_ne (fun _ => hji)]
                exact hI j (by omega)
    refine lv_iconst (v := 0) hx hb d_D_invert_22 (by decide) ?_
    refine lv_istore_n (lv' := [(3, .int 0), (0, .ref o), (1, .int rv), (2, .int pv)]) hx hb d_D_invert_23 rfl hl (by decide) rfl (fun ls hl => ?_)
    exact loop0 18 0 M1 H locs ls (by omega) (by omega) (fun _ _ _ _ _ => rfl) (fun j hj => absurd hj (by omega)) hW (lv_sub hl [0, 1, 2, 3] rfl)
  · have hz : X (w4 pv % 4) = 0 := Decidable.byContradiction (fun z => c0 (if_neg z))
    refine lv_iconst (v := 0) hx hb d_D_invert_20 (by decide) ?_
    exact ct_z E hQ hW (Or.inl rfl) d_D_invert_21 ⟨by rw [if_pos hz], fun q h => k1.out (h 6 (by decide)), by rw [if_pos hz]; exact m1⟩
end
section
/-! the class itself: its arrays B 0 .. B 3 (registers), B 4 line, B 5 work, B 6 prime, B 7 back, B 8 one, B 9 row, B 10 power, B 11 base -/
def Bn (i : Nat) : Nat := if i = 9 then 10 else 8
def Kv (g : wg) (o rg fd : Nat) (mn : Int32) (B : Nat → Nat) : Prop := ob g o 0 [.ref rg, .ref (B 4), .ref (B 5), .ref fd] ∧ rgs g rg B ∧ ob g fd 1 [.ref (B 6), .ref (B 7), .ref (B 8), .ref (B 9), .ref (B 10), .ref (B 11), .int mn] ∧ (∀ i, i < 12 → aok g (B i) (Bn i)) ∧ (∀ i j, i < 12 → j < 12 → B i = B j → i = j) ∧ w4 mn = 3525653809
theorem Kv.ne {g : wg} {o rg fd : Nat} {mn : Int32} {B : Nat → Nat} (h : Kv g o rg fd mn B) (i j : Nat) (hi : i < 12 := by decide) (hj : j < 12 := by decide) (hij : i ≠ j := by decide) : B i ≠ B j := fun z => hij (h.2.2.2.2.1 i j hi hj z)
theorem Kv.nr {g : wg} {o rg fd : Nat} {mn : Int32} {B : Nat → Nat} (h : Kv g o rg fd mn B) (rv : Int32) (j : Nat) (hj : j < 12 := by decide) (h4 : 4 ≤ j := by decide) : B (w4 rv % 4) ≠ B j := fun z => by
  have h1 := r4 rv
  have h2 := h.2.2.2.2.1 (w4 rv % 4) j (by omega) hj z
  omega
theorem Kv.kr {g : wg} {o rg fd : Nat} {mn : Int32} {B : Nat → Nat} (h : Kv g o rg fd mn B) (rv : Int32) : aok g (B (w4 rv % 4)) 8 := by
  have h1 := r4 rv
  have h2 := h.2.2.2.1 (w4 rv % 4) (by omega)
  unfold Bn at h2
  rw [if_neg (by omega)] at h2
  exact h2
theorem Kv.k4 {g : wg} {o rg fd : Nat} {mn : Int32} {B : Nat → Nat} (h : Kv g o rg fd mn B) : aok g (B 4) 8 := h.2.2.2.1 4 (by decide)
theorem Kv.k5 {g : wg} {o rg fd : Nat} {mn : Int32} {B : Nat → Nat} (h : Kv g o rg fd mn B) : aok g (B 5) 8 := h.2.2.2.1 5 (by decide)
theorem Kv.k6 {g : wg} {o rg fd : Nat} {mn : Int32} {B : Nat → Nat} (h : Kv g o rg fd mn B) : aok g (B 6) 8 := h.2.2.2.1 6 (by decide)
theorem Kv.k11 {g : wg} {o rg fd : Nat} {mn : Int32} {B : Nat → Nat} (h : Kv g o rg fd mn B) : aok g (B 11) 8 := h.2.2.2.1 11 (by decide)
theorem Kv.F {g : wg} {o rg fd : Nat} {mn : Int32} {B : Nat → Nat} (h : Kv g o rg fd mn B) : Fo g fd (B 6) (B 7) (B 8) (B 9) (B 10) (B 11) mn :=
  ⟨h.2.2.1, ⟨h.2.2.2.1 6 (by decide), h.2.2.2.1 7 (by decide), h.2.2.2.1 8 (by decide), h.2.2.2.1 9 (by decide), h.2.2.2.1 10 (by decide), h.2.2.2.1 11 (by decide)⟩, ⟨h.ne 6 7, h.ne 6 8, h.ne 6 9, h.ne 6 10, h.ne 6 11, h.ne 7 8, h.ne 7 9, h.ne 7 10, h.ne 7 11, h.ne 8 9, h.ne 8 10, h.ne 8 11, h.ne 9 10, h.ne 9 11, h.ne 10 11⟩, h.2.2.2.2.2⟩
theorem Kv.fx5 {g : wg} {o rg fd : Nat} {mn : Int32} {B : Nat → Nat} (h : Kv g o rg fd mn B) : fx (B 5) (B 6) (B 7) (B 8) (B 9) (B 10) (B 11) := ⟨h.ne 5 6, h.ne 5 7, h.ne 5 8, h.ne 5 9, h.ne 5 10, h.ne 5 11⟩
def CI (M : Mm) (B X Lw : Nat → Nat) : Prop := Fc M (B 6) (B 7) (B 8) ∧ (∀ k, k < 4 → X k < PP ∧ V8 (M (B k)) = X k) ∧ ∀ j, j < 8 → w4 (M (B 4) j) = Lw j
def cfr (M M' : Mm) (B : Nat → Nat) : Prop := ∀ q, (∀ i, i < 12 → q ≠ B i) → M' q = M q
theorem CI.r {M : Mm} {B X Lw : Nat → Nat} (h : CI M B X Lw) (rv : Int32) : V8 (M (B (w4 rv % 4))) = X (w4 rv % 4) ∧ V8 (M (B (w4 rv % 4))) < PP := by
  obtain ⟨h1, h2⟩ := h.2.1 _ (r4 rv)
  exact ⟨h2, by rw [h2]; exact h1⟩
theorem CI.p {M : Mm} {B X Lw : Nat → Nat} (h : CI M B X Lw) : V8 (M (B 6)) = PP := V8_pW h.1.1
theorem CI.up {g : wg} {o rg fd v : Nat} {mn rv : Int32} {M M' : Mm} {B X Lw : Nat → Nat} (hV : Kv g o rg fd mn B) (h : CI M B X Lw) (ho : ∀ q, q ≠ B (w4 rv % 4) → q ≠ B 5 → q ≠ B 9 → q ≠ B 10 → q ≠ B 11 → M' q = M q) (hv : V8 (M' (B (w4 rv % 4))) = v) (hl : v < PP) : CI M' B (va_up X (w4 rv % 4) v) Lw := by
  have ho2 : ∀ i, 4 ≤ i → i < 9 → i ≠ 5 → M' (B i) = M (B i) := fun i h1 h2 h3 => ho _ (hV.nr rv i (by omega) h1).symm (hV.ne i 5 (by omega) (by decide) h3) (hV.ne i 9 (by omega) (by decide) (by omega)) (hV.ne i 10 (by omega) (by decide) (by omega)) (hV.ne i 11 (by omega) (by decide) (by omega))
  refine ⟨h.1.kept (ho2 6 (by decide) (by decide) (by decide)) (ho2 7 (by decide) (by decide) (by decide)) (ho2 8 (by decide) (by decide) (by decide)), fun k hk => ?_, fun j hj => by rw [ho2 4 (by decide) (by decide) (by decide)]; exact h.2.2 j hj⟩
  by_cases hkr : k = w4 rv % 4
  · subst hkr
    rw [va_up_self]
    exact ⟨hl, hv⟩
  · have h4 := r4 rv
    rw [up_ne hkr, ho _ (hV.ne k _ (by omega) (by omega) hkr) (hV.ne k 5 (by omega) (by decide) (by omega)) (hV.ne k 9 (by omega) (by decide) (by omega)) (hV.ne k 10 (by omega) (by decide) (by omega)) (hV.ne k 11 (by omega) (by decide) (by omega))]
    exact h.2.1 k hk
theorem CI.ln {g : wg} {o rg fd j : Nat} {mn v : Int32} {M : Mm} {B X Lw : Nat → Nat} (hV : Kv g o rg fd mn B) (h : CI M B X Lw) : CI (mst M (B 4) j v) B X (va_up Lw j (w4 v)) := by
  refine ⟨h.1.kept (mst_out (hV.ne 6 4)) (mst_out (hV.ne 7 4)) (mst_out (hV.ne 8 4)), fun k hk => by rw [mst_out (hV.ne k 4 (by omega) (by decide) (by omega))]; exact h.2.1 k hk, fun i hi => ?_⟩
  by_cases hij : i = j
  · subst hij; rw [mst_at, va_up_self]
  · rw [mst_ne (fun _ => hij), up_ne hij]; exact h.2.2 i hi
theorem ix4 (hv : Int32) : 4 * (hv &&& 1) = nI (w4 hv % 2 * 4 + 0) := by
  rw [pk_and hv 1 (by decide), show (4 : Int32) = nI 4 from rfl, pk_mul]
  show nI (4 * (w4 hv % 2)) = _
  congr 1; omega
theorem CI.L {M : Mm} {B X Lw : Nat → Nat} (h : CI M B X Lw) : V8 (M (B 4)) = nv Lw 8 := nv_w h.2.2
theorem load_fin {L D br : Nat} (hL : L < TT) (h : ¬ L < PP) (hb : br ≤ 1) (hD : D < TT) (e : D + PP = L + br * TT) : D = L % PP := fin_red (c := 0) (T2P hL) (by decide) (by decide) (by decide) hL (by rw [Nat.zero_mul, Nat.add_zero]) hb hD e (Or.inr h)
theorem word_8 {f : Nat → Int32} {X k : Nat} (hX : V8 f = X) (hk : k < 8) : w4 (f k) = X / 4294967296 ^ k % 4294967296 := by
  rw [← hX, V8, vN_dig (B := 4294967296) (by decide) hk (fun j _ => w4_lt _)]
end
section
theorem halfX_lt {a : Nat} (h : a < PP) : (if a % 2 = 1 then a + PP else a) / 2 < PP := by
  generalize PP = P at *
  split <;> omega
set_option maxHeartbeats 4000000 in
set_option maxRecDepth 100000 in
/-- at(r) -/
theorem c_K_at (l : Launch) (g : wg) (o rg fd : Nat) (mn : Int32) (B : Nat → Nat) (rv : Int32) (M : Mm) (hV : Kv g o rg fd mn B) : Ct l y_K_at b_K_at 2 (some (.array .int)) 0 0 g [.ref o, .int rv] M (fun r M' => r = some (.ref (B (w4 rv % 4))) ∧ M' = M) := by
  refine Ct.of rfl (Nat.le_of_ble_eq_true rfl) (fun p e s m args below meth c H ls Q E K hQ hW hl => ?_)
  have hx := E.1
  have hb := E.2.1
  have hown := E.2.2.2.2.1
  have hts := E.2.2.2.2.2.1
  have hl : lv_has ls 2 [(0, .ref o), (1, .int rv)] := hl
  refine lv_aload_n hx hb d_K_at_0 rfl (lv_at hl 0 rfl) ?_
  refine wd_get E K hW hV.1 rfl i_K 0 (by decide) k_45 rfl d_K_at_1 ?_
  refine lv_iload_n hx hb d_K_at_4 rfl (lv_at hl 1 rfl) ?_
  refine lv_iconst (v := 3) hx hb d_K_at_5 (by decide) ?_
  refine lv_iand hx hb d_K_at_6 ?_
  refine wd_ald E K hW hV.2.1 (w4 rv % 4) (pk_and rv 2 (by decide)) (r4 rv) d_K_at_7 ?_
  exact ct_a E hQ hW d_K_at_8 ⟨rfl, rfl⟩
set_option maxHeartbeats 4000000 in
set_option maxRecDepth 100000 in
/-- line -/
theorem c_K_line (l : Launch) (g : wg) (o rg fd : Nat) (mn : Int32) (B : Nat → Nat) (hv a1 a2 a3 a4 : Int32) (X Lw : Nat → Nat) (M : Mm) (hV : Kv g o rg fd mn B) (hC : CI M B X Lw) : Ct l y_K_line b_K_line 7 none 0 0 g [.ref o, .int hv, .int a1, .int a2, .int a3, .int a4] M (fun r M' => r = none ∧ cfr M M' B ∧ CI M' B X (lnF Lw hv a1 a2 a3 a4)) := by
  refine Ct.of rfl (Nat.le_of_ble_eq_true rfl) (fun p e s m args below meth c H ls Q E K hQ hW hl => ?_)
  have hx := E.1
  have hb := E.2.1
  have hown := E.2.2.2.2.1
  have hts := E.2.2.2.2.2.1
  have hl : lv_has ls 7 [(0, .ref o), (1, .int hv), (2, .int a1), (3, .int a2), (4, .int a3), (5, .int a4)] := hl
  have hh2 : w4 hv % 2 < 2 := Nat.mod_lt _ (by decide)
  refine lv_iconst (v := 4) hx hb d_K_line_0 (by decide) ?_
  refine lv_iload_n hx hb d_K_line_1 rfl (lv_at hl 1 rfl) ?_
  refine lv_iconst (v := 1) hx hb d_K_line_2 (by decide) ?_
  refine lv_iand hx hb d_K_line_3 ?_
  refine lv_imul hx hb d_K_line_4 ?_
  refine lv_topi (fun fv efv => ?_)
  refine lv_istore (lv' := [(6, .int fv), (0, .ref o), (1, .int hv), (2, .int a1), (3, .int a2), (4, .int a3), (5, .int a4)]) hx hb d_K_line_5 hl (by decide) rfl (fun ls hl => ?_)
  have ei : fv = nI (w4 hv % 2 * 4 + 0) := by rw [efv]; exact ix4 hv
  refine lv_aload_n hx hb d_K_line_7 rfl (lv_at hl 1 rfl) ?_
  refine wd_get E K hW hV.1 rfl i_K 1 (by decide) k_46 rfl d_K_line_8 ?_
  refine lv_iload hx hb d_K_line_11 (lv_at hl 0 rfl) ?_
  refine lv_iload_n hx hb d_K_line_13 rfl (lv_at hl 3 rfl) ?_
  refine wd_st E K hW hV.k4 (w4 hv % 2 * 4 + 0) ei (by omega) d_K_line_14 (fun H locs hW => ?_)
  refine lv_aload_n hx hb d_K_line_15 rfl (lv_at hl 1 rfl) ?_
  refine wd_get E K hW hV.1 rfl i_K 1 (by decide) k_46 rfl d_K_line_16 ?_
  refine lv_iload hx hb d_K_line_19 (lv_at hl 0 rfl) ?_
  refine lv_iconst (v := 1) hx hb d_K_line_21 (by decide) ?_
  refine lv_iadd hx hb d_K_line_22 ?_
  refine lv_iload_n hx hb d_K_line_23 rfl (lv_at hl 4 rfl) ?_
  refine wd_st E K hW hV.k4 (w4 hv % 2 * 4 + 1) (by rw [ei, show (1 : Int32) = nI 1 from rfl, nI_add]) (by omega) d_K_line_24 (fun H locs hW => ?_)
  refine lv_aload_n hx hb d_K_line_25 rfl (lv_at hl 1 rfl) ?_
  refine wd_get E K hW hV.1 rfl i_K 1 (by decide) k_46 rfl d_K_line_26 ?_
  refine lv_iload hx hb d_K_line_29 (lv_at hl 0 rfl) ?_
  refine lv_iconst (v := 2) hx hb d_K_line_31 (by decide) ?_
  refine lv_iadd hx hb d_K_line_32 ?_
  refine lv_iload hx hb d_K_line_33 (lv_at hl 5 rfl) ?_
  refine wd_st E K hW hV.k4 (w4 hv % 2 * 4 + 2) (by rw [ei, show (2 : Int32) = nI 2 from rfl, nI_add]) (by omega) d_K_line_35 (fun H locs hW => ?_)
  refine lv_aload_n hx hb d_K_line_36 rfl (lv_at hl 1 rfl) ?_
  refine wd_get E K hW hV.1 rfl i_K 1 (by decide) k_46 rfl d_K_line_37 ?_
  refine lv_iload hx hb d_K_line_40 (lv_at hl 0 rfl) ?_
  refine lv_iconst (v := 3) hx hb d_K_line_42 (by decide) ?_
  refine lv_iadd hx hb d_K_line_43 ?_
  refine lv_iload hx hb d_K_line_44 (lv_at hl 6 rfl) ?_
  refine wd_st E K hW hV.k4 (w4 hv % 2 * 4 + 3) (by rw [ei, show (3 : Int32) = nI 3 from rfl, nI_add]) (by omega) d_K_line_46 (fun H locs hW => ?_)
  exact ct_v E hQ hW d_K_line_47 ⟨rfl, fun q h => by rw [mst_out (h 4 (by decide)), mst_out (h 4 (by decide)), mst_out (h 4 (by decide)), mst_out (h 4 (by decide))], CI.ln hV (CI.ln hV (CI.ln hV (CI.ln hV hC)))⟩
set_option maxHeartbeats 4000000 in
set_option maxRecDepth 100000 in
/-- load -/
theorem c_K_load (l : Launch) (g : wg) (o rg fd : Nat) (mn : Int32) (B : Nat → Nat) (rv : Int32) (X Lw : Nat → Nat) (M : Mm) (hV : Kv g o rg fd mn B) (hC : CI M B X Lw) : Ct l y_K_load b_K_load 2 (some .boolean) 1 27 g [.ref o, .int rv] M (fun r M' => r = some (.int (if PP ≤ nv Lw 8 then 1 else 0)) ∧ cfr M M' B ∧ CI M' B (va_up X (w4 rv % 4) (nv Lw 8 % PP)) Lw) := by
  refine Ct.of rfl (Nat.le_of_ble_eq_true rfl) (fun p e s m args below meth c H ls Q E K hQ hW hl => ?_)
  have hx := E.1
  have hb := E.2.1
  have hown := E.2.2.2.2.1
  have hts := E.2.2.2.2.2.1
  have hl : lv_has ls 2 [(0, .ref o), (1, .int rv)] := hl
  refine lv_aload_n hx hb d_K_load_0 rfl (lv_at hl 0 rfl) ?_
  refine wd_get E K hW hV.1 rfl i_K 1 (by decide) k_46 rfl d_K_load_1 ?_
  refine lv_aload_n hx hb d_K_load_4 rfl (lv_at hl 0 rfl) ?_
  refine lv_iload_n hx hb d_K_load_5 rfl (lv_at hl 1 rfl) ?_
  refine ct_V E K hW hl.1 hV.1 rfl (c_K_at l g o rg fd mn B rv M hV) k_69 k_1 k_66 k_68 k_1000 1 (by decide +kernel) rfl (by decide) rfl (Nat.le_of_ble_eq_true rfl) ⟨Nat.zero_le _, Nat.zero_le _⟩ d_K_load_6 (fun r Mz1 H locs hq hW => ?_)
  obtain ⟨rfl, hMe⟩ := hq
  rw [hMe] at hW
  refine W.eq (g2 := F0 m 9 ls [.ref (B (w4 rv % 4)), .ref (B 4)]) rfl ?_
  refine ct_S E K hW hl.1 (c_F_copy l g (B 4) (B (w4 rv % 4)) M hV.k4 (hV.kr rv)) k_72 k_2 k_70 k_71 2 (by decide +kernel) rfl (by decide) rfl (Nat.le_of_ble_eq_true rfl) ⟨Nat.zero_le _, Nat.zero_le _⟩ d_K_load_9 (fun r M1 H locs hq hW => ?_)
  obtain ⟨rfl, k1, t1⟩ := hq
  refine W.eq (g2 := F0 m 12 ls []) rfl ?_
  have v1 : V8 (M1 (B (w4 rv % 4))) = nv Lw 8 := by rw [← hC.L]; exact vN_congr t1
  have p1 : V8 (M1 (B 6)) = PP := by rw [k1.out (hV.nr rv 6).symm]; exact hC.p
  have Ll : nv Lw 8 < TT := by rw [← v1]; exact V8_lt _
  refine lv_aload_n hx hb d_K_load_12 rfl (lv_at hl 0 rfl) ?_
  refine wd_get E K hW hV.1 rfl i_K 3 (by decide) k_48 rfl d_K_load_13 ?_
  refine lv_aload_n hx hb d_K_load_16 rfl (lv_at hl 0 rfl) ?_
  refine lv_iload_n hx hb d_K_load_17 rfl (lv_at hl 1 rfl) ?_
  refine ct_V E K hW hl.1 hV.1 rfl (c_K_at l g o rg fd mn B rv M1 hV) k_69 k_1 k_66 k_68 k_1000 1 (by decide +kernel) rfl (by decide) rfl (Nat.le_of_ble_eq_true rfl) ⟨Nat.zero_le _, Nat.zero_le _⟩ d_K_load_18 (fun r Mz2 H locs hq hW => ?_)
  obtain ⟨rfl, hMe⟩ := hq
  rw [hMe] at hW
  refine W.eq (g2 := F0 m 21 ls [.ref (B (w4 rv % 4)), .ref fd]) rfl ?_
  refine ct_V E K hW hl.1 hV.2.2.1 rfl (c_F_isLess l g fd (B 6) (B 7) (B 8) (B 9) (B 10) (B 11) mn (B (w4 rv % 4)) M1 hV.2.2.1 hV.k6 (hV.kr rv)) k_76 k_2 k_73 k_74 k_75 1 (by decide +kernel) rfl (by decide) rfl (Nat.le_of_ble_eq_true rfl) ⟨Nat.zero_le _, Nat.zero_le _⟩ d_K_load_21 (fun r M2 H locs hq hW => ?_)
  rw [v1, p1] at hq
  obtain ⟨rfl, hMe⟩ := hq
  rw [hMe] at hW
  refine W.eq (g2 := F0 m 24 ls [.int (if nv Lw 8 < PP then 1 else 0)]) rfl ?_
  refine lv_if_eq (tgt := 29) hx hb d_K_load_24 (by decide) (fun c3 => ?_) (fun c3 => ?_)
  · have nl : ¬ nv Lw 8 < PP := fun z => by rw [if_pos z] at c3; exact absurd c3 (by decide)
    refine lv_aload_n hx hb d_K_load_29 rfl (lv_at hl 0 rfl) ?_
    refine lv_iload_n hx hb d_K_load_30 rfl (lv_at hl 1 rfl) ?_
    refine ct_V E K hW hl.1 hV.1 rfl (c_K_at l g o rg fd mn B rv M1 hV) k_69 k_1 k_66 k_68 k_1000 1 (by decide +kernel) rfl (by decide) rfl (Nat.le_of_ble_eq_true rfl) ⟨Nat.zero_le _, Nat.zero_le _⟩ d_K_load_31 (fun r Mz3 H locs hq hW => ?_)
    obtain ⟨rfl, hMe⟩ := hq
    rw [hMe] at hW
    refine W.eq (g2 := F0 m 34 ls [.ref (B (w4 rv % 4))]) rfl ?_
    refine lv_aload_n hx hb d_K_load_34 rfl (lv_at hl 0 rfl) ?_
    refine wd_get E K hW hV.1 rfl i_K 3 (by decide) k_48 rfl d_K_load_35 ?_
    refine wd_getN E K hW hV.2.2.1 rfl i_F 0 (by decide) K.2.1 rfl d_K_load_38 ?_
    refine lv_aload_n hx hb d_K_load_41 rfl (lv_at hl 0 rfl) ?_
    refine lv_iload_n hx hb d_K_load_42 rfl (lv_at hl 1 rfl) ?_
    refine ct_V E K hW hl.1 hV.1 rfl (c_K_at l g o rg fd mn B rv M1 hV) k_69 k_1 k_66 k_68 k_1000 1 (by decide +kernel) rfl (by decide) rfl (Nat.le_of_ble_eq_true rfl) ⟨Nat.zero_le _, Nat.zero_le _⟩ d_K_load_43 (fun r Mz4 H locs hq hW => ?_)
    obtain ⟨rfl, hMe⟩ := hq
    rw [hMe] at hW
    refine W.eq (g2 := F0 m 46 ls [.ref (B (w4 rv % 4)), .ref (B 6), .ref (B (w4 rv % 4))]) rfl ?_
    refine ct_SN E K hW hl.1 (c_F_difference l g (B (w4 rv % 4)) (B 6) (B (w4 rv % 4)) M1 (hV.kr rv) hV.k6 (hV.kr rv)) k_80 k_2 K.2.2 k_79 3 (by decide +kernel) rfl (by decide) rfl (Nat.le_of_ble_eq_true rfl) ⟨Nat.zero_le _, Nat.zero_le _⟩ d_K_load_46 (fun r M3 H locs hq hW => ?_)
    obtain ⟨cv, rfl, k3, c4, e3⟩ := hq
    refine W.eq (g2 := F0 m 49 ls [.long cv]) rfl ?_
    rw [p1, v1] at e3
    refine lv_pop2_2 hx hb d_K_load_49 rfl ?_
    refine lv_iconst (v := 1) hx hb d_K_load_50 (by decide) ?_
    have k4 := k1.tr k3
    exact ct_z E hQ hW (Or.inr rfl) d_K_load_51 ⟨by rw [if_pos (Nat.not_lt.mp nl)], fun q h => k4.out (h _ (Nat.lt_trans (r4 rv) (by decide))), CI.up hV hC (fun q h1 _ _ _ _ => k4.out h1) (load_fin Ll nl c4 (V8_lt _) e3) (Nat.mod_lt _ (by decide))⟩
  · have nl : nv Lw 8 < PP := Decidable.byContradiction (fun z => c3 (if_neg z))
    refine lv_iconst (v := 0) hx hb d_K_load_27 (by decide) ?_
    exact ct_z E hQ hW (Or.inl rfl) d_K_load_28 ⟨by rw [if_neg (Nat.not_le.mpr nl)], fun q h => k1.out (h _ (Nat.lt_trans (r4 rv) (by decide))), CI.up hV hC (fun q h1 _ _ _ _ => k1.out h1) (by rw [v1, Nat.mod_eq_of_lt nl]) (Nat.mod_lt _ (by decide))⟩
set_option maxHeartbeats 4000000 in
set_option maxRecDepth 100000 in
/-- word -/
theorem c_K_word (l : Launch) (g : wg) (o rg fd : Nat) (mn : Int32) (B : Nat → Nat) (rv av : Int32) (X Lw : Nat → Nat) (M : Mm) (hV : Kv g o rg fd mn B) (hC : CI M B X Lw) : Ct l y_K_word b_K_word 3 (some .int) 1 21 g [.ref o, .int rv, .int av] M (fun r M' => (∃ v : Int32, r = some (.int v) ∧ w4 v = X (w4 rv % 4) / 4294967296 ^ (w4 av % 8) % 4294967296) ∧ cfr M M' B ∧ M' = M) := by
  refine Ct.of rfl (Nat.le_of_ble_eq_true rfl) (fun p e s m args below meth c H ls Q E K hQ hW hl => ?_)
  have hx := E.1
  have hb := E.2.1
  have hown := E.2.2.2.2.1
  have hts := E.2.2.2.2.2.1
  have hl : lv_has ls 3 [(0, .ref o), (1, .int rv), (2, .int av)] := hl
  refine lv_aload_n hx hb d_K_word_0 rfl (lv_at hl 0 rfl) ?_
  refine lv_iload_n hx hb d_K_word_1 rfl (lv_at hl 1 rfl) ?_
  refine ct_V E K hW hl.1 hV.1 rfl (c_K_at l g o rg fd mn B rv M hV) k_69 k_1 k_66 k_68 k_1000 1 (by decide +kernel) rfl (by decide) rfl (Nat.le_of_ble_eq_true rfl) ⟨Nat.zero_le _, Nat.zero_le _⟩ d_K_word_2 (fun r Mz1 H locs hq hW => ?_)
  obtain ⟨rfl, hMe⟩ := hq
  rw [hMe] at hW
  refine W.eq (g2 := F0 m 5 ls [.ref (B (w4 rv % 4))]) rfl ?_
  have ha8 : w4 av % 8 < 8 := Nat.mod_lt _ (by decide)
  refine lv_iload_n hx hb d_K_word_5 rfl (lv_at hl 2 rfl) ?_
  refine lv_bipush (v := 7) hx hb d_K_word_6 (by decide) ?_
  refine lv_iand hx hb d_K_word_8 ?_
  refine wd_ld E K hW (hV.kr rv) (w4 av % 8) (pk_and av 3 (by decide)) ha8 d_K_word_9 ?_
  refine lv_topi (fun wv ewv => ?_)
  exact ct_i E hQ hW d_K_word_10 ⟨⟨wv, rfl, by rw [ewv]; exact word_8 (hC.r rv).1 ha8⟩, fun _ _ => rfl, rfl⟩
set_option maxHeartbeats 4000000 in
set_option maxRecDepth 100000 in
/-- add -/
theorem c_K_add (l : Launch) (g : wg) (o rg fd : Nat) (mn : Int32) (B : Nat → Nat) (rv pv qv : Int32) (X Lw : Nat → Nat) (M : Mm) (hV : Kv g o rg fd mn B) (hC : CI M B X Lw) : Ct l y_K_add b_K_add 4 none 2 52 g [.ref o, .int rv, .int pv, .int qv] M (fun r M' => r = none ∧ cfr M M' B ∧ CI M' B (va_up X (w4 rv % 4) ((X (w4 pv % 4) + X (w4 qv % 4)) % PP)) Lw) := by
  refine Ct.of rfl (Nat.le_of_ble_eq_true rfl) (fun p e s m args below meth c H ls Q E K hQ hW hl => ?_)
  have hx := E.1
  have hb := E.2.1
  have hown := E.2.2.2.2.1
  have hts := E.2.2.2.2.2.1
  have hl : lv_has ls 4 [(0, .ref o), (1, .int rv), (2, .int pv), (3, .int qv)] := hl
  refine lv_aload_n hx hb d_K_add_0 rfl (lv_at hl 0 rfl) ?_
  refine wd_get E K hW hV.1 rfl i_K 3 (by decide) k_48 rfl d_K_add_1 ?_
  refine lv_aload_n hx hb d_K_add_4 rfl (lv_at hl 0 rfl) ?_
  refine lv_iload_n hx hb d_K_add_5 rfl (lv_at hl 2 rfl) ?_
  refine ct_V E K hW hl.1 hV.1 rfl (c_K_at l g o rg fd mn B pv M hV) k_69 k_1 k_66 k_68 k_1000 1 (by decide +kernel) rfl (by decide) rfl (Nat.le_of_ble_eq_true rfl) ⟨Nat.zero_le _, Nat.zero_le _⟩ d_K_add_6 (fun r Mz1 H locs hq hW => ?_)
  obtain ⟨rfl, hMe⟩ := hq
  rw [hMe] at hW
  refine W.eq (g2 := F0 m 9 ls [.ref (B (w4 pv % 4)), .ref fd]) rfl ?_
  refine lv_aload_n hx hb d_K_add_9 rfl (lv_at hl 0 rfl) ?_
  refine lv_iload_n hx hb d_K_add_10 rfl (lv_at hl 3 rfl) ?_
  refine ct_V E K hW hl.1 hV.1 rfl (c_K_at l g o rg fd mn B qv M hV) k_69 k_1 k_66 k_68 k_1000 1 (by decide +kernel) rfl (by decide) rfl (Nat.le_of_ble_eq_true rfl) ⟨Nat.zero_le _, Nat.zero_le _⟩ d_K_add_11 (fun r Mz2 H locs hq hW => ?_)
  obtain ⟨rfl, hMe⟩ := hq
  rw [hMe] at hW
  refine W.eq (g2 := F0 m 14 ls [.ref (B (w4 qv % 4)), .ref (B (w4 pv % 4)), .ref fd]) rfl ?_
  refine lv_aload_n hx hb d_K_add_14 rfl (lv_at hl 0 rfl) ?_
  refine lv_iload_n hx hb d_K_add_15 rfl (lv_at hl 1 rfl) ?_
  refine ct_V E K hW hl.1 hV.1 rfl (c_K_at l g o rg fd mn B rv M hV) k_69 k_1 k_66 k_68 k_1000 1 (by decide +kernel) rfl (by decide) rfl (Nat.le_of_ble_eq_true rfl) ⟨Nat.zero_le _, Nat.zero_le _⟩ d_K_add_16 (fun r Mz3 H locs hq hW => ?_)
  obtain ⟨rfl, hMe⟩ := hq
  rw [hMe] at hW
  refine W.eq (g2 := F0 m 19 ls [.ref (B (w4 rv % 4)), .ref (B (w4 qv % 4)), .ref (B (w4 pv % 4)), .ref fd]) rfl ?_
  refine ct_V E K hW hl.1 hV.2.2.1 rfl (c_F_add l g fd (B 6) (B 7) (B 8) (B 9) (B 10) (B 11) mn (B (w4 pv % 4)) (B (w4 qv % 4)) (B (w4 rv % 4)) M hV.2.2.1 hV.k6 (hV.kr pv) (hV.kr qv) (hV.kr rv) (hV.nr rv 6).symm hC.p (hC.r pv).2 (hC.r qv).2) k_92 k_2 k_89 k_90 k_91 3 (by decide +kernel) rfl (by decide) rfl (Nat.le_of_ble_eq_true rfl) ⟨Nat.zero_le _, Nat.zero_le _⟩ d_K_add_19 (fun r M1 H locs hq hW => ?_)
  obtain ⟨rfl, k1, e1⟩ := hq
  refine W.eq (g2 := F0 m 22 ls []) rfl ?_
  rw [(hC.r pv).1, (hC.r qv).1] at e1
  exact ct_v E hQ hW d_K_add_22 ⟨rfl, fun q h => k1.out (h _ (Nat.lt_trans (r4 rv) (by decide))), CI.up hV hC (fun q h1 _ _ _ _ => k1.out h1) e1 (Nat.mod_lt _ (by decide))⟩
set_option maxHeartbeats 4000000 in
set_option maxRecDepth 100000 in
/-- subtract -/
theorem c_K_subtract (l : Launch) (g : wg) (o rg fd : Nat) (mn : Int32) (B : Nat → Nat) (rv pv qv : Int32) (X Lw : Nat → Nat) (M : Mm) (hV : Kv g o rg fd mn B) (hC : CI M B X Lw) : Ct l y_K_subtract b_K_subtract 4 none 2 50 g [.ref o, .int rv, .int pv, .int qv] M (fun r M' => r = none ∧ cfr M M' B ∧ CI M' B (va_up X (w4 rv % 4) ((X (w4 pv % 4) + (PP - X (w4 qv % 4))) % PP)) Lw) := by
  refine Ct.of rfl (Nat.le_of_ble_eq_true rfl) (fun p e s m args below meth c H ls Q E K hQ hW hl => ?_)
  have hx := E.1
  have hb := E.2.1
  have hown := E.2.2.2.2.1
  have hts := E.2.2.2.2.2.1
  have hl : lv_has ls 4 [(0, .ref o), (1, .int rv), (2, .int pv), (3, .int qv)] := hl
  refine lv_aload_n hx hb d_K_subtract_0 rfl (lv_at hl 0 rfl) ?_
  refine wd_get E K hW hV.1 rfl i_K 3 (by decide) k_48 rfl d_K_subtract_1 ?_
  refine lv_aload_n hx hb d_K_subtract_4 rfl (lv_at hl 0 rfl) ?_
  refine lv_iload_n hx hb d_K_subtract_5 rfl (lv_at hl 2 rfl) ?_
  refine ct_V E K hW hl.1 hV.1 rfl (c_K_at l g o rg fd mn B pv M hV) k_69 k_1 k_66 k_68 k_1000 1 (by decide +kernel) rfl (by decide) rfl (Nat.le_of_ble_eq_true rfl) ⟨Nat.zero_le _, Nat.zero_le _⟩ d_K_subtract_6 (fun r Mz1 H locs hq hW => ?_)
  obtain ⟨rfl, hMe⟩ := hq
  rw [hMe] at hW
  refine W.eq (g2 := F0 m 9 ls [.ref (B (w4 pv % 4)), .ref fd]) rfl ?_
  refine lv_aload_n hx hb d_K_subtract_9 rfl (lv_at hl 0 rfl) ?_
  refine lv_iload_n hx hb d_K_subtract_10 rfl (lv_at hl 3 rfl) ?_
  refine ct_V E K hW hl.1 hV.1 rfl (c_K_at l g o rg fd mn B qv M hV) k_69 k_1 k_66 k_68 k_1000 1 (by decide +kernel) rfl (by decide) rfl (Nat.le_of_ble_eq_true rfl) ⟨Nat.zero_le _, Nat.zero_le _⟩ d_K_subtract_11 (fun r Mz2 H locs hq hW => ?_)
  obtain ⟨rfl, hMe⟩ := hq
  rw [hMe] at hW
  refine W.eq (g2 := F0 m 14 ls [.ref (B (w4 qv % 4)), .ref (B (w4 pv % 4)), .ref fd]) rfl ?_
  refine lv_aload_n hx hb d_K_subtract_14 rfl (lv_at hl 0 rfl) ?_
  refine lv_iload_n hx hb d_K_subtract_15 rfl (lv_at hl 1 rfl) ?_
  refine ct_V E K hW hl.1 hV.1 rfl (c_K_at l g o rg fd mn B rv M hV) k_69 k_1 k_66 k_68 k_1000 1 (by decide +kernel) rfl (by decide) rfl (Nat.le_of_ble_eq_true rfl) ⟨Nat.zero_le _, Nat.zero_le _⟩ d_K_subtract_16 (fun r Mz3 H locs hq hW => ?_)
  obtain ⟨rfl, hMe⟩ := hq
  rw [hMe] at hW
  refine W.eq (g2 := F0 m 19 ls [.ref (B (w4 rv % 4)), .ref (B (w4 qv % 4)), .ref (B (w4 pv % 4)), .ref fd]) rfl ?_
  refine ct_V E K hW hl.1 hV.2.2.1 rfl (c_F_subtract l g fd (B 6) (B 7) (B 8) (B 9) (B 10) (B 11) mn (B (w4 pv % 4)) (B (w4 qv % 4)) (B (w4 rv % 4)) M hV.2.2.1 hV.k6 (hV.kr pv) (hV.kr qv) (hV.kr rv) (hV.nr rv 6).symm hC.p (hC.r pv).2 (hC.r qv).2) k_105 k_2 k_102 k_103 k_104 3 (by decide +kernel) rfl (by decide) rfl (Nat.le_of_ble_eq_true rfl) ⟨Nat.zero_le _, Nat.zero_le _⟩ d_K_subtract_19 (fun r M1 H locs hq hW => ?_)
  obtain ⟨rfl, k1, e1⟩ := hq
  refine W.eq (g2 := F0 m 22 ls []) rfl ?_
  rw [(hC.r pv).1, (hC.r qv).1] at e1
  exact ct_v E hQ hW d_K_subtract_22 ⟨rfl, fun q h => k1.out (h _ (Nat.lt_trans (r4 rv) (by decide))), CI.up hV hC (fun q h1 _ _ _ _ => k1.out h1) e1 (Nat.mod_lt _ (by decide))⟩
set_option maxHeartbeats 4000000 in
set_option maxRecDepth 100000 in
/-- twice -/
theorem c_K_twice (l : Launch) (g : wg) (o rg fd : Nat) (mn : Int32) (B : Nat → Nat) (rv pv : Int32) (X Lw : Nat → Nat) (M : Mm) (hV : Kv g o rg fd mn B) (hC : CI M B X Lw) : Ct l y_K_twice b_K_twice 3 none 2 52 g [.ref o, .int rv, .int pv] M (fun r M' => r = none ∧ cfr M M' B ∧ CI M' B (va_up X (w4 rv % 4) ((X (w4 pv % 4) + X (w4 pv % 4)) % PP)) Lw) := by
  refine Ct.of rfl (Nat.le_of_ble_eq_true rfl) (fun p e s m args below meth c H ls Q E K hQ hW hl => ?_)
  have hx := E.1
  have hb := E.2.1
  have hown := E.2.2.2.2.1
  have hts := E.2.2.2.2.2.1
  have hl : lv_has ls 3 [(0, .ref o), (1, .int rv), (2, .int pv)] := hl
  refine lv_aload_n hx hb d_K_twice_0 rfl (lv_at hl 0 rfl) ?_
  refine wd_get E K hW hV.1 rfl i_K 3 (by decide) k_48 rfl d_K_twice_1 ?_
  refine lv_aload_n hx hb d_K_twice_4 rfl (lv_at hl 0 rfl) ?_
  refine lv_iload_n hx hb d_K_twice_5 rfl (lv_at hl 2 rfl) ?_
  refine ct_V E K hW hl.1 hV.1 rfl (c_K_at l g o rg fd mn B pv M hV) k_69 k_1 k_66 k_68 k_1000 1 (by decide +kernel) rfl (by decide) rfl (Nat.le_of_ble_eq_true rfl) ⟨Nat.zero_le _, Nat.zero_le _⟩ d_K_twice_6 (fun r Mz1 H locs hq hW => ?_)
  obtain ⟨rfl, hMe⟩ := hq
  rw [hMe] at hW
  refine W.eq (g2 := F0 m 9 ls [.ref (B (w4 pv % 4)), .ref fd]) rfl ?_
  refine lv_aload_n hx hb d_K_twice_9 rfl (lv_at hl 0 rfl) ?_
  refine lv_iload_n hx hb d_K_twice_10 rfl (lv_at hl 2 rfl) ?_
  refine ct_V E K hW hl.1 hV.1 rfl (c_K_at l g o rg fd mn B pv M hV) k_69 k_1 k_66 k_68 k_1000 1 (by decide +kernel) rfl (by decide) rfl (Nat.le_of_ble_eq_true rfl) ⟨Nat.zero_le _, Nat.zero_le _⟩ d_K_twice_11 (fun r Mz2 H locs hq hW => ?_)
  obtain ⟨rfl, hMe⟩ := hq
  rw [hMe] at hW
  refine W.eq (g2 := F0 m 14 ls [.ref (B (w4 pv % 4)), .ref (B (w4 pv % 4)), .ref fd]) rfl ?_
  refine lv_aload_n hx hb d_K_twice_14 rfl (lv_at hl 0 rfl) ?_
  refine lv_iload_n hx hb d_K_twice_15 rfl (lv_at hl 1 rfl) ?_
  refine ct_V E K hW hl.1 hV.1 rfl (c_K_at l g o rg fd mn B rv M hV) k_69 k_1 k_66 k_68 k_1000 1 (by decide +kernel) rfl (by decide) rfl (Nat.le_of_ble_eq_true rfl) ⟨Nat.zero_le _, Nat.zero_le _⟩ d_K_twice_16 (fun r Mz3 H locs hq hW => ?_)
  obtain ⟨rfl, hMe⟩ := hq
  rw [hMe] at hW
  refine W.eq (g2 := F0 m 19 ls [.ref (B (w4 rv % 4)), .ref (B (w4 pv % 4)), .ref (B (w4 pv % 4)), .ref fd]) rfl ?_
  refine ct_V E K hW hl.1 hV.2.2.1 rfl (c_F_add l g fd (B 6) (B 7) (B 8) (B 9) (B 10) (B 11) mn (B (w4 pv % 4)) (B (w4 pv % 4)) (B (w4 rv % 4)) M hV.2.2.1 hV.k6 (hV.kr pv) (hV.kr pv) (hV.kr rv) (hV.nr rv 6).symm hC.p (hC.r pv).2 (hC.r pv).2) k_92 k_2 k_89 k_90 k_91 3 (by decide +kernel) rfl (by decide) rfl (Nat.le_of_ble_eq_true rfl) ⟨Nat.zero_le _, Nat.zero_le _⟩ d_K_twice_19 (fun r M1 H locs hq hW => ?_)
  obtain ⟨rfl, k1, e1⟩ := hq
  refine W.eq (g2 := F0 m 22 ls []) rfl ?_
  rw [(hC.r pv).1] at e1
  exact ct_v E hQ hW d_K_twice_22 ⟨rfl, fun q h => k1.out (h _ (Nat.lt_trans (r4 rv) (by decide))), CI.up hV hC (fun q h1 _ _ _ _ => k1.out h1) e1 (Nat.mod_lt _ (by decide))⟩
set_option maxHeartbeats 4000000 in
set_option maxRecDepth 100000 in
/-- multiply -/
theorem c_K_multiply (l : Launch) (g : wg) (o rg fd : Nat) (mn : Int32) (B : Nat → Nat) (rv pv qv : Int32) (X Lw : Nat → Nat) (M : Mm) (hV : Kv g o rg fd mn B) (hC : CI M B X Lw) : Ct l y_K_multiply b_K_multiply 4 none 3 75 g [.ref o, .int rv, .int pv, .int qv] M (fun r M' => r = none ∧ cfr M M' B ∧ CI M' B (va_up X (w4 rv % 4) (X (w4 pv % 4) * X (w4 qv % 4) % PP)) Lw) := by
  refine Ct.of rfl (Nat.le_of_ble_eq_true rfl) (fun p e s m args below meth c H ls Q E K hQ hW hl => ?_)
  have hx := E.1
  have hb := E.2.1
  have hown := E.2.2.2.2.1
  have hts := E.2.2.2.2.2.1
  have hl : lv_has ls 4 [(0, .ref o), (1, .int rv), (2, .int pv), (3, .int qv)] := hl
  refine lv_aload_n hx hb d_K_multiply_0 rfl (lv_at hl 0 rfl) ?_
  refine wd_get E K hW hV.1 rfl i_K 3 (by decide) k_48 rfl d_K_multiply_1 ?_
  refine lv_aload_n hx hb d_K_multiply_4 rfl (lv_at hl 0 rfl) ?_
  refine lv_iload_n hx hb d_K_multiply_5 rfl (lv_at hl 2 rfl) ?_
  refine ct_V E K hW hl.1 hV.1 rfl (c_K_at l g o rg fd mn B pv M hV) k_69 k_1 k_66 k_68 k_1000 1 (by decide +kernel) rfl (by decide) rfl (Nat.le_of_ble_eq_true rfl) ⟨Nat.zero_le _, Nat.zero_le _⟩ d_K_multiply_6 (fun r Mz1 H locs hq hW => ?_)
  obtain ⟨rfl, hMe⟩ := hq
  rw [hMe] at hW
  refine W.eq (g2 := F0 m 9 ls [.ref (B (w4 pv % 4)), .ref fd]) rfl ?_
  refine lv_aload_n hx hb d_K_multiply_9 rfl (lv_at hl 0 rfl) ?_
  refine lv_iload_n hx hb d_K_multiply_10 rfl (lv_at hl 3 rfl) ?_
  refine ct_V E K hW hl.1 hV.1 rfl (c_K_at l g o rg fd mn B qv M hV) k_69 k_1 k_66 k_68 k_1000 1 (by decide +kernel) rfl (by decide) rfl (Nat.le_of_ble_eq_true rfl) ⟨Nat.zero_le _, Nat.zero_le _⟩ d_K_multiply_11 (fun r Mz2 H locs hq hW => ?_)
  obtain ⟨rfl, hMe⟩ := hq
  rw [hMe] at hW
  refine W.eq (g2 := F0 m 14 ls [.ref (B (w4 qv % 4)), .ref (B (w4 pv % 4)), .ref fd]) rfl ?_
  refine lv_aload_n hx hb d_K_multiply_14 rfl (lv_at hl 0 rfl) ?_
  refine wd_get E K hW hV.1 rfl i_K 2 (by decide) k_47 rfl d_K_multiply_15 ?_
  refine ct_V E K hW hl.1 hV.2.2.1 rfl (c_F_multiply l g fd (B 6) (B 7) (B 8) (B 9) (B 10) (B 11) mn (B (w4 pv % 4)) (B (w4 qv % 4)) (B 5) M hV.F hC.1 (hV.kr pv) (hV.kr qv) hV.k5 (hV.nr pv 9) (hV.nr qv 9) hV.fx5 (hC.r qv).2) k_113 k_2 k_110 k_111 k_112 3 (by decide +kernel) rfl (by decide) rfl (Nat.le_of_ble_eq_true rfl) ⟨Nat.zero_le _, Nat.zero_le _⟩ d_K_multiply_18 (fun r M1 H locs hq hW => ?_)
  obtain ⟨rfl, f1, e1⟩ := hq
  refine W.eq (g2 := F0 m 21 ls []) rfl ?_
  rw [(hC.r pv).1, (hC.r qv).1] at e1
  refine lv_aload_n hx hb d_K_multiply_21 rfl (lv_at hl 0 rfl) ?_
  refine wd_get E K hW hV.1 rfl i_K 2 (by decide) k_47 rfl d_K_multiply_22 ?_
  refine lv_aload_n hx hb d_K_multiply_25 rfl (lv_at hl 0 rfl) ?_
  refine lv_iload_n hx hb d_K_multiply_26 rfl (lv_at hl 1 rfl) ?_
  refine ct_V E K hW hl.1 hV.1 rfl (c_K_at l g o rg fd mn B rv M1 hV) k_69 k_1 k_66 k_68 k_1000 1 (by decide +kernel) rfl (by decide) rfl (Nat.le_of_ble_eq_true rfl) ⟨Nat.zero_le _, Nat.zero_le _⟩ d_K_multiply_27 (fun r Mz3 H locs hq hW => ?_)
  obtain ⟨rfl, hMe⟩ := hq
  rw [hMe] at hW
  refine W.eq (g2 := F0 m 30 ls [.ref (B (w4 rv % 4)), .ref (B 5)]) rfl ?_
  refine ct_S E K hW hl.1 (c_F_copy l g (B 5) (B (w4 rv % 4)) M1 hV.k5 (hV.kr rv)) k_72 k_2 k_70 k_71 2 (by decide +kernel) rfl (by decide) rfl (Nat.le_of_ble_eq_true rfl) ⟨Nat.zero_le _, Nat.zero_le _⟩ d_K_multiply_30 (fun r M9 H locs hq hW => ?_)
  obtain ⟨rfl, k9, t9⟩ := hq
  refine W.eq (g2 := F0 m 33 ls []) rfl ?_
  have v9 : V8 (M9 (B (w4 rv % 4))) = _ := (vN_congr t9).trans e1
  have o9 : ∀ q, q ≠ B (w4 rv % 4) → q ≠ B 5 → q ≠ B 9 → q ≠ B 10 → q ≠ B 11 → M9 q = M q := fun q h1 h2 h3 h4 h5 => (k9.out h1).trans (f1 q h2 h3)
  have c9 := CI.up hV hC o9 v9 (Nat.mod_lt _ (by decide))
  have f9 : cfr M M9 B := fun q h => o9 q (h _ (Nat.lt_trans (r4 rv) (by decide))) (h 5 (by decide)) (h 9 (by decide)) (h 10 (by decide)) (h 11 (by decide))
  exact ct_v E hQ hW d_K_multiply_33 ⟨rfl, f9, c9⟩
set_option maxHeartbeats 4000000 in
set_option maxRecDepth 100000 in
/-- square -/
theorem c_K_square (l : Launch) (g : wg) (o rg fd : Nat) (mn : Int32) (B : Nat → Nat) (rv pv : Int32) (X Lw : Nat → Nat) (M : Mm) (hV : Kv g o rg fd mn B) (hC : CI M B X Lw) : Ct l y_K_square b_K_square 3 none 4 98 g [.ref o, .int rv, .int pv] M (fun r M' => r = none ∧ cfr M M' B ∧ CI M' B (va_up X (w4 rv % 4) (X (w4 pv % 4) * X (w4 pv % 4) % PP)) Lw) := by
  refine Ct.of rfl (Nat.le_of_ble_eq_true rfl) (fun p e s m args below meth c H ls Q E K hQ hW hl => ?_)
  have hx := E.1
  have hb := E.2.1
  have hown := E.2.2.2.2.1
  have hts := E.2.2.2.2.2.1
  have hl : lv_has ls 3 [(0, .ref o), (1, .int rv), (2, .int pv)] := hl
  refine lv_aload_n hx hb d_K_square_0 rfl (lv_at hl 0 rfl) ?_
  refine lv_iload_n hx hb d_K_square_1 rfl (lv_at hl 1 rfl) ?_
  refine lv_iload_n hx hb d_K_square_2 rfl (lv_at hl 2 rfl) ?_
  refine lv_iload_n hx hb d_K_square_3 rfl (lv_at hl 2 rfl) ?_
  refine ct_V E K hW hl.1 hV.1 rfl (c_K_multiply l g o rg fd mn B rv pv pv X Lw M hV hC) k_109 k_1 k_126 k_107 k_108 3 (by decide +kernel) rfl (by decide) rfl (Nat.le_of_ble_eq_true rfl) ⟨Nat.zero_le _, Nat.zero_le _⟩ d_K_square_4 (fun r M1 H locs hq hW => ?_)
  obtain ⟨rfl, f1, e1⟩ := hq
  refine W.eq (g2 := F0 m 7 ls []) rfl ?_
  exact ct_v E hQ hW d_K_square_7 ⟨rfl, f1, e1⟩
set_option maxHeartbeats 4000000 in
set_option maxRecDepth 100000 in
/-- squares -/
theorem c_K_squares (l : Launch) (g : wg) (o rg fd : Nat) (mn : Int32) (B : Nat → Nat) (rv pv nv2 : Int32) (X Lw : Nat → Nat) (M : Mm) (hV : Kv g o rg fd mn B) (hC : CI M B X Lw) : Ct l y_K_squares b_K_squares 5 none 5 120 g [.ref o, .int rv, .int pv, .int nv2] M (fun r M' => r = none ∧ cfr M M' B ∧ CI M' B (va_up X (w4 rv % 4) (sqn (X (w4 pv % 4)) (w4 nv2 % 16 + 1))) Lw) := by
  refine Ct.of rfl (Nat.le_of_ble_eq_true rfl) (fun p e s m args below meth c H ls Q E K hQ hW hl => ?_)
  have hx := E.1
  have hb := E.2.1
  have hown := E.2.2.2.2.1
  have hts := E.2.2.2.2.2.1
  have hl : lv_has ls 5 [(0, .ref o), (1, .int rv), (2, .int pv), (3, .int nv2)] := hl
  refine lv_aload_n hx hb d_K_squares_0 rfl (lv_at hl 0 rfl) ?_
  refine lv_iload_n hx hb d_K_squares_1 rfl (lv_at hl 2 rfl) ?_
  refine ct_V E K hW hl.1 hV.1 rfl (c_K_at l g o rg fd mn B pv M hV) k_69 k_1 k_66 k_68 k_1000 1 (by decide +kernel) rfl (by decide) rfl (Nat.le_of_ble_eq_true rfl) ⟨Nat.zero_le _, Nat.zero_le _⟩ d_K_squares_2 (fun r Mz1 H locs hq hW => ?_)
  obtain ⟨rfl, hMe⟩ := hq
  rw [hMe] at hW
  refine W.eq (g2 := F0 m 5 ls [.ref (B (w4 pv % 4))]) rfl ?_
  refine lv_aload_n hx hb d_K_squares_5 rfl (lv_at hl 0 rfl) ?_
  refine lv_iload_n hx hb d_K_squares_6 rfl (lv_at hl 1 rfl) ?_
  refine ct_V E K hW hl.1 hV.1 rfl (c_K_at l g o rg fd mn B rv M hV) k_69 k_1 k_66 k_68 k_1000 1 (by decide +kernel) rfl (by decide) rfl (Nat.le_of_ble_eq_true rfl) ⟨Nat.zero_le _, Nat.zero_le _⟩ d_K_squares_7 (fun r Mz2 H locs hq hW => ?_)
  obtain ⟨rfl, hMe⟩ := hq
  rw [hMe] at hW
  refine W.eq (g2 := F0 m 10 ls [.ref (B (w4 rv % 4)), .ref (B (w4 pv % 4))]) rfl ?_
  refine ct_S E K hW hl.1 (c_F_copy l g (B (w4 pv % 4)) (B (w4 rv % 4)) M (hV.kr pv) (hV.kr rv)) k_72 k_2 k_70 k_71 2 (by decide +kernel) rfl (by decide) rfl (Nat.le_of_ble_eq_true rfl) ⟨Nat.zero_le _, Nat.zero_le _⟩ d_K_squares_10 (fun r M1 H locs hq hW => ?_)
  obtain ⟨rfl, k1, t1⟩ := hq
  refine W.eq (g2 := F0 m 13 ls []) rfl ?_
  have v1 : V8 (M1 (B (w4 rv % 4))) = X (w4 pv % 4) := (vN_congr t1).trans (hC.r pv).1
  have hXp := (hC.2.1 _ (r4 pv)).1
  have c1 := CI.up hV hC (rv := rv) (fun q h1 _ _ _ _ => k1.out h1) v1 hXp
  have en : nv2 &&& 15 = nI (w4 nv2 % 16 + 1) + (-1) := by rw [pk_m1]; exact pk_and nv2 4 (by decide)
  have n16 : w4 nv2 % 16 < 16 := Nat.mod_lt _ (by decide)
  have loop : ∀ (k : Nat) (v : Int32) (M2 : Mm) (H : Heap) (locs : List Loc) (ls : Array Slot), v = nI k + (-1) → k ≤ (w4 nv2 % 16 + 1) → cfr M M2 B → CI M2 B (va_up X (w4 rv % 4) (sqn (X (w4 pv % 4)) (w4 nv2 % 16 + 1 - k))) Lw → wd g H locs M2 → lv_has ls 5 [(4, .int v), (0, .ref o), (1, .int rv), (2, .int pv), (3, .int nv2)] → W p l e (rmm 5 120) s m args below meth c H locs 0 0 Q (F0 m 19 ls []) := by
    intro k
    induction k with
    | zero =>
      intro v M2 H locs ls hvv h1 hf hI hW hl
      subst hvv
      refine lv_iload hx hb d_K_squares_19 (lv_at hl 0 rfl) ?_
      refine lv_if_lt (tgt := 36) hx hb d_K_squares_21 (by decide) (fun c1 => ?_) (fun c1 => ?_)
      · rw [show w4 nv2 % 16 + 1 - 0 = w4 nv2 % 16 + 1 from rfl] at hI
        exact ct_v E hQ hW d_K_squares_36 ⟨rfl, hf, hI⟩
      · exact absurd (by decide) c1
    | succ k ih =>
      intro v M2 H locs ls hvv h1 hf hI hW hl
      rw [pk_m1] at hvv
      subst hvv
      refine lv_iload hx hb d_K_squares_19 (lv_at hl 0 rfl) ?_
      refine lv_if_lt (tgt := 36) hx hb d_K_squares_21 (by decide) (fun c1 => ?_) (fun c1 => ?_)
      · exact absurd c1 (nI_pos (by omega))
      · refine lv_aload_n hx hb d_K_squares_24 rfl (lv_at hl 1 rfl) ?_
        refine lv_iload_n hx hb d_K_squares_25 rfl (lv_at hl 2 rfl) ?_
        refine lv_iload_n hx hb d_K_squares_26 rfl (lv_at hl 2 rfl) ?_
        refine ct_V E K hW hl.1 hV.1 rfl (c_K_square l g o rg fd mn B rv rv _ Lw M2 hV hI) k_125 k_1 k_131 k_123 k_124 2 (by decide +kernel) rfl (by decide) rfl (Nat.le_of_ble_eq_true rfl) ⟨Nat.zero_le _, Nat.zero_le _⟩ d_K_squares_27 (fun r M3 H locs hq hW => ?_)
        obtain ⟨rfl, f3, e3⟩ := hq
        refine W.eq (g2 := F0 m 30 ls []) rfl ?_
        rw [bx_uu, va_up_self, show w4 nv2 % 16 + 1 - (k + 1) = w4 nv2 % 16 - k by omega] at e3
        refine lv_iinc (v := (nI k + (-1))) (lv' := [(4, .int (nI k + (-1))), (0, .ref o), (1, .int rv), (2, .int pv), (3, .int nv2)]) hx hb d_K_squares_30 hl (k := 0) rfl rfl (by decide) rfl (fun ls hl => ?_)
        refine lv_goto (tgt := 19) hx hb d_K_squares_33 (by decide) ?_
        refine ih _ M3 H locs ls rfl (by omega) (fun q h => (f3 q h).trans (hf q h)) ?_ hW (lv_sub hl [0, 1, 2, 3, 4] rfl)
        rw [show w4 nv2 % 16 + 1 - k = (w4 nv2 % 16 - k) + 1 by omega, sqn]; exact e3
  refine lv_iload_n hx hb d_K_squares_13 rfl (lv_at hl 3 rfl) ?_
  refine lv_bipush (v := 15) hx hb d_K_squares_14 (by decide) ?_
  refine lv_iand hx hb d_K_squares_16 ?_
  refine lv_topi (fun iv eiv => ?_)
  refine lv_istore (lv' := [(4, .int iv), (0, .ref o), (1, .int rv), (2, .int pv), (3, .int nv2)]) hx hb d_K_squares_17 hl (by decide) rfl (fun ls hl => ?_)
  exact loop (w4 nv2 % 16 + 1) iv M1 H locs ls (eiv.trans en) (Nat.le_refl _) (fun q h => k1.out (h _ (Nat.lt_trans (r4 rv) (by decide)))) (by rw [Nat.sub_self, sqn]; exact c1) hW (lv_sub hl [0, 1, 2, 3, 4] rfl)
set_option maxHeartbeats 4000000 in
set_option maxRecDepth 100000 in
/-- halve -/
theorem c_K_halve (l : Launch) (g : wg) (o rg fd : Nat) (mn : Int32) (B : Nat → Nat) (rv pv : Int32) (X Lw : Nat → Nat) (M : Mm) (hV : Kv g o rg fd mn B) (hC : CI M B X Lw) : Ct l y_K_halve b_K_halve 3 none 2 50 g [.ref o, .int rv, .int pv] M (fun r M' => r = none ∧ cfr M M' B ∧ CI M' B (va_up X (w4 rv % 4) ((if X (w4 pv % 4) % 2 = 1 then X (w4 pv % 4) + PP else X (w4 pv % 4)) / 2)) Lw) := by
  refine Ct.of rfl (Nat.le_of_ble_eq_true rfl) (fun p e s m args below meth c H ls Q E K hQ hW hl => ?_)
  have hx := E.1
  have hb := E.2.1
  have hown := E.2.2.2.2.1
  have hts := E.2.2.2.2.2.1
  have hl : lv_has ls 3 [(0, .ref o), (1, .int rv), (2, .int pv)] := hl
  refine lv_aload_n hx hb d_K_halve_0 rfl (lv_at hl 0 rfl) ?_
  refine wd_get E K hW hV.1 rfl i_K 3 (by decide) k_48 rfl d_K_halve_1 ?_
  refine lv_aload_n hx hb d_K_halve_4 rfl (lv_at hl 0 rfl) ?_
  refine lv_iload_n hx hb d_K_halve_5 rfl (lv_at hl 2 rfl) ?_
  refine ct_V E K hW hl.1 hV.1 rfl (c_K_at l g o rg fd mn B pv M hV) k_69 k_1 k_66 k_68 k_1000 1 (by decide +kernel) rfl (by decide) rfl (Nat.le_of_ble_eq_true rfl) ⟨Nat.zero_le _, Nat.zero_le _⟩ d_K_halve_6 (fun r Mz1 H locs hq hW => ?_)
  obtain ⟨rfl, hMe⟩ := hq
  rw [hMe] at hW
  refine W.eq (g2 := F0 m 9 ls [.ref (B (w4 pv % 4)), .ref fd]) rfl ?_
  refine lv_aload_n hx hb d_K_halve_9 rfl (lv_at hl 0 rfl) ?_
  refine wd_get E K hW hV.1 rfl i_K 2 (by decide) k_47 rfl d_K_halve_10 ?_
  refine ct_V E K hW hl.1 hV.2.2.1 rfl (c_F_halve l g fd (B 6) (B 7) (B 8) (B 9) (B 10) (B 11) mn (B (w4 pv % 4)) (B 5) M hV.2.2.1 hV.k6 (hV.kr pv) hV.k5 (hV.nr pv 5) (hV.ne 6 5) hC.p) k_143 k_2 k_140 k_141 k_142 2 (by decide +kernel) rfl (by decide) rfl (Nat.le_of_ble_eq_true rfl) ⟨Nat.zero_le _, Nat.zero_le _⟩ d_K_halve_13 (fun r M1 H locs hq hW => ?_)
  obtain ⟨rfl, k1, e1⟩ := hq
  refine W.eq (g2 := F0 m 16 ls []) rfl ?_
  rw [(hC.r pv).1] at e1
  have hXp := (hC.2.1 _ (r4 pv)).1
  refine lv_aload_n hx hb d_K_halve_16 rfl (lv_at hl 0 rfl) ?_
  refine wd_get E K hW hV.1 rfl i_K 2 (by decide) k_47 rfl d_K_halve_17 ?_
  refine lv_aload_n hx hb d_K_halve_20 rfl (lv_at hl 0 rfl) ?_
  refine lv_iload_n hx hb d_K_halve_21 rfl (lv_at hl 1 rfl) ?_
  refine ct_V E K hW hl.1 hV.1 rfl (c_K_at l g o rg fd mn B rv M1 hV) k_69 k_1 k_66 k_68 k_1000 1 (by decide +kernel) rfl (by decide) rfl (Nat.le_of_ble_eq_true rfl) ⟨Nat.zero_le _, Nat.zero_le _⟩ d_K_halve_22 (fun r Mz2 H locs hq hW => ?_)
  obtain ⟨rfl, hMe⟩ := hq
  rw [hMe] at hW
  refine W.eq (g2 := F0 m 25 ls [.ref (B (w4 rv % 4)), .ref (B 5)]) rfl ?_
  refine ct_S E K hW hl.1 (c_F_copy l g (B 5) (B (w4 rv % 4)) M1 hV.k5 (hV.kr rv)) k_72 k_2 k_70 k_71 2 (by decide +kernel) rfl (by decide) rfl (Nat.le_of_ble_eq_true rfl) ⟨Nat.zero_le _, Nat.zero_le _⟩ d_K_halve_25 (fun r M9 H locs hq hW => ?_)
  obtain ⟨rfl, k9, t9⟩ := hq
  refine W.eq (g2 := F0 m 28 ls []) rfl ?_
  have v9 : V8 (M9 (B (w4 rv % 4))) = _ := (vN_congr t9).trans e1
  have o9 : ∀ q, q ≠ B (w4 rv % 4) → q ≠ B 5 → q ≠ B 9 → q ≠ B 10 → q ≠ B 11 → M9 q = M q := fun q h1 h2 h3 h4 h5 => (k9.out h1).trans (k1.out h2)
  have c9 := CI.up hV hC o9 v9 (halfX_lt hXp)
  have f9 : cfr M M9 B := fun q h => o9 q (h _ (Nat.lt_trans (r4 rv) (by decide))) (h 5 (by decide)) (h 9 (by decide)) (h 10 (by decide)) (h 11 (by decide))
  exact ct_v E hQ hW d_K_halve_28 ⟨rfl, f9, c9⟩
set_option maxHeartbeats 4000000 in
set_option maxRecDepth 100000 in
/-- negate -/
theorem c_K_negate (l : Launch) (g : wg) (o rg fd : Nat) (mn : Int32) (B : Nat → Nat) (rv pv : Int32) (X Lw : Nat → Nat) (M : Mm) (hV : Kv g o rg fd mn B) (hC : CI M B X Lw) : Ct l y_K_negate b_K_negate 4 none 2 50 g [.ref o, .int rv, .int pv] M (fun r M' => r = none ∧ cfr M M' B ∧ CI M' B (va_up X (w4 rv % 4) ((PP - X (w4 pv % 4)) % PP)) Lw) := by
  refine Ct.of rfl (Nat.le_of_ble_eq_true rfl) (fun p e s m args below meth c H ls Q E K hQ hW hl => ?_)
  have hx := E.1
  have hb := E.2.1
  have hown := E.2.2.2.2.1
  have hts := E.2.2.2.2.2.1
  have hl : lv_has ls 4 [(0, .ref o), (1, .int rv), (2, .int pv)] := hl
  have loop : ∀ (d i : Nat) (M1 : Mm) (H : Heap) (locs : List Loc) (ls : Array Slot), i ≤ 8 → 8 + 1 ≤ i + d → kp M M1 (B 5) i → (∀ j, j < i → M1 (B 5) j = 0) → wd g H locs M1 → lv_has ls 4 [(3, .int (nI i)), (0, .ref o), (1, .int rv), (2, .int pv)] → W p l e (rmm 2 50) s m args below meth c H locs 0 0 Q (F0 m 2 ls []) := by
    intro d
    induction d with
    | zero => intro i M1 H locs ls h1 h2; exact absurd h2 (by omega)
    | succ d ih =>
      intro i M1 H locs ls h1 h2 hk hI hW hl
      refine lv_iload_n hx hb d_K_negate_2 rfl (lv_at hl 0 rfl) ?_
      refine lv_bipush (v := 8) hx hb d_K_negate_3 (by decide) ?_
      refine lv_icmp_ge (tgt := 21) hx hb d_K_negate_5 (by decide) (fun c1 => ?_) (fun c1 => ?_)
      · have c2 := (nI_leI (a := 8) (b := i) (by decide) (by omega)).mp c1
        obtain rfl : i = 8 := by omega
        have z1 : V8 (M1 (B 5)) = 0 := vN_all0 (by decide) hI
        have q1 : V8 (M1 (B (w4 pv % 4))) = X (w4 pv % 4) := by rw [hk.out (hV.nr pv 5)]; exact (hC.r pv).1
        have p1 : V8 (M1 (B 6)) = PP := by rw [hk.out (hV.ne 6 5)]; exact hC.p
        refine lv_aload_n hx hb d_K_negate_21 rfl (lv_at hl 1 rfl) ?_
        refine wd_get E K hW hV.1 rfl i_K 3 (by decide) k_48 rfl d_K_negate_22 ?_
        refine lv_aload_n hx hb d_K_negate_25 rfl (lv_at hl 1 rfl) ?_
        refine wd_get E K hW hV.1 rfl i_K 2 (by decide) k_47 rfl d_K_negate_26 ?_
        refine lv_aload_n hx hb d_K_negate_29 rfl (lv_at hl 1 rfl) ?_
        refine lv_iload_n hx hb d_K_negate_30 rfl (lv_at hl 3 rfl) ?_
        refine ct_V E K hW hl.1 hV.1 rfl (c_K_at l g o rg fd mn B pv M1 hV) k_69 k_1 k_66 k_68 k_1000 1 (by decide +kernel) rfl (by decide) rfl (Nat.le_of_ble_eq_true rfl) ⟨Nat.zero_le _, Nat.zero_le _⟩ d_K_negate_31 (fun r Mz1 H locs hq hW => ?_)
        obtain ⟨rfl, hMe⟩ := hq
        rw [hMe] at hW
        refine W.eq (g2 := F0 m 34 ls [.ref (B (w4 pv % 4)), .ref (B 5), .ref fd]) rfl ?_
        refine lv_aload_n hx hb d_K_negate_34 rfl (lv_at hl 1 rfl) ?_
        refine lv_iload_n hx hb d_K_negate_35 rfl (lv_at hl 2 rfl) ?_
        refine ct_V E K hW hl.1 hV.1 rfl (c_K_at l g o rg fd mn B rv M1 hV) k_69 k_1 k_66 k_68 k_1000 1 (by decide +kernel) rfl (by decide) rfl (Nat.le_of_ble_eq_true rfl) ⟨Nat.zero_le _, Nat.zero_le _⟩ d_K_negate_36 (fun r Mz2 H locs hq hW => ?_)
        obtain ⟨rfl, hMe⟩ := hq
        rw [hMe] at hW
        refine W.eq (g2 := F0 m 39 ls [.ref (B (w4 rv % 4)), .ref (B (w4 pv % 4)), .ref (B 5), .ref fd]) rfl ?_
        refine ct_V E K hW hl.1 hV.2.2.1 rfl (c_F_subtract l g fd (B 6) (B 7) (B 8) (B 9) (B 10) (B 11) mn (B 5) (B (w4 pv % 4)) (B (w4 rv % 4)) M1 hV.2.2.1 hV.k6 hV.k5 (hV.kr pv) (hV.kr rv) (hV.nr rv 6).symm p1 (by rw [z1]; decide) (by rw [q1]; exact (hC.2.1 _ (r4 pv)).1)) k_105 k_2 k_102 k_103 k_104 3 (by decide +kernel) rfl (by decide) rfl (Nat.le_of_ble_eq_true rfl) ⟨Nat.zero_le _, Nat.zero_le _⟩ d_K_negate_39 (fun r M2 H locs hq hW => ?_)
        obtain ⟨rfl, k2, e2⟩ := hq
        refine W.eq (g2 := F0 m 42 ls []) rfl ?_
        rw [z1, q1, Nat.zero_add] at e2
        have o2 : ∀ q, q ≠ B (w4 rv % 4) → q ≠ B 5 → q ≠ B 9 → q ≠ B 10 → q ≠ B 11 → M2 q = M q := fun q h1 h2 _ _ _ => (k2.out h1).trans (hk.out h2)
        exact ct_v E hQ hW d_K_negate_42 ⟨rfl, fun q h => o2 q (h _ (Nat.lt_trans (r4 rv) (by decide))) (h 5 (by decide)) (h 9 (by decide)) (h 10 (by decide)) (h 11 (by decide)), CI.up hV hC o2 e2 (Nat.mod_lt _ (by decide))⟩
      · have c2 : i < 8 := Nat.not_le.mp (fun z => c1 ((nI_leI (a := 8) (b := i) (by decide) (by omega)).mpr z))
        refine lv_aload_n hx hb d_K_negate_8 rfl (lv_at hl 1 rfl) ?_
        refine wd_get E K hW hV.1 rfl i_K 2 (by decide) k_47 rfl d_K_negate_9 ?_
        refine lv_iload_n hx hb d_K_negate_12 rfl (lv_at hl 0 rfl) ?_
        refine lv_iconst (v := 0) hx hb d_K_negate_13 (by decide) ?_
        refine wd_st E K hW hV.k5 i rfl (by omega) d_K_negate_14 (fun H locs hW => ?_)
        refine lv_iinc (v := (nI (i + 1))) (lv' := [(3, .int (nI (i + 1))), (0, .ref o), (1, .int rv), (2, .int pv)]) hx hb d_K_negate_15 hl (k := 0) rfl (nI_1 _) (by decide) rfl (fun ls hl => ?_)
        refine lv_goto (tgt := 2) hx hb d_K_negate_18 (by decide) ?_
        refine ih (i + 1) _ H locs ls (by omega) (by omega) (hk.st _) (fun j hj => ?_) hW hl
        by_cases hji : j = i
        · subst hji; rw [mst_at]
        · rw [mst_ne (fun _ => hji)]; exact hI j (by omega)
  refine lv_iconst (v := 0) hx hb d_K_negate_0 (by decide) ?_
  refine lv_istore_n (lv' := [(3, .int 0), (0, .ref o), (1, .int rv), (2, .int pv)]) hx hb d_K_negate_1 rfl hl (by decide) rfl (fun ls hl => ?_)
  exact loop 9 0 M H [] ls (by omega) (by omega) kp.rf (fun j hj => absurd hj (by omega)) hW hl
set_option maxHeartbeats 4000000 in
set_option maxRecDepth 100000 in
/-- invert -/
theorem c_K_invert (l : Launch) (g : wg) (o rg fd : Nat) (mn : Int32) (B : Nat → Nat) (rv pv : Int32) (X Lw : Nat → Nat) (M : Mm) (hV : Kv g o rg fd mn B) (hC : CI M B X Lw) : Ct l y_K_invert b_K_invert 3 (some .boolean) 3 76 g [.ref o, .int rv, .int pv] M (fun r M' => r = some (.int (if X (w4 pv % 4) = 0 then 0 else 1)) ∧ cfr M M' B ∧ CI M' B (if X (w4 pv % 4) = 0 then X else va_up X (w4 rv % 4) (X (w4 pv % 4) ^ (PP - 2) % PP)) Lw) := by
  refine Ct.of rfl (Nat.le_of_ble_eq_true rfl) (fun p e s m args below meth c H ls Q E K hQ hW hl => ?_)
  have hx := E.1
  have hb := E.2.1
  have hown := E.2.2.2.2.1
  have hts := E.2.2.2.2.2.1
  have hl : lv_has ls 3 [(0, .ref o), (1, .int rv), (2, .int pv)] := hl
  refine lv_aload_n hx hb d_K_invert_0 rfl (lv_at hl 0 rfl) ?_
  refine lv_iload_n hx hb d_K_invert_1 rfl (lv_at hl 2 rfl) ?_
  refine ct_V E K hW hl.1 hV.1 rfl (c_K_at l g o rg fd mn B pv M hV) k_69 k_1 k_66 k_68 k_1000 1 (by decide +kernel) rfl (by decide) rfl (Nat.le_of_ble_eq_true rfl) ⟨Nat.zero_le _, Nat.zero_le _⟩ d_K_invert_2 (fun r Mz1 H locs hq hW => ?_)
  obtain ⟨rfl, hMe⟩ := hq
  rw [hMe] at hW
  refine W.eq (g2 := F0 m 5 ls [.ref (B (w4 pv % 4))]) rfl ?_
  refine ct_S E K hW hl.1 (c_F_isZero l g (B (w4 pv % 4)) M (hV.kr pv)) k_155 k_2 k_153 k_154 1 (by decide +kernel) rfl (by decide) rfl (Nat.le_of_ble_eq_true rfl) ⟨Nat.zero_le _, Nat.zero_le _⟩ d_K_invert_5 (fun r M1 H locs hq hW => ?_)
  rw [(hC.r pv).1] at hq
  obtain ⟨rfl, hMe⟩ := hq
  rw [hMe] at hW
  refine W.eq (g2 := F0 m 8 ls [.int (if X (w4 pv % 4) = 0 then 1 else 0)]) rfl ?_
  refine lv_if_eq (tgt := 13) hx hb d_K_invert_8 (by decide) (fun c3 => ?_) (fun c3 => ?_)
  · have nz : ¬ X (w4 pv % 4) = 0 := fun z => by rw [if_pos z] at c3; exact absurd c3 (by decide)
    refine lv_aload_n hx hb d_K_invert_13 rfl (lv_at hl 0 rfl) ?_
    refine wd_get E K hW hV.1 rfl i_K 3 (by decide) k_48 rfl d_K_invert_14 ?_
    refine lv_aload_n hx hb d_K_invert_17 rfl (lv_at hl 0 rfl) ?_
    refine lv_iload_n hx hb d_K_invert_18 rfl (lv_at hl 2 rfl) ?_
    refine ct_V E K hW hl.1 hV.1 rfl (c_K_at l g o rg fd mn B pv M hV) k_69 k_1 k_66 k_68 k_1000 1 (by decide +kernel) rfl (by decide) rfl (Nat.le_of_ble_eq_true rfl) ⟨Nat.zero_le _, Nat.zero_le _⟩ d_K_invert_19 (fun r Mz2 H locs hq hW => ?_)
    obtain ⟨rfl, hMe⟩ := hq
    rw [hMe] at hW
    refine W.eq (g2 := F0 m 22 ls [.ref (B (w4 pv % 4)), .ref fd]) rfl ?_
    refine lv_aload_n hx hb d_K_invert_22 rfl (lv_at hl 0 rfl) ?_
    refine wd_get E K hW hV.1 rfl i_K 2 (by decide) k_47 rfl d_K_invert_23 ?_
    refine ct_V E K hW hl.1 hV.2.2.1 rfl (c_F_invert l g fd (B 6) (B 7) (B 8) (B 9) (B 10) (B 11) mn (B (w4 pv % 4)) (B 5) M hV.F hC.1 (hV.kr pv) hV.k5 (hV.nr pv 9) hV.fx5) k_159 k_2 k_156 k_157 k_158 2 (by decide +kernel) rfl (by decide) rfl (Nat.le_of_ble_eq_true rfl) ⟨Nat.zero_le _, Nat.zero_le _⟩ d_K_invert_26 (fun r M1 H locs hq hW => ?_)
    obtain ⟨rfl, f1, e1⟩ := hq
    refine W.eq (g2 := F0 m 29 ls []) rfl ?_
    rw [(hC.r pv).1] at e1
    refine lv_aload_n hx hb d_K_invert_29 rfl (lv_at hl 0 rfl) ?_
    refine wd_get E K hW hV.1 rfl i_K 2 (by decide) k_47 rfl d_K_invert_30 ?_
    refine lv_aload_n hx hb d_K_invert_33 rfl (lv_at hl 0 rfl) ?_
    refine lv_iload_n hx hb d_K_invert_34 rfl (lv_at hl 1 rfl) ?_
    refine ct_V E K hW hl.1 hV.1 rfl (c_K_at l g o rg fd mn B rv M1 hV) k_69 k_1 k_66 k_68 k_1000 1 (by decide +kernel) rfl (by decide) rfl (Nat.le_of_ble_eq_true rfl) ⟨Nat.zero_le _, Nat.zero_le _⟩ d_K_invert_35 (fun r Mz3 H locs hq hW => ?_)
    obtain ⟨rfl, hMe⟩ := hq
    rw [hMe] at hW
    refine W.eq (g2 := F0 m 38 ls [.ref (B (w4 rv % 4)), .ref (B 5)]) rfl ?_
    refine ct_S E K hW hl.1 (c_F_copy l g (B 5) (B (w4 rv % 4)) M1 hV.k5 (hV.kr rv)) k_72 k_2 k_70 k_71 2 (by decide +kernel) rfl (by decide) rfl (Nat.le_of_ble_eq_true rfl) ⟨Nat.zero_le _, Nat.zero_le _⟩ d_K_invert_38 (fun r M9 H locs hq hW => ?_)
    obtain ⟨rfl, k9, t9⟩ := hq
    refine W.eq (g2 := F0 m 41 ls []) rfl ?_
    have v9 : V8 (M9 (B (w4 rv % 4))) = _ := (vN_congr t9).trans e1
    have o9 : ∀ q, q ≠ B (w4 rv % 4) → q ≠ B 5 → q ≠ B 9 → q ≠ B 10 → q ≠ B 11 → M9 q = M q := fun q h1 h2 h3 h4 h5 => (k9.out h1).trans (f1 q h2 h3 h4 h5)
    have c9 := CI.up hV hC o9 v9 (Nat.mod_lt _ (by decide))
    have f9 : cfr M M9 B := fun q h => o9 q (h _ (Nat.lt_trans (r4 rv) (by decide))) (h 5 (by decide)) (h 9 (by decide)) (h 10 (by decide)) (h 11 (by decide))
    refine lv_iconst (v := 1) hx hb d_K_invert_41 (by decide) ?_
    exact ct_z E hQ hW (Or.inr rfl) d_K_invert_42 ⟨by rw [if_neg nz], f9, by rw [if_neg nz]; exact c9⟩
  · have nz : X (w4 pv % 4) = 0 := Decidable.byContradiction (fun z => c3 (if_neg z))
    refine lv_iconst (v := 0) hx hb d_K_invert_11 (by decide) ?_
    exact ct_z E hQ hW (Or.inl rfl) d_K_invert_12 ⟨by rw [if_pos nz], fun _ _ => rfl, by rw [if_pos nz]; exact hC⟩
set_option maxHeartbeats 4000000 in
set_option maxRecDepth 100000 in
/-- zero -/
theorem c_K_zero (l : Launch) (g : wg) (o rg fd : Nat) (mn : Int32) (B : Nat → Nat) (pv : Int32) (X Lw : Nat → Nat) (M : Mm) (hV : Kv g o rg fd mn B) (hC : CI M B X Lw) : Ct l y_K_zero b_K_zero 2 (some .boolean) 1 22 g [.ref o, .int pv] M (fun r M' => r = some (.int (if X (w4 pv % 4) = 0 then 1 else 0)) ∧ cfr M M' B ∧ CI M' B X Lw) := by
  refine Ct.of rfl (Nat.le_of_ble_eq_true rfl) (fun p e s m args below meth c H ls Q E K hQ hW hl => ?_)
  have hx := E.1
  have hb := E.2.1
  have hown := E.2.2.2.2.1
  have hts := E.2.2.2.2.2.1
  have hl : lv_has ls 2 [(0, .ref o), (1, .int pv)] := hl
  refine lv_aload_n hx hb d_K_zero_0 rfl (lv_at hl 0 rfl) ?_
  refine lv_iload_n hx hb d_K_zero_1 rfl (lv_at hl 1 rfl) ?_
  refine ct_V E K hW hl.1 hV.1 rfl (c_K_at l g o rg fd mn B pv M hV) k_69 k_1 k_66 k_68 k_1000 1 (by decide +kernel) rfl (by decide) rfl (Nat.le_of_ble_eq_true rfl) ⟨Nat.zero_le _, Nat.zero_le _⟩ d_K_zero_2 (fun r Mz1 H locs hq hW => ?_)
  obtain ⟨rfl, hMe⟩ := hq
  rw [hMe] at hW
  refine W.eq (g2 := F0 m 5 ls [.ref (B (w4 pv % 4))]) rfl ?_
  refine ct_S E K hW hl.1 (c_F_isZero l g (B (w4 pv % 4)) M (hV.kr pv)) k_155 k_2 k_153 k_154 1 (by decide +kernel) rfl (by decide) rfl (Nat.le_of_ble_eq_true rfl) ⟨Nat.zero_le _, Nat.zero_le _⟩ d_K_zero_5 (fun r M1 H locs hq hW => ?_)
  rw [(hC.r pv).1] at hq
  obtain ⟨rfl, hMe⟩ := hq
  rw [hMe] at hW
  refine W.eq (g2 := F0 m 8 ls [.int (if X (w4 pv % 4) = 0 then 1 else 0)]) rfl ?_
  exact ct_z E hQ hW (by by_cases z : X (w4 pv % 4) = 0; exact Or.inr (if_pos z); exact Or.inl (if_neg z)) d_K_zero_8 ⟨rfl, fun _ _ => rfl, hC⟩
set_option maxHeartbeats 4000000 in
set_option maxRecDepth 100000 in
/-- carry -/
theorem c_K_carry (l : Launch) (g : wg) (o rg fd : Nat) (mn : Int32) (B : Nat → Nat) (rv wv : Int32) (X Lw : Nat → Nat) (M : Mm) (hV : Kv g o rg fd mn B) (hC : CI M B X Lw) : Ct l y_K_carry b_K_carry 3 none 3 81 g [.ref o, .int rv, .int wv] M (fun r M' => r = none ∧ cfr M M' B ∧ CI M' B (va_up X (w4 rv % 4) ((X (w4 rv % 4) + w4 wv * ON) % PP)) Lw) := by
  refine Ct.of rfl (Nat.le_of_ble_eq_true rfl) (fun p e s m args below meth c H ls Q E K hQ hW hl => ?_)
  have hx := E.1
  have hb := E.2.1
  have hown := E.2.2.2.2.1
  have hts := E.2.2.2.2.2.1
  have hl : lv_has ls 3 [(0, .ref o), (1, .int rv), (2, .int wv)] := hl
  refine lv_aload_n hx hb d_K_carry_0 rfl (lv_at hl 0 rfl) ?_
  refine wd_get E K hW hV.1 rfl i_K 3 (by decide) k_48 rfl d_K_carry_1 ?_
  refine lv_aload_n hx hb d_K_carry_4 rfl (lv_at hl 0 rfl) ?_
  refine lv_iload_n hx hb d_K_carry_5 rfl (lv_at hl 1 rfl) ?_
  refine ct_V E K hW hl.1 hV.1 rfl (c_K_at l g o rg fd mn B rv M hV) k_69 k_1 k_66 k_68 k_1000 1 (by decide +kernel) rfl (by decide) rfl (Nat.le_of_ble_eq_true rfl) ⟨Nat.zero_le _, Nat.zero_le _⟩ d_K_carry_6 (fun r Mz1 H locs hq hW => ?_)
  obtain ⟨rfl, hMe⟩ := hq
  rw [hMe] at hW
  refine W.eq (g2 := F0 m 9 ls [.ref (B (w4 rv % 4)), .ref fd]) rfl ?_
  refine lv_iload_n hx hb d_K_carry_9 rfl (lv_at hl 2 rfl) ?_
  refine lv_aload_n hx hb d_K_carry_10 rfl (lv_at hl 0 rfl) ?_
  refine wd_get E K hW hV.1 rfl i_K 2 (by decide) k_47 rfl d_K_carry_11 ?_
  refine ct_V E K hW hl.1 hV.2.2.1 rfl (c_F_carry l g fd (B 6) (B 7) (B 8) (B 9) (B 10) (B 11) mn (B (w4 rv % 4)) wv (B 5) M hV.2.2.1 hV.k6 hV.k11 (hV.kr rv) hV.k5 (hV.nr rv 11) (hV.ne 6 5) (hV.ne 6 11) hC.p (hC.r rv).2) k_171 k_2 k_168 k_169 k_170 3 (by decide +kernel) rfl (by decide) rfl (Nat.le_of_ble_eq_true rfl) ⟨Nat.zero_le _, Nat.zero_le _⟩ d_K_carry_14 (fun r M1 H locs hq hW => ?_)
  obtain ⟨rfl, f1, e1⟩ := hq
  refine W.eq (g2 := F0 m 17 ls []) rfl ?_
  rw [(hC.r rv).1] at e1
  refine lv_aload_n hx hb d_K_carry_17 rfl (lv_at hl 0 rfl) ?_
  refine wd_get E K hW hV.1 rfl i_K 2 (by decide) k_47 rfl d_K_carry_18 ?_
  refine lv_aload_n hx hb d_K_carry_21 rfl (lv_at hl 0 rfl) ?_
  refine lv_iload_n hx hb d_K_carry_22 rfl (lv_at hl 1 rfl) ?_
  refine ct_V E K hW hl.1 hV.1 rfl (c_K_at l g o rg fd mn B rv M1 hV) k_69 k_1 k_66 k_68 k_1000 1 (by decide +kernel) rfl (by decide) rfl (Nat.le_of_ble_eq_true rfl) ⟨Nat.zero_le _, Nat.zero_le _⟩ d_K_carry_23 (fun r Mz2 H locs hq hW => ?_)
  obtain ⟨rfl, hMe⟩ := hq
  rw [hMe] at hW
  refine W.eq (g2 := F0 m 26 ls [.ref (B (w4 rv % 4)), .ref (B 5)]) rfl ?_
  refine ct_S E K hW hl.1 (c_F_copy l g (B 5) (B (w4 rv % 4)) M1 hV.k5 (hV.kr rv)) k_72 k_2 k_70 k_71 2 (by decide +kernel) rfl (by decide) rfl (Nat.le_of_ble_eq_true rfl) ⟨Nat.zero_le _, Nat.zero_le _⟩ d_K_carry_26 (fun r M9 H locs hq hW => ?_)
  obtain ⟨rfl, k9, t9⟩ := hq
  refine W.eq (g2 := F0 m 29 ls []) rfl ?_
  have v9 : V8 (M9 (B (w4 rv % 4))) = _ := (vN_congr t9).trans e1
  have o9 : ∀ q, q ≠ B (w4 rv % 4) → q ≠ B 5 → q ≠ B 9 → q ≠ B 10 → q ≠ B 11 → M9 q = M q := fun q h1 h2 h3 h4 h5 => (k9.out h1).trans (f1 q h2 h5)
  have c9 := CI.up hV hC o9 v9 (Nat.mod_lt _ (by decide))
  have f9 : cfr M M9 B := fun q h => o9 q (h _ (Nat.lt_trans (r4 rv) (by decide))) (h 5 (by decide)) (h 9 (by decide)) (h 10 (by decide)) (h 11 (by decide))
  exact ct_v E hQ hW d_K_carry_29 ⟨rfl, f9, c9⟩
end
section
/-! new int[4][8]: one array of four references, four arrays of eight ints behind it -/
def mx_o (cR : ClassId) (h : Nat) : Nat → Cell
  | 0 => { cls := cR, slots := Array.replicate 4 .null, vm := .none }
  | i + 1 => (mx_o cR h i).setSlot i (.ref (h + 1 + i))
def mx_r (cI : ClassId) : Cell := { cls := cI, slots := Array.replicate 8 (.int 0), vm := .none }
def mx_s (u : State) (cR cI : ClassId) : Nat → State
  | 0 => u.pushCell (mx_o cR u.heap.size 0)
  | i + 1 => ((mx_s u cR cI i).pushCell (mx_r cI)).setCell u.heap.size (mx_o cR u.heap.size (i + 1))
theorem mx_o_is (cR : ClassId) (h : Nat) (i : Nat) : (mx_o cR h i).cls = cR ∧ (mx_o cR h i).vm = .none ∧ (mx_o cR h i).slots.size = 4 := by
  induction i with
  | zero => exact ⟨rfl, rfl, by simp [mx_o]⟩
  | succ i ih => exact ⟨ih.1, ih.2.1, by simp [mx_o, Cell.setSlot, ih.2.2]⟩
theorem mx_o_end (cR : ClassId) (h : Nat) : mx_o cR h 4 = vp_cell cR (4, .inr (.inr (.inr (.inr (fun k => some (h + 1 + k)))))) := by
  simp only [mx_o, Cell.setSlot, vp_cell_q, arrV]
  congr 1
theorem mx_r_is (cI : ClassId) : mx_r cI = vp_cell cI (8, .inl (fun _ => 0)) := by
  rw [vp_cell_i, ← arrV_new]
  rfl
theorem mx_at (u : State) (cR cI : ClassId) (i : Nat) : (mx_s u cR cI i).heap.size = u.heap.size + 1 + i ∧ (mx_s u cR cI i).heap[u.heap.size]? = some (mx_o cR u.heap.size i) ∧ (mx_s u cR cI i).vm = u.vm ∧ (mx_s u cR cI i).slotsUsed = u.slotsUsed + 4 + i * 8 := by
  induction i with
  | zero => exact ⟨by simp [mx_s], by simp [mx_s], rfl, by simp [mx_s, mx_o]⟩
  | succ i ih =>
    obtain ⟨a, b, c, d⟩ := ih
    have hlt : u.heap.size < (mx_s u cR cI i).heap.size := by omega
    have hb : ((mx_s u cR cI i).pushCell (mx_r cI)).heap[u.heap.size]? = some (mx_o cR u.heap.size i) := by
      rw [State.heap_pushCell_of_lt (h := hlt)]
      exact b
    refine ⟨?_, State.heap_setCell_self hb, by simp [mx_s, c], ?_⟩
    · simp [mx_s, State.setCell, a]; omega
    · simp [mx_s, d, mx_r]; omega
theorem mx_top (u : State) (f : JFrame) (cR cI : ClassId) (i : Nat) : mx_s (u.setTop f) cR cI i = (mx_s u cR cI i).setTop f := by
  induction i with
  | zero => rfl
  | succ i ih => simp only [mx_s, ih, State.heap_setTop, State.pushCell_setTop, State.setCell_setTop]
theorem mx_old (u : State) (cR cI : ClassId) {q : Nat} (hq : q < u.heap.size) (i : Nat) : (mx_s u cR cI i).heap[q]? = u.heap[q]? := by
  induction i with
  | zero => exact State.heap_pushCell_of_lt _ _ hq
  | succ i ih =>
    have h1 := (mx_at u cR cI i).1
    show (((mx_s u cR cI i).pushCell (mx_r cI)).setCell u.heap.size _).heap[q]? = _
    have hlt : q < (mx_s u cR cI i).heap.size := by omega
    rw [State.heap_setCell_other (show u.heap.size ≠ q by omega), State.heap_pushCell_of_lt (h := hlt)]
    exact ih
theorem mx_row (u : State) (cR cI : ClassId) (j : Nat) : ∀ i, j < i → (mx_s u cR cI i).heap[u.heap.size + 1 + j]? = some (mx_r cI) := by
  intro i
  induction i with
  | zero => intro h; omega
  | succ i ih =>
    intro h
    have h1 := (mx_at u cR cI i).1
    show (((mx_s u cR cI i).pushCell (mx_r cI)).setCell u.heap.size _).heap[u.heap.size + 1 + j]? = _
    rw [State.heap_setCell_other (show u.heap.size ≠ u.heap.size + 1 + j by omega)]
    by_cases hj : j = i
    · subst hj
      rw [← h1]
      exact State.heap_pushCell_size _ _
    · have hlt : u.heap.size + 1 + j < (mx_s u cR cI i).heap.size := by omega
      rw [State.heap_pushCell_of_lt (h := hlt)]
      exact ih (by omega)
section MXW
variable {E : CtlPost} {e : Env} {d : Bool} {acts : List Action} {u : State}
theorem mx_make {cR cI cc : ClassId} {kR kI : Class} (hR : u.vm.classes[cR]? = some kR) (hRk : kR.kind = .array cI (.array .int)) (hI : u.vm.classes[cI]? = some kI) (hIk : kI.kind = .array cc .int)
    (hl : e.platform.arrayLengthLimit = 2147483645) (hb : e.platform.maxHeapBytes = 536870912) (h1 : u.heap.size + 5 ≤ e.platform.maxCells) (h2 : u.slotsUsed + 36 ≤ e.platform.maxSlots)
    {Q : Addr → Pre} (hq : ∀ d' acts', Q u.heap.size d' acts' (mx_s u cR cI 4)) : wp (multianewarray.make cR [4, 8]) Q E e d acts u := by
  rw [multianewarray.make]
  simp only [wp_bind', W.ite, show ¬ (4 : Int32) < 0 by decide, if_false, wp_pure', W.theClass, hR, hRk, Option.some.injEq, exists_eq_left']
  refine W.newArray_of hR hRk (by rw [hl]; decide) (by rw [hb]; decide) (by omega) (by show u.slotsUsed + 4 ≤ _; omega) rfl (fun acts' => ?_)
  simp only [show ([8].find? (fun z : Int32 => decide (z < 0))) = none by decide]
  rw [ite_self, wp_bind', Std.Legacy.Range.forIn_eq_forIn_range']
  show wp (forIn (List.range' 0 4 1) PUnit.unit _) _ E e d acts' (mx_s u cR cI 0)
  refine wp_forIn_inv (fun rest v => ∃ i, i ≤ 4 ∧ rest = List.range' i (4 - i) ∧ v = mx_s u cR cI i) _ _ ⟨0, by decide, rfl, rfl⟩ ?_ ?_
  · rintro y rest v d' a' Q' ⟨i, hi, hr, rfl⟩ hn
    have hi4 : i < 4 := by
      rcases Nat.lt_or_ge i 4 with h | h
      · exact h
      · rw [show 4 - i = 0 by omega] at hr; cases hr
    rw [show 4 - i = (4 - (i + 1)) + 1 by omega, List.range'_succ] at hr
    obtain ⟨hy, hr2⟩ := List.cons.inj hr
    subst hy
    obtain ⟨f1, f2, f3, f4⟩ := mx_at u cR cI y
    obtain ⟨o1, o2, o3⟩ := mx_o_is cR u.heap.size y
    simp only [wp_bind']
    rw [multianewarray.make]
    simp only [wp_bind', W.ite, show ¬ (8 : Int32) < 0 by decide, if_false, wp_pure', W.theClass, f3, hI, hIk, Option.some.injEq, exists_eq_left']
    refine W.newArray_of (by rw [f3]; exact hI) hIk (by rw [hl]; decide) (by rw [hb]; decide) (by omega) (by show _ + 8 ≤ _; omega) rfl (fun a2 => ?_)
    simp only [wp_bind', W.writeLoc, wp_pure']
    refine ⟨mx_o cR u.heap.size y, ?_, by rw [o2]; simp, by omega, ?_, hn _ _ _ ⟨y + 1, by omega, hr2, ?_⟩⟩
    · have hlt : u.heap.size < (mx_s u cR cI y).heap.size := by omega
      rw [State.heap_pushCell_of_lt (h := hlt)]; exact f2
    · rw [o1, o2]
      simp [State.fitsSlot, State.slotType?, f3, hR, hRk, fits]
    · rw [f1]; rfl
  · rintro v d' a' ⟨i, hi, hr, rfl⟩
    have hi4 : i = 4 := by
      rcases Nat.lt_or_ge i 4 with h | h
      · rw [show 4 - i = (4 - (i + 1)) + 1 by omega, List.range'_succ] at hr; cases hr
      · omega
    subst hi4
    simp only [wp_pure']
    exact hq _ _
end MXW
def mxo (u : State) : Prop := ∃ (cI cR : ClassId) (kR : Class), u.vm.findClass (FieldType.array .int).toString = some cI ∧ u.vm.classes[cR]? = some kR ∧ kR.kind = .array cI (.array .int) ∧ u.vm.findClass ("[" ++ (FieldType.array .int).toString) = some cR
theorem mxo.moved {u U : State} (hvm : u.vm.Alike U.vm) (h : mxo u) : mxo U := by
  obtain ⟨cI, cR, kR, h1, h2, h3, h4⟩ := h
  obtain ⟨k', hk', he⟩ := hvm.2.2 _ _ h2
  exact ⟨cI, cR, k', by rw [hvm.findClass]; exact h1, hk', by rw [he]; exact h3, by rw [hvm.findClass]; exact h4⟩
theorem mx_over {args : Array Value} {u : State} (h : (Cond.arrayOver (.array .int)).before args u = true) : mxo u := by
  unfold Cond.before at h
  simp only [Cond.holds, Cond.value, beq_iff_eq] at h
  cases hc : u.vm.findClass (FieldType.array .int).toString with
  | none => rw [hc] at h; simp at h
  | some cI =>
    rw [hc] at h
    simp only [Option.bind_some, Option.bind_eq_some_iff, Option.map_eq_some_iff] at h
    obtain ⟨cR, hi, kR, hk, hb⟩ := h
    obtain ⟨hlt, hp, -⟩ := Array.findIdx?_eq_some_iff_getElem.mp hi
    rw [(Array.getElem?_eq_some_iff.mp hk).2] at hp
    cases hkind : kR.kind with
    | array component ty =>
      rw [hkind] at hb hp
      simp at hb hp
      exact ⟨cI, cR, kR, hc, hk, by rw [hkind, hp, hb.1], hb.2⟩
    | _ => rw [hkind] at hb; simp at hb
section MXS
variable {p : Program} {l : Launch} {e : Env} {R : Room} {s : State} {m : MethodId} {args : Array Value} {below : List Frame} {meth : Method} {c : Code} {H : Heap} {locs : List Loc} {cells slots : Nat} {Q : State → Prop} {T : State}
theorem mx_stand (X : Stand p l e R s m args below meth c T locs cells slots) (cR cI : ClassId) (i : Nat) : ∃ L : List Loc, Stand p l e R s m args below meth c (mx_s T cR cI i) L (cells + 1 + i) (slots + 4 + i * 8) ∧ ∀ q ∈ L, q ∈ locs ∨ q.base = T.heap.size := by
  induction i with
  | zero =>
    have h := X.pushed (mx_o cR T.heap.size 0)
    rw [(mx_o_is cR T.heap.size 0).2.2] at h
    exact ⟨locs, h, fun q hq => Or.inl hq⟩
  | succ i ih =>
    obtain ⟨L, Xi, hL⟩ := ih
    obtain ⟨f1, f2, f3, f4⟩ := mx_at T cR cI i
    have hc : ((mx_s T cR cI i).pushCell (mx_r cI)).heap[T.heap.size]? = some (mx_o cR T.heap.size i) := by
      have hlt : T.heap.size < (mx_s T cR cI i).heap.size := by omega
      rw [State.heap_pushCell_of_lt (h := hlt)]; exact f2
    have h := (Xi.pushed (mx_r cI)).stored hc i (.ref (T.heap.size + 1 + i))
    rw [show (mx_r cI).slots.size = 8 by simp [mx_r]] at h
    refine ⟨L ++ [⟨T.heap.size, i⟩], ?_, fun q hq => ?_⟩
    · rw [show cells + 1 + (i + 1) = cells + 1 + i + 1 by omega, show slots + 4 + (i + 1) * 8 = slots + 4 + i * 8 + 8 by omega]
      exact h
    · rcases List.mem_append.mp hq with h2 | h2
      · exact hL q h2
      · rw [List.mem_singleton.mp h2]; exact Or.inr rfl
theorem vx_multi {cc : ByteArray} {pc index : Nat} {ls : Array Slot} {rest : List Value} {own : String} (hexec : p.tables.exec = Jvm.exec) (hb : c.code = cc) (hown : s.vm.findClass own = some m.cls) (hlk : (Cond.classLink own index "[[I").before args s = true) (hov : mxo s) (har : (Cond.arrayClass .int).before args s = true) (hcells : cells + 5 ≤ R.cells) (hslots : slots + 36 ≤ R.slots) (hdg : decode cc pc = .ok (.multianewarray index 2, 4))
    (kk : ∀ (cR cI : ClassId) (H1 : Heap) (L : List Loc), (∀ q, q < H.size → H1[q]? = H[q]?) → H1.size = H.size + 5 → H1[H.size]? = some (vp_cell cR (4, .inr (.inr (.inr (.inr (fun k => some (H.size + 1 + k))))))) → (∀ j, j < 4 → H1[H.size + 1 + j]? = some (vp_cell cI (8, .inl (fun _ => 0)))) → (∀ q ∈ L, q ∈ locs ∨ q.base = H.size) → (ArrOfT s cI .int ∧ va_RA s cI .int) → (ArrOfT s cR (.array .int) ∧ va_RA s cR (.array .int)) →
      W p l e R s m args below meth c H1 L (cells + 5) (slots + 36) Q (F0 m (pc + 4) ls (.ref H.size :: rest))) : W p l e R s m args below meth c H locs cells slots Q (F0 m pc ls (.int 8 :: .int 4 :: rest)) := by
  intro T hT X
  subst hT
  subst hb
  have hpl : e.platform.magicAccessors = ({} : Platform).magicAccessors := by rw [X.admits.platform]
  obtain ⟨cI, cR, kR, hI0, hkR, hRk, hR0⟩ := hov
  obtain ⟨cI', kI, cc0, hI1, hkI, hIk⟩ := Cond.arrayClass_spec har
  have eI : cI' = cI := Option.some.inj (hI1.symm.trans hI0)
  subst eI
  obtain ⟨c0, hf0, hcl⟩ := Cond.classLink_spec hown hlk e.platform hpl
  have e0 : cR = c0 := Option.some.inj (hR0.symm.trans hf0)
  subst e0
  obtain ⟨hg1, hw1, -⟩ := State.classEntry (e := e) X.warmed hcl
  generalize T.vm.noted m.cls index (.cls cR) = vm1 at hg1 hw1
  obtain ⟨kR1, hkR1, eR⟩ := hw1.alike.2.2 _ _ hkR
  obtain ⟨kI1, hkI1, eI⟩ := hw1.alike.2.2 _ _ hkI
  have X1 := X.noted hw1
  obtain ⟨L, XF, hL⟩ := mx_stand X1 cR cI' 4
  obtain ⟨r1, r2⟩ := X.roomAbove hcells hslots
  obtain ⟨a1, a2, a3, a4⟩ := mx_at (T.setVm vm1) cR cI' 4
  have aI : ArrOfT s cI' .int := fun n z => ⟨fun k h => (by cases h), kI, hkI, cc0, hIk⟩
  have aR : ArrOfT s cR (.array .int) := fun n z => ⟨fun k h => (by cases h), kR, hkR, cI', hRk⟩
  obtain ⟨t, st, hQ⟩ := kk cR cI' (mx_s (T.setVm vm1) cR cI' 4).heap L (fun q hq => mx_old (T.setVm vm1) cR cI' hq 4) a1 (by rw [← mx_o_end]; exact a2) (fun j hj => by rw [← mx_r_is]; exact mx_row (T.setVm vm1) cR cI' j 4 hj) hL ⟨aI, hI0⟩ ⟨aR, hR0⟩ _ rfl XF
  refine ⟨t, ?_, hQ⟩
  jvm_step X.here [hexec, hdg]
  simp only [multianewarray.sem, wp_bind', W.resolveClassAt_links (State.method?_setTop (F0 m pc ls (.int 8 :: .int 4 :: rest)) X.here.top) hg1]
  rw [W.popN, if_neg (by decide)]
  refine ⟨F0 m pc ls (.int 8 :: .int 4 :: rest), State.topJava?_setTop' (s := T.setVm vm1) _ X.here.top, [.int 4, .int 8], rest, rfl, rfl, ?_⟩
  simp only [List.mapM_cons, List.mapM_nil, wp_bind', wp_pure']
  refine mx_make (u := ((T.setTop (F0 m pc ls (.int 8 :: .int 4 :: rest))).setVm vm1).setTop (F0 m pc ls rest)) (cR := cR) (cI := cI') (kR := kR1) (kI := kI1) hkR1 (by rw [eR]; exact hRk) hkI1 (by rw [eI]; exact hIk) (Launch.admits_arrayLengthLimit X.admits) (Launch.admits_maxHeapBytes X.admits) r1 r2 (fun d' acts' => ?_)
  have eS : ((T.setTop (F0 m pc ls (.int 8 :: .int 4 :: rest))).setVm vm1).setTop (F0 m pc ls rest) = (T.setVm vm1).setTop (F0 m pc ls rest) := by
    show ((T.setVm vm1).setTop _).setTop _ = _
    rw [State.setTop_setTop]
  rw [eS, mx_top]
  simp only [wp_bind', W.mark, W.pushRef, State.topJava?_setTop' _ XF.here.top, Option.some.injEq, exists_eq_left', State.setTop_setTop, State.heap_setTop]
  intro acts
  simp [jvm, XF.here.top]
  exact st
end MXS
end
section
/-! constructors: a contract's entry; the grid in the kit's worlds -/
theorem Mt.of {l : Launch} {y : MethodName} {cc : ByteArray} {n : Nat} {rt : Option FieldType} {rm : Room} {Pc : Array Value → State → Prop} {Qc : Array Value → State → Outcome → State → Prop} {mc ms : Nat} {free : Addr → Prop} (as : List Value) (hy : plainName y.cls = true) (hv : ∀ v U, Pc v U → v = as.toArray) (hn : (lg_sl as).length ≤ n)
    (body : ∀ (p : Program) (e : Env) (s : State) (m : MethodId) (args : Array Value) (below : List Frame) (meth : Method) (c : Code) (ls : Array Slot) (Q : State → Prop), Ev p s m args meth c cc n rt y.cls → meth.name = y.name → Pc args s → Q = MQ below Qc args s mc ms free → lv_has ls n (lv_args 0 as) →
      W p l e rm s m args below meth c s.heap [] 0 0 Q (F0 m 0 ls [])) : Met l y (.code y cc n rt :: tb) rm Pc Qc mc ms free := by
  refine Met.ofW (cc := cc) (maxL := n) (ret := rt) hy rfl ?_
  intro p e s m args below meth c s₁ B hml hP
  obtain rfl := hv _ _ hP
  have hts := atoms_spec (ws := .code y cc n rt :: tb) B.pre
  have hl := lv_entry as (n := n) hn
  rw [lg_entry_eq]
  exact body p e s m as.toArray below meth c _ _ ⟨B.exec, B.bytes, B.returns, hml, findClass_of_methodNamed B.named, fun w hw => hts w (List.mem_cons_of_mem _ hw), B.notSynchronized⟩ (name_of_methodNamed B.named B.method).1 hP rfl hl
/-- the class ids of int[] are one -/
theorem va_one {D : va_G} {cl : List vw_C} {tys : List (ClassId × FieldType)} {U : State} {a b : ClassId} {i j : Nat} (h : va_K D cl tys U) (hi : tys[i]? = some (a, .int)) (hj : tys[j]? = some (b, .int)) : b = a :=
  Option.some.inj (((h.2 j _ hj).2 : U.vm.findClass _ = some b).symm.trans ((h.2 i _ hi).2 : U.vm.findClass _ = some a))
section VXM
variable {p : Program} {l : Launch} {e : Env} {R : Room} {s : State} {m : MethodId} {args : Array Value} {below : List Frame} {meth : Method} {c : Code} {H : Heap} {locs : List Loc} {cells slots : Nat} {Q : State → Prop}
variable {cc : ByteArray} {pc : Nat} {ls : Array Slot} {rest : List Value} {D : va_G} {cl : List vw_C} {A : Nat → Prop} {tys : List (ClassId × FieldType)} {ws : va_W} {H0 : Heap}
theorem va_multi {own : String} {index : Nat} (hexec : p.tables.exec = Jvm.exec) (hb : c.code = cc) (hown : s.vm.findClass own = some m.cls) (hlk : (Cond.classLink own index "[[I").before args s = true) (hov : mxo s) (har : (Cond.arrayClass .int).before args s = true)
    (hK : va_K D cl tys s) (hP : va_P D cl ws H) (hD : va_D A ws) (hS : va_S A H0 H locs) (hA : ∀ q, H0.size ≤ q → A q) (hcells : cells + 5 ≤ R.cells) (hslots : slots + 36 ≤ R.slots) (hdg : decode cc pc = .ok (.multianewarray index 2, 4))
    (kk : ∀ (q : Nat) (cR cI : ClassId) (H1 : Heap) (L : List Loc), va_K D cl (tys ++ [(cI, .int), (cR, .array .int)]) s → va_P D cl (ws ++ [(q, .inl (cR, 4, .inr (.inr (.inr (.inr (fun k => some (q + 1 + k))))))), (q + 1, .inl (cI, 8, .inl (fun _ => 0))), (q + 2, .inl (cI, 8, .inl (fun _ => 0))), (q + 3, .inl (cI, 8, .inl (fun _ => 0))), (q + 4, .inl (cI, 8, .inl (fun _ => 0)))]) H1 → va_D A (ws ++ [(q, .inl (cR, 4, .inr (.inr (.inr (.inr (fun k => some (q + 1 + k))))))), (q + 1, .inl (cI, 8, .inl (fun _ => 0))), (q + 2, .inl (cI, 8, .inl (fun _ => 0))), (q + 3, .inl (cI, 8, .inl (fun _ => 0))), (q + 4, .inl (cI, 8, .inl (fun _ => 0)))]) → va_S A H0 H1 L →
      W p l e R s m args below meth c H1 L (cells + 5) (slots + 36) Q (F0 m (pc + 4) ls (.ref q :: rest))) : W p l e R s m args below meth c H locs cells slots Q (F0 m pc ls (.int 8 :: .int 4 :: rest)) := by
  refine vx_multi hexec hb hown hlk hov har hcells hslots hdg (fun cR cI H1 L o1 z1 e1 r1 hL aI aR => ?_)
  have hsz := hS.1
  have key : ∀ (k : Nat) (q : Nat × va_E), ([(H.size, .inl (cR, 4, .inr (.inr (.inr (.inr (fun k => some (H.size + 1 + k))))))), (H.size + 1, .inl (cI, 8, .inl (fun _ => 0))), (H.size + 2, .inl (cI, 8, .inl (fun _ => 0))), (H.size + 3, .inl (cI, 8, .inl (fun _ => 0))), (H.size + 4, .inl (cI, 8, .inl (fun _ => 0)))] : va_W)[k]? = some q → q.1 = H.size + k ∧ va_at D cl q H1 := by
    intro k q hk
    have h5 : k < 5 := (List.getElem?_eq_some_iff.mp hk).1
    rcases (show k = 0 ∨ k = 1 ∨ k = 2 ∨ k = 3 ∨ k = 4 by omega) with rfl | rfl | rfl | rfl | rfl <;> cases hk
    · exact ⟨rfl, e1⟩
    · exact ⟨rfl, r1 0 (by decide)⟩
    · exact ⟨rfl, r1 1 (by decide)⟩
    · exact ⟨rfl, r1 2 (by decide)⟩
    · exact ⟨rfl, r1 3 (by decide)⟩
  refine kk H.size cR cI H1 L ⟨hK.1, fun k q hk => ?_⟩ ((hP.kept (fun k x hx => o1 x.1 ((hP k x hx).lt))).app (fun k q hk => (key k q hk).2)) (va_D.app hD ⟨fun i j x y hx hy hxy => ?_, fun k q hk => ?_⟩ (fun i j x y hx hy hxy => ?_)) ⟨by omega, fun q h1 h2 => (o1 q (by omega)).trans (hS.2.1 q h1 h2), fun q hq => ?_⟩
  · rcases List.mem_append.mp (List.mem_of_getElem? hk) with h | h
    · obtain ⟨i, hi⟩ := List.getElem?_of_mem h
      exact hK.2 i q hi
    · rcases List.mem_cons.mp h with rfl | h
      · exact aI
      · rw [List.mem_singleton.mp h]; exact aR
  · have h1 := (key i x hx).1
    have h2 := (key j y hy).1
    omega
  · rw [(key k q hk).1]
    exact hA _ (by omega)
  · have h1 := (hP i x hx).lt
    have h2 := (key j y hy).1
    omega
  · rcases hL q hq with h | h
    · exact hS.2.2 q h
    · rw [h]; exact hA _ hsz
end VXM
end
section
def atF (D : va_G) (A : Nat → Prop) (h0 : Nat) (t : State) : Prop := ∃ (q1 q2 q3 q4 q5 q6 : Nat) (cI : ClassId) (f1 f2 f3 f4 f5 f6 : Nat → Int32), va_P D classes [(h0, .inr (1, [.ref q1, .ref q2, .ref q3, .ref q4, .ref q5, .ref q6, .int (-769313487)])), (q1, .inl (cI, 8, .inl f1)), (q2, .inl (cI, 8, .inl f2)), (q3, .inl (cI, 8, .inl f3)), (q4, .inl (cI, 10, .inl f4)), (q5, .inl (cI, 8, .inl f5)), (q6, .inl (cI, 8, .inl f6))] t.heap ∧ va_K D classes [(cI, .int)] t ∧ va_D A [(h0, .inr (1, [.ref q1, .ref q2, .ref q3, .ref q4, .ref q5, .ref q6, .int (-769313487)])), (q1, .inl (cI, 8, .inl f1)), (q2, .inl (cI, 8, .inl f2)), (q3, .inl (cI, 8, .inl f3)), (q4, .inl (cI, 10, .inl f4)), (q5, .inl (cI, 8, .inl f5)), (q6, .inl (cI, 8, .inl f6))] ∧ (∀ j, j < 8 → f1 j = pW j) ∧ V8 f2 = BK ∧ V8 f3 = ON
set_option maxHeartbeats 4000000 in
set_option maxRecDepth 100000 in
theorem c_F_init (l : Launch) (D : va_G) (h0 sz : Nat) : Met l y_F_init (.code y_F_init b_F_init 3 none :: tb) ({ frames := 1, cells := 6, slots := 50, locals := 12 }) (va_Pc [.ref h0] (fun U => U.heap.size = sz ∧ va_P D classes [(h0, .inr (1, [.null, .null, .null, .null, .null, .null, .int 0]))] U.heap ∧ va_K D classes [] U ∧ va_D (fun _ => True) [(h0, .inr (1, [.null, .null, .null, .null, .null, .null, .int 0]))])) (va_Qv (fun _ : Unit => True) (fun _ t => atF D (va_A [(h0, .inr (1, [.null, .null, .null, .null, .null, .null, .int 0]))] sz) h0 t) (va_A [(h0, .inr (1, [.null, .null, .null, .null, .null, .null, .int 0]))] sz)) 6 50 (va_A [(h0, .inr (1, [.null, .null, .null, .null, .null, .null, .int 0]))] sz) := by
  refine Mt.of [.ref h0] rfl (fun v U h => h.1) (Nat.le_of_ble_eq_true rfl) (fun p e s m args below meth c ls Q E hin hPc hQ hl => ?_)
  obtain ⟨-, hsz, hP, hK, hD0⟩ := hPc
  have hx := E.1
  have hb := E.2.1
  have hml := E.2.2.2.1
  have hown := E.2.2.2.2.1
  have hts := E.2.2.2.2.2.1
  subst hsz
  have hD := hD0.self (sz := s.heap.size)
  generalize hAe : va_A [(h0, .inr (1, [.null, .null, .null, .null, .null, .null, .int 0]))] s.heap.size = A at hD hQ ⊢
  have hA : ∀ q : Nat, s.heap.size ≤ q → A q := fun q h => by rw [← hAe]; exact Or.inr h
  have hS : va_S A s.heap s.heap [] := va_S.rf
  obtain ⟨H, eH⟩ : ∃ H, H = s.heap := ⟨_, rfl⟩
  have hPs := hP
  have hS : va_S A s.heap H [] := by rw [eH]; exact hS
  have hP : va_P D classes [(h0, .inr (1, [.null, .null, .null, .null, .null, .null, .int 0]))] H := by rw [eH]; exact hPs
  rw [← eH]
  have hl : lv_has ls 3 [(0, .ref h0)] := hl
  refine lv_aload_n hx hb d_F_init_0 rfl (lv_at hl 0 rfl) ?_
  refine W.objInit hx hb hown (hts _ k_19) (hts _ k_10) (hts _ k_11) rfl (by rw [hml]; exact hl.1) rfl d_F_init_1 (Nat.le_of_ble_eq_true rfl) (Nat.le_of_ble_eq_true rfl) ?_
  refine W.eq (g2 := F0 m 4 ls []) rfl ?_
  refine lv_aload_n hx hb d_F_init_4 rfl (lv_at hl 0 rfl) ?_
  refine lv_bipush (v := 8) hx hb d_F_init_5 (by decide) ?_
  refine va_newa (atype := .int) (ty := .int) (n := 8) (N' := 8) (a0 := (8, .inl (fun _ => 0))) hx hb (hts _ k_44) rfl hK hP hD hS hA (fun _ => rfl) (by decide) (by decide) (by decide) (Nat.le_of_ble_eq_true rfl) (Nat.le_of_ble_eq_true rfl) d_F_init_7 (fun q1 cI H hK hP hD hS => ?_)
  have hK : va_K D classes [(cI, .int)] s := hK.sub [0] rfl
  have hP : va_P D classes [(h0, .inr (1, [.null, .null, .null, .null, .null, .null, .int 0])), (q1, .inl (cI, 8, .inl (fun _ => 0)))] H := hP
  have hD : va_D A [(h0, .inr (1, [.null, .null, .null, .null, .null, .null, .int 0])), (q1, .inl (cI, 8, .inl (fun _ => 0)))] := hD
  refine W.widen (k := 1) (n := 8) (by decide) (by decide) ?_
  refine va_putF (D := D) (ci := 1) (v := .ref q1) (ty := .array .int) (C := R_F) (T := F_F) (N := 7) hx hb hts i_F t_F t_F_ok n_F hown hK hP hD hS 0 rfl rfl 0 (by decide) (hts _ k_21) (fun _ h9 => h9) rfl hin rfl (by decide +kernel) rfl rfl (Nat.le_of_ble_eq_true rfl) d_F_init_9 (fun H locs hP hD hS => ?_)
  have hP : va_P D classes [(h0, .inr (1, [.ref q1, .null, .null, .null, .null, .null, .int 0])), (q1, .inl (cI, 8, .inl (fun _ => 0)))] H := hP
  have hD : va_D A [(h0, .inr (1, [.ref q1, .null, .null, .null, .null, .null, .int 0])), (q1, .inl (cI, 8, .inl (fun _ => 0)))] := hD
  refine lv_aload_n hx hb d_F_init_12 rfl (lv_at hl 0 rfl) ?_
  refine lv_bipush (v := 8) hx hb d_F_init_13 (by decide) ?_
  refine va_newa (atype := .int) (ty := .int) (n := 8) (N' := 8) (a0 := (8, .inl (fun _ => 0))) hx hb (hts _ k_44) rfl hK hP hD hS hA (fun _ => rfl) (by decide) (by decide) (by decide) (Nat.le_of_ble_eq_true rfl) (Nat.le_of_ble_eq_true rfl) d_F_init_15 (fun q2 cZ H hK hP hD hS => ?_)
  obtain rfl := (va_one (i := 0) (j := 1) hK rfl rfl).symm
  have hK : va_K D classes [(cI, .int)] s := hK.sub [0] rfl
  have hP : va_P D classes [(h0, .inr (1, [.ref q1, .null, .null, .null, .null, .null, .int 0])), (q1, .inl (cI, 8, .inl (fun _ => 0))), (q2, .inl (cI, 8, .inl (fun _ => 0)))] H := hP
  have hD : va_D A [(h0, .inr (1, [.ref q1, .null, .null, .null, .null, .null, .int 0])), (q1, .inl (cI, 8, .inl (fun _ => 0))), (q2, .inl (cI, 8, .inl (fun _ => 0)))] := hD
  refine W.widen (k := 2) (n := 16) (by decide) (by decide) ?_
  refine va_putF (D := D) (ci := 1) (v := .ref q2) (ty := .array .int) (C := R_F) (T := F_F) (N := 7) hx hb hts i_F t_F t_F_ok n_F hown hK hP hD hS 0 rfl rfl 1 (by decide) (hts _ k_23) (fun _ h9 => h9) rfl hin rfl (by decide +kernel) rfl rfl (Nat.le_of_ble_eq_true rfl) d_F_init_17 (fun H locs hP hD hS => ?_)
  have hP : va_P D classes [(h0, .inr (1, [.ref q1, .ref q2, .null, .null, .null, .null, .int 0])), (q1, .inl (cI, 8, .inl (fun _ => 0))), (q2, .inl (cI, 8, .inl (fun _ => 0)))] H := hP
  have hD : va_D A [(h0, .inr (1, [.ref q1, .ref q2, .null, .null, .null, .null, .int 0])), (q1, .inl (cI, 8, .inl (fun _ => 0))), (q2, .inl (cI, 8, .inl (fun _ => 0)))] := hD
  refine lv_aload_n hx hb d_F_init_20 rfl (lv_at hl 0 rfl) ?_
  refine lv_bipush (v := 8) hx hb d_F_init_21 (by decide) ?_
  refine va_newa (atype := .int) (ty := .int) (n := 8) (N' := 8) (a0 := (8, .inl (fun _ => 0))) hx hb (hts _ k_44) rfl hK hP hD hS hA (fun _ => rfl) (by decide) (by decide) (by decide) (Nat.le_of_ble_eq_true rfl) (Nat.le_of_ble_eq_true rfl) d_F_init_23 (fun q3 cZ H hK hP hD hS => ?_)
  obtain rfl := (va_one (i := 0) (j := 1) hK rfl rfl).symm
  have hK : va_K D classes [(cI, .int)] s := hK.sub [0] rfl
  have hP : va_P D classes [(h0, .inr (1, [.ref q1, .ref q2, .null, .null, .null, .null, .int 0])), (q1, .inl (cI, 8, .inl (fun _ => 0))), (q2, .inl (cI, 8, .inl (fun _ => 0))), (q3, .inl (cI, 8, .inl (fun _ => 0)))] H := hP
  have hD : va_D A [(h0, .inr (1, [.ref q1, .ref q2, .null, .null, .null, .null, .int 0])), (q1, .inl (cI, 8, .inl (fun _ => 0))), (q2, .inl (cI, 8, .inl (fun _ => 0))), (q3, .inl (cI, 8, .inl (fun _ => 0)))] := hD
  refine W.widen (k := 3) (n := 24) (by decide) (by decide) ?_
  refine va_putF (D := D) (ci := 1) (v := .ref q3) (ty := .array .int) (C := R_F) (T := F_F) (N := 7) hx hb hts i_F t_F t_F_ok n_F hown hK hP hD hS 0 rfl rfl 2 (by decide) (hts _ k_24) (fun _ h9 => h9) rfl hin rfl (by decide +kernel) rfl rfl (Nat.le_of_ble_eq_true rfl) d_F_init_25 (fun H locs hP hD hS => ?_)
  have hP : va_P D classes [(h0, .inr (1, [.ref q1, .ref q2, .ref q3, .null, .null, .null, .int 0])), (q1, .inl (cI, 8, .inl (fun _ => 0))), (q2, .inl (cI, 8, .inl (fun _ => 0))), (q3, .inl (cI, 8, .inl (fun _ => 0)))] H := hP
  have hD : va_D A [(h0, .inr (1, [.ref q1, .ref q2, .ref q3, .null, .null, .null, .int 0])), (q1, .inl (cI, 8, .inl (fun _ => 0))), (q2, .inl (cI, 8, .inl (fun _ => 0))), (q3, .inl (cI, 8, .inl (fun _ => 0)))] := hD
  refine lv_aload_n hx hb d_F_init_28 rfl (lv_at hl 0 rfl) ?_
  refine lv_bipush (v := 10) hx hb d_F_init_29 (by decide) ?_
  refine va_newa (atype := .int) (ty := .int) (n := 10) (N' := 10) (a0 := (10, .inl (fun _ => 0))) hx hb (hts _ k_44) rfl hK hP hD hS hA (fun _ => rfl) (by decide) (by decide) (by decide) (Nat.le_of_ble_eq_true rfl) (Nat.le_of_ble_eq_true rfl) d_F_init_31 (fun q4 cZ H hK hP hD hS => ?_)
  obtain rfl := (va_one (i := 0) (j := 1) hK rfl rfl).symm
  have hK : va_K D classes [(cI, .int)] s := hK.sub [0] rfl
  have hP : va_P D classes [(h0, .inr (1, [.ref q1, .ref q2, .ref q3, .null, .null, .null, .int 0])), (q1, .inl (cI, 8, .inl (fun _ => 0))), (q2, .inl (cI, 8, .inl (fun _ => 0))), (q3, .inl (cI, 8, .inl (fun _ => 0))), (q4, .inl (cI, 10, .inl (fun _ => 0)))] H := hP
  have hD : va_D A [(h0, .inr (1, [.ref q1, .ref q2, .ref q3, .null, .null, .null, .int 0])), (q1, .inl (cI, 8, .inl (fun _ => 0))), (q2, .inl (cI, 8, .inl (fun _ => 0))), (q3, .inl (cI, 8, .inl (fun _ => 0))), (q4, .inl (cI, 10, .inl (fun _ => 0)))] := hD
  refine W.widen (k := 4) (n := 34) (by decide) (by decide) ?_
  refine va_putF (D := D) (ci := 1) (v := .ref q4) (ty := .array .int) (C := R_F) (T := F_F) (N := 7) hx hb hts i_F t_F t_F_ok n_F hown hK hP hD hS 0 rfl rfl 3 (by decide) (hts _ k_25) (fun _ h9 => h9) rfl hin rfl (by decide +kernel) rfl rfl (Nat.le_of_ble_eq_true rfl) d_F_init_33 (fun H locs hP hD hS => ?_)
  have hP : va_P D classes [(h0, .inr (1, [.ref q1, .ref q2, .ref q3, .ref q4, .null, .null, .int 0])), (q1, .inl (cI, 8, .inl (fun _ => 0))), (q2, .inl (cI, 8, .inl (fun _ => 0))), (q3, .inl (cI, 8, .inl (fun _ => 0))), (q4, .inl (cI, 10, .inl (fun _ => 0)))] H := hP
  have hD : va_D A [(h0, .inr (1, [.ref q1, .ref q2, .ref q3, .ref q4, .null, .null, .int 0])), (q1, .inl (cI, 8, .inl (fun _ => 0))), (q2, .inl (cI, 8, .inl (fun _ => 0))), (q3, .inl (cI, 8, .inl (fun _ => 0))), (q4, .inl (cI, 10, .inl (fun _ => 0)))] := hD
  refine lv_aload_n hx hb d_F_init_36 rfl (lv_at hl 0 rfl) ?_
  refine lv_bipush (v := 8) hx hb d_F_init_37 (by decide) ?_
  refine va_newa (atype := .int) (ty := .int) (n := 8) (N' := 8) (a0 := (8, .inl (fun _ => 0))) hx hb (hts _ k_44) rfl hK hP hD hS hA (fun _ => rfl) (by decide) (by decide) (by decide) (Nat.le_of_ble_eq_true rfl) (Nat.le_of_ble_eq_true rfl) d_F_init_39 (fun q5 cZ H hK hP hD hS => ?_)
  obtain rfl := (va_one (i := 0) (j := 1) hK rfl rfl).symm
  have hK : va_K D classes [(cI, .int)] s := hK.sub [0] rfl
  have hP : va_P D classes [(h0, .inr (1, [.ref q1, .ref q2, .ref q3, .ref q4, .null, .null, .int 0])), (q1, .inl (cI, 8, .inl (fun _ => 0))), (q2, .inl (cI, 8, .inl (fun _ => 0))), (q3, .inl (cI, 8, .inl (fun _ => 0))), (q4, .inl (cI, 10, .inl (fun _ => 0))), (q5, .inl (cI, 8, .inl (fun _ => 0)))] H := hP
  have hD : va_D A [(h0, .inr (1, [.ref q1, .ref q2, .ref q3, .ref q4, .null, .null, .int 0])), (q1, .inl (cI, 8, .inl (fun _ => 0))), (q2, .inl (cI, 8, .inl (fun _ => 0))), (q3, .inl (cI, 8, .inl (fun _ => 0))), (q4, .inl (cI, 10, .inl (fun _ => 0))), (q5, .inl (cI, 8, .inl (fun _ => 0)))] := hD
  refine W.widen (k := 5) (n := 42) (by decide) (by decide) ?_
  refine va_putF (D := D) (ci := 1) (v := .ref q5) (ty := .array .int) (C := R_F) (T := F_F) (N := 7) hx hb hts i_F t_F t_F_ok n_F hown hK hP hD hS 0 rfl rfl 4 (by decide) (hts _ k_26) (fun _ h9 => h9) rfl hin rfl (by decide +kernel) rfl rfl (Nat.le_of_ble_eq_true rfl) d_F_init_41 (fun H locs hP hD hS => ?_)
  have hP : va_P D classes [(h0, .inr (1, [.ref q1, .ref q2, .ref q3, .ref q4, .ref q5, .null, .int 0])), (q1, .inl (cI, 8, .inl (fun _ => 0))), (q2, .inl (cI, 8, .inl (fun _ => 0))), (q3, .inl (cI, 8, .inl (fun _ => 0))), (q4, .inl (cI, 10, .inl (fun _ => 0))), (q5, .inl (cI, 8, .inl (fun _ => 0)))] H := hP
  have hD : va_D A [(h0, .inr (1, [.ref q1, .ref q2, .ref q3, .ref q4, .ref q5, .null, .int 0])), (q1, .inl (cI, 8, .inl (fun _ => 0))), (q2, .inl (cI, 8, .inl (fun _ => 0))), (q3, .inl (cI, 8, .inl (fun _ => 0))), (q4, .inl (cI, 10, .inl (fun _ => 0))), (q5, .inl (cI, 8, .inl (fun _ => 0)))] := hD
  refine lv_aload_n hx hb d_F_init_44 rfl (lv_at hl 0 rfl) ?_
  refine lv_bipush (v := 8) hx hb d_F_init_45 (by decide) ?_
  refine va_newa (atype := .int) (ty := .int) (n := 8) (N' := 8) (a0 := (8, .inl (fun _ => 0))) hx hb (hts _ k_44) rfl hK hP hD hS hA (fun _ => rfl) (by decide) (by decide) (by decide) (Nat.le_of_ble_eq_true rfl) (Nat.le_of_ble_eq_true rfl) d_F_init_47 (fun q6 cZ H hK hP hD hS => ?_)
  obtain rfl := (va_one (i := 0) (j := 1) hK rfl rfl).symm
  have hK : va_K D classes [(cI, .int)] s := hK.sub [0] rfl
  have hP : va_P D classes [(h0, .inr (1, [.ref q1, .ref q2, .ref q3, .ref q4, .ref q5, .null, .int 0])), (q1, .inl (cI, 8, .inl (fun _ => 0))), (q2, .inl (cI, 8, .inl (fun _ => 0))), (q3, .inl (cI, 8, .inl (fun _ => 0))), (q4, .inl (cI, 10, .inl (fun _ => 0))), (q5, .inl (cI, 8, .inl (fun _ => 0))), (q6, .inl (cI, 8, .inl (fun _ => 0)))] H := hP
  have hD : va_D A [(h0, .inr (1, [.ref q1, .ref q2, .ref q3, .ref q4, .ref q5, .null, .int 0])), (q1, .inl (cI, 8, .inl (fun _ => 0))), (q2, .inl (cI, 8, .inl (fun _ => 0))), (q3, .inl (cI, 8, .inl (fun _ => 0))), (q4, .inl (cI, 10, .inl (fun _ => 0))), (q5, .inl (cI, 8, .inl (fun _ => 0))), (q6, .inl (cI, 8, .inl (fun _ => 0)))] := hD
  refine W.widen (k := 6) (n := 50) (by decide) (by decide) ?_
  refine va_putF (D := D) (ci := 1) (v := .ref q6) (ty := .array .int) (C := R_F) (T := F_F) (N := 7) hx hb hts i_F t_F t_F_ok n_F hown hK hP hD hS 0 rfl rfl 5 (by decide) (hts _ k_27) (fun _ h9 => h9) rfl hin rfl (by decide +kernel) rfl rfl (Nat.le_of_ble_eq_true rfl) d_F_init_49 (fun H locs hP hD hS => ?_)
  have hP : va_P D classes [(h0, .inr (1, [.ref q1, .ref q2, .ref q3, .ref q4, .ref q5, .ref q6, .int 0])), (q1, .inl (cI, 8, .inl (fun _ => 0))), (q2, .inl (cI, 8, .inl (fun _ => 0))), (q3, .inl (cI, 8, .inl (fun _ => 0))), (q4, .inl (cI, 10, .inl (fun _ => 0))), (q5, .inl (cI, 8, .inl (fun _ => 0))), (q6, .inl (cI, 8, .inl (fun _ => 0)))] H := hP
  have hD : va_D A [(h0, .inr (1, [.ref q1, .ref q2, .ref q3, .ref q4, .ref q5, .ref q6, .int 0])), (q1, .inl (cI, 8, .inl (fun _ => 0))), (q2, .inl (cI, 8, .inl (fun _ => 0))), (q3, .inl (cI, 8, .inl (fun _ => 0))), (q4, .inl (cI, 10, .inl (fun _ => 0))), (q5, .inl (cI, 8, .inl (fun _ => 0))), (q6, .inl (cI, 8, .inl (fun _ => 0)))] := hD
  have loop : ∀ (d i : Nat) (f : Nat → Int32) (H : Heap) (locs : List Loc) (ls : Array Slot), i ≤ 8 → 9 ≤ i + d → (∀ j, j < i → f j = -1) → va_P D classes [(h0, .inr (1, [.ref q1, .ref q2, .ref q3, .ref q4, .ref q5, .ref q6, .int 0])), (q1, .inl (cI, 8, .inl f)), (q2, .inl (cI, 8, .inl (fun _ => 0))), (q3, .inl (cI, 8, .inl (fun _ => 0))), (q4, .inl (cI, 10, .inl (fun _ => 0))), (q5, .inl (cI, 8, .inl (fun _ => 0))), (q6, .inl (cI, 8, .inl (fun _ => 0)))] H → va_D A [(h0, .inr (1, [.ref q1, .ref q2, .ref q3, .ref q4, .ref q5, .ref q6, .int 0])), (q1, .inl (cI, 8, .inl f)), (q2, .inl (cI, 8, .inl (fun _ => 0))), (q3, .inl (cI, 8, .inl (fun _ => 0))), (q4, .inl (cI, 10, .inl (fun _ => 0))), (q5, .inl (cI, 8, .inl (fun _ => 0))), (q6, .inl (cI, 8, .inl (fun _ => 0)))] → va_S A s.heap H locs → lv_has ls 3 [(1, .int (nI i)), (0, .ref h0)] → W p l e ({ frames := 1, cells := 6, slots := 50, locals := 12 }) s m args below meth c H locs 6 50 Q (F0 m 54 ls []) := by
    intro d
    induction d with
    | zero => intro i f H locs ls h1 h2; exact absurd h2 (by omega)
    | succ d ih =>
      intro i f H locs ls h1 h2 hI hP hD hS hl
      refine lv_iload_n hx hb d_F_init_54 rfl (lv_at hl 0 rfl) ?_
      refine lv_bipush (v := 8) hx hb d_F_init_55 (by decide) ?_
      refine lv_icmp_ge (tgt := 73) hx hb d_F_init_57 (by decide) (fun c1 => ?_) (fun c1 => ?_)
      · have c2 := (nI_leI (a := 8) (b := i) (by decide) (by omega)).mp c1
        obtain rfl : i = 8 := by omega
        refine lv_aload_n hx hb d_F_init_73 rfl (lv_at hl 1 rfl) ?_
        refine va_get (D := D) (ci := 1) (v := .ref q1) (C := R_F) (T := F_F) (N := 7) hx hb hts i_F hown hK hP 0 rfl rfl 0 (by decide) (hts _ k_21) (fun _ h9 => h9) rfl d_F_init_74 ?_
        refine lv_iconst (v := 0) hx hb d_F_init_77 (by decide) ?_
        refine lv_sipush (v := (-977)) hx hb d_F_init_78 (by decide) ?_
        refine va_iast hx hb hK hP hD hS 1 0 rfl rfl (vp_in_nI (n := 0) (N := 8) (by decide) (by decide)) d_F_init_81 (fun H locs hP hD hS => ?_)
        have hP : va_P D classes [(h0, .inr (1, [.ref q1, .ref q2, .ref q3, .ref q4, .ref q5, .ref q6, .int 0])), (q1, .inl (cI, 8, .inl (upd f 0 (-977)))), (q2, .inl (cI, 8, .inl (fun _ => 0))), (q3, .inl (cI, 8, .inl (fun _ => 0))), (q4, .inl (cI, 10, .inl (fun _ => 0))), (q5, .inl (cI, 8, .inl (fun _ => 0))), (q6, .inl (cI, 8, .inl (fun _ => 0)))] H := hP
        have hD : va_D A [(h0, .inr (1, [.ref q1, .ref q2, .ref q3, .ref q4, .ref q5, .ref q6, .int 0])), (q1, .inl (cI, 8, .inl (upd f 0 (-977)))), (q2, .inl (cI, 8, .inl (fun _ => 0))), (q3, .inl (cI, 8, .inl (fun _ => 0))), (q4, .inl (cI, 10, .inl (fun _ => 0))), (q5, .inl (cI, 8, .inl (fun _ => 0))), (q6, .inl (cI, 8, .inl (fun _ => 0)))] := hD
        refine lv_aload_n hx hb d_F_init_82 rfl (lv_at hl 1 rfl) ?_
        refine va_get (D := D) (ci := 1) (v := .ref q1) (C := R_F) (T := F_F) (N := 7) hx hb hts i_F hown hK hP 0 rfl rfl 0 (by decide) (hts _ k_21) (fun _ h9 => h9) rfl d_F_init_83 ?_
        refine lv_iconst (v := 1) hx hb d_F_init_86 (by decide) ?_
        refine lv_bipush (v := (-2)) hx hb d_F_init_87 (by decide) ?_
        refine va_iast hx hb hK hP hD hS 1 0 rfl rfl (vp_in_nI (n := 1) (N := 8) (by decide) (by decide)) d_F_init_89 (fun H locs hP hD hS => ?_)
        have hP : va_P D classes [(h0, .inr (1, [.ref q1, .ref q2, .ref q3, .ref q4, .ref q5, .ref q6, .int 0])), (q1, .inl (cI, 8, .inl (upd (upd f 0 (-977)) 1 (-2)))), (q2, .inl (cI, 8, .inl (fun _ => 0))), (q3, .inl (cI, 8, .inl (fun _ => 0))), (q4, .inl (cI, 10, .inl (fun _ => 0))), (q5, .inl (cI, 8, .inl (fun _ => 0))), (q6, .inl (cI, 8, .inl (fun _ => 0)))] H := hP
        have hD : va_D A [(h0, .inr (1, [.ref q1, .ref q2, .ref q3, .ref q4, .ref q5, .ref q6, .int 0])), (q1, .inl (cI, 8, .inl (upd (upd f 0 (-977)) 1 (-2)))), (q2, .inl (cI, 8, .inl (fun _ => 0))), (q3, .inl (cI, 8, .inl (fun _ => 0))), (q4, .inl (cI, 10, .inl (fun _ => 0))), (q5, .inl (cI, 8, .inl (fun _ => 0))), (q6, .inl (cI, 8, .inl (fun _ => 0)))] := hD
        refine lv_aload_n hx hb d_F_init_90 rfl (lv_at hl 1 rfl) ?_
        refine va_get (D := D) (ci := 1) (v := .ref q3) (C := R_F) (T := F_F) (N := 7) hx hb hts i_F hown hK hP 0 rfl rfl 2 (by decide) (hts _ k_24) (fun _ h9 => h9) rfl d_F_init_91 ?_
        refine lv_iconst (v := 0) hx hb d_F_init_94 (by decide) ?_
        refine lv_sipush (v := 977) hx hb d_F_init_95 (by decide) ?_
        refine va_iast hx hb hK hP hD hS 3 0 rfl rfl (vp_in_nI (n := 0) (N := 8) (by decide) (by decide)) d_F_init_98 (fun H locs hP hD hS => ?_)
        have hP : va_P D classes [(h0, .inr (1, [.ref q1, .ref q2, .ref q3, .ref q4, .ref q5, .ref q6, .int 0])), (q1, .inl (cI, 8, .inl (upd (upd f 0 (-977)) 1 (-2)))), (q2, .inl (cI, 8, .inl (fun _ => 0))), (q3, .inl (cI, 8, .inl (upd (fun _ => 0) 0 977))), (q4, .inl (cI, 10, .inl (fun _ => 0))), (q5, .inl (cI, 8, .inl (fun _ => 0))), (q6, .inl (cI, 8, .inl (fun _ => 0)))] H := hP
        have hD : va_D A [(h0, .inr (1, [.ref q1, .ref q2, .ref q3, .ref q4, .ref q5, .ref q6, .int 0])), (q1, .inl (cI, 8, .inl (upd (upd f 0 (-977)) 1 (-2)))), (q2, .inl (cI, 8, .inl (fun _ => 0))), (q3, .inl (cI, 8, .inl (upd (fun _ => 0) 0 977))), (q4, .inl (cI, 10, .inl (fun _ => 0))), (q5, .inl (cI, 8, .inl (fun _ => 0))), (q6, .inl (cI, 8, .inl (fun _ => 0)))] := hD
        refine lv_aload_n hx hb d_F_init_99 rfl (lv_at hl 1 rfl) ?_
        refine va_get (D := D) (ci := 1) (v := .ref q3) (C := R_F) (T := F_F) (N := 7) hx hb hts i_F hown hK hP 0 rfl rfl 2 (by decide) (hts _ k_24) (fun _ h9 => h9) rfl d_F_init_100 ?_
        refine lv_iconst (v := 1) hx hb d_F_init_103 (by decide) ?_
        refine lv_iconst (v := 1) hx hb d_F_init_104 (by decide) ?_
        refine va_iast hx hb hK hP hD hS 3 0 rfl rfl (vp_in_nI (n := 1) (N := 8) (by decide) (by decide)) d_F_init_105 (fun H locs hP hD hS => ?_)
        have hP : va_P D classes [(h0, .inr (1, [.ref q1, .ref q2, .ref q3, .ref q4, .ref q5, .ref q6, .int 0])), (q1, .inl (cI, 8, .inl (upd (upd f 0 (-977)) 1 (-2)))), (q2, .inl (cI, 8, .inl (fun _ => 0))), (q3, .inl (cI, 8, .inl (upd (upd (fun _ => 0) 0 977) 1 1))), (q4, .inl (cI, 10, .inl (fun _ => 0))), (q5, .inl (cI, 8, .inl (fun _ => 0))), (q6, .inl (cI, 8, .inl (fun _ => 0)))] H := hP
        have hD : va_D A [(h0, .inr (1, [.ref q1, .ref q2, .ref q3, .ref q4, .ref q5, .ref q6, .int 0])), (q1, .inl (cI, 8, .inl (upd (upd f 0 (-977)) 1 (-2)))), (q2, .inl (cI, 8, .inl (fun _ => 0))), (q3, .inl (cI, 8, .inl (upd (upd (fun _ => 0) 0 977) 1 1))), (q4, .inl (cI, 10, .inl (fun _ => 0))), (q5, .inl (cI, 8, .inl (fun _ => 0))), (q6, .inl (cI, 8, .inl (fun _ => 0)))] := hD
        refine lv_aload_n hx hb d_F_init_106 rfl (lv_at hl 1 rfl) ?_
        refine va_get (D := D) (ci := 1) (v := .ref q2) (C := R_F) (T := F_F) (N := 7) hx hb hts i_F hown hK hP 0 rfl rfl 1 (by decide) (hts _ k_23) (fun _ h9 => h9) rfl d_F_init_107 ?_
        refine lv_iconst (v := 0) hx hb d_F_init_110 (by decide) ?_
        refine lv_ldc hx hb hown (hts _ k_20) d_F_init_111 ?_
        refine va_iast hx hb hK hP hD hS 2 0 rfl rfl (vp_in_nI (n := 0) (N := 8) (by decide) (by decide)) d_F_init_113 (fun H locs hP hD hS => ?_)
        have hP : va_P D classes [(h0, .inr (1, [.ref q1, .ref q2, .ref q3, .ref q4, .ref q5, .ref q6, .int 0])), (q1, .inl (cI, 8, .inl (upd (upd f 0 (-977)) 1 (-2)))), (q2, .inl (cI, 8, .inl (upd (fun _ => 0) 0 954529))), (q3, .inl (cI, 8, .inl (upd (upd (fun _ => 0) 0 977) 1 1))), (q4, .inl (cI, 10, .inl (fun _ => 0))), (q5, .inl (cI, 8, .inl (fun _ => 0))), (q6, .inl (cI, 8, .inl (fun _ => 0)))] H := hP
        have hD : va_D A [(h0, .inr (1, [.ref q1, .ref q2, .ref q3, .ref q4, .ref q5, .ref q6, .int 0])), (q1, .inl (cI, 8, .inl (upd (upd f 0 (-977)) 1 (-2)))), (q2, .inl (cI, 8, .inl (upd (fun _ => 0) 0 954529))), (q3, .inl (cI, 8, .inl (upd (upd (fun _ => 0) 0 977) 1 1))), (q4, .inl (cI, 10, .inl (fun _ => 0))), (q5, .inl (cI, 8, .inl (fun _ => 0))), (q6, .inl (cI, 8, .inl (fun _ => 0)))] := hD
        refine lv_aload_n hx hb d_F_init_114 rfl (lv_at hl 1 rfl) ?_
        refine va_get (D := D) (ci := 1) (v := .ref q2) (C := R_F) (T := F_F) (N := 7) hx hb hts i_F hown hK hP 0 rfl rfl 1 (by decide) (hts _ k_23) (fun _ h9 => h9) rfl d_F_init_115 ?_
        refine lv_iconst (v := 1) hx hb d_F_init_118 (by decide) ?_
        refine lv_sipush (v := 1954) hx hb d_F_init_119 (by decide) ?_
        refine va_iast hx hb hK hP hD hS 2 0 rfl rfl (vp_in_nI (n := 1) (N := 8) (by decide) (by decide)) d_F_init_122 (fun H locs hP hD hS => ?_)
        have hP : va_P D classes [(h0, .inr (1, [.ref q1, .ref q2, .ref q3, .ref q4, .ref q5, .ref q6, .int 0])), (q1, .inl (cI, 8, .inl (upd (upd f 0 (-977)) 1 (-2)))), (q2, .inl (cI, 8, .inl (upd (upd (fun _ => 0) 0 954529) 1 1954))), (q3, .inl (cI, 8, .inl (upd (upd (fun _ => 0) 0 977) 1 1))), (q4, .inl (cI, 10, .inl (fun _ => 0))), (q5, .inl (cI, 8, .inl (fun _ => 0))), (q6, .inl (cI, 8, .inl (fun _ => 0)))] H := hP
        have hD : va_D A [(h0, .inr (1, [.ref q1, .ref q2, .ref q3, .ref q4, .ref q5, .ref q6, .int 0])), (q1, .inl (cI, 8, .inl (upd (upd f 0 (-977)) 1 (-2)))), (q2, .inl (cI, 8, .inl (upd (upd (fun _ => 0) 0 954529) 1 1954))), (q3, .inl (cI, 8, .inl (upd (upd (fun _ => 0) 0 977) 1 1))), (q4, .inl (cI, 10, .inl (fun _ => 0))), (q5, .inl (cI, 8, .inl (fun _ => 0))), (q6, .inl (cI, 8, .inl (fun _ => 0)))] := hD
        refine lv_aload_n hx hb d_F_init_123 rfl (lv_at hl 1 rfl) ?_
        refine va_get (D := D) (ci := 1) (v := .ref q2) (C := R_F) (T := F_F) (N := 7) hx hb hts i_F hown hK hP 0 rfl rfl 1 (by decide) (hts _ k_23) (fun _ h9 => h9) rfl d_F_init_124 ?_
        refine lv_iconst (v := 2) hx hb d_F_init_127 (by decide) ?_
        refine lv_iconst (v := 1) hx hb d_F_init_128 (by decide) ?_
        refine va_iast hx hb hK hP hD hS 2 0 rfl rfl (vp_in_nI (n := 2) (N := 8) (by decide) (by decide)) d_F_init_129 (fun H locs hP hD hS => ?_)
        have hP : va_P D classes [(h0, .inr (1, [.ref q1, .ref q2, .ref q3, .ref q4, .ref q5, .ref q6, .int 0])), (q1, .inl (cI, 8, .inl (upd (upd f 0 (-977)) 1 (-2)))), (q2, .inl (cI, 8, .inl (upd (upd (upd (fun _ => 0) 0 954529) 1 1954) 2 1))), (q3, .inl (cI, 8, .inl (upd (upd (fun _ => 0) 0 977) 1 1))), (q4, .inl (cI, 10, .inl (fun _ => 0))), (q5, .inl (cI, 8, .inl (fun _ => 0))), (q6, .inl (cI, 8, .inl (fun _ => 0)))] H := hP
        have hD : va_D A [(h0, .inr (1, [.ref q1, .ref q2, .ref q3, .ref q4, .ref q5, .ref q6, .int 0])), (q1, .inl (cI, 8, .inl (upd (upd f 0 (-977)) 1 (-2)))), (q2, .inl (cI, 8, .inl (upd (upd (upd (fun _ => 0) 0 954529) 1 1954) 2 1))), (q3, .inl (cI, 8, .inl (upd (upd (fun _ => 0) 0 977) 1 1))), (q4, .inl (cI, 10, .inl (fun _ => 0))), (q5, .inl (cI, 8, .inl (fun _ => 0))), (q6, .inl (cI, 8, .inl (fun _ => 0)))] := hD
        refine lv_iconst (v := 1) hx hb d_F_init_130 (by decide) ?_
        refine lv_istore_n (lv' := [(1, .int 1), (0, .ref h0)]) hx hb d_F_init_131 rfl hl (by decide) rfl (fun ls hl => ?_)
        refine lv_iconst (v := 0) hx hb d_F_init_132 (by decide) ?_
        refine lv_istore_n (lv' := [(2, .int 0), (1, .int 1), (0, .ref h0)]) hx hb d_F_init_133 rfl hl (by decide) rfl (fun ls hl => ?_)
        refine lv_iload_n hx hb d_F_init_134 rfl (lv_at hl 0 rfl) ?_
        refine lv_iconst (v := 5) hx hb d_F_init_135 (by decide) ?_
        refine lv_icmp_ge (tgt := 158) hx hb d_F_init_136 (by decide) (fun c9 => ?_) (fun c9 => ?_)
        · exact absurd c9 (by decide)
        · refine lv_iload_n hx hb d_F_init_139 rfl (lv_at hl 1 rfl) ?_
          refine lv_iconst (v := 2) hx hb d_F_init_140 (by decide) ?_
          refine lv_aload_n hx hb d_F_init_141 rfl (lv_at hl 2 rfl) ?_
          refine va_get (D := D) (ci := 1) (v := .ref q1) (C := R_F) (T := F_F) (N := 7) hx hb hts i_F hown hK hP 0 rfl rfl 0 (by decide) (hts _ k_21) (fun _ h9 => h9) rfl d_F_init_142 ?_
          refine lv_iconst (v := 0) hx hb d_F_init_145 (by decide) ?_
          refine va_iald hx hb hK hP 1 0 rfl rfl (vp_in_nI (n := 0) (N := 8) (by decide) (by decide)) d_F_init_146 ?_
          refine W.eq (g2 := F0 m 147 ls [.int (-977), .int 2, .int 1]) rfl ?_
          refine lv_iload_n hx hb d_F_init_147 rfl (lv_at hl 1 rfl) ?_
          refine lv_imul hx hb d_F_init_148 ?_
          refine lv_isub hx hb d_F_init_149 ?_
          refine lv_imul hx hb d_F_init_150 ?_
          refine lv_topi (fun iv1 eiv1 => ?_)
          obtain rfl : iv1 = 979 := eiv1.trans (by decide)
          refine lv_istore_n (lv' := [(1, .int 979), (2, .int 0), (0, .ref h0)]) hx hb d_F_init_151 rfl hl (by decide) rfl (fun ls hl => ?_)
          refine lv_iinc (v := 1) (lv' := [(2, .int 1), (1, .int 979), (0, .ref h0)]) hx hb d_F_init_152 hl (k := 1) rfl (by decide) (by decide) rfl (fun ls hl => ?_)
          refine lv_goto (tgt := 134) hx hb d_F_init_155 (by decide) ?_
          refine lv_iload_n hx hb d_F_init_134 rfl (lv_at hl 0 rfl) ?_
          refine lv_iconst (v := 5) hx hb d_F_init_135 (by decide) ?_
          refine lv_icmp_ge (tgt := 158) hx hb d_F_init_136 (by decide) (fun c9 => ?_) (fun c9 => ?_)
          · exact absurd c9 (by decide)
          · refine lv_iload_n hx hb d_F_init_139 rfl (lv_at hl 1 rfl) ?_
            refine lv_iconst (v := 2) hx hb d_F_init_140 (by decide) ?_
            refine lv_aload_n hx hb d_F_init_141 rfl (lv_at hl 2 rfl) ?_
            refine va_get (D := D) (ci := 1) (v := .ref q1) (C := R_F) (T := F_F) (N := 7) hx hb hts i_F hown hK hP 0 rfl rfl 0 (by decide) (hts _ k_21) (fun _ h9 => h9) rfl d_F_init_142 ?_
            refine lv_iconst (v := 0) hx hb d_F_init_145 (by decide) ?_
            refine va_iald hx hb hK hP 1 0 rfl rfl (vp_in_nI (n := 0) (N := 8) (by decide) (by decide)) d_F_init_146 ?_
            refine W.eq (g2 := F0 m 147 ls [.int (-977), .int 2, .int 979]) rfl ?_
            refine lv_iload_n hx hb d_F_init_147 rfl (lv_at hl 1 rfl) ?_
            refine lv_imul hx hb d_F_init_148 ?_
            refine lv_isub hx hb d_F_init_149 ?_
            refine lv_imul hx hb d_F_init_150 ?_
            refine lv_topi (fun iv2 eiv2 => ?_)
            obtain rfl : iv2 = 936398815 := eiv2.trans (by decide)
            refine lv_istore_n (lv' := [(1, .int 936398815), (2, .int 1), (0, .ref h0)]) hx hb d_F_init_151 rfl hl (by decide) rfl (fun ls hl => ?_)
            refine lv_iinc (v := 2) (lv' := [(2, .int 2), (1, .int 936398815), (0, .ref h0)]) hx hb d_F_init_152 hl (k := 1) rfl (by decide) (by decide) rfl (fun ls hl => ?_)
            refine lv_goto (tgt := 134) hx hb d_F_init_155 (by decide) ?_
            refine lv_iload_n hx hb d_F_init_134 rfl (lv_at hl 0 rfl) ?_
            refine lv_iconst (v := 5) hx hb d_F_init_135 (by decide) ?_
            refine lv_icmp_ge (tgt := 158) hx hb d_F_init_136 (by decide) (fun c9 => ?_) (fun c9 => ?_)
            · exact absurd c9 (by decide)
            · refine lv_iload_n hx hb d_F_init_139 rfl (lv_at hl 1 rfl) ?_
              refine lv_iconst (v := 2) hx hb d_F_init_140 (by decide) ?_
              refine lv_aload_n hx hb d_F_init_141 rfl (lv_at hl 2 rfl) ?_
              refine va_get (D := D) (ci := 1) (v := .ref q1) (C := R_F) (T := F_F) (N := 7) hx hb hts i_F hown hK hP 0 rfl rfl 0 (by decide) (hts _ k_21) (fun _ h9 => h9) rfl d_F_init_142 ?_
              refine lv_iconst (v := 0) hx hb d_F_init_145 (by decide) ?_
              refine va_iald hx hb hK hP 1 0 rfl rfl (vp_in_nI (n := 0) (N := 8) (by decide) (by decide)) d_F_init_146 ?_
              refine W.eq (g2 := F0 m 147 ls [.int (-977), .int 2, .int 936398815]) rfl ?_
              refine lv_iload_n hx hb d_F_init_147 rfl (lv_at hl 1 rfl) ?_
              refine lv_imul hx hb d_F_init_148 ?_
              refine lv_isub hx hb d_F_init_149 ?_
              refine lv_imul hx hb d_F_init_150 ?_
              refine lv_topi (fun iv3 eiv3 => ?_)
              obtain rfl : iv3 = 1415199695 := eiv3.trans (by decide)
              refine lv_istore_n (lv' := [(1, .int 1415199695), (2, .int 2), (0, .ref h0)]) hx hb d_F_init_151 rfl hl (by decide) rfl (fun ls hl => ?_)
              refine lv_iinc (v := 3) (lv' := [(2, .int 3), (1, .int 1415199695), (0, .ref h0)]) hx hb d_F_init_152 hl (k := 1) rfl (by decide) (by decide) rfl (fun ls hl => ?_)
              refine lv_goto (tgt := 134) hx hb d_F_init_155 (by decide) ?_
              refine lv_iload_n hx hb d_F_init_134 rfl (lv_at hl 0 rfl) ?_
              refine lv_iconst (v := 5) hx hb d_F_init_135 (by decide) ?_
              refine lv_icmp_ge (tgt := 158) hx hb d_F_init_136 (by decide) (fun c9 => ?_) (fun c9 => ?_)
              · exact absurd c9 (by decide)
              · refine lv_iload_n hx hb d_F_init_139 rfl (lv_at hl 1 rfl) ?_
                refine lv_iconst (v := 2) hx hb d_F_init_140 (by decide) ?_
                refine lv_aload_n hx hb d_F_init_141 rfl (lv_at hl 2 rfl) ?_
                refine va_get (D := D) (ci := 1) (v := .ref q1) (C := R_F) (T := F_F) (N := 7) hx hb hts i_F hown hK hP 0 rfl rfl 0 (by decide) (hts _ k_21) (fun _ h9 => h9) rfl d_F_init_142 ?_
                refine lv_iconst (v := 0) hx hb d_F_init_145 (by decide) ?_
                refine va_iald hx hb hK hP 1 0 rfl rfl (vp_in_nI (n := 0) (N := 8) (by decide) (by decide)) d_F_init_146 ?_
                refine W.eq (g2 := F0 m 147 ls [.int (-977), .int 2, .int 1415199695]) rfl ?_
                refine lv_iload_n hx hb d_F_init_147 rfl (lv_at hl 1 rfl) ?_
                refine lv_imul hx hb d_F_init_148 ?_
                refine lv_isub hx hb d_F_init_149 ?_
                refine lv_imul hx hb d_F_init_150 ?_
                refine lv_topi (fun iv4 eiv4 => ?_)
                obtain rfl : iv4 = 126601935 := eiv4.trans (by decide)
                refine lv_istore_n (lv' := [(1, .int 126601935), (2, .int 3), (0, .ref h0)]) hx hb d_F_init_151 rfl hl (by decide) rfl (fun ls hl => ?_)
                refine lv_iinc (v := 4) (lv' := [(2, .int 4), (1, .int 126601935), (0, .ref h0)]) hx hb d_F_init_152 hl (k := 1) rfl (by decide) (by decide) rfl (fun ls hl => ?_)
                refine lv_goto (tgt := 134) hx hb d_F_init_155 (by decide) ?_
                refine lv_iload_n hx hb d_F_init_134 rfl (lv_at hl 0 rfl) ?_
                refine lv_iconst (v := 5) hx hb d_F_init_135 (by decide) ?_
                refine lv_icmp_ge (tgt := 158) hx hb d_F_init_136 (by decide) (fun c9 => ?_) (fun c9 => ?_)
                · exact absurd c9 (by decide)
                · refine lv_iload_n hx hb d_F_init_139 rfl (lv_at hl 1 rfl) ?_
                  refine lv_iconst (v := 2) hx hb d_F_init_140 (by decide) ?_
                  refine lv_aload_n hx hb d_F_init_141 rfl (lv_at hl 2 rfl) ?_
                  refine va_get (D := D) (ci := 1) (v := .ref q1) (C := R_F) (T := F_F) (N := 7) hx hb hts i_F hown hK hP 0 rfl rfl 0 (by decide) (hts _ k_21) (fun _ h9 => h9) rfl d_F_init_142 ?_
                  refine lv_iconst (v := 0) hx hb d_F_init_145 (by decide) ?_
                  refine va_iald hx hb hK hP 1 0 rfl rfl (vp_in_nI (n := 0) (N := 8) (by decide) (by decide)) d_F_init_146 ?_
                  refine W.eq (g2 := F0 m 147 ls [.int (-977), .int 2, .int 126601935]) rfl ?_
                  refine lv_iload_n hx hb d_F_init_147 rfl (lv_at hl 1 rfl) ?_
                  refine lv_imul hx hb d_F_init_148 ?_
                  refine lv_isub hx hb d_F_init_149 ?_
                  refine lv_imul hx hb d_F_init_150 ?_
                  refine lv_topi (fun iv5 eiv5 => ?_)
                  obtain rfl : iv5 = 769313487 := eiv5.trans (by decide)
                  refine lv_istore_n (lv' := [(1, .int 769313487), (2, .int 4), (0, .ref h0)]) hx hb d_F_init_151 rfl hl (by decide) rfl (fun ls hl => ?_)
                  refine lv_iinc (v := 5) (lv' := [(2, .int 5), (1, .int 769313487), (0, .ref h0)]) hx hb d_F_init_152 hl (k := 1) rfl (by decide) (by decide) rfl (fun ls hl => ?_)
                  refine lv_goto (tgt := 134) hx hb d_F_init_155 (by decide) ?_
                  refine lv_iload_n hx hb d_F_init_134 rfl (lv_at hl 0 rfl) ?_
                  refine lv_iconst (v := 5) hx hb d_F_init_135 (by decide) ?_
                  refine lv_icmp_ge (tgt := 158) hx hb d_F_init_136 (by decide) (fun c9 => ?_) (fun c9 => ?_)
                  · refine lv_aload_n hx hb d_F_init_158 rfl (lv_at hl 2 rfl) ?_
                    refine lv_iload_n hx hb d_F_init_159 rfl (lv_at hl 1 rfl) ?_
                    refine lv_ineg hx hb d_F_init_160 ?_
                    refine W.eq (g2 := F0 m 161 ls [.int (-769313487), .ref h0]) rfl ?_
                    refine va_putF (D := D) (ci := 1) (v := .int (-769313487)) (ty := .int) (C := R_F) (T := F_F) (N := 7) hx hb hts i_F t_F t_F_ok n_F hown hK hP hD hS 0 rfl rfl 6 (by decide) (hts _ k_28) (fun _ h9 => h9) rfl hin rfl (by decide +kernel) rfl rfl (Nat.le_of_ble_eq_true rfl) d_F_init_161 (fun H locs hP hD hS => ?_)
                    have hP : va_P D classes [(h0, .inr (1, [.ref q1, .ref q2, .ref q3, .ref q4, .ref q5, .ref q6, .int (-769313487)])), (q1, .inl (cI, 8, .inl (upd (upd f 0 (-977)) 1 (-2)))), (q2, .inl (cI, 8, .inl (upd (upd (upd (fun _ => 0) 0 954529) 1 1954) 2 1))), (q3, .inl (cI, 8, .inl (upd (upd (fun _ => 0) 0 977) 1 1))), (q4, .inl (cI, 10, .inl (fun _ => 0))), (q5, .inl (cI, 8, .inl (fun _ => 0))), (q6, .inl (cI, 8, .inl (fun _ => 0)))] H := hP
                    have hD : va_D A [(h0, .inr (1, [.ref q1, .ref q2, .ref q3, .ref q4, .ref q5, .ref q6, .int (-769313487)])), (q1, .inl (cI, 8, .inl (upd (upd f 0 (-977)) 1 (-2)))), (q2, .inl (cI, 8, .inl (upd (upd (upd (fun _ => 0) 0 954529) 1 1954) 2 1))), (q3, .inl (cI, 8, .inl (upd (upd (fun _ => 0) 0 977) 1 1))), (q4, .inl (cI, 10, .inl (fun _ => 0))), (q5, .inl (cI, 8, .inl (fun _ => 0))), (q6, .inl (cI, 8, .inl (fun _ => 0)))] := hD
                    have g1 : ∀ j, j < 8 → (upd (upd f 0 (-977)) 1 (-2)) j = pW j := fun j hj => by
                      unfold pW upd
                      by_cases h0 : j = 0
                      · subst h0; rfl
                      · by_cases h1 : j = 1
                        · subst h1; rfl
                        · rw [if_neg h1, if_neg h0, if_neg h0, if_neg h1]; exact hI j hj
                    have g2 : V8 (upd (upd (upd (fun _ => 0) 0 954529) 1 1954) 2 1) = BK := V8_of (by decide)
                    have g3 : V8 (upd (upd (fun _ => 0) 0 977) 1 1) = ON := V8_of (by decide)
                    have hP9 := hP
                    rw [hQ]
                    exact W.vret hx hb E.2.2.1 (fun t ht hW => ⟨⟨(), rfl, trivial, q1, q2, q3, q4, q5, q6, cI, (upd (upd f 0 (-977)) 1 (-2)), (upd (upd (upd (fun _ => 0) 0 954529) 1 1954) 2 1), (upd (upd (fun _ => 0) 0 977) 1 1), (fun _ => 0), (fun _ => 0), (fun _ => 0), by rw [ht]; exact hP, va_K.moved hW.alike hK, hD, g1, g2, g3⟩, hS.F ht⟩) hS.2.2 d_F_init_164 E.2.2.2.2.2.2
                  · exact absurd (by decide) c9
      · have c2 : i < 8 := Nat.not_le.mp (fun z => c1 ((nI_leI (a := 8) (b := i) (by decide) (by omega)).mpr z))
        refine lv_aload_n hx hb d_F_init_60 rfl (lv_at hl 1 rfl) ?_
        refine va_get (D := D) (ci := 1) (v := .ref q1) (C := R_F) (T := F_F) (N := 7) hx hb hts i_F hown hK hP 0 rfl rfl 0 (by decide) (hts _ k_21) (fun _ h9 => h9) rfl d_F_init_61 ?_
        refine lv_iload_n hx hb d_F_init_64 rfl (lv_at hl 0 rfl) ?_
        refine lv_iconst (v := (-1)) hx hb d_F_init_65 (by decide) ?_
        refine va_iast hx hb hK hP hD hS 1 0 rfl rfl (vp_in_nI c2 (by decide)) d_F_init_66 (fun H locs hP hD hS => ?_)
        rw [nI_clamp (by omega)] at hP hD
        have hP : va_P D classes [(h0, .inr (1, [.ref q1, .ref q2, .ref q3, .ref q4, .ref q5, .ref q6, .int 0])), (q1, .inl (cI, 8, .inl (upd f i (-1)))), (q2, .inl (cI, 8, .inl (fun _ => 0))), (q3, .inl (cI, 8, .inl (fun _ => 0))), (q4, .inl (cI, 10, .inl (fun _ => 0))), (q5, .inl (cI, 8, .inl (fun _ => 0))), (q6, .inl (cI, 8, .inl (fun _ => 0)))] H := hP
        have hD : va_D A [(h0, .inr (1, [.ref q1, .ref q2, .ref q3, .ref q4, .ref q5, .ref q6, .int 0])), (q1, .inl (cI, 8, .inl (upd f i (-1)))), (q2, .inl (cI, 8, .inl (fun _ => 0))), (q3, .inl (cI, 8, .inl (fun _ => 0))), (q4, .inl (cI, 10, .inl (fun _ => 0))), (q5, .inl (cI, 8, .inl (fun _ => 0))), (q6, .inl (cI, 8, .inl (fun _ => 0)))] := hD
        refine lv_iinc (v := (nI (i + 1))) (lv' := [(1, .int (nI (i + 1))), (0, .ref h0)]) hx hb d_F_init_67 hl (k := 0) rfl (nI_1 _) (by decide) rfl (fun ls hl => ?_)
        refine lv_goto (tgt := 54) hx hb d_F_init_70 (by decide) ?_
        refine ih (i + 1) _ H locs ls (by omega) (by omega) (fun j hj => ?_) hP hD hS (lv_sub hl [0, 1] rfl)
        unfold upd
        by_cases hji : j = i
        · rw [if_pos hji]
        · rw [if_neg hji]; exact hI j (by omega)
  refine lv_iconst (v := 0) hx hb d_F_init_52 (by decide) ?_
  refine lv_istore_n (lv' := [(1, .int 0), (0, .ref h0)]) hx hb d_F_init_53 rfl hl (by decide) rfl (fun ls hl => ?_)
  exact loop 9 0 (fun _ => 0) H locs ls (by omega) (by omega) (fun j hj => absurd hj (by omega)) hP hD hS (lv_sub hl [0, 1] rfl)
def atD (D : va_G) (A : Nat → Prop) (h0 : Nat) (t : State) : Prop := ∃ (q1 q2 q3 q4 q5 q6 q7 q8 q9 q10 q11 q12 : Nat) (cI : ClassId) (f : Nat → Int32), va_P D classes [(h0, .inr (2, [.ref q1, .ref q2, .ref q3, .ref q4, .ref q5, .ref q6, .ref q7, .ref q8, .ref q9, .ref q10, .ref q11, .ref q12])), (q1, .inl (cI, 64, .inl (fun _ => 0))), (q2, .inl (cI, 16, .inl (fun _ => 0))), (q3, .inl (cI, 16, .inl f)), (q4, .inl (cI, 16, .inl (fun _ => 0))), (q5, .inl (cI, 17, .inl (fun _ => 0))), (q6, .inl (cI, 16, .inl (fun _ => 0))), (q7, .inl (cI, 16, .inl (fun _ => 0))), (q8, .inl (cI, 16, .inl (fun _ => 0))), (q9, .inl (cI, 17, .inl (fun _ => 0))), (q10, .inl (cI, 17, .inl (fun _ => 0))), (q11, .inl (cI, 17, .inl (fun _ => 0))), (q12, .inl (cI, 17, .inl (fun _ => 0)))] t.heap ∧ va_K D classes [(cI, .int)] t ∧ va_D A [(h0, .inr (2, [.ref q1, .ref q2, .ref q3, .ref q4, .ref q5, .ref q6, .ref q7, .ref q8, .ref q9, .ref q10, .ref q11, .ref q12])), (q1, .inl (cI, 64, .inl (fun _ => 0))), (q2, .inl (cI, 16, .inl (fun _ => 0))), (q3, .inl (cI, 16, .inl f)), (q4, .inl (cI, 16, .inl (fun _ => 0))), (q5, .inl (cI, 17, .inl (fun _ => 0))), (q6, .inl (cI, 16, .inl (fun _ => 0))), (q7, .inl (cI, 16, .inl (fun _ => 0))), (q8, .inl (cI, 16, .inl (fun _ => 0))), (q9, .inl (cI, 17, .inl (fun _ => 0))), (q10, .inl (cI, 17, .inl (fun _ => 0))), (q11, .inl (cI, 17, .inl (fun _ => 0))), (q12, .inl (cI, 17, .inl (fun _ => 0)))] ∧ ∀ j, j < 16 → f j = qW j
set_option maxHeartbeats 4000000 in
set_option maxRecDepth 100000 in
theorem c_D_init (l : Launch) (D : va_G) (h0 sz : Nat) : Met l y_D_init (.code y_D_init b_D_init 1 none :: tb) ({ frames := 1, cells := 12, slots := 245, locals := 12 }) (va_Pc [.ref h0] (fun U => U.heap.size = sz ∧ va_P D classes [(h0, .inr (2, [.null, .null, .null, .null, .null, .null, .null, .null, .null, .null, .null, .null]))] U.heap ∧ va_K D classes [] U ∧ va_D (fun _ => True) [(h0, .inr (2, [.null, .null, .null, .null, .null, .null, .null, .null, .null, .null, .null, .null]))])) (va_Qv (fun _ : Unit => True) (fun _ t => atD D (va_A [(h0, .inr (2, [.null, .null, .null, .null, .null, .null, .null, .null, .null, .null, .null, .null]))] sz) h0 t) (va_A [(h0, .inr (2, [.null, .null, .null, .null, .null, .null, .null, .null, .null, .null, .null, .null]))] sz)) 12 245 (va_A [(h0, .inr (2, [.null, .null, .null, .null, .null, .null, .null, .null, .null, .null, .null, .null]))] sz) := by
  refine Mt.of [.ref h0] rfl (fun v U h => h.1) (Nat.le_of_ble_eq_true rfl) (fun p e s m args below meth c ls Q E hin hPc hQ hl => ?_)
  obtain ⟨-, hsz, hP, hK, hD0⟩ := hPc
  have hx := E.1
  have hb := E.2.1
  have hml := E.2.2.2.1
  have hown := E.2.2.2.2.1
  have hts := E.2.2.2.2.2.1
  subst hsz
  have hD := hD0.self (sz := s.heap.size)
  generalize hAe : va_A [(h0, .inr (2, [.null, .null, .null, .null, .null, .null, .null, .null, .null, .null, .null, .null]))] s.heap.size = A at hD hQ ⊢
  have hA : ∀ q : Nat, s.heap.size ≤ q → A q := fun q h => by rw [← hAe]; exact Or.inr h
  have hS : va_S A s.heap s.heap [] := va_S.rf
  obtain ⟨H, eH⟩ : ∃ H, H = s.heap := ⟨_, rfl⟩
  have hPs := hP
  have hS : va_S A s.heap H [] := by rw [eH]; exact hS
  have hP : va_P D classes [(h0, .inr (2, [.null, .null, .null, .null, .null, .null, .null, .null, .null, .null, .null, .null]))] H := by rw [eH]; exact hPs
  rw [← eH]
  have hl : lv_has ls 1 [(0, .ref h0)] := hl
  refine lv_aload_n hx hb d_D_init_0 rfl (lv_at hl 0 rfl) ?_
  refine W.objInit hx hb hown (hts _ k_179) (hts _ k_10) (hts _ k_11) rfl (by rw [hml]; exact hl.1) rfl d_D_init_1 (Nat.le_of_ble_eq_true rfl) (Nat.le_of_ble_eq_true rfl) ?_
  refine W.eq (g2 := F0 m 4 ls []) rfl ?_
  refine lv_aload_n hx hb d_D_init_4 rfl (lv_at hl 0 rfl) ?_
  refine lv_bipush (v := 64) hx hb d_D_init_5 (by decide) ?_
  refine va_newa (atype := .int) (ty := .int) (n := 64) (N' := 64) (a0 := (64, .inl (fun _ => 0))) hx hb (hts _ k_44) rfl hK hP hD hS hA (fun _ => rfl) (by decide) (by decide) (by decide) (Nat.le_of_ble_eq_true rfl) (Nat.le_of_ble_eq_true rfl) d_D_init_7 (fun q1 cI H hK hP hD hS => ?_)
  have hK : va_K D classes [(cI, .int)] s := hK.sub [0] rfl
  have hP : va_P D classes [(h0, .inr (2, [.null, .null, .null, .null, .null, .null, .null, .null, .null, .null, .null, .null])), (q1, .inl (cI, 64, .inl (fun _ => 0)))] H := hP
  have hD : va_D A [(h0, .inr (2, [.null, .null, .null, .null, .null, .null, .null, .null, .null, .null, .null, .null])), (q1, .inl (cI, 64, .inl (fun _ => 0)))] := hD
  refine W.widen (k := 1) (n := 64) (by decide) (by decide) ?_
  refine va_putF (D := D) (ci := 2) (v := .ref q1) (ty := .array .int) (C := R_D) (T := F_D) (N := 12) hx hb hts i_D t_D t_D_ok n_D hown hK hP hD hS 0 rfl rfl 0 (by decide) (hts _ k_183) (fun _ h9 => h9) rfl hin rfl (by decide +kernel) rfl rfl (Nat.le_of_ble_eq_true rfl) d_D_init_9 (fun H locs hP hD hS => ?_)
  have hP : va_P D classes [(h0, .inr (2, [.ref q1, .null, .null, .null, .null, .null, .null, .null, .null, .null, .null, .null])), (q1, .inl (cI, 64, .inl (fun _ => 0)))] H := hP
  have hD : va_D A [(h0, .inr (2, [.ref q1, .null, .null, .null, .null, .null, .null, .null, .null, .null, .null, .null])), (q1, .inl (cI, 64, .inl (fun _ => 0)))] := hD
  refine lv_aload_n hx hb d_D_init_12 rfl (lv_at hl 0 rfl) ?_
  refine lv_bipush (v := 16) hx hb d_D_init_13 (by decide) ?_
  refine va_newa (atype := .int) (ty := .int) (n := 16) (N' := 16) (a0 := (16, .inl (fun _ => 0))) hx hb (hts _ k_44) rfl hK hP hD hS hA (fun _ => rfl) (by decide) (by decide) (by decide) (Nat.le_of_ble_eq_true rfl) (Nat.le_of_ble_eq_true rfl) d_D_init_15 (fun q2 cZ H hK hP hD hS => ?_)
  obtain rfl := (va_one (i := 0) (j := 1) hK rfl rfl).symm
  have hK : va_K D classes [(cI, .int)] s := hK.sub [0] rfl
  have hP : va_P D classes [(h0, .inr (2, [.ref q1, .null, .null, .null, .null, .null, .null, .null, .null, .null, .null, .null])), (q1, .inl (cI, 64, .inl (fun _ => 0))), (q2, .inl (cI, 16, .inl (fun _ => 0)))] H := hP
  have hD : va_D A [(h0, .inr (2, [.ref q1, .null, .null, .null, .null, .null, .null, .null, .null, .null, .null, .null])), (q1, .inl (cI, 64, .inl (fun _ => 0))), (q2, .inl (cI, 16, .inl (fun _ => 0)))] := hD
  refine W.widen (k := 2) (n := 80) (by decide) (by decide) ?_
  refine va_putF (D := D) (ci := 2) (v := .ref q2) (ty := .array .int) (C := R_D) (T := F_D) (N := 12) hx hb hts i_D t_D t_D_ok n_D hown hK hP hD hS 0 rfl rfl 1 (by decide) (hts _ k_184) (fun _ h9 => h9) rfl hin rfl (by decide +kernel) rfl rfl (Nat.le_of_ble_eq_true rfl) d_D_init_17 (fun H locs hP hD hS => ?_)
  have hP : va_P D classes [(h0, .inr (2, [.ref q1, .ref q2, .null, .null, .null, .null, .null, .null, .null, .null, .null, .null])), (q1, .inl (cI, 64, .inl (fun _ => 0))), (q2, .inl (cI, 16, .inl (fun _ => 0)))] H := hP
  have hD : va_D A [(h0, .inr (2, [.ref q1, .ref q2, .null, .null, .null, .null, .null, .null, .null, .null, .null, .null])), (q1, .inl (cI, 64, .inl (fun _ => 0))), (q2, .inl (cI, 16, .inl (fun _ => 0)))] := hD
  refine lv_aload_n hx hb d_D_init_20 rfl (lv_at hl 0 rfl) ?_
  refine lv_bipush (v := 16) hx hb d_D_init_21 (by decide) ?_
  refine va_newa (atype := .int) (ty := .int) (n := 16) (N' := 16) (a0 := (16, .inl (fun _ => 0))) hx hb (hts _ k_44) rfl hK hP hD hS hA (fun _ => rfl) (by decide) (by decide) (by decide) (Nat.le_of_ble_eq_true rfl) (Nat.le_of_ble_eq_true rfl) d_D_init_23 (fun q3 cZ H hK hP hD hS => ?_)
  obtain rfl := (va_one (i := 0) (j := 1) hK rfl rfl).symm
  have hK : va_K D classes [(cI, .int)] s := hK.sub [0] rfl
  have hP : va_P D classes [(h0, .inr (2, [.ref q1, .ref q2, .null, .null, .null, .null, .null, .null, .null, .null, .null, .null])), (q1, .inl (cI, 64, .inl (fun _ => 0))), (q2, .inl (cI, 16, .inl (fun _ => 0))), (q3, .inl (cI, 16, .inl (fun _ => 0)))] H := hP
  have hD : va_D A [(h0, .inr (2, [.ref q1, .ref q2, .null, .null, .null, .null, .null, .null, .null, .null, .null, .null])), (q1, .inl (cI, 64, .inl (fun _ => 0))), (q2, .inl (cI, 16, .inl (fun _ => 0))), (q3, .inl (cI, 16, .inl (fun _ => 0)))] := hD
  refine W.widen (k := 3) (n := 96) (by decide) (by decide) ?_
  refine lv_dup hx hb d_D_init_25 rfl ?_
  refine lv_iconst (v := 0) hx hb d_D_init_26 (by decide) ?_
  refine lv_ldc hx hb hown (hts _ k_180) d_D_init_27 ?_
  refine va_iast hx hb hK hP hD hS 3 0 rfl rfl (vp_in_nI (n := 0) (N := 16) (by decide) (by decide)) d_D_init_29 (fun H locs hP hD hS => ?_)
  have hP : va_P D classes [(h0, .inr (2, [.ref q1, .ref q2, .null, .null, .null, .null, .null, .null, .null, .null, .null, .null])), (q1, .inl (cI, 64, .inl (fun _ => 0))), (q2, .inl (cI, 16, .inl (fun _ => 0))), (q3, .inl (cI, 16, .inl (upd (fun _ => 0) 0 64559)))] H := hP
  have hD : va_D A [(h0, .inr (2, [.ref q1, .ref q2, .null, .null, .null, .null, .null, .null, .null, .null, .null, .null])), (q1, .inl (cI, 64, .inl (fun _ => 0))), (q2, .inl (cI, 16, .inl (fun _ => 0))), (q3, .inl (cI, 16, .inl (upd (fun _ => 0) 0 64559)))] := hD
  refine lv_dup hx hb d_D_init_30 rfl ?_
  refine lv_iconst (v := 1) hx hb d_D_init_31 (by decide) ?_
  refine lv_ldc hx hb hown (hts _ k_181) d_D_init_32 ?_
  refine va_iast hx hb hK hP hD hS 3 0 rfl rfl (vp_in_nI (n := 1) (N := 16) (by decide) (by decide)) d_D_init_34 (fun H locs hP hD hS => ?_)
  have hP : va_P D classes [(h0, .inr (2, [.ref q1, .ref q2, .null, .null, .null, .null, .null, .null, .null, .null, .null, .null])), (q1, .inl (cI, 64, .inl (fun _ => 0))), (q2, .inl (cI, 16, .inl (fun _ => 0))), (q3, .inl (cI, 16, .inl (upd (upd (fun _ => 0) 0 64559) 1 65535)))] H := hP
  have hD : va_D A [(h0, .inr (2, [.ref q1, .ref q2, .null, .null, .null, .null, .null, .null, .null, .null, .null, .null])), (q1, .inl (cI, 64, .inl (fun _ => 0))), (q2, .inl (cI, 16, .inl (fun _ => 0))), (q3, .inl (cI, 16, .inl (upd (upd (fun _ => 0) 0 64559) 1 65535)))] := hD
  refine lv_dup hx hb d_D_init_35 rfl ?_
  refine lv_iconst (v := 2) hx hb d_D_init_36 (by decide) ?_
  refine lv_ldc hx hb hown (hts _ k_182) d_D_init_37 ?_
  refine va_iast hx hb hK hP hD hS 3 0 rfl rfl (vp_in_nI (n := 2) (N := 16) (by decide) (by decide)) d_D_init_39 (fun H locs hP hD hS => ?_)
  have hP : va_P D classes [(h0, .inr (2, [.ref q1, .ref q2, .null, .null, .null, .null, .null, .null, .null, .null, .null, .null])), (q1, .inl (cI, 64, .inl (fun _ => 0))), (q2, .inl (cI, 16, .inl (fun _ => 0))), (q3, .inl (cI, 16, .inl (upd (upd (upd (fun _ => 0) 0 64559) 1 65535) 2 65534)))] H := hP
  have hD : va_D A [(h0, .inr (2, [.ref q1, .ref q2, .null, .null, .null, .null, .null, .null, .null, .null, .null, .null])), (q1, .inl (cI, 64, .inl (fun _ => 0))), (q2, .inl (cI, 16, .inl (fun _ => 0))), (q3, .inl (cI, 16, .inl (upd (upd (upd (fun _ => 0) 0 64559) 1 65535) 2 65534)))] := hD
  refine lv_dup hx hb d_D_init_40 rfl ?_
  refine lv_iconst (v := 3) hx hb d_D_init_41 (by decide) ?_
  refine lv_ldc hx hb hown (hts _ k_181) d_D_init_42 ?_
  refine va_iast hx hb hK hP hD hS 3 0 rfl rfl (vp_in_nI (n := 3) (N := 16) (by decide) (by decide)) d_D_init_44 (fun H locs hP hD hS => ?_)
  have hP : va_P D classes [(h0, .inr (2, [.ref q1, .ref q2, .null, .null, .null, .null, .null, .null, .null, .null, .null, .null])), (q1, .inl (cI, 64, .inl (fun _ => 0))), (q2, .inl (cI, 16, .inl (fun _ => 0))), (q3, .inl (cI, 16, .inl (upd (upd (upd (upd (fun _ => 0) 0 64559) 1 65535) 2 65534) 3 65535)))] H := hP
  have hD : va_D A [(h0, .inr (2, [.ref q1, .ref q2, .null, .null, .null, .null, .null, .null, .null, .null, .null, .null])), (q1, .inl (cI, 64, .inl (fun _ => 0))), (q2, .inl (cI, 16, .inl (fun _ => 0))), (q3, .inl (cI, 16, .inl (upd (upd (upd (upd (fun _ => 0) 0 64559) 1 65535) 2 65534) 3 65535)))] := hD
  refine lv_dup hx hb d_D_init_45 rfl ?_
  refine lv_iconst (v := 4) hx hb d_D_init_46 (by decide) ?_
  refine lv_ldc hx hb hown (hts _ k_181) d_D_init_47 ?_
  refine va_iast hx hb hK hP hD hS 3 0 rfl rfl (vp_in_nI (n := 4) (N := 16) (by decide) (by decide)) d_D_init_49 (fun H locs hP hD hS => ?_)
  have hP : va_P D classes [(h0, .inr (2, [.ref q1, .ref q2, .null, .null, .null, .null, .null, .null, .null, .null, .null, .null])), (q1, .inl (cI, 64, .inl (fun _ => 0))), (q2, .inl (cI, 16, .inl (fun _ => 0))), (q3, .inl (cI, 16, .inl (upd (upd (upd (upd (upd (fun _ => 0) 0 64559) 1 65535) 2 65534) 3 65535) 4 65535)))] H := hP
  have hD : va_D A [(h0, .inr (2, [.ref q1, .ref q2, .null, .null, .null, .null, .null, .null, .null, .null, .null, .null])), (q1, .inl (cI, 64, .inl (fun _ => 0))), (q2, .inl (cI, 16, .inl (fun _ => 0))), (q3, .inl (cI, 16, .inl (upd (upd (upd (upd (upd (fun _ => 0) 0 64559) 1 65535) 2 65534) 3 65535) 4 65535)))] := hD
  refine lv_dup hx hb d_D_init_50 rfl ?_
  refine lv_iconst (v := 5) hx hb d_D_init_51 (by decide) ?_
  refine lv_ldc hx hb hown (hts _ k_181) d_D_init_52 ?_
  refine va_iast hx hb hK hP hD hS 3 0 rfl rfl (vp_in_nI (n := 5) (N := 16) (by decide) (by decide)) d_D_init_54 (fun H locs hP hD hS => ?_)
  have hP : va_P D classes [(h0, .inr (2, [.ref q1, .ref q2, .null, .null, .null, .null, .null, .null, .null, .null, .null, .null])), (q1, .inl (cI, 64, .inl (fun _ => 0))), (q2, .inl (cI, 16, .inl (fun _ => 0))), (q3, .inl (cI, 16, .inl (upd (upd (upd (upd (upd (upd (fun _ => 0) 0 64559) 1 65535) 2 65534) 3 65535) 4 65535) 5 65535)))] H := hP
  have hD : va_D A [(h0, .inr (2, [.ref q1, .ref q2, .null, .null, .null, .null, .null, .null, .null, .null, .null, .null])), (q1, .inl (cI, 64, .inl (fun _ => 0))), (q2, .inl (cI, 16, .inl (fun _ => 0))), (q3, .inl (cI, 16, .inl (upd (upd (upd (upd (upd (upd (fun _ => 0) 0 64559) 1 65535) 2 65534) 3 65535) 4 65535) 5 65535)))] := hD
  refine lv_dup hx hb d_D_init_55 rfl ?_
  refine lv_bipush (v := 6) hx hb d_D_init_56 (by decide) ?_
  refine lv_ldc hx hb hown (hts _ k_181) d_D_init_58 ?_
  refine va_iast hx hb hK hP hD hS 3 0 rfl rfl (vp_in_nI (n := 6) (N := 16) (by decide) (by decide)) d_D_init_60 (fun H locs hP hD hS => ?_)
  have hP : va_P D classes [(h0, .inr (2, [.ref q1, .ref q2, .null, .null, .null, .null, .null, .null, .null, .null, .null, .null])), (q1, .inl (cI, 64, .inl (fun _ => 0))), (q2, .inl (cI, 16, .inl (fun _ => 0))), (q3, .inl (cI, 16, .inl (upd (upd (upd (upd (upd (upd (upd (fun _ => 0) 0 64559) 1 65535) 2 65534) 3 65535) 4 65535) 5 65535) 6 65535)))] H := hP
  have hD : va_D A [(h0, .inr (2, [.ref q1, .ref q2, .null, .null, .null, .null, .null, .null, .null, .null, .null, .null])), (q1, .inl (cI, 64, .inl (fun _ => 0))), (q2, .inl (cI, 16, .inl (fun _ => 0))), (q3, .inl (cI, 16, .inl (upd (upd (upd (upd (upd (upd (upd (fun _ => 0) 0 64559) 1 65535) 2 65534) 3 65535) 4 65535) 5 65535) 6 65535)))] := hD
  refine lv_dup hx hb d_D_init_61 rfl ?_
  refine lv_bipush (v := 7) hx hb d_D_init_62 (by decide) ?_
  refine lv_ldc hx hb hown (hts _ k_181) d_D_init_64 ?_
  refine va_iast hx hb hK hP hD hS 3 0 rfl rfl (vp_in_nI (n := 7) (N := 16) (by decide) (by decide)) d_D_init_66 (fun H locs hP hD hS => ?_)
  have hP : va_P D classes [(h0, .inr (2, [.ref q1, .ref q2, .null, .null, .null, .null, .null, .null, .null, .null, .null, .null])), (q1, .inl (cI, 64, .inl (fun _ => 0))), (q2, .inl (cI, 16, .inl (fun _ => 0))), (q3, .inl (cI, 16, .inl (upd (upd (upd (upd (upd (upd (upd (upd (fun _ => 0) 0 64559) 1 65535) 2 65534) 3 65535) 4 65535) 5 65535) 6 65535) 7 65535)))] H := hP
  have hD : va_D A [(h0, .inr (2, [.ref q1, .ref q2, .null, .null, .null, .null, .null, .null, .null, .null, .null, .null])), (q1, .inl (cI, 64, .inl (fun _ => 0))), (q2, .inl (cI, 16, .inl (fun _ => 0))), (q3, .inl (cI, 16, .inl (upd (upd (upd (upd (upd (upd (upd (upd (fun _ => 0) 0 64559) 1 65535) 2 65534) 3 65535) 4 65535) 5 65535) 6 65535) 7 65535)))] := hD
  refine lv_dup hx hb d_D_init_67 rfl ?_
  refine lv_bipush (v := 8) hx hb d_D_init_68 (by decide) ?_
  refine lv_ldc hx hb hown (hts _ k_181) d_D_init_70 ?_
  refine va_iast hx hb hK hP hD hS 3 0 rfl rfl (vp_in_nI (n := 8) (N := 16) (by decide) (by decide)) d_D_init_72 (fun H locs hP hD hS => ?_)
  have hP : va_P D classes [(h0, .inr (2, [.ref q1, .ref q2, .null, .null, .null, .null, .null, .null, .null, .null, .null, .null])), (q1, .inl (cI, 64, .inl (fun _ => 0))), (q2, .inl (cI, 16, .inl (fun _ => 0))), (q3, .inl (cI, 16, .inl (upd (upd (upd (upd (upd (upd (upd (upd (upd (fun _ => 0) 0 64559) 1 65535) 2 65534) 3 65535) 4 65535) 5 65535) 6 65535) 7 65535) 8 65535)))] H := hP
  have hD : va_D A [(h0, .inr (2, [.ref q1, .ref q2, .null, .null, .null, .null, .null, .null, .null, .null, .null, .null])), (q1, .inl (cI, 64, .inl (fun _ => 0))), (q2, .inl (cI, 16, .inl (fun _ => 0))), (q3, .inl (cI, 16, .inl (upd (upd (upd (upd (upd (upd (upd (upd (upd (fun _ => 0) 0 64559) 1 65535) 2 65534) 3 65535) 4 65535) 5 65535) 6 65535) 7 65535) 8 65535)))] := hD
  refine lv_dup hx hb d_D_init_73 rfl ?_
  refine lv_bipush (v := 9) hx hb d_D_init_74 (by decide) ?_
  refine lv_ldc hx hb hown (hts _ k_181) d_D_init_76 ?_
  refine va_iast hx hb hK hP hD hS 3 0 rfl rfl (vp_in_nI (n := 9) (N := 16) (by decide) (by decide)) d_D_init_78 (fun H locs hP hD hS => ?_)
  have hP : va_P D classes [(h0, .inr (2, [.ref q1, .ref q2, .null, .null, .null, .null, .null, .null, .null, .null, .null, .null])), (q1, .inl (cI, 64, .inl (fun _ => 0))), (q2, .inl (cI, 16, .inl (fun _ => 0))), (q3, .inl (cI, 16, .inl (upd (upd (upd (upd (upd (upd (upd (upd (upd (upd (fun _ => 0) 0 64559) 1 65535) 2 65534) 3 65535) 4 65535) 5 65535) 6 65535) 7 65535) 8 65535) 9 65535)))] H := hP
  have hD : va_D A [(h0, .inr (2, [.ref q1, .ref q2, .null, .null, .null, .null, .null, .null, .null, .null, .null, .null])), (q1, .inl (cI, 64, .inl (fun _ => 0))), (q2, .inl (cI, 16, .inl (fun _ => 0))), (q3, .inl (cI, 16, .inl (upd (upd (upd (upd (upd (upd (upd (upd (upd (upd (fun _ => 0) 0 64559) 1 65535) 2 65534) 3 65535) 4 65535) 5 65535) 6 65535) 7 65535) 8 65535) 9 65535)))] := hD
  refine lv_dup hx hb d_D_init_79 rfl ?_
  refine lv_bipush (v := 10) hx hb d_D_init_80 (by decide) ?_
  refine lv_ldc hx hb hown (hts _ k_181) d_D_init_82 ?_
  refine va_iast hx hb hK hP hD hS 3 0 rfl rfl (vp_in_nI (n := 10) (N := 16) (by decide) (by decide)) d_D_init_84 (fun H locs hP hD hS => ?_)
  have hP : va_P D classes [(h0, .inr (2, [.ref q1, .ref q2, .null, .null, .null, .null, .null, .null, .null, .null, .null, .null])), (q1, .inl (cI, 64, .inl (fun _ => 0))), (q2, .inl (cI, 16, .inl (fun _ => 0))), (q3, .inl (cI, 16, .inl (upd (upd (upd (upd (upd (upd (upd (upd (upd (upd (upd (fun _ => 0) 0 64559) 1 65535) 2 65534) 3 65535) 4 65535) 5 65535) 6 65535) 7 65535) 8 65535) 9 65535) 10 65535)))] H := hP
  have hD : va_D A [(h0, .inr (2, [.ref q1, .ref q2, .null, .null, .null, .null, .null, .null, .null, .null, .null, .null])), (q1, .inl (cI, 64, .inl (fun _ => 0))), (q2, .inl (cI, 16, .inl (fun _ => 0))), (q3, .inl (cI, 16, .inl (upd (upd (upd (upd (upd (upd (upd (upd (upd (upd (upd (fun _ => 0) 0 64559) 1 65535) 2 65534) 3 65535) 4 65535) 5 65535) 6 65535) 7 65535) 8 65535) 9 65535) 10 65535)))] := hD
  refine lv_dup hx hb d_D_init_85 rfl ?_
  refine lv_bipush (v := 11) hx hb d_D_init_86 (by decide) ?_
  refine lv_ldc hx hb hown (hts _ k_181) d_D_init_88 ?_
  refine va_iast hx hb hK hP hD hS 3 0 rfl rfl (vp_in_nI (n := 11) (N := 16) (by decide) (by decide)) d_D_init_90 (fun H locs hP hD hS => ?_)
  have hP : va_P D classes [(h0, .inr (2, [.ref q1, .ref q2, .null, .null, .null, .null, .null, .null, .null, .null, .null, .null])), (q1, .inl (cI, 64, .inl (fun _ => 0))), (q2, .inl (cI, 16, .inl (fun _ => 0))), (q3, .inl (cI, 16, .inl (upd (upd (upd (upd (upd (upd (upd (upd (upd (upd (upd (upd (fun _ => 0) 0 64559) 1 65535) 2 65534) 3 65535) 4 65535) 5 65535) 6 65535) 7 65535) 8 65535) 9 65535) 10 65535) 11 65535)))] H := hP
  have hD : va_D A [(h0, .inr (2, [.ref q1, .ref q2, .null, .null, .null, .null, .null, .null, .null, .null, .null, .null])), (q1, .inl (cI, 64, .inl (fun _ => 0))), (q2, .inl (cI, 16, .inl (fun _ => 0))), (q3, .inl (cI, 16, .inl (upd (upd (upd (upd (upd (upd (upd (upd (upd (upd (upd (upd (fun _ => 0) 0 64559) 1 65535) 2 65534) 3 65535) 4 65535) 5 65535) 6 65535) 7 65535) 8 65535) 9 65535) 10 65535) 11 65535)))] := hD
  refine lv_dup hx hb d_D_init_91 rfl ?_
  refine lv_bipush (v := 12) hx hb d_D_init_92 (by decide) ?_
  refine lv_ldc hx hb hown (hts _ k_181) d_D_init_94 ?_
  refine va_iast hx hb hK hP hD hS 3 0 rfl rfl (vp_in_nI (n := 12) (N := 16) (by decide) (by decide)) d_D_init_96 (fun H locs hP hD hS => ?_)
  have hP : va_P D classes [(h0, .inr (2, [.ref q1, .ref q2, .null, .null, .null, .null, .null, .null, .null, .null, .null, .null])), (q1, .inl (cI, 64, .inl (fun _ => 0))), (q2, .inl (cI, 16, .inl (fun _ => 0))), (q3, .inl (cI, 16, .inl (upd (upd (upd (upd (upd (upd (upd (upd (upd (upd (upd (upd (upd (fun _ => 0) 0 64559) 1 65535) 2 65534) 3 65535) 4 65535) 5 65535) 6 65535) 7 65535) 8 65535) 9 65535) 10 65535) 11 65535) 12 65535)))] H := hP
  have hD : va_D A [(h0, .inr (2, [.ref q1, .ref q2, .null, .null, .null, .null, .null, .null, .null, .null, .null, .null])), (q1, .inl (cI, 64, .inl (fun _ => 0))), (q2, .inl (cI, 16, .inl (fun _ => 0))), (q3, .inl (cI, 16, .inl (upd (upd (upd (upd (upd (upd (upd (upd (upd (upd (upd (upd (upd (fun _ => 0) 0 64559) 1 65535) 2 65534) 3 65535) 4 65535) 5 65535) 6 65535) 7 65535) 8 65535) 9 65535) 10 65535) 11 65535) 12 65535)))] := hD
  refine lv_dup hx hb d_D_init_97 rfl ?_
  refine lv_bipush (v := 13) hx hb d_D_init_98 (by decide) ?_
  refine lv_ldc hx hb hown (hts _ k_181) d_D_init_100 ?_
  refine va_iast hx hb hK hP hD hS 3 0 rfl rfl (vp_in_nI (n := 13) (N := 16) (by decide) (by decide)) d_D_init_102 (fun H locs hP hD hS => ?_)
  have hP : va_P D classes [(h0, .inr (2, [.ref q1, .ref q2, .null, .null, .null, .null, .null, .null, .null, .null, .null, .null])), (q1, .inl (cI, 64, .inl (fun _ => 0))), (q2, .inl (cI, 16, .inl (fun _ => 0))), (q3, .inl (cI, 16, .inl (upd (upd (upd (upd (upd (upd (upd (upd (upd (upd (upd (upd (upd (upd (fun _ => 0) 0 64559) 1 65535) 2 65534) 3 65535) 4 65535) 5 65535) 6 65535) 7 65535) 8 65535) 9 65535) 10 65535) 11 65535) 12 65535) 13 65535)))] H := hP
  have hD : va_D A [(h0, .inr (2, [.ref q1, .ref q2, .null, .null, .null, .null, .null, .null, .null, .null, .null, .null])), (q1, .inl (cI, 64, .inl (fun _ => 0))), (q2, .inl (cI, 16, .inl (fun _ => 0))), (q3, .inl (cI, 16, .inl (upd (upd (upd (upd (upd (upd (upd (upd (upd (upd (upd (upd (upd (upd (fun _ => 0) 0 64559) 1 65535) 2 65534) 3 65535) 4 65535) 5 65535) 6 65535) 7 65535) 8 65535) 9 65535) 10 65535) 11 65535) 12 65535) 13 65535)))] := hD
  refine lv_dup hx hb d_D_init_103 rfl ?_
  refine lv_bipush (v := 14) hx hb d_D_init_104 (by decide) ?_
  refine lv_ldc hx hb hown (hts _ k_181) d_D_init_106 ?_
  refine va_iast hx hb hK hP hD hS 3 0 rfl rfl (vp_in_nI (n := 14) (N := 16) (by decide) (by decide)) d_D_init_108 (fun H locs hP hD hS => ?_)
  have hP : va_P D classes [(h0, .inr (2, [.ref q1, .ref q2, .null, .null, .null, .null, .null, .null, .null, .null, .null, .null])), (q1, .inl (cI, 64, .inl (fun _ => 0))), (q2, .inl (cI, 16, .inl (fun _ => 0))), (q3, .inl (cI, 16, .inl (upd (upd (upd (upd (upd (upd (upd (upd (upd (upd (upd (upd (upd (upd (upd (fun _ => 0) 0 64559) 1 65535) 2 65534) 3 65535) 4 65535) 5 65535) 6 65535) 7 65535) 8 65535) 9 65535) 10 65535) 11 65535) 12 65535) 13 65535) 14 65535)))] H := hP
  have hD : va_D A [(h0, .inr (2, [.ref q1, .ref q2, .null, .null, .null, .null, .null, .null, .null, .null, .null, .null])), (q1, .inl (cI, 64, .inl (fun _ => 0))), (q2, .inl (cI, 16, .inl (fun _ => 0))), (q3, .inl (cI, 16, .inl (upd (upd (upd (upd (upd (upd (upd (upd (upd (upd (upd (upd (upd (upd (upd (fun _ => 0) 0 64559) 1 65535) 2 65534) 3 65535) 4 65535) 5 65535) 6 65535) 7 65535) 8 65535) 9 65535) 10 65535) 11 65535) 12 65535) 13 65535) 14 65535)))] := hD
  refine lv_dup hx hb d_D_init_109 rfl ?_
  refine lv_bipush (v := 15) hx hb d_D_init_110 (by decide) ?_
  refine lv_ldc hx hb hown (hts _ k_181) d_D_init_112 ?_
  refine va_iast hx hb hK hP hD hS 3 0 rfl rfl (vp_in_nI (n := 15) (N := 16) (by decide) (by decide)) d_D_init_114 (fun H locs hP hD hS => ?_)
  have hP : va_P D classes [(h0, .inr (2, [.ref q1, .ref q2, .null, .null, .null, .null, .null, .null, .null, .null, .null, .null])), (q1, .inl (cI, 64, .inl (fun _ => 0))), (q2, .inl (cI, 16, .inl (fun _ => 0))), (q3, .inl (cI, 16, .inl (upd (upd (upd (upd (upd (upd (upd (upd (upd (upd (upd (upd (upd (upd (upd (upd (fun _ => 0) 0 64559) 1 65535) 2 65534) 3 65535) 4 65535) 5 65535) 6 65535) 7 65535) 8 65535) 9 65535) 10 65535) 11 65535) 12 65535) 13 65535) 14 65535) 15 65535)))] H := hP
  have hD : va_D A [(h0, .inr (2, [.ref q1, .ref q2, .null, .null, .null, .null, .null, .null, .null, .null, .null, .null])), (q1, .inl (cI, 64, .inl (fun _ => 0))), (q2, .inl (cI, 16, .inl (fun _ => 0))), (q3, .inl (cI, 16, .inl (upd (upd (upd (upd (upd (upd (upd (upd (upd (upd (upd (upd (upd (upd (upd (upd (fun _ => 0) 0 64559) 1 65535) 2 65534) 3 65535) 4 65535) 5 65535) 6 65535) 7 65535) 8 65535) 9 65535) 10 65535) 11 65535) 12 65535) 13 65535) 14 65535) 15 65535)))] := hD
  refine va_putF (D := D) (ci := 2) (v := .ref q3) (ty := .array .int) (C := R_D) (T := F_D) (N := 12) hx hb hts i_D t_D t_D_ok n_D hown hK hP hD hS 0 rfl rfl 2 (by decide) (hts _ k_185) (fun _ h9 => h9) rfl hin rfl (by decide +kernel) rfl rfl (Nat.le_of_ble_eq_true rfl) d_D_init_115 (fun H locs hP hD hS => ?_)
  have hP : va_P D classes [(h0, .inr (2, [.ref q1, .ref q2, .ref q3, .null, .null, .null, .null, .null, .null, .null, .null, .null])), (q1, .inl (cI, 64, .inl (fun _ => 0))), (q2, .inl (cI, 16, .inl (fun _ => 0))), (q3, .inl (cI, 16, .inl (upd (upd (upd (upd (upd (upd (upd (upd (upd (upd (upd (upd (upd (upd (upd (upd (fun _ => 0) 0 64559) 1 65535) 2 65534) 3 65535) 4 65535) 5 65535) 6 65535) 7 65535) 8 65535) 9 65535) 10 65535) 11 65535) 12 65535) 13 65535) 14 65535) 15 65535)))] H := hP
  have hD : va_D A [(h0, .inr (2, [.ref q1, .ref q2, .ref q3, .null, .null, .null, .null, .null, .null, .null, .null, .null])), (q1, .inl (cI, 64, .inl (fun _ => 0))), (q2, .inl (cI, 16, .inl (fun _ => 0))), (q3, .inl (cI, 16, .inl (upd (upd (upd (upd (upd (upd (upd (upd (upd (upd (upd (upd (upd (upd (upd (upd (fun _ => 0) 0 64559) 1 65535) 2 65534) 3 65535) 4 65535) 5 65535) 6 65535) 7 65535) 8 65535) 9 65535) 10 65535) 11 65535) 12 65535) 13 65535) 14 65535) 15 65535)))] := hD
  refine lv_aload_n hx hb d_D_init_118 rfl (lv_at hl 0 rfl) ?_
  refine lv_bipush (v := 16) hx hb d_D_init_119 (by decide) ?_
  refine va_newa (atype := .int) (ty := .int) (n := 16) (N' := 16) (a0 := (16, .inl (fun _ => 0))) hx hb (hts _ k_44) rfl hK hP hD hS hA (fun _ => rfl) (by decide) (by decide) (by decide) (Nat.le_of_ble_eq_true rfl) (Nat.le_of_ble_eq_true rfl) d_D_init_121 (fun q4 cZ H hK hP hD hS => ?_)
  obtain rfl := (va_one (i := 0) (j := 1) hK rfl rfl).symm
  have hK : va_K D classes [(cI, .int)] s := hK.sub [0] rfl
  have hP : va_P D classes [(h0, .inr (2, [.ref q1, .ref q2, .ref q3, .null, .null, .null, .null, .null, .null, .null, .null, .null])), (q1, .inl (cI, 64, .inl (fun _ => 0))), (q2, .inl (cI, 16, .inl (fun _ => 0))), (q3, .inl (cI, 16, .inl (upd (upd (upd (upd (upd (upd (upd (upd (upd (upd (upd (upd (upd (upd (upd (upd (fun _ => 0) 0 64559) 1 65535) 2 65534) 3 65535) 4 65535) 5 65535) 6 65535) 7 65535) 8 65535) 9 65535) 10 65535) 11 65535) 12 65535) 13 65535) 14 65535) 15 65535))), (q4, .inl (cI, 16, .inl (fun _ => 0)))] H := hP
  have hD : va_D A [(h0, .inr (2, [.ref q1, .ref q2, .ref q3, .null, .null, .null, .null, .null, .null, .null, .null, .null])), (q1, .inl (cI, 64, .inl (fun _ => 0))), (q2, .inl (cI, 16, .inl (fun _ => 0))), (q3, .inl (cI, 16, .inl (upd (upd (upd (upd (upd (upd (upd (upd (upd (upd (upd (upd (upd (upd (upd (upd (fun _ => 0) 0 64559) 1 65535) 2 65534) 3 65535) 4 65535) 5 65535) 6 65535) 7 65535) 8 65535) 9 65535) 10 65535) 11 65535) 12 65535) 13 65535) 14 65535) 15 65535))), (q4, .inl (cI, 16, .inl (fun _ => 0)))] := hD
  refine W.widen (k := 4) (n := 112) (by decide) (by decide) ?_
  refine va_putF (D := D) (ci := 2) (v := .ref q4) (ty := .array .int) (C := R_D) (T := F_D) (N := 12) hx hb hts i_D t_D t_D_ok n_D hown hK hP hD hS 0 rfl rfl 3 (by decide) (hts _ k_186) (fun _ h9 => h9) rfl hin rfl (by decide +kernel) rfl rfl (Nat.le_of_ble_eq_true rfl) d_D_init_123 (fun H locs hP hD hS => ?_)
  have hP : va_P D classes [(h0, .inr (2, [.ref q1, .ref q2, .ref q3, .ref q4, .null, .null, .null, .null, .null, .null, .null, .null])), (q1, .inl (cI, 64, .inl (fun _ => 0))), (q2, .inl (cI, 16, .inl (fun _ => 0))), (q3, .inl (cI, 16, .inl (upd (upd (upd (upd (upd (upd (upd (upd (upd (upd (upd (upd (upd (upd (upd (upd (fun _ => 0) 0 64559) 1 65535) 2 65534) 3 65535) 4 65535) 5 65535) 6 65535) 7 65535) 8 65535) 9 65535) 10 65535) 11 65535) 12 65535) 13 65535) 14 65535) 15 65535))), (q4, .inl (cI, 16, .inl (fun _ => 0)))] H := hP
  have hD : va_D A [(h0, .inr (2, [.ref q1, .ref q2, .ref q3, .ref q4, .null, .null, .null, .null, .null, .null, .null, .null])), (q1, .inl (cI, 64, .inl (fun _ => 0))), (q2, .inl (cI, 16, .inl (fun _ => 0))), (q3, .inl (cI, 16, .inl (upd (upd (upd (upd (upd (upd (upd (upd (upd (upd (upd (upd (upd (upd (upd (upd (fun _ => 0) 0 64559) 1 65535) 2 65534) 3 65535) 4 65535) 5 65535) 6 65535) 7 65535) 8 65535) 9 65535) 10 65535) 11 65535) 12 65535) 13 65535) 14 65535) 15 65535))), (q4, .inl (cI, 16, .inl (fun _ => 0)))] := hD
  refine lv_aload_n hx hb d_D_init_126 rfl (lv_at hl 0 rfl) ?_
  refine lv_bipush (v := 17) hx hb d_D_init_127 (by decide) ?_
  refine va_newa (atype := .int) (ty := .int) (n := 17) (N' := 17) (a0 := (17, .inl (fun _ => 0))) hx hb (hts _ k_44) rfl hK hP hD hS hA (fun _ => rfl) (by decide) (by decide) (by decide) (Nat.le_of_ble_eq_true rfl) (Nat.le_of_ble_eq_true rfl) d_D_init_129 (fun q5 cZ H hK hP hD hS => ?_)
  obtain rfl := (va_one (i := 0) (j := 1) hK rfl rfl).symm
  have hK : va_K D classes [(cI, .int)] s := hK.sub [0] rfl
  have hP : va_P D classes [(h0, .inr (2, [.ref q1, .ref q2, .ref q3, .ref q4, .null, .null, .null, .null, .null, .null, .null, .null])), (q1, .inl (cI, 64, .inl (fun _ => 0))), (q2, .inl (cI, 16, .inl (fun _ => 0))), (q3, .inl (cI, 16, .inl (upd (upd (upd (upd (upd (upd (upd (upd (upd (upd (upd (upd (upd (upd (upd (upd (fun _ => 0) 0 64559) 1 65535) 2 65534) 3 65535) 4 65535) 5 65535) 6 65535) 7 65535) 8 65535) 9 65535) 10 65535) 11 65535) 12 65535) 13 65535) 14 65535) 15 65535))), (q4, .inl (cI, 16, .inl (fun _ => 0))), (q5, .inl (cI, 17, .inl (fun _ => 0)))] H := hP
  have hD : va_D A [(h0, .inr (2, [.ref q1, .ref q2, .ref q3, .ref q4, .null, .null, .null, .null, .null, .null, .null, .null])), (q1, .inl (cI, 64, .inl (fun _ => 0))), (q2, .inl (cI, 16, .inl (fun _ => 0))), (q3, .inl (cI, 16, .inl (upd (upd (upd (upd (upd (upd (upd (upd (upd (upd (upd (upd (upd (upd (upd (upd (fun _ => 0) 0 64559) 1 65535) 2 65534) 3 65535) 4 65535) 5 65535) 6 65535) 7 65535) 8 65535) 9 65535) 10 65535) 11 65535) 12 65535) 13 65535) 14 65535) 15 65535))), (q4, .inl (cI, 16, .inl (fun _ => 0))), (q5, .inl (cI, 17, .inl (fun _ => 0)))] := hD
  refine W.widen (k := 5) (n := 129) (by decide) (by decide) ?_
  refine va_putF (D := D) (ci := 2) (v := .ref q5) (ty := .array .int) (C := R_D) (T := F_D) (N := 12) hx hb hts i_D t_D t_D_ok n_D hown hK hP hD hS 0 rfl rfl 4 (by decide) (hts _ k_187) (fun _ h9 => h9) rfl hin rfl (by decide +kernel) rfl rfl (Nat.le_of_ble_eq_true rfl) d_D_init_131 (fun H locs hP hD hS => ?_)
  have hP : va_P D classes [(h0, .inr (2, [.ref q1, .ref q2, .ref q3, .ref q4, .ref q5, .null, .null, .null, .null, .null, .null, .null])), (q1, .inl (cI, 64, .inl (fun _ => 0))), (q2, .inl (cI, 16, .inl (fun _ => 0))), (q3, .inl (cI, 16, .inl (upd (upd (upd (upd (upd (upd (upd (upd (upd (upd (upd (upd (upd (upd (upd (upd (fun _ => 0) 0 64559) 1 65535) 2 65534) 3 65535) 4 65535) 5 65535) 6 65535) 7 65535) 8 65535) 9 65535) 10 65535) 11 65535) 12 65535) 13 65535) 14 65535) 15 65535))), (q4, .inl (cI, 16, .inl (fun _ => 0))), (q5, .inl (cI, 17, .inl (fun _ => 0)))] H := hP
  have hD : va_D A [(h0, .inr (2, [.ref q1, .ref q2, .ref q3, .ref q4, .ref q5, .null, .null, .null, .null, .null, .null, .null])), (q1, .inl (cI, 64, .inl (fun _ => 0))), (q2, .inl (cI, 16, .inl (fun _ => 0))), (q3, .inl (cI, 16, .inl (upd (upd (upd (upd (upd (upd (upd (upd (upd (upd (upd (upd (upd (upd (upd (upd (fun _ => 0) 0 64559) 1 65535) 2 65534) 3 65535) 4 65535) 5 65535) 6 65535) 7 65535) 8 65535) 9 65535) 10 65535) 11 65535) 12 65535) 13 65535) 14 65535) 15 65535))), (q4, .inl (cI, 16, .inl (fun _ => 0))), (q5, .inl (cI, 17, .inl (fun _ => 0)))] := hD
  refine lv_aload_n hx hb d_D_init_134 rfl (lv_at hl 0 rfl) ?_
  refine lv_bipush (v := 16) hx hb d_D_init_135 (by decide) ?_
  refine va_newa (atype := .int) (ty := .int) (n := 16) (N' := 16) (a0 := (16, .inl (fun _ => 0))) hx hb (hts _ k_44) rfl hK hP hD hS hA (fun _ => rfl) (by decide) (by decide) (by decide) (Nat.le_of_ble_eq_true rfl) (Nat.le_of_ble_eq_true rfl) d_D_init_137 (fun q6 cZ H hK hP hD hS => ?_)
  obtain rfl := (va_one (i := 0) (j := 1) hK rfl rfl).symm
  have hK : va_K D classes [(cI, .int)] s := hK.sub [0] rfl
  have hP : va_P D classes [(h0, .inr (2, [.ref q1, .ref q2, .ref q3, .ref q4, .ref q5, .null, .null, .null, .null, .null, .null, .null])), (q1, .inl (cI, 64, .inl (fun _ => 0))), (q2, .inl (cI, 16, .inl (fun _ => 0))), (q3, .inl (cI, 16, .inl (upd (upd (upd (upd (upd (upd (upd (upd (upd (upd (upd (upd (upd (upd (upd (upd (fun _ => 0) 0 64559) 1 65535) 2 65534) 3 65535) 4 65535) 5 65535) 6 65535) 7 65535) 8 65535) 9 65535) 10 65535) 11 65535) 12 65535) 13 65535) 14 65535) 15 65535))), (q4, .inl (cI, 16, .inl (fun _ => 0))), (q5, .inl (cI, 17, .inl (fun _ => 0))), (q6, .inl (cI, 16, .inl (fun _ => 0)))] H := hP
  have hD : va_D A [(h0, .inr (2, [.ref q1, .ref q2, .ref q3, .ref q4, .ref q5, .null, .null, .null, .null, .null, .null, .null])), (q1, .inl (cI, 64, .inl (fun _ => 0))), (q2, .inl (cI, 16, .inl (fun _ => 0))), (q3, .inl (cI, 16, .inl (upd (upd (upd (upd (upd (upd (upd (upd (upd (upd (upd (upd (upd (upd (upd (upd (fun _ => 0) 0 64559) 1 65535) 2 65534) 3 65535) 4 65535) 5 65535) 6 65535) 7 65535) 8 65535) 9 65535) 10 65535) 11 65535) 12 65535) 13 65535) 14 65535) 15 65535))), (q4, .inl (cI, 16, .inl (fun _ => 0))), (q5, .inl (cI, 17, .inl (fun _ => 0))), (q6, .inl (cI, 16, .inl (fun _ => 0)))] := hD
  refine W.widen (k := 6) (n := 145) (by decide) (by decide) ?_
  refine va_putF (D := D) (ci := 2) (v := .ref q6) (ty := .array .int) (C := R_D) (T := F_D) (N := 12) hx hb hts i_D t_D t_D_ok n_D hown hK hP hD hS 0 rfl rfl 5 (by decide) (hts _ k_188) (fun _ h9 => h9) rfl hin rfl (by decide +kernel) rfl rfl (Nat.le_of_ble_eq_true rfl) d_D_init_139 (fun H locs hP hD hS => ?_)
  have hP : va_P D classes [(h0, .inr (2, [.ref q1, .ref q2, .ref q3, .ref q4, .ref q5, .ref q6, .null, .null, .null, .null, .null, .null])), (q1, .inl (cI, 64, .inl (fun _ => 0))), (q2, .inl (cI, 16, .inl (fun _ => 0))), (q3, .inl (cI, 16, .inl (upd (upd (upd (upd (upd (upd (upd (upd (upd (upd (upd (upd (upd (upd (upd (upd (fun _ => 0) 0 64559) 1 65535) 2 65534) 3 65535) 4 65535) 5 65535) 6 65535) 7 65535) 8 65535) 9 65535) 10 65535) 11 65535) 12 65535) 13 65535) 14 65535) 15 65535))), (q4, .inl (cI, 16, .inl (fun _ => 0))), (q5, .inl (cI, 17, .inl (fun _ => 0))), (q6, .inl (cI, 16, .inl (fun _ => 0)))] H := hP
  have hD : va_D A [(h0, .inr (2, [.ref q1, .ref q2, .ref q3, .ref q4, .ref q5, .ref q6, .null, .null, .null, .null, .null, .null])), (q1, .inl (cI, 64, .inl (fun _ => 0))), (q2, .inl (cI, 16, .inl (fun _ => 0))), (q3, .inl (cI, 16, .inl (upd (upd (upd (upd (upd (upd (upd (upd (upd (upd (upd (upd (upd (upd (upd (upd (fun _ => 0) 0 64559) 1 65535) 2 65534) 3 65535) 4 65535) 5 65535) 6 65535) 7 65535) 8 65535) 9 65535) 10 65535) 11 65535) 12 65535) 13 65535) 14 65535) 15 65535))), (q4, .inl (cI, 16, .inl (fun _ => 0))), (q5, .inl (cI, 17, .inl (fun _ => 0))), (q6, .inl (cI, 16, .inl (fun _ => 0)))] := hD
  refine lv_aload_n hx hb d_D_init_142 rfl (lv_at hl 0 rfl) ?_
  refine lv_bipush (v := 16) hx hb d_D_init_143 (by decide) ?_
  refine va_newa (atype := .int) (ty := .int) (n := 16) (N' := 16) (a0 := (16, .inl (fun _ => 0))) hx hb (hts _ k_44) rfl hK hP hD hS hA (fun _ => rfl) (by decide) (by decide) (by decide) (Nat.le_of_ble_eq_true rfl) (Nat.le_of_ble_eq_true rfl) d_D_init_145 (fun q7 cZ H hK hP hD hS => ?_)
  obtain rfl := (va_one (i := 0) (j := 1) hK rfl rfl).symm
  have hK : va_K D classes [(cI, .int)] s := hK.sub [0] rfl
  have hP : va_P D classes [(h0, .inr (2, [.ref q1, .ref q2, .ref q3, .ref q4, .ref q5, .ref q6, .null, .null, .null, .null, .null, .null])), (q1, .inl (cI, 64, .inl (fun _ => 0))), (q2, .inl (cI, 16, .inl (fun _ => 0))), (q3, .inl (cI, 16, .inl (upd (upd (upd (upd (upd (upd (upd (upd (upd (upd (upd (upd (upd (upd (upd (upd (fun _ => 0) 0 64559) 1 65535) 2 65534) 3 65535) 4 65535) 5 65535) 6 65535) 7 65535) 8 65535) 9 65535) 10 65535) 11 65535) 12 65535) 13 65535) 14 65535) 15 65535))), (q4, .inl (cI, 16, .inl (fun _ => 0))), (q5, .inl (cI, 17, .inl (fun _ => 0))), (q6, .inl (cI, 16, .inl (fun _ => 0))), (q7, .inl (cI, 16, .inl (fun _ => 0)))] H := hP
  have hD : va_D A [(h0, .inr (2, [.ref q1, .ref q2, .ref q3, .ref q4, .ref q5, .ref q6, .null, .null, .null, .null, .null, .null])), (q1, .inl (cI, 64, .inl (fun _ => 0))), (q2, .inl (cI, 16, .inl (fun _ => 0))), (q3, .inl (cI, 16, .inl (upd (upd (upd (upd (upd (upd (upd (upd (upd (upd (upd (upd (upd (upd (upd (upd (fun _ => 0) 0 64559) 1 65535) 2 65534) 3 65535) 4 65535) 5 65535) 6 65535) 7 65535) 8 65535) 9 65535) 10 65535) 11 65535) 12 65535) 13 65535) 14 65535) 15 65535))), (q4, .inl (cI, 16, .inl (fun _ => 0))), (q5, .inl (cI, 17, .inl (fun _ => 0))), (q6, .inl (cI, 16, .inl (fun _ => 0))), (q7, .inl (cI, 16, .inl (fun _ => 0)))] := hD
  refine W.widen (k := 7) (n := 161) (by decide) (by decide) ?_
  refine va_putF (D := D) (ci := 2) (v := .ref q7) (ty := .array .int) (C := R_D) (T := F_D) (N := 12) hx hb hts i_D t_D t_D_ok n_D hown hK hP hD hS 0 rfl rfl 6 (by decide) (hts _ k_189) (fun _ h9 => h9) rfl hin rfl (by decide +kernel) rfl rfl (Nat.le_of_ble_eq_true rfl) d_D_init_147 (fun H locs hP hD hS => ?_)
  have hP : va_P D classes [(h0, .inr (2, [.ref q1, .ref q2, .ref q3, .ref q4, .ref q5, .ref q6, .ref q7, .null, .null, .null, .null, .null])), (q1, .inl (cI, 64, .inl (fun _ => 0))), (q2, .inl (cI, 16, .inl (fun _ => 0))), (q3, .inl (cI, 16, .inl (upd (upd (upd (upd (upd (upd (upd (upd (upd (upd (upd (upd (upd (upd (upd (upd (fun _ => 0) 0 64559) 1 65535) 2 65534) 3 65535) 4 65535) 5 65535) 6 65535) 7 65535) 8 65535) 9 65535) 10 65535) 11 65535) 12 65535) 13 65535) 14 65535) 15 65535))), (q4, .inl (cI, 16, .inl (fun _ => 0))), (q5, .inl (cI, 17, .inl (fun _ => 0))), (q6, .inl (cI, 16, .inl (fun _ => 0))), (q7, .inl (cI, 16, .inl (fun _ => 0)))] H := hP
  have hD : va_D A [(h0, .inr (2, [.ref q1, .ref q2, .ref q3, .ref q4, .ref q5, .ref q6, .ref q7, .null, .null, .null, .null, .null])), (q1, .inl (cI, 64, .inl (fun _ => 0))), (q2, .inl (cI, 16, .inl (fun _ => 0))), (q3, .inl (cI, 16, .inl (upd (upd (upd (upd (upd (upd (upd (upd (upd (upd (upd (upd (upd (upd (upd (upd (fun _ => 0) 0 64559) 1 65535) 2 65534) 3 65535) 4 65535) 5 65535) 6 65535) 7 65535) 8 65535) 9 65535) 10 65535) 11 65535) 12 65535) 13 65535) 14 65535) 15 65535))), (q4, .inl (cI, 16, .inl (fun _ => 0))), (q5, .inl (cI, 17, .inl (fun _ => 0))), (q6, .inl (cI, 16, .inl (fun _ => 0))), (q7, .inl (cI, 16, .inl (fun _ => 0)))] := hD
  refine lv_aload_n hx hb d_D_init_150 rfl (lv_at hl 0 rfl) ?_
  refine lv_bipush (v := 16) hx hb d_D_init_151 (by decide) ?_
  refine va_newa (atype := .int) (ty := .int) (n := 16) (N' := 16) (a0 := (16, .inl (fun _ => 0))) hx hb (hts _ k_44) rfl hK hP hD hS hA (fun _ => rfl) (by decide) (by decide) (by decide) (Nat.le_of_ble_eq_true rfl) (Nat.le_of_ble_eq_true rfl) d_D_init_153 (fun q8 cZ H hK hP hD hS => ?_)
  obtain rfl := (va_one (i := 0) (j := 1) hK rfl rfl).symm
  have hK : va_K D classes [(cI, .int)] s := hK.sub [0] rfl
  have hP : va_P D classes [(h0, .inr (2, [.ref q1, .ref q2, .ref q3, .ref q4, .ref q5, .ref q6, .ref q7, .null, .null, .null, .null, .null])), (q1, .inl (cI, 64, .inl (fun _ => 0))), (q2, .inl (cI, 16, .inl (fun _ => 0))), (q3, .inl (cI, 16, .inl (upd (upd (upd (upd (upd (upd (upd (upd (upd (upd (upd (upd (upd (upd (upd (upd (fun _ => 0) 0 64559) 1 65535) 2 65534) 3 65535) 4 65535) 5 65535) 6 65535) 7 65535) 8 65535) 9 65535) 10 65535) 11 65535) 12 65535) 13 65535) 14 65535) 15 65535))), (q4, .inl (cI, 16, .inl (fun _ => 0))), (q5, .inl (cI, 17, .inl (fun _ => 0))), (q6, .inl (cI, 16, .inl (fun _ => 0))), (q7, .inl (cI, 16, .inl (fun _ => 0))), (q8, .inl (cI, 16, .inl (fun _ => 0)))] H := hP
  have hD : va_D A [(h0, .inr (2, [.ref q1, .ref q2, .ref q3, .ref q4, .ref q5, .ref q6, .ref q7, .null, .null, .null, .null, .null])), (q1, .inl (cI, 64, .inl (fun _ => 0))), (q2, .inl (cI, 16, .inl (fun _ => 0))), (q3, .inl (cI, 16, .inl (upd (upd (upd (upd (upd (upd (upd (upd (upd (upd (upd (upd (upd (upd (upd (upd (fun _ => 0) 0 64559) 1 65535) 2 65534) 3 65535) 4 65535) 5 65535) 6 65535) 7 65535) 8 65535) 9 65535) 10 65535) 11 65535) 12 65535) 13 65535) 14 65535) 15 65535))), (q4, .inl (cI, 16, .inl (fun _ => 0))), (q5, .inl (cI, 17, .inl (fun _ => 0))), (q6, .inl (cI, 16, .inl (fun _ => 0))), (q7, .inl (cI, 16, .inl (fun _ => 0))), (q8, .inl (cI, 16, .inl (fun _ => 0)))] := hD
  refine W.widen (k := 8) (n := 177) (by decide) (by decide) ?_
  refine va_putF (D := D) (ci := 2) (v := .ref q8) (ty := .array .int) (C := R_D) (T := F_D) (N := 12) hx hb hts i_D t_D t_D_ok n_D hown hK hP hD hS 0 rfl rfl 7 (by decide) (hts _ k_190) (fun _ h9 => h9) rfl hin rfl (by decide +kernel) rfl rfl (Nat.le_of_ble_eq_true rfl) d_D_init_155 (fun H locs hP hD hS => ?_)
  have hP : va_P D classes [(h0, .inr (2, [.ref q1, .ref q2, .ref q3, .ref q4, .ref q5, .ref q6, .ref q7, .ref q8, .null, .null, .null, .null])), (q1, .inl (cI, 64, .inl (fun _ => 0))), (q2, .inl (cI, 16, .inl (fun _ => 0))), (q3, .inl (cI, 16, .inl (upd (upd (upd (upd (upd (upd (upd (upd (upd (upd (upd (upd (upd (upd (upd (upd (fun _ => 0) 0 64559) 1 65535) 2 65534) 3 65535) 4 65535) 5 65535) 6 65535) 7 65535) 8 65535) 9 65535) 10 65535) 11 65535) 12 65535) 13 65535) 14 65535) 15 65535))), (q4, .inl (cI, 16, .inl (fun _ => 0))), (q5, .inl (cI, 17, .inl (fun _ => 0))), (q6, .inl (cI, 16, .inl (fun _ => 0))), (q7, .inl (cI, 16, .inl (fun _ => 0))), (q8, .inl (cI, 16, .inl (fun _ => 0)))] H := hP
  have hD : va_D A [(h0, .inr (2, [.ref q1, .ref q2, .ref q3, .ref q4, .ref q5, .ref q6, .ref q7, .ref q8, .null, .null, .null, .null])), (q1, .inl (cI, 64, .inl (fun _ => 0))), (q2, .inl (cI, 16, .inl (fun _ => 0))), (q3, .inl (cI, 16, .inl (upd (upd (upd (upd (upd (upd (upd (upd (upd (upd (upd (upd (upd (upd (upd (upd (fun _ => 0) 0 64559) 1 65535) 2 65534) 3 65535) 4 65535) 5 65535) 6 65535) 7 65535) 8 65535) 9 65535) 10 65535) 11 65535) 12 65535) 13 65535) 14 65535) 15 65535))), (q4, .inl (cI, 16, .inl (fun _ => 0))), (q5, .inl (cI, 17, .inl (fun _ => 0))), (q6, .inl (cI, 16, .inl (fun _ => 0))), (q7, .inl (cI, 16, .inl (fun _ => 0))), (q8, .inl (cI, 16, .inl (fun _ => 0)))] := hD
  refine lv_aload_n hx hb d_D_init_158 rfl (lv_at hl 0 rfl) ?_
  refine lv_bipush (v := 17) hx hb d_D_init_159 (by decide) ?_
  refine va_newa (atype := .int) (ty := .int) (n := 17) (N' := 17) (a0 := (17, .inl (fun _ => 0))) hx hb (hts _ k_44) rfl hK hP hD hS hA (fun _ => rfl) (by decide) (by decide) (by decide) (Nat.le_of_ble_eq_true rfl) (Nat.le_of_ble_eq_true rfl) d_D_init_161 (fun q9 cZ H hK hP hD hS => ?_)
  obtain rfl := (va_one (i := 0) (j := 1) hK rfl rfl).symm
  have hK : va_K D classes [(cI, .int)] s := hK.sub [0] rfl
  have hP : va_P D classes [(h0, .inr (2, [.ref q1, .ref q2, .ref q3, .ref q4, .ref q5, .ref q6, .ref q7, .ref q8, .null, .null, .null, .null])), (q1, .inl (cI, 64, .inl (fun _ => 0))), (q2, .inl (cI, 16, .inl (fun _ => 0))), (q3, .inl (cI, 16, .inl (upd (upd (upd (upd (upd (upd (upd (upd (upd (upd (upd (upd (upd (upd (upd (upd (fun _ => 0) 0 64559) 1 65535) 2 65534) 3 65535) 4 65535) 5 65535) 6 65535) 7 65535) 8 65535) 9 65535) 10 65535) 11 65535) 12 65535) 13 65535) 14 65535) 15 65535))), (q4, .inl (cI, 16, .inl (fun _ => 0))), (q5, .inl (cI, 17, .inl (fun _ => 0))), (q6, .inl (cI, 16, .inl (fun _ => 0))), (q7, .inl (cI, 16, .inl (fun _ => 0))), (q8, .inl (cI, 16, .inl (fun _ => 0))), (q9, .inl (cI, 17, .inl (fun _ => 0)))] H := hP
  have hD : va_D A [(h0, .inr (2, [.ref q1, .ref q2, .ref q3, .ref q4, .ref q5, .ref q6, .ref q7, .ref q8, .null, .null, .null, .null])), (q1, .inl (cI, 64, .inl (fun _ => 0))), (q2, .inl (cI, 16, .inl (fun _ => 0))), (q3, .inl (cI, 16, .inl (upd (upd (upd (upd (upd (upd (upd (upd (upd (upd (upd (upd (upd (upd (upd (upd (fun _ => 0) 0 64559) 1 65535) 2 65534) 3 65535) 4 65535) 5 65535) 6 65535) 7 65535) 8 65535) 9 65535) 10 65535) 11 65535) 12 65535) 13 65535) 14 65535) 15 65535))), (q4, .inl (cI, 16, .inl (fun _ => 0))), (q5, .inl (cI, 17, .inl (fun _ => 0))), (q6, .inl (cI, 16, .inl (fun _ => 0))), (q7, .inl (cI, 16, .inl (fun _ => 0))), (q8, .inl (cI, 16, .inl (fun _ => 0))), (q9, .inl (cI, 17, .inl (fun _ => 0)))] := hD
  refine W.widen (k := 9) (n := 194) (by decide) (by decide) ?_
  refine va_putF (D := D) (ci := 2) (v := .ref q9) (ty := .array .int) (C := R_D) (T := F_D) (N := 12) hx hb hts i_D t_D t_D_ok n_D hown hK hP hD hS 0 rfl rfl 8 (by decide) (hts _ k_191) (fun _ h9 => h9) rfl hin rfl (by decide +kernel) rfl rfl (Nat.le_of_ble_eq_true rfl) d_D_init_163 (fun H locs hP hD hS => ?_)
  have hP : va_P D classes [(h0, .inr (2, [.ref q1, .ref q2, .ref q3, .ref q4, .ref q5, .ref q6, .ref q7, .ref q8, .ref q9, .null, .null, .null])), (q1, .inl (cI, 64, .inl (fun _ => 0))), (q2, .inl (cI, 16, .inl (fun _ => 0))), (q3, .inl (cI, 16, .inl (upd (upd (upd (upd (upd (upd (upd (upd (upd (upd (upd (upd (upd (upd (upd (upd (fun _ => 0) 0 64559) 1 65535) 2 65534) 3 65535) 4 65535) 5 65535) 6 65535) 7 65535) 8 65535) 9 65535) 10 65535) 11 65535) 12 65535) 13 65535) 14 65535) 15 65535))), (q4, .inl (cI, 16, .inl (fun _ => 0))), (q5, .inl (cI, 17, .inl (fun _ => 0))), (q6, .inl (cI, 16, .inl (fun _ => 0))), (q7, .inl (cI, 16, .inl (fun _ => 0))), (q8, .inl (cI, 16, .inl (fun _ => 0))), (q9, .inl (cI, 17, .inl (fun _ => 0)))] H := hP
  have hD : va_D A [(h0, .inr (2, [.ref q1, .ref q2, .ref q3, .ref q4, .ref q5, .ref q6, .ref q7, .ref q8, .ref q9, .null, .null, .null])), (q1, .inl (cI, 64, .inl (fun _ => 0))), (q2, .inl (cI, 16, .inl (fun _ => 0))), (q3, .inl (cI, 16, .inl (upd (upd (upd (upd (upd (upd (upd (upd (upd (upd (upd (upd (upd (upd (upd (upd (fun _ => 0) 0 64559) 1 65535) 2 65534) 3 65535) 4 65535) 5 65535) 6 65535) 7 65535) 8 65535) 9 65535) 10 65535) 11 65535) 12 65535) 13 65535) 14 65535) 15 65535))), (q4, .inl (cI, 16, .inl (fun _ => 0))), (q5, .inl (cI, 17, .inl (fun _ => 0))), (q6, .inl (cI, 16, .inl (fun _ => 0))), (q7, .inl (cI, 16, .inl (fun _ => 0))), (q8, .inl (cI, 16, .inl (fun _ => 0))), (q9, .inl (cI, 17, .inl (fun _ => 0)))] := hD
  refine lv_aload_n hx hb d_D_init_166 rfl (lv_at hl 0 rfl) ?_
  refine lv_bipush (v := 17) hx hb d_D_init_167 (by decide) ?_
  refine va_newa (atype := .int) (ty := .int) (n := 17) (N' := 17) (a0 := (17, .inl (fun _ => 0))) hx hb (hts _ k_44) rfl hK hP hD hS hA (fun _ => rfl) (by decide) (by decide) (by decide) (Nat.le_of_ble_eq_true rfl) (Nat.le_of_ble_eq_true rfl) d_D_init_169 (fun q10 cZ H hK hP hD hS => ?_)
  obtain rfl := (va_one (i := 0) (j := 1) hK rfl rfl).symm
  have hK : va_K D classes [(cI, .int)] s := hK.sub [0] rfl
  have hP : va_P D classes [(h0, .inr (2, [.ref q1, .ref q2, .ref q3, .ref q4, .ref q5, .ref q6, .ref q7, .ref q8, .ref q9, .null, .null, .null])), (q1, .inl (cI, 64, .inl (fun _ => 0))), (q2, .inl (cI, 16, .inl (fun _ => 0))), (q3, .inl (cI, 16, .inl (upd (upd (upd (upd (upd (upd (upd (upd (upd (upd (upd (upd (upd (upd (upd (upd (fun _ => 0) 0 64559) 1 65535) 2 65534) 3 65535) 4 65535) 5 65535) 6 65535) 7 65535) 8 65535) 9 65535) 10 65535) 11 65535) 12 65535) 13 65535) 14 65535) 15 65535))), (q4, .inl (cI, 16, .inl (fun _ => 0))), (q5, .inl (cI, 17, .inl (fun _ => 0))), (q6, .inl (cI, 16, .inl (fun _ => 0))), (q7, .inl (cI, 16, .inl (fun _ => 0))), (q8, .inl (cI, 16, .inl (fun _ => 0))), (q9, .inl (cI, 17, .inl (fun _ => 0))), (q10, .inl (cI, 17, .inl (fun _ => 0)))] H := hP
  have hD : va_D A [(h0, .inr (2, [.ref q1, .ref q2, .ref q3, .ref q4, .ref q5, .ref q6, .ref q7, .ref q8, .ref q9, .null, .null, .null])), (q1, .inl (cI, 64, .inl (fun _ => 0))), (q2, .inl (cI, 16, .inl (fun _ => 0))), (q3, .inl (cI, 16, .inl (upd (upd (upd (upd (upd (upd (upd (upd (upd (upd (upd (upd (upd (upd (upd (upd (fun _ => 0) 0 64559) 1 65535) 2 65534) 3 65535) 4 65535) 5 65535) 6 65535) 7 65535) 8 65535) 9 65535) 10 65535) 11 65535) 12 65535) 13 65535) 14 65535) 15 65535))), (q4, .inl (cI, 16, .inl (fun _ => 0))), (q5, .inl (cI, 17, .inl (fun _ => 0))), (q6, .inl (cI, 16, .inl (fun _ => 0))), (q7, .inl (cI, 16, .inl (fun _ => 0))), (q8, .inl (cI, 16, .inl (fun _ => 0))), (q9, .inl (cI, 17, .inl (fun _ => 0))), (q10, .inl (cI, 17, .inl (fun _ => 0)))] := hD
  refine W.widen (k := 10) (n := 211) (by decide) (by decide) ?_
  refine va_putF (D := D) (ci := 2) (v := .ref q10) (ty := .array .int) (C := R_D) (T := F_D) (N := 12) hx hb hts i_D t_D t_D_ok n_D hown hK hP hD hS 0 rfl rfl 9 (by decide) (hts _ k_192) (fun _ h9 => h9) rfl hin rfl (by decide +kernel) rfl rfl (Nat.le_of_ble_eq_true rfl) d_D_init_171 (fun H locs hP hD hS => ?_)
  have hP : va_P D classes [(h0, .inr (2, [.ref q1, .ref q2, .ref q3, .ref q4, .ref q5, .ref q6, .ref q7, .ref q8, .ref q9, .ref q10, .null, .null])), (q1, .inl (cI, 64, .inl (fun _ => 0))), (q2, .inl (cI, 16, .inl (fun _ => 0))), (q3, .inl (cI, 16, .inl (upd (upd (upd (upd (upd (upd (upd (upd (upd (upd (upd (upd (upd (upd (upd (upd (fun _ => 0) 0 64559) 1 65535) 2 65534) 3 65535) 4 65535) 5 65535) 6 65535) 7 65535) 8 65535) 9 65535) 10 65535) 11 65535) 12 65535) 13 65535) 14 65535) 15 65535))), (q4, .inl (cI, 16, .inl (fun _ => 0))), (q5, .inl (cI, 17, .inl (fun _ => 0))), (q6, .inl (cI, 16, .inl (fun _ => 0))), (q7, .inl (cI, 16, .inl (fun _ => 0))), (q8, .inl (cI, 16, .inl (fun _ => 0))), (q9, .inl (cI, 17, .inl (fun _ => 0))), (q10, .inl (cI, 17, .inl (fun _ => 0)))] H := hP
  have hD : va_D A [(h0, .inr (2, [.ref q1, .ref q2, .ref q3, .ref q4, .ref q5, .ref q6, .ref q7, .ref q8, .ref q9, .ref q10, .null, .null])), (q1, .inl (cI, 64, .inl (fun _ => 0))), (q2, .inl (cI, 16, .inl (fun _ => 0))), (q3, .inl (cI, 16, .inl (upd (upd (upd (upd (upd (upd (upd (upd (upd (upd (upd (upd (upd (upd (upd (upd (fun _ => 0) 0 64559) 1 65535) 2 65534) 3 65535) 4 65535) 5 65535) 6 65535) 7 65535) 8 65535) 9 65535) 10 65535) 11 65535) 12 65535) 13 65535) 14 65535) 15 65535))), (q4, .inl (cI, 16, .inl (fun _ => 0))), (q5, .inl (cI, 17, .inl (fun _ => 0))), (q6, .inl (cI, 16, .inl (fun _ => 0))), (q7, .inl (cI, 16, .inl (fun _ => 0))), (q8, .inl (cI, 16, .inl (fun _ => 0))), (q9, .inl (cI, 17, .inl (fun _ => 0))), (q10, .inl (cI, 17, .inl (fun _ => 0)))] := hD
  refine lv_aload_n hx hb d_D_init_174 rfl (lv_at hl 0 rfl) ?_
  refine lv_bipush (v := 17) hx hb d_D_init_175 (by decide) ?_
  refine va_newa (atype := .int) (ty := .int) (n := 17) (N' := 17) (a0 := (17, .inl (fun _ => 0))) hx hb (hts _ k_44) rfl hK hP hD hS hA (fun _ => rfl) (by decide) (by decide) (by decide) (Nat.le_of_ble_eq_true rfl) (Nat.le_of_ble_eq_true rfl) d_D_init_177 (fun q11 cZ H hK hP hD hS => ?_)
  obtain rfl := (va_one (i := 0) (j := 1) hK rfl rfl).symm
  have hK : va_K D classes [(cI, .int)] s := hK.sub [0] rfl
  have hP : va_P D classes [(h0, .inr (2, [.ref q1, .ref q2, .ref q3, .ref q4, .ref q5, .ref q6, .ref q7, .ref q8, .ref q9, .ref q10, .null, .null])), (q1, .inl (cI, 64, .inl (fun _ => 0))), (q2, .inl (cI, 16, .inl (fun _ => 0))), (q3, .inl (cI, 16, .inl (upd (upd (upd (upd (upd (upd (upd (upd (upd (upd (upd (upd (upd (upd (upd (upd (fun _ => 0) 0 64559) 1 65535) 2 65534) 3 65535) 4 65535) 5 65535) 6 65535) 7 65535) 8 65535) 9 65535) 10 65535) 11 65535) 12 65535) 13 65535) 14 65535) 15 65535))), (q4, .inl (cI, 16, .inl (fun _ => 0))), (q5, .inl (cI, 17, .inl (fun _ => 0))), (q6, .inl (cI, 16, .inl (fun _ => 0))), (q7, .inl (cI, 16, .inl (fun _ => 0))), (q8, .inl (cI, 16, .inl (fun _ => 0))), (q9, .inl (cI, 17, .inl (fun _ => 0))), (q10, .inl (cI, 17, .inl (fun _ => 0))), (q11, .inl (cI, 17, .inl (fun _ => 0)))] H := hP
  have hD : va_D A [(h0, .inr (2, [.ref q1, .ref q2, .ref q3, .ref q4, .ref q5, .ref q6, .ref q7, .ref q8, .ref q9, .ref q10, .null, .null])), (q1, .inl (cI, 64, .inl (fun _ => 0))), (q2, .inl (cI, 16, .inl (fun _ => 0))), (q3, .inl (cI, 16, .inl (upd (upd (upd (upd (upd (upd (upd (upd (upd (upd (upd (upd (upd (upd (upd (upd (fun _ => 0) 0 64559) 1 65535) 2 65534) 3 65535) 4 65535) 5 65535) 6 65535) 7 65535) 8 65535) 9 65535) 10 65535) 11 65535) 12 65535) 13 65535) 14 65535) 15 65535))), (q4, .inl (cI, 16, .inl (fun _ => 0))), (q5, .inl (cI, 17, .inl (fun _ => 0))), (q6, .inl (cI, 16, .inl (fun _ => 0))), (q7, .inl (cI, 16, .inl (fun _ => 0))), (q8, .inl (cI, 16, .inl (fun _ => 0))), (q9, .inl (cI, 17, .inl (fun _ => 0))), (q10, .inl (cI, 17, .inl (fun _ => 0))), (q11, .inl (cI, 17, .inl (fun _ => 0)))] := hD
  refine W.widen (k := 11) (n := 228) (by decide) (by decide) ?_
  refine va_putF (D := D) (ci := 2) (v := .ref q11) (ty := .array .int) (C := R_D) (T := F_D) (N := 12) hx hb hts i_D t_D t_D_ok n_D hown hK hP hD hS 0 rfl rfl 10 (by decide) (hts _ k_193) (fun _ h9 => h9) rfl hin rfl (by decide +kernel) rfl rfl (Nat.le_of_ble_eq_true rfl) d_D_init_179 (fun H locs hP hD hS => ?_)
  have hP : va_P D classes [(h0, .inr (2, [.ref q1, .ref q2, .ref q3, .ref q4, .ref q5, .ref q6, .ref q7, .ref q8, .ref q9, .ref q10, .ref q11, .null])), (q1, .inl (cI, 64, .inl (fun _ => 0))), (q2, .inl (cI, 16, .inl (fun _ => 0))), (q3, .inl (cI, 16, .inl (upd (upd (upd (upd (upd (upd (upd (upd (upd (upd (upd (upd (upd (upd (upd (upd (fun _ => 0) 0 64559) 1 65535) 2 65534) 3 65535) 4 65535) 5 65535) 6 65535) 7 65535) 8 65535) 9 65535) 10 65535) 11 65535) 12 65535) 13 65535) 14 65535) 15 65535))), (q4, .inl (cI, 16, .inl (fun _ => 0))), (q5, .inl (cI, 17, .inl (fun _ => 0))), (q6, .inl (cI, 16, .inl (fun _ => 0))), (q7, .inl (cI, 16, .inl (fun _ => 0))), (q8, .inl (cI, 16, .inl (fun _ => 0))), (q9, .inl (cI, 17, .inl (fun _ => 0))), (q10, .inl (cI, 17, .inl (fun _ => 0))), (q11, .inl (cI, 17, .inl (fun _ => 0)))] H := hP
  have hD : va_D A [(h0, .inr (2, [.ref q1, .ref q2, .ref q3, .ref q4, .ref q5, .ref q6, .ref q7, .ref q8, .ref q9, .ref q10, .ref q11, .null])), (q1, .inl (cI, 64, .inl (fun _ => 0))), (q2, .inl (cI, 16, .inl (fun _ => 0))), (q3, .inl (cI, 16, .inl (upd (upd (upd (upd (upd (upd (upd (upd (upd (upd (upd (upd (upd (upd (upd (upd (fun _ => 0) 0 64559) 1 65535) 2 65534) 3 65535) 4 65535) 5 65535) 6 65535) 7 65535) 8 65535) 9 65535) 10 65535) 11 65535) 12 65535) 13 65535) 14 65535) 15 65535))), (q4, .inl (cI, 16, .inl (fun _ => 0))), (q5, .inl (cI, 17, .inl (fun _ => 0))), (q6, .inl (cI, 16, .inl (fun _ => 0))), (q7, .inl (cI, 16, .inl (fun _ => 0))), (q8, .inl (cI, 16, .inl (fun _ => 0))), (q9, .inl (cI, 17, .inl (fun _ => 0))), (q10, .inl (cI, 17, .inl (fun _ => 0))), (q11, .inl (cI, 17, .inl (fun _ => 0)))] := hD
  refine lv_aload_n hx hb d_D_init_182 rfl (lv_at hl 0 rfl) ?_
  refine lv_bipush (v := 17) hx hb d_D_init_183 (by decide) ?_
  refine va_newa (atype := .int) (ty := .int) (n := 17) (N' := 17) (a0 := (17, .inl (fun _ => 0))) hx hb (hts _ k_44) rfl hK hP hD hS hA (fun _ => rfl) (by decide) (by decide) (by decide) (Nat.le_of_ble_eq_true rfl) (Nat.le_of_ble_eq_true rfl) d_D_init_185 (fun q12 cZ H hK hP hD hS => ?_)
  obtain rfl := (va_one (i := 0) (j := 1) hK rfl rfl).symm
  have hK : va_K D classes [(cI, .int)] s := hK.sub [0] rfl
  have hP : va_P D classes [(h0, .inr (2, [.ref q1, .ref q2, .ref q3, .ref q4, .ref q5, .ref q6, .ref q7, .ref q8, .ref q9, .ref q10, .ref q11, .null])), (q1, .inl (cI, 64, .inl (fun _ => 0))), (q2, .inl (cI, 16, .inl (fun _ => 0))), (q3, .inl (cI, 16, .inl (upd (upd (upd (upd (upd (upd (upd (upd (upd (upd (upd (upd (upd (upd (upd (upd (fun _ => 0) 0 64559) 1 65535) 2 65534) 3 65535) 4 65535) 5 65535) 6 65535) 7 65535) 8 65535) 9 65535) 10 65535) 11 65535) 12 65535) 13 65535) 14 65535) 15 65535))), (q4, .inl (cI, 16, .inl (fun _ => 0))), (q5, .inl (cI, 17, .inl (fun _ => 0))), (q6, .inl (cI, 16, .inl (fun _ => 0))), (q7, .inl (cI, 16, .inl (fun _ => 0))), (q8, .inl (cI, 16, .inl (fun _ => 0))), (q9, .inl (cI, 17, .inl (fun _ => 0))), (q10, .inl (cI, 17, .inl (fun _ => 0))), (q11, .inl (cI, 17, .inl (fun _ => 0))), (q12, .inl (cI, 17, .inl (fun _ => 0)))] H := hP
  have hD : va_D A [(h0, .inr (2, [.ref q1, .ref q2, .ref q3, .ref q4, .ref q5, .ref q6, .ref q7, .ref q8, .ref q9, .ref q10, .ref q11, .null])), (q1, .inl (cI, 64, .inl (fun _ => 0))), (q2, .inl (cI, 16, .inl (fun _ => 0))), (q3, .inl (cI, 16, .inl (upd (upd (upd (upd (upd (upd (upd (upd (upd (upd (upd (upd (upd (upd (upd (upd (fun _ => 0) 0 64559) 1 65535) 2 65534) 3 65535) 4 65535) 5 65535) 6 65535) 7 65535) 8 65535) 9 65535) 10 65535) 11 65535) 12 65535) 13 65535) 14 65535) 15 65535))), (q4, .inl (cI, 16, .inl (fun _ => 0))), (q5, .inl (cI, 17, .inl (fun _ => 0))), (q6, .inl (cI, 16, .inl (fun _ => 0))), (q7, .inl (cI, 16, .inl (fun _ => 0))), (q8, .inl (cI, 16, .inl (fun _ => 0))), (q9, .inl (cI, 17, .inl (fun _ => 0))), (q10, .inl (cI, 17, .inl (fun _ => 0))), (q11, .inl (cI, 17, .inl (fun _ => 0))), (q12, .inl (cI, 17, .inl (fun _ => 0)))] := hD
  refine W.widen (k := 12) (n := 245) (by decide) (by decide) ?_
  refine va_putF (D := D) (ci := 2) (v := .ref q12) (ty := .array .int) (C := R_D) (T := F_D) (N := 12) hx hb hts i_D t_D t_D_ok n_D hown hK hP hD hS 0 rfl rfl 11 (by decide) (hts _ k_194) (fun _ h9 => h9) rfl hin rfl (by decide +kernel) rfl rfl (Nat.le_of_ble_eq_true rfl) d_D_init_187 (fun H locs hP hD hS => ?_)
  have hP : va_P D classes [(h0, .inr (2, [.ref q1, .ref q2, .ref q3, .ref q4, .ref q5, .ref q6, .ref q7, .ref q8, .ref q9, .ref q10, .ref q11, .ref q12])), (q1, .inl (cI, 64, .inl (fun _ => 0))), (q2, .inl (cI, 16, .inl (fun _ => 0))), (q3, .inl (cI, 16, .inl (upd (upd (upd (upd (upd (upd (upd (upd (upd (upd (upd (upd (upd (upd (upd (upd (fun _ => 0) 0 64559) 1 65535) 2 65534) 3 65535) 4 65535) 5 65535) 6 65535) 7 65535) 8 65535) 9 65535) 10 65535) 11 65535) 12 65535) 13 65535) 14 65535) 15 65535))), (q4, .inl (cI, 16, .inl (fun _ => 0))), (q5, .inl (cI, 17, .inl (fun _ => 0))), (q6, .inl (cI, 16, .inl (fun _ => 0))), (q7, .inl (cI, 16, .inl (fun _ => 0))), (q8, .inl (cI, 16, .inl (fun _ => 0))), (q9, .inl (cI, 17, .inl (fun _ => 0))), (q10, .inl (cI, 17, .inl (fun _ => 0))), (q11, .inl (cI, 17, .inl (fun _ => 0))), (q12, .inl (cI, 17, .inl (fun _ => 0)))] H := hP
  have hD : va_D A [(h0, .inr (2, [.ref q1, .ref q2, .ref q3, .ref q4, .ref q5, .ref q6, .ref q7, .ref q8, .ref q9, .ref q10, .ref q11, .ref q12])), (q1, .inl (cI, 64, .inl (fun _ => 0))), (q2, .inl (cI, 16, .inl (fun _ => 0))), (q3, .inl (cI, 16, .inl (upd (upd (upd (upd (upd (upd (upd (upd (upd (upd (upd (upd (upd (upd (upd (upd (fun _ => 0) 0 64559) 1 65535) 2 65534) 3 65535) 4 65535) 5 65535) 6 65535) 7 65535) 8 65535) 9 65535) 10 65535) 11 65535) 12 65535) 13 65535) 14 65535) 15 65535))), (q4, .inl (cI, 16, .inl (fun _ => 0))), (q5, .inl (cI, 17, .inl (fun _ => 0))), (q6, .inl (cI, 16, .inl (fun _ => 0))), (q7, .inl (cI, 16, .inl (fun _ => 0))), (q8, .inl (cI, 16, .inl (fun _ => 0))), (q9, .inl (cI, 17, .inl (fun _ => 0))), (q10, .inl (cI, 17, .inl (fun _ => 0))), (q11, .inl (cI, 17, .inl (fun _ => 0))), (q12, .inl (cI, 17, .inl (fun _ => 0)))] := hD
  have g1 : ∀ j, j < 16 → (upd (upd (upd (upd (upd (upd (upd (upd (upd (upd (upd (upd (upd (upd (upd (upd (fun _ => 0) 0 64559) 1 65535) 2 65534) 3 65535) 4 65535) 5 65535) 6 65535) 7 65535) 8 65535) 9 65535) 10 65535) 11 65535) 12 65535) 13 65535) 14 65535) 15 65535) j = qW j := by decide
  rw [hQ]
  exact W.vret hx hb E.2.2.1 (fun t ht hW => ⟨⟨(), rfl, trivial, q1, q2, q3, q4, q5, q6, q7, q8, q9, q10, q11, q12, cI, _, by rw [ht]; exact hP, va_K.moved hW.alike hK, hD, g1⟩, hS.F ht⟩) hS.2.2 d_D_init_190 E.2.2.2.2.2.2
def atK (D : va_G) (A : Nat → Prop) (h0 : Nat) (t : State) : Prop := ∃ (q ln wk fd q1 q2 q3 q4 q5 q6 : Nat) (cR cI : ClassId) (f1 f2 f3 f4 f5 f6 : Nat → Int32), va_P D classes [(h0, .inr (0, [.ref q, .ref ln, .ref wk, .ref fd])), (q, .inl (cR, 4, .inr (.inr (.inr (.inr (fun k => some (q + 1 + k))))))), (q + 1, .inl (cI, 8, .inl (fun _ => 0))), (q + 2, .inl (cI, 8, .inl (fun _ => 0))), (q + 3, .inl (cI, 8, .inl (fun _ => 0))), (q + 4, .inl (cI, 8, .inl (fun _ => 0))), (ln, .inl (cI, 8, .inl (fun _ => 0))), (wk, .inl (cI, 8, .inl (fun _ => 0))), (fd, .inr (1, [.ref q1, .ref q2, .ref q3, .ref q4, .ref q5, .ref q6, .int (-769313487)])), (q1, .inl (cI, 8, .inl f1)), (q2, .inl (cI, 8, .inl f2)), (q3, .inl (cI, 8, .inl f3)), (q4, .inl (cI, 10, .inl f4)), (q5, .inl (cI, 8, .inl f5)), (q6, .inl (cI, 8, .inl f6))] t.heap ∧ va_K D classes [(cI, .int), (cR, .array .int)] t ∧ va_D A [(h0, .inr (0, [.ref q, .ref ln, .ref wk, .ref fd])), (q, .inl (cR, 4, .inr (.inr (.inr (.inr (fun k => some (q + 1 + k))))))), (q + 1, .inl (cI, 8, .inl (fun _ => 0))), (q + 2, .inl (cI, 8, .inl (fun _ => 0))), (q + 3, .inl (cI, 8, .inl (fun _ => 0))), (q + 4, .inl (cI, 8, .inl (fun _ => 0))), (ln, .inl (cI, 8, .inl (fun _ => 0))), (wk, .inl (cI, 8, .inl (fun _ => 0))), (fd, .inr (1, [.ref q1, .ref q2, .ref q3, .ref q4, .ref q5, .ref q6, .int (-769313487)])), (q1, .inl (cI, 8, .inl f1)), (q2, .inl (cI, 8, .inl f2)), (q3, .inl (cI, 8, .inl f3)), (q4, .inl (cI, 10, .inl f4)), (q5, .inl (cI, 8, .inl f5)), (q6, .inl (cI, 8, .inl f6))] ∧ (∀ j, j < 8 → f1 j = pW j) ∧ V8 f2 = BK ∧ V8 f3 = ON
set_option maxHeartbeats 4000000 in
set_option maxRecDepth 100000 in
theorem c_K_init (l : Launch) (D : va_G) (h0 sz : Nat) : Met l y_K_init (.code y_K_init b_K_init 1 none :: tb) ({ frames := 2, cells := 14, slots := 109, locals := 34 }) (va_Pc [.ref h0] (fun U => U.heap.size = sz ∧ va_P D classes [(h0, .inr (0, [.null, .null, .null, .null]))] U.heap ∧ va_K D classes [] U ∧ va_D (fun _ => True) [(h0, .inr (0, [.null, .null, .null, .null]))] ∧ mxo U)) (va_Qv (fun _ : Unit => True) (fun _ t => atK D (va_A [(h0, .inr (0, [.null, .null, .null, .null]))] sz) h0 t) (va_A [(h0, .inr (0, [.null, .null, .null, .null]))] sz)) 14 109 (va_A [(h0, .inr (0, [.null, .null, .null, .null]))] sz) := by
  refine Mt.of [.ref h0] rfl (fun v U h => h.1) (Nat.le_of_ble_eq_true rfl) (fun p e s m args below meth c ls Q E hin hPc hQ hl => ?_)
  obtain ⟨-, hsz, hP, hK, hD0, hmo⟩ := hPc
  have hx := E.1
  have hb := E.2.1
  have hml := E.2.2.2.1
  have hown := E.2.2.2.2.1
  have hts := E.2.2.2.2.2.1
  subst hsz
  have hD := hD0.self (sz := s.heap.size)
  generalize hAe : va_A [(h0, .inr (0, [.null, .null, .null, .null]))] s.heap.size = A at hD hQ ⊢
  have hA : ∀ q : Nat, s.heap.size ≤ q → A q := fun q h => by rw [← hAe]; exact Or.inr h
  have hS : va_S A s.heap s.heap [] := va_S.rf
  obtain ⟨H, eH⟩ : ∃ H, H = s.heap := ⟨_, rfl⟩
  have hPs := hP
  have hS : va_S A s.heap H [] := by rw [eH]; exact hS
  have hP : va_P D classes [(h0, .inr (0, [.null, .null, .null, .null]))] H := by rw [eH]; exact hPs
  rw [← eH]
  have hl : lv_has ls 1 [(0, .ref h0)] := hl
  refine lv_aload_n hx hb d_K_init_0 rfl (lv_at hl 0 rfl) ?_
  refine W.objInit hx hb hown (hts _ k_9) (hts _ k_10) (hts _ k_11) rfl (by rw [hml]; exact hl.1) rfl d_K_init_1 (Nat.le_of_ble_eq_true rfl) (Nat.le_of_ble_eq_true rfl) ?_
  refine W.eq (g2 := F0 m 4 ls []) rfl ?_
  refine lv_aload_n hx hb d_K_init_4 rfl (lv_at hl 0 rfl) ?_
  refine lv_iconst (v := 4) hx hb d_K_init_5 (by decide) ?_
  refine lv_bipush (v := 8) hx hb d_K_init_6 (by decide) ?_
  refine va_multi (own := R_K) (index := 9) hx hb hown (hts _ k_12) hmo (hts _ k_44) hK hP hD hS hA (Nat.le_of_ble_eq_true rfl) (Nat.le_of_ble_eq_true rfl) d_K_init_8 (fun q cR cI H locs hK hP hD hS => ?_)
  have hP : va_P D classes [(h0, .inr (0, [.null, .null, .null, .null])), (q, .inl (cR, 4, .inr (.inr (.inr (.inr (fun k => some (q + 1 + k))))))), ((q + 1), .inl (cI, 8, .inl (fun _ => 0))), ((q + 2), .inl (cI, 8, .inl (fun _ => 0))), ((q + 3), .inl (cI, 8, .inl (fun _ => 0))), ((q + 4), .inl (cI, 8, .inl (fun _ => 0)))] H := hP
  have hD : va_D A [(h0, .inr (0, [.null, .null, .null, .null])), (q, .inl (cR, 4, .inr (.inr (.inr (.inr (fun k => some (q + 1 + k))))))), ((q + 1), .inl (cI, 8, .inl (fun _ => 0))), ((q + 2), .inl (cI, 8, .inl (fun _ => 0))), ((q + 3), .inl (cI, 8, .inl (fun _ => 0))), ((q + 4), .inl (cI, 8, .inl (fun _ => 0)))] := hD
  have hK : va_K D classes [(cI, .int), (cR, .array .int)] s := hK
  refine W.widen (k := 5) (n := 36) (by decide) (by decide) ?_
  refine va_putF (D := D) (ci := 0) (v := .ref q) (ty := .array (.array .int)) (C := R_K) (T := F_K) (N := 4) hx hb hts i_K t_K t_K_ok n_K hown hK hP hD hS 0 rfl rfl 0 (by decide) (hts _ k_45) (fun _ h9 => h9) rfl hin rfl (by decide +kernel) rfl rfl (Nat.le_of_ble_eq_true rfl) d_K_init_12 (fun H locs hP hD hS => ?_)
  have hP : va_P D classes [(h0, .inr (0, [.ref q, .null, .null, .null])), (q, .inl (cR, 4, .inr (.inr (.inr (.inr (fun k => some (q + 1 + k))))))), ((q + 1), .inl (cI, 8, .inl (fun _ => 0))), ((q + 2), .inl (cI, 8, .inl (fun _ => 0))), ((q + 3), .inl (cI, 8, .inl (fun _ => 0))), ((q + 4), .inl (cI, 8, .inl (fun _ => 0)))] H := hP
  have hD : va_D A [(h0, .inr (0, [.ref q, .null, .null, .null])), (q, .inl (cR, 4, .inr (.inr (.inr (.inr (fun k => some (q + 1 + k))))))), ((q + 1), .inl (cI, 8, .inl (fun _ => 0))), ((q + 2), .inl (cI, 8, .inl (fun _ => 0))), ((q + 3), .inl (cI, 8, .inl (fun _ => 0))), ((q + 4), .inl (cI, 8, .inl (fun _ => 0)))] := hD
  refine lv_aload_n hx hb d_K_init_15 rfl (lv_at hl 0 rfl) ?_
  refine lv_bipush (v := 8) hx hb d_K_init_16 (by decide) ?_
  refine va_newa (atype := .int) (ty := .int) (n := 8) (N' := 8) (a0 := (8, .inl (fun _ => 0))) hx hb (hts _ k_44) rfl hK hP hD hS hA (fun _ => rfl) (by decide) (by decide) (by decide) (Nat.le_of_ble_eq_true rfl) (Nat.le_of_ble_eq_true rfl) d_K_init_18 (fun ln cZ H hK hP hD hS => ?_)
  obtain rfl := (va_one (i := 0) (j := 2) hK rfl rfl).symm
  have hK : va_K D classes [(cI, .int), (cR, .array .int)] s := hK.sub [0, 1] rfl
  have hP : va_P D classes [(h0, .inr (0, [.ref q, .null, .null, .null])), (q, .inl (cR, 4, .inr (.inr (.inr (.inr (fun k => some (q + 1 + k))))))), ((q + 1), .inl (cI, 8, .inl (fun _ => 0))), ((q + 2), .inl (cI, 8, .inl (fun _ => 0))), ((q + 3), .inl (cI, 8, .inl (fun _ => 0))), ((q + 4), .inl (cI, 8, .inl (fun _ => 0))), (ln, .inl (cI, 8, .inl (fun _ => 0)))] H := hP
  have hD : va_D A [(h0, .inr (0, [.ref q, .null, .null, .null])), (q, .inl (cR, 4, .inr (.inr (.inr (.inr (fun k => some (q + 1 + k))))))), ((q + 1), .inl (cI, 8, .inl (fun _ => 0))), ((q + 2), .inl (cI, 8, .inl (fun _ => 0))), ((q + 3), .inl (cI, 8, .inl (fun _ => 0))), ((q + 4), .inl (cI, 8, .inl (fun _ => 0))), (ln, .inl (cI, 8, .inl (fun _ => 0)))] := hD
  refine W.widen (k := 6) (n := 44) (by decide) (by decide) ?_
  refine va_putF (D := D) (ci := 0) (v := .ref ln) (ty := .array .int) (C := R_K) (T := F_K) (N := 4) hx hb hts i_K t_K t_K_ok n_K hown hK hP hD hS 0 rfl rfl 1 (by decide) (hts _ k_46) (fun _ h9 => h9) rfl hin rfl (by decide +kernel) rfl rfl (Nat.le_of_ble_eq_true rfl) d_K_init_20 (fun H locs hP hD hS => ?_)
  have hP : va_P D classes [(h0, .inr (0, [.ref q, .ref ln, .null, .null])), (q, .inl (cR, 4, .inr (.inr (.inr (.inr (fun k => some (q + 1 + k))))))), ((q + 1), .inl (cI, 8, .inl (fun _ => 0))), ((q + 2), .inl (cI, 8, .inl (fun _ => 0))), ((q + 3), .inl (cI, 8, .inl (fun _ => 0))), ((q + 4), .inl (cI, 8, .inl (fun _ => 0))), (ln, .inl (cI, 8, .inl (fun _ => 0)))] H := hP
  have hD : va_D A [(h0, .inr (0, [.ref q, .ref ln, .null, .null])), (q, .inl (cR, 4, .inr (.inr (.inr (.inr (fun k => some (q + 1 + k))))))), ((q + 1), .inl (cI, 8, .inl (fun _ => 0))), ((q + 2), .inl (cI, 8, .inl (fun _ => 0))), ((q + 3), .inl (cI, 8, .inl (fun _ => 0))), ((q + 4), .inl (cI, 8, .inl (fun _ => 0))), (ln, .inl (cI, 8, .inl (fun _ => 0)))] := hD
  refine lv_aload_n hx hb d_K_init_23 rfl (lv_at hl 0 rfl) ?_
  refine lv_bipush (v := 8) hx hb d_K_init_24 (by decide) ?_
  refine va_newa (atype := .int) (ty := .int) (n := 8) (N' := 8) (a0 := (8, .inl (fun _ => 0))) hx hb (hts _ k_44) rfl hK hP hD hS hA (fun _ => rfl) (by decide) (by decide) (by decide) (Nat.le_of_ble_eq_true rfl) (Nat.le_of_ble_eq_true rfl) d_K_init_26 (fun wk cZ H hK hP hD hS => ?_)
  obtain rfl := (va_one (i := 0) (j := 2) hK rfl rfl).symm
  have hK : va_K D classes [(cI, .int), (cR, .array .int)] s := hK.sub [0, 1] rfl
  have hP : va_P D classes [(h0, .inr (0, [.ref q, .ref ln, .null, .null])), (q, .inl (cR, 4, .inr (.inr (.inr (.inr (fun k => some (q + 1 + k))))))), ((q + 1), .inl (cI, 8, .inl (fun _ => 0))), ((q + 2), .inl (cI, 8, .inl (fun _ => 0))), ((q + 3), .inl (cI, 8, .inl (fun _ => 0))), ((q + 4), .inl (cI, 8, .inl (fun _ => 0))), (ln, .inl (cI, 8, .inl (fun _ => 0))), (wk, .inl (cI, 8, .inl (fun _ => 0)))] H := hP
  have hD : va_D A [(h0, .inr (0, [.ref q, .ref ln, .null, .null])), (q, .inl (cR, 4, .inr (.inr (.inr (.inr (fun k => some (q + 1 + k))))))), ((q + 1), .inl (cI, 8, .inl (fun _ => 0))), ((q + 2), .inl (cI, 8, .inl (fun _ => 0))), ((q + 3), .inl (cI, 8, .inl (fun _ => 0))), ((q + 4), .inl (cI, 8, .inl (fun _ => 0))), (ln, .inl (cI, 8, .inl (fun _ => 0))), (wk, .inl (cI, 8, .inl (fun _ => 0)))] := hD
  refine W.widen (k := 7) (n := 52) (by decide) (by decide) ?_
  refine va_putF (D := D) (ci := 0) (v := .ref wk) (ty := .array .int) (C := R_K) (T := F_K) (N := 4) hx hb hts i_K t_K t_K_ok n_K hown hK hP hD hS 0 rfl rfl 2 (by decide) (hts _ k_47) (fun _ h9 => h9) rfl hin rfl (by decide +kernel) rfl rfl (Nat.le_of_ble_eq_true rfl) d_K_init_28 (fun H locs hP hD hS => ?_)
  have hP : va_P D classes [(h0, .inr (0, [.ref q, .ref ln, .ref wk, .null])), (q, .inl (cR, 4, .inr (.inr (.inr (.inr (fun k => some (q + 1 + k))))))), ((q + 1), .inl (cI, 8, .inl (fun _ => 0))), ((q + 2), .inl (cI, 8, .inl (fun _ => 0))), ((q + 3), .inl (cI, 8, .inl (fun _ => 0))), ((q + 4), .inl (cI, 8, .inl (fun _ => 0))), (ln, .inl (cI, 8, .inl (fun _ => 0))), (wk, .inl (cI, 8, .inl (fun _ => 0)))] H := hP
  have hD : va_D A [(h0, .inr (0, [.ref q, .ref ln, .ref wk, .null])), (q, .inl (cR, 4, .inr (.inr (.inr (.inr (fun k => some (q + 1 + k))))))), ((q + 1), .inl (cI, 8, .inl (fun _ => 0))), ((q + 2), .inl (cI, 8, .inl (fun _ => 0))), ((q + 3), .inl (cI, 8, .inl (fun _ => 0))), ((q + 4), .inl (cI, 8, .inl (fun _ => 0))), (ln, .inl (cI, 8, .inl (fun _ => 0))), (wk, .inl (cI, 8, .inl (fun _ => 0)))] := hD
  refine lv_aload_n hx hb d_K_init_31 rfl (lv_at hl 0 rfl) ?_
  refine va_new (ci := 1) (fs := [.null, .null, .null, .null, .null, .null, .int 0]) (C := R_F) (T := F_F) (N := 7) hx hb hts i_F t_F t_F_ok hown (hts _ k_14) (hts _ k_15) (hts _ k_2) hK hP hD hS hA rfl (fun j hj => by rcases (show j = 0 ∨ j = 1 ∨ j = 2 ∨ j = 3 ∨ j = 4 ∨ j = 5 ∨ j = 6 by omega) with rfl | rfl | rfl | rfl | rfl | rfl | rfl <;> rfl) (Nat.le_of_ble_eq_true rfl) (Nat.le_of_ble_eq_true rfl) d_K_init_32 (fun fd H hP hD hS => ?_)
  have hP : va_P D classes [(h0, .inr (0, [.ref q, .ref ln, .ref wk, .null])), (q, .inl (cR, 4, .inr (.inr (.inr (.inr (fun k => some (q + 1 + k))))))), ((q + 1), .inl (cI, 8, .inl (fun _ => 0))), ((q + 2), .inl (cI, 8, .inl (fun _ => 0))), ((q + 3), .inl (cI, 8, .inl (fun _ => 0))), ((q + 4), .inl (cI, 8, .inl (fun _ => 0))), (ln, .inl (cI, 8, .inl (fun _ => 0))), (wk, .inl (cI, 8, .inl (fun _ => 0))), (fd, .inr (1, [.null, .null, .null, .null, .null, .null, .int 0]))] H := hP
  have hD : va_D A [(h0, .inr (0, [.ref q, .ref ln, .ref wk, .null])), (q, .inl (cR, 4, .inr (.inr (.inr (.inr (fun k => some (q + 1 + k))))))), ((q + 1), .inl (cI, 8, .inl (fun _ => 0))), ((q + 2), .inl (cI, 8, .inl (fun _ => 0))), ((q + 3), .inl (cI, 8, .inl (fun _ => 0))), ((q + 4), .inl (cI, 8, .inl (fun _ => 0))), (ln, .inl (cI, 8, .inl (fun _ => 0))), (wk, .inl (cI, 8, .inl (fun _ => 0))), (fd, .inr (1, [.null, .null, .null, .null, .null, .null, .int 0]))] := hD
  refine W.widen (k := 8) (n := 59) (by decide) (by decide) ?_
  refine lv_dup hx hb d_K_init_35 rfl ?_
  have hPc := hP.sub (ws' := [(fd, .inr (1, [.null, .null, .null, .null, .null, .null, .int 0]))]) [8] rfl
  have hDc := hD.sub (ws' := [(fd, .inr (1, [.null, .null, .null, .null, .null, .null, .int 0]))]) [8] (by decide) rfl
  have hKc := hK.sub (tys' := []) [] rfl
  have hFc := va_free (wc := [(fd, .inr (1, [.null, .null, .null, .null, .null, .null, .int 0]))]) hD hS hA [8] rfl
  refine va_callv (va_runI (As := []) (rest := [.ref fd, .ref h0]) ⟨hx, hb, hml, hown, hts⟩ (c_F_init l D fd H.size) (cwI 0 hts (tb_code k_18) rfl rfl rfl (hts _ k_2) (hts _ k_16) (hts _ k_17) rfl (by decide +kernel) ⟨Nat.le_of_ble_eq_true rfl, Nat.le_of_ble_eq_true rfl⟩) ⟨fun a U g mk q => by obtain ⟨q0, q1, qP, qK, qD⟩ := q; exact ⟨q0, q1, qP, va_K.moved (u := U) (U := U.calling g mk a) (Vm.Alike.refl U.vm) qK, qD⟩, fun U hU hW => ⟨rfl, by rw [hU], by rw [hU]; exact hPc, va_K.moved hW.alike hKc, hDc.weaken (fun _ _ _ _ => trivial)⟩⟩ rfl rfl hl.1 rfl (lv_room (Nat.le_of_ble_eq_true rfl)) d_K_init_36 ⟨Nat.le_of_ble_eq_true rfl, Nat.le_of_ble_eq_true rfl⟩) hS (fun q _ h => hFc q h) hFc (fun u t H1 locs ht hvm hw hB hz1 hk1 hS => ?_)
  obtain ⟨q1, q2, q3, q4, q5, q6, cZ, f1, f2, f3, f4, f5, f6, hP1, hK1, hD1, g1, g2, g3⟩ := hB
  rw [ht] at hP1
  have hK1 := va_K.moved hvm.symm hK1
  obtain ⟨hP, hD⟩ := va_join (wr := [(h0, .inr (0, [.ref q, .ref ln, .ref wk, .null])), (q, .inl (cR, 4, .inr (.inr (.inr (.inr (fun k => some (q + 1 + k))))))), ((q + 1), .inl (cI, 8, .inl (fun _ => 0))), ((q + 2), .inl (cI, 8, .inl (fun _ => 0))), ((q + 3), .inl (cI, 8, .inl (fun _ => 0))), ((q + 4), .inl (cI, 8, .inl (fun _ => 0))), (ln, .inl (cI, 8, .inl (fun _ => 0))), (wk, .inl (cI, 8, .inl (fun _ => 0)))]) (w1 := [(fd, .inr (1, [.ref q1, .ref q2, .ref q3, .ref q4, .ref q5, .ref q6, .int (-769313487)])), (q1, .inl (cZ, 8, .inl f1)), (q2, .inl (cZ, 8, .inl f2)), (q3, .inl (cZ, 8, .inl f3)), (q4, .inl (cZ, 10, .inl f4)), (q5, .inl (cZ, 8, .inl f5)), (q6, .inl (cZ, 8, .inl f6))]) hP hD [8] [0, 1, 2, 3, 4, 5, 6, 7] rfl rfl (by decide) (by decide) hk1 hFc hP1 hD1
  have hK := (hK.sub (tys' := [(cI, .int), (cR, .array .int)]) [0, 1] rfl).app hK1
  obtain rfl := (va_one (i := 0) (j := 2) hK rfl rfl).symm
  have hK : va_K D classes [(cI, .int), (cR, .array .int)] s := hK.sub [0, 1] rfl
  generalize H1 = H at hP hS ⊢
  have hP : va_P D classes [(h0, .inr (0, [.ref q, .ref ln, .ref wk, .null])), (q, .inl (cR, 4, .inr (.inr (.inr (.inr (fun k => some (q + 1 + k))))))), ((q + 1), .inl (cI, 8, .inl (fun _ => 0))), ((q + 2), .inl (cI, 8, .inl (fun _ => 0))), ((q + 3), .inl (cI, 8, .inl (fun _ => 0))), ((q + 4), .inl (cI, 8, .inl (fun _ => 0))), (ln, .inl (cI, 8, .inl (fun _ => 0))), (wk, .inl (cI, 8, .inl (fun _ => 0))), (fd, .inr (1, [.ref q1, .ref q2, .ref q3, .ref q4, .ref q5, .ref q6, .int (-769313487)])), (q1, .inl (cI, 8, .inl f1)), (q2, .inl (cI, 8, .inl f2)), (q3, .inl (cI, 8, .inl f3)), (q4, .inl (cI, 10, .inl f4)), (q5, .inl (cI, 8, .inl f5)), (q6, .inl (cI, 8, .inl f6))] H := hP
  have hD : va_D A [(h0, .inr (0, [.ref q, .ref ln, .ref wk, .null])), (q, .inl (cR, 4, .inr (.inr (.inr (.inr (fun k => some (q + 1 + k))))))), ((q + 1), .inl (cI, 8, .inl (fun _ => 0))), ((q + 2), .inl (cI, 8, .inl (fun _ => 0))), ((q + 3), .inl (cI, 8, .inl (fun _ => 0))), ((q + 4), .inl (cI, 8, .inl (fun _ => 0))), (ln, .inl (cI, 8, .inl (fun _ => 0))), (wk, .inl (cI, 8, .inl (fun _ => 0))), (fd, .inr (1, [.ref q1, .ref q2, .ref q3, .ref q4, .ref q5, .ref q6, .int (-769313487)])), (q1, .inl (cI, 8, .inl f1)), (q2, .inl (cI, 8, .inl f2)), (q3, .inl (cI, 8, .inl f3)), (q4, .inl (cI, 10, .inl f4)), (q5, .inl (cI, 8, .inl f5)), (q6, .inl (cI, 8, .inl f6))] := hD
  refine W.widen (k := 14) (n := 109) (by decide) (by decide) ?_
  refine va_putF (D := D) (ci := 0) (v := .ref fd) (ty := .object "PrimeKoblitz$Field") (C := R_K) (T := F_K) (N := 4) hx hb hts i_K t_K t_K_ok n_K hown hK hP hD hS 0 rfl rfl 3 (by decide) (hts _ k_48) (fun _ h9 => h9) rfl hin rfl (by decide +kernel) rfl rfl (Nat.le_of_ble_eq_true rfl) d_K_init_39 (fun H locs hP hD hS => ?_)
  have hP : va_P D classes [(h0, .inr (0, [.ref q, .ref ln, .ref wk, .ref fd])), (q, .inl (cR, 4, .inr (.inr (.inr (.inr (fun k => some (q + 1 + k))))))), ((q + 1), .inl (cI, 8, .inl (fun _ => 0))), ((q + 2), .inl (cI, 8, .inl (fun _ => 0))), ((q + 3), .inl (cI, 8, .inl (fun _ => 0))), ((q + 4), .inl (cI, 8, .inl (fun _ => 0))), (ln, .inl (cI, 8, .inl (fun _ => 0))), (wk, .inl (cI, 8, .inl (fun _ => 0))), (fd, .inr (1, [.ref q1, .ref q2, .ref q3, .ref q4, .ref q5, .ref q6, .int (-769313487)])), (q1, .inl (cI, 8, .inl f1)), (q2, .inl (cI, 8, .inl f2)), (q3, .inl (cI, 8, .inl f3)), (q4, .inl (cI, 10, .inl f4)), (q5, .inl (cI, 8, .inl f5)), (q6, .inl (cI, 8, .inl f6))] H := hP
  have hD : va_D A [(h0, .inr (0, [.ref q, .ref ln, .ref wk, .ref fd])), (q, .inl (cR, 4, .inr (.inr (.inr (.inr (fun k => some (q + 1 + k))))))), ((q + 1), .inl (cI, 8, .inl (fun _ => 0))), ((q + 2), .inl (cI, 8, .inl (fun _ => 0))), ((q + 3), .inl (cI, 8, .inl (fun _ => 0))), ((q + 4), .inl (cI, 8, .inl (fun _ => 0))), (ln, .inl (cI, 8, .inl (fun _ => 0))), (wk, .inl (cI, 8, .inl (fun _ => 0))), (fd, .inr (1, [.ref q1, .ref q2, .ref q3, .ref q4, .ref q5, .ref q6, .int (-769313487)])), (q1, .inl (cI, 8, .inl f1)), (q2, .inl (cI, 8, .inl f2)), (q3, .inl (cI, 8, .inl f3)), (q4, .inl (cI, 10, .inl f4)), (q5, .inl (cI, 8, .inl f5)), (q6, .inl (cI, 8, .inl f6))] := hD
  rw [hQ]
  exact W.vret hx hb E.2.2.1 (fun t ht hW => ⟨⟨(), rfl, trivial, q, ln, wk, fd, q1, q2, q3, q4, q5, q6, cR, cI, f1, f2, f3, f4, f5, f6, by rw [ht]; exact hP, va_K.moved hW.alike hK, hD, g1, g2, g3⟩, hS.F ht⟩) hS.2.2 d_K_init_42 E.2.2.2.2.2.2
end
section
theorem d_law_0 : decode code 0 = .ok (.new 7, 3) := by decide +kernel
theorem d_law_3 : decode code 3 = .ok (.dup, 1) := by decide +kernel
theorem d_law_4 : decode code 4 = .ok (.invokespecial 9, 3) := by decide +kernel
theorem d_law_7 : decode code 7 = .ok (.astore_n 1, 1) := by decide +kernel
theorem d_law_8 : decode code 8 = .ok (.new 10, 3) := by decide +kernel
theorem d_law_11 : decode code 11 = .ok (.dup, 1) := by decide +kernel
theorem d_law_12 : decode code 12 = .ok (.invokespecial 12, 3) := by decide +kernel
theorem d_law_15 : decode code 15 = .ok (.astore_n 2, 1) := by decide +kernel
theorem d_law_16 : decode code 16 = .ok (.iconst 0, 1) := by decide +kernel
theorem d_law_17 : decode code 17 = .ok (.istore_n 3, 1) := by decide +kernel
theorem d_law_18 : decode code 18 = .ok (.iload_n 3, 1) := by decide +kernel
theorem d_law_19 : decode code 19 = .ok (.aload_n 0, 1) := by decide +kernel
theorem d_law_20 : decode code 20 = .ok (.arraylength, 1) := by decide +kernel
theorem d_law_21 : decode code 21 = .ok (.bipush 6, 2) := by decide +kernel
theorem d_law_23 : decode code 23 = .ok (.isub, 1) := by decide +kernel
theorem d_law_24 : decode code 24 = .ok (.if_icmp .gt 578, 3) := by decide +kernel
theorem d_law_27 : decode code 27 = .ok (.aload_n 0, 1) := by decide +kernel
theorem d_law_28 : decode code 28 = .ok (.iload_n 3, 1) := by decide +kernel
theorem d_law_29 : decode code 29 = .ok (.iaload, 1) := by decide +kernel
theorem d_law_30 : decode code 30 = .ok (.bipush 15, 2) := by decide +kernel
theorem d_law_32 : decode code 32 = .ok (.iand, 1) := by decide +kernel
theorem d_law_33 : decode code 33 = .ok (.tableswitch 563 0 13 #[71, 132, 155, 188, 229, 270, 311, 342, 383, 414, 445, 476, 509, 532], 71) := by decide +kernel
theorem d_law_104 : decode code 104 = .ok (.aload_n 1, 1) := by decide +kernel
theorem d_law_105 : decode code 105 = .ok (.aload_n 0, 1) := by decide +kernel
theorem d_law_106 : decode code 106 = .ok (.iload_n 3, 1) := by decide +kernel
theorem d_law_107 : decode code 107 = .ok (.iconst 1, 1) := by decide +kernel
theorem d_law_108 : decode code 108 = .ok (.iadd, 1) := by decide +kernel
theorem d_law_109 : decode code 109 = .ok (.iaload, 1) := by decide +kernel
theorem d_law_110 : decode code 110 = .ok (.aload_n 0, 1) := by decide +kernel
theorem d_law_111 : decode code 111 = .ok (.iload_n 3, 1) := by decide +kernel
theorem d_law_112 : decode code 112 = .ok (.iconst 2, 1) := by decide +kernel
theorem d_law_113 : decode code 113 = .ok (.iadd, 1) := by decide +kernel
theorem d_law_114 : decode code 114 = .ok (.iaload, 1) := by decide +kernel
theorem d_law_115 : decode code 115 = .ok (.aload_n 0, 1) := by decide +kernel
theorem d_law_116 : decode code 116 = .ok (.iload_n 3, 1) := by decide +kernel
theorem d_law_117 : decode code 117 = .ok (.iconst 3, 1) := by decide +kernel
theorem d_law_118 : decode code 118 = .ok (.iadd, 1) := by decide +kernel
theorem d_law_119 : decode code 119 = .ok (.iaload, 1) := by decide +kernel
theorem d_law_120 : decode code 120 = .ok (.aload_n 0, 1) := by decide +kernel
theorem d_law_121 : decode code 121 = .ok (.iload_n 3, 1) := by decide +kernel
theorem d_law_122 : decode code 122 = .ok (.iconst 4, 1) := by decide +kernel
theorem d_law_123 : decode code 123 = .ok (.iadd, 1) := by decide +kernel
theorem d_law_124 : decode code 124 = .ok (.iaload, 1) := by decide +kernel
theorem d_law_125 : decode code 125 = .ok (.aload_n 0, 1) := by decide +kernel
theorem d_law_126 : decode code 126 = .ok (.iload_n 3, 1) := by decide +kernel
theorem d_law_127 : decode code 127 = .ok (.iconst 5, 1) := by decide +kernel
theorem d_law_128 : decode code 128 = .ok (.iadd, 1) := by decide +kernel
theorem d_law_129 : decode code 129 = .ok (.iaload, 1) := by decide +kernel
theorem d_law_130 : decode code 130 = .ok (.invokevirtual 13, 3) := by decide +kernel
theorem d_law_133 : decode code 133 = .ok (.aload_n 2, 1) := by decide +kernel
theorem d_law_134 : decode code 134 = .ok (.aload_n 0, 1) := by decide +kernel
theorem d_law_135 : decode code 135 = .ok (.iload_n 3, 1) := by decide +kernel
theorem d_law_136 : decode code 136 = .ok (.iconst 1, 1) := by decide +kernel
theorem d_law_137 : decode code 137 = .ok (.iadd, 1) := by decide +kernel
theorem d_law_138 : decode code 138 = .ok (.iaload, 1) := by decide +kernel
theorem d_law_139 : decode code 139 = .ok (.aload_n 0, 1) := by decide +kernel
theorem d_law_140 : decode code 140 = .ok (.iload_n 3, 1) := by decide +kernel
theorem d_law_141 : decode code 141 = .ok (.iconst 2, 1) := by decide +kernel
theorem d_law_142 : decode code 142 = .ok (.iadd, 1) := by decide +kernel
theorem d_law_143 : decode code 143 = .ok (.iaload, 1) := by decide +kernel
theorem d_law_144 : decode code 144 = .ok (.aload_n 0, 1) := by decide +kernel
theorem d_law_145 : decode code 145 = .ok (.iload_n 3, 1) := by decide +kernel
theorem d_law_146 : decode code 146 = .ok (.iconst 3, 1) := by decide +kernel
theorem d_law_147 : decode code 147 = .ok (.iadd, 1) := by decide +kernel
theorem d_law_148 : decode code 148 = .ok (.iaload, 1) := by decide +kernel
theorem d_law_149 : decode code 149 = .ok (.aload_n 0, 1) := by decide +kernel
theorem d_law_150 : decode code 150 = .ok (.iload_n 3, 1) := by decide +kernel
theorem d_law_151 : decode code 151 = .ok (.iconst 4, 1) := by decide +kernel
theorem d_law_152 : decode code 152 = .ok (.iadd, 1) := by decide +kernel
theorem d_law_153 : decode code 153 = .ok (.iaload, 1) := by decide +kernel
theorem d_law_154 : decode code 154 = .ok (.aload_n 0, 1) := by decide +kernel
theorem d_law_155 : decode code 155 = .ok (.iload_n 3, 1) := by decide +kernel
theorem d_law_156 : decode code 156 = .ok (.iconst 5, 1) := by decide +kernel
theorem d_law_157 : decode code 157 = .ok (.iadd, 1) := by decide +kernel
theorem d_law_158 : decode code 158 = .ok (.iaload, 1) := by decide +kernel
theorem d_law_159 : decode code 159 = .ok (.invokevirtual 17, 3) := by decide +kernel
theorem d_law_162 : decode code 162 = .ok (.goto 434, 3) := by decide +kernel
theorem d_law_165 : decode code 165 = .ok (.aload_n 1, 1) := by decide +kernel
theorem d_law_166 : decode code 166 = .ok (.aload_n 0, 1) := by decide +kernel
theorem d_law_167 : decode code 167 = .ok (.iload_n 3, 1) := by decide +kernel
theorem d_law_168 : decode code 168 = .ok (.iconst 1, 1) := by decide +kernel
theorem d_law_169 : decode code 169 = .ok (.iadd, 1) := by decide +kernel
theorem d_law_170 : decode code 170 = .ok (.iaload, 1) := by decide +kernel
theorem d_law_171 : decode code 171 = .ok (.invokevirtual 18, 3) := by decide +kernel
theorem d_law_174 : decode code 174 = .ok (.aload_n 2, 1) := by decide +kernel
theorem d_law_175 : decode code 175 = .ok (.aload_n 0, 1) := by decide +kernel
theorem d_law_176 : decode code 176 = .ok (.iload_n 3, 1) := by decide +kernel
theorem d_law_177 : decode code 177 = .ok (.iconst 1, 1) := by decide +kernel
theorem d_law_178 : decode code 178 = .ok (.iadd, 1) := by decide +kernel
theorem d_law_179 : decode code 179 = .ok (.iaload, 1) := by decide +kernel
theorem d_law_180 : decode code 180 = .ok (.invokevirtual 22, 3) := by decide +kernel
theorem d_law_183 : decode code 183 = .ok (.if_icmp .eq 413, 3) := by decide +kernel
theorem d_law_186 : decode code 186 = .ok (.iconst 0, 1) := by decide +kernel
theorem d_law_187 : decode code 187 = .ok (.ireturn, 1) := by decide +kernel
theorem d_law_188 : decode code 188 = .ok (.aload_n 1, 1) := by decide +kernel
theorem d_law_189 : decode code 189 = .ok (.aload_n 0, 1) := by decide +kernel
theorem d_law_190 : decode code 190 = .ok (.iload_n 3, 1) := by decide +kernel
theorem d_law_191 : decode code 191 = .ok (.iconst 1, 1) := by decide +kernel
theorem d_law_192 : decode code 192 = .ok (.iadd, 1) := by decide +kernel
theorem d_law_193 : decode code 193 = .ok (.iaload, 1) := by decide +kernel
theorem d_law_194 : decode code 194 = .ok (.aload_n 0, 1) := by decide +kernel
theorem d_law_195 : decode code 195 = .ok (.iload_n 3, 1) := by decide +kernel
theorem d_law_196 : decode code 196 = .ok (.iconst 2, 1) := by decide +kernel
theorem d_law_197 : decode code 197 = .ok (.iadd, 1) := by decide +kernel
theorem d_law_198 : decode code 198 = .ok (.iaload, 1) := by decide +kernel
theorem d_law_199 : decode code 199 = .ok (.invokevirtual 23, 3) := by decide +kernel
theorem d_law_202 : decode code 202 = .ok (.aload_n 2, 1) := by decide +kernel
theorem d_law_203 : decode code 203 = .ok (.aload_n 0, 1) := by decide +kernel
theorem d_law_204 : decode code 204 = .ok (.iload_n 3, 1) := by decide +kernel
theorem d_law_205 : decode code 205 = .ok (.iconst 1, 1) := by decide +kernel
theorem d_law_206 : decode code 206 = .ok (.iadd, 1) := by decide +kernel
theorem d_law_207 : decode code 207 = .ok (.iaload, 1) := by decide +kernel
theorem d_law_208 : decode code 208 = .ok (.aload_n 0, 1) := by decide +kernel
theorem d_law_209 : decode code 209 = .ok (.iload_n 3, 1) := by decide +kernel
theorem d_law_210 : decode code 210 = .ok (.iconst 2, 1) := by decide +kernel
theorem d_law_211 : decode code 211 = .ok (.iadd, 1) := by decide +kernel
theorem d_law_212 : decode code 212 = .ok (.iaload, 1) := by decide +kernel
theorem d_law_213 : decode code 213 = .ok (.invokevirtual 27, 3) := by decide +kernel
theorem d_law_216 : decode code 216 = .ok (.if_icmp .eq 380, 3) := by decide +kernel
theorem d_law_219 : decode code 219 = .ok (.iconst 0, 1) := by decide +kernel
theorem d_law_220 : decode code 220 = .ok (.ireturn, 1) := by decide +kernel
theorem d_law_221 : decode code 221 = .ok (.aload_n 1, 1) := by decide +kernel
theorem d_law_222 : decode code 222 = .ok (.aload_n 0, 1) := by decide +kernel
theorem d_law_223 : decode code 223 = .ok (.iload_n 3, 1) := by decide +kernel
theorem d_law_224 : decode code 224 = .ok (.iconst 1, 1) := by decide +kernel
theorem d_law_225 : decode code 225 = .ok (.iadd, 1) := by decide +kernel
theorem d_law_226 : decode code 226 = .ok (.iaload, 1) := by decide +kernel
theorem d_law_227 : decode code 227 = .ok (.aload_n 0, 1) := by decide +kernel
theorem d_law_228 : decode code 228 = .ok (.iload_n 3, 1) := by decide +kernel
theorem d_law_229 : decode code 229 = .ok (.iconst 2, 1) := by decide +kernel
theorem d_law_230 : decode code 230 = .ok (.iadd, 1) := by decide +kernel
theorem d_law_231 : decode code 231 = .ok (.iaload, 1) := by decide +kernel
theorem d_law_232 : decode code 232 = .ok (.aload_n 0, 1) := by decide +kernel
theorem d_law_233 : decode code 233 = .ok (.iload_n 3, 1) := by decide +kernel
theorem d_law_234 : decode code 234 = .ok (.iconst 3, 1) := by decide +kernel
theorem d_law_235 : decode code 235 = .ok (.iadd, 1) := by decide +kernel
theorem d_law_236 : decode code 236 = .ok (.iaload, 1) := by decide +kernel
theorem d_law_237 : decode code 237 = .ok (.invokevirtual 28, 3) := by decide +kernel
theorem d_law_240 : decode code 240 = .ok (.aload_n 2, 1) := by decide +kernel
theorem d_law_241 : decode code 241 = .ok (.aload_n 0, 1) := by decide +kernel
theorem d_law_242 : decode code 242 = .ok (.iload_n 3, 1) := by decide +kernel
theorem d_law_243 : decode code 243 = .ok (.iconst 1, 1) := by decide +kernel
theorem d_law_244 : decode code 244 = .ok (.iadd, 1) := by decide +kernel
theorem d_law_245 : decode code 245 = .ok (.iaload, 1) := by decide +kernel
theorem d_law_246 : decode code 246 = .ok (.aload_n 0, 1) := by decide +kernel
theorem d_law_247 : decode code 247 = .ok (.iload_n 3, 1) := by decide +kernel
theorem d_law_248 : decode code 248 = .ok (.iconst 2, 1) := by decide +kernel
theorem d_law_249 : decode code 249 = .ok (.iadd, 1) := by decide +kernel
theorem d_law_250 : decode code 250 = .ok (.iaload, 1) := by decide +kernel
theorem d_law_251 : decode code 251 = .ok (.aload_n 0, 1) := by decide +kernel
theorem d_law_252 : decode code 252 = .ok (.iload_n 3, 1) := by decide +kernel
theorem d_law_253 : decode code 253 = .ok (.iconst 3, 1) := by decide +kernel
theorem d_law_254 : decode code 254 = .ok (.iadd, 1) := by decide +kernel
theorem d_law_255 : decode code 255 = .ok (.iaload, 1) := by decide +kernel
theorem d_law_256 : decode code 256 = .ok (.invokevirtual 32, 3) := by decide +kernel
theorem d_law_259 : decode code 259 = .ok (.goto 337, 3) := by decide +kernel
theorem d_law_262 : decode code 262 = .ok (.aload_n 1, 1) := by decide +kernel
theorem d_law_263 : decode code 263 = .ok (.aload_n 0, 1) := by decide +kernel
theorem d_law_264 : decode code 264 = .ok (.iload_n 3, 1) := by decide +kernel
theorem d_law_265 : decode code 265 = .ok (.iconst 1, 1) := by decide +kernel
theorem d_law_266 : decode code 266 = .ok (.iadd, 1) := by decide +kernel
theorem d_law_267 : decode code 267 = .ok (.iaload, 1) := by decide +kernel
theorem d_law_268 : decode code 268 = .ok (.aload_n 0, 1) := by decide +kernel
theorem d_law_269 : decode code 269 = .ok (.iload_n 3, 1) := by decide +kernel
theorem d_law_270 : decode code 270 = .ok (.iconst 2, 1) := by decide +kernel
theorem d_law_271 : decode code 271 = .ok (.iadd, 1) := by decide +kernel
theorem d_law_272 : decode code 272 = .ok (.iaload, 1) := by decide +kernel
theorem d_law_273 : decode code 273 = .ok (.aload_n 0, 1) := by decide +kernel
theorem d_law_274 : decode code 274 = .ok (.iload_n 3, 1) := by decide +kernel
theorem d_law_275 : decode code 275 = .ok (.iconst 3, 1) := by decide +kernel
theorem d_law_276 : decode code 276 = .ok (.iadd, 1) := by decide +kernel
theorem d_law_277 : decode code 277 = .ok (.iaload, 1) := by decide +kernel
theorem d_law_278 : decode code 278 = .ok (.invokevirtual 33, 3) := by decide +kernel
theorem d_law_281 : decode code 281 = .ok (.aload_n 2, 1) := by decide +kernel
theorem d_law_282 : decode code 282 = .ok (.aload_n 0, 1) := by decide +kernel
theorem d_law_283 : decode code 283 = .ok (.iload_n 3, 1) := by decide +kernel
theorem d_law_284 : decode code 284 = .ok (.iconst 1, 1) := by decide +kernel
theorem d_law_285 : decode code 285 = .ok (.iadd, 1) := by decide +kernel
theorem d_law_286 : decode code 286 = .ok (.iaload, 1) := by decide +kernel
theorem d_law_287 : decode code 287 = .ok (.aload_n 0, 1) := by decide +kernel
theorem d_law_288 : decode code 288 = .ok (.iload_n 3, 1) := by decide +kernel
theorem d_law_289 : decode code 289 = .ok (.iconst 2, 1) := by decide +kernel
theorem d_law_290 : decode code 290 = .ok (.iadd, 1) := by decide +kernel
theorem d_law_291 : decode code 291 = .ok (.iaload, 1) := by decide +kernel
theorem d_law_292 : decode code 292 = .ok (.aload_n 0, 1) := by decide +kernel
theorem d_law_293 : decode code 293 = .ok (.iload_n 3, 1) := by decide +kernel
theorem d_law_294 : decode code 294 = .ok (.iconst 3, 1) := by decide +kernel
theorem d_law_295 : decode code 295 = .ok (.iadd, 1) := by decide +kernel
theorem d_law_296 : decode code 296 = .ok (.iaload, 1) := by decide +kernel
theorem d_law_297 : decode code 297 = .ok (.invokevirtual 36, 3) := by decide +kernel
theorem d_law_300 : decode code 300 = .ok (.goto 296, 3) := by decide +kernel
theorem d_law_303 : decode code 303 = .ok (.aload_n 1, 1) := by decide +kernel
theorem d_law_304 : decode code 304 = .ok (.aload_n 0, 1) := by decide +kernel
theorem d_law_305 : decode code 305 = .ok (.iload_n 3, 1) := by decide +kernel
theorem d_law_306 : decode code 306 = .ok (.iconst 1, 1) := by decide +kernel
theorem d_law_307 : decode code 307 = .ok (.iadd, 1) := by decide +kernel
theorem d_law_308 : decode code 308 = .ok (.iaload, 1) := by decide +kernel
theorem d_law_309 : decode code 309 = .ok (.aload_n 0, 1) := by decide +kernel
theorem d_law_310 : decode code 310 = .ok (.iload_n 3, 1) := by decide +kernel
theorem d_law_311 : decode code 311 = .ok (.iconst 2, 1) := by decide +kernel
theorem d_law_312 : decode code 312 = .ok (.iadd, 1) := by decide +kernel
theorem d_law_313 : decode code 313 = .ok (.iaload, 1) := by decide +kernel
theorem d_law_314 : decode code 314 = .ok (.aload_n 0, 1) := by decide +kernel
theorem d_law_315 : decode code 315 = .ok (.iload_n 3, 1) := by decide +kernel
theorem d_law_316 : decode code 316 = .ok (.iconst 3, 1) := by decide +kernel
theorem d_law_317 : decode code 317 = .ok (.iadd, 1) := by decide +kernel
theorem d_law_318 : decode code 318 = .ok (.iaload, 1) := by decide +kernel
theorem d_law_319 : decode code 319 = .ok (.invokevirtual 37, 3) := by decide +kernel
theorem d_law_322 : decode code 322 = .ok (.aload_n 2, 1) := by decide +kernel
theorem d_law_323 : decode code 323 = .ok (.aload_n 0, 1) := by decide +kernel
theorem d_law_324 : decode code 324 = .ok (.iload_n 3, 1) := by decide +kernel
theorem d_law_325 : decode code 325 = .ok (.iconst 1, 1) := by decide +kernel
theorem d_law_326 : decode code 326 = .ok (.iadd, 1) := by decide +kernel
theorem d_law_327 : decode code 327 = .ok (.iaload, 1) := by decide +kernel
theorem d_law_328 : decode code 328 = .ok (.aload_n 0, 1) := by decide +kernel
theorem d_law_329 : decode code 329 = .ok (.iload_n 3, 1) := by decide +kernel
theorem d_law_330 : decode code 330 = .ok (.iconst 2, 1) := by decide +kernel
end
section
theorem d_law_331 : decode code 331 = .ok (.iadd, 1) := by decide +kernel
theorem d_law_332 : decode code 332 = .ok (.iaload, 1) := by decide +kernel
theorem d_law_333 : decode code 333 = .ok (.aload_n 0, 1) := by decide +kernel
theorem d_law_334 : decode code 334 = .ok (.iload_n 3, 1) := by decide +kernel
theorem d_law_335 : decode code 335 = .ok (.iconst 3, 1) := by decide +kernel
theorem d_law_336 : decode code 336 = .ok (.iadd, 1) := by decide +kernel
theorem d_law_337 : decode code 337 = .ok (.iaload, 1) := by decide +kernel
theorem d_law_338 : decode code 338 = .ok (.invokevirtual 40, 3) := by decide +kernel
theorem d_law_341 : decode code 341 = .ok (.goto 255, 3) := by decide +kernel
theorem d_law_344 : decode code 344 = .ok (.aload_n 1, 1) := by decide +kernel
theorem d_law_345 : decode code 345 = .ok (.aload_n 0, 1) := by decide +kernel
theorem d_law_346 : decode code 346 = .ok (.iload_n 3, 1) := by decide +kernel
theorem d_law_347 : decode code 347 = .ok (.iconst 1, 1) := by decide +kernel
theorem d_law_348 : decode code 348 = .ok (.iadd, 1) := by decide +kernel
theorem d_law_349 : decode code 349 = .ok (.iaload, 1) := by decide +kernel
theorem d_law_350 : decode code 350 = .ok (.aload_n 0, 1) := by decide +kernel
theorem d_law_351 : decode code 351 = .ok (.iload_n 3, 1) := by decide +kernel
theorem d_law_352 : decode code 352 = .ok (.iconst 2, 1) := by decide +kernel
theorem d_law_353 : decode code 353 = .ok (.iadd, 1) := by decide +kernel
theorem d_law_354 : decode code 354 = .ok (.iaload, 1) := by decide +kernel
theorem d_law_355 : decode code 355 = .ok (.invokevirtual 41, 3) := by decide +kernel
theorem d_law_358 : decode code 358 = .ok (.aload_n 2, 1) := by decide +kernel
theorem d_law_359 : decode code 359 = .ok (.aload_n 0, 1) := by decide +kernel
theorem d_law_360 : decode code 360 = .ok (.iload_n 3, 1) := by decide +kernel
theorem d_law_361 : decode code 361 = .ok (.iconst 1, 1) := by decide +kernel
theorem d_law_362 : decode code 362 = .ok (.iadd, 1) := by decide +kernel
theorem d_law_363 : decode code 363 = .ok (.iaload, 1) := by decide +kernel
theorem d_law_364 : decode code 364 = .ok (.aload_n 0, 1) := by decide +kernel
theorem d_law_365 : decode code 365 = .ok (.iload_n 3, 1) := by decide +kernel
theorem d_law_366 : decode code 366 = .ok (.iconst 2, 1) := by decide +kernel
theorem d_law_367 : decode code 367 = .ok (.iadd, 1) := by decide +kernel
theorem d_law_368 : decode code 368 = .ok (.iaload, 1) := by decide +kernel
theorem d_law_369 : decode code 369 = .ok (.invokevirtual 45, 3) := by decide +kernel
theorem d_law_372 : decode code 372 = .ok (.goto 224, 3) := by decide +kernel
theorem d_law_375 : decode code 375 = .ok (.aload_n 1, 1) := by decide +kernel
theorem d_law_376 : decode code 376 = .ok (.aload_n 0, 1) := by decide +kernel
theorem d_law_377 : decode code 377 = .ok (.iload_n 3, 1) := by decide +kernel
theorem d_law_378 : decode code 378 = .ok (.iconst 1, 1) := by decide +kernel
theorem d_law_379 : decode code 379 = .ok (.iadd, 1) := by decide +kernel
theorem d_law_380 : decode code 380 = .ok (.iaload, 1) := by decide +kernel
theorem d_law_381 : decode code 381 = .ok (.aload_n 0, 1) := by decide +kernel
theorem d_law_382 : decode code 382 = .ok (.iload_n 3, 1) := by decide +kernel
theorem d_law_383 : decode code 383 = .ok (.iconst 2, 1) := by decide +kernel
theorem d_law_384 : decode code 384 = .ok (.iadd, 1) := by decide +kernel
theorem d_law_385 : decode code 385 = .ok (.iaload, 1) := by decide +kernel
theorem d_law_386 : decode code 386 = .ok (.aload_n 0, 1) := by decide +kernel
theorem d_law_387 : decode code 387 = .ok (.iload_n 3, 1) := by decide +kernel
theorem d_law_388 : decode code 388 = .ok (.iconst 3, 1) := by decide +kernel
theorem d_law_389 : decode code 389 = .ok (.iadd, 1) := by decide +kernel
theorem d_law_390 : decode code 390 = .ok (.iaload, 1) := by decide +kernel
theorem d_law_391 : decode code 391 = .ok (.invokevirtual 46, 3) := by decide +kernel
theorem d_law_394 : decode code 394 = .ok (.aload_n 2, 1) := by decide +kernel
theorem d_law_395 : decode code 395 = .ok (.aload_n 0, 1) := by decide +kernel
theorem d_law_396 : decode code 396 = .ok (.iload_n 3, 1) := by decide +kernel
theorem d_law_397 : decode code 397 = .ok (.iconst 1, 1) := by decide +kernel
theorem d_law_398 : decode code 398 = .ok (.iadd, 1) := by decide +kernel
theorem d_law_399 : decode code 399 = .ok (.iaload, 1) := by decide +kernel
theorem d_law_400 : decode code 400 = .ok (.aload_n 0, 1) := by decide +kernel
theorem d_law_401 : decode code 401 = .ok (.iload_n 3, 1) := by decide +kernel
theorem d_law_402 : decode code 402 = .ok (.iconst 2, 1) := by decide +kernel
theorem d_law_403 : decode code 403 = .ok (.iadd, 1) := by decide +kernel
theorem d_law_404 : decode code 404 = .ok (.iaload, 1) := by decide +kernel
theorem d_law_405 : decode code 405 = .ok (.aload_n 0, 1) := by decide +kernel
theorem d_law_406 : decode code 406 = .ok (.iload_n 3, 1) := by decide +kernel
theorem d_law_407 : decode code 407 = .ok (.iconst 3, 1) := by decide +kernel
theorem d_law_408 : decode code 408 = .ok (.iadd, 1) := by decide +kernel
theorem d_law_409 : decode code 409 = .ok (.iaload, 1) := by decide +kernel
theorem d_law_410 : decode code 410 = .ok (.invokevirtual 49, 3) := by decide +kernel
theorem d_law_413 : decode code 413 = .ok (.goto 183, 3) := by decide +kernel
theorem d_law_416 : decode code 416 = .ok (.aload_n 1, 1) := by decide +kernel
theorem d_law_417 : decode code 417 = .ok (.aload_n 0, 1) := by decide +kernel
theorem d_law_418 : decode code 418 = .ok (.iload_n 3, 1) := by decide +kernel
theorem d_law_419 : decode code 419 = .ok (.iconst 1, 1) := by decide +kernel
theorem d_law_420 : decode code 420 = .ok (.iadd, 1) := by decide +kernel
theorem d_law_421 : decode code 421 = .ok (.iaload, 1) := by decide +kernel
theorem d_law_422 : decode code 422 = .ok (.aload_n 0, 1) := by decide +kernel
theorem d_law_423 : decode code 423 = .ok (.iload_n 3, 1) := by decide +kernel
theorem d_law_424 : decode code 424 = .ok (.iconst 2, 1) := by decide +kernel
theorem d_law_425 : decode code 425 = .ok (.iadd, 1) := by decide +kernel
theorem d_law_426 : decode code 426 = .ok (.iaload, 1) := by decide +kernel
theorem d_law_427 : decode code 427 = .ok (.invokevirtual 50, 3) := by decide +kernel
theorem d_law_430 : decode code 430 = .ok (.aload_n 2, 1) := by decide +kernel
theorem d_law_431 : decode code 431 = .ok (.aload_n 0, 1) := by decide +kernel
theorem d_law_432 : decode code 432 = .ok (.iload_n 3, 1) := by decide +kernel
theorem d_law_433 : decode code 433 = .ok (.iconst 1, 1) := by decide +kernel
theorem d_law_434 : decode code 434 = .ok (.iadd, 1) := by decide +kernel
theorem d_law_435 : decode code 435 = .ok (.iaload, 1) := by decide +kernel
theorem d_law_436 : decode code 436 = .ok (.aload_n 0, 1) := by decide +kernel
theorem d_law_437 : decode code 437 = .ok (.iload_n 3, 1) := by decide +kernel
theorem d_law_438 : decode code 438 = .ok (.iconst 2, 1) := by decide +kernel
theorem d_law_439 : decode code 439 = .ok (.iadd, 1) := by decide +kernel
theorem d_law_440 : decode code 440 = .ok (.iaload, 1) := by decide +kernel
theorem d_law_441 : decode code 441 = .ok (.invokevirtual 53, 3) := by decide +kernel
theorem d_law_444 : decode code 444 = .ok (.goto 152, 3) := by decide +kernel
theorem d_law_447 : decode code 447 = .ok (.aload_n 1, 1) := by decide +kernel
theorem d_law_448 : decode code 448 = .ok (.aload_n 0, 1) := by decide +kernel
theorem d_law_449 : decode code 449 = .ok (.iload_n 3, 1) := by decide +kernel
theorem d_law_450 : decode code 450 = .ok (.iconst 1, 1) := by decide +kernel
theorem d_law_451 : decode code 451 = .ok (.iadd, 1) := by decide +kernel
theorem d_law_452 : decode code 452 = .ok (.iaload, 1) := by decide +kernel
theorem d_law_453 : decode code 453 = .ok (.aload_n 0, 1) := by decide +kernel
theorem d_law_454 : decode code 454 = .ok (.iload_n 3, 1) := by decide +kernel
theorem d_law_455 : decode code 455 = .ok (.iconst 2, 1) := by decide +kernel
theorem d_law_456 : decode code 456 = .ok (.iadd, 1) := by decide +kernel
theorem d_law_457 : decode code 457 = .ok (.iaload, 1) := by decide +kernel
theorem d_law_458 : decode code 458 = .ok (.invokevirtual 54, 3) := by decide +kernel
theorem d_law_461 : decode code 461 = .ok (.aload_n 2, 1) := by decide +kernel
theorem d_law_462 : decode code 462 = .ok (.aload_n 0, 1) := by decide +kernel
theorem d_law_463 : decode code 463 = .ok (.iload_n 3, 1) := by decide +kernel
theorem d_law_464 : decode code 464 = .ok (.iconst 1, 1) := by decide +kernel
theorem d_law_465 : decode code 465 = .ok (.iadd, 1) := by decide +kernel
theorem d_law_466 : decode code 466 = .ok (.iaload, 1) := by decide +kernel
theorem d_law_467 : decode code 467 = .ok (.aload_n 0, 1) := by decide +kernel
theorem d_law_468 : decode code 468 = .ok (.iload_n 3, 1) := by decide +kernel
theorem d_law_469 : decode code 469 = .ok (.iconst 2, 1) := by decide +kernel
theorem d_law_470 : decode code 470 = .ok (.iadd, 1) := by decide +kernel
theorem d_law_471 : decode code 471 = .ok (.iaload, 1) := by decide +kernel
theorem d_law_472 : decode code 472 = .ok (.invokevirtual 57, 3) := by decide +kernel
theorem d_law_475 : decode code 475 = .ok (.goto 121, 3) := by decide +kernel
theorem d_law_478 : decode code 478 = .ok (.aload_n 1, 1) := by decide +kernel
theorem d_law_479 : decode code 479 = .ok (.aload_n 0, 1) := by decide +kernel
theorem d_law_480 : decode code 480 = .ok (.iload_n 3, 1) := by decide +kernel
theorem d_law_481 : decode code 481 = .ok (.iconst 1, 1) := by decide +kernel
theorem d_law_482 : decode code 482 = .ok (.iadd, 1) := by decide +kernel
theorem d_law_483 : decode code 483 = .ok (.iaload, 1) := by decide +kernel
theorem d_law_484 : decode code 484 = .ok (.aload_n 0, 1) := by decide +kernel
theorem d_law_485 : decode code 485 = .ok (.iload_n 3, 1) := by decide +kernel
theorem d_law_486 : decode code 486 = .ok (.iconst 2, 1) := by decide +kernel
theorem d_law_487 : decode code 487 = .ok (.iadd, 1) := by decide +kernel
theorem d_law_488 : decode code 488 = .ok (.iaload, 1) := by decide +kernel
theorem d_law_489 : decode code 489 = .ok (.invokevirtual 58, 3) := by decide +kernel
theorem d_law_492 : decode code 492 = .ok (.aload_n 2, 1) := by decide +kernel
theorem d_law_493 : decode code 493 = .ok (.aload_n 0, 1) := by decide +kernel
theorem d_law_494 : decode code 494 = .ok (.iload_n 3, 1) := by decide +kernel
theorem d_law_495 : decode code 495 = .ok (.iconst 1, 1) := by decide +kernel
theorem d_law_496 : decode code 496 = .ok (.iadd, 1) := by decide +kernel
theorem d_law_497 : decode code 497 = .ok (.iaload, 1) := by decide +kernel
theorem d_law_498 : decode code 498 = .ok (.aload_n 0, 1) := by decide +kernel
theorem d_law_499 : decode code 499 = .ok (.iload_n 3, 1) := by decide +kernel
theorem d_law_500 : decode code 500 = .ok (.iconst 2, 1) := by decide +kernel
theorem d_law_501 : decode code 501 = .ok (.iadd, 1) := by decide +kernel
theorem d_law_502 : decode code 502 = .ok (.iaload, 1) := by decide +kernel
theorem d_law_503 : decode code 503 = .ok (.invokevirtual 61, 3) := by decide +kernel
theorem d_law_506 : decode code 506 = .ok (.goto 90, 3) := by decide +kernel
theorem d_law_509 : decode code 509 = .ok (.aload_n 1, 1) := by decide +kernel
theorem d_law_510 : decode code 510 = .ok (.aload_n 0, 1) := by decide +kernel
theorem d_law_511 : decode code 511 = .ok (.iload_n 3, 1) := by decide +kernel
theorem d_law_512 : decode code 512 = .ok (.iconst 1, 1) := by decide +kernel
theorem d_law_513 : decode code 513 = .ok (.iadd, 1) := by decide +kernel
theorem d_law_514 : decode code 514 = .ok (.iaload, 1) := by decide +kernel
theorem d_law_515 : decode code 515 = .ok (.aload_n 0, 1) := by decide +kernel
theorem d_law_516 : decode code 516 = .ok (.iload_n 3, 1) := by decide +kernel
theorem d_law_517 : decode code 517 = .ok (.iconst 2, 1) := by decide +kernel
theorem d_law_518 : decode code 518 = .ok (.iadd, 1) := by decide +kernel
theorem d_law_519 : decode code 519 = .ok (.iaload, 1) := by decide +kernel
theorem d_law_520 : decode code 520 = .ok (.invokevirtual 62, 3) := by decide +kernel
theorem d_law_523 : decode code 523 = .ok (.aload_n 2, 1) := by decide +kernel
theorem d_law_524 : decode code 524 = .ok (.aload_n 0, 1) := by decide +kernel
theorem d_law_525 : decode code 525 = .ok (.iload_n 3, 1) := by decide +kernel
theorem d_law_526 : decode code 526 = .ok (.iconst 1, 1) := by decide +kernel
theorem d_law_527 : decode code 527 = .ok (.iadd, 1) := by decide +kernel
theorem d_law_528 : decode code 528 = .ok (.iaload, 1) := by decide +kernel
theorem d_law_529 : decode code 529 = .ok (.aload_n 0, 1) := by decide +kernel
theorem d_law_530 : decode code 530 = .ok (.iload_n 3, 1) := by decide +kernel
theorem d_law_531 : decode code 531 = .ok (.iconst 2, 1) := by decide +kernel
theorem d_law_532 : decode code 532 = .ok (.iadd, 1) := by decide +kernel
theorem d_law_533 : decode code 533 = .ok (.iaload, 1) := by decide +kernel
theorem d_law_534 : decode code 534 = .ok (.invokevirtual 66, 3) := by decide +kernel
theorem d_law_537 : decode code 537 = .ok (.if_icmp .eq 59, 3) := by decide +kernel
theorem d_law_540 : decode code 540 = .ok (.iconst 0, 1) := by decide +kernel
theorem d_law_541 : decode code 541 = .ok (.ireturn, 1) := by decide +kernel
theorem d_law_542 : decode code 542 = .ok (.aload_n 1, 1) := by decide +kernel
theorem d_law_543 : decode code 543 = .ok (.aload_n 0, 1) := by decide +kernel
theorem d_law_544 : decode code 544 = .ok (.iload_n 3, 1) := by decide +kernel
theorem d_law_545 : decode code 545 = .ok (.iconst 1, 1) := by decide +kernel
theorem d_law_546 : decode code 546 = .ok (.iadd, 1) := by decide +kernel
theorem d_law_547 : decode code 547 = .ok (.iaload, 1) := by decide +kernel
theorem d_law_548 : decode code 548 = .ok (.invokevirtual 67, 3) := by decide +kernel
theorem d_law_551 : decode code 551 = .ok (.aload_n 2, 1) := by decide +kernel
theorem d_law_552 : decode code 552 = .ok (.aload_n 0, 1) := by decide +kernel
theorem d_law_553 : decode code 553 = .ok (.iload_n 3, 1) := by decide +kernel
theorem d_law_554 : decode code 554 = .ok (.iconst 1, 1) := by decide +kernel
theorem d_law_555 : decode code 555 = .ok (.iadd, 1) := by decide +kernel
theorem d_law_556 : decode code 556 = .ok (.iaload, 1) := by decide +kernel
theorem d_law_557 : decode code 557 = .ok (.invokevirtual 70, 3) := by decide +kernel
theorem d_law_560 : decode code 560 = .ok (.if_icmp .eq 36, 3) := by decide +kernel
theorem d_law_563 : decode code 563 = .ok (.iconst 0, 1) := by decide +kernel
theorem d_law_564 : decode code 564 = .ok (.ireturn, 1) := by decide +kernel
theorem d_law_565 : decode code 565 = .ok (.aload_n 1, 1) := by decide +kernel
theorem d_law_566 : decode code 566 = .ok (.aload_n 0, 1) := by decide +kernel
theorem d_law_567 : decode code 567 = .ok (.iload_n 3, 1) := by decide +kernel
theorem d_law_568 : decode code 568 = .ok (.iconst 1, 1) := by decide +kernel
theorem d_law_569 : decode code 569 = .ok (.iadd, 1) := by decide +kernel
theorem d_law_570 : decode code 570 = .ok (.iaload, 1) := by decide +kernel
theorem d_law_571 : decode code 571 = .ok (.aload_n 0, 1) := by decide +kernel
theorem d_law_572 : decode code 572 = .ok (.iload_n 3, 1) := by decide +kernel
theorem d_law_573 : decode code 573 = .ok (.iconst 2, 1) := by decide +kernel
theorem d_law_574 : decode code 574 = .ok (.iadd, 1) := by decide +kernel
theorem d_law_575 : decode code 575 = .ok (.iaload, 1) := by decide +kernel
theorem d_law_576 : decode code 576 = .ok (.invokevirtual 71, 3) := by decide +kernel
theorem d_law_579 : decode code 579 = .ok (.aload_n 2, 1) := by decide +kernel
theorem d_law_580 : decode code 580 = .ok (.aload_n 0, 1) := by decide +kernel
theorem d_law_581 : decode code 581 = .ok (.iload_n 3, 1) := by decide +kernel
theorem d_law_582 : decode code 582 = .ok (.iconst 1, 1) := by decide +kernel
theorem d_law_583 : decode code 583 = .ok (.iadd, 1) := by decide +kernel
theorem d_law_584 : decode code 584 = .ok (.iaload, 1) := by decide +kernel
theorem d_law_585 : decode code 585 = .ok (.aload_n 0, 1) := by decide +kernel
theorem d_law_586 : decode code 586 = .ok (.iload_n 3, 1) := by decide +kernel
theorem d_law_587 : decode code 587 = .ok (.iconst 2, 1) := by decide +kernel
theorem d_law_588 : decode code 588 = .ok (.iadd, 1) := by decide +kernel
theorem d_law_589 : decode code 589 = .ok (.iaload, 1) := by decide +kernel
theorem d_law_590 : decode code 590 = .ok (.invokevirtual 74, 3) := by decide +kernel
theorem d_law_593 : decode code 593 = .ok (.goto 3, 3) := by decide +kernel
theorem d_law_596 : decode code 596 = .ok (.iinc 3 6, 3) := by decide +kernel
theorem d_law_599 : decode code 599 = .ok (.goto (-581), 3) := by decide +kernel
theorem d_law_602 : decode code 602 = .ok (.iconst 1, 1) := by decide +kernel
theorem d_law_603 : decode code 603 = .ok (.ireturn, 1) := by decide +kernel
end
section
/-! from the constructors' worlds to the world of the loop -/
def al (ws : va_W) (k : Nat) : Nat := (ws.map Prod.fst).getD k 0
theorem al_at {ws : va_W} {k : Nat} {q : Nat × va_E} (h : ws[k]? = some q) : al ws k = q.1 := by
  unfold al
  simp [List.getD, h]
theorem al_inj {A : Nat → Prop} {ws : va_W} (hD : va_D A ws) (i j : Nat) (hi : i < ws.length) (hj : j < ws.length) (h : al ws i = al ws j) : i = j := by
  obtain ⟨p, hp⟩ : ∃ p, ws[i]? = some p := ⟨_, List.getElem?_eq_getElem hi⟩
  obtain ⟨q, hq⟩ : ∃ q, ws[j]? = some q := ⟨_, List.getElem?_eq_getElem hj⟩
  rw [al_at hp, al_at hq] at h
  exact hD.1 i j p q hp hq h
def hsz (H : Heap) (a : Nat) : Nat := match H[a]? with
  | some c => c.slots.size
  | none => 0
def hmm (H : Heap) (a j : Nat) : Int32 := match H[a]? with
  | some c => (match c.slots[j]? with
    | some (.int v) => v
    | _ => 0)
  | none => 0
theorem arr_self {H : Heap} {a n : Nat} {cI : ClassId} {f : Nat → Int32} (h : H[a]? = some (vp_cell cI (n, .inl f))) : hsz H a = n ∧ (∀ j, j < n → hmm H a j = f j) ∧ H[a]? = some (vp_cell cI (hsz H a, .inl (hmm H a))) := by
  have h1 : hsz H a = n := by
    unfold hsz
    rw [h]
    exact arrV_size _ _ _
  have h2 : ∀ j, j < n → hmm H a j = f j := fun j hj => by
    unfold hmm
    rw [h]
    show (match (arrV cI n (fun j => .int (f j))).slots[j]? with | some (.int v) => v | _ => 0) = f j
    rw [arrV_read _ _ hj]
  refine ⟨h1, h2, ?_⟩
  rw [h1, h, vp_cell_i, vp_cell_i]
  congr 1
  unfold arrV
  congr 1
  apply Array.ext
  · simp
  · intro i hi1 hi2
    simp only [Array.getElem_ofFn]
    rw [h2 i (by simpa using hi1)]
theorem CI.kept {M M' : Mm} {B X Lw : Nat → Nat} (h : CI M B X Lw) (ho : ∀ j, j < 12 → M' (B j) = M (B j)) : CI M' B X Lw := by
  refine ⟨h.1.kept (ho 6 (by decide)) (ho 7 (by decide)) (ho 8 (by decide)), fun k hk => by rw [ho k (by omega)]; exact h.2.1 k hk, fun j hj => by rw [ho 4 (by decide)]; exact h.2.2 j hj⟩
/-- the ints that are arrays, by their place in the world -/
def isA (k : Nat) : Prop := k < 28 ∧ k ≠ 0 ∧ k ≠ 1 ∧ k ≠ 8 ∧ k ≠ 15
def bix (k : Nat) : Nat := if k < 6 then k + 2 else k + 3
theorem bix_A {k : Nat} (h : k < 12) : isA (bix k) ∧ bix k < 15 := by
  unfold isA bix
  split <;> omega
theorem bix_inj {i j : Nat} (h : bix i = bix j) : i = j := by
  unfold bix at h
  split at h <;> split at h <;> omega
abbrev ZF : Nat → Int32 := fun _ => 0
abbrev LWS (x q ln wk fd q1 q2 q3 q4 q5 q6 mo p1 p2 p3 p4 p5 p6 p7 p8 p9 p10 p11 p12 : Nat) (cR cI : ClassId) (f1 f2 f3 f4 f5 f6 ff : Nat → Int32) : va_W :=
  [(x, .inr (0, [.ref q, .ref ln, .ref wk, .ref fd])), (q, .inl (cR, 4, .inr (.inr (.inr (.inr (fun k => some (q + 1 + k))))))), (q + 1, .inl (cI, 8, .inl (fun _ => 0))), (q + 2, .inl (cI, 8, .inl (fun _ => 0))), (q + 3, .inl (cI, 8, .inl (fun _ => 0))), (q + 4, .inl (cI, 8, .inl (fun _ => 0))), (ln, .inl (cI, 8, .inl (fun _ => 0))), (wk, .inl (cI, 8, .inl (fun _ => 0))), (fd, .inr (1, [.ref q1, .ref q2, .ref q3, .ref q4, .ref q5, .ref q6, .int (-769313487)])), (q1, .inl (cI, 8, .inl f1)), (q2, .inl (cI, 8, .inl f2)), (q3, .inl (cI, 8, .inl f3)), (q4, .inl (cI, 10, .inl f4)), (q5, .inl (cI, 8, .inl f5)), (q6, .inl (cI, 8, .inl f6)), (mo, .inr (2, [.ref p1, .ref p2, .ref p3, .ref p4, .ref p5, .ref p6, .ref p7, .ref p8, .ref p9, .ref p10, .ref p11, .ref p12])), (p1, .inl (cI, 64, .inl (fun _ => 0))), (p2, .inl (cI, 16, .inl (fun _ => 0))), (p3, .inl (cI, 16, .inl ff)), (p4, .inl (cI, 16, .inl (fun _ => 0))), (p5, .inl (cI, 17, .inl (fun _ => 0))), (p6, .inl (cI, 16, .inl (fun _ => 0))), (p7, .inl (cI, 16, .inl (fun _ => 0))), (p8, .inl (cI, 16, .inl (fun _ => 0))), (p9, .inl (cI, 17, .inl (fun _ => 0))), (p10, .inl (cI, 17, .inl (fun _ => 0))), (p11, .inl (cI, 17, .inl (fun _ => 0))), (p12, .inl (cI, 17, .inl (fun _ => 0)))]
theorem lw_setup {D : va_G} {s : State} {H : Heap} {locs : List Loc} {x q ln wk fd q1 q2 q3 q4 q5 q6 mo p1 p2 p3 p4 p5 p6 p7 p8 p9 p10 p11 p12 : Nat} {cR cI : ClassId} {f1 f2 f3 f4 f5 f6 ff : Nat → Int32}
    (hP : va_P D classes (LWS x q ln wk fd q1 q2 q3 q4 q5 q6 mo p1 p2 p3 p4 p5 p6 p7 p8 p9 p10 p11 p12 cR cI f1 f2 f3 f4 f5 f6 ff) H) (hK : va_K D classes [(cI, .int), (cR, .array .int)] s) (hD : va_D (fun q : Nat => s.heap.size ≤ q) (LWS x q ln wk fd q1 q2 q3 q4 q5 q6 mo p1 p2 p3 p4 p5 p6 p7 p8 p9 p10 p11 p12 cR cI f1 f2 f3 f4 f5 f6 ff)) (hS : va_S (fun q : Nat => s.heap.size ≤ q) s.heap H locs)
    (g1 : ∀ j, j < 8 → f1 j = pW j) (g2 : V8 f2 = BK) (g3 : V8 f3 = ON) (g4 : ∀ j, j < 16 → ff j = qW j) (n1 : va_Nw (.fieldLinkNest R_K 40 R_F "prime" "[I" R_K) s) (n2 : va_Nw (.methodLinkNest R_K 43 y_F_difference R_K) s) :
    ∃ (g : wg) (A B : Nat → Nat) (M : Mm), wd g H [] M ∧ kn g s ∧ Kv g x q fd (-769313487) B ∧ Dv g mo A ∧ CI M B (fun _ => 0) (fun _ => 0) ∧ MI M A (fun _ => 0) (fun _ => 0) ∧ (∀ i j, i < 12 → j < 12 → A i ≠ B j) ∧ (∀ a, wA g a → s.heap.size ≤ a) ∧ ∀ a, a < s.heap.size → ¬ wA g a ∧ (wB g)[a]? = s.heap[a]? := by
  obtain ⟨ws, ews⟩ : ∃ ws, ws = LWS x q ln wk fd q1 q2 q3 q4 q5 q6 mo p1 p2 p3 p4 p5 p6 p7 p8 p9 p10 p11 p12 cR cI f1 f2 f3 f4 f5 f6 ff := ⟨_, rfl⟩
  have hlen : ws.length = 28 := by rw [ews]; rfl
  have inj : ∀ i j, i < 28 → j < 28 → al ws i = al ws j → i = j := fun i j hi hj h => by
    rw [← ews] at hD
    exact al_inj hD i j (by omega) (by omega) h
  have hge : ∀ k, k < 28 → s.heap.size ≤ al ws k := fun k hk => by
    rw [← ews] at hD
    obtain ⟨p, hp⟩ : ∃ p, ws[k]? = some p := ⟨_, List.getElem?_eq_getElem (by omega)⟩
    rw [al_at hp]
    exact hD.2 k p hp
  have e : ∀ k (a : Nat) (e : va_E), ws[k]? = some (a, e) → al ws k = a := fun k a e h => al_at h
  -- the arrays
  have arr : ∀ k, isA k → ∃ (n : Nat) (f : Nat → Int32), H[al ws k]? = some (vp_cell cI (n, .inl f)) := by
    intro k hk
    unfold isA at hk
    have h := hP k
    rw [← ews] at h
    rcases (show k = 2 ∨ k = 3 ∨ k = 4 ∨ k = 5 ∨ k = 6 ∨ k = 7 ∨ k = 9 ∨ k = 10 ∨ k = 11 ∨ k = 12 ∨ k = 13 ∨ k = 14 ∨ k = 16 ∨ k = 17 ∨ k = 18 ∨ k = 19 ∨ k = 20 ∨ k = 21 ∨ k = 22 ∨ k = 23 ∨ k = 24 ∨ k = 25 ∨ k = 26 ∨ k = 27 by omega) with rfl | rfl | rfl | rfl | rfl | rfl | rfl | rfl | rfl | rfl | rfl | rfl | rfl | rfl | rfl | rfl | rfl | rfl | rfl | rfl | rfl | rfl | rfl | rfl <;>
      (rw [ews] at h ⊢; exact ⟨_, _, h _ rfl⟩)
  have cell : ∀ (k a n : Nat) (f : Nat → Int32), ws[k]? = some (a, .inl (cI, n, .inl f)) → hsz H (al ws k) = n ∧ ∀ j, j < n → hmm H (al ws k) j = f j := by
    intro k a n f h
    rw [e k a _ h]
    have h2 := hP k _ (by rw [← ews]; exact h)
    exact ⟨(arr_self h2).1, (arr_self h2).2.1⟩
  obtain ⟨g, eg⟩ : ∃ g : wg, g = (H, (fun a => ∃ k, isA k ∧ a = al ws k), hsz H, cI, cR, D) := ⟨_, rfl⟩
  have gA : ∀ a, wA g a ↔ ∃ k, isA k ∧ a = al ws k := fun a => by rw [eg]; exact Iff.rfl
  have nA : ∀ k, k < 28 → ¬ isA k → ¬ wA g (al ws k) := fun k hk hn h => by
    obtain ⟨j, hj, ej⟩ := (gA _).mp h
    have := inj k j hk hj.1 ej
    subst this
    exact hn hj
  have ok : ∀ (k a n m : Nat) (f : Nat → Int32), isA k → ws[k]? = some (a, .inl (cI, n, .inl f)) → m ≤ n → n < 2 ^ 31 → aok g (al ws k) m := fun k a n m f hk h hm hn => by
    have h1 : wL g (al ws k) = n := by rw [eg]; exact (cell k a n f h).1
    exact ⟨(gA _).mpr ⟨k, hk, rfl⟩, by rw [h1]; exact hm, by rw [h1]; exact hn⟩
  have obj : ∀ (k a ci : Nat) (fs : List Value), k < 28 → ¬ isA k → ws[k]? = some (a, .inr (ci, fs)) → ob g a ci fs := fun k a ci fs hk hn h => by
    have h1 := nA k hk hn
    rw [e k a _ h] at h1
    refine ⟨h1, ?_⟩
    have h2 := hP k _ (by rw [← ews]; exact h)
    rw [eg]
    exact h2
  refine ⟨g, fun k => al ws (16 + k), fun k => al ws (bix k), hmm H, ⟨fun a ha => ?_, fun a _ => by rw [eg]; rfl, fun _ h => by cases h⟩, ⟨by rw [eg]; exact hK, n1, n2⟩, ⟨?_, ?_, ?_, ?_, ?_, by decide⟩, ⟨?_, ?_, ?_⟩, ⟨⟨?_, ?_, ?_⟩, ?_, ?_⟩, ⟨?_, ?_, ?_, ?_⟩, ?_, ?_, ?_⟩
  · obtain ⟨k, hk, rfl⟩ := (gA a).mp ha
    obtain ⟨n, f, hf⟩ := arr k hk
    rw [eg]
    exact (arr_self hf).2.2
  · have h := obj 0 x 0 _ (by decide) (by unfold isA; omega) (by rw [ews]; rfl)
    rw [ews]; exact h
  · refine ⟨?_, ?_⟩
    · have h := nA 1 (by decide) (by unfold isA; omega)
      rw [ews] at h; exact h
    · have h2 := hP 1 _ rfl
      rw [eg]
      show H[q]? = some (vp_cell cR (4, .inr (.inr (.inr (.inr (fun k => some (al ws (bix k))))))))
      refine (show H[q]? = some (vp_cell cR (4, .inr (.inr (.inr (.inr (fun k => some (q + 1 + k))))))) from h2).trans ?_
      rw [vp_cell_q, vp_cell_q]
      congr 1
      unfold arrV
      congr 1
      apply Array.ext
      · simp
      · intro i hi1 hi2
        simp only [Array.getElem_ofFn]
        have hi : i < 4 := by simpa using hi1
        rw [ews]
        rcases (show i = 0 ∨ i = 1 ∨ i = 2 ∨ i = 3 by omega) with rfl | rfl | rfl | rfl <;> rfl
  · have h := obj 8 fd 1 _ (by decide) (by unfold isA; omega) (by rw [ews]; rfl)
    rw [ews]; exact h
  · intro i hi
    have hb := (bix_A hi).1
    rcases (show i = 0 ∨ i = 1 ∨ i = 2 ∨ i = 3 ∨ i = 4 ∨ i = 5 ∨ i = 6 ∨ i = 7 ∨ i = 8 ∨ i = 9 ∨ i = 10 ∨ i = 11 by omega) with rfl | rfl | rfl | rfl | rfl | rfl | rfl | rfl | rfl | rfl | rfl | rfl <;>
      exact ok _ _ _ _ _ hb (by rw [ews]; rfl) (by decide) (by decide)
  · intro i j hi hj h
    have h1 := (bix_A hi).2
    have h2 := (bix_A hj).2
    exact bix_inj (inj _ _ (by omega) (by omega) h)
  · have h := obj 15 mo 2 _ (by decide) (by unfold isA; omega) (by rw [ews]; rfl)
    rw [ews]; exact h
  · intro i hi
    have hb : isA (16 + i) := by unfold isA; omega
    rcases (show i = 0 ∨ i = 1 ∨ i = 2 ∨ i = 3 ∨ i = 4 ∨ i = 5 ∨ i = 6 ∨ i = 7 ∨ i = 8 ∨ i = 9 ∨ i = 10 ∨ i = 11 by omega) with rfl | rfl | rfl | rfl | rfl | rfl | rfl | rfl | rfl | rfl | rfl | rfl <;>
      exact ok _ _ _ _ _ hb (by rw [ews]; rfl) (by decide) (by decide)
  · intro i j hi hj h
    have := inj (16 + i) (16 + j) (by omega) (by omega) h
    omega
  · intro j hj
    exact ((cell 9 q1 8 f1 (by rw [ews]; rfl)).2 j hj).trans (g1 j hj)
  · exact (vN_congr (cell 10 q2 8 f2 (by rw [ews]; rfl)).2).trans g2
  · exact (vN_congr (cell 11 q3 8 f3 (by rw [ews]; rfl)).2).trans g3
  · intro k hk
    refine ⟨show 0 < PP by decide, vN_all0 (by decide) ?_⟩
    rcases (show k = 0 ∨ k = 1 ∨ k = 2 ∨ k = 3 by omega) with rfl | rfl | rfl | rfl
    · exact (cell 2 _ 8 _ (by rw [ews]; rfl)).2
    · exact (cell 3 _ 8 _ (by rw [ews]; rfl)).2
    · exact (cell 4 _ 8 _ (by rw [ews]; rfl)).2
    · exact (cell 5 _ 8 _ (by rw [ews]; rfl)).2
  · intro j hj
    show w4 (hmm H (al ws 6) j) = 0
    rw [(cell 6 ln 8 _ (by rw [ews]; rfl)).2 j hj, w4_0]
  · intro j hj
    exact ((cell 18 p3 16 ff (by rw [ews]; rfl)).2 j hj).trans (g4 j hj)
  · intro k hk
    have z : ∀ j, j < 16 → hmm H (al ws (16 + 0)) (k * 16 + j) = 0 := fun j hj => (cell 16 p1 64 _ (by rw [ews]; rfl)).2 (k * 16 + j) (by omega)
    exact ⟨show 0 < PP by decide, fun j hj => by
      show w4 (hmm H (al ws (16 + 0)) (k * 16 + j)) < 65536
      rw [z j hj]; decide, vN_all0 (by decide) z⟩
  · intro j hj
    show 0 < 4294967296
    decide
  · intro j hj
    have z : ∀ j, j < 16 → hmm H (al ws (16 + 1)) j = 0 := (cell 17 p2 16 _ (by rw [ews]; rfl)).2
    show w4 (hmm H (al ws (16 + 1)) (2 * j)) = 0 % 65536 ∧ w4 (hmm H (al ws (16 + 1)) (2 * j + 1)) = 0 / 65536
    rw [z _ (by omega), z _ (by omega), w4_0]
    decide
  · intro i j hi hj h
    have h1 := (bix_A hj).2
    have := inj _ _ (by omega) (by omega) h
    omega
  · intro a ha
    obtain ⟨k, hk, rfl⟩ := (gA a).mp ha
    exact hge k hk.1
  · intro a ha
    refine ⟨fun h => ?_, ?_⟩
    · obtain ⟨k, hk, rfl⟩ := (gA a).mp h
      have := hge k hk.1
      omega
    · rw [eg]
      exact hS.2.1 a ha (Nat.not_le.mpr ha)
end
section
section LSR
variable {p : Program} {l : Launch} {e : Env} {R : Room} {s : State} {m : MethodId} {args : Array Value} {below : List Frame} {meth : Method} {c : Code} {H : Heap} {locs : List Loc} {cells slots : Nat} {Q : State → Prop}
variable {cc : ByteArray} {pc n : Nat} {ls : Array Slot} {rest : List Value} {g : wg} {M : Mm} {rt : Option FieldType} {own : String}
theorem ls_ld {b L : Nat} {xs : Nat → Int32} {i : Int32} (E : Ev p s m args meth c cc n rt own) (hX : va_X b L xs s s.heap) (hB : ¬ wA g b ∧ (wB g)[b]? = s.heap[b]?) (hw : wd g H locs M) (hL : L ≤ 3072) (j : Nat) (hi : i = nI j) (hj : j < L) (hd : decode cc pc = .ok (.iaload, 1))
    (kk : W p l e R s m args below meth c H locs cells slots Q (F0 m (pc + 1) ls (.int (xs j) :: rest))) : W p l e R s m args below meth c H locs cells slots Q (F0 m pc ls (.int i :: .ref b :: rest)) := by
  subst hi
  obtain ⟨scr, h1, h2, h3, h4, h5⟩ := hX
  have hc := nI_clamp (n := j) (by omega)
  exact W.iald (v := .int (xs j)) E.1 E.2.1 (by rw [hw.2.1 b hB.1, hB.2]; exact h1) h2 h3 (by rw [h4]; exact nI_in hj (by omega)) (by rw [hc]; exact h5 j hj) rfl rfl hd kk
theorem ls_len {b L : Nat} {xs : Nat → Int32} (E : Ev p s m args meth c cc n rt own) (hX : va_X b L xs s s.heap) (hB : ¬ wA g b ∧ (wB g)[b]? = s.heap[b]?) (hw : wd g H locs M) (hd : decode cc pc = .ok (.arraylength, 1))
    (kk : W p l e R s m args below meth c H locs cells slots Q (F0 m (pc + 1) ls (.int (nI L) :: rest))) : W p l e R s m args below meth c H locs cells slots Q (F0 m pc ls (.ref b :: rest)) := by
  obtain ⟨scr, h1, h2, h3, h4, h5⟩ := hX
  exact W.alen (n := nI L) E.1 E.2.1 (by rw [hw.2.1 b hB.1, hB.2]; exact h1) h2 (by rw [h4] <;> rfl) rfl rfl hd kk
end LSR
theorem law_cmp {i L : Nat} (hL : L ≤ 3072) (hi : i ≤ 3072) : nI L - 6 < nI i ↔ L < i + 6 := by
  rw [Int32.lt_iff_toInt_lt, i_sub (nI_toInt (n := L) (by omega)) (show (6 : Int32).toInt = 6 by decide) (by omega) (by omega), nI_toInt (n := i) (by omega)]
  omega
set_option maxHeartbeats 4000000 in
set_option maxRecDepth 100000 in
/-- the law's loop -/
theorem law_loop {p : Program} {l : Launch} {e : Env} {s : State} {m : MethodId} {below : List Frame} {meth : Method} {c : Code} {b L : Nat} {xs : Nat → Int32} (hL : L ≤ 3072) (C0 : lw_At p s m meth c b L xs) {g : wg} {A B : Nat → Nat} {xo rg fd mo : Nat} {mn : Int32} (K : kn g s) (hV : Kv g xo rg fd mn B) (hD : Dv g mo A) (hAB : ∀ i j, i < 12 → j < 12 → A i ≠ B j) (hAs : ∀ a, wA g a → s.heap.size ≤ a) (hbB : ¬ wA g b ∧ (wB g)[b]? = s.heap[b]?) :
    ∀ (d i : Nat) (X Lw : Nat → Nat) (M : Mm) (H : Heap) (locs : List Loc) (ls : Array Slot), i ≤ L → L + 1 ≤ i + d → CI M B X Lw → MI M A X Lw → wd g H locs M → lv_has ls 4 [(3, .int (nI i)), (0, .ref b), (1, .ref xo), (2, .ref mo)] → W p l e room_1 s m #[Value.ref b] below meth c H locs 28 370 (lw_Z below #[Value.ref b] s) (F0 m 18 ls []) := by
  obtain ⟨hx, hb, hr, hml, hown, hts0, hX, hbl, hlocks, hgv⟩ := C0
  have hts : ∀ w ∈ tb, w.before #[Value.ref b] s = true := fun w hw => hts0 w (List.mem_filter.mp hw).1
  have E : Ev p s m #[Value.ref b] meth c code 4 ret R_law := ⟨hx, hb, hr, hml, hown, hts, hlocks⟩
  intro d
  induction d with
  | zero => intro i X Lw M H locs ls h1 h2; exact absurd h2 (by omega)
  | succ d ih =>
    intro i X Lw M H locs ls h1 h2 hC hM hW hl
    refine lv_iload_n hx hb d_law_18 rfl (lv_at hl 0 rfl) ?_
    refine lv_aload_n hx hb d_law_19 rfl (lv_at hl 1 rfl) ?_
    refine ls_len E hX hbB hW d_law_20 ?_
    refine lv_bipush (v := 6) hx hb d_law_21 (by decide) ?_
    refine lv_isub hx hb d_law_23 ?_
    refine lv_icmp_gt (tgt := 602) hx hb d_law_24 (by decide) (fun c1 => ?_) (fun c1 => ?_)
    · refine lv_iconst (v := 1) hx hb d_law_602 (by decide) ?_
      refine va_forget (fun q hq => hAs _ (hW.2.2 q hq)) ?_
      refine W.widen (k := 600000) (n := 7302250) (by decide) (by decide) ?_
      exact lw_ret hx hb hr hlocks d_law_603
    · have c2 : i + 6 ≤ L := Nat.not_lt.mp (fun z => c1 ((law_cmp hL (by omega)).mpr z))
      have nxt : ∀ (X2 Lw2 : Nat → Nat) (M2 : Mm) (H : Heap) (locs : List Loc) (ls : Array Slot), CI M2 B X2 Lw2 → MI M2 A X2 Lw2 → wd g H locs M2 → lv_has ls 4 [(3, .int (nI i)), (0, .ref b), (1, .ref xo), (2, .ref mo)] → W p l e room_1 s m #[Value.ref b] below meth c H locs 28 370 (lw_Z below #[Value.ref b] s) (F0 m 596 ls []) := by
        intro X2 Lw2 M2 H locs ls hC2 hM2 hW2 hl
        refine lv_iinc (v := nI (i + 6)) (lv' := [(3, .int (nI (i + 6))), (0, .ref b), (1, .ref xo), (2, .ref mo)]) hx hb d_law_596 hl (k := 0) rfl (nI_add i 6) (by decide) rfl (fun ls hl => ?_)
        refine lv_goto (tgt := 18) hx hb d_law_599 (by decide) ?_
        exact ih (i + 6) X2 Lw2 M2 H locs ls (by omega) (by omega) hC2 hM2 hW2 hl
      refine lv_aload_n hx hb d_law_27 rfl (lv_at hl 1 rfl) ?_
      refine lv_iload_n hx hb d_law_28 rfl (lv_at hl 0 rfl) ?_
      refine ls_ld E hX hbB hW hL i rfl (by omega) d_law_29 ?_
      refine lv_bipush (v := 15) hx hb d_law_30 (by decide) ?_
      refine lv_iand hx hb d_law_32 ?_
      obtain ⟨t, ht, et⟩ := pk_andE (xs i) (m := 15) 4 (by decide)
      refine W.eq (g2 := F0 m 33 ls [.int (nI t)]) (congrArg (fun z => F0 m 33 ls [.int z]) et) ?_
      rcases (show t = 0 ∨ t = 1 ∨ t = 2 ∨ t = 3 ∨ t = 4 ∨ t = 5 ∨ t = 6 ∨ t = 7 ∨ t = 8 ∨ t = 9 ∨ t = 10 ∨ t = 11 ∨ t = 12 ∨ t = 13 ∨ t = 14 ∨ t = 15 by omega) with rfl | rfl | rfl | rfl | rfl | rfl | rfl | rfl | rfl | rfl | rfl | rfl | rfl | rfl | rfl | rfl
      · refine lv_tableIn (off := 71) (tgt := 104) hx hb d_law_33 (by decide) (by decide) (by decide) (by decide) ?_
        refine lv_aload_n hx hb d_law_104 rfl (lv_at hl 2 rfl) ?_
        refine lv_aload_n hx hb d_law_105 rfl (lv_at hl 1 rfl) ?_
        refine lv_iload_n hx hb d_law_106 rfl (lv_at hl 0 rfl) ?_
        refine lv_iconst (v := 1) hx hb d_law_107 (by decide) ?_
        refine lv_iadd hx hb d_law_108 ?_
        refine ls_ld E hX hbB hW hL (i + 1) (nI_add i 1) (by omega) d_law_109 ?_
        refine lv_aload_n hx hb d_law_110 rfl (lv_at hl 1 rfl) ?_
        refine lv_iload_n hx hb d_law_111 rfl (lv_at hl 0 rfl) ?_
        refine lv_iconst (v := 2) hx hb d_law_112 (by decide) ?_
        refine lv_iadd hx hb d_law_113 ?_
        refine ls_ld E hX hbB hW hL (i + 2) (nI_add i 2) (by omega) d_law_114 ?_
        refine lv_aload_n hx hb d_law_115 rfl (lv_at hl 1 rfl) ?_
        refine lv_iload_n hx hb d_law_116 rfl (lv_at hl 0 rfl) ?_
        refine lv_iconst (v := 3) hx hb d_law_117 (by decide) ?_
        refine lv_iadd hx hb d_law_118 ?_
        refine ls_ld E hX hbB hW hL (i + 3) (nI_add i 3) (by omega) d_law_119 ?_
        refine lv_aload_n hx hb d_law_120 rfl (lv_at hl 1 rfl) ?_
        refine lv_iload_n hx hb d_law_121 rfl (lv_at hl 0 rfl) ?_
        refine lv_iconst (v := 4) hx hb d_law_122 (by decide) ?_
        refine lv_iadd hx hb d_law_123 ?_
        refine ls_ld E hX hbB hW hL (i + 4) (nI_add i 4) (by omega) d_law_124 ?_
        refine lv_aload_n hx hb d_law_125 rfl (lv_at hl 1 rfl) ?_
        refine lv_iload_n hx hb d_law_126 rfl (lv_at hl 0 rfl) ?_
        refine lv_iconst (v := 5) hx hb d_law_127 (by decide) ?_
        refine lv_iadd hx hb d_law_128 ?_
        refine ls_ld E hX hbB hW hL (i + 5) (nI_add i 5) (by omega) d_law_129 ?_
        refine ct_V E K hW hl.1 hV.1 rfl (c_K_line l g xo rg fd mn B (xs (i + 1)) (xs (i + 2)) (xs (i + 3)) (xs (i + 4)) (xs (i + 5)) X Lw M hV hC) k_61 k_1 k_58 k_59 k_60 5 (by decide +kernel) rfl (by decide) rfl (Nat.le_of_ble_eq_true rfl) ⟨Nat.le_of_ble_eq_true rfl, Nat.le_of_ble_eq_true rfl⟩ d_law_130 (fun r M1 H locs hq hW => ?_)
        obtain ⟨rfl, cf1, C1⟩ := hq
        refine W.eq (g2 := F0 m 133 ls []) rfl ?_
        have hM1 := hM.kept (cf1 _ (fun j hj => hAB 0 j (by decide) hj)) (cf1 _ (fun j hj => hAB 1 j (by decide) hj)) (cf1 _ (fun j hj => hAB 2 j (by decide) hj))
        refine lv_aload_n hx hb d_law_133 rfl (lv_at hl 3 rfl) ?_
        refine lv_aload_n hx hb d_law_134 rfl (lv_at hl 1 rfl) ?_
        refine lv_iload_n hx hb d_law_135 rfl (lv_at hl 0 rfl) ?_
        refine lv_iconst (v := 1) hx hb d_law_136 (by decide) ?_
        refine lv_iadd hx hb d_law_137 ?_
        refine ls_ld E hX hbB hW hL (i + 1) (nI_add i 1) (by omega) d_law_138 ?_
        refine lv_aload_n hx hb d_law_139 rfl (lv_at hl 1 rfl) ?_
        refine lv_iload_n hx hb d_law_140 rfl (lv_at hl 0 rfl) ?_
        refine lv_iconst (v := 2) hx hb d_law_141 (by decide) ?_
        refine lv_iadd hx hb d_law_142 ?_
        refine ls_ld E hX hbB hW hL (i + 2) (nI_add i 2) (by omega) d_law_143 ?_
        refine lv_aload_n hx hb d_law_144 rfl (lv_at hl 1 rfl) ?_
        refine lv_iload_n hx hb d_law_145 rfl (lv_at hl 0 rfl) ?_
        refine lv_iconst (v := 3) hx hb d_law_146 (by decide) ?_
        refine lv_iadd hx hb d_law_147 ?_
        refine ls_ld E hX hbB hW hL (i + 3) (nI_add i 3) (by omega) d_law_148 ?_
        refine lv_aload_n hx hb d_law_149 rfl (lv_at hl 1 rfl) ?_
        refine lv_iload_n hx hb d_law_150 rfl (lv_at hl 0 rfl) ?_
        refine lv_iconst (v := 4) hx hb d_law_151 (by decide) ?_
        refine lv_iadd hx hb d_law_152 ?_
        refine ls_ld E hX hbB hW hL (i + 4) (nI_add i 4) (by omega) d_law_153 ?_
        refine lv_aload_n hx hb d_law_154 rfl (lv_at hl 1 rfl) ?_
        refine lv_iload_n hx hb d_law_155 rfl (lv_at hl 0 rfl) ?_
        refine lv_iconst (v := 5) hx hb d_law_156 (by decide) ?_
        refine lv_iadd hx hb d_law_157 ?_
        refine ls_ld E hX hbB hW hL (i + 5) (nI_add i 5) (by omega) d_law_158 ?_
        refine ct_V E K hW hl.1 hD.1 rfl (c_D_line l g mo A (xs (i + 1)) (xs (i + 2)) (xs (i + 3)) (xs (i + 4)) (xs (i + 5)) X Lw M1 hD hM1) k_223 k_3 k_220 k_221 k_222 5 (by decide +kernel) rfl (by decide) rfl (Nat.le_of_ble_eq_true rfl) ⟨Nat.le_of_ble_eq_true rfl, Nat.le_of_ble_eq_true rfl⟩ d_law_159 (fun r M2 H locs hq hW => ?_)
        obtain ⟨rfl, df2, D2⟩ := hq
        refine W.eq (g2 := F0 m 162 ls []) rfl ?_
        have C2 := C1.kept (fun j hj => df2 _ (fun i hi => (hAB i j hi hj).symm))
        refine lv_goto (tgt := 596) hx hb d_law_162 (by decide) ?_
        exact nxt _ _ M2 H locs ls C2 D2 hW hl
      · refine lv_tableIn (off := 132) (tgt := 165) hx hb d_law_33 (by decide) (by decide) (by decide) (by decide) ?_
        refine lv_aload_n hx hb d_law_165 rfl (lv_at hl 2 rfl) ?_
        refine lv_aload_n hx hb d_law_166 rfl (lv_at hl 1 rfl) ?_
        refine lv_iload_n hx hb d_law_167 rfl (lv_at hl 0 rfl) ?_
        refine lv_iconst (v := 1) hx hb d_law_168 (by decide) ?_
        refine lv_iadd hx hb d_law_169 ?_
        refine ls_ld E hX hbB hW hL (i + 1) (nI_add i 1) (by omega) d_law_170 ?_
        refine ct_V E K hW hl.1 hV.1 rfl (c_K_load l g xo rg fd mn B (xs (i + 1)) X Lw M hV hC) k_65 k_1 k_62 k_63 k_64 1 (by decide +kernel) rfl (by decide) rfl (Nat.le_of_ble_eq_true rfl) ⟨Nat.le_of_ble_eq_true rfl, Nat.le_of_ble_eq_true rfl⟩ d_law_171 (fun r M1 H locs hq hW => ?_)
        obtain ⟨rfl, cf1, C1⟩ := hq
        refine W.eq (g2 := F0 m 174 ls [.int (if PP ≤ nv Lw 8 then 1 else 0)]) rfl ?_
        have hM1 := hM.kept (cf1 _ (fun j hj => hAB 0 j (by decide) hj)) (cf1 _ (fun j hj => hAB 1 j (by decide) hj)) (cf1 _ (fun j hj => hAB 2 j (by decide) hj))
        refine lv_aload_n hx hb d_law_174 rfl (lv_at hl 3 rfl) ?_
        refine lv_aload_n hx hb d_law_175 rfl (lv_at hl 1 rfl) ?_
        refine lv_iload_n hx hb d_law_176 rfl (lv_at hl 0 rfl) ?_
        refine lv_iconst (v := 1) hx hb d_law_177 (by decide) ?_
        refine lv_iadd hx hb d_law_178 ?_
        refine ls_ld E hX hbB hW hL (i + 1) (nI_add i 1) (by omega) d_law_179 ?_
        refine ct_V E K hW hl.1 hD.1 rfl (c_D_load l g mo A (xs (i + 1)) X Lw M1 hD hM1) k_227 k_3 k_224 k_225 k_226 1 (by decide +kernel) rfl (by decide) rfl (Nat.le_of_ble_eq_true rfl) ⟨Nat.le_of_ble_eq_true rfl, Nat.le_of_ble_eq_true rfl⟩ d_law_180 (fun r M2 H locs hq hW => ?_)
        obtain ⟨rfl, df2, D2⟩ := hq
        refine W.eq (g2 := F0 m 183 ls [.int (if PP ≤ nv Lw 8 then 1 else 0), .int (if PP ≤ nv Lw 8 then 1 else 0)]) rfl ?_
        have C2 := C1.kept (fun j hj => df2 _ (fun i hi => (hAB i j hi hj).symm))
        refine lv_icmp_eq (tgt := 596) hx hb d_law_183 (by decide) (fun c9 => ?_) (fun c9 => ?_)
        · exact nxt _ _ M2 H locs ls C2 D2 hW hl
        · exact absurd rfl c9
      · refine lv_tableIn (off := 155) (tgt := 188) hx hb d_law_33 (by decide) (by decide) (by decide) (by decide) ?_
        refine lv_aload_n hx hb d_law_188 rfl (lv_at hl 2 rfl) ?_
        refine lv_aload_n hx hb d_law_189 rfl (lv_at hl 1 rfl) ?_
        refine lv_iload_n hx hb d_law_190 rfl (lv_at hl 0 rfl) ?_
        refine lv_iconst (v := 1) hx hb d_law_191 (by decide) ?_
        refine lv_iadd hx hb d_law_192 ?_
        refine ls_ld E hX hbB hW hL (i + 1) (nI_add i 1) (by omega) d_law_193 ?_
        refine lv_aload_n hx hb d_law_194 rfl (lv_at hl 1 rfl) ?_
        refine lv_iload_n hx hb d_law_195 rfl (lv_at hl 0 rfl) ?_
        refine lv_iconst (v := 2) hx hb d_law_196 (by decide) ?_
        refine lv_iadd hx hb d_law_197 ?_
        refine ls_ld E hX hbB hW hL (i + 2) (nI_add i 2) (by omega) d_law_198 ?_
        refine ct_V E K hW hl.1 hV.1 rfl (c_K_word l g xo rg fd mn B (xs (i + 1)) (xs (i + 2)) X Lw M hV hC) k_84 k_1 k_81 k_82 k_83 2 (by decide +kernel) rfl (by decide) rfl (Nat.le_of_ble_eq_true rfl) ⟨Nat.le_of_ble_eq_true rfl, Nat.le_of_ble_eq_true rfl⟩ d_law_199 (fun r M1 H locs hq hW => ?_)
        obtain ⟨⟨v1, rfl, e1⟩, cf1, hMe⟩ := hq
        rw [hMe] at hW
        refine W.eq (g2 := F0 m 202 ls [.int v1]) rfl ?_
        refine lv_aload_n hx hb d_law_202 rfl (lv_at hl 3 rfl) ?_
        refine lv_aload_n hx hb d_law_203 rfl (lv_at hl 1 rfl) ?_
        refine lv_iload_n hx hb d_law_204 rfl (lv_at hl 0 rfl) ?_
        refine lv_iconst (v := 1) hx hb d_law_205 (by decide) ?_
        refine lv_iadd hx hb d_law_206 ?_
        refine ls_ld E hX hbB hW hL (i + 1) (nI_add i 1) (by omega) d_law_207 ?_
        refine lv_aload_n hx hb d_law_208 rfl (lv_at hl 1 rfl) ?_
        refine lv_iload_n hx hb d_law_209 rfl (lv_at hl 0 rfl) ?_
        refine lv_iconst (v := 2) hx hb d_law_210 (by decide) ?_
        refine lv_iadd hx hb d_law_211 ?_
        refine ls_ld E hX hbB hW hL (i + 2) (nI_add i 2) (by omega) d_law_212 ?_
        refine ct_V E K hW hl.1 hD.1 rfl (c_D_word l g mo A (xs (i + 1)) (xs (i + 2)) X Lw M hD hM) k_239 k_3 k_236 k_237 k_238 2 (by decide +kernel) rfl (by decide) rfl (Nat.le_of_ble_eq_true rfl) ⟨Nat.le_of_ble_eq_true rfl, Nat.le_of_ble_eq_true rfl⟩ d_law_213 (fun r M2 H locs hq hW => ?_)
        obtain ⟨⟨v2, rfl, e2⟩, df2, hMe2⟩ := hq
        rw [hMe2] at hW
        refine W.eq (g2 := F0 m 216 ls [.int v2, .int v1]) rfl ?_
        refine lv_icmp_eq (tgt := 596) hx hb d_law_216 (by decide) (fun c9 => ?_) (fun c9 => ?_)
        · exact nxt X Lw M H locs ls hC hM hW hl
        · exact absurd (w4_inj (e1.trans e2.symm)) c9
      · refine lv_tableIn (off := 188) (tgt := 221) hx hb d_law_33 (by decide) (by decide) (by decide) (by decide) ?_
        refine lv_aload_n hx hb d_law_221 rfl (lv_at hl 2 rfl) ?_
        refine lv_aload_n hx hb d_law_222 rfl (lv_at hl 1 rfl) ?_
        refine lv_iload_n hx hb d_law_223 rfl (lv_at hl 0 rfl) ?_
        refine lv_iconst (v := 1) hx hb d_law_224 (by decide) ?_
        refine lv_iadd hx hb d_law_225 ?_
        refine ls_ld E hX hbB hW hL (i + 1) (nI_add i 1) (by omega) d_law_226 ?_
        refine lv_aload_n hx hb d_law_227 rfl (lv_at hl 1 rfl) ?_
        refine lv_iload_n hx hb d_law_228 rfl (lv_at hl 0 rfl) ?_
        refine lv_iconst (v := 2) hx hb d_law_229 (by decide) ?_
        refine lv_iadd hx hb d_law_230 ?_
        refine ls_ld E hX hbB hW hL (i + 2) (nI_add i 2) (by omega) d_law_231 ?_
        refine lv_aload_n hx hb d_law_232 rfl (lv_at hl 1 rfl) ?_
        refine lv_iload_n hx hb d_law_233 rfl (lv_at hl 0 rfl) ?_
        refine lv_iconst (v := 3) hx hb d_law_234 (by decide) ?_
        refine lv_iadd hx hb d_law_235 ?_
        refine ls_ld E hX hbB hW hL (i + 3) (nI_add i 3) (by omega) d_law_236 ?_
        refine ct_V E K hW hl.1 hV.1 rfl (c_K_add l g xo rg fd mn B (xs (i + 1)) (xs (i + 2)) (xs (i + 3)) X Lw M hV hC) k_88 k_1 k_85 k_86 k_87 3 (by decide +kernel) rfl (by decide) rfl (Nat.le_of_ble_eq_true rfl) ⟨Nat.le_of_ble_eq_true rfl, Nat.le_of_ble_eq_true rfl⟩ d_law_237 (fun r M1 H locs hq hW => ?_)
        obtain ⟨rfl, cf1, C1⟩ := hq
        refine W.eq (g2 := F0 m 240 ls []) rfl ?_
        have hM1 := hM.kept (cf1 _ (fun j hj => hAB 0 j (by decide) hj)) (cf1 _ (fun j hj => hAB 1 j (by decide) hj)) (cf1 _ (fun j hj => hAB 2 j (by decide) hj))
        refine lv_aload_n hx hb d_law_240 rfl (lv_at hl 3 rfl) ?_
        refine lv_aload_n hx hb d_law_241 rfl (lv_at hl 1 rfl) ?_
        refine lv_iload_n hx hb d_law_242 rfl (lv_at hl 0 rfl) ?_
        refine lv_iconst (v := 1) hx hb d_law_243 (by decide) ?_
        refine lv_iadd hx hb d_law_244 ?_
        refine ls_ld E hX hbB hW hL (i + 1) (nI_add i 1) (by omega) d_law_245 ?_
        refine lv_aload_n hx hb d_law_246 rfl (lv_at hl 1 rfl) ?_
        refine lv_iload_n hx hb d_law_247 rfl (lv_at hl 0 rfl) ?_
        refine lv_iconst (v := 2) hx hb d_law_248 (by decide) ?_
        refine lv_iadd hx hb d_law_249 ?_
        refine ls_ld E hX hbB hW hL (i + 2) (nI_add i 2) (by omega) d_law_250 ?_
        refine lv_aload_n hx hb d_law_251 rfl (lv_at hl 1 rfl) ?_
        refine lv_iload_n hx hb d_law_252 rfl (lv_at hl 0 rfl) ?_
        refine lv_iconst (v := 3) hx hb d_law_253 (by decide) ?_
        refine lv_iadd hx hb d_law_254 ?_
        refine ls_ld E hX hbB hW hL (i + 3) (nI_add i 3) (by omega) d_law_255 ?_
        refine ct_V E K hW hl.1 hD.1 rfl (c_D_add l g mo A (xs (i + 1)) (xs (i + 2)) (xs (i + 3)) X Lw M1 hD hM1) k_243 k_3 k_240 k_241 k_242 3 (by decide +kernel) rfl (by decide) rfl (Nat.le_of_ble_eq_true rfl) ⟨Nat.le_of_ble_eq_true rfl, Nat.le_of_ble_eq_true rfl⟩ d_law_256 (fun r M2 H locs hq hW => ?_)
        obtain ⟨rfl, df2, D2⟩ := hq
        refine W.eq (g2 := F0 m 259 ls []) rfl ?_
        have C2 := C1.kept (fun j hj => df2 _ (fun i hi => (hAB i j hi hj).symm))
        refine lv_goto (tgt := 596) hx hb d_law_259 (by decide) ?_
        exact nxt _ _ M2 H locs ls C2 D2 hW hl
      · refine lv_tableIn (off := 229) (tgt := 262) hx hb d_law_33 (by decide) (by decide) (by decide) (by decide) ?_
        refine lv_aload_n hx hb d_law_262 rfl (lv_at hl 2 rfl) ?_
        refine lv_aload_n hx hb d_law_263 rfl (lv_at hl 1 rfl) ?_
        refine lv_iload_n hx hb d_law_264 rfl (lv_at hl 0 rfl) ?_
        refine lv_iconst (v := 1) hx hb d_law_265 (by decide) ?_
        refine lv_iadd hx hb d_law_266 ?_
        refine ls_ld E hX hbB hW hL (i + 1) (nI_add i 1) (by omega) d_law_267 ?_
        refine lv_aload_n hx hb d_law_268 rfl (lv_at hl 1 rfl) ?_
        refine lv_iload_n hx hb d_law_269 rfl (lv_at hl 0 rfl) ?_
        refine lv_iconst (v := 2) hx hb d_law_270 (by decide) ?_
        refine lv_iadd hx hb d_law_271 ?_
        refine ls_ld E hX hbB hW hL (i + 2) (nI_add i 2) (by omega) d_law_272 ?_
        refine lv_aload_n hx hb d_law_273 rfl (lv_at hl 1 rfl) ?_
        refine lv_iload_n hx hb d_law_274 rfl (lv_at hl 0 rfl) ?_
        refine lv_iconst (v := 3) hx hb d_law_275 (by decide) ?_
        refine lv_iadd hx hb d_law_276 ?_
        refine ls_ld E hX hbB hW hL (i + 3) (nI_add i 3) (by omega) d_law_277 ?_
        refine ct_V E K hW hl.1 hV.1 rfl (c_K_subtract l g xo rg fd mn B (xs (i + 1)) (xs (i + 2)) (xs (i + 3)) X Lw M hV hC) k_101 k_1 k_98 k_99 k_100 3 (by decide +kernel) rfl (by decide) rfl (Nat.le_of_ble_eq_true rfl) ⟨Nat.le_of_ble_eq_true rfl, Nat.le_of_ble_eq_true rfl⟩ d_law_278 (fun r M1 H locs hq hW => ?_)
        obtain ⟨rfl, cf1, C1⟩ := hq
        refine W.eq (g2 := F0 m 281 ls []) rfl ?_
        have hM1 := hM.kept (cf1 _ (fun j hj => hAB 0 j (by decide) hj)) (cf1 _ (fun j hj => hAB 1 j (by decide) hj)) (cf1 _ (fun j hj => hAB 2 j (by decide) hj))
        refine lv_aload_n hx hb d_law_281 rfl (lv_at hl 3 rfl) ?_
        refine lv_aload_n hx hb d_law_282 rfl (lv_at hl 1 rfl) ?_
        refine lv_iload_n hx hb d_law_283 rfl (lv_at hl 0 rfl) ?_
        refine lv_iconst (v := 1) hx hb d_law_284 (by decide) ?_
        refine lv_iadd hx hb d_law_285 ?_
        refine ls_ld E hX hbB hW hL (i + 1) (nI_add i 1) (by omega) d_law_286 ?_
        refine lv_aload_n hx hb d_law_287 rfl (lv_at hl 1 rfl) ?_
        refine lv_iload_n hx hb d_law_288 rfl (lv_at hl 0 rfl) ?_
        refine lv_iconst (v := 2) hx hb d_law_289 (by decide) ?_
        refine lv_iadd hx hb d_law_290 ?_
        refine ls_ld E hX hbB hW hL (i + 2) (nI_add i 2) (by omega) d_law_291 ?_
        refine lv_aload_n hx hb d_law_292 rfl (lv_at hl 1 rfl) ?_
        refine lv_iload_n hx hb d_law_293 rfl (lv_at hl 0 rfl) ?_
        refine lv_iconst (v := 3) hx hb d_law_294 (by decide) ?_
        refine lv_iadd hx hb d_law_295 ?_
        refine ls_ld E hX hbB hW hL (i + 3) (nI_add i 3) (by omega) d_law_296 ?_
        refine ct_V E K hW hl.1 hD.1 rfl (c_D_subtract l g mo A (xs (i + 1)) (xs (i + 2)) (xs (i + 3)) X Lw M1 hD hM1) k_255 k_3 k_252 k_253 k_254 3 (by decide +kernel) rfl (by decide) rfl (Nat.le_of_ble_eq_true rfl) ⟨Nat.le_of_ble_eq_true rfl, Nat.le_of_ble_eq_true rfl⟩ d_law_297 (fun r M2 H locs hq hW => ?_)
        obtain ⟨rfl, df2, D2⟩ := hq
        refine W.eq (g2 := F0 m 300 ls []) rfl ?_
        have C2 := C1.kept (fun j hj => df2 _ (fun i hi => (hAB i j hi hj).symm))
        refine lv_goto (tgt := 596) hx hb d_law_300 (by decide) ?_
        exact nxt _ _ M2 H locs ls C2 D2 hW hl
      · refine lv_tableIn (off := 270) (tgt := 303) hx hb d_law_33 (by decide) (by decide) (by decide) (by decide) ?_
        refine lv_aload_n hx hb d_law_303 rfl (lv_at hl 2 rfl) ?_
        refine lv_aload_n hx hb d_law_304 rfl (lv_at hl 1 rfl) ?_
        refine lv_iload_n hx hb d_law_305 rfl (lv_at hl 0 rfl) ?_
        refine lv_iconst (v := 1) hx hb d_law_306 (by decide) ?_
        refine lv_iadd hx hb d_law_307 ?_
        refine ls_ld E hX hbB hW hL (i + 1) (nI_add i 1) (by omega) d_law_308 ?_
        refine lv_aload_n hx hb d_law_309 rfl (lv_at hl 1 rfl) ?_
        refine lv_iload_n hx hb d_law_310 rfl (lv_at hl 0 rfl) ?_
        refine lv_iconst (v := 2) hx hb d_law_311 (by decide) ?_
        refine lv_iadd hx hb d_law_312 ?_
        refine ls_ld E hX hbB hW hL (i + 2) (nI_add i 2) (by omega) d_law_313 ?_
        refine lv_aload_n hx hb d_law_314 rfl (lv_at hl 1 rfl) ?_
        refine lv_iload_n hx hb d_law_315 rfl (lv_at hl 0 rfl) ?_
        refine lv_iconst (v := 3) hx hb d_law_316 (by decide) ?_
        refine lv_iadd hx hb d_law_317 ?_
        refine ls_ld E hX hbB hW hL (i + 3) (nI_add i 3) (by omega) d_law_318 ?_
        refine ct_V E K hW hl.1 hV.1 rfl (c_K_multiply l g xo rg fd mn B (xs (i + 1)) (xs (i + 2)) (xs (i + 3)) X Lw M hV hC) k_109 k_1 k_106 k_107 k_108 3 (by decide +kernel) rfl (by decide) rfl (Nat.le_of_ble_eq_true rfl) ⟨Nat.le_of_ble_eq_true rfl, Nat.le_of_ble_eq_true rfl⟩ d_law_319 (fun r M1 H locs hq hW => ?_)
        obtain ⟨rfl, cf1, C1⟩ := hq
        refine W.eq (g2 := F0 m 322 ls []) rfl ?_
        have hM1 := hM.kept (cf1 _ (fun j hj => hAB 0 j (by decide) hj)) (cf1 _ (fun j hj => hAB 1 j (by decide) hj)) (cf1 _ (fun j hj => hAB 2 j (by decide) hj))
        refine lv_aload_n hx hb d_law_322 rfl (lv_at hl 3 rfl) ?_
        refine lv_aload_n hx hb d_law_323 rfl (lv_at hl 1 rfl) ?_
        refine lv_iload_n hx hb d_law_324 rfl (lv_at hl 0 rfl) ?_
        refine lv_iconst (v := 1) hx hb d_law_325 (by decide) ?_
        refine lv_iadd hx hb d_law_326 ?_
        refine ls_ld E hX hbB hW hL (i + 1) (nI_add i 1) (by omega) d_law_327 ?_
        refine lv_aload_n hx hb d_law_328 rfl (lv_at hl 1 rfl) ?_
        refine lv_iload_n hx hb d_law_329 rfl (lv_at hl 0 rfl) ?_
        refine lv_iconst (v := 2) hx hb d_law_330 (by decide) ?_
        refine lv_iadd hx hb d_law_331 ?_
        refine ls_ld E hX hbB hW hL (i + 2) (nI_add i 2) (by omega) d_law_332 ?_
        refine lv_aload_n hx hb d_law_333 rfl (lv_at hl 1 rfl) ?_
        refine lv_iload_n hx hb d_law_334 rfl (lv_at hl 0 rfl) ?_
        refine lv_iconst (v := 3) hx hb d_law_335 (by decide) ?_
        refine lv_iadd hx hb d_law_336 ?_
        refine ls_ld E hX hbB hW hL (i + 3) (nI_add i 3) (by omega) d_law_337 ?_
        refine ct_V E K hW hl.1 hD.1 rfl (c_D_multiply l g mo A (xs (i + 1)) (xs (i + 2)) (xs (i + 3)) X Lw M1 hD hM1) k_267 k_3 k_264 k_265 k_266 3 (by decide +kernel) rfl (by decide) rfl (Nat.le_of_ble_eq_true rfl) ⟨Nat.le_of_ble_eq_true rfl, Nat.le_of_ble_eq_true rfl⟩ d_law_338 (fun r M2 H locs hq hW => ?_)
        obtain ⟨rfl, df2, D2⟩ := hq
        refine W.eq (g2 := F0 m 341 ls []) rfl ?_
        have C2 := C1.kept (fun j hj => df2 _ (fun i hi => (hAB i j hi hj).symm))
        refine lv_goto (tgt := 596) hx hb d_law_341 (by decide) ?_
        exact nxt _ _ M2 H locs ls C2 D2 hW hl
      · refine lv_tableIn (off := 311) (tgt := 344) hx hb d_law_33 (by decide) (by decide) (by decide) (by decide) ?_
        refine lv_aload_n hx hb d_law_344 rfl (lv_at hl 2 rfl) ?_
        refine lv_aload_n hx hb d_law_345 rfl (lv_at hl 1 rfl) ?_
        refine lv_iload_n hx hb d_law_346 rfl (lv_at hl 0 rfl) ?_
        refine lv_iconst (v := 1) hx hb d_law_347 (by decide) ?_
        refine lv_iadd hx hb d_law_348 ?_
        refine ls_ld E hX hbB hW hL (i + 1) (nI_add i 1) (by omega) d_law_349 ?_
        refine lv_aload_n hx hb d_law_350 rfl (lv_at hl 1 rfl) ?_
        refine lv_iload_n hx hb d_law_351 rfl (lv_at hl 0 rfl) ?_
        refine lv_iconst (v := 2) hx hb d_law_352 (by decide) ?_
        refine lv_iadd hx hb d_law_353 ?_
        refine ls_ld E hX hbB hW hL (i + 2) (nI_add i 2) (by omega) d_law_354 ?_
        refine ct_V E K hW hl.1 hV.1 rfl (c_K_square l g xo rg fd mn B (xs (i + 1)) (xs (i + 2)) X Lw M hV hC) k_125 k_1 k_122 k_123 k_124 2 (by decide +kernel) rfl (by decide) rfl (Nat.le_of_ble_eq_true rfl) ⟨Nat.le_of_ble_eq_true rfl, Nat.le_of_ble_eq_true rfl⟩ d_law_355 (fun r M1 H locs hq hW => ?_)
        obtain ⟨rfl, cf1, C1⟩ := hq
        refine W.eq (g2 := F0 m 358 ls []) rfl ?_
        have hM1 := hM.kept (cf1 _ (fun j hj => hAB 0 j (by decide) hj)) (cf1 _ (fun j hj => hAB 1 j (by decide) hj)) (cf1 _ (fun j hj => hAB 2 j (by decide) hj))
        refine lv_aload_n hx hb d_law_358 rfl (lv_at hl 3 rfl) ?_
        refine lv_aload_n hx hb d_law_359 rfl (lv_at hl 1 rfl) ?_
        refine lv_iload_n hx hb d_law_360 rfl (lv_at hl 0 rfl) ?_
        refine lv_iconst (v := 1) hx hb d_law_361 (by decide) ?_
        refine lv_iadd hx hb d_law_362 ?_
        refine ls_ld E hX hbB hW hL (i + 1) (nI_add i 1) (by omega) d_law_363 ?_
        refine lv_aload_n hx hb d_law_364 rfl (lv_at hl 1 rfl) ?_
        refine lv_iload_n hx hb d_law_365 rfl (lv_at hl 0 rfl) ?_
        refine lv_iconst (v := 2) hx hb d_law_366 (by decide) ?_
        refine lv_iadd hx hb d_law_367 ?_
        refine ls_ld E hX hbB hW hL (i + 2) (nI_add i 2) (by omega) d_law_368 ?_
        refine ct_V E K hW hl.1 hD.1 rfl (c_D_square l g mo A (xs (i + 1)) (xs (i + 2)) X Lw M1 hD hM1) k_275 k_3 k_272 k_273 k_274 2 (by decide +kernel) rfl (by decide) rfl (Nat.le_of_ble_eq_true rfl) ⟨Nat.le_of_ble_eq_true rfl, Nat.le_of_ble_eq_true rfl⟩ d_law_369 (fun r M2 H locs hq hW => ?_)
        obtain ⟨rfl, df2, D2⟩ := hq
        refine W.eq (g2 := F0 m 372 ls []) rfl ?_
        have C2 := C1.kept (fun j hj => df2 _ (fun i hi => (hAB i j hi hj).symm))
        refine lv_goto (tgt := 596) hx hb d_law_372 (by decide) ?_
        exact nxt _ _ M2 H locs ls C2 D2 hW hl
      · refine lv_tableIn (off := 342) (tgt := 375) hx hb d_law_33 (by decide) (by decide) (by decide) (by decide) ?_
        refine lv_aload_n hx hb d_law_375 rfl (lv_at hl 2 rfl) ?_
        refine lv_aload_n hx hb d_law_376 rfl (lv_at hl 1 rfl) ?_
        refine lv_iload_n hx hb d_law_377 rfl (lv_at hl 0 rfl) ?_
        refine lv_iconst (v := 1) hx hb d_law_378 (by decide) ?_
        refine lv_iadd hx hb d_law_379 ?_
        refine ls_ld E hX hbB hW hL (i + 1) (nI_add i 1) (by omega) d_law_380 ?_
        refine lv_aload_n hx hb d_law_381 rfl (lv_at hl 1 rfl) ?_
        refine lv_iload_n hx hb d_law_382 rfl (lv_at hl 0 rfl) ?_
        refine lv_iconst (v := 2) hx hb d_law_383 (by decide) ?_
        refine lv_iadd hx hb d_law_384 ?_
        refine ls_ld E hX hbB hW hL (i + 2) (nI_add i 2) (by omega) d_law_385 ?_
        refine lv_aload_n hx hb d_law_386 rfl (lv_at hl 1 rfl) ?_
        refine lv_iload_n hx hb d_law_387 rfl (lv_at hl 0 rfl) ?_
        refine lv_iconst (v := 3) hx hb d_law_388 (by decide) ?_
        refine lv_iadd hx hb d_law_389 ?_
        refine ls_ld E hX hbB hW hL (i + 3) (nI_add i 3) (by omega) d_law_390 ?_
        refine ct_V E K hW hl.1 hV.1 rfl (c_K_squares l g xo rg fd mn B (xs (i + 1)) (xs (i + 2)) (xs (i + 3)) X Lw M hV hC) k_130 k_1 k_127 k_128 k_129 3 (by decide +kernel) rfl (by decide) rfl (Nat.le_of_ble_eq_true rfl) ⟨Nat.le_of_ble_eq_true rfl, Nat.le_of_ble_eq_true rfl⟩ d_law_391 (fun r M1 H locs hq hW => ?_)
        obtain ⟨rfl, cf1, C1⟩ := hq
        refine W.eq (g2 := F0 m 394 ls []) rfl ?_
        have hM1 := hM.kept (cf1 _ (fun j hj => hAB 0 j (by decide) hj)) (cf1 _ (fun j hj => hAB 1 j (by decide) hj)) (cf1 _ (fun j hj => hAB 2 j (by decide) hj))
        refine lv_aload_n hx hb d_law_394 rfl (lv_at hl 3 rfl) ?_
        refine lv_aload_n hx hb d_law_395 rfl (lv_at hl 1 rfl) ?_
        refine lv_iload_n hx hb d_law_396 rfl (lv_at hl 0 rfl) ?_
        refine lv_iconst (v := 1) hx hb d_law_397 (by decide) ?_
        refine lv_iadd hx hb d_law_398 ?_
        refine ls_ld E hX hbB hW hL (i + 1) (nI_add i 1) (by omega) d_law_399 ?_
        refine lv_aload_n hx hb d_law_400 rfl (lv_at hl 1 rfl) ?_
        refine lv_iload_n hx hb d_law_401 rfl (lv_at hl 0 rfl) ?_
        refine lv_iconst (v := 2) hx hb d_law_402 (by decide) ?_
        refine lv_iadd hx hb d_law_403 ?_
        refine ls_ld E hX hbB hW hL (i + 2) (nI_add i 2) (by omega) d_law_404 ?_
        refine lv_aload_n hx hb d_law_405 rfl (lv_at hl 1 rfl) ?_
        refine lv_iload_n hx hb d_law_406 rfl (lv_at hl 0 rfl) ?_
        refine lv_iconst (v := 3) hx hb d_law_407 (by decide) ?_
        refine lv_iadd hx hb d_law_408 ?_
        refine ls_ld E hX hbB hW hL (i + 3) (nI_add i 3) (by omega) d_law_409 ?_
        refine ct_V E K hW hl.1 hD.1 rfl (c_D_squares l g mo A (xs (i + 1)) (xs (i + 2)) (xs (i + 3)) X Lw M1 hD hM1) k_279 k_3 k_276 k_277 k_278 3 (by decide +kernel) rfl (by decide) rfl (Nat.le_of_ble_eq_true rfl) ⟨Nat.le_of_ble_eq_true rfl, Nat.le_of_ble_eq_true rfl⟩ d_law_410 (fun r M2 H locs hq hW => ?_)
        obtain ⟨rfl, df2, D2⟩ := hq
        refine W.eq (g2 := F0 m 413 ls []) rfl ?_
        have C2 := C1.kept (fun j hj => df2 _ (fun i hi => (hAB i j hi hj).symm))
        refine lv_goto (tgt := 596) hx hb d_law_413 (by decide) ?_
        exact nxt _ _ M2 H locs ls C2 D2 hW hl
      · refine lv_tableIn (off := 383) (tgt := 416) hx hb d_law_33 (by decide) (by decide) (by decide) (by decide) ?_
        refine lv_aload_n hx hb d_law_416 rfl (lv_at hl 2 rfl) ?_
        refine lv_aload_n hx hb d_law_417 rfl (lv_at hl 1 rfl) ?_
        refine lv_iload_n hx hb d_law_418 rfl (lv_at hl 0 rfl) ?_
        refine lv_iconst (v := 1) hx hb d_law_419 (by decide) ?_
        refine lv_iadd hx hb d_law_420 ?_
        refine ls_ld E hX hbB hW hL (i + 1) (nI_add i 1) (by omega) d_law_421 ?_
        refine lv_aload_n hx hb d_law_422 rfl (lv_at hl 1 rfl) ?_
        refine lv_iload_n hx hb d_law_423 rfl (lv_at hl 0 rfl) ?_
        refine lv_iconst (v := 2) hx hb d_law_424 (by decide) ?_
        refine lv_iadd hx hb d_law_425 ?_
        refine ls_ld E hX hbB hW hL (i + 2) (nI_add i 2) (by omega) d_law_426 ?_
        refine ct_V E K hW hl.1 hV.1 rfl (c_K_twice l g xo rg fd mn B (xs (i + 1)) (xs (i + 2)) X Lw M hV hC) k_135 k_1 k_132 k_133 k_134 2 (by decide +kernel) rfl (by decide) rfl (Nat.le_of_ble_eq_true rfl) ⟨Nat.le_of_ble_eq_true rfl, Nat.le_of_ble_eq_true rfl⟩ d_law_427 (fun r M1 H locs hq hW => ?_)
        obtain ⟨rfl, cf1, C1⟩ := hq
        refine W.eq (g2 := F0 m 430 ls []) rfl ?_
        have hM1 := hM.kept (cf1 _ (fun j hj => hAB 0 j (by decide) hj)) (cf1 _ (fun j hj => hAB 1 j (by decide) hj)) (cf1 _ (fun j hj => hAB 2 j (by decide) hj))
        refine lv_aload_n hx hb d_law_430 rfl (lv_at hl 3 rfl) ?_
        refine lv_aload_n hx hb d_law_431 rfl (lv_at hl 1 rfl) ?_
        refine lv_iload_n hx hb d_law_432 rfl (lv_at hl 0 rfl) ?_
        refine lv_iconst (v := 1) hx hb d_law_433 (by decide) ?_
        refine lv_iadd hx hb d_law_434 ?_
        refine ls_ld E hX hbB hW hL (i + 1) (nI_add i 1) (by omega) d_law_435 ?_
        refine lv_aload_n hx hb d_law_436 rfl (lv_at hl 1 rfl) ?_
        refine lv_iload_n hx hb d_law_437 rfl (lv_at hl 0 rfl) ?_
        refine lv_iconst (v := 2) hx hb d_law_438 (by decide) ?_
        refine lv_iadd hx hb d_law_439 ?_
        refine ls_ld E hX hbB hW hL (i + 2) (nI_add i 2) (by omega) d_law_440 ?_
        refine ct_V E K hW hl.1 hD.1 rfl (c_D_twice l g mo A (xs (i + 1)) (xs (i + 2)) X Lw M1 hD hM1) k_287 k_3 k_284 k_285 k_286 2 (by decide +kernel) rfl (by decide) rfl (Nat.le_of_ble_eq_true rfl) ⟨Nat.le_of_ble_eq_true rfl, Nat.le_of_ble_eq_true rfl⟩ d_law_441 (fun r M2 H locs hq hW => ?_)
        obtain ⟨rfl, df2, D2⟩ := hq
        refine W.eq (g2 := F0 m 444 ls []) rfl ?_
        have C2 := C1.kept (fun j hj => df2 _ (fun i hi => (hAB i j hi hj).symm))
        refine lv_goto (tgt := 596) hx hb d_law_444 (by decide) ?_
        exact nxt _ _ M2 H locs ls C2 D2 hW hl
      · refine lv_tableIn (off := 414) (tgt := 447) hx hb d_law_33 (by decide) (by decide) (by decide) (by decide) ?_
        refine lv_aload_n hx hb d_law_447 rfl (lv_at hl 2 rfl) ?_
        refine lv_aload_n hx hb d_law_448 rfl (lv_at hl 1 rfl) ?_
        refine lv_iload_n hx hb d_law_449 rfl (lv_at hl 0 rfl) ?_
        refine lv_iconst (v := 1) hx hb d_law_450 (by decide) ?_
        refine lv_iadd hx hb d_law_451 ?_
        refine ls_ld E hX hbB hW hL (i + 1) (nI_add i 1) (by omega) d_law_452 ?_
        refine lv_aload_n hx hb d_law_453 rfl (lv_at hl 1 rfl) ?_
        refine lv_iload_n hx hb d_law_454 rfl (lv_at hl 0 rfl) ?_
        refine lv_iconst (v := 2) hx hb d_law_455 (by decide) ?_
        refine lv_iadd hx hb d_law_456 ?_
        refine ls_ld E hX hbB hW hL (i + 2) (nI_add i 2) (by omega) d_law_457 ?_
        refine ct_V E K hW hl.1 hV.1 rfl (c_K_halve l g xo rg fd mn B (xs (i + 1)) (xs (i + 2)) X Lw M hV hC) k_139 k_1 k_136 k_137 k_138 2 (by decide +kernel) rfl (by decide) rfl (Nat.le_of_ble_eq_true rfl) ⟨Nat.le_of_ble_eq_true rfl, Nat.le_of_ble_eq_true rfl⟩ d_law_458 (fun r M1 H locs hq hW => ?_)
        obtain ⟨rfl, cf1, C1⟩ := hq
        refine W.eq (g2 := F0 m 461 ls []) rfl ?_
        have hM1 := hM.kept (cf1 _ (fun j hj => hAB 0 j (by decide) hj)) (cf1 _ (fun j hj => hAB 1 j (by decide) hj)) (cf1 _ (fun j hj => hAB 2 j (by decide) hj))
        refine lv_aload_n hx hb d_law_461 rfl (lv_at hl 3 rfl) ?_
        refine lv_aload_n hx hb d_law_462 rfl (lv_at hl 1 rfl) ?_
        refine lv_iload_n hx hb d_law_463 rfl (lv_at hl 0 rfl) ?_
        refine lv_iconst (v := 1) hx hb d_law_464 (by decide) ?_
        refine lv_iadd hx hb d_law_465 ?_
        refine ls_ld E hX hbB hW hL (i + 1) (nI_add i 1) (by omega) d_law_466 ?_
        refine lv_aload_n hx hb d_law_467 rfl (lv_at hl 1 rfl) ?_
        refine lv_iload_n hx hb d_law_468 rfl (lv_at hl 0 rfl) ?_
        refine lv_iconst (v := 2) hx hb d_law_469 (by decide) ?_
        refine lv_iadd hx hb d_law_470 ?_
        refine ls_ld E hX hbB hW hL (i + 2) (nI_add i 2) (by omega) d_law_471 ?_
        refine ct_V E K hW hl.1 hD.1 rfl (c_D_halve l g mo A (xs (i + 1)) (xs (i + 2)) X Lw M1 hD hM1) k_291 k_3 k_288 k_289 k_290 2 (by decide +kernel) rfl (by decide) rfl (Nat.le_of_ble_eq_true rfl) ⟨Nat.le_of_ble_eq_true rfl, Nat.le_of_ble_eq_true rfl⟩ d_law_472 (fun r M2 H locs hq hW => ?_)
        obtain ⟨rfl, df2, D2⟩ := hq
        refine W.eq (g2 := F0 m 475 ls []) rfl ?_
        have C2 := C1.kept (fun j hj => df2 _ (fun i hi => (hAB i j hi hj).symm))
        refine lv_goto (tgt := 596) hx hb d_law_475 (by decide) ?_
        exact nxt _ _ M2 H locs ls C2 D2 hW hl
      · refine lv_tableIn (off := 445) (tgt := 478) hx hb d_law_33 (by decide) (by decide) (by decide) (by decide) ?_
        refine lv_aload_n hx hb d_law_478 rfl (lv_at hl 2 rfl) ?_
        refine lv_aload_n hx hb d_law_479 rfl (lv_at hl 1 rfl) ?_
        refine lv_iload_n hx hb d_law_480 rfl (lv_at hl 0 rfl) ?_
        refine lv_iconst (v := 1) hx hb d_law_481 (by decide) ?_
        refine lv_iadd hx hb d_law_482 ?_
        refine ls_ld E hX hbB hW hL (i + 1) (nI_add i 1) (by omega) d_law_483 ?_
        refine lv_aload_n hx hb d_law_484 rfl (lv_at hl 1 rfl) ?_
        refine lv_iload_n hx hb d_law_485 rfl (lv_at hl 0 rfl) ?_
        refine lv_iconst (v := 2) hx hb d_law_486 (by decide) ?_
        refine lv_iadd hx hb d_law_487 ?_
        refine ls_ld E hX hbB hW hL (i + 2) (nI_add i 2) (by omega) d_law_488 ?_
        refine ct_V E K hW hl.1 hV.1 rfl (c_K_negate l g xo rg fd mn B (xs (i + 1)) (xs (i + 2)) X Lw M hV hC) k_148 k_1 k_145 k_146 k_147 2 (by decide +kernel) rfl (by decide) rfl (Nat.le_of_ble_eq_true rfl) ⟨Nat.le_of_ble_eq_true rfl, Nat.le_of_ble_eq_true rfl⟩ d_law_489 (fun r M1 H locs hq hW => ?_)
        obtain ⟨rfl, cf1, C1⟩ := hq
        refine W.eq (g2 := F0 m 492 ls []) rfl ?_
        have hM1 := hM.kept (cf1 _ (fun j hj => hAB 0 j (by decide) hj)) (cf1 _ (fun j hj => hAB 1 j (by decide) hj)) (cf1 _ (fun j hj => hAB 2 j (by decide) hj))
        refine lv_aload_n hx hb d_law_492 rfl (lv_at hl 3 rfl) ?_
        refine lv_aload_n hx hb d_law_493 rfl (lv_at hl 1 rfl) ?_
        refine lv_iload_n hx hb d_law_494 rfl (lv_at hl 0 rfl) ?_
        refine lv_iconst (v := 1) hx hb d_law_495 (by decide) ?_
        refine lv_iadd hx hb d_law_496 ?_
        refine ls_ld E hX hbB hW hL (i + 1) (nI_add i 1) (by omega) d_law_497 ?_
        refine lv_aload_n hx hb d_law_498 rfl (lv_at hl 1 rfl) ?_
        refine lv_iload_n hx hb d_law_499 rfl (lv_at hl 0 rfl) ?_
        refine lv_iconst (v := 2) hx hb d_law_500 (by decide) ?_
        refine lv_iadd hx hb d_law_501 ?_
        refine ls_ld E hX hbB hW hL (i + 2) (nI_add i 2) (by omega) d_law_502 ?_
        refine ct_V E K hW hl.1 hD.1 rfl (c_D_negate l g mo A (xs (i + 1)) (xs (i + 2)) X Lw M1 hD hM1) k_295 k_3 k_292 k_293 k_294 2 (by decide +kernel) rfl (by decide) rfl (Nat.le_of_ble_eq_true rfl) ⟨Nat.le_of_ble_eq_true rfl, Nat.le_of_ble_eq_true rfl⟩ d_law_503 (fun r M2 H locs hq hW => ?_)
        obtain ⟨rfl, df2, D2⟩ := hq
        refine W.eq (g2 := F0 m 506 ls []) rfl ?_
        have C2 := C1.kept (fun j hj => df2 _ (fun i hi => (hAB i j hi hj).symm))
        refine lv_goto (tgt := 596) hx hb d_law_506 (by decide) ?_
        exact nxt _ _ M2 H locs ls C2 D2 hW hl
      · refine lv_tableIn (off := 476) (tgt := 509) hx hb d_law_33 (by decide) (by decide) (by decide) (by decide) ?_
        refine lv_aload_n hx hb d_law_509 rfl (lv_at hl 2 rfl) ?_
        refine lv_aload_n hx hb d_law_510 rfl (lv_at hl 1 rfl) ?_
        refine lv_iload_n hx hb d_law_511 rfl (lv_at hl 0 rfl) ?_
        refine lv_iconst (v := 1) hx hb d_law_512 (by decide) ?_
        refine lv_iadd hx hb d_law_513 ?_
        refine ls_ld E hX hbB hW hL (i + 1) (nI_add i 1) (by omega) d_law_514 ?_
        refine lv_aload_n hx hb d_law_515 rfl (lv_at hl 1 rfl) ?_
        refine lv_iload_n hx hb d_law_516 rfl (lv_at hl 0 rfl) ?_
        refine lv_iconst (v := 2) hx hb d_law_517 (by decide) ?_
        refine lv_iadd hx hb d_law_518 ?_
        refine ls_ld E hX hbB hW hL (i + 2) (nI_add i 2) (by omega) d_law_519 ?_
        refine ct_V E K hW hl.1 hV.1 rfl (c_K_invert l g xo rg fd mn B (xs (i + 1)) (xs (i + 2)) X Lw M hV hC) k_152 k_1 k_149 k_150 k_151 2 (by decide +kernel) rfl (by decide) rfl (Nat.le_of_ble_eq_true rfl) ⟨Nat.le_of_ble_eq_true rfl, Nat.le_of_ble_eq_true rfl⟩ d_law_520 (fun r M1 H locs hq hW => ?_)
        obtain ⟨rfl, cf1, C1⟩ := hq
        refine W.eq (g2 := F0 m 523 ls [.int (if X (w4 (xs (i + 2)) % 4) = 0 then 0 else 1)]) rfl ?_
        have hM1 := hM.kept (cf1 _ (fun j hj => hAB 0 j (by decide) hj)) (cf1 _ (fun j hj => hAB 1 j (by decide) hj)) (cf1 _ (fun j hj => hAB 2 j (by decide) hj))
        refine lv_aload_n hx hb d_law_523 rfl (lv_at hl 3 rfl) ?_
        refine lv_aload_n hx hb d_law_524 rfl (lv_at hl 1 rfl) ?_
        refine lv_iload_n hx hb d_law_525 rfl (lv_at hl 0 rfl) ?_
        refine lv_iconst (v := 1) hx hb d_law_526 (by decide) ?_
        refine lv_iadd hx hb d_law_527 ?_
        refine ls_ld E hX hbB hW hL (i + 1) (nI_add i 1) (by omega) d_law_528 ?_
        refine lv_aload_n hx hb d_law_529 rfl (lv_at hl 1 rfl) ?_
        refine lv_iload_n hx hb d_law_530 rfl (lv_at hl 0 rfl) ?_
        refine lv_iconst (v := 2) hx hb d_law_531 (by decide) ?_
        refine lv_iadd hx hb d_law_532 ?_
        refine ls_ld E hX hbB hW hL (i + 2) (nI_add i 2) (by omega) d_law_533 ?_
        refine ct_V E K hW hl.1 hD.1 rfl (c_D_invert l g mo A (xs (i + 1)) (xs (i + 2)) X Lw M1 hD hM1) k_299 k_3 k_296 k_297 k_298 2 (by decide +kernel) rfl (by decide) rfl (Nat.le_of_ble_eq_true rfl) ⟨Nat.le_of_ble_eq_true rfl, Nat.le_of_ble_eq_true rfl⟩ d_law_534 (fun r M2 H locs hq hW => ?_)
        obtain ⟨rfl, df2, D2⟩ := hq
        refine W.eq (g2 := F0 m 537 ls [.int (if X (w4 (xs (i + 2)) % 4) = 0 then 0 else 1), .int (if X (w4 (xs (i + 2)) % 4) = 0 then 0 else 1)]) rfl ?_
        have C2 := C1.kept (fun j hj => df2 _ (fun i hi => (hAB i j hi hj).symm))
        refine lv_icmp_eq (tgt := 596) hx hb d_law_537 (by decide) (fun c9 => ?_) (fun c9 => ?_)
        · exact nxt _ _ M2 H locs ls C2 D2 hW hl
        · exact absurd rfl c9
      · refine lv_tableIn (off := 509) (tgt := 542) hx hb d_law_33 (by decide) (by decide) (by decide) (by decide) ?_
        refine lv_aload_n hx hb d_law_542 rfl (lv_at hl 2 rfl) ?_
        refine lv_aload_n hx hb d_law_543 rfl (lv_at hl 1 rfl) ?_
        refine lv_iload_n hx hb d_law_544 rfl (lv_at hl 0 rfl) ?_
        refine lv_iconst (v := 1) hx hb d_law_545 (by decide) ?_
        refine lv_iadd hx hb d_law_546 ?_
        refine ls_ld E hX hbB hW hL (i + 1) (nI_add i 1) (by omega) d_law_547 ?_
        refine ct_V E K hW hl.1 hV.1 rfl (c_K_zero l g xo rg fd mn B (xs (i + 1)) X Lw M hV hC) k_163 k_1 k_160 k_161 k_162 1 (by decide +kernel) rfl (by decide) rfl (Nat.le_of_ble_eq_true rfl) ⟨Nat.le_of_ble_eq_true rfl, Nat.le_of_ble_eq_true rfl⟩ d_law_548 (fun r M1 H locs hq hW => ?_)
        obtain ⟨rfl, cf1, C1⟩ := hq
        refine W.eq (g2 := F0 m 551 ls [.int (if X (w4 (xs (i + 1)) % 4) = 0 then 1 else 0)]) rfl ?_
        have hM1 := hM.kept (cf1 _ (fun j hj => hAB 0 j (by decide) hj)) (cf1 _ (fun j hj => hAB 1 j (by decide) hj)) (cf1 _ (fun j hj => hAB 2 j (by decide) hj))
        refine lv_aload_n hx hb d_law_551 rfl (lv_at hl 3 rfl) ?_
        refine lv_aload_n hx hb d_law_552 rfl (lv_at hl 1 rfl) ?_
        refine lv_iload_n hx hb d_law_553 rfl (lv_at hl 0 rfl) ?_
        refine lv_iconst (v := 1) hx hb d_law_554 (by decide) ?_
        refine lv_iadd hx hb d_law_555 ?_
        refine ls_ld E hX hbB hW hL (i + 1) (nI_add i 1) (by omega) d_law_556 ?_
        refine ct_V E K hW hl.1 hD.1 rfl (c_D_zero l g mo A (xs (i + 1)) X Lw M1 hD hM1) k_319 k_3 k_316 k_317 k_318 1 (by decide +kernel) rfl (by decide) rfl (Nat.le_of_ble_eq_true rfl) ⟨Nat.le_of_ble_eq_true rfl, Nat.le_of_ble_eq_true rfl⟩ d_law_557 (fun r M2 H locs hq hW => ?_)
        obtain ⟨rfl, df2, D2⟩ := hq
        refine W.eq (g2 := F0 m 560 ls [.int (if X (w4 (xs (i + 1)) % 4) = 0 then 1 else 0), .int (if X (w4 (xs (i + 1)) % 4) = 0 then 1 else 0)]) rfl ?_
        have C2 := C1.kept (fun j hj => df2 _ (fun i hi => (hAB i j hi hj).symm))
        refine lv_icmp_eq (tgt := 596) hx hb d_law_560 (by decide) (fun c9 => ?_) (fun c9 => ?_)
        · exact nxt _ _ M2 H locs ls C2 D2 hW hl
        · exact absurd rfl c9
      · refine lv_tableIn (off := 532) (tgt := 565) hx hb d_law_33 (by decide) (by decide) (by decide) (by decide) ?_
        refine lv_aload_n hx hb d_law_565 rfl (lv_at hl 2 rfl) ?_
        refine lv_aload_n hx hb d_law_566 rfl (lv_at hl 1 rfl) ?_
        refine lv_iload_n hx hb d_law_567 rfl (lv_at hl 0 rfl) ?_
        refine lv_iconst (v := 1) hx hb d_law_568 (by decide) ?_
        refine lv_iadd hx hb d_law_569 ?_
        refine ls_ld E hX hbB hW hL (i + 1) (nI_add i 1) (by omega) d_law_570 ?_
        refine lv_aload_n hx hb d_law_571 rfl (lv_at hl 1 rfl) ?_
        refine lv_iload_n hx hb d_law_572 rfl (lv_at hl 0 rfl) ?_
        refine lv_iconst (v := 2) hx hb d_law_573 (by decide) ?_
        refine lv_iadd hx hb d_law_574 ?_
        refine ls_ld E hX hbB hW hL (i + 2) (nI_add i 2) (by omega) d_law_575 ?_
        refine ct_V E K hW hl.1 hV.1 rfl (c_K_carry l g xo rg fd mn B (xs (i + 1)) (xs (i + 2)) X Lw M hV hC) k_167 k_1 k_164 k_165 k_166 2 (by decide +kernel) rfl (by decide) rfl (Nat.le_of_ble_eq_true rfl) ⟨Nat.le_of_ble_eq_true rfl, Nat.le_of_ble_eq_true rfl⟩ d_law_576 (fun r M1 H locs hq hW => ?_)
        obtain ⟨rfl, cf1, C1⟩ := hq
        refine W.eq (g2 := F0 m 579 ls []) rfl ?_
        have hM1 := hM.kept (cf1 _ (fun j hj => hAB 0 j (by decide) hj)) (cf1 _ (fun j hj => hAB 1 j (by decide) hj)) (cf1 _ (fun j hj => hAB 2 j (by decide) hj))
        refine lv_aload_n hx hb d_law_579 rfl (lv_at hl 3 rfl) ?_
        refine lv_aload_n hx hb d_law_580 rfl (lv_at hl 1 rfl) ?_
        refine lv_iload_n hx hb d_law_581 rfl (lv_at hl 0 rfl) ?_
        refine lv_iconst (v := 1) hx hb d_law_582 (by decide) ?_
        refine lv_iadd hx hb d_law_583 ?_
        refine ls_ld E hX hbB hW hL (i + 1) (nI_add i 1) (by omega) d_law_584 ?_
        refine lv_aload_n hx hb d_law_585 rfl (lv_at hl 1 rfl) ?_
        refine lv_iload_n hx hb d_law_586 rfl (lv_at hl 0 rfl) ?_
        refine lv_iconst (v := 2) hx hb d_law_587 (by decide) ?_
        refine lv_iadd hx hb d_law_588 ?_
        refine ls_ld E hX hbB hW hL (i + 2) (nI_add i 2) (by omega) d_law_589 ?_
        refine ct_V E K hW hl.1 hD.1 rfl (c_D_carry l g mo A (xs (i + 1)) (xs (i + 2)) X Lw M1 hD hM1) k_323 k_3 k_320 k_321 k_322 2 (by decide +kernel) rfl (by decide) rfl (Nat.le_of_ble_eq_true rfl) ⟨Nat.le_of_ble_eq_true rfl, Nat.le_of_ble_eq_true rfl⟩ d_law_590 (fun r M2 H locs hq hW => ?_)
        obtain ⟨rfl, df2, D2⟩ := hq
        refine W.eq (g2 := F0 m 593 ls []) rfl ?_
        have C2 := C1.kept (fun j hj => df2 _ (fun i hi => (hAB i j hi hj).symm))
        refine lv_goto (tgt := 596) hx hb d_law_593 (by decide) ?_
        exact nxt _ _ M2 H locs ls C2 D2 hW hl
      · refine lv_tableOut (tgt := 596) hx hb d_law_33 (by decide) (by decide) ?_
        exact nxt X Lw M H locs ls hC hM hW hl
      · refine lv_tableOut (tgt := 596) hx hb d_law_33 (by decide) (by decide) ?_
        exact nxt X Lw M H locs ls hC hM hW hl
end
section
set_option maxHeartbeats 4000000 in
set_option maxRecDepth 100000 in
/-- the law, from its entry -/
theorem whole_start {p : Program} {e : Env} {s : State} {m : MethodId} {below : List Frame} {meth : Method} {c : Code} (l : Launch) {b L : Nat} {xs : Nat → Int32} (hL : L ≤ 3072) (C0 : lw_At p s m meth c b L xs) : W p l e room_1 s m #[Value.ref b] below meth c s.heap [] 0 0 (lw_Z below #[Value.ref b] s) (entryFrame m ([Value.ref b] : List Value).toArray 4) := by
  obtain ⟨hx, hb, hr, hml, hown, hts0, hX, hbl, hlocks, hgv⟩ := id C0
  have hts : ∀ w ∈ tb, w.before #[Value.ref b] s = true := fun w hw => hts0 w (List.mem_filter.mp hw).1
  have hA : ∀ q : Nat, s.heap.size ≤ q → (fun q : Nat => s.heap.size ≤ q) q := fun _ h => h
  have hmo : mxo s := mx_over (hts0 (.arrayOver (.array .int)) (by decide +kernel))
  have n1 : va_Nw (.fieldLinkNest R_K 40 R_F "prime" "[I" R_K) s := va_Nw.of rfl (hts0 (.fieldLinkNest R_K 40 R_F "prime" "[I" R_K) (by decide +kernel))
  have n2 : va_Nw (.methodLinkNest R_K 43 y_F_difference R_K) s := va_Nw.of rfl (hts0 (.methodLinkNest R_K 43 y_F_difference R_K) (by decide +kernel))
  obtain ⟨cK, iK, hKnK⟩ := u_known (C := R_K) (T := F_K) (N := 4) (n := 4) hts i_K (hts _ k_5)
  obtain ⟨cF, iF, hKnF⟩ := u_known (C := R_F) (T := F_F) (N := 7) (n := 7) hts i_F (hts _ k_15)
  obtain ⟨cD, iD, hKnD⟩ := u_known (C := R_D) (T := F_D) (N := 12) (n := 12) hts i_D (hts _ k_175)
  obtain ⟨D, hKc⟩ : ∃ D : va_G, ∀ (k : Nat) (q : vw_C), classes[k]? = some q → u_Kn s q.1 q.2.1 q.2.2 (D.1 k) (D.2 k) := by
    refine ⟨(fun k => if k = 0 then cK else if k = 1 then cF else cD, fun k => if k = 0 then iK else if k = 1 then iF else iD), ?_⟩
    intro k q hq
    match k, hq with
    | 0, hq => cases hq; exact hKnK
    | 1, hq => cases hq; exact hKnF
    | 2, hq => cases hq; exact hKnD
    | k + 3, hq => simp [classes] at hq
  have hS : va_S (fun q : Nat => s.heap.size ≤ q) s.heap s.heap [] := va_S.rf
  have hK : va_K D classes [] s := ⟨hKc, fun k q h => by simp at h⟩
  have hP : va_P D classes [] s.heap := fun k q h => by simp at h
  have hD : va_D (fun q : Nat => s.heap.size ≤ q) [] := ⟨fun i j p q h => by simp at h, fun k q h => by simp at h⟩
  have hl := lv_entry ([.ref b]) (n := 4) (Nat.le_of_ble_eq_true rfl)
  rw [lg_entry_eq]
  generalize (lg_sl ([.ref b]) ++ List.replicate (4 - (lg_sl ([.ref b])).length) Slot.unset).toArray = ls at hl ⊢
  have hl : lv_has ls 4 [(0, .ref b)] := hl
  obtain ⟨H, eH⟩ : ∃ H, H = s.heap := ⟨_, rfl⟩
  have hS : va_S (fun q : Nat => s.heap.size ≤ q) s.heap H [] := by rw [eH]; exact hS
  have hP : va_P D classes [] H := by rw [eH]; exact hP
  rw [← eH]
  refine va_new (ci := 0) (fs := [.null, .null, .null, .null]) (C := R_K) (T := F_K) (N := 4) hx hb hts i_K t_K t_K_ok hown (hts _ k_4) (hts _ k_5) (hts _ k_1) hK hP hD hS hA rfl (fun j hj => by rcases (show j = 0 ∨ j = 1 ∨ j = 2 ∨ j = 3 by omega) with rfl | rfl | rfl | rfl <;> rfl) (Nat.le_of_ble_eq_true rfl) (Nat.le_of_ble_eq_true rfl) d_law_0 (fun xo H hP hD hS => ?_)
  have hP : va_P D classes [(xo, .inr (0, [.null, .null, .null, .null]))] H := hP
  have hD : va_D (fun q : Nat => s.heap.size ≤ q) [(xo, .inr (0, [.null, .null, .null, .null]))] := hD
  refine W.widen (k := 1) (n := 4) (by decide) (by decide) ?_
  refine lv_dup hx hb d_law_3 rfl ?_
  have hPc := hP.sub (ws' := [(xo, .inr (0, [.null, .null, .null, .null]))]) [0] rfl
  have hDc := hD.sub (ws' := [(xo, .inr (0, [.null, .null, .null, .null]))]) [0] (by decide) rfl
  have hKc2 := hK.sub (tys' := []) [] rfl
  have hFc := va_free (wc := [(xo, .inr (0, [.null, .null, .null, .null]))]) hD hS hA [0] rfl
  refine va_callv (va_runI (As := []) (rest := [.ref xo]) ⟨hx, hb, hml, hown, hts⟩ (c_K_init l D xo H.size) (cwI 0 hts (tb_code k_8) rfl rfl rfl (hts _ k_1) (hts _ k_6) (hts _ k_7) rfl (by decide +kernel) ⟨Nat.le_of_ble_eq_true rfl, Nat.le_of_ble_eq_true rfl⟩) ⟨fun a U g mk q => by obtain ⟨q0, q1, qP, qK, qD, qm⟩ := q; exact ⟨q0, q1, qP, va_K.moved (u := U) (U := U.calling g mk a) (Vm.Alike.refl U.vm) qK, qD, qm⟩, fun U hU hW => ⟨rfl, by rw [hU], by rw [hU]; exact hPc, va_K.moved hW.alike hKc2, hDc.weaken (fun _ _ _ _ => trivial), hmo.moved hW.alike⟩⟩ rfl rfl hl.1 rfl (lv_room (Nat.le_of_ble_eq_true rfl)) d_law_4 ⟨Nat.le_of_ble_eq_true rfl, Nat.le_of_ble_eq_true rfl⟩) hS (fun q _ h => hFc q h) hFc (fun u t H1 locs ht hvm hw hB hz1 hk1 hS => ?_)
  obtain ⟨q, ln, wk, fd, q1, q2, q3, q4, q5, q6, cR, cI, f1, f2, f3, f4, f5, f6, hP1, hK1, hD1, g1, g2, g3⟩ := hB
  rw [ht] at hP1
  have hK1 := va_K.moved hvm.symm hK1
  obtain ⟨hP, hD⟩ := va_join (wr := []) (w1 := [(xo, .inr (0, [.ref q, .ref ln, .ref wk, .ref fd])), (q, .inl (cR, 4, .inr (.inr (.inr (.inr (fun k => some (q + 1 + k))))))), (q + 1, .inl (cI, 8, .inl (fun _ => 0))), (q + 2, .inl (cI, 8, .inl (fun _ => 0))), (q + 3, .inl (cI, 8, .inl (fun _ => 0))), (q + 4, .inl (cI, 8, .inl (fun _ => 0))), (ln, .inl (cI, 8, .inl (fun _ => 0))), (wk, .inl (cI, 8, .inl (fun _ => 0))), (fd, .inr (1, [.ref q1, .ref q2, .ref q3, .ref q4, .ref q5, .ref q6, .int (-769313487)])), (q1, .inl (cI, 8, .inl f1)), (q2, .inl (cI, 8, .inl f2)), (q3, .inl (cI, 8, .inl f3)), (q4, .inl (cI, 10, .inl f4)), (q5, .inl (cI, 8, .inl f5)), (q6, .inl (cI, 8, .inl f6))]) hP hD [0] [] rfl rfl (by decide) (by decide) hk1 hFc hP1 hD1
  have hK := hK1
  generalize H1 = H at hP hS ⊢
  have hP : va_P D classes [(xo, .inr (0, [.ref q, .ref ln, .ref wk, .ref fd])), (q, .inl (cR, 4, .inr (.inr (.inr (.inr (fun k => some (q + 1 + k))))))), ((q + 1), .inl (cI, 8, .inl (fun _ => 0))), ((q + 2), .inl (cI, 8, .inl (fun _ => 0))), ((q + 3), .inl (cI, 8, .inl (fun _ => 0))), ((q + 4), .inl (cI, 8, .inl (fun _ => 0))), (ln, .inl (cI, 8, .inl (fun _ => 0))), (wk, .inl (cI, 8, .inl (fun _ => 0))), (fd, .inr (1, [.ref q1, .ref q2, .ref q3, .ref q4, .ref q5, .ref q6, .int (-769313487)])), (q1, .inl (cI, 8, .inl f1)), (q2, .inl (cI, 8, .inl f2)), (q3, .inl (cI, 8, .inl f3)), (q4, .inl (cI, 10, .inl f4)), (q5, .inl (cI, 8, .inl f5)), (q6, .inl (cI, 8, .inl f6))] H := hP
  have hD : va_D (fun q : Nat => s.heap.size ≤ q) [(xo, .inr (0, [.ref q, .ref ln, .ref wk, .ref fd])), (q, .inl (cR, 4, .inr (.inr (.inr (.inr (fun k => some (q + 1 + k))))))), ((q + 1), .inl (cI, 8, .inl (fun _ => 0))), ((q + 2), .inl (cI, 8, .inl (fun _ => 0))), ((q + 3), .inl (cI, 8, .inl (fun _ => 0))), ((q + 4), .inl (cI, 8, .inl (fun _ => 0))), (ln, .inl (cI, 8, .inl (fun _ => 0))), (wk, .inl (cI, 8, .inl (fun _ => 0))), (fd, .inr (1, [.ref q1, .ref q2, .ref q3, .ref q4, .ref q5, .ref q6, .int (-769313487)])), (q1, .inl (cI, 8, .inl f1)), (q2, .inl (cI, 8, .inl f2)), (q3, .inl (cI, 8, .inl f3)), (q4, .inl (cI, 10, .inl f4)), (q5, .inl (cI, 8, .inl f5)), (q6, .inl (cI, 8, .inl f6))] := hD
  refine W.widen (k := 15) (n := 113) (by decide) (by decide) ?_
  refine W.eq (g2 := F0 m 7 ls [.ref xo]) rfl ?_
  refine lv_astore_n (lv' := [(1, .ref xo), (0, .ref b)]) hx hb d_law_7 rfl hl (by decide) rfl (fun ls hl => ?_)
  refine va_new (ci := 2) (fs := [.null, .null, .null, .null, .null, .null, .null, .null, .null, .null, .null, .null]) (C := R_D) (T := F_D) (N := 12) hx hb hts i_D t_D t_D_ok hown (hts _ k_174) (hts _ k_175) (hts _ k_3) hK hP hD hS hA rfl (fun j hj => by rcases (show j = 0 ∨ j = 1 ∨ j = 2 ∨ j = 3 ∨ j = 4 ∨ j = 5 ∨ j = 6 ∨ j = 7 ∨ j = 8 ∨ j = 9 ∨ j = 10 ∨ j = 11 by omega) with rfl | rfl | rfl | rfl | rfl | rfl | rfl | rfl | rfl | rfl | rfl | rfl <;> rfl) (Nat.le_of_ble_eq_true rfl) (Nat.le_of_ble_eq_true rfl) d_law_8 (fun mo H hP hD hS => ?_)
  have hP : va_P D classes [(xo, .inr (0, [.ref q, .ref ln, .ref wk, .ref fd])), (q, .inl (cR, 4, .inr (.inr (.inr (.inr (fun k => some (q + 1 + k))))))), ((q + 1), .inl (cI, 8, .inl (fun _ => 0))), ((q + 2), .inl (cI, 8, .inl (fun _ => 0))), ((q + 3), .inl (cI, 8, .inl (fun _ => 0))), ((q + 4), .inl (cI, 8, .inl (fun _ => 0))), (ln, .inl (cI, 8, .inl (fun _ => 0))), (wk, .inl (cI, 8, .inl (fun _ => 0))), (fd, .inr (1, [.ref q1, .ref q2, .ref q3, .ref q4, .ref q5, .ref q6, .int (-769313487)])), (q1, .inl (cI, 8, .inl f1)), (q2, .inl (cI, 8, .inl f2)), (q3, .inl (cI, 8, .inl f3)), (q4, .inl (cI, 10, .inl f4)), (q5, .inl (cI, 8, .inl f5)), (q6, .inl (cI, 8, .inl f6)), (mo, .inr (2, [.null, .null, .null, .null, .null, .null, .null, .null, .null, .null, .null, .null]))] H := hP
  have hD : va_D (fun q : Nat => s.heap.size ≤ q) [(xo, .inr (0, [.ref q, .ref ln, .ref wk, .ref fd])), (q, .inl (cR, 4, .inr (.inr (.inr (.inr (fun k => some (q + 1 + k))))))), ((q + 1), .inl (cI, 8, .inl (fun _ => 0))), ((q + 2), .inl (cI, 8, .inl (fun _ => 0))), ((q + 3), .inl (cI, 8, .inl (fun _ => 0))), ((q + 4), .inl (cI, 8, .inl (fun _ => 0))), (ln, .inl (cI, 8, .inl (fun _ => 0))), (wk, .inl (cI, 8, .inl (fun _ => 0))), (fd, .inr (1, [.ref q1, .ref q2, .ref q3, .ref q4, .ref q5, .ref q6, .int (-769313487)])), (q1, .inl (cI, 8, .inl f1)), (q2, .inl (cI, 8, .inl f2)), (q3, .inl (cI, 8, .inl f3)), (q4, .inl (cI, 10, .inl f4)), (q5, .inl (cI, 8, .inl f5)), (q6, .inl (cI, 8, .inl f6)), (mo, .inr (2, [.null, .null, .null, .null, .null, .null, .null, .null, .null, .null, .null, .null]))] := hD
  refine W.widen (k := 16) (n := 125) (by decide) (by decide) ?_
  refine lv_dup hx hb d_law_11 rfl ?_
  have hPc := hP.sub (ws' := [(mo, .inr (2, [.null, .null, .null, .null, .null, .null, .null, .null, .null, .null, .null, .null]))]) [15] rfl
  have hDc := hD.sub (ws' := [(mo, .inr (2, [.null, .null, .null, .null, .null, .null, .null, .null, .null, .null, .null, .null]))]) [15] (by decide) rfl
  have hKc2 := hK.sub (tys' := []) [] rfl
  have hFc := va_free (wc := [(mo, .inr (2, [.null, .null, .null, .null, .null, .null, .null, .null, .null, .null, .null, .null]))]) hD hS hA [15] rfl
  refine va_callv (va_runI (As := []) (rest := [.ref mo]) ⟨hx, hb, hml, hown, hts⟩ (c_D_init l D mo H.size) (cwI 0 hts (tb_code k_178) rfl rfl rfl (hts _ k_3) (hts _ k_176) (hts _ k_177) rfl (by decide +kernel) ⟨Nat.le_of_ble_eq_true rfl, Nat.le_of_ble_eq_true rfl⟩) ⟨fun a U g mk q => by obtain ⟨q0, q1, qP, qK, qD⟩ := q; exact ⟨q0, q1, qP, va_K.moved (u := U) (U := U.calling g mk a) (Vm.Alike.refl U.vm) qK, qD⟩, fun U hU hW => ⟨rfl, by rw [hU], by rw [hU]; exact hPc, va_K.moved hW.alike hKc2, hDc.weaken (fun _ _ _ _ => trivial)⟩⟩ rfl rfl hl.1 rfl (lv_room (Nat.le_of_ble_eq_true rfl)) d_law_12 ⟨Nat.le_of_ble_eq_true rfl, Nat.le_of_ble_eq_true rfl⟩) hS (fun q _ h => hFc q h) hFc (fun u t H1 locs ht hvm hw hB hz1 hk1 hS => ?_)
  obtain ⟨p1, p2, p3, p4, p5, p6, p7, p8, p9, p10, p11, p12, cZ, ff, hP1, hK1, hD1, g4⟩ := hB
  rw [ht] at hP1
  have hK1 := va_K.moved hvm.symm hK1
  obtain ⟨hP, hD⟩ := va_join (wr := [(xo, .inr (0, [.ref q, .ref ln, .ref wk, .ref fd])), (q, .inl (cR, 4, .inr (.inr (.inr (.inr (fun k => some (q + 1 + k))))))), ((q + 1), .inl (cI, 8, .inl (fun _ => 0))), ((q + 2), .inl (cI, 8, .inl (fun _ => 0))), ((q + 3), .inl (cI, 8, .inl (fun _ => 0))), ((q + 4), .inl (cI, 8, .inl (fun _ => 0))), (ln, .inl (cI, 8, .inl (fun _ => 0))), (wk, .inl (cI, 8, .inl (fun _ => 0))), (fd, .inr (1, [.ref q1, .ref q2, .ref q3, .ref q4, .ref q5, .ref q6, .int (-769313487)])), (q1, .inl (cI, 8, .inl f1)), (q2, .inl (cI, 8, .inl f2)), (q3, .inl (cI, 8, .inl f3)), (q4, .inl (cI, 10, .inl f4)), (q5, .inl (cI, 8, .inl f5)), (q6, .inl (cI, 8, .inl f6))]) (w1 := [(mo, .inr (2, [.ref p1, .ref p2, .ref p3, .ref p4, .ref p5, .ref p6, .ref p7, .ref p8, .ref p9, .ref p10, .ref p11, .ref p12])), (p1, .inl (cZ, 64, .inl (fun _ => 0))), (p2, .inl (cZ, 16, .inl (fun _ => 0))), (p3, .inl (cZ, 16, .inl ff)), (p4, .inl (cZ, 16, .inl (fun _ => 0))), (p5, .inl (cZ, 17, .inl (fun _ => 0))), (p6, .inl (cZ, 16, .inl (fun _ => 0))), (p7, .inl (cZ, 16, .inl (fun _ => 0))), (p8, .inl (cZ, 16, .inl (fun _ => 0))), (p9, .inl (cZ, 17, .inl (fun _ => 0))), (p10, .inl (cZ, 17, .inl (fun _ => 0))), (p11, .inl (cZ, 17, .inl (fun _ => 0))), (p12, .inl (cZ, 17, .inl (fun _ => 0)))]) hP hD [15] [0, 1, 2, 3, 4, 5, 6, 7, 8, 9, 10, 11, 12, 13, 14] rfl rfl (by decide) (by decide) hk1 hFc hP1 hD1
  have hK := (hK.sub (tys' := [(cI, .int), (cR, .array .int)]) [0, 1] rfl).app hK1
  obtain rfl := (va_one (i := 0) (j := 2) hK rfl rfl).symm
  have hK : va_K D classes [(cI, .int), (cR, .array .int)] s := hK.sub [0, 1] rfl
  generalize H1 = H at hP hS ⊢
  refine W.widen (k := 28) (n := 370) (by decide) (by decide) ?_
  refine W.eq (g2 := F0 m 15 ls [.ref mo]) rfl ?_
  refine lv_astore_n (lv' := [(2, .ref mo), (1, .ref xo), (0, .ref b)]) hx hb d_law_15 rfl hl (by decide) rfl (fun ls hl => ?_)
  refine lv_iconst (v := 0) hx hb d_law_16 (by decide) ?_
  refine lv_istore_n (lv' := [(3, .int 0), (2, .ref mo), (1, .ref xo), (0, .ref b)]) hx hb d_law_17 rfl hl (by decide) rfl (fun ls hl => ?_)
  obtain ⟨g, A, B, M, wW, wK, wKv, wDv, wC, wM, wAB, wAs, wb⟩ := lw_setup hP hK hD hS g1 g2 g3 g4 n1 n2
  refine va_forget (fun q hq => hS.2.2 q hq) ?_
  exact law_loop hL C0 wK wKv wDv wAB wAs (wb b hbl) (L + 1) 0 _ _ M H [] ls (Nat.zero_le _) (by omega) wC wM wW (lv_sub hl [0, 3, 2, 1] rfl)
end
section
-- ===== YOUR PART ENDS =====
set_option maxHeartbeats 4000000 in
theorem lw_walk (l : Launch) (b : Addr) (xs : List Int32) : MetFree l x (headSpec (Jvm.Cond.code x code maxLocals ret :: tables_1) room_1) (lw_P b xs) (fun _ _ _ _ _ => True) lw_Q := by
  refine MetFree.of_bodyS (code := code) (maxLocals := maxLocals) (ret := ret) (by decide) ?_ ?_
  · intro args s m h hn
    obtain ⟨meth, c, h1, h2, h3, h4, h5, h6, -, -⟩ := Cond.code_spec hn (atoms_spec (ws := Jvm.Cond.code x code maxLocals ret :: tables_1) h _ List.mem_cons_self)
    exact ⟨meth, c, h1, h2, h3, h4, h5, h6⟩
  · intro p e s m args below meth c s₁ B hml0 hP _
    obtain ⟨rfl, hx, hbd, hgv⟩ := hP
    obtain ⟨scr, harrAt, hlist, hof, hsmall⟩ := hx
    obtain ⟨hcb, hkn, -, -⟩ := State.arrayAt?_spec harrAt
    have hown : s.vm.findClass R_law = some m.cls := findClass_of_methodNamed B.named
    have hts0 : ∀ c ∈ (Jvm.Cond.code x code maxLocals ret :: tables_1), c.before #[Value.ref b] s = true := atoms_spec (ws := Jvm.Cond.code x code maxLocals ret :: tables_1) B.pre
    have hts : ∀ w ∈ lw_tbl, w.before #[Value.ref b] s = true := k2_hts_sels lw_privs (fun w hw => hts0 w (List.mem_cons_of_mem _ hw)) lw_privs_ok
    have hml : c.maxLocals = 4 := B.maxLocals_eq (hts0 _ List.mem_cons_self)
    have X₀ : Stand p l e room_1 s m #[Value.ref b] below meth c s₁ [] 0 0 := Stand.of_body B
    have hh0 : s₁.heap = s.heap := by rw [B.state]; rfl
    have hsz : scr.slots.size = xs.length := by rw [← Array.length_toList, hlist, List.length_map]
    have hval : ∀ j : Nat, j < xs.length → scr.slots[j]? = some (.int (xs.getD j 0)) := fun j hj => by
      rw [← Array.getElem?_toList, hlist]
      simp [hj]
    have hbl : b < s.heap.size := (Array.getElem?_eq_some_iff.mp hcb).1
    have hX : va_X b xs.length (fun j => xs.getD j 0) s s.heap := ⟨scr, hcb, hof, hkn, hsz, hval⟩
    have K : W p l e room_1 s m #[Value.ref b] below meth c s₁.heap [] 0 0 (lw_Z below #[Value.ref b] s) (entryFrame m ([Value.ref b] : List Value).toArray 4) := by
      rw [hh0]
      exact whole_start l hbd ⟨B.exec, B.bytes, B.returns, hml, hown, hts, hX, hbl, B.notSynchronized, hgv⟩
    obtain ⟨t, a1, o, b1, b2, b3⟩ := K s₁ rfl X₀
    exact ⟨t, o, a1, b1, b2, b3⟩
theorem lw_pre_spec {args : Array Value} {s : State} (h : (Jvm.Cond.and given_1 narrow_1).before args s = true) (hr : rest_1_c.before args s = true) : ∃ (b : Addr) (xs : List Int32), lw_P b xs args s := by
  have hs := flat_of_before _ h
  have hq := flat_of_before _ hr
  have hc : (Cond.count 1).before args s = true := hs _ (by decide +kernel)
  have harr : (Cond.arrayOf (.arg 0) .int).before args s = true := hs _ (by decide +kernel)
  have hle : (Cond.le (.length (.arg 0)) (.int 3072)).before args s = true := hs _ (by decide +kernel)
  have hlen : (Cond.isInt (.length (.arg 0))).before args s = true := hq _ (by decide +kernel)
  have hall : (Cond.all (.arg 0) (.isInt (.elem (.arg 0) (.index 0)))).before args s = true := hq _ (by decide +kernel)
  obtain ⟨b, xs, hb, hx⟩ := State.ints_of_pre rfl harr hlen hall
  have hsm : xs.length < 2 ^ 31 := hx.choose_spec.2.2.2
  have hev : (Term.length (.arg 0)).eval args s none [] s = some (.int xs.length.toInt32) := hx.length_eval hb
  have hv := Cond.le_ints hev (show (Term.int 3072).eval args s none [] s = some (.int 3072) from rfl)
  have hd : xs.length.toInt32 ≤ 3072 := by
    simpa [Cond.before, Cond.holds, hv] using hle
  have hN : xs.length ≤ 3072 := (Int32.ofNat_le_ofNat hsm (by decide)).mp (show Int32.ofNat xs.length ≤ Int32.ofNat 3072 from hd)
  exact ⟨b, xs, Cond.one_arg hc (show args[0]? = some (.ref b) from hb), hx, hN, h⟩
theorem lw_comes (l : Launch) : Comes l x (Jvm.Cond.code x code maxLocals ret :: tables_1) room_1 (fun tb e args s => Calls_1 tb e args s ∧ rest_1 tb e args s ∧ Pre_1 tb e args s)
    (fun _ _ args s o t => lw_Q args s o t) := by
  intro p e ha hc hk s m args below hf hfit hheap happ hpre
  obtain ⟨b, xs, hP⟩ := lw_pre_spec hpre.2.2 hpre.2.1
  obtain ⟨k, o, h1, h2, h3, hQ⟩ := lw_walk l b xs p e ha hc hk s m args below hf ((Spec.applies_iff_loose hf).mp happ).1 hP trivial
  exact ⟨k, o, h1, h2, h3, hQ⟩
theorem lw_frame {s t : State} {o : Outcome} {args : Array Value} (h : Framed s o t [] 600000 7302250) :
    Framed s o t (fieldLocs frame_1_writes args s ++ arrayLocs frame_1_arrays args s ++ staticLocs frame_1_statics s) 600000 7302250 := h
theorem lw_limb (L : Cond) (hL : ∀ (args : Array Value) (s t : State), L.after args s (.returned (some (.int 1))) t = true) :
    ArmFor flags0 classFile x code maxLocals ret World_1 tables_1 room_1 Calls_1 rest_1 Pre_1
      (fun tb e a s o t => postC L tb e a s o t ∧ Framed s o t (fieldLocs frame_1_writes a s ++ arrayLocs frame_1_arrays a s ++ staticLocs frame_1_statics s) 600000 7302250) := by
  intro l _ _ _ p e ha hc hk s m args below hf hfit hheap happ hpre
  obtain ⟨k, o, h1, h2, h3, rfl, hF⟩ := lw_comes l p e ha hc hk s m args below hf hfit hheap happ hpre
  exact ⟨k, _, h1, h2, h3, hL args s _, lw_frame hF⟩
theorem i_vc : Claimed_1_1 ∧ Claimed_1_2 := ⟨lw_limb limb_1_1 (fun args s t => by simp [limb_1_1, Cond.after, Cond.holds, Cond.value]), lw_limb limb_1_2 (fun args s t => Cond.after_iff.mpr (by
  first | (rw [show limb_1_2 = Cond.eq .result (.int 1) from rfl, Cond.eq_ints (x := 1) (y := 1) rfl rfl]; simp; done) | (simp [limb_1_2, Cond.value, Term.eval]; done)))⟩
end
