section
-- ===== PART A: goes FIRST, ahead of the names: the tables' words, and 'selects' of the private methods out of them =====
/-- a private method of a class that the tables say can be made, by its rows of tables_1 -/
def lw_okq (q : MethodName × Nat) : Prop := (q.1.cls ≠ "java/lang/invoke/MethodHandle" ∧ q.1.cls ≠ "java/lang/invoke/VarHandle") ∧ Cond.instantiable q.1.cls q.2 ∈ tables_1 ∧ Cond.privateMethod q.1 ∈ tables_1 ∧ Cond.instanceMethod q.1 ∈ tables_1
theorem lw_p0 : lw_okq (⟨"ChaseTable", "after", "(II)I"⟩, 15) := ⟨⟨by decide +kernel, by decide +kernel⟩, List.mem_of_getElem? (i := 4) (by decide +kernel), List.mem_of_getElem? (i := 83) (by decide +kernel), List.mem_of_getElem? (i := 84) (by decide +kernel)⟩
theorem lw_p1 : lw_okq (⟨"ChaseTable", "over", "(I)I"⟩, 15) := ⟨⟨by decide +kernel, by decide +kernel⟩, List.mem_of_getElem? (i := 4) (by decide +kernel), List.mem_of_getElem? (i := 87) (by decide +kernel), List.mem_of_getElem? (i := 88) (by decide +kernel)⟩
theorem lw_p2 : lw_okq (⟨"ChaseTable", "prepare", "()V"⟩, 15) := ⟨⟨by decide +kernel, by decide +kernel⟩, List.mem_of_getElem? (i := 4) (by decide +kernel), List.mem_of_getElem? (i := 99) (by decide +kernel), List.mem_of_getElem? (i := 100) (by decide +kernel)⟩
theorem lw_p3 : lw_okq (⟨"ChaseTable", "moveCount", "(I)I"⟩, 15) := ⟨⟨by decide +kernel, by decide +kernel⟩, List.mem_of_getElem? (i := 4) (by decide +kernel), List.mem_of_getElem? (i := 103) (by decide +kernel), List.mem_of_getElem? (i := 104) (by decide +kernel)⟩
theorem lw_p4 : lw_okq (⟨"ChaseTable", "settle", "(III)V"⟩, 15) := ⟨⟨by decide +kernel, by decide +kernel⟩, List.mem_of_getElem? (i := 4) (by decide +kernel), List.mem_of_getElem? (i := 110) (by decide +kernel), List.mem_of_getElem? (i := 111) (by decide +kernel)⟩
theorem lw_p5 : lw_okq (⟨"ChaseTable", "spread", "(I)V"⟩, 15) := ⟨⟨by decide +kernel, by decide +kernel⟩, List.mem_of_getElem? (i := 4) (by decide +kernel), List.mem_of_getElem? (i := 114) (by decide +kernel), List.mem_of_getElem? (i := 115) (by decide +kernel)⟩
theorem lw_p6 : lw_okq (⟨"ChaseTable", "answer", "(III)V"⟩, 15) := ⟨⟨by decide +kernel, by decide +kernel⟩, List.mem_of_getElem? (i := 4) (by decide +kernel), List.mem_of_getElem? (i := 118) (by decide +kernel), List.mem_of_getElem? (i := 119) (by decide +kernel)⟩
theorem lw_p7 : lw_okq (⟨"ChaseTableModel", "number", "(IIIZ)I"⟩, 7) := ⟨⟨by decide +kernel, by decide +kernel⟩, List.mem_of_getElem? (i := 141) (by decide +kernel), List.mem_of_getElem? (i := 147) (by decide +kernel), List.mem_of_getElem? (i := 148) (by decide +kernel)⟩
theorem lw_p8 : lw_okq (⟨"ChaseTableModel", "bad", "(I)Z"⟩, 7) := ⟨⟨by decide +kernel, by decide +kernel⟩, List.mem_of_getElem? (i := 141) (by decide +kernel), List.mem_of_getElem? (i := 178) (by decide +kernel), List.mem_of_getElem? (i := 179) (by decide +kernel)⟩
theorem lw_p9 : lw_okq (⟨"ChaseTableModel", "over", "(I)I"⟩, 7) := ⟨⟨by decide +kernel, by decide +kernel⟩, List.mem_of_getElem? (i := 141) (by decide +kernel), List.mem_of_getElem? (i := 194) (by decide +kernel), List.mem_of_getElem? (i := 195) (by decide +kernel)⟩
theorem lw_p10 : lw_okq (⟨"ChaseTableModel", "after", "(II)I"⟩, 7) := ⟨⟨by decide +kernel, by decide +kernel⟩, List.mem_of_getElem? (i := 141) (by decide +kernel), List.mem_of_getElem? (i := 198) (by decide +kernel), List.mem_of_getElem? (i := 199) (by decide +kernel)⟩
theorem lw_p11 : lw_okq (⟨"ChaseTableModel", "workOut", "()V"⟩, 7) := ⟨⟨by decide +kernel, by decide +kernel⟩, List.mem_of_getElem? (i := 141) (by decide +kernel), List.mem_of_getElem? (i := 210) (by decide +kernel), List.mem_of_getElem? (i := 211) (by decide +kernel)⟩
theorem lw_p12 : lw_okq (⟨"ChaseTableModel", "follows", "(II)I"⟩, 7) := ⟨⟨by decide +kernel, by decide +kernel⟩, List.mem_of_getElem? (i := 141) (by decide +kernel), List.mem_of_getElem? (i := 214) (by decide +kernel), List.mem_of_getElem? (i := 215) (by decide +kernel)⟩
theorem lw_p13 : lw_okq (⟨"ChaseTableModel", "mover", "(I)I"⟩, 7) := ⟨⟨by decide +kernel, by decide +kernel⟩, List.mem_of_getElem? (i := 141) (by decide +kernel), List.mem_of_getElem? (i := 218) (by decide +kernel), List.mem_of_getElem? (i := 219) (by decide +kernel)⟩
theorem lw_p14 : lw_okq (⟨"ChaseTableModel", "canMove", "(I)Z"⟩, 7) := ⟨⟨by decide +kernel, by decide +kernel⟩, List.mem_of_getElem? (i := 141) (by decide +kernel), List.mem_of_getElem? (i := 230) (by decide +kernel), List.mem_of_getElem? (i := 231) (by decide +kernel)⟩
def lw_privs_1 : List (MethodName × Nat) := [(⟨"ChaseTable", "after", "(II)I"⟩, 15), (⟨"ChaseTable", "over", "(I)I"⟩, 15), (⟨"ChaseTable", "prepare", "()V"⟩, 15), (⟨"ChaseTable", "moveCount", "(I)I"⟩, 15), (⟨"ChaseTable", "settle", "(III)V"⟩, 15), (⟨"ChaseTable", "spread", "(I)V"⟩, 15), (⟨"ChaseTable", "answer", "(III)V"⟩, 15), (⟨"ChaseTableModel", "number", "(IIIZ)I"⟩, 7), (⟨"ChaseTableModel", "bad", "(I)Z"⟩, 7), (⟨"ChaseTableModel", "over", "(I)I"⟩, 7), (⟨"ChaseTableModel", "after", "(II)I"⟩, 7), (⟨"ChaseTableModel", "workOut", "()V"⟩, 7), (⟨"ChaseTableModel", "follows", "(II)I"⟩, 7), (⟨"ChaseTableModel", "mover", "(I)I"⟩, 7), (⟨"ChaseTableModel", "canMove", "(I)Z"⟩, 7)]
theorem lw_r1 : ∀ q ∈ lw_privs_1, lw_okq q := List.forall_mem_cons.mpr ⟨lw_p0, List.forall_mem_cons.mpr ⟨lw_p1, List.forall_mem_cons.mpr ⟨lw_p2, List.forall_mem_cons.mpr ⟨lw_p3, List.forall_mem_cons.mpr ⟨lw_p4, List.forall_mem_cons.mpr ⟨lw_p5, List.forall_mem_cons.mpr ⟨lw_p6, List.forall_mem_cons.mpr ⟨lw_p7, List.forall_mem_cons.mpr ⟨lw_p8, List.forall_mem_cons.mpr ⟨lw_p9, List.forall_mem_cons.mpr ⟨lw_p10, List.forall_mem_cons.mpr ⟨lw_p11, List.forall_mem_cons.mpr ⟨lw_p12, List.forall_mem_cons.mpr ⟨lw_p13, List.forall_mem_cons.mpr ⟨lw_p14, fun _ h => absurd h List.not_mem_nil⟩⟩⟩⟩⟩⟩⟩⟩⟩⟩⟩⟩⟩⟩⟩
def lw_privs : List (MethodName × Nat) := lw_privs_1
def lw_tbl : List Cond := k2_sels lw_privs ++ tables_1
theorem lw_privs_ok : ∀ q ∈ lw_privs, lw_okq q := lw_r1
/-! THE CLAIM OUT OF ONE WALK OF THE LAW'S BODY. Your part is whole_start (and what it stands on); all else here is the same for every law, but numbers. -/
def R_law : String := "ChaseTableLaw"
def lw_P (b : Addr) (xs : List Int32) (args : Array Value) (s : State) : Prop := args = #[.ref b] ∧ s.IntsAt b xs ∧ xs.length ≤ 2561 ∧ (Jvm.Cond.and given_1 narrow_1).before args s = true
def lw_Q (_ : Array Value) (s : State) (o : Outcome) (t : State) : Prop := o = .returned (some (.int 1)) ∧ Framed s o t [] 12 2668
def lw_Z (below : List Frame) (a : Array Value) (s : State) : State → Prop := fun t => ∃ o, t.status = .running ∧ Ended t below o ∧ lw_Q a s o t
/-- the law's own end, with 1 on the stack, nothing written that was there before, its room as the claim has it -/
theorem lw_ret {p : Program} {l : Launch} {e : Env} {s : State} {m : MethodId} {below : List Frame} {meth : Method} {c : Code} {b : Nat} (hx : p.tables.exec = Jvm.exec) (hb : c.code = code) (hr : meth.sig.returnType = ret) (hlocks : meth.locks = false) {pc : Nat} {H : Heap} {ls : Array Slot} (hdg : decode code pc = .ok (.ireturn, 1)) : W p l e room_1 s m #[Value.ref b] below meth c H [] 12 2668 (lw_Z below #[Value.ref b] s) (F0 m pc ls [.int 1]) := by
  intro T hT X
  obtain ⟨fs, hret, hrun, hended, hW, hframe⟩ := X.leave (v := some (.int 1)) (hlocks := hlocks) (fun h => by rw [hr] at h; cases h)
  have hmeth' : T.vm.method? m = some meth := X.method'
  refine ⟨T.setFrames fs, ?_, .returned (some (.int 1)), hrun, hended, rfl, ⟨_, rfl⟩, hW, hframe⟩
  jvm_step X.here [X.here.top, hx, hb, hdg, hmeth', hr, ret, narrow_b1]
  (try refine ⟨rfl, ?_⟩); (try refine ⟨rfl, ?_⟩)
  first | (intro acts; rw [hret _ acts rfl rfl rfl]) | rw [hret _ _ rfl rfl rfl]
  exact Steps.refl _
/-- what holds at the law's entry: the machine, the code, the tables' words (any of lw_tbl by 'hts w (by decide +kernel)'), the script of L ints xs at the cell b, what the Statement gives of the start (any of its parts by flat_of_before) -/
def lw_At (p : Program) (s : State) (m : MethodId) (meth : Method) (c : Code) (b L : Nat) (xs : Nat → Int32) : Prop :=
  p.tables.exec = Jvm.exec ∧ c.code = code ∧ meth.sig.returnType = ret ∧ c.maxLocals = 4 ∧ s.vm.findClass R_law = some m.cls ∧ (∀ w ∈ lw_tbl, w.before #[Value.ref b] s = true) ∧ va_X b L xs s s.heap ∧ b < s.heap.size ∧ meth.locks = false ∧ (Jvm.Cond.and given_1 narrow_1).before #[Value.ref b] s = true
/-- the words that stay true: one list for every contract -/
def ct_tbl : List Cond := lw_tbl.filter goodWord
theorem ct_in {w : Cond} (h : w ∈ lw_tbl) (hg : goodWord w = true) : w ∈ ct_tbl := List.mem_filter.mpr ⟨h, hg⟩
abbrev R_X : String := "ChaseTable"
abbrev R_M : String := "ChaseTableModel"
def F_X : u_T := fun k => match k with
  | 0 => ("ChaseTable", "guardsWait", "Z", true)
  | 1 => ("ChaseTable", "thiefWaits", "Z", true)
  | 2 => ("ChaseTable", "out", "[I", true)
  | 3 => ("ChaseTable", "in", "[I", true)
  | 4 => ("ChaseTable", "exits", "I", false)
  | 5 => ("ChaseTable", "boardA", "I", false)
  | 6 => ("ChaseTable", "boardB", "I", false)
  | 7 => ("ChaseTable", "boardT", "I", false)
  | 8 => ("ChaseTable", "boardThief", "Z", false)
  | 9 => ("ChaseTable", "ready", "Z", false)
  | 10 => ("ChaseTable", "winner", "[B", true)
  | 11 => ("ChaseTable", "far", "[S", true)
  | 12 => ("ChaseTable", "open", "[B", true)
  | 13 => ("ChaseTable", "queue", "[S", true)
  | _ => ("ChaseTable", "queued", "I", false)
def t_X : Nat → FieldType := fun k => match k with
  | 0 => .boolean
  | 1 => .boolean
  | 2 => .array .int
  | 3 => .array .int
  | 4 => .int
  | 5 => .int
  | 6 => .int
  | 7 => .int
  | 8 => .boolean
  | 9 => .boolean
  | 10 => .array .byte
  | 11 => .array .short
  | 12 => .array .byte
  | 13 => .array .short
  | _ => .int
theorem n_X : ∀ a, a < 15 → ∀ b, b < 15 → a ≠ b → (F_X a).2.1 ≠ (F_X b).2.1 := by decide +kernel
theorem t_X_ok : ∀ k, k < 15 → parseFieldDescriptor (F_X k).2.2.1 = some (t_X k) := by decide +kernel
theorem i_X : ∀ w ∈ u_ws R_X F_X 15, w ∈ ct_tbl := by decide +kernel
def F_M : u_T := fun k => match k with
  | 0 => ("ChaseTableModel", "waits", "I", true)
  | 1 => ("ChaseTableModel", "doors", "[Z", true)
  | 2 => ("ChaseTableModel", "exits", "[Z", true)
  | 3 => ("ChaseTableModel", "at", "I", false)
  | 4 => ("ChaseTableModel", "known", "Z", false)
  | 5 => ("ChaseTableModel", "winner", "[I", true)
  | _ => ("ChaseTableModel", "rounds", "[I", true)
def t_M : Nat → FieldType := fun k => match k with
  | 0 => .int
  | 1 => .array .boolean
  | 2 => .array .boolean
  | 3 => .int
  | 4 => .boolean
  | 5 => .array .int
  | _ => .array .int
theorem n_M : ∀ a, a < 7 → ∀ b, b < 7 → a ≠ b → (F_M a).2.1 ≠ (F_M b).2.1 := by decide +kernel
theorem t_M_ok : ∀ k, k < 7 → parseFieldDescriptor (F_M k).2.2.1 = some (t_M k) := by decide +kernel
theorem i_M : ∀ w ∈ u_ws R_M F_M 7, w ∈ ct_tbl := by decide +kernel
abbrev classes : List vw_C := [(R_X, F_X, 15), (R_M, F_M, 7)]
abbrev b_X_init : ByteArray := prog_1_method_1_code
def y_X_init : MethodName := ⟨"ChaseTable", "<init>", "(I)V"⟩
abbrev b_X_door : ByteArray := prog_1_method_3_code
def y_X_door : MethodName := ⟨"ChaseTable", "door", "(IIZ)I"⟩
abbrev b_X_off : ByteArray := prog_1_method_2_code
def y_X_off : MethodName := ⟨"ChaseTable", "off", "(I)Z"⟩
abbrev b_X_exit : ByteArray := prog_1_method_4_code
def y_X_exit : MethodName := ⟨"ChaseTable", "exit", "(IZ)I"⟩
abbrev b_X_set : ByteArray := prog_1_method_5_code
def y_X_set : MethodName := ⟨"ChaseTable", "set", "(IIIZ)I"⟩
abbrev b_X_play : ByteArray := prog_1_method_6_code
def y_X_play : MethodName := ⟨"ChaseTable", "play", "(I)I"⟩
abbrev b_X_number : ByteArray := prog_1_method_8_code
def y_X_number : MethodName := ⟨"ChaseTable", "number", "(IIIZ)I"⟩
abbrev b_X_after : ByteArray := prog_1_method_10_code
def y_X_after : MethodName := ⟨"ChaseTable", "after", "(II)I"⟩
abbrev b_X_over : ByteArray := prog_1_method_9_code
def y_X_over : MethodName := ⟨"ChaseTable", "over", "(I)I"⟩
abbrev b_X_board : ByteArray := prog_1_method_7_code
def y_X_board : MethodName := ⟨"ChaseTable", "board", "()I"⟩
abbrev b_X_outcome : ByteArray := prog_1_method_17_code
def y_X_outcome : MethodName := ⟨"ChaseTable", "outcome", "(IIIZ)I"⟩
abbrev b_X_prepare : ByteArray := prog_1_method_13_code
def y_X_prepare : MethodName := ⟨"ChaseTable", "prepare", "()V"⟩
abbrev b_X_moveCount : ByteArray := prog_1_method_12_code
def y_X_moveCount : MethodName := ⟨"ChaseTable", "moveCount", "(I)I"⟩
abbrev b_X_bits : ByteArray := prog_1_method_11_code
def y_X_bits : MethodName := ⟨"ChaseTable", "bits", "(I)I"⟩
abbrev b_X_settle : ByteArray := prog_1_method_14_code
def y_X_settle : MethodName := ⟨"ChaseTable", "settle", "(III)V"⟩
abbrev b_X_spread : ByteArray := prog_1_method_15_code
def y_X_spread : MethodName := ⟨"ChaseTable", "spread", "(I)V"⟩
abbrev b_X_answer : ByteArray := prog_1_method_16_code
def y_X_answer : MethodName := ⟨"ChaseTable", "answer", "(III)V"⟩
abbrev b_X_length : ByteArray := prog_1_method_18_code
def y_X_length : MethodName := ⟨"ChaseTable", "length", "(IIIZ)I"⟩
abbrev b_X_best : ByteArray := prog_1_method_19_code
def y_X_best : MethodName := ⟨"ChaseTable", "best", "()I"⟩
abbrev b_X_total : ByteArray := prog_1_method_20_code
def y_X_total : MethodName := ⟨"ChaseTable", "total", "(I)I"⟩
abbrev b_X_longest : ByteArray := prog_1_method_21_code
def y_X_longest : MethodName := ⟨"ChaseTable", "longest", "(I)I"⟩
abbrev b_L_cell : ByteArray := method_2_code
def y_L_cell : MethodName := ⟨"ChaseTableLaw", "cell", "([II)I"⟩
abbrev b_M_init : ByteArray := prog_3_method_1_code
def y_M_init : MethodName := ⟨"ChaseTableModel", "<init>", "(I)V"⟩
abbrev b_M_number : ByteArray := prog_3_method_2_code
def y_M_number : MethodName := ⟨"ChaseTableModel", "number", "(IIIZ)I"⟩
abbrev b_M_door : ByteArray := prog_3_method_4_code
def y_M_door : MethodName := ⟨"ChaseTableModel", "door", "(IIZ)I"⟩
abbrev b_M_bad : ByteArray := prog_3_method_3_code
def y_M_bad : MethodName := ⟨"ChaseTableModel", "bad", "(I)Z"⟩
abbrev b_M_exit : ByteArray := prog_3_method_5_code
def y_M_exit : MethodName := ⟨"ChaseTableModel", "exit", "(IZ)I"⟩
abbrev b_M_set : ByteArray := prog_3_method_6_code
def y_M_set : MethodName := ⟨"ChaseTableModel", "set", "(IIIZ)I"⟩
abbrev b_M_play : ByteArray := prog_3_method_13_code
def y_M_play : MethodName := ⟨"ChaseTableModel", "play", "(I)I"⟩
abbrev b_M_over : ByteArray := prog_3_method_7_code
def y_M_over : MethodName := ⟨"ChaseTableModel", "over", "(I)I"⟩
abbrev b_M_after : ByteArray := prog_3_method_8_code
def y_M_after : MethodName := ⟨"ChaseTableModel", "after", "(II)I"⟩
abbrev b_M_board : ByteArray := prog_3_method_14_code
def y_M_board : MethodName := ⟨"ChaseTableModel", "board", "()I"⟩
abbrev b_M_outcome : ByteArray := prog_3_method_15_code
def y_M_outcome : MethodName := ⟨"ChaseTableModel", "outcome", "(IIIZ)I"⟩
abbrev b_M_workOut : ByteArray := prog_3_method_11_code
def y_M_workOut : MethodName := ⟨"ChaseTableModel", "workOut", "()V"⟩
abbrev b_M_follows : ByteArray := prog_3_method_10_code
def y_M_follows : MethodName := ⟨"ChaseTableModel", "follows", "(II)I"⟩
abbrev b_M_mover : ByteArray := prog_3_method_9_code
def y_M_mover : MethodName := ⟨"ChaseTableModel", "mover", "(I)I"⟩
abbrev b_M_length : ByteArray := prog_3_method_16_code
def y_M_length : MethodName := ⟨"ChaseTableModel", "length", "(IIIZ)I"⟩
abbrev b_M_best : ByteArray := prog_3_method_17_code
def y_M_best : MethodName := ⟨"ChaseTableModel", "best", "()I"⟩
abbrev b_M_canMove : ByteArray := prog_3_method_12_code
def y_M_canMove : MethodName := ⟨"ChaseTableModel", "canMove", "(I)Z"⟩
abbrev b_M_total : ByteArray := prog_3_method_18_code
def y_M_total : MethodName := ⟨"ChaseTableModel", "total", "(I)I"⟩
abbrev b_M_longest : ByteArray := prog_3_method_19_code
def y_M_longest : MethodName := ⟨"ChaseTableModel", "longest", "(I)I"⟩
theorem lw_good : GoodIn ct_tbl ct_tbl := fun w h => ⟨h, good_of_word (List.mem_filter.mp h).2⟩
theorem gd_V {own C : String} {idx n : Nat} {y : MethodName} {b : ByteArray} {ret : Option FieldType} (h1 : Cond.methodLink own idx y ∈ ct_tbl) (h2 : Cond.instanceMethod y ∈ ct_tbl) (h3 : Cond.selects C y y ∈ ct_tbl) (h4 : Cond.initialized C ∈ ct_tbl) (h5 : Cond.code y b n ret ∈ ct_tbl) : GoodIn ct_tbl (wsV own idx C y (Cond.code y b n ret :: ct_tbl)) := by
  intro w hw
  simp only [wsV, List.cons_append, List.nil_append, List.mem_cons] at hw
  rcases hw with rfl | rfl | rfl | rfl | rfl | hw
  · exact lw_good _ h1
  · exact lw_good _ h2
  · exact lw_good _ h3
  · exact lw_good _ h4
  · exact lw_good _ h5
  · exact lw_good _ hw
theorem gd_S {own : String} {idx n : Nat} {y : MethodName} {b : ByteArray} {ret : Option FieldType} (h1 : Cond.methodLink own idx y ∈ ct_tbl) (h2 : Cond.static y ∈ ct_tbl) (h4 : Cond.initialized own ∈ ct_tbl) (h5 : Cond.code y b n ret ∈ ct_tbl) : GoodIn ct_tbl (wsS own idx y (Cond.code y b n ret :: ct_tbl)) := by
  intro w hw
  simp only [wsS, List.cons_append, List.nil_append, List.mem_cons] at hw
  rcases hw with rfl | rfl | rfl | rfl | hw
  · exact lw_good _ h1
  · exact lw_good _ h2
  · exact lw_good _ h4
  · exact lw_good _ h5
  · exact lw_good _ hw
theorem gd_I {n : Nat} {y : MethodName} {b : ByteArray} {ret : Option FieldType} (h5 : Cond.code y b n ret ∈ ct_tbl) : GoodIn ct_tbl (Cond.code y b n ret :: ct_tbl) := by
  intro w hw
  rcases List.mem_cons.mp hw with rfl | hw
  · exact lw_good _ h5
  · exact lw_good _ hw
theorem mi_law : Cond.initialized R_law ∈ ct_tbl := ct_in (List.mem_append_right _ (List.mem_append_left _ (List.mem_of_getElem? (i := 0) rfl))) rfl
theorem mi_X : Cond.initialized R_X ∈ ct_tbl := ct_in (List.mem_append_right _ (List.mem_append_left _ (List.mem_of_getElem? (i := 1) rfl))) rfl
theorem mi_M : Cond.initialized R_M ∈ ct_tbl := ct_in (List.mem_append_right _ (List.mem_append_left _ (List.mem_of_getElem? (i := 2) rfl))) rfl
theorem mf_X0 : Cond.fieldLink R_X 30 (F_X 0).1 (F_X 0).2.1 (F_X 0).2.2.1 ∈ ct_tbl := ct_in (List.mem_append_right _ (List.mem_append_left _ (List.mem_of_getElem? (i := 11) rfl))) rfl
theorem mf_X1 : Cond.fieldLink R_X 34 (F_X 1).1 (F_X 1).2.1 (F_X 1).2.2.1 ∈ ct_tbl := ct_in (List.mem_append_right _ (List.mem_append_left _ (List.mem_of_getElem? (i := 12) rfl))) rfl
theorem mf_X2 : Cond.fieldLink R_X 7 (F_X 2).1 (F_X 2).2.1 (F_X 2).2.2.1 ∈ ct_tbl := ct_in (List.mem_append_right _ (List.mem_append_left _ (List.mem_of_getElem? (i := 13) rfl))) rfl
theorem mf_X3 : Cond.fieldLink R_X 13 (F_X 3).1 (F_X 3).2.1 (F_X 3).2.2.1 ∈ ct_tbl := ct_in (List.mem_append_right _ (List.mem_append_left _ (List.mem_of_getElem? (i := 14) rfl))) rfl
theorem mf_X4 : Cond.fieldLink R_X 51 (F_X 4).1 (F_X 4).2.1 (F_X 4).2.2.1 ∈ ct_tbl := ct_in (List.mem_append_right _ (List.mem_append_left _ (List.mem_of_getElem? (i := 15) rfl))) rfl
theorem mf_X5 : Cond.fieldLink R_X 54 (F_X 5).1 (F_X 5).2.1 (F_X 5).2.2.1 ∈ ct_tbl := ct_in (List.mem_append_right _ (List.mem_append_left _ (List.mem_of_getElem? (i := 16) rfl))) rfl
theorem mf_X6 : Cond.fieldLink R_X 37 (F_X 6).1 (F_X 6).2.1 (F_X 6).2.2.1 ∈ ct_tbl := ct_in (List.mem_append_right _ (List.mem_append_left _ (List.mem_of_getElem? (i := 17) rfl))) rfl
theorem mf_X7 : Cond.fieldLink R_X 41 (F_X 7).1 (F_X 7).2.1 (F_X 7).2.2.1 ∈ ct_tbl := ct_in (List.mem_append_right _ (List.mem_append_left _ (List.mem_of_getElem? (i := 18) rfl))) rfl
theorem mf_X8 : Cond.fieldLink R_X 57 (F_X 8).1 (F_X 8).2.1 (F_X 8).2.2.1 ∈ ct_tbl := ct_in (List.mem_append_right _ (List.mem_append_left _ (List.mem_of_getElem? (i := 19) rfl))) rfl
theorem mf_X9 : Cond.fieldLink R_X 48 (F_X 9).1 (F_X 9).2.1 (F_X 9).2.2.1 ∈ ct_tbl := ct_in (List.mem_append_right _ (List.mem_append_left _ (List.mem_of_getElem? (i := 20) rfl))) rfl
theorem mf_X10 : Cond.fieldLink R_X 16 (F_X 10).1 (F_X 10).2.1 (F_X 10).2.2.1 ∈ ct_tbl := ct_in (List.mem_append_right _ (List.mem_append_left _ (List.mem_of_getElem? (i := 21) rfl))) rfl
theorem mf_X11 : Cond.fieldLink R_X 20 (F_X 11).1 (F_X 11).2.1 (F_X 11).2.2.1 ∈ ct_tbl := ct_in (List.mem_append_right _ (List.mem_append_left _ (List.mem_of_getElem? (i := 22) rfl))) rfl
theorem mf_X12 : Cond.fieldLink R_X 24 (F_X 12).1 (F_X 12).2.1 (F_X 12).2.2.1 ∈ ct_tbl := ct_in (List.mem_append_right _ (List.mem_append_left _ (List.mem_of_getElem? (i := 23) rfl))) rfl
theorem mf_X13 : Cond.fieldLink R_X 27 (F_X 13).1 (F_X 13).2.1 (F_X 13).2.2.1 ∈ ct_tbl := ct_in (List.mem_append_right _ (List.mem_append_left _ (List.mem_of_getElem? (i := 24) rfl))) rfl
theorem mf_X14 : Cond.fieldLink R_X 75 (F_X 14).1 (F_X 14).2.1 (F_X 14).2.2.1 ∈ ct_tbl := ct_in (List.mem_append_right _ (List.mem_append_left _ (List.mem_of_getElem? (i := 25) rfl))) rfl
theorem mf_M0 : Cond.fieldLink R_M 23 (F_M 0).1 (F_M 0).2.1 (F_M 0).2.2.1 ∈ ct_tbl := ct_in (List.mem_append_right _ (List.mem_append_left _ (List.mem_of_getElem? (i := 150) rfl))) rfl
theorem mf_M1 : Cond.fieldLink R_M 7 (F_M 1).1 (F_M 1).2.1 (F_M 1).2.2.1 ∈ ct_tbl := ct_in (List.mem_append_right _ (List.mem_append_left _ (List.mem_of_getElem? (i := 151) rfl))) rfl
theorem mf_M2 : Cond.fieldLink R_M 13 (F_M 2).1 (F_M 2).2.1 (F_M 2).2.2.1 ∈ ct_tbl := ct_in (List.mem_append_right _ (List.mem_append_left _ (List.mem_of_getElem? (i := 152) rfl))) rfl
theorem mf_M3 : Cond.fieldLink R_M 31 (F_M 3).1 (F_M 3).2.1 (F_M 3).2.2.1 ∈ ct_tbl := ct_in (List.mem_append_right _ (List.mem_append_left _ (List.mem_of_getElem? (i := 153) rfl))) rfl
theorem mf_M4 : Cond.fieldLink R_M 38 (F_M 4).1 (F_M 4).2.1 (F_M 4).2.2.1 ∈ ct_tbl := ct_in (List.mem_append_right _ (List.mem_append_left _ (List.mem_of_getElem? (i := 154) rfl))) rfl
theorem mf_M5 : Cond.fieldLink R_M 16 (F_M 5).1 (F_M 5).2.1 (F_M 5).2.2.1 ∈ ct_tbl := ct_in (List.mem_append_right _ (List.mem_append_left _ (List.mem_of_getElem? (i := 155) rfl))) rfl
theorem mf_M6 : Cond.fieldLink R_M 20 (F_M 6).1 (F_M 6).2.1 (F_M 6).2.2.1 ∈ ct_tbl := ct_in (List.mem_append_right _ (List.mem_append_left _ (List.mem_of_getElem? (i := 156) rfl))) rfl
theorem mc_X_init : Cond.code y_X_init b_X_init 2 none ∈ ct_tbl := ct_in (List.mem_append_right _ (List.mem_append_left _ (List.mem_of_getElem? (i := 7) rfl))) rfl
theorem mc_X_door : Cond.code y_X_door b_X_door 5 (some .int) ∈ ct_tbl := ct_in (List.mem_append_right _ (List.mem_append_left _ (List.mem_of_getElem? (i := 63) rfl))) rfl
theorem mc_X_off : Cond.code y_X_off b_X_off 1 (some .boolean) ∈ ct_tbl := ct_in (List.mem_append_right _ (List.mem_append_left _ (List.mem_of_getElem? (i := 66) rfl))) rfl
theorem mc_X_exit : Cond.code y_X_exit b_X_exit 4 (some .int) ∈ ct_tbl := ct_in (List.mem_append_right _ (List.mem_append_left _ (List.mem_of_getElem? (i := 70) rfl))) rfl
theorem mc_X_set : Cond.code y_X_set b_X_set 5 (some .int) ∈ ct_tbl := ct_in (List.mem_append_right _ (List.mem_append_left _ (List.mem_of_getElem? (i := 74) rfl))) rfl
theorem mc_X_play : Cond.code y_X_play b_X_play 4 (some .int) ∈ ct_tbl := ct_in (List.mem_append_right _ (List.mem_append_left _ (List.mem_of_getElem? (i := 78) rfl))) rfl
theorem mc_X_number : Cond.code y_X_number b_X_number 4 (some .int) ∈ ct_tbl := ct_in (List.mem_append_right _ (List.mem_append_left _ (List.mem_of_getElem? (i := 81) rfl))) rfl
theorem mc_X_after : Cond.code y_X_after b_X_after 8 (some .int) ∈ ct_tbl := ct_in (List.mem_append_right _ (List.mem_append_left _ (List.mem_of_getElem? (i := 85) rfl))) rfl
theorem mc_X_over : Cond.code y_X_over b_X_over 5 (some .int) ∈ ct_tbl := ct_in (List.mem_append_right _ (List.mem_append_left _ (List.mem_of_getElem? (i := 89) rfl))) rfl
theorem mc_X_board : Cond.code y_X_board b_X_board 2 (some .int) ∈ ct_tbl := ct_in (List.mem_append_right _ (List.mem_append_left _ (List.mem_of_getElem? (i := 93) rfl))) rfl
theorem mc_X_outcome : Cond.code y_X_outcome b_X_outcome 6 (some .int) ∈ ct_tbl := ct_in (List.mem_append_right _ (List.mem_append_left _ (List.mem_of_getElem? (i := 97) rfl))) rfl
theorem mc_X_prepare : Cond.code y_X_prepare b_X_prepare 4 none ∈ ct_tbl := ct_in (List.mem_append_right _ (List.mem_append_left _ (List.mem_of_getElem? (i := 101) rfl))) rfl
theorem mc_X_moveCount : Cond.code y_X_moveCount b_X_moveCount 7 (some .int) ∈ ct_tbl := ct_in (List.mem_append_right _ (List.mem_append_left _ (List.mem_of_getElem? (i := 105) rfl))) rfl
theorem mc_X_bits : Cond.code y_X_bits b_X_bits 3 (some .int) ∈ ct_tbl := ct_in (List.mem_append_right _ (List.mem_append_left _ (List.mem_of_getElem? (i := 108) rfl))) rfl
theorem mc_X_settle : Cond.code y_X_settle b_X_settle 4 none ∈ ct_tbl := ct_in (List.mem_append_right _ (List.mem_append_left _ (List.mem_of_getElem? (i := 112) rfl))) rfl
theorem mc_X_spread : Cond.code y_X_spread b_X_spread 8 none ∈ ct_tbl := ct_in (List.mem_append_right _ (List.mem_append_left _ (List.mem_of_getElem? (i := 116) rfl))) rfl
theorem mc_X_answer : Cond.code y_X_answer b_X_answer 5 none ∈ ct_tbl := ct_in (List.mem_append_right _ (List.mem_append_left _ (List.mem_of_getElem? (i := 120) rfl))) rfl
theorem mc_X_length : Cond.code y_X_length b_X_length 6 (some .int) ∈ ct_tbl := ct_in (List.mem_append_right _ (List.mem_append_left _ (List.mem_of_getElem? (i := 124) rfl))) rfl
theorem mc_X_best : Cond.code y_X_best b_X_best 4 (some .int) ∈ ct_tbl := ct_in (List.mem_append_right _ (List.mem_append_left _ (List.mem_of_getElem? (i := 128) rfl))) rfl
theorem mc_X_total : Cond.code y_X_total b_X_total 4 (some .int) ∈ ct_tbl := ct_in (List.mem_append_right _ (List.mem_append_left _ (List.mem_of_getElem? (i := 132) rfl))) rfl
theorem mc_X_longest : Cond.code y_X_longest b_X_longest 4 (some .int) ∈ ct_tbl := ct_in (List.mem_append_right _ (List.mem_append_left _ (List.mem_of_getElem? (i := 136) rfl))) rfl
theorem mc_L_cell : Cond.code y_L_cell b_L_cell 2 (some .int) ∈ ct_tbl := ct_in (List.mem_append_right _ (List.mem_append_left _ (List.mem_of_getElem? (i := 139) rfl))) rfl
theorem mc_M_init : Cond.code y_M_init b_M_init 2 none ∈ ct_tbl := ct_in (List.mem_append_right _ (List.mem_append_left _ (List.mem_of_getElem? (i := 144) rfl))) rfl
theorem mc_M_number : Cond.code y_M_number b_M_number 5 (some .int) ∈ ct_tbl := ct_in (List.mem_append_right _ (List.mem_append_left _ (List.mem_of_getElem? (i := 149) rfl))) rfl
theorem mc_M_door : Cond.code y_M_door b_M_door 5 (some .int) ∈ ct_tbl := ct_in (List.mem_append_right _ (List.mem_append_left _ (List.mem_of_getElem? (i := 176) rfl))) rfl
theorem mc_M_bad : Cond.code y_M_bad b_M_bad 2 (some .boolean) ∈ ct_tbl := ct_in (List.mem_append_right _ (List.mem_append_left _ (List.mem_of_getElem? (i := 180) rfl))) rfl
theorem mc_M_exit : Cond.code y_M_exit b_M_exit 4 (some .int) ∈ ct_tbl := ct_in (List.mem_append_right _ (List.mem_append_left _ (List.mem_of_getElem? (i := 184) rfl))) rfl
theorem mc_M_set : Cond.code y_M_set b_M_set 5 (some .int) ∈ ct_tbl := ct_in (List.mem_append_right _ (List.mem_append_left _ (List.mem_of_getElem? (i := 188) rfl))) rfl
theorem mc_M_play : Cond.code y_M_play b_M_play 3 (some .int) ∈ ct_tbl := ct_in (List.mem_append_right _ (List.mem_append_left _ (List.mem_of_getElem? (i := 192) rfl))) rfl
theorem mc_M_over : Cond.code y_M_over b_M_over 3 (some .int) ∈ ct_tbl := ct_in (List.mem_append_right _ (List.mem_append_left _ (List.mem_of_getElem? (i := 196) rfl))) rfl
theorem mc_M_after : Cond.code y_M_after b_M_after 8 (some .int) ∈ ct_tbl := ct_in (List.mem_append_right _ (List.mem_append_left _ (List.mem_of_getElem? (i := 200) rfl))) rfl
theorem mc_M_board : Cond.code y_M_board b_M_board 1 (some .int) ∈ ct_tbl := ct_in (List.mem_append_right _ (List.mem_append_left _ (List.mem_of_getElem? (i := 204) rfl))) rfl
theorem mc_M_outcome : Cond.code y_M_outcome b_M_outcome 5 (some .int) ∈ ct_tbl := ct_in (List.mem_append_right _ (List.mem_append_left _ (List.mem_of_getElem? (i := 208) rfl))) rfl
theorem mc_M_workOut : Cond.code y_M_workOut b_M_workOut 5 none ∈ ct_tbl := ct_in (List.mem_append_right _ (List.mem_append_left _ (List.mem_of_getElem? (i := 212) rfl))) rfl
theorem mc_M_follows : Cond.code y_M_follows b_M_follows 7 (some .int) ∈ ct_tbl := ct_in (List.mem_append_right _ (List.mem_append_left _ (List.mem_of_getElem? (i := 216) rfl))) rfl
theorem mc_M_mover : Cond.code y_M_mover b_M_mover 2 (some .int) ∈ ct_tbl := ct_in (List.mem_append_right _ (List.mem_append_left _ (List.mem_of_getElem? (i := 220) rfl))) rfl
theorem mc_M_length : Cond.code y_M_length b_M_length 5 (some .int) ∈ ct_tbl := ct_in (List.mem_append_right _ (List.mem_append_left _ (List.mem_of_getElem? (i := 224) rfl))) rfl
theorem mc_M_best : Cond.code y_M_best b_M_best 3 (some .int) ∈ ct_tbl := ct_in (List.mem_append_right _ (List.mem_append_left _ (List.mem_of_getElem? (i := 228) rfl))) rfl
theorem mc_M_canMove : Cond.code y_M_canMove b_M_canMove 3 (some .boolean) ∈ ct_tbl := ct_in (List.mem_append_right _ (List.mem_append_left _ (List.mem_of_getElem? (i := 232) rfl))) rfl
theorem mc_M_total : Cond.code y_M_total b_M_total 4 (some .int) ∈ ct_tbl := ct_in (List.mem_append_right _ (List.mem_append_left _ (List.mem_of_getElem? (i := 236) rfl))) rfl
theorem mc_M_longest : Cond.code y_M_longest b_M_longest 4 (some .int) ∈ ct_tbl := ct_in (List.mem_append_right _ (List.mem_append_right _ (List.mem_of_getElem? (i := 0) rfl))) rfl
theorem ml_L_X_init : Cond.methodLink R_law 15 y_X_init ∈ ct_tbl := ct_in (List.mem_append_right _ (List.mem_append_left _ (List.mem_of_getElem? (i := 5) rfl))) rfl
theorem mn_X_init : Cond.instanceMethod y_X_init ∈ ct_tbl := ct_in (List.mem_append_right _ (List.mem_append_left _ (List.mem_of_getElem? (i := 6) rfl))) rfl
theorem ml_L_X_door : Cond.methodLink R_law 21 y_X_door ∈ ct_tbl := ct_in (List.mem_append_right _ (List.mem_append_left _ (List.mem_of_getElem? (i := 60) rfl))) rfl
theorem gv_L_X_door : GoodIn ct_tbl (wsV R_law 21 R_X y_X_door (Cond.code y_X_door b_X_door 5 (some .int) :: ct_tbl)) := gd_V ml_L_X_door (ct_in (List.mem_append_right _ (List.mem_append_left _ (List.mem_of_getElem? (i := 61) rfl))) rfl) (ct_in (List.mem_append_right _ (List.mem_append_left _ (List.mem_of_getElem? (i := 62) rfl))) rfl) mi_X mc_X_door
theorem ml_X_X_off : Cond.methodLink R_X 44 y_X_off ∈ ct_tbl := ct_in (List.mem_append_right _ (List.mem_append_left _ (List.mem_of_getElem? (i := 64) rfl))) rfl
theorem gs_X_X_off : GoodIn ct_tbl (wsS R_X 44 y_X_off (Cond.code y_X_off b_X_off 1 (some .boolean) :: ct_tbl)) := gd_S ml_X_X_off (ct_in (List.mem_append_right _ (List.mem_append_left _ (List.mem_of_getElem? (i := 65) rfl))) rfl) mi_X mc_X_off
theorem ml_L_X_exit : Cond.methodLink R_law 26 y_X_exit ∈ ct_tbl := ct_in (List.mem_append_right _ (List.mem_append_left _ (List.mem_of_getElem? (i := 67) rfl))) rfl
theorem gv_L_X_exit : GoodIn ct_tbl (wsV R_law 26 R_X y_X_exit (Cond.code y_X_exit b_X_exit 4 (some .int) :: ct_tbl)) := gd_V ml_L_X_exit (ct_in (List.mem_append_right _ (List.mem_append_left _ (List.mem_of_getElem? (i := 68) rfl))) rfl) (ct_in (List.mem_append_right _ (List.mem_append_left _ (List.mem_of_getElem? (i := 69) rfl))) rfl) mi_X mc_X_exit
theorem ml_L_X_set : Cond.methodLink R_law 31 y_X_set ∈ ct_tbl := ct_in (List.mem_append_right _ (List.mem_append_left _ (List.mem_of_getElem? (i := 71) rfl))) rfl
theorem gv_L_X_set : GoodIn ct_tbl (wsV R_law 31 R_X y_X_set (Cond.code y_X_set b_X_set 5 (some .int) :: ct_tbl)) := gd_V ml_L_X_set (ct_in (List.mem_append_right _ (List.mem_append_left _ (List.mem_of_getElem? (i := 72) rfl))) rfl) (ct_in (List.mem_append_right _ (List.mem_append_left _ (List.mem_of_getElem? (i := 73) rfl))) rfl) mi_X mc_X_set
theorem ml_L_X_play : Cond.methodLink R_law 36 y_X_play ∈ ct_tbl := ct_in (List.mem_append_right _ (List.mem_append_left _ (List.mem_of_getElem? (i := 75) rfl))) rfl
theorem gv_L_X_play : GoodIn ct_tbl (wsV R_law 36 R_X y_X_play (Cond.code y_X_play b_X_play 4 (some .int) :: ct_tbl)) := gd_V ml_L_X_play (ct_in (List.mem_append_right _ (List.mem_append_left _ (List.mem_of_getElem? (i := 76) rfl))) rfl) (ct_in (List.mem_append_right _ (List.mem_append_left _ (List.mem_of_getElem? (i := 77) rfl))) rfl) mi_X mc_X_play
theorem ml_X_X_number : Cond.methodLink R_X 60 y_X_number ∈ ct_tbl := ct_in (List.mem_append_right _ (List.mem_append_left _ (List.mem_of_getElem? (i := 79) rfl))) rfl
theorem gs_X_X_number : GoodIn ct_tbl (wsS R_X 60 y_X_number (Cond.code y_X_number b_X_number 4 (some .int) :: ct_tbl)) := gd_S ml_X_X_number (ct_in (List.mem_append_right _ (List.mem_append_left _ (List.mem_of_getElem? (i := 80) rfl))) rfl) mi_X mc_X_number
theorem ml_X_X_after : Cond.methodLink R_X 64 y_X_after ∈ ct_tbl := ct_in (List.mem_append_right _ (List.mem_append_left _ (List.mem_of_getElem? (i := 82) rfl))) rfl
theorem gv_X_X_after : GoodIn ct_tbl (wsV R_X 64 R_X y_X_after (Cond.code y_X_after b_X_after 8 (some .int) :: ct_tbl)) := gd_V ml_X_X_after (ct_in (List.mem_append_right _ (List.mem_append_left _ (List.mem_of_getElem? (i := 84) rfl))) rfl) (ct_in (List.mem_append_left _ (List.mem_of_getElem? (i := 0) rfl)) rfl) mi_X mc_X_after
theorem ml_X_X_over : Cond.methodLink R_X 68 y_X_over ∈ ct_tbl := ct_in (List.mem_append_right _ (List.mem_append_left _ (List.mem_of_getElem? (i := 86) rfl))) rfl
theorem gv_X_X_over : GoodIn ct_tbl (wsV R_X 68 R_X y_X_over (Cond.code y_X_over b_X_over 5 (some .int) :: ct_tbl)) := gd_V ml_X_X_over (ct_in (List.mem_append_right _ (List.mem_append_left _ (List.mem_of_getElem? (i := 88) rfl))) rfl) (ct_in (List.mem_append_left _ (List.mem_of_getElem? (i := 1) rfl)) rfl) mi_X mc_X_over
theorem ml_L_X_board : Cond.methodLink R_law 41 y_X_board ∈ ct_tbl := ct_in (List.mem_append_right _ (List.mem_append_left _ (List.mem_of_getElem? (i := 90) rfl))) rfl
theorem gv_L_X_board : GoodIn ct_tbl (wsV R_law 41 R_X y_X_board (Cond.code y_X_board b_X_board 2 (some .int) :: ct_tbl)) := gd_V ml_L_X_board (ct_in (List.mem_append_right _ (List.mem_append_left _ (List.mem_of_getElem? (i := 91) rfl))) rfl) (ct_in (List.mem_append_right _ (List.mem_append_left _ (List.mem_of_getElem? (i := 92) rfl))) rfl) mi_X mc_X_board
theorem ml_L_X_outcome : Cond.methodLink R_law 46 y_X_outcome ∈ ct_tbl := ct_in (List.mem_append_right _ (List.mem_append_left _ (List.mem_of_getElem? (i := 94) rfl))) rfl
theorem gv_L_X_outcome : GoodIn ct_tbl (wsV R_law 46 R_X y_X_outcome (Cond.code y_X_outcome b_X_outcome 6 (some .int) :: ct_tbl)) := gd_V ml_L_X_outcome (ct_in (List.mem_append_right _ (List.mem_append_left _ (List.mem_of_getElem? (i := 95) rfl))) rfl) (ct_in (List.mem_append_right _ (List.mem_append_left _ (List.mem_of_getElem? (i := 96) rfl))) rfl) mi_X mc_X_outcome
theorem ml_X_X_prepare : Cond.methodLink R_X 92 y_X_prepare ∈ ct_tbl := ct_in (List.mem_append_right _ (List.mem_append_left _ (List.mem_of_getElem? (i := 98) rfl))) rfl
theorem gv_X_X_prepare : GoodIn ct_tbl (wsV R_X 92 R_X y_X_prepare (Cond.code y_X_prepare b_X_prepare 4 none :: ct_tbl)) := gd_V ml_X_X_prepare (ct_in (List.mem_append_right _ (List.mem_append_left _ (List.mem_of_getElem? (i := 100) rfl))) rfl) (ct_in (List.mem_append_left _ (List.mem_of_getElem? (i := 2) rfl)) rfl) mi_X mc_X_prepare
theorem ml_X_X_moveCount : Cond.methodLink R_X 78 y_X_moveCount ∈ ct_tbl := ct_in (List.mem_append_right _ (List.mem_append_left _ (List.mem_of_getElem? (i := 102) rfl))) rfl
theorem gv_X_X_moveCount : GoodIn ct_tbl (wsV R_X 78 R_X y_X_moveCount (Cond.code y_X_moveCount b_X_moveCount 7 (some .int) :: ct_tbl)) := gd_V ml_X_X_moveCount (ct_in (List.mem_append_right _ (List.mem_append_left _ (List.mem_of_getElem? (i := 104) rfl))) rfl) (ct_in (List.mem_append_left _ (List.mem_of_getElem? (i := 3) rfl)) rfl) mi_X mc_X_moveCount
theorem ml_X_X_bits : Cond.methodLink R_X 72 y_X_bits ∈ ct_tbl := ct_in (List.mem_append_right _ (List.mem_append_left _ (List.mem_of_getElem? (i := 106) rfl))) rfl
theorem gs_X_X_bits : GoodIn ct_tbl (wsS R_X 72 y_X_bits (Cond.code y_X_bits b_X_bits 3 (some .int) :: ct_tbl)) := gd_S ml_X_X_bits (ct_in (List.mem_append_right _ (List.mem_append_left _ (List.mem_of_getElem? (i := 107) rfl))) rfl) mi_X mc_X_bits
theorem ml_X_X_settle : Cond.methodLink R_X 81 y_X_settle ∈ ct_tbl := ct_in (List.mem_append_right _ (List.mem_append_left _ (List.mem_of_getElem? (i := 109) rfl))) rfl
theorem gv_X_X_settle : GoodIn ct_tbl (wsV R_X 81 R_X y_X_settle (Cond.code y_X_settle b_X_settle 4 none :: ct_tbl)) := gd_V ml_X_X_settle (ct_in (List.mem_append_right _ (List.mem_append_left _ (List.mem_of_getElem? (i := 111) rfl))) rfl) (ct_in (List.mem_append_left _ (List.mem_of_getElem? (i := 4) rfl)) rfl) mi_X mc_X_settle
theorem ml_X_X_spread : Cond.methodLink R_X 85 y_X_spread ∈ ct_tbl := ct_in (List.mem_append_right _ (List.mem_append_left _ (List.mem_of_getElem? (i := 113) rfl))) rfl
theorem gv_X_X_spread : GoodIn ct_tbl (wsV R_X 85 R_X y_X_spread (Cond.code y_X_spread b_X_spread 8 none :: ct_tbl)) := gd_V ml_X_X_spread (ct_in (List.mem_append_right _ (List.mem_append_left _ (List.mem_of_getElem? (i := 115) rfl))) rfl) (ct_in (List.mem_append_left _ (List.mem_of_getElem? (i := 5) rfl)) rfl) mi_X mc_X_spread
theorem ml_X_X_answer : Cond.methodLink R_X 89 y_X_answer ∈ ct_tbl := ct_in (List.mem_append_right _ (List.mem_append_left _ (List.mem_of_getElem? (i := 117) rfl))) rfl
theorem gv_X_X_answer : GoodIn ct_tbl (wsV R_X 89 R_X y_X_answer (Cond.code y_X_answer b_X_answer 5 none :: ct_tbl)) := gd_V ml_X_X_answer (ct_in (List.mem_append_right _ (List.mem_append_left _ (List.mem_of_getElem? (i := 119) rfl))) rfl) (ct_in (List.mem_append_left _ (List.mem_of_getElem? (i := 6) rfl)) rfl) mi_X mc_X_answer
theorem ml_L_X_length : Cond.methodLink R_law 50 y_X_length ∈ ct_tbl := ct_in (List.mem_append_right _ (List.mem_append_left _ (List.mem_of_getElem? (i := 121) rfl))) rfl
theorem gv_L_X_length : GoodIn ct_tbl (wsV R_law 50 R_X y_X_length (Cond.code y_X_length b_X_length 6 (some .int) :: ct_tbl)) := gd_V ml_L_X_length (ct_in (List.mem_append_right _ (List.mem_append_left _ (List.mem_of_getElem? (i := 122) rfl))) rfl) (ct_in (List.mem_append_right _ (List.mem_append_left _ (List.mem_of_getElem? (i := 123) rfl))) rfl) mi_X mc_X_length
theorem ml_L_X_best : Cond.methodLink R_law 54 y_X_best ∈ ct_tbl := ct_in (List.mem_append_right _ (List.mem_append_left _ (List.mem_of_getElem? (i := 125) rfl))) rfl
theorem gv_L_X_best : GoodIn ct_tbl (wsV R_law 54 R_X y_X_best (Cond.code y_X_best b_X_best 4 (some .int) :: ct_tbl)) := gd_V ml_L_X_best (ct_in (List.mem_append_right _ (List.mem_append_left _ (List.mem_of_getElem? (i := 126) rfl))) rfl) (ct_in (List.mem_append_right _ (List.mem_append_left _ (List.mem_of_getElem? (i := 127) rfl))) rfl) mi_X mc_X_best
theorem ml_L_X_total : Cond.methodLink R_law 58 y_X_total ∈ ct_tbl := ct_in (List.mem_append_right _ (List.mem_append_left _ (List.mem_of_getElem? (i := 129) rfl))) rfl
theorem gv_L_X_total : GoodIn ct_tbl (wsV R_law 58 R_X y_X_total (Cond.code y_X_total b_X_total 4 (some .int) :: ct_tbl)) := gd_V ml_L_X_total (ct_in (List.mem_append_right _ (List.mem_append_left _ (List.mem_of_getElem? (i := 130) rfl))) rfl) (ct_in (List.mem_append_right _ (List.mem_append_left _ (List.mem_of_getElem? (i := 131) rfl))) rfl) mi_X mc_X_total
theorem ml_L_X_longest : Cond.methodLink R_law 62 y_X_longest ∈ ct_tbl := ct_in (List.mem_append_right _ (List.mem_append_left _ (List.mem_of_getElem? (i := 133) rfl))) rfl
theorem gv_L_X_longest : GoodIn ct_tbl (wsV R_law 62 R_X y_X_longest (Cond.code y_X_longest b_X_longest 4 (some .int) :: ct_tbl)) := gd_V ml_L_X_longest (ct_in (List.mem_append_right _ (List.mem_append_left _ (List.mem_of_getElem? (i := 134) rfl))) rfl) (ct_in (List.mem_append_right _ (List.mem_append_left _ (List.mem_of_getElem? (i := 135) rfl))) rfl) mi_X mc_X_longest
theorem ml_L_L_cell : Cond.methodLink R_law 9 y_L_cell ∈ ct_tbl := ct_in (List.mem_append_right _ (List.mem_append_left _ (List.mem_of_getElem? (i := 137) rfl))) rfl
theorem gs_L_L_cell : GoodIn ct_tbl (wsS R_law 9 y_L_cell (Cond.code y_L_cell b_L_cell 2 (some .int) :: ct_tbl)) := gd_S ml_L_L_cell (ct_in (List.mem_append_right _ (List.mem_append_left _ (List.mem_of_getElem? (i := 138) rfl))) rfl) mi_law mc_L_cell
theorem ml_L_M_init : Cond.methodLink R_law 20 y_M_init ∈ ct_tbl := ct_in (List.mem_append_right _ (List.mem_append_left _ (List.mem_of_getElem? (i := 142) rfl))) rfl
theorem mn_M_init : Cond.instanceMethod y_M_init ∈ ct_tbl := ct_in (List.mem_append_right _ (List.mem_append_left _ (List.mem_of_getElem? (i := 143) rfl))) rfl
theorem ml_M_M_number : Cond.methodLink R_M 27 y_M_number ∈ ct_tbl := ct_in (List.mem_append_right _ (List.mem_append_left _ (List.mem_of_getElem? (i := 146) rfl))) rfl
theorem gv_M_M_number : GoodIn ct_tbl (wsV R_M 27 R_M y_M_number (Cond.code y_M_number b_M_number 5 (some .int) :: ct_tbl)) := gd_V ml_M_M_number (ct_in (List.mem_append_right _ (List.mem_append_left _ (List.mem_of_getElem? (i := 148) rfl))) rfl) (ct_in (List.mem_append_left _ (List.mem_of_getElem? (i := 7) rfl)) rfl) mi_M mc_M_number
theorem ml_L_M_door : Cond.methodLink R_law 25 y_M_door ∈ ct_tbl := ct_in (List.mem_append_right _ (List.mem_append_left _ (List.mem_of_getElem? (i := 173) rfl))) rfl
theorem gv_L_M_door : GoodIn ct_tbl (wsV R_law 25 R_M y_M_door (Cond.code y_M_door b_M_door 5 (some .int) :: ct_tbl)) := gd_V ml_L_M_door (ct_in (List.mem_append_right _ (List.mem_append_left _ (List.mem_of_getElem? (i := 174) rfl))) rfl) (ct_in (List.mem_append_right _ (List.mem_append_left _ (List.mem_of_getElem? (i := 175) rfl))) rfl) mi_M mc_M_door
theorem ml_M_M_bad : Cond.methodLink R_M 34 y_M_bad ∈ ct_tbl := ct_in (List.mem_append_right _ (List.mem_append_left _ (List.mem_of_getElem? (i := 177) rfl))) rfl
theorem gv_M_M_bad : GoodIn ct_tbl (wsV R_M 34 R_M y_M_bad (Cond.code y_M_bad b_M_bad 2 (some .boolean) :: ct_tbl)) := gd_V ml_M_M_bad (ct_in (List.mem_append_right _ (List.mem_append_left _ (List.mem_of_getElem? (i := 179) rfl))) rfl) (ct_in (List.mem_append_left _ (List.mem_of_getElem? (i := 8) rfl)) rfl) mi_M mc_M_bad
theorem ml_L_M_exit : Cond.methodLink R_law 30 y_M_exit ∈ ct_tbl := ct_in (List.mem_append_right _ (List.mem_append_left _ (List.mem_of_getElem? (i := 181) rfl))) rfl
theorem gv_L_M_exit : GoodIn ct_tbl (wsV R_law 30 R_M y_M_exit (Cond.code y_M_exit b_M_exit 4 (some .int) :: ct_tbl)) := gd_V ml_L_M_exit (ct_in (List.mem_append_right _ (List.mem_append_left _ (List.mem_of_getElem? (i := 182) rfl))) rfl) (ct_in (List.mem_append_right _ (List.mem_append_left _ (List.mem_of_getElem? (i := 183) rfl))) rfl) mi_M mc_M_exit
theorem ml_L_M_set : Cond.methodLink R_law 35 y_M_set ∈ ct_tbl := ct_in (List.mem_append_right _ (List.mem_append_left _ (List.mem_of_getElem? (i := 185) rfl))) rfl
theorem gv_L_M_set : GoodIn ct_tbl (wsV R_law 35 R_M y_M_set (Cond.code y_M_set b_M_set 5 (some .int) :: ct_tbl)) := gd_V ml_L_M_set (ct_in (List.mem_append_right _ (List.mem_append_left _ (List.mem_of_getElem? (i := 186) rfl))) rfl) (ct_in (List.mem_append_right _ (List.mem_append_left _ (List.mem_of_getElem? (i := 187) rfl))) rfl) mi_M mc_M_set
theorem ml_L_M_play : Cond.methodLink R_law 40 y_M_play ∈ ct_tbl := ct_in (List.mem_append_right _ (List.mem_append_left _ (List.mem_of_getElem? (i := 189) rfl))) rfl
theorem gv_L_M_play : GoodIn ct_tbl (wsV R_law 40 R_M y_M_play (Cond.code y_M_play b_M_play 3 (some .int) :: ct_tbl)) := gd_V ml_L_M_play (ct_in (List.mem_append_right _ (List.mem_append_left _ (List.mem_of_getElem? (i := 190) rfl))) rfl) (ct_in (List.mem_append_right _ (List.mem_append_left _ (List.mem_of_getElem? (i := 191) rfl))) rfl) mi_M mc_M_play
theorem ml_M_M_over : Cond.methodLink R_M 50 y_M_over ∈ ct_tbl := ct_in (List.mem_append_right _ (List.mem_append_left _ (List.mem_of_getElem? (i := 193) rfl))) rfl
theorem gv_M_M_over : GoodIn ct_tbl (wsV R_M 50 R_M y_M_over (Cond.code y_M_over b_M_over 3 (some .int) :: ct_tbl)) := gd_V ml_M_M_over (ct_in (List.mem_append_right _ (List.mem_append_left _ (List.mem_of_getElem? (i := 195) rfl))) rfl) (ct_in (List.mem_append_left _ (List.mem_of_getElem? (i := 9) rfl)) rfl) mi_M mc_M_over
theorem ml_M_M_after : Cond.methodLink R_M 46 y_M_after ∈ ct_tbl := ct_in (List.mem_append_right _ (List.mem_append_left _ (List.mem_of_getElem? (i := 197) rfl))) rfl
theorem gv_M_M_after : GoodIn ct_tbl (wsV R_M 46 R_M y_M_after (Cond.code y_M_after b_M_after 8 (some .int) :: ct_tbl)) := gd_V ml_M_M_after (ct_in (List.mem_append_right _ (List.mem_append_left _ (List.mem_of_getElem? (i := 199) rfl))) rfl) (ct_in (List.mem_append_left _ (List.mem_of_getElem? (i := 10) rfl)) rfl) mi_M mc_M_after
theorem ml_L_M_board : Cond.methodLink R_law 45 y_M_board ∈ ct_tbl := ct_in (List.mem_append_right _ (List.mem_append_left _ (List.mem_of_getElem? (i := 201) rfl))) rfl
theorem gv_L_M_board : GoodIn ct_tbl (wsV R_law 45 R_M y_M_board (Cond.code y_M_board b_M_board 1 (some .int) :: ct_tbl)) := gd_V ml_L_M_board (ct_in (List.mem_append_right _ (List.mem_append_left _ (List.mem_of_getElem? (i := 202) rfl))) rfl) (ct_in (List.mem_append_right _ (List.mem_append_left _ (List.mem_of_getElem? (i := 203) rfl))) rfl) mi_M mc_M_board
theorem ml_L_M_outcome : Cond.methodLink R_law 49 y_M_outcome ∈ ct_tbl := ct_in (List.mem_append_right _ (List.mem_append_left _ (List.mem_of_getElem? (i := 205) rfl))) rfl
theorem gv_L_M_outcome : GoodIn ct_tbl (wsV R_law 49 R_M y_M_outcome (Cond.code y_M_outcome b_M_outcome 5 (some .int) :: ct_tbl)) := gd_V ml_L_M_outcome (ct_in (List.mem_append_right _ (List.mem_append_left _ (List.mem_of_getElem? (i := 206) rfl))) rfl) (ct_in (List.mem_append_right _ (List.mem_append_left _ (List.mem_of_getElem? (i := 207) rfl))) rfl) mi_M mc_M_outcome
theorem ml_M_M_workOut : Cond.methodLink R_M 56 y_M_workOut ∈ ct_tbl := ct_in (List.mem_append_right _ (List.mem_append_left _ (List.mem_of_getElem? (i := 209) rfl))) rfl
theorem gv_M_M_workOut : GoodIn ct_tbl (wsV R_M 56 R_M y_M_workOut (Cond.code y_M_workOut b_M_workOut 5 none :: ct_tbl)) := gd_V ml_M_M_workOut (ct_in (List.mem_append_right _ (List.mem_append_left _ (List.mem_of_getElem? (i := 211) rfl))) rfl) (ct_in (List.mem_append_left _ (List.mem_of_getElem? (i := 11) rfl)) rfl) mi_M mc_M_workOut
theorem ml_M_M_follows : Cond.methodLink R_M 53 y_M_follows ∈ ct_tbl := ct_in (List.mem_append_right _ (List.mem_append_left _ (List.mem_of_getElem? (i := 213) rfl))) rfl
theorem gv_M_M_follows : GoodIn ct_tbl (wsV R_M 53 R_M y_M_follows (Cond.code y_M_follows b_M_follows 7 (some .int) :: ct_tbl)) := gd_V ml_M_M_follows (ct_in (List.mem_append_right _ (List.mem_append_left _ (List.mem_of_getElem? (i := 215) rfl))) rfl) (ct_in (List.mem_append_left _ (List.mem_of_getElem? (i := 12) rfl)) rfl) mi_M mc_M_follows
theorem ml_M_M_mover : Cond.methodLink R_M 42 y_M_mover ∈ ct_tbl := ct_in (List.mem_append_right _ (List.mem_append_left _ (List.mem_of_getElem? (i := 217) rfl))) rfl
theorem gv_M_M_mover : GoodIn ct_tbl (wsV R_M 42 R_M y_M_mover (Cond.code y_M_mover b_M_mover 2 (some .int) :: ct_tbl)) := gd_V ml_M_M_mover (ct_in (List.mem_append_right _ (List.mem_append_left _ (List.mem_of_getElem? (i := 219) rfl))) rfl) (ct_in (List.mem_append_left _ (List.mem_of_getElem? (i := 13) rfl)) rfl) mi_M mc_M_mover
theorem ml_L_M_length : Cond.methodLink R_law 53 y_M_length ∈ ct_tbl := ct_in (List.mem_append_right _ (List.mem_append_left _ (List.mem_of_getElem? (i := 221) rfl))) rfl
theorem gv_L_M_length : GoodIn ct_tbl (wsV R_law 53 R_M y_M_length (Cond.code y_M_length b_M_length 5 (some .int) :: ct_tbl)) := gd_V ml_L_M_length (ct_in (List.mem_append_right _ (List.mem_append_left _ (List.mem_of_getElem? (i := 222) rfl))) rfl) (ct_in (List.mem_append_right _ (List.mem_append_left _ (List.mem_of_getElem? (i := 223) rfl))) rfl) mi_M mc_M_length
theorem ml_L_M_best : Cond.methodLink R_law 57 y_M_best ∈ ct_tbl := ct_in (List.mem_append_right _ (List.mem_append_left _ (List.mem_of_getElem? (i := 225) rfl))) rfl
theorem gv_L_M_best : GoodIn ct_tbl (wsV R_law 57 R_M y_M_best (Cond.code y_M_best b_M_best 3 (some .int) :: ct_tbl)) := gd_V ml_L_M_best (ct_in (List.mem_append_right _ (List.mem_append_left _ (List.mem_of_getElem? (i := 226) rfl))) rfl) (ct_in (List.mem_append_right _ (List.mem_append_left _ (List.mem_of_getElem? (i := 227) rfl))) rfl) mi_M mc_M_best
theorem ml_M_M_canMove : Cond.methodLink R_M 59 y_M_canMove ∈ ct_tbl := ct_in (List.mem_append_right _ (List.mem_append_left _ (List.mem_of_getElem? (i := 229) rfl))) rfl
theorem gv_M_M_canMove : GoodIn ct_tbl (wsV R_M 59 R_M y_M_canMove (Cond.code y_M_canMove b_M_canMove 3 (some .boolean) :: ct_tbl)) := gd_V ml_M_M_canMove (ct_in (List.mem_append_right _ (List.mem_append_left _ (List.mem_of_getElem? (i := 231) rfl))) rfl) (ct_in (List.mem_append_left _ (List.mem_of_getElem? (i := 14) rfl)) rfl) mi_M mc_M_canMove
theorem ml_L_M_total : Cond.methodLink R_law 61 y_M_total ∈ ct_tbl := ct_in (List.mem_append_right _ (List.mem_append_left _ (List.mem_of_getElem? (i := 233) rfl))) rfl
theorem gv_L_M_total : GoodIn ct_tbl (wsV R_law 61 R_M y_M_total (Cond.code y_M_total b_M_total 4 (some .int) :: ct_tbl)) := gd_V ml_L_M_total (ct_in (List.mem_append_right _ (List.mem_append_left _ (List.mem_of_getElem? (i := 234) rfl))) rfl) (ct_in (List.mem_append_right _ (List.mem_append_left _ (List.mem_of_getElem? (i := 235) rfl))) rfl) mi_M mc_M_total
theorem ml_L_M_longest : Cond.methodLink R_law 65 y_M_longest ∈ ct_tbl := ct_in (List.mem_append_right _ (List.mem_append_left _ (List.mem_of_getElem? (i := 237) rfl))) rfl
theorem gv_L_M_longest : GoodIn ct_tbl (wsV R_law 65 R_M y_M_longest (Cond.code y_M_longest b_M_longest 4 (some .int) :: ct_tbl)) := gd_V ml_L_M_longest (ct_in (List.mem_append_right _ (List.mem_append_left _ (List.mem_of_getElem? (i := 238) rfl))) rfl) (ct_in (List.mem_append_right _ (List.mem_append_left _ (List.mem_of_getElem? (i := 239) rfl))) rfl) mi_M mc_M_longest
theorem ml_X_obj : Cond.methodLink R_X 1 objectInit ∈ ct_tbl := ct_in (List.mem_append_right _ (List.mem_append_left _ (List.mem_of_getElem? (i := 8) rfl))) rfl
theorem ml_M_obj : Cond.methodLink R_M 1 objectInit ∈ ct_tbl := ct_in (List.mem_append_right _ (List.mem_append_left _ (List.mem_of_getElem? (i := 145) rfl))) rfl
theorem mn_obj : Cond.instanceMethod objectInit ∈ ct_tbl := ct_in (List.mem_append_right _ (List.mem_append_left _ (List.mem_of_getElem? (i := 9) rfl))) rfl
theorem mc_obj : Cond.code objectInit ⟨#[0xb1]⟩ 1 none ∈ ct_tbl := ct_in (List.mem_append_right _ (List.mem_append_left _ (List.mem_of_getElem? (i := 10) rfl))) rfl
theorem ma_int : Cond.arrayClass (newarray.typeOf .int) ∈ ct_tbl := ct_in (List.mem_append_right _ (List.mem_append_left _ (List.mem_of_getElem? (i := 57) rfl))) rfl
theorem ma_byte : Cond.arrayClass (newarray.typeOf .byte) ∈ ct_tbl := ct_in (List.mem_append_right _ (List.mem_append_left _ (List.mem_of_getElem? (i := 58) rfl))) rfl
theorem ma_short : Cond.arrayClass (newarray.typeOf .short) ∈ ct_tbl := ct_in (List.mem_append_right _ (List.mem_append_left _ (List.mem_of_getElem? (i := 59) rfl))) rfl
theorem ma_boolean : Cond.arrayClass (newarray.typeOf .boolean) ∈ ct_tbl := ct_in (List.mem_append_right _ (List.mem_append_left _ (List.mem_of_getElem? (i := 172) rfl))) rfl
theorem mk_X : Cond.classLink R_law 7 R_X ∈ ct_tbl := ct_in (List.mem_append_right _ (List.mem_append_left _ (List.mem_of_getElem? (i := 3) rfl))) rfl
theorem mk_M : Cond.classLink R_law 18 R_M ∈ ct_tbl := ct_in (List.mem_append_right _ (List.mem_append_left _ (List.mem_of_getElem? (i := 140) rfl))) rfl
theorem mj_X : Cond.instantiable R_X 15 ∈ ct_tbl := ct_in (List.mem_append_right _ (List.mem_append_left _ (List.mem_of_getElem? (i := 4) rfl))) rfl
theorem mj_M : Cond.instantiable R_M 7 ∈ ct_tbl := ct_in (List.mem_append_right _ (List.mem_append_left _ (List.mem_of_getElem? (i := 141) rfl))) rfl
end
section
theorem d_X_init_0 : decode b_X_init 0 = .ok (.aload_n 0, 1) := by decide +kernel
theorem d_X_init_1 : decode b_X_init 1 = .ok (.invokespecial 1, 3) := by decide +kernel
theorem d_X_init_4 : decode b_X_init 4 = .ok (.aload_n 0, 1) := by decide +kernel
theorem d_X_init_5 : decode b_X_init 5 = .ok (.bipush 6, 2) := by decide +kernel
theorem d_X_init_7 : decode b_X_init 7 = .ok (.newarray .int, 2) := by decide +kernel
theorem d_X_init_9 : decode b_X_init 9 = .ok (.putfield 7, 3) := by decide +kernel
theorem d_X_init_12 : decode b_X_init 12 = .ok (.aload_n 0, 1) := by decide +kernel
theorem d_X_init_13 : decode b_X_init 13 = .ok (.bipush 6, 2) := by decide +kernel
theorem d_X_init_15 : decode b_X_init 15 = .ok (.newarray .int, 2) := by decide +kernel
theorem d_X_init_17 : decode b_X_init 17 = .ok (.putfield 13, 3) := by decide +kernel
theorem d_X_init_20 : decode b_X_init 20 = .ok (.aload_n 0, 1) := by decide +kernel
theorem d_X_init_21 : decode b_X_init 21 = .ok (.sipush 432, 3) := by decide +kernel
theorem d_X_init_24 : decode b_X_init 24 = .ok (.newarray .byte, 2) := by decide +kernel
theorem d_X_init_26 : decode b_X_init 26 = .ok (.putfield 16, 3) := by decide +kernel
theorem d_X_init_29 : decode b_X_init 29 = .ok (.aload_n 0, 1) := by decide +kernel
theorem d_X_init_30 : decode b_X_init 30 = .ok (.sipush 432, 3) := by decide +kernel
theorem d_X_init_33 : decode b_X_init 33 = .ok (.newarray .short, 2) := by decide +kernel
theorem d_X_init_35 : decode b_X_init 35 = .ok (.putfield 20, 3) := by decide +kernel
theorem d_X_init_38 : decode b_X_init 38 = .ok (.aload_n 0, 1) := by decide +kernel
theorem d_X_init_39 : decode b_X_init 39 = .ok (.sipush 432, 3) := by decide +kernel
theorem d_X_init_42 : decode b_X_init 42 = .ok (.newarray .byte, 2) := by decide +kernel
theorem d_X_init_44 : decode b_X_init 44 = .ok (.putfield 24, 3) := by decide +kernel
theorem d_X_init_47 : decode b_X_init 47 = .ok (.aload_n 0, 1) := by decide +kernel
theorem d_X_init_48 : decode b_X_init 48 = .ok (.sipush 432, 3) := by decide +kernel
theorem d_X_init_51 : decode b_X_init 51 = .ok (.newarray .short, 2) := by decide +kernel
theorem d_X_init_53 : decode b_X_init 53 = .ok (.putfield 27, 3) := by decide +kernel
theorem d_X_init_56 : decode b_X_init 56 = .ok (.aload_n 0, 1) := by decide +kernel
theorem d_X_init_57 : decode b_X_init 57 = .ok (.iload_n 1, 1) := by decide +kernel
theorem d_X_init_58 : decode b_X_init 58 = .ok (.iconst 1, 1) := by decide +kernel
theorem d_X_init_59 : decode b_X_init 59 = .ok (.iand, 1) := by decide +kernel
theorem d_X_init_60 : decode b_X_init 60 = .ok (.ifCond .eq 7, 3) := by decide +kernel
theorem d_X_init_63 : decode b_X_init 63 = .ok (.iconst 1, 1) := by decide +kernel
theorem d_X_init_64 : decode b_X_init 64 = .ok (.goto 4, 3) := by decide +kernel
theorem d_X_init_67 : decode b_X_init 67 = .ok (.iconst 0, 1) := by decide +kernel
theorem d_X_init_68 : decode b_X_init 68 = .ok (.putfield 30, 3) := by decide +kernel
theorem d_X_init_71 : decode b_X_init 71 = .ok (.aload_n 0, 1) := by decide +kernel
theorem d_X_init_72 : decode b_X_init 72 = .ok (.iload_n 1, 1) := by decide +kernel
theorem d_X_init_73 : decode b_X_init 73 = .ok (.iconst 2, 1) := by decide +kernel
theorem d_X_init_74 : decode b_X_init 74 = .ok (.iand, 1) := by decide +kernel
theorem d_X_init_75 : decode b_X_init 75 = .ok (.ifCond .eq 7, 3) := by decide +kernel
theorem d_X_init_78 : decode b_X_init 78 = .ok (.iconst 1, 1) := by decide +kernel
theorem d_X_init_79 : decode b_X_init 79 = .ok (.goto 4, 3) := by decide +kernel
theorem d_X_init_82 : decode b_X_init 82 = .ok (.iconst 0, 1) := by decide +kernel
theorem d_X_init_83 : decode b_X_init 83 = .ok (.putfield 34, 3) := by decide +kernel
theorem d_X_init_86 : decode b_X_init 86 = .ok (.aload_n 0, 1) := by decide +kernel
theorem d_X_init_87 : decode b_X_init 87 = .ok (.iconst 1, 1) := by decide +kernel
theorem d_X_init_88 : decode b_X_init 88 = .ok (.putfield 37, 3) := by decide +kernel
theorem d_X_init_91 : decode b_X_init 91 = .ok (.aload_n 0, 1) := by decide +kernel
theorem d_X_init_92 : decode b_X_init 92 = .ok (.iconst 5, 1) := by decide +kernel
theorem d_X_init_93 : decode b_X_init 93 = .ok (.putfield 41, 3) := by decide +kernel
theorem d_X_init_96 : decode b_X_init 96 = .ok (.return_, 1) := by decide +kernel
theorem d_X_off_0 : decode b_X_off 0 = .ok (.iload_n 0, 1) := by decide +kernel
theorem d_X_off_1 : decode b_X_off 1 = .ok (.ifCond .lt 8, 3) := by decide +kernel
theorem d_X_off_4 : decode b_X_off 4 = .ok (.iload_n 0, 1) := by decide +kernel
theorem d_X_off_5 : decode b_X_off 5 = .ok (.iconst 5, 1) := by decide +kernel
theorem d_X_off_6 : decode b_X_off 6 = .ok (.if_icmp .le 7, 3) := by decide +kernel
theorem d_X_off_9 : decode b_X_off 9 = .ok (.iconst 1, 1) := by decide +kernel
theorem d_X_off_10 : decode b_X_off 10 = .ok (.goto 4, 3) := by decide +kernel
theorem d_X_off_13 : decode b_X_off 13 = .ok (.iconst 0, 1) := by decide +kernel
theorem d_X_off_14 : decode b_X_off 14 = .ok (.ireturn, 1) := by decide +kernel
theorem d_X_door_0 : decode b_X_door 0 = .ok (.iload_n 1, 1) := by decide +kernel
theorem d_X_door_1 : decode b_X_door 1 = .ok (.invokestatic 44, 3) := by decide +kernel
theorem d_X_door_4 : decode b_X_door 4 = .ok (.ifCond .ne 10, 3) := by decide +kernel
theorem d_X_door_7 : decode b_X_door 7 = .ok (.iload_n 2, 1) := by decide +kernel
theorem d_X_door_8 : decode b_X_door 8 = .ok (.invokestatic 44, 3) := by decide +kernel
theorem d_X_door_11 : decode b_X_door 11 = .ok (.ifCond .eq 5, 3) := by decide +kernel
theorem d_X_door_14 : decode b_X_door 14 = .ok (.iconst (-1), 1) := by decide +kernel
theorem d_X_door_15 : decode b_X_door 15 = .ok (.ireturn, 1) := by decide +kernel
theorem d_X_door_16 : decode b_X_door 16 = .ok (.iload_n 1, 1) := by decide +kernel
theorem d_X_door_17 : decode b_X_door 17 = .ok (.iload_n 2, 1) := by decide +kernel
theorem d_X_door_18 : decode b_X_door 18 = .ok (.if_icmp .ne 6, 3) := by decide +kernel
theorem d_X_door_21 : decode b_X_door 21 = .ok (.bipush (-2), 2) := by decide +kernel
theorem d_X_door_23 : decode b_X_door 23 = .ok (.ireturn, 1) := by decide +kernel
theorem d_X_door_24 : decode b_X_door 24 = .ok (.aload_n 0, 1) := by decide +kernel
theorem d_X_door_25 : decode b_X_door 25 = .ok (.getfield 7, 3) := by decide +kernel
theorem d_X_door_28 : decode b_X_door 28 = .ok (.iload_n 1, 1) := by decide +kernel
theorem d_X_door_29 : decode b_X_door 29 = .ok (.iaload, 1) := by decide +kernel
theorem d_X_door_30 : decode b_X_door 30 = .ok (.iload_n 2, 1) := by decide +kernel
theorem d_X_door_31 : decode b_X_door 31 = .ok (.ishr, 1) := by decide +kernel
theorem d_X_door_32 : decode b_X_door 32 = .ok (.iconst 1, 1) := by decide +kernel
theorem d_X_door_33 : decode b_X_door 33 = .ok (.iand, 1) := by decide +kernel
theorem d_X_door_34 : decode b_X_door 34 = .ok (.istore 4, 2) := by decide +kernel
theorem d_X_door_36 : decode b_X_door 36 = .ok (.aload_n 0, 1) := by decide +kernel
theorem d_X_door_37 : decode b_X_door 37 = .ok (.getfield 7, 3) := by decide +kernel
theorem d_X_door_40 : decode b_X_door 40 = .ok (.iload_n 1, 1) := by decide +kernel
theorem d_X_door_41 : decode b_X_door 41 = .ok (.dup2, 1) := by decide +kernel
theorem d_X_door_42 : decode b_X_door 42 = .ok (.iaload, 1) := by decide +kernel
theorem d_X_door_43 : decode b_X_door 43 = .ok (.iconst 1, 1) := by decide +kernel
theorem d_X_door_44 : decode b_X_door 44 = .ok (.iload_n 2, 1) := by decide +kernel
theorem d_X_door_45 : decode b_X_door 45 = .ok (.ishl, 1) := by decide +kernel
theorem d_X_door_46 : decode b_X_door 46 = .ok (.iconst (-1), 1) := by decide +kernel
theorem d_X_door_47 : decode b_X_door 47 = .ok (.ixor, 1) := by decide +kernel
theorem d_X_door_48 : decode b_X_door 48 = .ok (.iand, 1) := by decide +kernel
theorem d_X_door_49 : decode b_X_door 49 = .ok (.iastore, 1) := by decide +kernel
theorem d_X_door_50 : decode b_X_door 50 = .ok (.aload_n 0, 1) := by decide +kernel
theorem d_X_door_51 : decode b_X_door 51 = .ok (.getfield 13, 3) := by decide +kernel
theorem d_X_door_54 : decode b_X_door 54 = .ok (.iload_n 2, 1) := by decide +kernel
theorem d_X_door_55 : decode b_X_door 55 = .ok (.dup2, 1) := by decide +kernel
theorem d_X_door_56 : decode b_X_door 56 = .ok (.iaload, 1) := by decide +kernel
theorem d_X_door_57 : decode b_X_door 57 = .ok (.iconst 1, 1) := by decide +kernel
theorem d_X_door_58 : decode b_X_door 58 = .ok (.iload_n 1, 1) := by decide +kernel
theorem d_X_door_59 : decode b_X_door 59 = .ok (.ishl, 1) := by decide +kernel
theorem d_X_door_60 : decode b_X_door 60 = .ok (.iconst (-1), 1) := by decide +kernel
theorem d_X_door_61 : decode b_X_door 61 = .ok (.ixor, 1) := by decide +kernel
theorem d_X_door_62 : decode b_X_door 62 = .ok (.iand, 1) := by decide +kernel
theorem d_X_door_63 : decode b_X_door 63 = .ok (.iastore, 1) := by decide +kernel
theorem d_X_door_64 : decode b_X_door 64 = .ok (.iload_n 3, 1) := by decide +kernel
theorem d_X_door_65 : decode b_X_door 65 = .ok (.ifCond .eq 27, 3) := by decide +kernel
theorem d_X_door_68 : decode b_X_door 68 = .ok (.aload_n 0, 1) := by decide +kernel
theorem d_X_door_69 : decode b_X_door 69 = .ok (.getfield 7, 3) := by decide +kernel
theorem d_X_door_72 : decode b_X_door 72 = .ok (.iload_n 1, 1) := by decide +kernel
theorem d_X_door_73 : decode b_X_door 73 = .ok (.dup2, 1) := by decide +kernel
theorem d_X_door_74 : decode b_X_door 74 = .ok (.iaload, 1) := by decide +kernel
theorem d_X_door_75 : decode b_X_door 75 = .ok (.iconst 1, 1) := by decide +kernel
theorem d_X_door_76 : decode b_X_door 76 = .ok (.iload_n 2, 1) := by decide +kernel
theorem d_X_door_77 : decode b_X_door 77 = .ok (.ishl, 1) := by decide +kernel
theorem d_X_door_78 : decode b_X_door 78 = .ok (.ior, 1) := by decide +kernel
theorem d_X_door_79 : decode b_X_door 79 = .ok (.iastore, 1) := by decide +kernel
theorem d_X_door_80 : decode b_X_door 80 = .ok (.aload_n 0, 1) := by decide +kernel
theorem d_X_door_81 : decode b_X_door 81 = .ok (.getfield 13, 3) := by decide +kernel
theorem d_X_door_84 : decode b_X_door 84 = .ok (.iload_n 2, 1) := by decide +kernel
theorem d_X_door_85 : decode b_X_door 85 = .ok (.dup2, 1) := by decide +kernel
theorem d_X_door_86 : decode b_X_door 86 = .ok (.iaload, 1) := by decide +kernel
theorem d_X_door_87 : decode b_X_door 87 = .ok (.iconst 1, 1) := by decide +kernel
theorem d_X_door_88 : decode b_X_door 88 = .ok (.iload_n 1, 1) := by decide +kernel
theorem d_X_door_89 : decode b_X_door 89 = .ok (.ishl, 1) := by decide +kernel
theorem d_X_door_90 : decode b_X_door 90 = .ok (.ior, 1) := by decide +kernel
theorem d_X_door_91 : decode b_X_door 91 = .ok (.iastore, 1) := by decide +kernel
theorem d_X_door_92 : decode b_X_door 92 = .ok (.aload_n 0, 1) := by decide +kernel
theorem d_X_door_93 : decode b_X_door 93 = .ok (.iconst 0, 1) := by decide +kernel
theorem d_X_door_94 : decode b_X_door 94 = .ok (.putfield 48, 3) := by decide +kernel
theorem d_X_door_97 : decode b_X_door 97 = .ok (.iload 4, 2) := by decide +kernel
theorem d_X_door_99 : decode b_X_door 99 = .ok (.ireturn, 1) := by decide +kernel
theorem d_X_exit_0 : decode b_X_exit 0 = .ok (.iload_n 1, 1) := by decide +kernel
theorem d_X_exit_1 : decode b_X_exit 1 = .ok (.invokestatic 44, 3) := by decide +kernel
theorem d_X_exit_4 : decode b_X_exit 4 = .ok (.ifCond .eq 5, 3) := by decide +kernel
theorem d_X_exit_7 : decode b_X_exit 7 = .ok (.iconst (-1), 1) := by decide +kernel
theorem d_X_exit_8 : decode b_X_exit 8 = .ok (.ireturn, 1) := by decide +kernel
theorem d_X_exit_9 : decode b_X_exit 9 = .ok (.aload_n 0, 1) := by decide +kernel
theorem d_X_exit_10 : decode b_X_exit 10 = .ok (.getfield 51, 3) := by decide +kernel
theorem d_X_exit_13 : decode b_X_exit 13 = .ok (.iload_n 1, 1) := by decide +kernel
theorem d_X_exit_14 : decode b_X_exit 14 = .ok (.ishr, 1) := by decide +kernel
theorem d_X_exit_15 : decode b_X_exit 15 = .ok (.iconst 1, 1) := by decide +kernel
theorem d_X_exit_16 : decode b_X_exit 16 = .ok (.iand, 1) := by decide +kernel
theorem d_X_exit_17 : decode b_X_exit 17 = .ok (.istore_n 3, 1) := by decide +kernel
theorem d_X_exit_18 : decode b_X_exit 18 = .ok (.aload_n 0, 1) := by decide +kernel
theorem d_X_exit_19 : decode b_X_exit 19 = .ok (.dup, 1) := by decide +kernel
theorem d_X_exit_20 : decode b_X_exit 20 = .ok (.getfield 51, 3) := by decide +kernel
theorem d_X_exit_23 : decode b_X_exit 23 = .ok (.iconst 1, 1) := by decide +kernel
theorem d_X_exit_24 : decode b_X_exit 24 = .ok (.iload_n 1, 1) := by decide +kernel
theorem d_X_exit_25 : decode b_X_exit 25 = .ok (.ishl, 1) := by decide +kernel
theorem d_X_exit_26 : decode b_X_exit 26 = .ok (.iconst (-1), 1) := by decide +kernel
theorem d_X_exit_27 : decode b_X_exit 27 = .ok (.ixor, 1) := by decide +kernel
theorem d_X_exit_28 : decode b_X_exit 28 = .ok (.iand, 1) := by decide +kernel
theorem d_X_exit_29 : decode b_X_exit 29 = .ok (.putfield 51, 3) := by decide +kernel
theorem d_X_exit_32 : decode b_X_exit 32 = .ok (.iload_n 2, 1) := by decide +kernel
theorem d_X_exit_33 : decode b_X_exit 33 = .ok (.ifCond .eq 15, 3) := by decide +kernel
theorem d_X_exit_36 : decode b_X_exit 36 = .ok (.aload_n 0, 1) := by decide +kernel
theorem d_X_exit_37 : decode b_X_exit 37 = .ok (.dup, 1) := by decide +kernel
theorem d_X_exit_38 : decode b_X_exit 38 = .ok (.getfield 51, 3) := by decide +kernel
theorem d_X_exit_41 : decode b_X_exit 41 = .ok (.iconst 1, 1) := by decide +kernel
theorem d_X_exit_42 : decode b_X_exit 42 = .ok (.iload_n 1, 1) := by decide +kernel
theorem d_X_exit_43 : decode b_X_exit 43 = .ok (.ishl, 1) := by decide +kernel
theorem d_X_exit_44 : decode b_X_exit 44 = .ok (.ior, 1) := by decide +kernel
theorem d_X_exit_45 : decode b_X_exit 45 = .ok (.putfield 51, 3) := by decide +kernel
theorem d_X_exit_48 : decode b_X_exit 48 = .ok (.aload_n 0, 1) := by decide +kernel
theorem d_X_exit_49 : decode b_X_exit 49 = .ok (.iconst 0, 1) := by decide +kernel
theorem d_X_exit_50 : decode b_X_exit 50 = .ok (.putfield 48, 3) := by decide +kernel
theorem d_X_exit_53 : decode b_X_exit 53 = .ok (.iload_n 3, 1) := by decide +kernel
theorem d_X_exit_54 : decode b_X_exit 54 = .ok (.ireturn, 1) := by decide +kernel
theorem d_X_set_0 : decode b_X_set 0 = .ok (.iload_n 1, 1) := by decide +kernel
theorem d_X_set_1 : decode b_X_set 1 = .ok (.invokestatic 44, 3) := by decide +kernel
theorem d_X_set_4 : decode b_X_set 4 = .ok (.ifCond .ne 17, 3) := by decide +kernel
theorem d_X_set_7 : decode b_X_set 7 = .ok (.iload_n 2, 1) := by decide +kernel
theorem d_X_set_8 : decode b_X_set 8 = .ok (.invokestatic 44, 3) := by decide +kernel
theorem d_X_set_11 : decode b_X_set 11 = .ok (.ifCond .ne 10, 3) := by decide +kernel
theorem d_X_set_14 : decode b_X_set 14 = .ok (.iload_n 3, 1) := by decide +kernel
theorem d_X_set_15 : decode b_X_set 15 = .ok (.invokestatic 44, 3) := by decide +kernel
theorem d_X_set_18 : decode b_X_set 18 = .ok (.ifCond .eq 5, 3) := by decide +kernel
theorem d_X_set_21 : decode b_X_set 21 = .ok (.iconst (-1), 1) := by decide +kernel
theorem d_X_set_22 : decode b_X_set 22 = .ok (.ireturn, 1) := by decide +kernel
theorem d_X_set_23 : decode b_X_set 23 = .ok (.aload_n 0, 1) := by decide +kernel
theorem d_X_set_24 : decode b_X_set 24 = .ok (.iload_n 1, 1) := by decide +kernel
theorem d_X_set_25 : decode b_X_set 25 = .ok (.putfield 54, 3) := by decide +kernel
theorem d_X_set_28 : decode b_X_set 28 = .ok (.aload_n 0, 1) := by decide +kernel
theorem d_X_set_29 : decode b_X_set 29 = .ok (.iload_n 2, 1) := by decide +kernel
theorem d_X_set_30 : decode b_X_set 30 = .ok (.putfield 37, 3) := by decide +kernel
theorem d_X_set_33 : decode b_X_set 33 = .ok (.aload_n 0, 1) := by decide +kernel
theorem d_X_set_34 : decode b_X_set 34 = .ok (.iload_n 3, 1) := by decide +kernel
theorem d_X_set_35 : decode b_X_set 35 = .ok (.putfield 41, 3) := by decide +kernel
theorem d_X_set_38 : decode b_X_set 38 = .ok (.aload_n 0, 1) := by decide +kernel
theorem d_X_set_39 : decode b_X_set 39 = .ok (.iload 4, 2) := by decide +kernel
theorem d_X_set_41 : decode b_X_set 41 = .ok (.putfield 57, 3) := by decide +kernel
theorem d_X_set_44 : decode b_X_set 44 = .ok (.iconst 0, 1) := by decide +kernel
theorem d_X_set_45 : decode b_X_set 45 = .ok (.ireturn, 1) := by decide +kernel
theorem d_X_play_0 : decode b_X_play 0 = .ok (.aload_n 0, 1) := by decide +kernel
theorem d_X_play_1 : decode b_X_play 1 = .ok (.getfield 54, 3) := by decide +kernel
theorem d_X_play_4 : decode b_X_play 4 = .ok (.aload_n 0, 1) := by decide +kernel
theorem d_X_play_5 : decode b_X_play 5 = .ok (.getfield 37, 3) := by decide +kernel
theorem d_X_play_8 : decode b_X_play 8 = .ok (.aload_n 0, 1) := by decide +kernel
theorem d_X_play_9 : decode b_X_play 9 = .ok (.getfield 41, 3) := by decide +kernel
theorem d_X_play_12 : decode b_X_play 12 = .ok (.aload_n 0, 1) := by decide +kernel
theorem d_X_play_13 : decode b_X_play 13 = .ok (.getfield 57, 3) := by decide +kernel
theorem d_X_play_16 : decode b_X_play 16 = .ok (.invokestatic 60, 3) := by decide +kernel
theorem d_X_play_19 : decode b_X_play 19 = .ok (.istore_n 2, 1) := by decide +kernel
theorem d_X_play_20 : decode b_X_play 20 = .ok (.aload_n 0, 1) := by decide +kernel
theorem d_X_play_21 : decode b_X_play 21 = .ok (.iload_n 2, 1) := by decide +kernel
theorem d_X_play_22 : decode b_X_play 22 = .ok (.iload_n 1, 1) := by decide +kernel
theorem d_X_play_23 : decode b_X_play 23 = .ok (.invokevirtual 64, 3) := by decide +kernel
theorem d_X_play_26 : decode b_X_play 26 = .ok (.istore_n 3, 1) := by decide +kernel
theorem d_X_play_27 : decode b_X_play 27 = .ok (.iload_n 3, 1) := by decide +kernel
theorem d_X_play_28 : decode b_X_play 28 = .ok (.ifCond .ge 6, 3) := by decide +kernel
theorem d_X_play_31 : decode b_X_play 31 = .ok (.bipush (-2), 2) := by decide +kernel
theorem d_X_play_33 : decode b_X_play 33 = .ok (.ireturn, 1) := by decide +kernel
theorem d_X_play_34 : decode b_X_play 34 = .ok (.aload_n 0, 1) := by decide +kernel
theorem d_X_play_35 : decode b_X_play 35 = .ok (.iload_n 3, 1) := by decide +kernel
theorem d_X_play_36 : decode b_X_play 36 = .ok (.bipush 72, 2) := by decide +kernel
theorem d_X_play_38 : decode b_X_play 38 = .ok (.idiv, 1) := by decide +kernel
theorem d_X_play_39 : decode b_X_play 39 = .ok (.putfield 54, 3) := by decide +kernel
theorem d_X_play_42 : decode b_X_play 42 = .ok (.aload_n 0, 1) := by decide +kernel
theorem d_X_play_43 : decode b_X_play 43 = .ok (.iload_n 3, 1) := by decide +kernel
theorem d_X_play_44 : decode b_X_play 44 = .ok (.bipush 12, 2) := by decide +kernel
theorem d_X_play_46 : decode b_X_play 46 = .ok (.idiv, 1) := by decide +kernel
theorem d_X_play_47 : decode b_X_play 47 = .ok (.bipush 6, 2) := by decide +kernel
theorem d_X_play_49 : decode b_X_play 49 = .ok (.irem, 1) := by decide +kernel
theorem d_X_play_50 : decode b_X_play 50 = .ok (.putfield 37, 3) := by decide +kernel
theorem d_X_play_53 : decode b_X_play 53 = .ok (.aload_n 0, 1) := by decide +kernel
theorem d_X_play_54 : decode b_X_play 54 = .ok (.iload_n 3, 1) := by decide +kernel
theorem d_X_play_55 : decode b_X_play 55 = .ok (.iconst 2, 1) := by decide +kernel
theorem d_X_play_56 : decode b_X_play 56 = .ok (.idiv, 1) := by decide +kernel
theorem d_X_play_57 : decode b_X_play 57 = .ok (.bipush 6, 2) := by decide +kernel
theorem d_X_play_59 : decode b_X_play 59 = .ok (.irem, 1) := by decide +kernel
theorem d_X_play_60 : decode b_X_play 60 = .ok (.putfield 41, 3) := by decide +kernel
theorem d_X_play_63 : decode b_X_play 63 = .ok (.aload_n 0, 1) := by decide +kernel
theorem d_X_play_64 : decode b_X_play 64 = .ok (.iload_n 3, 1) := by decide +kernel
theorem d_X_play_65 : decode b_X_play 65 = .ok (.iconst 2, 1) := by decide +kernel
theorem d_X_play_66 : decode b_X_play 66 = .ok (.irem, 1) := by decide +kernel
theorem d_X_play_67 : decode b_X_play 67 = .ok (.iconst 1, 1) := by decide +kernel
theorem d_X_play_68 : decode b_X_play 68 = .ok (.if_icmp .ne 7, 3) := by decide +kernel
theorem d_X_play_71 : decode b_X_play 71 = .ok (.iconst 1, 1) := by decide +kernel
theorem d_X_play_72 : decode b_X_play 72 = .ok (.goto 4, 3) := by decide +kernel
theorem d_X_play_75 : decode b_X_play 75 = .ok (.iconst 0, 1) := by decide +kernel
theorem d_X_play_76 : decode b_X_play 76 = .ok (.putfield 57, 3) := by decide +kernel
theorem d_X_play_79 : decode b_X_play 79 = .ok (.iconst 0, 1) := by decide +kernel
theorem d_X_play_80 : decode b_X_play 80 = .ok (.ireturn, 1) := by decide +kernel
theorem d_X_board_0 : decode b_X_board 0 = .ok (.aload_n 0, 1) := by decide +kernel
theorem d_X_board_1 : decode b_X_board 1 = .ok (.getfield 57, 3) := by decide +kernel
theorem d_X_board_4 : decode b_X_board 4 = .ok (.ifCond .eq 9, 3) := by decide +kernel
theorem d_X_board_7 : decode b_X_board 7 = .ok (.sipush 512, 3) := by decide +kernel
theorem d_X_board_10 : decode b_X_board 10 = .ok (.goto 4, 3) := by decide +kernel
theorem d_X_board_13 : decode b_X_board 13 = .ok (.iconst 0, 1) := by decide +kernel
theorem d_X_board_14 : decode b_X_board 14 = .ok (.istore_n 1, 1) := by decide +kernel
theorem d_X_board_15 : decode b_X_board 15 = .ok (.aload_n 0, 1) := by decide +kernel
theorem d_X_board_16 : decode b_X_board 16 = .ok (.getfield 54, 3) := by decide +kernel
theorem d_X_board_19 : decode b_X_board 19 = .ok (.bipush 8, 2) := by decide +kernel
theorem d_X_board_21 : decode b_X_board 21 = .ok (.aload_n 0, 1) := by decide +kernel
theorem d_X_board_22 : decode b_X_board 22 = .ok (.getfield 37, 3) := by decide +kernel
theorem d_X_board_25 : decode b_X_board 25 = .ok (.imul, 1) := by decide +kernel
theorem d_X_board_26 : decode b_X_board 26 = .ok (.iadd, 1) := by decide +kernel
theorem d_X_board_27 : decode b_X_board 27 = .ok (.bipush 64, 2) := by decide +kernel
theorem d_X_board_29 : decode b_X_board 29 = .ok (.aload_n 0, 1) := by decide +kernel
theorem d_X_board_30 : decode b_X_board 30 = .ok (.getfield 41, 3) := by decide +kernel
theorem d_X_board_33 : decode b_X_board 33 = .ok (.imul, 1) := by decide +kernel
theorem d_X_board_34 : decode b_X_board 34 = .ok (.iadd, 1) := by decide +kernel
theorem d_X_board_35 : decode b_X_board 35 = .ok (.iload_n 1, 1) := by decide +kernel
theorem d_X_board_36 : decode b_X_board 36 = .ok (.iadd, 1) := by decide +kernel
theorem d_X_board_37 : decode b_X_board 37 = .ok (.ireturn, 1) := by decide +kernel
theorem d_X_number_0 : decode b_X_number 0 = .ok (.iload_n 0, 1) := by decide +kernel
theorem d_X_number_1 : decode b_X_number 1 = .ok (.bipush 6, 2) := by decide +kernel
theorem d_X_number_3 : decode b_X_number 3 = .ok (.imul, 1) := by decide +kernel
theorem d_X_number_4 : decode b_X_number 4 = .ok (.iload_n 1, 1) := by decide +kernel
theorem d_X_number_5 : decode b_X_number 5 = .ok (.iadd, 1) := by decide +kernel
theorem d_X_number_6 : decode b_X_number 6 = .ok (.bipush 6, 2) := by decide +kernel
theorem d_X_number_8 : decode b_X_number 8 = .ok (.imul, 1) := by decide +kernel
theorem d_X_number_9 : decode b_X_number 9 = .ok (.iload_n 2, 1) := by decide +kernel
theorem d_X_number_10 : decode b_X_number 10 = .ok (.iadd, 1) := by decide +kernel
theorem d_X_number_11 : decode b_X_number 11 = .ok (.iconst 2, 1) := by decide +kernel
theorem d_X_number_12 : decode b_X_number 12 = .ok (.imul, 1) := by decide +kernel
theorem d_X_number_13 : decode b_X_number 13 = .ok (.iload_n 3, 1) := by decide +kernel
theorem d_X_number_14 : decode b_X_number 14 = .ok (.ifCond .eq 7, 3) := by decide +kernel
theorem d_X_number_17 : decode b_X_number 17 = .ok (.iconst 1, 1) := by decide +kernel
theorem d_X_number_18 : decode b_X_number 18 = .ok (.goto 4, 3) := by decide +kernel
theorem d_X_number_21 : decode b_X_number 21 = .ok (.iconst 0, 1) := by decide +kernel
theorem d_X_number_22 : decode b_X_number 22 = .ok (.iadd, 1) := by decide +kernel
theorem d_X_number_23 : decode b_X_number 23 = .ok (.ireturn, 1) := by decide +kernel
theorem d_X_over_0 : decode b_X_over 0 = .ok (.iload_n 1, 1) := by decide +kernel
theorem d_X_over_1 : decode b_X_over 1 = .ok (.bipush 72, 2) := by decide +kernel
theorem d_X_over_3 : decode b_X_over 3 = .ok (.idiv, 1) := by decide +kernel
theorem d_X_over_4 : decode b_X_over 4 = .ok (.istore_n 2, 1) := by decide +kernel
theorem d_X_over_5 : decode b_X_over 5 = .ok (.iload_n 1, 1) := by decide +kernel
theorem d_X_over_6 : decode b_X_over 6 = .ok (.bipush 12, 2) := by decide +kernel
theorem d_X_over_8 : decode b_X_over 8 = .ok (.idiv, 1) := by decide +kernel
theorem d_X_over_9 : decode b_X_over 9 = .ok (.bipush 6, 2) := by decide +kernel
theorem d_X_over_11 : decode b_X_over 11 = .ok (.irem, 1) := by decide +kernel
theorem d_X_over_12 : decode b_X_over 12 = .ok (.istore_n 3, 1) := by decide +kernel
theorem d_X_over_13 : decode b_X_over 13 = .ok (.iload_n 1, 1) := by decide +kernel
theorem d_X_over_14 : decode b_X_over 14 = .ok (.iconst 2, 1) := by decide +kernel
theorem d_X_over_15 : decode b_X_over 15 = .ok (.idiv, 1) := by decide +kernel
theorem d_X_over_16 : decode b_X_over 16 = .ok (.bipush 6, 2) := by decide +kernel
theorem d_X_over_18 : decode b_X_over 18 = .ok (.irem, 1) := by decide +kernel
theorem d_X_over_19 : decode b_X_over 19 = .ok (.istore 4, 2) := by decide +kernel
theorem d_X_over_21 : decode b_X_over 21 = .ok (.iload 4, 2) := by decide +kernel
theorem d_X_over_23 : decode b_X_over 23 = .ok (.iload_n 2, 1) := by decide +kernel
theorem d_X_over_24 : decode b_X_over 24 = .ok (.if_icmp .eq 9, 3) := by decide +kernel
theorem d_X_over_27 : decode b_X_over 27 = .ok (.iload 4, 2) := by decide +kernel
theorem d_X_over_29 : decode b_X_over 29 = .ok (.iload_n 3, 1) := by decide +kernel
theorem d_X_over_30 : decode b_X_over 30 = .ok (.if_icmp .ne 5, 3) := by decide +kernel
theorem d_X_over_33 : decode b_X_over 33 = .ok (.iconst 1, 1) := by decide +kernel
theorem d_X_over_34 : decode b_X_over 34 = .ok (.ireturn, 1) := by decide +kernel
theorem d_X_over_35 : decode b_X_over 35 = .ok (.aload_n 0, 1) := by decide +kernel
theorem d_X_over_36 : decode b_X_over 36 = .ok (.getfield 51, 3) := by decide +kernel
theorem d_X_over_39 : decode b_X_over 39 = .ok (.iload 4, 2) := by decide +kernel
theorem d_X_over_41 : decode b_X_over 41 = .ok (.ishr, 1) := by decide +kernel
theorem d_X_over_42 : decode b_X_over 42 = .ok (.iconst 1, 1) := by decide +kernel
theorem d_X_over_43 : decode b_X_over 43 = .ok (.iand, 1) := by decide +kernel
theorem d_X_over_44 : decode b_X_over 44 = .ok (.iconst 1, 1) := by decide +kernel
theorem d_X_over_45 : decode b_X_over 45 = .ok (.if_icmp .ne 7, 3) := by decide +kernel
theorem d_X_over_48 : decode b_X_over 48 = .ok (.iconst 2, 1) := by decide +kernel
theorem d_X_over_49 : decode b_X_over 49 = .ok (.goto 4, 3) := by decide +kernel
theorem d_X_over_52 : decode b_X_over 52 = .ok (.iconst 0, 1) := by decide +kernel
theorem d_X_over_53 : decode b_X_over 53 = .ok (.ireturn, 1) := by decide +kernel
end
section
theorem d_X_after_0 : decode b_X_after 0 = .ok (.iload_n 2, 1) := by decide +kernel
theorem d_X_after_1 : decode b_X_after 1 = .ok (.ifCond .lt 9, 3) := by decide +kernel
theorem d_X_after_4 : decode b_X_after 4 = .ok (.iload_n 2, 1) := by decide +kernel
theorem d_X_after_5 : decode b_X_after 5 = .ok (.bipush 12, 2) := by decide +kernel
theorem d_X_after_7 : decode b_X_after 7 = .ok (.if_icmp .le 5, 3) := by decide +kernel
theorem d_X_after_10 : decode b_X_after 10 = .ok (.iconst (-1), 1) := by decide +kernel
theorem d_X_after_11 : decode b_X_after 11 = .ok (.ireturn, 1) := by decide +kernel
theorem d_X_after_12 : decode b_X_after 12 = .ok (.aload_n 0, 1) := by decide +kernel
theorem d_X_after_13 : decode b_X_after 13 = .ok (.iload_n 1, 1) := by decide +kernel
theorem d_X_after_14 : decode b_X_after 14 = .ok (.invokevirtual 68, 3) := by decide +kernel
theorem d_X_after_17 : decode b_X_after 17 = .ok (.istore_n 3, 1) := by decide +kernel
theorem d_X_after_18 : decode b_X_after 18 = .ok (.iload_n 3, 1) := by decide +kernel
theorem d_X_after_19 : decode b_X_after 19 = .ok (.ifCond .eq 5, 3) := by decide +kernel
theorem d_X_after_22 : decode b_X_after 22 = .ok (.iconst (-1), 1) := by decide +kernel
theorem d_X_after_23 : decode b_X_after 23 = .ok (.ireturn, 1) := by decide +kernel
theorem d_X_after_24 : decode b_X_after 24 = .ok (.iload_n 1, 1) := by decide +kernel
theorem d_X_after_25 : decode b_X_after 25 = .ok (.bipush 72, 2) := by decide +kernel
theorem d_X_after_27 : decode b_X_after 27 = .ok (.idiv, 1) := by decide +kernel
theorem d_X_after_28 : decode b_X_after 28 = .ok (.istore 4, 2) := by decide +kernel
theorem d_X_after_30 : decode b_X_after 30 = .ok (.iload_n 1, 1) := by decide +kernel
theorem d_X_after_31 : decode b_X_after 31 = .ok (.bipush 12, 2) := by decide +kernel
theorem d_X_after_33 : decode b_X_after 33 = .ok (.idiv, 1) := by decide +kernel
theorem d_X_after_34 : decode b_X_after 34 = .ok (.bipush 6, 2) := by decide +kernel
theorem d_X_after_36 : decode b_X_after 36 = .ok (.irem, 1) := by decide +kernel
theorem d_X_after_37 : decode b_X_after 37 = .ok (.istore 5, 2) := by decide +kernel
theorem d_X_after_39 : decode b_X_after 39 = .ok (.iload_n 1, 1) := by decide +kernel
theorem d_X_after_40 : decode b_X_after 40 = .ok (.iconst 2, 1) := by decide +kernel
theorem d_X_after_41 : decode b_X_after 41 = .ok (.idiv, 1) := by decide +kernel
theorem d_X_after_42 : decode b_X_after 42 = .ok (.bipush 6, 2) := by decide +kernel
theorem d_X_after_44 : decode b_X_after 44 = .ok (.irem, 1) := by decide +kernel
theorem d_X_after_45 : decode b_X_after 45 = .ok (.istore 6, 2) := by decide +kernel
theorem d_X_after_47 : decode b_X_after 47 = .ok (.iload_n 1, 1) := by decide +kernel
theorem d_X_after_48 : decode b_X_after 48 = .ok (.iconst 2, 1) := by decide +kernel
theorem d_X_after_49 : decode b_X_after 49 = .ok (.irem, 1) := by decide +kernel
theorem d_X_after_50 : decode b_X_after 50 = .ok (.iconst 1, 1) := by decide +kernel
theorem d_X_after_51 : decode b_X_after 51 = .ok (.if_icmp .ne 56, 3) := by decide +kernel
theorem d_X_after_54 : decode b_X_after 54 = .ok (.iload_n 2, 1) := by decide +kernel
theorem d_X_after_55 : decode b_X_after 55 = .ok (.bipush 12, 2) := by decide +kernel
theorem d_X_after_57 : decode b_X_after 57 = .ok (.if_icmp .ne 18, 3) := by decide +kernel
theorem d_X_after_60 : decode b_X_after 60 = .ok (.aload_n 0, 1) := by decide +kernel
theorem d_X_after_61 : decode b_X_after 61 = .ok (.getfield 34, 3) := by decide +kernel
theorem d_X_after_64 : decode b_X_after 64 = .ok (.ifCond .eq 9, 3) := by decide +kernel
theorem d_X_after_67 : decode b_X_after 67 = .ok (.iload_n 1, 1) := by decide +kernel
theorem d_X_after_68 : decode b_X_after 68 = .ok (.iconst 1, 1) := by decide +kernel
theorem d_X_after_69 : decode b_X_after 69 = .ok (.isub, 1) := by decide +kernel
theorem d_X_after_70 : decode b_X_after 70 = .ok (.goto 4, 3) := by decide +kernel
theorem d_X_after_73 : decode b_X_after 73 = .ok (.iconst (-1), 1) := by decide +kernel
theorem d_X_after_74 : decode b_X_after 74 = .ok (.ireturn, 1) := by decide +kernel
theorem d_X_after_75 : decode b_X_after 75 = .ok (.iload_n 2, 1) := by decide +kernel
theorem d_X_after_76 : decode b_X_after 76 = .ok (.iconst 5, 1) := by decide +kernel
theorem d_X_after_77 : decode b_X_after 77 = .ok (.if_icmp .gt 17, 3) := by decide +kernel
theorem d_X_after_80 : decode b_X_after 80 = .ok (.aload_n 0, 1) := by decide +kernel
theorem d_X_after_81 : decode b_X_after 81 = .ok (.getfield 7, 3) := by decide +kernel
theorem d_X_after_84 : decode b_X_after 84 = .ok (.iload 6, 2) := by decide +kernel
theorem d_X_after_86 : decode b_X_after 86 = .ok (.iaload, 1) := by decide +kernel
theorem d_X_after_87 : decode b_X_after 87 = .ok (.iload_n 2, 1) := by decide +kernel
theorem d_X_after_88 : decode b_X_after 88 = .ok (.ishr, 1) := by decide +kernel
theorem d_X_after_89 : decode b_X_after 89 = .ok (.iconst 1, 1) := by decide +kernel
theorem d_X_after_90 : decode b_X_after 90 = .ok (.iand, 1) := by decide +kernel
theorem d_X_after_91 : decode b_X_after 91 = .ok (.ifCond .ne 5, 3) := by decide +kernel
theorem d_X_after_94 : decode b_X_after 94 = .ok (.iconst (-1), 1) := by decide +kernel
theorem d_X_after_95 : decode b_X_after 95 = .ok (.ireturn, 1) := by decide +kernel
theorem d_X_after_96 : decode b_X_after 96 = .ok (.iload_n 1, 1) := by decide +kernel
theorem d_X_after_97 : decode b_X_after 97 = .ok (.iconst 1, 1) := by decide +kernel
theorem d_X_after_98 : decode b_X_after 98 = .ok (.isub, 1) := by decide +kernel
theorem d_X_after_99 : decode b_X_after 99 = .ok (.iconst 2, 1) := by decide +kernel
theorem d_X_after_100 : decode b_X_after 100 = .ok (.iload_n 2, 1) := by decide +kernel
theorem d_X_after_101 : decode b_X_after 101 = .ok (.iload 6, 2) := by decide +kernel
theorem d_X_after_103 : decode b_X_after 103 = .ok (.isub, 1) := by decide +kernel
theorem d_X_after_104 : decode b_X_after 104 = .ok (.imul, 1) := by decide +kernel
theorem d_X_after_105 : decode b_X_after 105 = .ok (.iadd, 1) := by decide +kernel
theorem d_X_after_106 : decode b_X_after 106 = .ok (.ireturn, 1) := by decide +kernel
theorem d_X_after_107 : decode b_X_after 107 = .ok (.iload_n 2, 1) := by decide +kernel
theorem d_X_after_108 : decode b_X_after 108 = .ok (.bipush 12, 2) := by decide +kernel
theorem d_X_after_110 : decode b_X_after 110 = .ok (.if_icmp .ne 18, 3) := by decide +kernel
theorem d_X_after_113 : decode b_X_after 113 = .ok (.aload_n 0, 1) := by decide +kernel
theorem d_X_after_114 : decode b_X_after 114 = .ok (.getfield 30, 3) := by decide +kernel
theorem d_X_after_117 : decode b_X_after 117 = .ok (.ifCond .eq 9, 3) := by decide +kernel
theorem d_X_after_120 : decode b_X_after 120 = .ok (.iload_n 1, 1) := by decide +kernel
theorem d_X_after_121 : decode b_X_after 121 = .ok (.iconst 1, 1) := by decide +kernel
theorem d_X_after_122 : decode b_X_after 122 = .ok (.iadd, 1) := by decide +kernel
theorem d_X_after_123 : decode b_X_after 123 = .ok (.goto 4, 3) := by decide +kernel
theorem d_X_after_126 : decode b_X_after 126 = .ok (.iconst (-1), 1) := by decide +kernel
theorem d_X_after_127 : decode b_X_after 127 = .ok (.ireturn, 1) := by decide +kernel
theorem d_X_after_128 : decode b_X_after 128 = .ok (.iload_n 2, 1) := by decide +kernel
theorem d_X_after_129 : decode b_X_after 129 = .ok (.bipush 6, 2) := by decide +kernel
theorem d_X_after_131 : decode b_X_after 131 = .ok (.if_icmp .ge 33, 3) := by decide +kernel
theorem d_X_after_134 : decode b_X_after 134 = .ok (.aload_n 0, 1) := by decide +kernel
theorem d_X_after_135 : decode b_X_after 135 = .ok (.getfield 7, 3) := by decide +kernel
theorem d_X_after_138 : decode b_X_after 138 = .ok (.iload 4, 2) := by decide +kernel
theorem d_X_after_140 : decode b_X_after 140 = .ok (.iaload, 1) := by decide +kernel
theorem d_X_after_141 : decode b_X_after 141 = .ok (.iload_n 2, 1) := by decide +kernel
theorem d_X_after_142 : decode b_X_after 142 = .ok (.ishr, 1) := by decide +kernel
theorem d_X_after_143 : decode b_X_after 143 = .ok (.iconst 1, 1) := by decide +kernel
theorem d_X_after_144 : decode b_X_after 144 = .ok (.iand, 1) := by decide +kernel
theorem d_X_after_145 : decode b_X_after 145 = .ok (.ifCond .ne 7, 3) := by decide +kernel
theorem d_X_after_148 : decode b_X_after 148 = .ok (.iconst (-1), 1) := by decide +kernel
theorem d_X_after_149 : decode b_X_after 149 = .ok (.goto 14, 3) := by decide +kernel
theorem d_X_after_152 : decode b_X_after 152 = .ok (.iload_n 1, 1) := by decide +kernel
theorem d_X_after_153 : decode b_X_after 153 = .ok (.iconst 1, 1) := by decide +kernel
theorem d_X_after_154 : decode b_X_after 154 = .ok (.iadd, 1) := by decide +kernel
theorem d_X_after_155 : decode b_X_after 155 = .ok (.bipush 72, 2) := by decide +kernel
theorem d_X_after_157 : decode b_X_after 157 = .ok (.iload_n 2, 1) := by decide +kernel
theorem d_X_after_158 : decode b_X_after 158 = .ok (.iload 4, 2) := by decide +kernel
theorem d_X_after_160 : decode b_X_after 160 = .ok (.isub, 1) := by decide +kernel
theorem d_X_after_161 : decode b_X_after 161 = .ok (.imul, 1) := by decide +kernel
theorem d_X_after_162 : decode b_X_after 162 = .ok (.iadd, 1) := by decide +kernel
theorem d_X_after_163 : decode b_X_after 163 = .ok (.ireturn, 1) := by decide +kernel
theorem d_X_after_164 : decode b_X_after 164 = .ok (.iload_n 2, 1) := by decide +kernel
theorem d_X_after_165 : decode b_X_after 165 = .ok (.bipush 6, 2) := by decide +kernel
theorem d_X_after_167 : decode b_X_after 167 = .ok (.isub, 1) := by decide +kernel
theorem d_X_after_168 : decode b_X_after 168 = .ok (.istore 7, 2) := by decide +kernel
theorem d_X_after_170 : decode b_X_after 170 = .ok (.aload_n 0, 1) := by decide +kernel
theorem d_X_after_171 : decode b_X_after 171 = .ok (.getfield 7, 3) := by decide +kernel
theorem d_X_after_174 : decode b_X_after 174 = .ok (.iload 5, 2) := by decide +kernel
theorem d_X_after_176 : decode b_X_after 176 = .ok (.iaload, 1) := by decide +kernel
theorem d_X_after_177 : decode b_X_after 177 = .ok (.iload 7, 2) := by decide +kernel
theorem d_X_after_179 : decode b_X_after 179 = .ok (.ishr, 1) := by decide +kernel
theorem d_X_after_180 : decode b_X_after 180 = .ok (.iconst 1, 1) := by decide +kernel
theorem d_X_after_181 : decode b_X_after 181 = .ok (.iand, 1) := by decide +kernel
theorem d_X_after_182 : decode b_X_after 182 = .ok (.ifCond .ne 7, 3) := by decide +kernel
theorem d_X_after_185 : decode b_X_after 185 = .ok (.iconst (-1), 1) := by decide +kernel
theorem d_X_after_186 : decode b_X_after 186 = .ok (.goto 15, 3) := by decide +kernel
theorem d_X_after_189 : decode b_X_after 189 = .ok (.iload_n 1, 1) := by decide +kernel
theorem d_X_after_190 : decode b_X_after 190 = .ok (.iconst 1, 1) := by decide +kernel
theorem d_X_after_191 : decode b_X_after 191 = .ok (.iadd, 1) := by decide +kernel
theorem d_X_after_192 : decode b_X_after 192 = .ok (.bipush 12, 2) := by decide +kernel
theorem d_X_after_194 : decode b_X_after 194 = .ok (.iload 7, 2) := by decide +kernel
theorem d_X_after_196 : decode b_X_after 196 = .ok (.iload 5, 2) := by decide +kernel
theorem d_X_after_198 : decode b_X_after 198 = .ok (.isub, 1) := by decide +kernel
theorem d_X_after_199 : decode b_X_after 199 = .ok (.imul, 1) := by decide +kernel
theorem d_X_after_200 : decode b_X_after 200 = .ok (.iadd, 1) := by decide +kernel
theorem d_X_after_201 : decode b_X_after 201 = .ok (.ireturn, 1) := by decide +kernel
theorem d_X_bits_0 : decode b_X_bits 0 = .ok (.iconst 0, 1) := by decide +kernel
theorem d_X_bits_1 : decode b_X_bits 1 = .ok (.istore_n 1, 1) := by decide +kernel
theorem d_X_bits_2 : decode b_X_bits 2 = .ok (.iconst 0, 1) := by decide +kernel
theorem d_X_bits_3 : decode b_X_bits 3 = .ok (.istore_n 2, 1) := by decide +kernel
theorem d_X_bits_4 : decode b_X_bits 4 = .ok (.iload_n 2, 1) := by decide +kernel
theorem d_X_bits_5 : decode b_X_bits 5 = .ok (.bipush 6, 2) := by decide +kernel
theorem d_X_bits_7 : decode b_X_bits 7 = .ok (.if_icmp .ge 17, 3) := by decide +kernel
theorem d_X_bits_10 : decode b_X_bits 10 = .ok (.iload_n 1, 1) := by decide +kernel
theorem d_X_bits_11 : decode b_X_bits 11 = .ok (.iload_n 0, 1) := by decide +kernel
theorem d_X_bits_12 : decode b_X_bits 12 = .ok (.iload_n 2, 1) := by decide +kernel
theorem d_X_bits_13 : decode b_X_bits 13 = .ok (.ishr, 1) := by decide +kernel
theorem d_X_bits_14 : decode b_X_bits 14 = .ok (.iconst 1, 1) := by decide +kernel
theorem d_X_bits_15 : decode b_X_bits 15 = .ok (.iand, 1) := by decide +kernel
theorem d_X_bits_16 : decode b_X_bits 16 = .ok (.iadd, 1) := by decide +kernel
theorem d_X_bits_17 : decode b_X_bits 17 = .ok (.istore_n 1, 1) := by decide +kernel
theorem d_X_bits_18 : decode b_X_bits 18 = .ok (.iinc 2 1, 3) := by decide +kernel
theorem d_X_bits_21 : decode b_X_bits 21 = .ok (.goto (-17), 3) := by decide +kernel
theorem d_X_bits_24 : decode b_X_bits 24 = .ok (.iload_n 1, 1) := by decide +kernel
theorem d_X_bits_25 : decode b_X_bits 25 = .ok (.ireturn, 1) := by decide +kernel
theorem d_X_moveCount_0 : decode b_X_moveCount 0 = .ok (.aload_n 0, 1) := by decide +kernel
theorem d_X_moveCount_1 : decode b_X_moveCount 1 = .ok (.getfield 7, 3) := by decide +kernel
theorem d_X_moveCount_4 : decode b_X_moveCount 4 = .ok (.iload_n 1, 1) := by decide +kernel
theorem d_X_moveCount_5 : decode b_X_moveCount 5 = .ok (.bipush 72, 2) := by decide +kernel
theorem d_X_moveCount_7 : decode b_X_moveCount 7 = .ok (.idiv, 1) := by decide +kernel
theorem d_X_moveCount_8 : decode b_X_moveCount 8 = .ok (.iaload, 1) := by decide +kernel
theorem d_X_moveCount_9 : decode b_X_moveCount 9 = .ok (.istore_n 2, 1) := by decide +kernel
theorem d_X_moveCount_10 : decode b_X_moveCount 10 = .ok (.aload_n 0, 1) := by decide +kernel
theorem d_X_moveCount_11 : decode b_X_moveCount 11 = .ok (.getfield 7, 3) := by decide +kernel
theorem d_X_moveCount_14 : decode b_X_moveCount 14 = .ok (.iload_n 1, 1) := by decide +kernel
theorem d_X_moveCount_15 : decode b_X_moveCount 15 = .ok (.bipush 12, 2) := by decide +kernel
theorem d_X_moveCount_17 : decode b_X_moveCount 17 = .ok (.idiv, 1) := by decide +kernel
theorem d_X_moveCount_18 : decode b_X_moveCount 18 = .ok (.bipush 6, 2) := by decide +kernel
theorem d_X_moveCount_20 : decode b_X_moveCount 20 = .ok (.irem, 1) := by decide +kernel
theorem d_X_moveCount_21 : decode b_X_moveCount 21 = .ok (.iaload, 1) := by decide +kernel
theorem d_X_moveCount_22 : decode b_X_moveCount 22 = .ok (.istore_n 3, 1) := by decide +kernel
theorem d_X_moveCount_23 : decode b_X_moveCount 23 = .ok (.aload_n 0, 1) := by decide +kernel
theorem d_X_moveCount_24 : decode b_X_moveCount 24 = .ok (.getfield 7, 3) := by decide +kernel
theorem d_X_moveCount_27 : decode b_X_moveCount 27 = .ok (.iload_n 1, 1) := by decide +kernel
theorem d_X_moveCount_28 : decode b_X_moveCount 28 = .ok (.iconst 2, 1) := by decide +kernel
theorem d_X_moveCount_29 : decode b_X_moveCount 29 = .ok (.idiv, 1) := by decide +kernel
theorem d_X_moveCount_30 : decode b_X_moveCount 30 = .ok (.bipush 6, 2) := by decide +kernel
theorem d_X_moveCount_32 : decode b_X_moveCount 32 = .ok (.irem, 1) := by decide +kernel
theorem d_X_moveCount_33 : decode b_X_moveCount 33 = .ok (.iaload, 1) := by decide +kernel
theorem d_X_moveCount_34 : decode b_X_moveCount 34 = .ok (.istore 4, 2) := by decide +kernel
theorem d_X_moveCount_36 : decode b_X_moveCount 36 = .ok (.iload_n 1, 1) := by decide +kernel
theorem d_X_moveCount_37 : decode b_X_moveCount 37 = .ok (.iconst 2, 1) := by decide +kernel
theorem d_X_moveCount_38 : decode b_X_moveCount 38 = .ok (.irem, 1) := by decide +kernel
theorem d_X_moveCount_39 : decode b_X_moveCount 39 = .ok (.iconst 1, 1) := by decide +kernel
theorem d_X_moveCount_40 : decode b_X_moveCount 40 = .ok (.if_icmp .ne 27, 3) := by decide +kernel
theorem d_X_moveCount_43 : decode b_X_moveCount 43 = .ok (.iload 4, 2) := by decide +kernel
theorem d_X_moveCount_45 : decode b_X_moveCount 45 = .ok (.invokestatic 72, 3) := by decide +kernel
theorem d_X_moveCount_48 : decode b_X_moveCount 48 = .ok (.istore 5, 2) := by decide +kernel
theorem d_X_moveCount_50 : decode b_X_moveCount 50 = .ok (.aload_n 0, 1) := by decide +kernel
theorem d_X_moveCount_51 : decode b_X_moveCount 51 = .ok (.getfield 34, 3) := by decide +kernel
theorem d_X_moveCount_54 : decode b_X_moveCount 54 = .ok (.ifCond .eq 10, 3) := by decide +kernel
theorem d_X_moveCount_57 : decode b_X_moveCount 57 = .ok (.iload 5, 2) := by decide +kernel
theorem d_X_moveCount_59 : decode b_X_moveCount 59 = .ok (.iconst 1, 1) := by decide +kernel
theorem d_X_moveCount_60 : decode b_X_moveCount 60 = .ok (.iadd, 1) := by decide +kernel
theorem d_X_moveCount_61 : decode b_X_moveCount 61 = .ok (.goto 5, 3) := by decide +kernel
theorem d_X_moveCount_64 : decode b_X_moveCount 64 = .ok (.iload 5, 2) := by decide +kernel
theorem d_X_moveCount_66 : decode b_X_moveCount 66 = .ok (.ireturn, 1) := by decide +kernel
theorem d_X_moveCount_67 : decode b_X_moveCount 67 = .ok (.iload_n 2, 1) := by decide +kernel
theorem d_X_moveCount_68 : decode b_X_moveCount 68 = .ok (.invokestatic 72, 3) := by decide +kernel
theorem d_X_moveCount_71 : decode b_X_moveCount 71 = .ok (.istore 5, 2) := by decide +kernel
theorem d_X_moveCount_73 : decode b_X_moveCount 73 = .ok (.iload_n 3, 1) := by decide +kernel
theorem d_X_moveCount_74 : decode b_X_moveCount 74 = .ok (.invokestatic 72, 3) := by decide +kernel
theorem d_X_moveCount_77 : decode b_X_moveCount 77 = .ok (.istore 6, 2) := by decide +kernel
theorem d_X_moveCount_79 : decode b_X_moveCount 79 = .ok (.aload_n 0, 1) := by decide +kernel
theorem d_X_moveCount_80 : decode b_X_moveCount 80 = .ok (.getfield 30, 3) := by decide +kernel
theorem d_X_moveCount_83 : decode b_X_moveCount 83 = .ok (.ifCond .eq 13, 3) := by decide +kernel
theorem d_X_moveCount_86 : decode b_X_moveCount 86 = .ok (.iload 5, 2) := by decide +kernel
theorem d_X_moveCount_88 : decode b_X_moveCount 88 = .ok (.iload 6, 2) := by decide +kernel
theorem d_X_moveCount_90 : decode b_X_moveCount 90 = .ok (.iadd, 1) := by decide +kernel
theorem d_X_moveCount_91 : decode b_X_moveCount 91 = .ok (.iconst 1, 1) := by decide +kernel
theorem d_X_moveCount_92 : decode b_X_moveCount 92 = .ok (.iadd, 1) := by decide +kernel
theorem d_X_moveCount_93 : decode b_X_moveCount 93 = .ok (.goto 8, 3) := by decide +kernel
theorem d_X_moveCount_96 : decode b_X_moveCount 96 = .ok (.iload 5, 2) := by decide +kernel
theorem d_X_moveCount_98 : decode b_X_moveCount 98 = .ok (.iload 6, 2) := by decide +kernel
theorem d_X_moveCount_100 : decode b_X_moveCount 100 = .ok (.iadd, 1) := by decide +kernel
theorem d_X_moveCount_101 : decode b_X_moveCount 101 = .ok (.ireturn, 1) := by decide +kernel
theorem d_X_prepare_0 : decode b_X_prepare 0 = .ok (.aload_n 0, 1) := by decide +kernel
theorem d_X_prepare_1 : decode b_X_prepare 1 = .ok (.getfield 48, 3) := by decide +kernel
theorem d_X_prepare_4 : decode b_X_prepare 4 = .ok (.ifCond .eq 4, 3) := by decide +kernel
theorem d_X_prepare_7 : decode b_X_prepare 7 = .ok (.return_, 1) := by decide +kernel
theorem d_X_prepare_8 : decode b_X_prepare 8 = .ok (.aload_n 0, 1) := by decide +kernel
theorem d_X_prepare_9 : decode b_X_prepare 9 = .ok (.iconst 0, 1) := by decide +kernel
theorem d_X_prepare_10 : decode b_X_prepare 10 = .ok (.putfield 75, 3) := by decide +kernel
theorem d_X_prepare_13 : decode b_X_prepare 13 = .ok (.iconst 0, 1) := by decide +kernel
theorem d_X_prepare_14 : decode b_X_prepare 14 = .ok (.istore_n 1, 1) := by decide +kernel
theorem d_X_prepare_15 : decode b_X_prepare 15 = .ok (.iload_n 1, 1) := by decide +kernel
theorem d_X_prepare_16 : decode b_X_prepare 16 = .ok (.sipush 432, 3) := by decide +kernel
theorem d_X_prepare_19 : decode b_X_prepare 19 = .ok (.if_icmp .ge 75, 3) := by decide +kernel
theorem d_X_prepare_22 : decode b_X_prepare 22 = .ok (.aload_n 0, 1) := by decide +kernel
theorem d_X_prepare_23 : decode b_X_prepare 23 = .ok (.getfield 16, 3) := by decide +kernel
theorem d_X_prepare_26 : decode b_X_prepare 26 = .ok (.iload_n 1, 1) := by decide +kernel
theorem d_X_prepare_27 : decode b_X_prepare 27 = .ok (.iconst 0, 1) := by decide +kernel
theorem d_X_prepare_28 : decode b_X_prepare 28 = .ok (.bastore, 1) := by decide +kernel
theorem d_X_prepare_29 : decode b_X_prepare 29 = .ok (.aload_n 0, 1) := by decide +kernel
theorem d_X_prepare_30 : decode b_X_prepare 30 = .ok (.getfield 20, 3) := by decide +kernel
theorem d_X_prepare_33 : decode b_X_prepare 33 = .ok (.iload_n 1, 1) := by decide +kernel
theorem d_X_prepare_34 : decode b_X_prepare 34 = .ok (.iconst 0, 1) := by decide +kernel
theorem d_X_prepare_35 : decode b_X_prepare 35 = .ok (.sastore, 1) := by decide +kernel
theorem d_X_prepare_36 : decode b_X_prepare 36 = .ok (.aload_n 0, 1) := by decide +kernel
theorem d_X_prepare_37 : decode b_X_prepare 37 = .ok (.iload_n 1, 1) := by decide +kernel
theorem d_X_prepare_38 : decode b_X_prepare 38 = .ok (.invokevirtual 78, 3) := by decide +kernel
theorem d_X_prepare_41 : decode b_X_prepare 41 = .ok (.istore_n 2, 1) := by decide +kernel
theorem d_X_prepare_42 : decode b_X_prepare 42 = .ok (.aload_n 0, 1) := by decide +kernel
theorem d_X_prepare_43 : decode b_X_prepare 43 = .ok (.getfield 24, 3) := by decide +kernel
theorem d_X_prepare_46 : decode b_X_prepare 46 = .ok (.iload_n 1, 1) := by decide +kernel
theorem d_X_prepare_47 : decode b_X_prepare 47 = .ok (.iload_n 2, 1) := by decide +kernel
theorem d_X_prepare_48 : decode b_X_prepare 48 = .ok (.i2b, 1) := by decide +kernel
theorem d_X_prepare_49 : decode b_X_prepare 49 = .ok (.bastore, 1) := by decide +kernel
theorem d_X_prepare_50 : decode b_X_prepare 50 = .ok (.aload_n 0, 1) := by decide +kernel
theorem d_X_prepare_51 : decode b_X_prepare 51 = .ok (.iload_n 1, 1) := by decide +kernel
theorem d_X_prepare_52 : decode b_X_prepare 52 = .ok (.invokevirtual 68, 3) := by decide +kernel
theorem d_X_prepare_55 : decode b_X_prepare 55 = .ok (.istore_n 3, 1) := by decide +kernel
theorem d_X_prepare_56 : decode b_X_prepare 56 = .ok (.iload_n 3, 1) := by decide +kernel
theorem d_X_prepare_57 : decode b_X_prepare 57 = .ok (.ifCond .ne 20, 3) := by decide +kernel
theorem d_X_prepare_60 : decode b_X_prepare 60 = .ok (.iload_n 2, 1) := by decide +kernel
theorem d_X_prepare_61 : decode b_X_prepare 61 = .ok (.ifCond .ne 16, 3) := by decide +kernel
theorem d_X_prepare_64 : decode b_X_prepare 64 = .ok (.iload_n 1, 1) := by decide +kernel
theorem d_X_prepare_65 : decode b_X_prepare 65 = .ok (.iconst 2, 1) := by decide +kernel
theorem d_X_prepare_66 : decode b_X_prepare 66 = .ok (.irem, 1) := by decide +kernel
theorem d_X_prepare_67 : decode b_X_prepare 67 = .ok (.iconst 1, 1) := by decide +kernel
theorem d_X_prepare_68 : decode b_X_prepare 68 = .ok (.if_icmp .ne 7, 3) := by decide +kernel
theorem d_X_prepare_71 : decode b_X_prepare 71 = .ok (.iconst 1, 1) := by decide +kernel
theorem d_X_prepare_72 : decode b_X_prepare 72 = .ok (.goto 4, 3) := by decide +kernel
theorem d_X_prepare_75 : decode b_X_prepare 75 = .ok (.iconst 2, 1) := by decide +kernel
theorem d_X_prepare_76 : decode b_X_prepare 76 = .ok (.istore_n 3, 1) := by decide +kernel
theorem d_X_prepare_77 : decode b_X_prepare 77 = .ok (.iload_n 3, 1) := by decide +kernel
theorem d_X_prepare_78 : decode b_X_prepare 78 = .ok (.ifCond .eq 10, 3) := by decide +kernel
theorem d_X_prepare_81 : decode b_X_prepare 81 = .ok (.aload_n 0, 1) := by decide +kernel
theorem d_X_prepare_82 : decode b_X_prepare 82 = .ok (.iload_n 1, 1) := by decide +kernel
theorem d_X_prepare_83 : decode b_X_prepare 83 = .ok (.iload_n 3, 1) := by decide +kernel
theorem d_X_prepare_84 : decode b_X_prepare 84 = .ok (.iconst 0, 1) := by decide +kernel
theorem d_X_prepare_85 : decode b_X_prepare 85 = .ok (.invokevirtual 81, 3) := by decide +kernel
theorem d_X_prepare_88 : decode b_X_prepare 88 = .ok (.iinc 1 1, 3) := by decide +kernel
theorem d_X_prepare_91 : decode b_X_prepare 91 = .ok (.goto (-76), 3) := by decide +kernel
theorem d_X_prepare_94 : decode b_X_prepare 94 = .ok (.iconst 0, 1) := by decide +kernel
theorem d_X_prepare_95 : decode b_X_prepare 95 = .ok (.istore_n 1, 1) := by decide +kernel
theorem d_X_prepare_96 : decode b_X_prepare 96 = .ok (.iload_n 1, 1) := by decide +kernel
theorem d_X_prepare_97 : decode b_X_prepare 97 = .ok (.aload_n 0, 1) := by decide +kernel
theorem d_X_prepare_98 : decode b_X_prepare 98 = .ok (.getfield 75, 3) := by decide +kernel
theorem d_X_prepare_101 : decode b_X_prepare 101 = .ok (.if_icmp .ge 26, 3) := by decide +kernel
theorem d_X_prepare_104 : decode b_X_prepare 104 = .ok (.iload_n 1, 1) := by decide +kernel
theorem d_X_prepare_105 : decode b_X_prepare 105 = .ok (.sipush 432, 3) := by decide +kernel
theorem d_X_prepare_108 : decode b_X_prepare 108 = .ok (.if_icmp .ge 19, 3) := by decide +kernel
theorem d_X_prepare_111 : decode b_X_prepare 111 = .ok (.aload_n 0, 1) := by decide +kernel
theorem d_X_prepare_112 : decode b_X_prepare 112 = .ok (.aload_n 0, 1) := by decide +kernel
theorem d_X_prepare_113 : decode b_X_prepare 113 = .ok (.getfield 27, 3) := by decide +kernel
theorem d_X_prepare_116 : decode b_X_prepare 116 = .ok (.iload_n 1, 1) := by decide +kernel
theorem d_X_prepare_117 : decode b_X_prepare 117 = .ok (.saload, 1) := by decide +kernel
theorem d_X_prepare_118 : decode b_X_prepare 118 = .ok (.invokevirtual 85, 3) := by decide +kernel
theorem d_X_prepare_121 : decode b_X_prepare 121 = .ok (.iinc 1 1, 3) := by decide +kernel
theorem d_X_prepare_124 : decode b_X_prepare 124 = .ok (.goto (-28), 3) := by decide +kernel
theorem d_X_prepare_127 : decode b_X_prepare 127 = .ok (.aload_n 0, 1) := by decide +kernel
theorem d_X_prepare_128 : decode b_X_prepare 128 = .ok (.iconst 1, 1) := by decide +kernel
theorem d_X_prepare_129 : decode b_X_prepare 129 = .ok (.putfield 48, 3) := by decide +kernel
theorem d_X_prepare_132 : decode b_X_prepare 132 = .ok (.return_, 1) := by decide +kernel
theorem d_X_settle_0 : decode b_X_settle 0 = .ok (.aload_n 0, 1) := by decide +kernel
theorem d_X_settle_1 : decode b_X_settle 1 = .ok (.getfield 75, 3) := by decide +kernel
theorem d_X_settle_4 : decode b_X_settle 4 = .ok (.sipush 432, 3) := by decide +kernel
theorem d_X_settle_7 : decode b_X_settle 7 = .ok (.if_icmp .lt 4, 3) := by decide +kernel
theorem d_X_settle_10 : decode b_X_settle 10 = .ok (.return_, 1) := by decide +kernel
theorem d_X_settle_11 : decode b_X_settle 11 = .ok (.aload_n 0, 1) := by decide +kernel
theorem d_X_settle_12 : decode b_X_settle 12 = .ok (.getfield 16, 3) := by decide +kernel
theorem d_X_settle_15 : decode b_X_settle 15 = .ok (.iload_n 1, 1) := by decide +kernel
theorem d_X_settle_16 : decode b_X_settle 16 = .ok (.iload_n 2, 1) := by decide +kernel
theorem d_X_settle_17 : decode b_X_settle 17 = .ok (.i2b, 1) := by decide +kernel
theorem d_X_settle_18 : decode b_X_settle 18 = .ok (.bastore, 1) := by decide +kernel
theorem d_X_settle_19 : decode b_X_settle 19 = .ok (.aload_n 0, 1) := by decide +kernel
theorem d_X_settle_20 : decode b_X_settle 20 = .ok (.getfield 20, 3) := by decide +kernel
theorem d_X_settle_23 : decode b_X_settle 23 = .ok (.iload_n 1, 1) := by decide +kernel
theorem d_X_settle_24 : decode b_X_settle 24 = .ok (.iload_n 3, 1) := by decide +kernel
theorem d_X_settle_25 : decode b_X_settle 25 = .ok (.i2s, 1) := by decide +kernel
theorem d_X_settle_26 : decode b_X_settle 26 = .ok (.sastore, 1) := by decide +kernel
theorem d_X_settle_27 : decode b_X_settle 27 = .ok (.aload_n 0, 1) := by decide +kernel
theorem d_X_settle_28 : decode b_X_settle 28 = .ok (.getfield 27, 3) := by decide +kernel
theorem d_X_settle_31 : decode b_X_settle 31 = .ok (.aload_n 0, 1) := by decide +kernel
theorem d_X_settle_32 : decode b_X_settle 32 = .ok (.getfield 75, 3) := by decide +kernel
theorem d_X_settle_35 : decode b_X_settle 35 = .ok (.iload_n 1, 1) := by decide +kernel
theorem d_X_settle_36 : decode b_X_settle 36 = .ok (.i2s, 1) := by decide +kernel
theorem d_X_settle_37 : decode b_X_settle 37 = .ok (.sastore, 1) := by decide +kernel
theorem d_X_settle_38 : decode b_X_settle 38 = .ok (.aload_n 0, 1) := by decide +kernel
theorem d_X_settle_39 : decode b_X_settle 39 = .ok (.dup, 1) := by decide +kernel
theorem d_X_settle_40 : decode b_X_settle 40 = .ok (.getfield 75, 3) := by decide +kernel
theorem d_X_settle_43 : decode b_X_settle 43 = .ok (.iconst 1, 1) := by decide +kernel
theorem d_X_settle_44 : decode b_X_settle 44 = .ok (.iadd, 1) := by decide +kernel
theorem d_X_settle_45 : decode b_X_settle 45 = .ok (.putfield 75, 3) := by decide +kernel
theorem d_X_settle_48 : decode b_X_settle 48 = .ok (.return_, 1) := by decide +kernel
end
section
theorem d_X_spread_0 : decode b_X_spread 0 = .ok (.iload_n 1, 1) := by decide +kernel
theorem d_X_spread_1 : decode b_X_spread 1 = .ok (.bipush 72, 2) := by decide +kernel
theorem d_X_spread_3 : decode b_X_spread 3 = .ok (.idiv, 1) := by decide +kernel
theorem d_X_spread_4 : decode b_X_spread 4 = .ok (.istore_n 2, 1) := by decide +kernel
theorem d_X_spread_5 : decode b_X_spread 5 = .ok (.iload_n 1, 1) := by decide +kernel
theorem d_X_spread_6 : decode b_X_spread 6 = .ok (.bipush 12, 2) := by decide +kernel
theorem d_X_spread_8 : decode b_X_spread 8 = .ok (.idiv, 1) := by decide +kernel
theorem d_X_spread_9 : decode b_X_spread 9 = .ok (.bipush 6, 2) := by decide +kernel
theorem d_X_spread_11 : decode b_X_spread 11 = .ok (.irem, 1) := by decide +kernel
theorem d_X_spread_12 : decode b_X_spread 12 = .ok (.istore_n 3, 1) := by decide +kernel
theorem d_X_spread_13 : decode b_X_spread 13 = .ok (.iload_n 1, 1) := by decide +kernel
theorem d_X_spread_14 : decode b_X_spread 14 = .ok (.iconst 2, 1) := by decide +kernel
theorem d_X_spread_15 : decode b_X_spread 15 = .ok (.idiv, 1) := by decide +kernel
theorem d_X_spread_16 : decode b_X_spread 16 = .ok (.bipush 6, 2) := by decide +kernel
theorem d_X_spread_18 : decode b_X_spread 18 = .ok (.irem, 1) := by decide +kernel
theorem d_X_spread_19 : decode b_X_spread 19 = .ok (.istore 4, 2) := by decide +kernel
theorem d_X_spread_21 : decode b_X_spread 21 = .ok (.aload_n 0, 1) := by decide +kernel
theorem d_X_spread_22 : decode b_X_spread 22 = .ok (.getfield 16, 3) := by decide +kernel
theorem d_X_spread_25 : decode b_X_spread 25 = .ok (.iload_n 1, 1) := by decide +kernel
theorem d_X_spread_26 : decode b_X_spread 26 = .ok (.baload, 1) := by decide +kernel
theorem d_X_spread_27 : decode b_X_spread 27 = .ok (.istore 5, 2) := by decide +kernel
theorem d_X_spread_29 : decode b_X_spread 29 = .ok (.aload_n 0, 1) := by decide +kernel
theorem d_X_spread_30 : decode b_X_spread 30 = .ok (.getfield 20, 3) := by decide +kernel
theorem d_X_spread_33 : decode b_X_spread 33 = .ok (.iload_n 1, 1) := by decide +kernel
theorem d_X_spread_34 : decode b_X_spread 34 = .ok (.saload, 1) := by decide +kernel
theorem d_X_spread_35 : decode b_X_spread 35 = .ok (.iconst 1, 1) := by decide +kernel
theorem d_X_spread_36 : decode b_X_spread 36 = .ok (.iadd, 1) := by decide +kernel
theorem d_X_spread_37 : decode b_X_spread 37 = .ok (.istore 6, 2) := by decide +kernel
theorem d_X_spread_39 : decode b_X_spread 39 = .ok (.iload_n 1, 1) := by decide +kernel
theorem d_X_spread_40 : decode b_X_spread 40 = .ok (.iconst 2, 1) := by decide +kernel
theorem d_X_spread_41 : decode b_X_spread 41 = .ok (.irem, 1) := by decide +kernel
theorem d_X_spread_42 : decode b_X_spread 42 = .ok (.ifCond .ne 73, 3) := by decide +kernel
theorem d_X_spread_45 : decode b_X_spread 45 = .ok (.iconst 0, 1) := by decide +kernel
theorem d_X_spread_46 : decode b_X_spread 46 = .ok (.istore 7, 2) := by decide +kernel
theorem d_X_spread_48 : decode b_X_spread 48 = .ok (.iload 7, 2) := by decide +kernel
theorem d_X_spread_50 : decode b_X_spread 50 = .ok (.bipush 6, 2) := by decide +kernel
theorem d_X_spread_52 : decode b_X_spread 52 = .ok (.if_icmp .ge 44, 3) := by decide +kernel
theorem d_X_spread_55 : decode b_X_spread 55 = .ok (.aload_n 0, 1) := by decide +kernel
theorem d_X_spread_56 : decode b_X_spread 56 = .ok (.getfield 13, 3) := by decide +kernel
theorem d_X_spread_59 : decode b_X_spread 59 = .ok (.iload 4, 2) := by decide +kernel
theorem d_X_spread_61 : decode b_X_spread 61 = .ok (.iaload, 1) := by decide +kernel
theorem d_X_spread_62 : decode b_X_spread 62 = .ok (.iload 7, 2) := by decide +kernel
theorem d_X_spread_64 : decode b_X_spread 64 = .ok (.ishr, 1) := by decide +kernel
theorem d_X_spread_65 : decode b_X_spread 65 = .ok (.iconst 1, 1) := by decide +kernel
theorem d_X_spread_66 : decode b_X_spread 66 = .ok (.iand, 1) := by decide +kernel
theorem d_X_spread_67 : decode b_X_spread 67 = .ok (.iconst 1, 1) := by decide +kernel
theorem d_X_spread_68 : decode b_X_spread 68 = .ok (.if_icmp .ne 22, 3) := by decide +kernel
theorem d_X_spread_71 : decode b_X_spread 71 = .ok (.aload_n 0, 1) := by decide +kernel
theorem d_X_spread_72 : decode b_X_spread 72 = .ok (.iload_n 1, 1) := by decide +kernel
theorem d_X_spread_73 : decode b_X_spread 73 = .ok (.iconst 1, 1) := by decide +kernel
theorem d_X_spread_74 : decode b_X_spread 74 = .ok (.iadd, 1) := by decide +kernel
theorem d_X_spread_75 : decode b_X_spread 75 = .ok (.iconst 2, 1) := by decide +kernel
theorem d_X_spread_76 : decode b_X_spread 76 = .ok (.iload 7, 2) := by decide +kernel
theorem d_X_spread_78 : decode b_X_spread 78 = .ok (.iload 4, 2) := by decide +kernel
theorem d_X_spread_80 : decode b_X_spread 80 = .ok (.isub, 1) := by decide +kernel
theorem d_X_spread_81 : decode b_X_spread 81 = .ok (.imul, 1) := by decide +kernel
theorem d_X_spread_82 : decode b_X_spread 82 = .ok (.iadd, 1) := by decide +kernel
theorem d_X_spread_83 : decode b_X_spread 83 = .ok (.iload 5, 2) := by decide +kernel
theorem d_X_spread_85 : decode b_X_spread 85 = .ok (.iload 6, 2) := by decide +kernel
theorem d_X_spread_87 : decode b_X_spread 87 = .ok (.invokevirtual 89, 3) := by decide +kernel
theorem d_X_spread_90 : decode b_X_spread 90 = .ok (.iinc 7 1, 3) := by decide +kernel
theorem d_X_spread_93 : decode b_X_spread 93 = .ok (.goto (-45), 3) := by decide +kernel
theorem d_X_spread_96 : decode b_X_spread 96 = .ok (.aload_n 0, 1) := by decide +kernel
theorem d_X_spread_97 : decode b_X_spread 97 = .ok (.getfield 34, 3) := by decide +kernel
theorem d_X_spread_100 : decode b_X_spread 100 = .ok (.ifCond .eq 14, 3) := by decide +kernel
theorem d_X_spread_103 : decode b_X_spread 103 = .ok (.aload_n 0, 1) := by decide +kernel
theorem d_X_spread_104 : decode b_X_spread 104 = .ok (.iload_n 1, 1) := by decide +kernel
theorem d_X_spread_105 : decode b_X_spread 105 = .ok (.iconst 1, 1) := by decide +kernel
theorem d_X_spread_106 : decode b_X_spread 106 = .ok (.iadd, 1) := by decide +kernel
theorem d_X_spread_107 : decode b_X_spread 107 = .ok (.iload 5, 2) := by decide +kernel
theorem d_X_spread_109 : decode b_X_spread 109 = .ok (.iload 6, 2) := by decide +kernel
theorem d_X_spread_111 : decode b_X_spread 111 = .ok (.invokevirtual 89, 3) := by decide +kernel
theorem d_X_spread_114 : decode b_X_spread 114 = .ok (.return_, 1) := by decide +kernel
theorem d_X_spread_115 : decode b_X_spread 115 = .ok (.iconst 0, 1) := by decide +kernel
theorem d_X_spread_116 : decode b_X_spread 116 = .ok (.istore 7, 2) := by decide +kernel
theorem d_X_spread_118 : decode b_X_spread 118 = .ok (.iload 7, 2) := by decide +kernel
theorem d_X_spread_120 : decode b_X_spread 120 = .ok (.bipush 6, 2) := by decide +kernel
theorem d_X_spread_122 : decode b_X_spread 122 = .ok (.if_icmp .ge 77, 3) := by decide +kernel
theorem d_X_spread_125 : decode b_X_spread 125 = .ok (.aload_n 0, 1) := by decide +kernel
theorem d_X_spread_126 : decode b_X_spread 126 = .ok (.getfield 13, 3) := by decide +kernel
theorem d_X_spread_129 : decode b_X_spread 129 = .ok (.iload_n 2, 1) := by decide +kernel
theorem d_X_spread_130 : decode b_X_spread 130 = .ok (.iaload, 1) := by decide +kernel
theorem d_X_spread_131 : decode b_X_spread 131 = .ok (.iload 7, 2) := by decide +kernel
theorem d_X_spread_133 : decode b_X_spread 133 = .ok (.ishr, 1) := by decide +kernel
theorem d_X_spread_134 : decode b_X_spread 134 = .ok (.iconst 1, 1) := by decide +kernel
theorem d_X_spread_135 : decode b_X_spread 135 = .ok (.iand, 1) := by decide +kernel
theorem d_X_spread_136 : decode b_X_spread 136 = .ok (.iconst 1, 1) := by decide +kernel
theorem d_X_spread_137 : decode b_X_spread 137 = .ok (.if_icmp .ne 22, 3) := by decide +kernel
theorem d_X_spread_140 : decode b_X_spread 140 = .ok (.aload_n 0, 1) := by decide +kernel
theorem d_X_spread_141 : decode b_X_spread 141 = .ok (.iload_n 1, 1) := by decide +kernel
theorem d_X_spread_142 : decode b_X_spread 142 = .ok (.iconst 1, 1) := by decide +kernel
theorem d_X_spread_143 : decode b_X_spread 143 = .ok (.isub, 1) := by decide +kernel
theorem d_X_spread_144 : decode b_X_spread 144 = .ok (.bipush 72, 2) := by decide +kernel
theorem d_X_spread_146 : decode b_X_spread 146 = .ok (.iload 7, 2) := by decide +kernel
theorem d_X_spread_148 : decode b_X_spread 148 = .ok (.iload_n 2, 1) := by decide +kernel
theorem d_X_spread_149 : decode b_X_spread 149 = .ok (.isub, 1) := by decide +kernel
theorem d_X_spread_150 : decode b_X_spread 150 = .ok (.imul, 1) := by decide +kernel
theorem d_X_spread_151 : decode b_X_spread 151 = .ok (.iadd, 1) := by decide +kernel
theorem d_X_spread_152 : decode b_X_spread 152 = .ok (.iload 5, 2) := by decide +kernel
theorem d_X_spread_154 : decode b_X_spread 154 = .ok (.iload 6, 2) := by decide +kernel
theorem d_X_spread_156 : decode b_X_spread 156 = .ok (.invokevirtual 89, 3) := by decide +kernel
theorem d_X_spread_159 : decode b_X_spread 159 = .ok (.aload_n 0, 1) := by decide +kernel
theorem d_X_spread_160 : decode b_X_spread 160 = .ok (.getfield 13, 3) := by decide +kernel
theorem d_X_spread_163 : decode b_X_spread 163 = .ok (.iload_n 3, 1) := by decide +kernel
theorem d_X_spread_164 : decode b_X_spread 164 = .ok (.iaload, 1) := by decide +kernel
theorem d_X_spread_165 : decode b_X_spread 165 = .ok (.iload 7, 2) := by decide +kernel
theorem d_X_spread_167 : decode b_X_spread 167 = .ok (.ishr, 1) := by decide +kernel
theorem d_X_spread_168 : decode b_X_spread 168 = .ok (.iconst 1, 1) := by decide +kernel
theorem d_X_spread_169 : decode b_X_spread 169 = .ok (.iand, 1) := by decide +kernel
theorem d_X_spread_170 : decode b_X_spread 170 = .ok (.iconst 1, 1) := by decide +kernel
theorem d_X_spread_171 : decode b_X_spread 171 = .ok (.if_icmp .ne 22, 3) := by decide +kernel
theorem d_X_spread_174 : decode b_X_spread 174 = .ok (.aload_n 0, 1) := by decide +kernel
theorem d_X_spread_175 : decode b_X_spread 175 = .ok (.iload_n 1, 1) := by decide +kernel
theorem d_X_spread_176 : decode b_X_spread 176 = .ok (.iconst 1, 1) := by decide +kernel
theorem d_X_spread_177 : decode b_X_spread 177 = .ok (.isub, 1) := by decide +kernel
theorem d_X_spread_178 : decode b_X_spread 178 = .ok (.bipush 12, 2) := by decide +kernel
theorem d_X_spread_180 : decode b_X_spread 180 = .ok (.iload 7, 2) := by decide +kernel
theorem d_X_spread_182 : decode b_X_spread 182 = .ok (.iload_n 3, 1) := by decide +kernel
theorem d_X_spread_183 : decode b_X_spread 183 = .ok (.isub, 1) := by decide +kernel
theorem d_X_spread_184 : decode b_X_spread 184 = .ok (.imul, 1) := by decide +kernel
theorem d_X_spread_185 : decode b_X_spread 185 = .ok (.iadd, 1) := by decide +kernel
theorem d_X_spread_186 : decode b_X_spread 186 = .ok (.iload 5, 2) := by decide +kernel
theorem d_X_spread_188 : decode b_X_spread 188 = .ok (.iload 6, 2) := by decide +kernel
theorem d_X_spread_190 : decode b_X_spread 190 = .ok (.invokevirtual 89, 3) := by decide +kernel
theorem d_X_spread_193 : decode b_X_spread 193 = .ok (.iinc 7 1, 3) := by decide +kernel
theorem d_X_spread_196 : decode b_X_spread 196 = .ok (.goto (-78), 3) := by decide +kernel
theorem d_X_spread_199 : decode b_X_spread 199 = .ok (.aload_n 0, 1) := by decide +kernel
theorem d_X_spread_200 : decode b_X_spread 200 = .ok (.getfield 30, 3) := by decide +kernel
theorem d_X_spread_203 : decode b_X_spread 203 = .ok (.ifCond .eq 14, 3) := by decide +kernel
theorem d_X_spread_206 : decode b_X_spread 206 = .ok (.aload_n 0, 1) := by decide +kernel
theorem d_X_spread_207 : decode b_X_spread 207 = .ok (.iload_n 1, 1) := by decide +kernel
theorem d_X_spread_208 : decode b_X_spread 208 = .ok (.iconst 1, 1) := by decide +kernel
theorem d_X_spread_209 : decode b_X_spread 209 = .ok (.isub, 1) := by decide +kernel
theorem d_X_spread_210 : decode b_X_spread 210 = .ok (.iload 5, 2) := by decide +kernel
theorem d_X_spread_212 : decode b_X_spread 212 = .ok (.iload 6, 2) := by decide +kernel
theorem d_X_spread_214 : decode b_X_spread 214 = .ok (.invokevirtual 89, 3) := by decide +kernel
theorem d_X_spread_217 : decode b_X_spread 217 = .ok (.return_, 1) := by decide +kernel
theorem d_X_answer_0 : decode b_X_answer 0 = .ok (.aload_n 0, 1) := by decide +kernel
theorem d_X_answer_1 : decode b_X_answer 1 = .ok (.getfield 16, 3) := by decide +kernel
theorem d_X_answer_4 : decode b_X_answer 4 = .ok (.iload_n 1, 1) := by decide +kernel
theorem d_X_answer_5 : decode b_X_answer 5 = .ok (.baload, 1) := by decide +kernel
theorem d_X_answer_6 : decode b_X_answer 6 = .ok (.ifCond .eq 4, 3) := by decide +kernel
theorem d_X_answer_9 : decode b_X_answer 9 = .ok (.return_, 1) := by decide +kernel
theorem d_X_answer_10 : decode b_X_answer 10 = .ok (.iload_n 1, 1) := by decide +kernel
theorem d_X_answer_11 : decode b_X_answer 11 = .ok (.iconst 2, 1) := by decide +kernel
theorem d_X_answer_12 : decode b_X_answer 12 = .ok (.irem, 1) := by decide +kernel
theorem d_X_answer_13 : decode b_X_answer 13 = .ok (.iconst 1, 1) := by decide +kernel
theorem d_X_answer_14 : decode b_X_answer 14 = .ok (.if_icmp .ne 7, 3) := by decide +kernel
theorem d_X_answer_17 : decode b_X_answer 17 = .ok (.iconst 2, 1) := by decide +kernel
theorem d_X_answer_18 : decode b_X_answer 18 = .ok (.goto 4, 3) := by decide +kernel
theorem d_X_answer_21 : decode b_X_answer 21 = .ok (.iconst 1, 1) := by decide +kernel
theorem d_X_answer_22 : decode b_X_answer 22 = .ok (.istore 4, 2) := by decide +kernel
theorem d_X_answer_24 : decode b_X_answer 24 = .ok (.aload_n 0, 1) := by decide +kernel
theorem d_X_answer_25 : decode b_X_answer 25 = .ok (.getfield 24, 3) := by decide +kernel
theorem d_X_answer_28 : decode b_X_answer 28 = .ok (.iload_n 1, 1) := by decide +kernel
theorem d_X_answer_29 : decode b_X_answer 29 = .ok (.dup2, 1) := by decide +kernel
theorem d_X_answer_30 : decode b_X_answer 30 = .ok (.baload, 1) := by decide +kernel
theorem d_X_answer_31 : decode b_X_answer 31 = .ok (.iconst 1, 1) := by decide +kernel
theorem d_X_answer_32 : decode b_X_answer 32 = .ok (.isub, 1) := by decide +kernel
theorem d_X_answer_33 : decode b_X_answer 33 = .ok (.i2b, 1) := by decide +kernel
theorem d_X_answer_34 : decode b_X_answer 34 = .ok (.bastore, 1) := by decide +kernel
theorem d_X_answer_35 : decode b_X_answer 35 = .ok (.iload 4, 2) := by decide +kernel
theorem d_X_answer_37 : decode b_X_answer 37 = .ok (.iload_n 2, 1) := by decide +kernel
theorem d_X_answer_38 : decode b_X_answer 38 = .ok (.if_icmp .eq 12, 3) := by decide +kernel
theorem d_X_answer_41 : decode b_X_answer 41 = .ok (.aload_n 0, 1) := by decide +kernel
theorem d_X_answer_42 : decode b_X_answer 42 = .ok (.getfield 24, 3) := by decide +kernel
theorem d_X_answer_45 : decode b_X_answer 45 = .ok (.iload_n 1, 1) := by decide +kernel
theorem d_X_answer_46 : decode b_X_answer 46 = .ok (.baload, 1) := by decide +kernel
theorem d_X_answer_47 : decode b_X_answer 47 = .ok (.ifCond .ne 10, 3) := by decide +kernel
theorem d_X_answer_50 : decode b_X_answer 50 = .ok (.aload_n 0, 1) := by decide +kernel
theorem d_X_answer_51 : decode b_X_answer 51 = .ok (.iload_n 1, 1) := by decide +kernel
theorem d_X_answer_52 : decode b_X_answer 52 = .ok (.iload_n 2, 1) := by decide +kernel
theorem d_X_answer_53 : decode b_X_answer 53 = .ok (.iload_n 3, 1) := by decide +kernel
theorem d_X_answer_54 : decode b_X_answer 54 = .ok (.invokevirtual 81, 3) := by decide +kernel
theorem d_X_answer_57 : decode b_X_answer 57 = .ok (.return_, 1) := by decide +kernel
theorem d_X_outcome_0 : decode b_X_outcome 0 = .ok (.iload_n 1, 1) := by decide +kernel
theorem d_X_outcome_1 : decode b_X_outcome 1 = .ok (.invokestatic 44, 3) := by decide +kernel
theorem d_X_outcome_4 : decode b_X_outcome 4 = .ok (.ifCond .ne 17, 3) := by decide +kernel
theorem d_X_outcome_7 : decode b_X_outcome 7 = .ok (.iload_n 2, 1) := by decide +kernel
theorem d_X_outcome_8 : decode b_X_outcome 8 = .ok (.invokestatic 44, 3) := by decide +kernel
theorem d_X_outcome_11 : decode b_X_outcome 11 = .ok (.ifCond .ne 10, 3) := by decide +kernel
theorem d_X_outcome_14 : decode b_X_outcome 14 = .ok (.iload_n 3, 1) := by decide +kernel
theorem d_X_outcome_15 : decode b_X_outcome 15 = .ok (.invokestatic 44, 3) := by decide +kernel
theorem d_X_outcome_18 : decode b_X_outcome 18 = .ok (.ifCond .eq 5, 3) := by decide +kernel
theorem d_X_outcome_21 : decode b_X_outcome 21 = .ok (.iconst (-1), 1) := by decide +kernel
theorem d_X_outcome_22 : decode b_X_outcome 22 = .ok (.ireturn, 1) := by decide +kernel
theorem d_X_outcome_23 : decode b_X_outcome 23 = .ok (.aload_n 0, 1) := by decide +kernel
theorem d_X_outcome_24 : decode b_X_outcome 24 = .ok (.invokevirtual 92, 3) := by decide +kernel
theorem d_X_outcome_27 : decode b_X_outcome 27 = .ok (.iload_n 1, 1) := by decide +kernel
theorem d_X_outcome_28 : decode b_X_outcome 28 = .ok (.iload_n 2, 1) := by decide +kernel
theorem d_X_outcome_29 : decode b_X_outcome 29 = .ok (.iload_n 3, 1) := by decide +kernel
theorem d_X_outcome_30 : decode b_X_outcome 30 = .ok (.iload 4, 2) := by decide +kernel
theorem d_X_outcome_32 : decode b_X_outcome 32 = .ok (.invokestatic 60, 3) := by decide +kernel
theorem d_X_outcome_35 : decode b_X_outcome 35 = .ok (.istore 5, 2) := by decide +kernel
theorem d_X_outcome_37 : decode b_X_outcome 37 = .ok (.aload_n 0, 1) := by decide +kernel
theorem d_X_outcome_38 : decode b_X_outcome 38 = .ok (.getfield 16, 3) := by decide +kernel
theorem d_X_outcome_41 : decode b_X_outcome 41 = .ok (.iload 5, 2) := by decide +kernel
theorem d_X_outcome_43 : decode b_X_outcome 43 = .ok (.baload, 1) := by decide +kernel
theorem d_X_outcome_44 : decode b_X_outcome 44 = .ok (.ireturn, 1) := by decide +kernel
theorem d_X_length_0 : decode b_X_length 0 = .ok (.iload_n 1, 1) := by decide +kernel
theorem d_X_length_1 : decode b_X_length 1 = .ok (.invokestatic 44, 3) := by decide +kernel
theorem d_X_length_4 : decode b_X_length 4 = .ok (.ifCond .ne 17, 3) := by decide +kernel
theorem d_X_length_7 : decode b_X_length 7 = .ok (.iload_n 2, 1) := by decide +kernel
theorem d_X_length_8 : decode b_X_length 8 = .ok (.invokestatic 44, 3) := by decide +kernel
theorem d_X_length_11 : decode b_X_length 11 = .ok (.ifCond .ne 10, 3) := by decide +kernel
theorem d_X_length_14 : decode b_X_length 14 = .ok (.iload_n 3, 1) := by decide +kernel
theorem d_X_length_15 : decode b_X_length 15 = .ok (.invokestatic 44, 3) := by decide +kernel
theorem d_X_length_18 : decode b_X_length 18 = .ok (.ifCond .eq 5, 3) := by decide +kernel
theorem d_X_length_21 : decode b_X_length 21 = .ok (.iconst (-1), 1) := by decide +kernel
theorem d_X_length_22 : decode b_X_length 22 = .ok (.ireturn, 1) := by decide +kernel
theorem d_X_length_23 : decode b_X_length 23 = .ok (.aload_n 0, 1) := by decide +kernel
theorem d_X_length_24 : decode b_X_length 24 = .ok (.invokevirtual 92, 3) := by decide +kernel
theorem d_X_length_27 : decode b_X_length 27 = .ok (.iload_n 1, 1) := by decide +kernel
theorem d_X_length_28 : decode b_X_length 28 = .ok (.iload_n 2, 1) := by decide +kernel
theorem d_X_length_29 : decode b_X_length 29 = .ok (.iload_n 3, 1) := by decide +kernel
theorem d_X_length_30 : decode b_X_length 30 = .ok (.iload 4, 2) := by decide +kernel
theorem d_X_length_32 : decode b_X_length 32 = .ok (.invokestatic 60, 3) := by decide +kernel
theorem d_X_length_35 : decode b_X_length 35 = .ok (.istore 5, 2) := by decide +kernel
theorem d_X_length_37 : decode b_X_length 37 = .ok (.aload_n 0, 1) := by decide +kernel
theorem d_X_length_38 : decode b_X_length 38 = .ok (.getfield 16, 3) := by decide +kernel
theorem d_X_length_41 : decode b_X_length 41 = .ok (.iload 5, 2) := by decide +kernel
theorem d_X_length_43 : decode b_X_length 43 = .ok (.baload, 1) := by decide +kernel
theorem d_X_length_44 : decode b_X_length 44 = .ok (.ifCond .ne 8, 3) := by decide +kernel
theorem d_X_length_47 : decode b_X_length 47 = .ok (.bipush (-3), 2) := by decide +kernel
theorem d_X_length_49 : decode b_X_length 49 = .ok (.goto 10, 3) := by decide +kernel
theorem d_X_length_52 : decode b_X_length 52 = .ok (.aload_n 0, 1) := by decide +kernel
theorem d_X_length_53 : decode b_X_length 53 = .ok (.getfield 20, 3) := by decide +kernel
theorem d_X_length_56 : decode b_X_length 56 = .ok (.iload 5, 2) := by decide +kernel
theorem d_X_length_58 : decode b_X_length 58 = .ok (.saload, 1) := by decide +kernel
theorem d_X_length_59 : decode b_X_length 59 = .ok (.ireturn, 1) := by decide +kernel
theorem d_X_best_0 : decode b_X_best 0 = .ok (.aload_n 0, 1) := by decide +kernel
theorem d_X_best_1 : decode b_X_best 1 = .ok (.invokevirtual 92, 3) := by decide +kernel
theorem d_X_best_4 : decode b_X_best 4 = .ok (.aload_n 0, 1) := by decide +kernel
theorem d_X_best_5 : decode b_X_best 5 = .ok (.getfield 54, 3) := by decide +kernel
theorem d_X_best_8 : decode b_X_best 8 = .ok (.aload_n 0, 1) := by decide +kernel
theorem d_X_best_9 : decode b_X_best 9 = .ok (.getfield 37, 3) := by decide +kernel
theorem d_X_best_12 : decode b_X_best 12 = .ok (.aload_n 0, 1) := by decide +kernel
theorem d_X_best_13 : decode b_X_best 13 = .ok (.getfield 41, 3) := by decide +kernel
theorem d_X_best_16 : decode b_X_best 16 = .ok (.aload_n 0, 1) := by decide +kernel
theorem d_X_best_17 : decode b_X_best 17 = .ok (.getfield 57, 3) := by decide +kernel
theorem d_X_best_20 : decode b_X_best 20 = .ok (.invokestatic 60, 3) := by decide +kernel
theorem d_X_best_23 : decode b_X_best 23 = .ok (.istore_n 1, 1) := by decide +kernel
theorem d_X_best_24 : decode b_X_best 24 = .ok (.iconst 0, 1) := by decide +kernel
theorem d_X_best_25 : decode b_X_best 25 = .ok (.istore_n 2, 1) := by decide +kernel
theorem d_X_best_26 : decode b_X_best 26 = .ok (.iload_n 2, 1) := by decide +kernel
theorem d_X_best_27 : decode b_X_best 27 = .ok (.bipush 12, 2) := by decide +kernel
theorem d_X_best_29 : decode b_X_best 29 = .ok (.if_icmp .gt 63, 3) := by decide +kernel
theorem d_X_best_32 : decode b_X_best 32 = .ok (.aload_n 0, 1) := by decide +kernel
theorem d_X_best_33 : decode b_X_best 33 = .ok (.iload_n 1, 1) := by decide +kernel
theorem d_X_best_34 : decode b_X_best 34 = .ok (.iload_n 2, 1) := by decide +kernel
theorem d_X_best_35 : decode b_X_best 35 = .ok (.invokevirtual 64, 3) := by decide +kernel
theorem d_X_best_38 : decode b_X_best 38 = .ok (.istore_n 3, 1) := by decide +kernel
theorem d_X_best_39 : decode b_X_best 39 = .ok (.iload_n 3, 1) := by decide +kernel
theorem d_X_best_40 : decode b_X_best 40 = .ok (.ifCond .lt 46, 3) := by decide +kernel
theorem d_X_best_43 : decode b_X_best 43 = .ok (.aload_n 0, 1) := by decide +kernel
theorem d_X_best_44 : decode b_X_best 44 = .ok (.getfield 16, 3) := by decide +kernel
theorem d_X_best_47 : decode b_X_best 47 = .ok (.iload_n 3, 1) := by decide +kernel
theorem d_X_best_48 : decode b_X_best 48 = .ok (.baload, 1) := by decide +kernel
theorem d_X_best_49 : decode b_X_best 49 = .ok (.aload_n 0, 1) := by decide +kernel
theorem d_X_best_50 : decode b_X_best 50 = .ok (.getfield 16, 3) := by decide +kernel
theorem d_X_best_53 : decode b_X_best 53 = .ok (.iload_n 1, 1) := by decide +kernel
theorem d_X_best_54 : decode b_X_best 54 = .ok (.baload, 1) := by decide +kernel
theorem d_X_best_55 : decode b_X_best 55 = .ok (.if_icmp .ne 31, 3) := by decide +kernel
theorem d_X_best_58 : decode b_X_best 58 = .ok (.aload_n 0, 1) := by decide +kernel
theorem d_X_best_59 : decode b_X_best 59 = .ok (.getfield 16, 3) := by decide +kernel
theorem d_X_best_62 : decode b_X_best 62 = .ok (.iload_n 1, 1) := by decide +kernel
theorem d_X_best_63 : decode b_X_best 63 = .ok (.baload, 1) := by decide +kernel
theorem d_X_best_64 : decode b_X_best 64 = .ok (.ifCond .eq 20, 3) := by decide +kernel
theorem d_X_best_67 : decode b_X_best 67 = .ok (.aload_n 0, 1) := by decide +kernel
theorem d_X_best_68 : decode b_X_best 68 = .ok (.getfield 20, 3) := by decide +kernel
theorem d_X_best_71 : decode b_X_best 71 = .ok (.iload_n 3, 1) := by decide +kernel
theorem d_X_best_72 : decode b_X_best 72 = .ok (.saload, 1) := by decide +kernel
theorem d_X_best_73 : decode b_X_best 73 = .ok (.aload_n 0, 1) := by decide +kernel
theorem d_X_best_74 : decode b_X_best 74 = .ok (.getfield 20, 3) := by decide +kernel
theorem d_X_best_77 : decode b_X_best 77 = .ok (.iload_n 1, 1) := by decide +kernel
theorem d_X_best_78 : decode b_X_best 78 = .ok (.saload, 1) := by decide +kernel
theorem d_X_best_79 : decode b_X_best 79 = .ok (.iconst 1, 1) := by decide +kernel
theorem d_X_best_80 : decode b_X_best 80 = .ok (.isub, 1) := by decide +kernel
theorem d_X_best_81 : decode b_X_best 81 = .ok (.if_icmp .ne 5, 3) := by decide +kernel
theorem d_X_best_84 : decode b_X_best 84 = .ok (.iload_n 2, 1) := by decide +kernel
theorem d_X_best_85 : decode b_X_best 85 = .ok (.ireturn, 1) := by decide +kernel
theorem d_X_best_86 : decode b_X_best 86 = .ok (.iinc 2 1, 3) := by decide +kernel
theorem d_X_best_89 : decode b_X_best 89 = .ok (.goto (-63), 3) := by decide +kernel
theorem d_X_best_92 : decode b_X_best 92 = .ok (.bipush (-2), 2) := by decide +kernel
theorem d_X_best_94 : decode b_X_best 94 = .ok (.ireturn, 1) := by decide +kernel
theorem d_X_total_0 : decode b_X_total 0 = .ok (.aload_n 0, 1) := by decide +kernel
theorem d_X_total_1 : decode b_X_total 1 = .ok (.invokevirtual 92, 3) := by decide +kernel
theorem d_X_total_4 : decode b_X_total 4 = .ok (.iconst 0, 1) := by decide +kernel
theorem d_X_total_5 : decode b_X_total 5 = .ok (.istore_n 2, 1) := by decide +kernel
theorem d_X_total_6 : decode b_X_total 6 = .ok (.iconst 0, 1) := by decide +kernel
theorem d_X_total_7 : decode b_X_total 7 = .ok (.istore_n 3, 1) := by decide +kernel
theorem d_X_total_8 : decode b_X_total 8 = .ok (.iload_n 3, 1) := by decide +kernel
theorem d_X_total_9 : decode b_X_total 9 = .ok (.sipush 432, 3) := by decide +kernel
theorem d_X_total_12 : decode b_X_total 12 = .ok (.if_icmp .ge 22, 3) := by decide +kernel
theorem d_X_total_15 : decode b_X_total 15 = .ok (.aload_n 0, 1) := by decide +kernel
theorem d_X_total_16 : decode b_X_total 16 = .ok (.getfield 16, 3) := by decide +kernel
theorem d_X_total_19 : decode b_X_total 19 = .ok (.iload_n 3, 1) := by decide +kernel
theorem d_X_total_20 : decode b_X_total 20 = .ok (.baload, 1) := by decide +kernel
theorem d_X_total_21 : decode b_X_total 21 = .ok (.iload_n 1, 1) := by decide +kernel
theorem d_X_total_22 : decode b_X_total 22 = .ok (.if_icmp .ne 6, 3) := by decide +kernel
theorem d_X_total_25 : decode b_X_total 25 = .ok (.iinc 2 1, 3) := by decide +kernel
theorem d_X_total_28 : decode b_X_total 28 = .ok (.iinc 3 1, 3) := by decide +kernel
theorem d_X_total_31 : decode b_X_total 31 = .ok (.goto (-23), 3) := by decide +kernel
theorem d_X_total_34 : decode b_X_total 34 = .ok (.iload_n 2, 1) := by decide +kernel
theorem d_X_total_35 : decode b_X_total 35 = .ok (.ireturn, 1) := by decide +kernel
theorem d_X_longest_0 : decode b_X_longest 0 = .ok (.iload_n 1, 1) := by decide +kernel
theorem d_X_longest_1 : decode b_X_longest 1 = .ok (.iconst 1, 1) := by decide +kernel
theorem d_X_longest_2 : decode b_X_longest 2 = .ok (.if_icmp .eq 11, 3) := by decide +kernel
theorem d_X_longest_5 : decode b_X_longest 5 = .ok (.iload_n 1, 1) := by decide +kernel
theorem d_X_longest_6 : decode b_X_longest 6 = .ok (.iconst 2, 1) := by decide +kernel
theorem d_X_longest_7 : decode b_X_longest 7 = .ok (.if_icmp .eq 6, 3) := by decide +kernel
theorem d_X_longest_10 : decode b_X_longest 10 = .ok (.bipush (-3), 2) := by decide +kernel
theorem d_X_longest_12 : decode b_X_longest 12 = .ok (.ireturn, 1) := by decide +kernel
theorem d_X_longest_13 : decode b_X_longest 13 = .ok (.aload_n 0, 1) := by decide +kernel
theorem d_X_longest_14 : decode b_X_longest 14 = .ok (.invokevirtual 92, 3) := by decide +kernel
theorem d_X_longest_17 : decode b_X_longest 17 = .ok (.bipush (-3), 2) := by decide +kernel
theorem d_X_longest_19 : decode b_X_longest 19 = .ok (.istore_n 2, 1) := by decide +kernel
theorem d_X_longest_20 : decode b_X_longest 20 = .ok (.iconst 0, 1) := by decide +kernel
theorem d_X_longest_21 : decode b_X_longest 21 = .ok (.istore_n 3, 1) := by decide +kernel
theorem d_X_longest_22 : decode b_X_longest 22 = .ok (.iload_n 3, 1) := by decide +kernel
theorem d_X_longest_23 : decode b_X_longest 23 = .ok (.sipush 432, 3) := by decide +kernel
theorem d_X_longest_26 : decode b_X_longest 26 = .ok (.if_icmp .ge 36, 3) := by decide +kernel
theorem d_X_longest_29 : decode b_X_longest 29 = .ok (.aload_n 0, 1) := by decide +kernel
theorem d_X_longest_30 : decode b_X_longest 30 = .ok (.getfield 16, 3) := by decide +kernel
theorem d_X_longest_33 : decode b_X_longest 33 = .ok (.iload_n 3, 1) := by decide +kernel
theorem d_X_longest_34 : decode b_X_longest 34 = .ok (.baload, 1) := by decide +kernel
theorem d_X_longest_35 : decode b_X_longest 35 = .ok (.iload_n 1, 1) := by decide +kernel
theorem d_X_longest_36 : decode b_X_longest 36 = .ok (.if_icmp .ne 20, 3) := by decide +kernel
theorem d_X_longest_39 : decode b_X_longest 39 = .ok (.aload_n 0, 1) := by decide +kernel
theorem d_X_longest_40 : decode b_X_longest 40 = .ok (.getfield 20, 3) := by decide +kernel
theorem d_X_longest_43 : decode b_X_longest 43 = .ok (.iload_n 3, 1) := by decide +kernel
theorem d_X_longest_44 : decode b_X_longest 44 = .ok (.saload, 1) := by decide +kernel
theorem d_X_longest_45 : decode b_X_longest 45 = .ok (.iload_n 2, 1) := by decide +kernel
theorem d_X_longest_46 : decode b_X_longest 46 = .ok (.if_icmp .le 10, 3) := by decide +kernel
theorem d_X_longest_49 : decode b_X_longest 49 = .ok (.aload_n 0, 1) := by decide +kernel
theorem d_X_longest_50 : decode b_X_longest 50 = .ok (.getfield 20, 3) := by decide +kernel
theorem d_X_longest_53 : decode b_X_longest 53 = .ok (.iload_n 3, 1) := by decide +kernel
theorem d_X_longest_54 : decode b_X_longest 54 = .ok (.saload, 1) := by decide +kernel
theorem d_X_longest_55 : decode b_X_longest 55 = .ok (.istore_n 2, 1) := by decide +kernel
theorem d_X_longest_56 : decode b_X_longest 56 = .ok (.iinc 3 1, 3) := by decide +kernel
theorem d_X_longest_59 : decode b_X_longest 59 = .ok (.goto (-37), 3) := by decide +kernel
theorem d_X_longest_62 : decode b_X_longest 62 = .ok (.iload_n 2, 1) := by decide +kernel
theorem d_X_longest_63 : decode b_X_longest 63 = .ok (.ireturn, 1) := by decide +kernel
end
section
theorem d_M_init_0 : decode b_M_init 0 = .ok (.aload_n 0, 1) := by decide +kernel
theorem d_M_init_1 : decode b_M_init 1 = .ok (.invokespecial 1, 3) := by decide +kernel
theorem d_M_init_4 : decode b_M_init 4 = .ok (.aload_n 0, 1) := by decide +kernel
theorem d_M_init_5 : decode b_M_init 5 = .ok (.bipush 36, 2) := by decide +kernel
theorem d_M_init_7 : decode b_M_init 7 = .ok (.newarray .boolean, 2) := by decide +kernel
theorem d_M_init_9 : decode b_M_init 9 = .ok (.putfield 7, 3) := by decide +kernel
theorem d_M_init_12 : decode b_M_init 12 = .ok (.aload_n 0, 1) := by decide +kernel
theorem d_M_init_13 : decode b_M_init 13 = .ok (.bipush 6, 2) := by decide +kernel
theorem d_M_init_15 : decode b_M_init 15 = .ok (.newarray .boolean, 2) := by decide +kernel
theorem d_M_init_17 : decode b_M_init 17 = .ok (.putfield 13, 3) := by decide +kernel
theorem d_M_init_20 : decode b_M_init 20 = .ok (.aload_n 0, 1) := by decide +kernel
theorem d_M_init_21 : decode b_M_init 21 = .ok (.sipush 432, 3) := by decide +kernel
theorem d_M_init_24 : decode b_M_init 24 = .ok (.newarray .int, 2) := by decide +kernel
theorem d_M_init_26 : decode b_M_init 26 = .ok (.putfield 16, 3) := by decide +kernel
theorem d_M_init_29 : decode b_M_init 29 = .ok (.aload_n 0, 1) := by decide +kernel
theorem d_M_init_30 : decode b_M_init 30 = .ok (.sipush 432, 3) := by decide +kernel
theorem d_M_init_33 : decode b_M_init 33 = .ok (.newarray .int, 2) := by decide +kernel
theorem d_M_init_35 : decode b_M_init 35 = .ok (.putfield 20, 3) := by decide +kernel
theorem d_M_init_38 : decode b_M_init 38 = .ok (.aload_n 0, 1) := by decide +kernel
theorem d_M_init_39 : decode b_M_init 39 = .ok (.iload_n 1, 1) := by decide +kernel
theorem d_M_init_40 : decode b_M_init 40 = .ok (.iconst 3, 1) := by decide +kernel
theorem d_M_init_41 : decode b_M_init 41 = .ok (.iand, 1) := by decide +kernel
theorem d_M_init_42 : decode b_M_init 42 = .ok (.putfield 23, 3) := by decide +kernel
theorem d_M_init_45 : decode b_M_init 45 = .ok (.aload_n 0, 1) := by decide +kernel
theorem d_M_init_46 : decode b_M_init 46 = .ok (.aload_n 0, 1) := by decide +kernel
theorem d_M_init_47 : decode b_M_init 47 = .ok (.iconst 0, 1) := by decide +kernel
theorem d_M_init_48 : decode b_M_init 48 = .ok (.iconst 1, 1) := by decide +kernel
theorem d_M_init_49 : decode b_M_init 49 = .ok (.iconst 5, 1) := by decide +kernel
theorem d_M_init_50 : decode b_M_init 50 = .ok (.iconst 0, 1) := by decide +kernel
theorem d_M_init_51 : decode b_M_init 51 = .ok (.invokevirtual 27, 3) := by decide +kernel
theorem d_M_init_54 : decode b_M_init 54 = .ok (.putfield 31, 3) := by decide +kernel
theorem d_M_init_57 : decode b_M_init 57 = .ok (.return_, 1) := by decide +kernel
theorem d_M_number_0 : decode b_M_number 0 = .ok (.iload_n 1, 1) := by decide +kernel
theorem d_M_number_1 : decode b_M_number 1 = .ok (.bipush 6, 2) := by decide +kernel
theorem d_M_number_3 : decode b_M_number 3 = .ok (.imul, 1) := by decide +kernel
theorem d_M_number_4 : decode b_M_number 4 = .ok (.iload_n 2, 1) := by decide +kernel
theorem d_M_number_5 : decode b_M_number 5 = .ok (.iadd, 1) := by decide +kernel
theorem d_M_number_6 : decode b_M_number 6 = .ok (.bipush 6, 2) := by decide +kernel
theorem d_M_number_8 : decode b_M_number 8 = .ok (.imul, 1) := by decide +kernel
theorem d_M_number_9 : decode b_M_number 9 = .ok (.iload_n 3, 1) := by decide +kernel
theorem d_M_number_10 : decode b_M_number 10 = .ok (.iadd, 1) := by decide +kernel
theorem d_M_number_11 : decode b_M_number 11 = .ok (.iconst 2, 1) := by decide +kernel
theorem d_M_number_12 : decode b_M_number 12 = .ok (.imul, 1) := by decide +kernel
theorem d_M_number_13 : decode b_M_number 13 = .ok (.iload 4, 2) := by decide +kernel
theorem d_M_number_15 : decode b_M_number 15 = .ok (.ifCond .eq 7, 3) := by decide +kernel
theorem d_M_number_18 : decode b_M_number 18 = .ok (.iconst 1, 1) := by decide +kernel
theorem d_M_number_19 : decode b_M_number 19 = .ok (.goto 4, 3) := by decide +kernel
theorem d_M_number_22 : decode b_M_number 22 = .ok (.iconst 0, 1) := by decide +kernel
theorem d_M_number_23 : decode b_M_number 23 = .ok (.iadd, 1) := by decide +kernel
theorem d_M_number_24 : decode b_M_number 24 = .ok (.ireturn, 1) := by decide +kernel
theorem d_M_bad_0 : decode b_M_bad 0 = .ok (.iload_n 1, 1) := by decide +kernel
theorem d_M_bad_1 : decode b_M_bad 1 = .ok (.ifCond .lt 8, 3) := by decide +kernel
theorem d_M_bad_4 : decode b_M_bad 4 = .ok (.iload_n 1, 1) := by decide +kernel
theorem d_M_bad_5 : decode b_M_bad 5 = .ok (.iconst 5, 1) := by decide +kernel
theorem d_M_bad_6 : decode b_M_bad 6 = .ok (.if_icmp .le 7, 3) := by decide +kernel
theorem d_M_bad_9 : decode b_M_bad 9 = .ok (.iconst 1, 1) := by decide +kernel
theorem d_M_bad_10 : decode b_M_bad 10 = .ok (.goto 4, 3) := by decide +kernel
theorem d_M_bad_13 : decode b_M_bad 13 = .ok (.iconst 0, 1) := by decide +kernel
theorem d_M_bad_14 : decode b_M_bad 14 = .ok (.ireturn, 1) := by decide +kernel
theorem d_M_door_0 : decode b_M_door 0 = .ok (.aload_n 0, 1) := by decide +kernel
theorem d_M_door_1 : decode b_M_door 1 = .ok (.iload_n 1, 1) := by decide +kernel
theorem d_M_door_2 : decode b_M_door 2 = .ok (.invokevirtual 34, 3) := by decide +kernel
theorem d_M_door_5 : decode b_M_door 5 = .ok (.ifCond .ne 11, 3) := by decide +kernel
theorem d_M_door_8 : decode b_M_door 8 = .ok (.aload_n 0, 1) := by decide +kernel
theorem d_M_door_9 : decode b_M_door 9 = .ok (.iload_n 2, 1) := by decide +kernel
theorem d_M_door_10 : decode b_M_door 10 = .ok (.invokevirtual 34, 3) := by decide +kernel
theorem d_M_door_13 : decode b_M_door 13 = .ok (.ifCond .eq 5, 3) := by decide +kernel
theorem d_M_door_16 : decode b_M_door 16 = .ok (.iconst (-1), 1) := by decide +kernel
theorem d_M_door_17 : decode b_M_door 17 = .ok (.ireturn, 1) := by decide +kernel
theorem d_M_door_18 : decode b_M_door 18 = .ok (.iload_n 1, 1) := by decide +kernel
theorem d_M_door_19 : decode b_M_door 19 = .ok (.iload_n 2, 1) := by decide +kernel
theorem d_M_door_20 : decode b_M_door 20 = .ok (.if_icmp .ne 6, 3) := by decide +kernel
theorem d_M_door_23 : decode b_M_door 23 = .ok (.bipush (-2), 2) := by decide +kernel
theorem d_M_door_25 : decode b_M_door 25 = .ok (.ireturn, 1) := by decide +kernel
theorem d_M_door_26 : decode b_M_door 26 = .ok (.aload_n 0, 1) := by decide +kernel
theorem d_M_door_27 : decode b_M_door 27 = .ok (.getfield 7, 3) := by decide +kernel
theorem d_M_door_30 : decode b_M_door 30 = .ok (.iload_n 1, 1) := by decide +kernel
theorem d_M_door_31 : decode b_M_door 31 = .ok (.bipush 6, 2) := by decide +kernel
theorem d_M_door_33 : decode b_M_door 33 = .ok (.imul, 1) := by decide +kernel
theorem d_M_door_34 : decode b_M_door 34 = .ok (.iload_n 2, 1) := by decide +kernel
theorem d_M_door_35 : decode b_M_door 35 = .ok (.iadd, 1) := by decide +kernel
theorem d_M_door_36 : decode b_M_door 36 = .ok (.baload, 1) := by decide +kernel
theorem d_M_door_37 : decode b_M_door 37 = .ok (.ifCond .eq 7, 3) := by decide +kernel
theorem d_M_door_40 : decode b_M_door 40 = .ok (.iconst 1, 1) := by decide +kernel
theorem d_M_door_41 : decode b_M_door 41 = .ok (.goto 4, 3) := by decide +kernel
theorem d_M_door_44 : decode b_M_door 44 = .ok (.iconst 0, 1) := by decide +kernel
theorem d_M_door_45 : decode b_M_door 45 = .ok (.istore 4, 2) := by decide +kernel
theorem d_M_door_47 : decode b_M_door 47 = .ok (.aload_n 0, 1) := by decide +kernel
theorem d_M_door_48 : decode b_M_door 48 = .ok (.getfield 7, 3) := by decide +kernel
theorem d_M_door_51 : decode b_M_door 51 = .ok (.iload_n 1, 1) := by decide +kernel
theorem d_M_door_52 : decode b_M_door 52 = .ok (.bipush 6, 2) := by decide +kernel
theorem d_M_door_54 : decode b_M_door 54 = .ok (.imul, 1) := by decide +kernel
theorem d_M_door_55 : decode b_M_door 55 = .ok (.iload_n 2, 1) := by decide +kernel
theorem d_M_door_56 : decode b_M_door 56 = .ok (.iadd, 1) := by decide +kernel
theorem d_M_door_57 : decode b_M_door 57 = .ok (.iload_n 3, 1) := by decide +kernel
theorem d_M_door_58 : decode b_M_door 58 = .ok (.bastore, 1) := by decide +kernel
theorem d_M_door_59 : decode b_M_door 59 = .ok (.aload_n 0, 1) := by decide +kernel
theorem d_M_door_60 : decode b_M_door 60 = .ok (.iconst 0, 1) := by decide +kernel
theorem d_M_door_61 : decode b_M_door 61 = .ok (.putfield 38, 3) := by decide +kernel
theorem d_M_door_64 : decode b_M_door 64 = .ok (.iload 4, 2) := by decide +kernel
theorem d_M_door_66 : decode b_M_door 66 = .ok (.ireturn, 1) := by decide +kernel
theorem d_M_exit_0 : decode b_M_exit 0 = .ok (.aload_n 0, 1) := by decide +kernel
theorem d_M_exit_1 : decode b_M_exit 1 = .ok (.iload_n 1, 1) := by decide +kernel
theorem d_M_exit_2 : decode b_M_exit 2 = .ok (.invokevirtual 34, 3) := by decide +kernel
theorem d_M_exit_5 : decode b_M_exit 5 = .ok (.ifCond .eq 5, 3) := by decide +kernel
theorem d_M_exit_8 : decode b_M_exit 8 = .ok (.iconst (-1), 1) := by decide +kernel
theorem d_M_exit_9 : decode b_M_exit 9 = .ok (.ireturn, 1) := by decide +kernel
theorem d_M_exit_10 : decode b_M_exit 10 = .ok (.aload_n 0, 1) := by decide +kernel
theorem d_M_exit_11 : decode b_M_exit 11 = .ok (.getfield 13, 3) := by decide +kernel
theorem d_M_exit_14 : decode b_M_exit 14 = .ok (.iload_n 1, 1) := by decide +kernel
theorem d_M_exit_15 : decode b_M_exit 15 = .ok (.baload, 1) := by decide +kernel
theorem d_M_exit_16 : decode b_M_exit 16 = .ok (.ifCond .eq 7, 3) := by decide +kernel
theorem d_M_exit_19 : decode b_M_exit 19 = .ok (.iconst 1, 1) := by decide +kernel
theorem d_M_exit_20 : decode b_M_exit 20 = .ok (.goto 4, 3) := by decide +kernel
theorem d_M_exit_23 : decode b_M_exit 23 = .ok (.iconst 0, 1) := by decide +kernel
theorem d_M_exit_24 : decode b_M_exit 24 = .ok (.istore_n 3, 1) := by decide +kernel
theorem d_M_exit_25 : decode b_M_exit 25 = .ok (.aload_n 0, 1) := by decide +kernel
theorem d_M_exit_26 : decode b_M_exit 26 = .ok (.getfield 13, 3) := by decide +kernel
theorem d_M_exit_29 : decode b_M_exit 29 = .ok (.iload_n 1, 1) := by decide +kernel
theorem d_M_exit_30 : decode b_M_exit 30 = .ok (.iload_n 2, 1) := by decide +kernel
theorem d_M_exit_31 : decode b_M_exit 31 = .ok (.bastore, 1) := by decide +kernel
theorem d_M_exit_32 : decode b_M_exit 32 = .ok (.aload_n 0, 1) := by decide +kernel
theorem d_M_exit_33 : decode b_M_exit 33 = .ok (.iconst 0, 1) := by decide +kernel
theorem d_M_exit_34 : decode b_M_exit 34 = .ok (.putfield 38, 3) := by decide +kernel
theorem d_M_exit_37 : decode b_M_exit 37 = .ok (.iload_n 3, 1) := by decide +kernel
theorem d_M_exit_38 : decode b_M_exit 38 = .ok (.ireturn, 1) := by decide +kernel
theorem d_M_set_0 : decode b_M_set 0 = .ok (.aload_n 0, 1) := by decide +kernel
theorem d_M_set_1 : decode b_M_set 1 = .ok (.iload_n 1, 1) := by decide +kernel
theorem d_M_set_2 : decode b_M_set 2 = .ok (.invokevirtual 34, 3) := by decide +kernel
theorem d_M_set_5 : decode b_M_set 5 = .ok (.ifCond .ne 19, 3) := by decide +kernel
theorem d_M_set_8 : decode b_M_set 8 = .ok (.aload_n 0, 1) := by decide +kernel
theorem d_M_set_9 : decode b_M_set 9 = .ok (.iload_n 2, 1) := by decide +kernel
theorem d_M_set_10 : decode b_M_set 10 = .ok (.invokevirtual 34, 3) := by decide +kernel
theorem d_M_set_13 : decode b_M_set 13 = .ok (.ifCond .ne 11, 3) := by decide +kernel
theorem d_M_set_16 : decode b_M_set 16 = .ok (.aload_n 0, 1) := by decide +kernel
theorem d_M_set_17 : decode b_M_set 17 = .ok (.iload_n 3, 1) := by decide +kernel
theorem d_M_set_18 : decode b_M_set 18 = .ok (.invokevirtual 34, 3) := by decide +kernel
theorem d_M_set_21 : decode b_M_set 21 = .ok (.ifCond .eq 5, 3) := by decide +kernel
theorem d_M_set_24 : decode b_M_set 24 = .ok (.iconst (-1), 1) := by decide +kernel
theorem d_M_set_25 : decode b_M_set 25 = .ok (.ireturn, 1) := by decide +kernel
theorem d_M_set_26 : decode b_M_set 26 = .ok (.aload_n 0, 1) := by decide +kernel
theorem d_M_set_27 : decode b_M_set 27 = .ok (.aload_n 0, 1) := by decide +kernel
theorem d_M_set_28 : decode b_M_set 28 = .ok (.iload_n 1, 1) := by decide +kernel
theorem d_M_set_29 : decode b_M_set 29 = .ok (.iload_n 2, 1) := by decide +kernel
theorem d_M_set_30 : decode b_M_set 30 = .ok (.iload_n 3, 1) := by decide +kernel
theorem d_M_set_31 : decode b_M_set 31 = .ok (.iload 4, 2) := by decide +kernel
theorem d_M_set_33 : decode b_M_set 33 = .ok (.invokevirtual 27, 3) := by decide +kernel
theorem d_M_set_36 : decode b_M_set 36 = .ok (.putfield 31, 3) := by decide +kernel
theorem d_M_set_39 : decode b_M_set 39 = .ok (.iconst 0, 1) := by decide +kernel
theorem d_M_set_40 : decode b_M_set 40 = .ok (.ireturn, 1) := by decide +kernel
theorem d_M_over_0 : decode b_M_over 0 = .ok (.iload_n 1, 1) := by decide +kernel
theorem d_M_over_1 : decode b_M_over 1 = .ok (.iconst 2, 1) := by decide +kernel
theorem d_M_over_2 : decode b_M_over 2 = .ok (.idiv, 1) := by decide +kernel
theorem d_M_over_3 : decode b_M_over 3 = .ok (.bipush 6, 2) := by decide +kernel
theorem d_M_over_5 : decode b_M_over 5 = .ok (.irem, 1) := by decide +kernel
theorem d_M_over_6 : decode b_M_over 6 = .ok (.istore_n 2, 1) := by decide +kernel
theorem d_M_over_7 : decode b_M_over 7 = .ok (.iload_n 2, 1) := by decide +kernel
theorem d_M_over_8 : decode b_M_over 8 = .ok (.iload_n 1, 1) := by decide +kernel
theorem d_M_over_9 : decode b_M_over 9 = .ok (.bipush 72, 2) := by decide +kernel
theorem d_M_over_11 : decode b_M_over 11 = .ok (.idiv, 1) := by decide +kernel
theorem d_M_over_12 : decode b_M_over 12 = .ok (.if_icmp .eq 14, 3) := by decide +kernel
theorem d_M_over_15 : decode b_M_over 15 = .ok (.iload_n 2, 1) := by decide +kernel
theorem d_M_over_16 : decode b_M_over 16 = .ok (.iload_n 1, 1) := by decide +kernel
theorem d_M_over_17 : decode b_M_over 17 = .ok (.bipush 12, 2) := by decide +kernel
theorem d_M_over_19 : decode b_M_over 19 = .ok (.idiv, 1) := by decide +kernel
theorem d_M_over_20 : decode b_M_over 20 = .ok (.bipush 6, 2) := by decide +kernel
theorem d_M_over_22 : decode b_M_over 22 = .ok (.irem, 1) := by decide +kernel
theorem d_M_over_23 : decode b_M_over 23 = .ok (.if_icmp .ne 5, 3) := by decide +kernel
theorem d_M_over_26 : decode b_M_over 26 = .ok (.iconst 1, 1) := by decide +kernel
theorem d_M_over_27 : decode b_M_over 27 = .ok (.ireturn, 1) := by decide +kernel
theorem d_M_over_28 : decode b_M_over 28 = .ok (.aload_n 0, 1) := by decide +kernel
theorem d_M_over_29 : decode b_M_over 29 = .ok (.getfield 13, 3) := by decide +kernel
theorem d_M_over_32 : decode b_M_over 32 = .ok (.iload_n 2, 1) := by decide +kernel
theorem d_M_over_33 : decode b_M_over 33 = .ok (.baload, 1) := by decide +kernel
theorem d_M_over_34 : decode b_M_over 34 = .ok (.ifCond .eq 7, 3) := by decide +kernel
theorem d_M_over_37 : decode b_M_over 37 = .ok (.iconst 2, 1) := by decide +kernel
theorem d_M_over_38 : decode b_M_over 38 = .ok (.goto 4, 3) := by decide +kernel
theorem d_M_over_41 : decode b_M_over 41 = .ok (.iconst 0, 1) := by decide +kernel
theorem d_M_over_42 : decode b_M_over 42 = .ok (.ireturn, 1) := by decide +kernel
theorem d_M_after_0 : decode b_M_after 0 = .ok (.iload_n 1, 1) := by decide +kernel
theorem d_M_after_1 : decode b_M_after 1 = .ok (.bipush 72, 2) := by decide +kernel
theorem d_M_after_3 : decode b_M_after 3 = .ok (.idiv, 1) := by decide +kernel
theorem d_M_after_4 : decode b_M_after 4 = .ok (.istore_n 3, 1) := by decide +kernel
theorem d_M_after_5 : decode b_M_after 5 = .ok (.iload_n 1, 1) := by decide +kernel
theorem d_M_after_6 : decode b_M_after 6 = .ok (.bipush 12, 2) := by decide +kernel
theorem d_M_after_8 : decode b_M_after 8 = .ok (.idiv, 1) := by decide +kernel
theorem d_M_after_9 : decode b_M_after 9 = .ok (.bipush 6, 2) := by decide +kernel
theorem d_M_after_11 : decode b_M_after 11 = .ok (.irem, 1) := by decide +kernel
theorem d_M_after_12 : decode b_M_after 12 = .ok (.istore 4, 2) := by decide +kernel
theorem d_M_after_14 : decode b_M_after 14 = .ok (.iload_n 1, 1) := by decide +kernel
theorem d_M_after_15 : decode b_M_after 15 = .ok (.iconst 2, 1) := by decide +kernel
theorem d_M_after_16 : decode b_M_after 16 = .ok (.idiv, 1) := by decide +kernel
theorem d_M_after_17 : decode b_M_after 17 = .ok (.bipush 6, 2) := by decide +kernel
theorem d_M_after_19 : decode b_M_after 19 = .ok (.irem, 1) := by decide +kernel
theorem d_M_after_20 : decode b_M_after 20 = .ok (.istore 5, 2) := by decide +kernel
theorem d_M_after_22 : decode b_M_after 22 = .ok (.iload_n 1, 1) := by decide +kernel
theorem d_M_after_23 : decode b_M_after 23 = .ok (.iconst 2, 1) := by decide +kernel
theorem d_M_after_24 : decode b_M_after 24 = .ok (.irem, 1) := by decide +kernel
theorem d_M_after_25 : decode b_M_after 25 = .ok (.iconst 1, 1) := by decide +kernel
theorem d_M_after_26 : decode b_M_after 26 = .ok (.if_icmp .ne 7, 3) := by decide +kernel
theorem d_M_after_29 : decode b_M_after 29 = .ok (.iconst 1, 1) := by decide +kernel
theorem d_M_after_30 : decode b_M_after 30 = .ok (.goto 4, 3) := by decide +kernel
theorem d_M_after_33 : decode b_M_after 33 = .ok (.iconst 0, 1) := by decide +kernel
theorem d_M_after_34 : decode b_M_after 34 = .ok (.istore 6, 2) := by decide +kernel
theorem d_M_after_36 : decode b_M_after 36 = .ok (.iload_n 2, 1) := by decide +kernel
theorem d_M_after_37 : decode b_M_after 37 = .ok (.ifCond .lt 9, 3) := by decide +kernel
theorem d_M_after_40 : decode b_M_after 40 = .ok (.iload_n 2, 1) := by decide +kernel
theorem d_M_after_41 : decode b_M_after 41 = .ok (.bipush 12, 2) := by decide +kernel
theorem d_M_after_43 : decode b_M_after 43 = .ok (.if_icmp .le 5, 3) := by decide +kernel
theorem d_M_after_46 : decode b_M_after 46 = .ok (.iconst (-1), 1) := by decide +kernel
theorem d_M_after_47 : decode b_M_after 47 = .ok (.ireturn, 1) := by decide +kernel
theorem d_M_after_48 : decode b_M_after 48 = .ok (.iload_n 2, 1) := by decide +kernel
theorem d_M_after_49 : decode b_M_after 49 = .ok (.bipush 12, 2) := by decide +kernel
theorem d_M_after_51 : decode b_M_after 51 = .ok (.if_icmp .ne 70, 3) := by decide +kernel
theorem d_M_after_54 : decode b_M_after 54 = .ok (.iload 6, 2) := by decide +kernel
theorem d_M_after_56 : decode b_M_after 56 = .ok (.ifCond .eq 20, 3) := by decide +kernel
theorem d_M_after_59 : decode b_M_after 59 = .ok (.aload_n 0, 1) := by decide +kernel
theorem d_M_after_60 : decode b_M_after 60 = .ok (.getfield 23, 3) := by decide +kernel
theorem d_M_after_63 : decode b_M_after 63 = .ok (.iconst 2, 1) := by decide +kernel
theorem d_M_after_64 : decode b_M_after 64 = .ok (.iand, 1) := by decide +kernel
theorem d_M_after_65 : decode b_M_after 65 = .ok (.ifCond .eq 7, 3) := by decide +kernel
theorem d_M_after_68 : decode b_M_after 68 = .ok (.iconst 1, 1) := by decide +kernel
theorem d_M_after_69 : decode b_M_after 69 = .ok (.goto 21, 3) := by decide +kernel
theorem d_M_after_72 : decode b_M_after 72 = .ok (.iconst 0, 1) := by decide +kernel
theorem d_M_after_73 : decode b_M_after 73 = .ok (.goto 17, 3) := by decide +kernel
theorem d_M_after_76 : decode b_M_after 76 = .ok (.aload_n 0, 1) := by decide +kernel
theorem d_M_after_77 : decode b_M_after 77 = .ok (.getfield 23, 3) := by decide +kernel
theorem d_M_after_80 : decode b_M_after 80 = .ok (.iconst 1, 1) := by decide +kernel
theorem d_M_after_81 : decode b_M_after 81 = .ok (.iand, 1) := by decide +kernel
theorem d_M_after_82 : decode b_M_after 82 = .ok (.ifCond .eq 7, 3) := by decide +kernel
theorem d_M_after_85 : decode b_M_after 85 = .ok (.iconst 1, 1) := by decide +kernel
theorem d_M_after_86 : decode b_M_after 86 = .ok (.goto 4, 3) := by decide +kernel
theorem d_M_after_89 : decode b_M_after 89 = .ok (.iconst 0, 1) := by decide +kernel
theorem d_M_after_90 : decode b_M_after 90 = .ok (.istore 7, 2) := by decide +kernel
theorem d_M_after_92 : decode b_M_after 92 = .ok (.iload 7, 2) := by decide +kernel
theorem d_M_after_94 : decode b_M_after 94 = .ok (.ifCond .eq 25, 3) := by decide +kernel
theorem d_M_after_97 : decode b_M_after 97 = .ok (.aload_n 0, 1) := by decide +kernel
theorem d_M_after_98 : decode b_M_after 98 = .ok (.iload_n 3, 1) := by decide +kernel
theorem d_M_after_99 : decode b_M_after 99 = .ok (.iload 4, 2) := by decide +kernel
theorem d_M_after_101 : decode b_M_after 101 = .ok (.iload 5, 2) := by decide +kernel
theorem d_M_after_103 : decode b_M_after 103 = .ok (.iload 6, 2) := by decide +kernel
theorem d_M_after_105 : decode b_M_after 105 = .ok (.ifCond .ne 7, 3) := by decide +kernel
theorem d_M_after_108 : decode b_M_after 108 = .ok (.iconst 1, 1) := by decide +kernel
theorem d_M_after_109 : decode b_M_after 109 = .ok (.goto 4, 3) := by decide +kernel
theorem d_M_after_112 : decode b_M_after 112 = .ok (.iconst 0, 1) := by decide +kernel
theorem d_M_after_113 : decode b_M_after 113 = .ok (.invokevirtual 27, 3) := by decide +kernel
theorem d_M_after_116 : decode b_M_after 116 = .ok (.goto 4, 3) := by decide +kernel
theorem d_M_after_119 : decode b_M_after 119 = .ok (.iconst (-1), 1) := by decide +kernel
theorem d_M_after_120 : decode b_M_after 120 = .ok (.ireturn, 1) := by decide +kernel
theorem d_M_after_121 : decode b_M_after 121 = .ok (.iload 6, 2) := by decide +kernel
theorem d_M_after_123 : decode b_M_after 123 = .ok (.ifCond .eq 38, 3) := by decide +kernel
theorem d_M_after_126 : decode b_M_after 126 = .ok (.iload_n 2, 1) := by decide +kernel
theorem d_M_after_127 : decode b_M_after 127 = .ok (.bipush 6, 2) := by decide +kernel
theorem d_M_after_129 : decode b_M_after 129 = .ok (.if_icmp .ge 30, 3) := by decide +kernel
theorem d_M_after_132 : decode b_M_after 132 = .ok (.aload_n 0, 1) := by decide +kernel
theorem d_M_after_133 : decode b_M_after 133 = .ok (.getfield 7, 3) := by decide +kernel
theorem d_M_after_136 : decode b_M_after 136 = .ok (.iload 5, 2) := by decide +kernel
theorem d_M_after_138 : decode b_M_after 138 = .ok (.bipush 6, 2) := by decide +kernel
theorem d_M_after_140 : decode b_M_after 140 = .ok (.imul, 1) := by decide +kernel
theorem d_M_after_141 : decode b_M_after 141 = .ok (.iload_n 2, 1) := by decide +kernel
theorem d_M_after_142 : decode b_M_after 142 = .ok (.iadd, 1) := by decide +kernel
theorem d_M_after_143 : decode b_M_after 143 = .ok (.baload, 1) := by decide +kernel
theorem d_M_after_144 : decode b_M_after 144 = .ok (.ifCond .eq 15, 3) := by decide +kernel
theorem d_M_after_147 : decode b_M_after 147 = .ok (.aload_n 0, 1) := by decide +kernel
theorem d_M_after_148 : decode b_M_after 148 = .ok (.iload_n 3, 1) := by decide +kernel
theorem d_M_after_149 : decode b_M_after 149 = .ok (.iload 4, 2) := by decide +kernel
theorem d_M_after_151 : decode b_M_after 151 = .ok (.iload_n 2, 1) := by decide +kernel
theorem d_M_after_152 : decode b_M_after 152 = .ok (.iconst 0, 1) := by decide +kernel
theorem d_M_after_153 : decode b_M_after 153 = .ok (.invokevirtual 27, 3) := by decide +kernel
theorem d_M_after_156 : decode b_M_after 156 = .ok (.goto 4, 3) := by decide +kernel
theorem d_M_after_159 : decode b_M_after 159 = .ok (.iconst (-1), 1) := by decide +kernel
theorem d_M_after_160 : decode b_M_after 160 = .ok (.ireturn, 1) := by decide +kernel
theorem d_M_after_161 : decode b_M_after 161 = .ok (.iload_n 2, 1) := by decide +kernel
theorem d_M_after_162 : decode b_M_after 162 = .ok (.bipush 6, 2) := by decide +kernel
theorem d_M_after_164 : decode b_M_after 164 = .ok (.if_icmp .ge 32, 3) := by decide +kernel
theorem d_M_after_167 : decode b_M_after 167 = .ok (.aload_n 0, 1) := by decide +kernel
theorem d_M_after_168 : decode b_M_after 168 = .ok (.getfield 7, 3) := by decide +kernel
theorem d_M_after_171 : decode b_M_after 171 = .ok (.iload_n 3, 1) := by decide +kernel
theorem d_M_after_172 : decode b_M_after 172 = .ok (.bipush 6, 2) := by decide +kernel
theorem d_M_after_174 : decode b_M_after 174 = .ok (.imul, 1) := by decide +kernel
theorem d_M_after_175 : decode b_M_after 175 = .ok (.iload_n 2, 1) := by decide +kernel
theorem d_M_after_176 : decode b_M_after 176 = .ok (.iadd, 1) := by decide +kernel
theorem d_M_after_177 : decode b_M_after 177 = .ok (.baload, 1) := by decide +kernel
theorem d_M_after_178 : decode b_M_after 178 = .ok (.ifCond .eq 16, 3) := by decide +kernel
theorem d_M_after_181 : decode b_M_after 181 = .ok (.aload_n 0, 1) := by decide +kernel
theorem d_M_after_182 : decode b_M_after 182 = .ok (.iload_n 2, 1) := by decide +kernel
theorem d_M_after_183 : decode b_M_after 183 = .ok (.iload 4, 2) := by decide +kernel
theorem d_M_after_185 : decode b_M_after 185 = .ok (.iload 5, 2) := by decide +kernel
theorem d_M_after_187 : decode b_M_after 187 = .ok (.iconst 1, 1) := by decide +kernel
theorem d_M_after_188 : decode b_M_after 188 = .ok (.invokevirtual 27, 3) := by decide +kernel
theorem d_M_after_191 : decode b_M_after 191 = .ok (.goto 4, 3) := by decide +kernel
theorem d_M_after_194 : decode b_M_after 194 = .ok (.iconst (-1), 1) := by decide +kernel
theorem d_M_after_195 : decode b_M_after 195 = .ok (.ireturn, 1) := by decide +kernel
theorem d_M_after_196 : decode b_M_after 196 = .ok (.aload_n 0, 1) := by decide +kernel
theorem d_M_after_197 : decode b_M_after 197 = .ok (.getfield 7, 3) := by decide +kernel
theorem d_M_after_200 : decode b_M_after 200 = .ok (.iload 4, 2) := by decide +kernel
theorem d_M_after_202 : decode b_M_after 202 = .ok (.bipush 6, 2) := by decide +kernel
theorem d_M_after_204 : decode b_M_after 204 = .ok (.imul, 1) := by decide +kernel
theorem d_M_after_205 : decode b_M_after 205 = .ok (.iload_n 2, 1) := by decide +kernel
theorem d_M_after_206 : decode b_M_after 206 = .ok (.iadd, 1) := by decide +kernel
theorem d_M_after_207 : decode b_M_after 207 = .ok (.bipush 6, 2) := by decide +kernel
theorem d_M_after_209 : decode b_M_after 209 = .ok (.isub, 1) := by decide +kernel
theorem d_M_after_210 : decode b_M_after 210 = .ok (.baload, 1) := by decide +kernel
theorem d_M_after_211 : decode b_M_after 211 = .ok (.ifCond .eq 18, 3) := by decide +kernel
theorem d_M_after_214 : decode b_M_after 214 = .ok (.aload_n 0, 1) := by decide +kernel
theorem d_M_after_215 : decode b_M_after 215 = .ok (.iload_n 3, 1) := by decide +kernel
theorem d_M_after_216 : decode b_M_after 216 = .ok (.iload_n 2, 1) := by decide +kernel
theorem d_M_after_217 : decode b_M_after 217 = .ok (.bipush 6, 2) := by decide +kernel
theorem d_M_after_219 : decode b_M_after 219 = .ok (.isub, 1) := by decide +kernel
theorem d_M_after_220 : decode b_M_after 220 = .ok (.iload 5, 2) := by decide +kernel
theorem d_M_after_222 : decode b_M_after 222 = .ok (.iconst 1, 1) := by decide +kernel
theorem d_M_after_223 : decode b_M_after 223 = .ok (.invokevirtual 27, 3) := by decide +kernel
theorem d_M_after_226 : decode b_M_after 226 = .ok (.goto 4, 3) := by decide +kernel
theorem d_M_after_229 : decode b_M_after 229 = .ok (.iconst (-1), 1) := by decide +kernel
theorem d_M_after_230 : decode b_M_after 230 = .ok (.ireturn, 1) := by decide +kernel
theorem d_M_mover_0 : decode b_M_mover 0 = .ok (.iload_n 1, 1) := by decide +kernel
theorem d_M_mover_1 : decode b_M_mover 1 = .ok (.iconst 2, 1) := by decide +kernel
theorem d_M_mover_2 : decode b_M_mover 2 = .ok (.irem, 1) := by decide +kernel
theorem d_M_mover_3 : decode b_M_mover 3 = .ok (.iconst 1, 1) := by decide +kernel
theorem d_M_mover_4 : decode b_M_mover 4 = .ok (.if_icmp .ne 7, 3) := by decide +kernel
theorem d_M_mover_7 : decode b_M_mover 7 = .ok (.iconst 2, 1) := by decide +kernel
theorem d_M_mover_8 : decode b_M_mover 8 = .ok (.goto 4, 3) := by decide +kernel
theorem d_M_mover_11 : decode b_M_mover 11 = .ok (.iconst 1, 1) := by decide +kernel
theorem d_M_mover_12 : decode b_M_mover 12 = .ok (.ireturn, 1) := by decide +kernel
end
section
theorem d_M_follows_0 : decode b_M_follows 0 = .ok (.iconst 3, 1) := by decide +kernel
theorem d_M_follows_1 : decode b_M_follows 1 = .ok (.aload_n 0, 1) := by decide +kernel
theorem d_M_follows_2 : decode b_M_follows 2 = .ok (.iload_n 1, 1) := by decide +kernel
theorem d_M_follows_3 : decode b_M_follows 3 = .ok (.invokevirtual 42, 3) := by decide +kernel
theorem d_M_follows_6 : decode b_M_follows 6 = .ok (.isub, 1) := by decide +kernel
theorem d_M_follows_7 : decode b_M_follows 7 = .ok (.istore_n 3, 1) := by decide +kernel
theorem d_M_follows_8 : decode b_M_follows 8 = .ok (.iconst 1, 1) := by decide +kernel
theorem d_M_follows_9 : decode b_M_follows 9 = .ok (.istore 4, 2) := by decide +kernel
theorem d_M_follows_11 : decode b_M_follows 11 = .ok (.iconst 0, 1) := by decide +kernel
theorem d_M_follows_12 : decode b_M_follows 12 = .ok (.istore 5, 2) := by decide +kernel
theorem d_M_follows_14 : decode b_M_follows 14 = .ok (.iload 5, 2) := by decide +kernel
theorem d_M_follows_16 : decode b_M_follows 16 = .ok (.bipush 12, 2) := by decide +kernel
theorem d_M_follows_18 : decode b_M_follows 18 = .ok (.if_icmp .gt 80, 3) := by decide +kernel
theorem d_M_follows_21 : decode b_M_follows 21 = .ok (.aload_n 0, 1) := by decide +kernel
theorem d_M_follows_22 : decode b_M_follows 22 = .ok (.iload_n 1, 1) := by decide +kernel
theorem d_M_follows_23 : decode b_M_follows 23 = .ok (.iload 5, 2) := by decide +kernel
theorem d_M_follows_25 : decode b_M_follows 25 = .ok (.invokevirtual 46, 3) := by decide +kernel
theorem d_M_follows_28 : decode b_M_follows 28 = .ok (.istore 6, 2) := by decide +kernel
theorem d_M_follows_30 : decode b_M_follows 30 = .ok (.iload 6, 2) := by decide +kernel
theorem d_M_follows_32 : decode b_M_follows 32 = .ok (.ifCond .lt 60, 3) := by decide +kernel
theorem d_M_follows_35 : decode b_M_follows 35 = .ok (.aload_n 0, 1) := by decide +kernel
theorem d_M_follows_36 : decode b_M_follows 36 = .ok (.getfield 16, 3) := by decide +kernel
theorem d_M_follows_39 : decode b_M_follows 39 = .ok (.iload 6, 2) := by decide +kernel
theorem d_M_follows_41 : decode b_M_follows 41 = .ok (.iaload, 1) := by decide +kernel
theorem d_M_follows_42 : decode b_M_follows 42 = .ok (.aload_n 0, 1) := by decide +kernel
theorem d_M_follows_43 : decode b_M_follows 43 = .ok (.iload_n 1, 1) := by decide +kernel
theorem d_M_follows_44 : decode b_M_follows 44 = .ok (.invokevirtual 42, 3) := by decide +kernel
theorem d_M_follows_47 : decode b_M_follows 47 = .ok (.if_icmp .ne 20, 3) := by decide +kernel
theorem d_M_follows_50 : decode b_M_follows 50 = .ok (.aload_n 0, 1) := by decide +kernel
theorem d_M_follows_51 : decode b_M_follows 51 = .ok (.getfield 20, 3) := by decide +kernel
theorem d_M_follows_54 : decode b_M_follows 54 = .ok (.iload 6, 2) := by decide +kernel
theorem d_M_follows_56 : decode b_M_follows 56 = .ok (.iaload, 1) := by decide +kernel
theorem d_M_follows_57 : decode b_M_follows 57 = .ok (.iload_n 2, 1) := by decide +kernel
theorem d_M_follows_58 : decode b_M_follows 58 = .ok (.if_icmp .ge 9, 3) := by decide +kernel
theorem d_M_follows_61 : decode b_M_follows 61 = .ok (.aload_n 0, 1) := by decide +kernel
theorem d_M_follows_62 : decode b_M_follows 62 = .ok (.iload_n 1, 1) := by decide +kernel
theorem d_M_follows_63 : decode b_M_follows 63 = .ok (.invokevirtual 42, 3) := by decide +kernel
theorem d_M_follows_66 : decode b_M_follows 66 = .ok (.ireturn, 1) := by decide +kernel
theorem d_M_follows_67 : decode b_M_follows 67 = .ok (.aload_n 0, 1) := by decide +kernel
theorem d_M_follows_68 : decode b_M_follows 68 = .ok (.getfield 16, 3) := by decide +kernel
theorem d_M_follows_71 : decode b_M_follows 71 = .ok (.iload 6, 2) := by decide +kernel
theorem d_M_follows_73 : decode b_M_follows 73 = .ok (.iaload, 1) := by decide +kernel
theorem d_M_follows_74 : decode b_M_follows 74 = .ok (.iload_n 3, 1) := by decide +kernel
theorem d_M_follows_75 : decode b_M_follows 75 = .ok (.if_icmp .ne 14, 3) := by decide +kernel
theorem d_M_follows_78 : decode b_M_follows 78 = .ok (.aload_n 0, 1) := by decide +kernel
theorem d_M_follows_79 : decode b_M_follows 79 = .ok (.getfield 20, 3) := by decide +kernel
theorem d_M_follows_82 : decode b_M_follows 82 = .ok (.iload 6, 2) := by decide +kernel
theorem d_M_follows_84 : decode b_M_follows 84 = .ok (.iaload, 1) := by decide +kernel
theorem d_M_follows_85 : decode b_M_follows 85 = .ok (.iload_n 2, 1) := by decide +kernel
theorem d_M_follows_86 : decode b_M_follows 86 = .ok (.if_icmp .lt 6, 3) := by decide +kernel
theorem d_M_follows_89 : decode b_M_follows 89 = .ok (.iconst 0, 1) := by decide +kernel
theorem d_M_follows_90 : decode b_M_follows 90 = .ok (.istore 4, 2) := by decide +kernel
theorem d_M_follows_92 : decode b_M_follows 92 = .ok (.iinc 5 1, 3) := by decide +kernel
theorem d_M_follows_95 : decode b_M_follows 95 = .ok (.goto (-81), 3) := by decide +kernel
theorem d_M_follows_98 : decode b_M_follows 98 = .ok (.iload 4, 2) := by decide +kernel
theorem d_M_follows_100 : decode b_M_follows 100 = .ok (.ifCond .eq 7, 3) := by decide +kernel
theorem d_M_follows_103 : decode b_M_follows 103 = .ok (.iload_n 3, 1) := by decide +kernel
theorem d_M_follows_104 : decode b_M_follows 104 = .ok (.goto 4, 3) := by decide +kernel
theorem d_M_follows_107 : decode b_M_follows 107 = .ok (.iconst 0, 1) := by decide +kernel
theorem d_M_follows_108 : decode b_M_follows 108 = .ok (.ireturn, 1) := by decide +kernel
theorem d_M_workOut_0 : decode b_M_workOut 0 = .ok (.aload_n 0, 1) := by decide +kernel
theorem d_M_workOut_1 : decode b_M_workOut 1 = .ok (.getfield 38, 3) := by decide +kernel
theorem d_M_workOut_4 : decode b_M_workOut 4 = .ok (.ifCond .eq 4, 3) := by decide +kernel
theorem d_M_workOut_7 : decode b_M_workOut 7 = .ok (.return_, 1) := by decide +kernel
theorem d_M_workOut_8 : decode b_M_workOut 8 = .ok (.iconst 0, 1) := by decide +kernel
theorem d_M_workOut_9 : decode b_M_workOut 9 = .ok (.istore_n 1, 1) := by decide +kernel
theorem d_M_workOut_10 : decode b_M_workOut 10 = .ok (.iload_n 1, 1) := by decide +kernel
theorem d_M_workOut_11 : decode b_M_workOut 11 = .ok (.sipush 432, 3) := by decide +kernel
theorem d_M_workOut_14 : decode b_M_workOut 14 = .ok (.if_icmp .ge 41, 3) := by decide +kernel
theorem d_M_workOut_17 : decode b_M_workOut 17 = .ok (.aload_n 0, 1) := by decide +kernel
theorem d_M_workOut_18 : decode b_M_workOut 18 = .ok (.getfield 16, 3) := by decide +kernel
theorem d_M_workOut_21 : decode b_M_workOut 21 = .ok (.iload_n 1, 1) := by decide +kernel
theorem d_M_workOut_22 : decode b_M_workOut 22 = .ok (.aload_n 0, 1) := by decide +kernel
theorem d_M_workOut_23 : decode b_M_workOut 23 = .ok (.iload_n 1, 1) := by decide +kernel
theorem d_M_workOut_24 : decode b_M_workOut 24 = .ok (.invokevirtual 50, 3) := by decide +kernel
theorem d_M_workOut_27 : decode b_M_workOut 27 = .ok (.iastore, 1) := by decide +kernel
theorem d_M_workOut_28 : decode b_M_workOut 28 = .ok (.aload_n 0, 1) := by decide +kernel
theorem d_M_workOut_29 : decode b_M_workOut 29 = .ok (.getfield 20, 3) := by decide +kernel
theorem d_M_workOut_32 : decode b_M_workOut 32 = .ok (.iload_n 1, 1) := by decide +kernel
theorem d_M_workOut_33 : decode b_M_workOut 33 = .ok (.aload_n 0, 1) := by decide +kernel
theorem d_M_workOut_34 : decode b_M_workOut 34 = .ok (.getfield 16, 3) := by decide +kernel
theorem d_M_workOut_37 : decode b_M_workOut 37 = .ok (.iload_n 1, 1) := by decide +kernel
theorem d_M_workOut_38 : decode b_M_workOut 38 = .ok (.iaload, 1) := by decide +kernel
theorem d_M_workOut_39 : decode b_M_workOut 39 = .ok (.ifCond .ne 8, 3) := by decide +kernel
theorem d_M_workOut_42 : decode b_M_workOut 42 = .ok (.bipush (-3), 2) := by decide +kernel
theorem d_M_workOut_44 : decode b_M_workOut 44 = .ok (.goto 4, 3) := by decide +kernel
theorem d_M_workOut_47 : decode b_M_workOut 47 = .ok (.iconst 0, 1) := by decide +kernel
theorem d_M_workOut_48 : decode b_M_workOut 48 = .ok (.iastore, 1) := by decide +kernel
theorem d_M_workOut_49 : decode b_M_workOut 49 = .ok (.iinc 1 1, 3) := by decide +kernel
theorem d_M_workOut_52 : decode b_M_workOut 52 = .ok (.goto (-42), 3) := by decide +kernel
theorem d_M_workOut_55 : decode b_M_workOut 55 = .ok (.iconst 1, 1) := by decide +kernel
theorem d_M_workOut_56 : decode b_M_workOut 56 = .ok (.istore_n 1, 1) := by decide +kernel
theorem d_M_workOut_57 : decode b_M_workOut 57 = .ok (.iconst 0, 1) := by decide +kernel
theorem d_M_workOut_58 : decode b_M_workOut 58 = .ok (.istore_n 2, 1) := by decide +kernel
theorem d_M_workOut_59 : decode b_M_workOut 59 = .ok (.iload_n 2, 1) := by decide +kernel
theorem d_M_workOut_60 : decode b_M_workOut 60 = .ok (.sipush 432, 3) := by decide +kernel
theorem d_M_workOut_63 : decode b_M_workOut 63 = .ok (.if_icmp .ge 103, 3) := by decide +kernel
theorem d_M_workOut_66 : decode b_M_workOut 66 = .ok (.iload_n 1, 1) := by decide +kernel
theorem d_M_workOut_67 : decode b_M_workOut 67 = .ok (.ifCond .eq 99, 3) := by decide +kernel
theorem d_M_workOut_70 : decode b_M_workOut 70 = .ok (.iconst 0, 1) := by decide +kernel
theorem d_M_workOut_71 : decode b_M_workOut 71 = .ok (.istore_n 3, 1) := by decide +kernel
theorem d_M_workOut_72 : decode b_M_workOut 72 = .ok (.iconst 0, 1) := by decide +kernel
theorem d_M_workOut_73 : decode b_M_workOut 73 = .ok (.istore 4, 2) := by decide +kernel
theorem d_M_workOut_75 : decode b_M_workOut 75 = .ok (.iload 4, 2) := by decide +kernel
theorem d_M_workOut_77 : decode b_M_workOut 77 = .ok (.sipush 432, 3) := by decide +kernel
theorem d_M_workOut_80 : decode b_M_workOut 80 = .ok (.if_icmp .ge 66, 3) := by decide +kernel
theorem d_M_workOut_83 : decode b_M_workOut 83 = .ok (.aload_n 0, 1) := by decide +kernel
theorem d_M_workOut_84 : decode b_M_workOut 84 = .ok (.getfield 16, 3) := by decide +kernel
theorem d_M_workOut_87 : decode b_M_workOut 87 = .ok (.iload 4, 2) := by decide +kernel
theorem d_M_workOut_89 : decode b_M_workOut 89 = .ok (.iaload, 1) := by decide +kernel
theorem d_M_workOut_90 : decode b_M_workOut 90 = .ok (.ifCond .ne 50, 3) := by decide +kernel
theorem d_M_workOut_93 : decode b_M_workOut 93 = .ok (.aload_n 0, 1) := by decide +kernel
theorem d_M_workOut_94 : decode b_M_workOut 94 = .ok (.getfield 16, 3) := by decide +kernel
theorem d_M_workOut_97 : decode b_M_workOut 97 = .ok (.iload 4, 2) := by decide +kernel
theorem d_M_workOut_99 : decode b_M_workOut 99 = .ok (.aload_n 0, 1) := by decide +kernel
theorem d_M_workOut_100 : decode b_M_workOut 100 = .ok (.iload 4, 2) := by decide +kernel
theorem d_M_workOut_102 : decode b_M_workOut 102 = .ok (.iload_n 2, 1) := by decide +kernel
theorem d_M_workOut_103 : decode b_M_workOut 103 = .ok (.invokevirtual 53, 3) := by decide +kernel
theorem d_M_workOut_106 : decode b_M_workOut 106 = .ok (.iastore, 1) := by decide +kernel
theorem d_M_workOut_107 : decode b_M_workOut 107 = .ok (.aload_n 0, 1) := by decide +kernel
theorem d_M_workOut_108 : decode b_M_workOut 108 = .ok (.getfield 20, 3) := by decide +kernel
theorem d_M_workOut_111 : decode b_M_workOut 111 = .ok (.iload 4, 2) := by decide +kernel
theorem d_M_workOut_113 : decode b_M_workOut 113 = .ok (.aload_n 0, 1) := by decide +kernel
theorem d_M_workOut_114 : decode b_M_workOut 114 = .ok (.getfield 16, 3) := by decide +kernel
theorem d_M_workOut_117 : decode b_M_workOut 117 = .ok (.iload 4, 2) := by decide +kernel
theorem d_M_workOut_119 : decode b_M_workOut 119 = .ok (.iaload, 1) := by decide +kernel
theorem d_M_workOut_120 : decode b_M_workOut 120 = .ok (.ifCond .ne 8, 3) := by decide +kernel
theorem d_M_workOut_123 : decode b_M_workOut 123 = .ok (.bipush (-3), 2) := by decide +kernel
theorem d_M_workOut_125 : decode b_M_workOut 125 = .ok (.goto 4, 3) := by decide +kernel
theorem d_M_workOut_128 : decode b_M_workOut 128 = .ok (.iload_n 2, 1) := by decide +kernel
theorem d_M_workOut_129 : decode b_M_workOut 129 = .ok (.iastore, 1) := by decide +kernel
theorem d_M_workOut_130 : decode b_M_workOut 130 = .ok (.iload_n 3, 1) := by decide +kernel
theorem d_M_workOut_131 : decode b_M_workOut 131 = .ok (.aload_n 0, 1) := by decide +kernel
theorem d_M_workOut_132 : decode b_M_workOut 132 = .ok (.getfield 16, 3) := by decide +kernel
theorem d_M_workOut_135 : decode b_M_workOut 135 = .ok (.iload 4, 2) := by decide +kernel
theorem d_M_workOut_137 : decode b_M_workOut 137 = .ok (.iaload, 1) := by decide +kernel
theorem d_M_workOut_138 : decode b_M_workOut 138 = .ok (.iadd, 1) := by decide +kernel
theorem d_M_workOut_139 : decode b_M_workOut 139 = .ok (.istore_n 3, 1) := by decide +kernel
theorem d_M_workOut_140 : decode b_M_workOut 140 = .ok (.iinc 4 1, 3) := by decide +kernel
theorem d_M_workOut_143 : decode b_M_workOut 143 = .ok (.goto (-68), 3) := by decide +kernel
theorem d_M_workOut_146 : decode b_M_workOut 146 = .ok (.iload_n 2, 1) := by decide +kernel
theorem d_M_workOut_147 : decode b_M_workOut 147 = .ok (.ifCond .eq 7, 3) := by decide +kernel
theorem d_M_workOut_150 : decode b_M_workOut 150 = .ok (.iload_n 3, 1) := by decide +kernel
theorem d_M_workOut_151 : decode b_M_workOut 151 = .ok (.ifCond .le 7, 3) := by decide +kernel
theorem d_M_workOut_154 : decode b_M_workOut 154 = .ok (.iconst 1, 1) := by decide +kernel
theorem d_M_workOut_155 : decode b_M_workOut 155 = .ok (.goto 4, 3) := by decide +kernel
theorem d_M_workOut_158 : decode b_M_workOut 158 = .ok (.iconst 0, 1) := by decide +kernel
theorem d_M_workOut_159 : decode b_M_workOut 159 = .ok (.istore_n 1, 1) := by decide +kernel
theorem d_M_workOut_160 : decode b_M_workOut 160 = .ok (.iinc 2 1, 3) := by decide +kernel
theorem d_M_workOut_163 : decode b_M_workOut 163 = .ok (.goto (-104), 3) := by decide +kernel
theorem d_M_workOut_166 : decode b_M_workOut 166 = .ok (.aload_n 0, 1) := by decide +kernel
theorem d_M_workOut_167 : decode b_M_workOut 167 = .ok (.iconst 1, 1) := by decide +kernel
theorem d_M_workOut_168 : decode b_M_workOut 168 = .ok (.putfield 38, 3) := by decide +kernel
theorem d_M_workOut_171 : decode b_M_workOut 171 = .ok (.return_, 1) := by decide +kernel
theorem d_M_canMove_0 : decode b_M_canMove 0 = .ok (.aload_n 0, 1) := by decide +kernel
theorem d_M_canMove_1 : decode b_M_canMove 1 = .ok (.iload_n 1, 1) := by decide +kernel
theorem d_M_canMove_2 : decode b_M_canMove 2 = .ok (.invokevirtual 50, 3) := by decide +kernel
theorem d_M_canMove_5 : decode b_M_canMove 5 = .ok (.ifCond .eq 5, 3) := by decide +kernel
theorem d_M_canMove_8 : decode b_M_canMove 8 = .ok (.iconst 0, 1) := by decide +kernel
theorem d_M_canMove_9 : decode b_M_canMove 9 = .ok (.ireturn, 1) := by decide +kernel
theorem d_M_canMove_10 : decode b_M_canMove 10 = .ok (.iconst 0, 1) := by decide +kernel
theorem d_M_canMove_11 : decode b_M_canMove 11 = .ok (.istore_n 2, 1) := by decide +kernel
theorem d_M_canMove_12 : decode b_M_canMove 12 = .ok (.iload_n 2, 1) := by decide +kernel
theorem d_M_canMove_13 : decode b_M_canMove 13 = .ok (.bipush 12, 2) := by decide +kernel
theorem d_M_canMove_15 : decode b_M_canMove 15 = .ok (.if_icmp .gt 20, 3) := by decide +kernel
theorem d_M_canMove_18 : decode b_M_canMove 18 = .ok (.aload_n 0, 1) := by decide +kernel
theorem d_M_canMove_19 : decode b_M_canMove 19 = .ok (.iload_n 1, 1) := by decide +kernel
theorem d_M_canMove_20 : decode b_M_canMove 20 = .ok (.iload_n 2, 1) := by decide +kernel
theorem d_M_canMove_21 : decode b_M_canMove 21 = .ok (.invokevirtual 46, 3) := by decide +kernel
theorem d_M_canMove_24 : decode b_M_canMove 24 = .ok (.ifCond .lt 5, 3) := by decide +kernel
theorem d_M_canMove_27 : decode b_M_canMove 27 = .ok (.iconst 1, 1) := by decide +kernel
theorem d_M_canMove_28 : decode b_M_canMove 28 = .ok (.ireturn, 1) := by decide +kernel
theorem d_M_canMove_29 : decode b_M_canMove 29 = .ok (.iinc 2 1, 3) := by decide +kernel
theorem d_M_canMove_32 : decode b_M_canMove 32 = .ok (.goto (-20), 3) := by decide +kernel
theorem d_M_canMove_35 : decode b_M_canMove 35 = .ok (.iconst 0, 1) := by decide +kernel
theorem d_M_canMove_36 : decode b_M_canMove 36 = .ok (.ireturn, 1) := by decide +kernel
theorem d_M_play_0 : decode b_M_play 0 = .ok (.aload_n 0, 1) := by decide +kernel
theorem d_M_play_1 : decode b_M_play 1 = .ok (.aload_n 0, 1) := by decide +kernel
theorem d_M_play_2 : decode b_M_play 2 = .ok (.getfield 31, 3) := by decide +kernel
theorem d_M_play_5 : decode b_M_play 5 = .ok (.invokevirtual 50, 3) := by decide +kernel
theorem d_M_play_8 : decode b_M_play 8 = .ok (.ifCond .eq 6, 3) := by decide +kernel
theorem d_M_play_11 : decode b_M_play 11 = .ok (.bipush (-2), 2) := by decide +kernel
theorem d_M_play_13 : decode b_M_play 13 = .ok (.ireturn, 1) := by decide +kernel
theorem d_M_play_14 : decode b_M_play 14 = .ok (.aload_n 0, 1) := by decide +kernel
theorem d_M_play_15 : decode b_M_play 15 = .ok (.aload_n 0, 1) := by decide +kernel
theorem d_M_play_16 : decode b_M_play 16 = .ok (.getfield 31, 3) := by decide +kernel
theorem d_M_play_19 : decode b_M_play 19 = .ok (.iload_n 1, 1) := by decide +kernel
theorem d_M_play_20 : decode b_M_play 20 = .ok (.invokevirtual 46, 3) := by decide +kernel
theorem d_M_play_23 : decode b_M_play 23 = .ok (.istore_n 2, 1) := by decide +kernel
theorem d_M_play_24 : decode b_M_play 24 = .ok (.iload_n 2, 1) := by decide +kernel
theorem d_M_play_25 : decode b_M_play 25 = .ok (.ifCond .ge 6, 3) := by decide +kernel
theorem d_M_play_28 : decode b_M_play 28 = .ok (.bipush (-2), 2) := by decide +kernel
theorem d_M_play_30 : decode b_M_play 30 = .ok (.ireturn, 1) := by decide +kernel
theorem d_M_play_31 : decode b_M_play 31 = .ok (.aload_n 0, 1) := by decide +kernel
theorem d_M_play_32 : decode b_M_play 32 = .ok (.iload_n 2, 1) := by decide +kernel
theorem d_M_play_33 : decode b_M_play 33 = .ok (.putfield 31, 3) := by decide +kernel
theorem d_M_play_36 : decode b_M_play 36 = .ok (.iconst 0, 1) := by decide +kernel
theorem d_M_play_37 : decode b_M_play 37 = .ok (.ireturn, 1) := by decide +kernel
theorem d_M_board_0 : decode b_M_board 0 = .ok (.aload_n 0, 1) := by decide +kernel
theorem d_M_board_1 : decode b_M_board 1 = .ok (.getfield 31, 3) := by decide +kernel
theorem d_M_board_4 : decode b_M_board 4 = .ok (.bipush 72, 2) := by decide +kernel
theorem d_M_board_6 : decode b_M_board 6 = .ok (.idiv, 1) := by decide +kernel
theorem d_M_board_7 : decode b_M_board 7 = .ok (.bipush 8, 2) := by decide +kernel
theorem d_M_board_9 : decode b_M_board 9 = .ok (.aload_n 0, 1) := by decide +kernel
theorem d_M_board_10 : decode b_M_board 10 = .ok (.getfield 31, 3) := by decide +kernel
theorem d_M_board_13 : decode b_M_board 13 = .ok (.bipush 12, 2) := by decide +kernel
theorem d_M_board_15 : decode b_M_board 15 = .ok (.idiv, 1) := by decide +kernel
theorem d_M_board_16 : decode b_M_board 16 = .ok (.bipush 6, 2) := by decide +kernel
theorem d_M_board_18 : decode b_M_board 18 = .ok (.irem, 1) := by decide +kernel
theorem d_M_board_19 : decode b_M_board 19 = .ok (.imul, 1) := by decide +kernel
theorem d_M_board_20 : decode b_M_board 20 = .ok (.iadd, 1) := by decide +kernel
theorem d_M_board_21 : decode b_M_board 21 = .ok (.bipush 64, 2) := by decide +kernel
theorem d_M_board_23 : decode b_M_board 23 = .ok (.aload_n 0, 1) := by decide +kernel
theorem d_M_board_24 : decode b_M_board 24 = .ok (.getfield 31, 3) := by decide +kernel
theorem d_M_board_27 : decode b_M_board 27 = .ok (.iconst 2, 1) := by decide +kernel
theorem d_M_board_28 : decode b_M_board 28 = .ok (.idiv, 1) := by decide +kernel
theorem d_M_board_29 : decode b_M_board 29 = .ok (.bipush 6, 2) := by decide +kernel
theorem d_M_board_31 : decode b_M_board 31 = .ok (.irem, 1) := by decide +kernel
theorem d_M_board_32 : decode b_M_board 32 = .ok (.imul, 1) := by decide +kernel
theorem d_M_board_33 : decode b_M_board 33 = .ok (.iadd, 1) := by decide +kernel
theorem d_M_board_34 : decode b_M_board 34 = .ok (.sipush 512, 3) := by decide +kernel
theorem d_M_board_37 : decode b_M_board 37 = .ok (.aload_n 0, 1) := by decide +kernel
theorem d_M_board_38 : decode b_M_board 38 = .ok (.getfield 31, 3) := by decide +kernel
theorem d_M_board_41 : decode b_M_board 41 = .ok (.iconst 2, 1) := by decide +kernel
theorem d_M_board_42 : decode b_M_board 42 = .ok (.irem, 1) := by decide +kernel
theorem d_M_board_43 : decode b_M_board 43 = .ok (.imul, 1) := by decide +kernel
theorem d_M_board_44 : decode b_M_board 44 = .ok (.iadd, 1) := by decide +kernel
theorem d_M_board_45 : decode b_M_board 45 = .ok (.ireturn, 1) := by decide +kernel
theorem d_M_outcome_0 : decode b_M_outcome 0 = .ok (.aload_n 0, 1) := by decide +kernel
theorem d_M_outcome_1 : decode b_M_outcome 1 = .ok (.iload_n 1, 1) := by decide +kernel
theorem d_M_outcome_2 : decode b_M_outcome 2 = .ok (.invokevirtual 34, 3) := by decide +kernel
theorem d_M_outcome_5 : decode b_M_outcome 5 = .ok (.ifCond .ne 19, 3) := by decide +kernel
theorem d_M_outcome_8 : decode b_M_outcome 8 = .ok (.aload_n 0, 1) := by decide +kernel
theorem d_M_outcome_9 : decode b_M_outcome 9 = .ok (.iload_n 2, 1) := by decide +kernel
theorem d_M_outcome_10 : decode b_M_outcome 10 = .ok (.invokevirtual 34, 3) := by decide +kernel
theorem d_M_outcome_13 : decode b_M_outcome 13 = .ok (.ifCond .ne 11, 3) := by decide +kernel
theorem d_M_outcome_16 : decode b_M_outcome 16 = .ok (.aload_n 0, 1) := by decide +kernel
theorem d_M_outcome_17 : decode b_M_outcome 17 = .ok (.iload_n 3, 1) := by decide +kernel
theorem d_M_outcome_18 : decode b_M_outcome 18 = .ok (.invokevirtual 34, 3) := by decide +kernel
theorem d_M_outcome_21 : decode b_M_outcome 21 = .ok (.ifCond .eq 5, 3) := by decide +kernel
theorem d_M_outcome_24 : decode b_M_outcome 24 = .ok (.iconst (-1), 1) := by decide +kernel
theorem d_M_outcome_25 : decode b_M_outcome 25 = .ok (.ireturn, 1) := by decide +kernel
theorem d_M_outcome_26 : decode b_M_outcome 26 = .ok (.aload_n 0, 1) := by decide +kernel
theorem d_M_outcome_27 : decode b_M_outcome 27 = .ok (.invokevirtual 56, 3) := by decide +kernel
theorem d_M_outcome_30 : decode b_M_outcome 30 = .ok (.aload_n 0, 1) := by decide +kernel
theorem d_M_outcome_31 : decode b_M_outcome 31 = .ok (.getfield 16, 3) := by decide +kernel
theorem d_M_outcome_34 : decode b_M_outcome 34 = .ok (.aload_n 0, 1) := by decide +kernel
theorem d_M_outcome_35 : decode b_M_outcome 35 = .ok (.iload_n 1, 1) := by decide +kernel
theorem d_M_outcome_36 : decode b_M_outcome 36 = .ok (.iload_n 2, 1) := by decide +kernel
theorem d_M_outcome_37 : decode b_M_outcome 37 = .ok (.iload_n 3, 1) := by decide +kernel
theorem d_M_outcome_38 : decode b_M_outcome 38 = .ok (.iload 4, 2) := by decide +kernel
theorem d_M_outcome_40 : decode b_M_outcome 40 = .ok (.invokevirtual 27, 3) := by decide +kernel
theorem d_M_outcome_43 : decode b_M_outcome 43 = .ok (.iaload, 1) := by decide +kernel
theorem d_M_outcome_44 : decode b_M_outcome 44 = .ok (.ireturn, 1) := by decide +kernel
theorem d_M_length_0 : decode b_M_length 0 = .ok (.aload_n 0, 1) := by decide +kernel
theorem d_M_length_1 : decode b_M_length 1 = .ok (.iload_n 1, 1) := by decide +kernel
theorem d_M_length_2 : decode b_M_length 2 = .ok (.invokevirtual 34, 3) := by decide +kernel
theorem d_M_length_5 : decode b_M_length 5 = .ok (.ifCond .ne 19, 3) := by decide +kernel
theorem d_M_length_8 : decode b_M_length 8 = .ok (.aload_n 0, 1) := by decide +kernel
theorem d_M_length_9 : decode b_M_length 9 = .ok (.iload_n 2, 1) := by decide +kernel
theorem d_M_length_10 : decode b_M_length 10 = .ok (.invokevirtual 34, 3) := by decide +kernel
theorem d_M_length_13 : decode b_M_length 13 = .ok (.ifCond .ne 11, 3) := by decide +kernel
theorem d_M_length_16 : decode b_M_length 16 = .ok (.aload_n 0, 1) := by decide +kernel
theorem d_M_length_17 : decode b_M_length 17 = .ok (.iload_n 3, 1) := by decide +kernel
theorem d_M_length_18 : decode b_M_length 18 = .ok (.invokevirtual 34, 3) := by decide +kernel
theorem d_M_length_21 : decode b_M_length 21 = .ok (.ifCond .eq 5, 3) := by decide +kernel
theorem d_M_length_24 : decode b_M_length 24 = .ok (.iconst (-1), 1) := by decide +kernel
theorem d_M_length_25 : decode b_M_length 25 = .ok (.ireturn, 1) := by decide +kernel
theorem d_M_length_26 : decode b_M_length 26 = .ok (.aload_n 0, 1) := by decide +kernel
theorem d_M_length_27 : decode b_M_length 27 = .ok (.invokevirtual 56, 3) := by decide +kernel
theorem d_M_length_30 : decode b_M_length 30 = .ok (.aload_n 0, 1) := by decide +kernel
theorem d_M_length_31 : decode b_M_length 31 = .ok (.getfield 20, 3) := by decide +kernel
theorem d_M_length_34 : decode b_M_length 34 = .ok (.aload_n 0, 1) := by decide +kernel
theorem d_M_length_35 : decode b_M_length 35 = .ok (.iload_n 1, 1) := by decide +kernel
theorem d_M_length_36 : decode b_M_length 36 = .ok (.iload_n 2, 1) := by decide +kernel
theorem d_M_length_37 : decode b_M_length 37 = .ok (.iload_n 3, 1) := by decide +kernel
theorem d_M_length_38 : decode b_M_length 38 = .ok (.iload 4, 2) := by decide +kernel
theorem d_M_length_40 : decode b_M_length 40 = .ok (.invokevirtual 27, 3) := by decide +kernel
theorem d_M_length_43 : decode b_M_length 43 = .ok (.iaload, 1) := by decide +kernel
theorem d_M_length_44 : decode b_M_length 44 = .ok (.ireturn, 1) := by decide +kernel
theorem d_M_best_0 : decode b_M_best 0 = .ok (.aload_n 0, 1) := by decide +kernel
theorem d_M_best_1 : decode b_M_best 1 = .ok (.aload_n 0, 1) := by decide +kernel
theorem d_M_best_2 : decode b_M_best 2 = .ok (.getfield 31, 3) := by decide +kernel
theorem d_M_best_5 : decode b_M_best 5 = .ok (.invokevirtual 59, 3) := by decide +kernel
theorem d_M_best_8 : decode b_M_best 8 = .ok (.ifCond .ne 6, 3) := by decide +kernel
theorem d_M_best_11 : decode b_M_best 11 = .ok (.bipush (-2), 2) := by decide +kernel
theorem d_M_best_13 : decode b_M_best 13 = .ok (.ireturn, 1) := by decide +kernel
theorem d_M_best_14 : decode b_M_best 14 = .ok (.aload_n 0, 1) := by decide +kernel
theorem d_M_best_15 : decode b_M_best 15 = .ok (.invokevirtual 56, 3) := by decide +kernel
theorem d_M_best_18 : decode b_M_best 18 = .ok (.iconst 0, 1) := by decide +kernel
theorem d_M_best_19 : decode b_M_best 19 = .ok (.istore_n 1, 1) := by decide +kernel
theorem d_M_best_20 : decode b_M_best 20 = .ok (.iload_n 1, 1) := by decide +kernel
theorem d_M_best_21 : decode b_M_best 21 = .ok (.bipush 12, 2) := by decide +kernel
theorem d_M_best_23 : decode b_M_best 23 = .ok (.if_icmp .gt 75, 3) := by decide +kernel
theorem d_M_best_26 : decode b_M_best 26 = .ok (.aload_n 0, 1) := by decide +kernel
theorem d_M_best_27 : decode b_M_best 27 = .ok (.aload_n 0, 1) := by decide +kernel
theorem d_M_best_28 : decode b_M_best 28 = .ok (.getfield 31, 3) := by decide +kernel
theorem d_M_best_31 : decode b_M_best 31 = .ok (.iload_n 1, 1) := by decide +kernel
theorem d_M_best_32 : decode b_M_best 32 = .ok (.invokevirtual 46, 3) := by decide +kernel
theorem d_M_best_35 : decode b_M_best 35 = .ok (.istore_n 2, 1) := by decide +kernel
theorem d_M_best_36 : decode b_M_best 36 = .ok (.iload_n 2, 1) := by decide +kernel
theorem d_M_best_37 : decode b_M_best 37 = .ok (.ifCond .lt 55, 3) := by decide +kernel
theorem d_M_best_40 : decode b_M_best 40 = .ok (.aload_n 0, 1) := by decide +kernel
theorem d_M_best_41 : decode b_M_best 41 = .ok (.getfield 16, 3) := by decide +kernel
theorem d_M_best_44 : decode b_M_best 44 = .ok (.iload_n 2, 1) := by decide +kernel
theorem d_M_best_45 : decode b_M_best 45 = .ok (.iaload, 1) := by decide +kernel
theorem d_M_best_46 : decode b_M_best 46 = .ok (.aload_n 0, 1) := by decide +kernel
theorem d_M_best_47 : decode b_M_best 47 = .ok (.getfield 16, 3) := by decide +kernel
theorem d_M_best_50 : decode b_M_best 50 = .ok (.aload_n 0, 1) := by decide +kernel
theorem d_M_best_51 : decode b_M_best 51 = .ok (.getfield 31, 3) := by decide +kernel
theorem d_M_best_54 : decode b_M_best 54 = .ok (.iaload, 1) := by decide +kernel
theorem d_M_best_55 : decode b_M_best 55 = .ok (.if_icmp .ne 37, 3) := by decide +kernel
theorem d_M_best_58 : decode b_M_best 58 = .ok (.aload_n 0, 1) := by decide +kernel
theorem d_M_best_59 : decode b_M_best 59 = .ok (.getfield 16, 3) := by decide +kernel
theorem d_M_best_62 : decode b_M_best 62 = .ok (.aload_n 0, 1) := by decide +kernel
theorem d_M_best_63 : decode b_M_best 63 = .ok (.getfield 31, 3) := by decide +kernel
theorem d_M_best_66 : decode b_M_best 66 = .ok (.iaload, 1) := by decide +kernel
theorem d_M_best_67 : decode b_M_best 67 = .ok (.ifCond .eq 23, 3) := by decide +kernel
theorem d_M_best_70 : decode b_M_best 70 = .ok (.aload_n 0, 1) := by decide +kernel
theorem d_M_best_71 : decode b_M_best 71 = .ok (.getfield 20, 3) := by decide +kernel
theorem d_M_best_74 : decode b_M_best 74 = .ok (.iload_n 2, 1) := by decide +kernel
theorem d_M_best_75 : decode b_M_best 75 = .ok (.iaload, 1) := by decide +kernel
theorem d_M_best_76 : decode b_M_best 76 = .ok (.aload_n 0, 1) := by decide +kernel
theorem d_M_best_77 : decode b_M_best 77 = .ok (.getfield 20, 3) := by decide +kernel
theorem d_M_best_80 : decode b_M_best 80 = .ok (.aload_n 0, 1) := by decide +kernel
theorem d_M_best_81 : decode b_M_best 81 = .ok (.getfield 31, 3) := by decide +kernel
theorem d_M_best_84 : decode b_M_best 84 = .ok (.iaload, 1) := by decide +kernel
theorem d_M_best_85 : decode b_M_best 85 = .ok (.iconst 1, 1) := by decide +kernel
theorem d_M_best_86 : decode b_M_best 86 = .ok (.isub, 1) := by decide +kernel
theorem d_M_best_87 : decode b_M_best 87 = .ok (.if_icmp .ne 5, 3) := by decide +kernel
theorem d_M_best_90 : decode b_M_best 90 = .ok (.iload_n 1, 1) := by decide +kernel
theorem d_M_best_91 : decode b_M_best 91 = .ok (.ireturn, 1) := by decide +kernel
theorem d_M_best_92 : decode b_M_best 92 = .ok (.iinc 1 1, 3) := by decide +kernel
theorem d_M_best_95 : decode b_M_best 95 = .ok (.goto (-75), 3) := by decide +kernel
theorem d_M_best_98 : decode b_M_best 98 = .ok (.bipush (-2), 2) := by decide +kernel
theorem d_M_best_100 : decode b_M_best 100 = .ok (.ireturn, 1) := by decide +kernel
theorem d_M_total_0 : decode b_M_total 0 = .ok (.aload_n 0, 1) := by decide +kernel
theorem d_M_total_1 : decode b_M_total 1 = .ok (.invokevirtual 56, 3) := by decide +kernel
theorem d_M_total_4 : decode b_M_total 4 = .ok (.iconst 0, 1) := by decide +kernel
theorem d_M_total_5 : decode b_M_total 5 = .ok (.istore_n 2, 1) := by decide +kernel
theorem d_M_total_6 : decode b_M_total 6 = .ok (.iconst 0, 1) := by decide +kernel
theorem d_M_total_7 : decode b_M_total 7 = .ok (.istore_n 3, 1) := by decide +kernel
theorem d_M_total_8 : decode b_M_total 8 = .ok (.iload_n 3, 1) := by decide +kernel
theorem d_M_total_9 : decode b_M_total 9 = .ok (.sipush 432, 3) := by decide +kernel
theorem d_M_total_12 : decode b_M_total 12 = .ok (.if_icmp .ge 22, 3) := by decide +kernel
theorem d_M_total_15 : decode b_M_total 15 = .ok (.aload_n 0, 1) := by decide +kernel
theorem d_M_total_16 : decode b_M_total 16 = .ok (.getfield 16, 3) := by decide +kernel
theorem d_M_total_19 : decode b_M_total 19 = .ok (.iload_n 3, 1) := by decide +kernel
theorem d_M_total_20 : decode b_M_total 20 = .ok (.iaload, 1) := by decide +kernel
theorem d_M_total_21 : decode b_M_total 21 = .ok (.iload_n 1, 1) := by decide +kernel
theorem d_M_total_22 : decode b_M_total 22 = .ok (.if_icmp .ne 6, 3) := by decide +kernel
theorem d_M_total_25 : decode b_M_total 25 = .ok (.iinc 2 1, 3) := by decide +kernel
theorem d_M_total_28 : decode b_M_total 28 = .ok (.iinc 3 1, 3) := by decide +kernel
theorem d_M_total_31 : decode b_M_total 31 = .ok (.goto (-23), 3) := by decide +kernel
theorem d_M_total_34 : decode b_M_total 34 = .ok (.iload_n 2, 1) := by decide +kernel
theorem d_M_total_35 : decode b_M_total 35 = .ok (.ireturn, 1) := by decide +kernel
theorem d_M_longest_0 : decode b_M_longest 0 = .ok (.aload_n 0, 1) := by decide +kernel
theorem d_M_longest_1 : decode b_M_longest 1 = .ok (.invokevirtual 56, 3) := by decide +kernel
theorem d_M_longest_4 : decode b_M_longest 4 = .ok (.bipush (-3), 2) := by decide +kernel
theorem d_M_longest_6 : decode b_M_longest 6 = .ok (.istore_n 2, 1) := by decide +kernel
theorem d_M_longest_7 : decode b_M_longest 7 = .ok (.iconst 0, 1) := by decide +kernel
theorem d_M_longest_8 : decode b_M_longest 8 = .ok (.istore_n 3, 1) := by decide +kernel
theorem d_M_longest_9 : decode b_M_longest 9 = .ok (.iload_n 3, 1) := by decide +kernel
theorem d_M_longest_10 : decode b_M_longest 10 = .ok (.sipush 432, 3) := by decide +kernel
theorem d_M_longest_13 : decode b_M_longest 13 = .ok (.if_icmp .ge 36, 3) := by decide +kernel
theorem d_M_longest_16 : decode b_M_longest 16 = .ok (.aload_n 0, 1) := by decide +kernel
theorem d_M_longest_17 : decode b_M_longest 17 = .ok (.getfield 16, 3) := by decide +kernel
theorem d_M_longest_20 : decode b_M_longest 20 = .ok (.iload_n 3, 1) := by decide +kernel
theorem d_M_longest_21 : decode b_M_longest 21 = .ok (.iaload, 1) := by decide +kernel
theorem d_M_longest_22 : decode b_M_longest 22 = .ok (.iload_n 1, 1) := by decide +kernel
theorem d_M_longest_23 : decode b_M_longest 23 = .ok (.if_icmp .ne 20, 3) := by decide +kernel
theorem d_M_longest_26 : decode b_M_longest 26 = .ok (.aload_n 0, 1) := by decide +kernel
theorem d_M_longest_27 : decode b_M_longest 27 = .ok (.getfield 20, 3) := by decide +kernel
theorem d_M_longest_30 : decode b_M_longest 30 = .ok (.iload_n 3, 1) := by decide +kernel
theorem d_M_longest_31 : decode b_M_longest 31 = .ok (.iaload, 1) := by decide +kernel
theorem d_M_longest_32 : decode b_M_longest 32 = .ok (.iload_n 2, 1) := by decide +kernel
theorem d_M_longest_33 : decode b_M_longest 33 = .ok (.if_icmp .le 10, 3) := by decide +kernel
theorem d_M_longest_36 : decode b_M_longest 36 = .ok (.aload_n 0, 1) := by decide +kernel
theorem d_M_longest_37 : decode b_M_longest 37 = .ok (.getfield 20, 3) := by decide +kernel
theorem d_M_longest_40 : decode b_M_longest 40 = .ok (.iload_n 3, 1) := by decide +kernel
theorem d_M_longest_41 : decode b_M_longest 41 = .ok (.iaload, 1) := by decide +kernel
theorem d_M_longest_42 : decode b_M_longest 42 = .ok (.istore_n 2, 1) := by decide +kernel
theorem d_M_longest_43 : decode b_M_longest 43 = .ok (.iinc 3 1, 3) := by decide +kernel
theorem d_M_longest_46 : decode b_M_longest 46 = .ok (.goto (-37), 3) := by decide +kernel
theorem d_M_longest_49 : decode b_M_longest 49 = .ok (.iload_n 2, 1) := by decide +kernel
theorem d_M_longest_50 : decode b_M_longest 50 = .ok (.ireturn, 1) := by decide +kernel
theorem d_L_cell_0 : decode b_L_cell 0 = .ok (.iload_n 1, 1) := by decide +kernel
theorem d_L_cell_1 : decode b_L_cell 1 = .ok (.aload_n 0, 1) := by decide +kernel
theorem d_L_cell_2 : decode b_L_cell 2 = .ok (.arraylength, 1) := by decide +kernel
theorem d_L_cell_3 : decode b_L_cell 3 = .ok (.if_icmp .ge 9, 3) := by decide +kernel
theorem d_L_cell_6 : decode b_L_cell 6 = .ok (.aload_n 0, 1) := by decide +kernel
theorem d_L_cell_7 : decode b_L_cell 7 = .ok (.iload_n 1, 1) := by decide +kernel
theorem d_L_cell_8 : decode b_L_cell 8 = .ok (.iaload, 1) := by decide +kernel
theorem d_L_cell_9 : decode b_L_cell 9 = .ok (.goto 4, 3) := by decide +kernel
theorem d_L_cell_12 : decode b_L_cell 12 = .ok (.iconst 0, 1) := by decide +kernel
theorem d_L_cell_13 : decode b_L_cell 13 = .ok (.ireturn, 1) := by decide +kernel
end
section
theorem d_law_0 : decode code 0 = .ok (.new 7, 3) := by decide +kernel
theorem d_law_3 : decode code 3 = .ok (.dup, 1) := by decide +kernel
theorem d_law_4 : decode code 4 = .ok (.aload_n 0, 1) := by decide +kernel
theorem d_law_5 : decode code 5 = .ok (.iconst 0, 1) := by decide +kernel
theorem d_law_6 : decode code 6 = .ok (.invokestatic 9, 3) := by decide +kernel
theorem d_law_9 : decode code 9 = .ok (.invokespecial 15, 3) := by decide +kernel
theorem d_law_12 : decode code 12 = .ok (.astore_n 1, 1) := by decide +kernel
theorem d_law_13 : decode code 13 = .ok (.new 18, 3) := by decide +kernel
theorem d_law_16 : decode code 16 = .ok (.dup, 1) := by decide +kernel
theorem d_law_17 : decode code 17 = .ok (.aload_n 0, 1) := by decide +kernel
theorem d_law_18 : decode code 18 = .ok (.iconst 0, 1) := by decide +kernel
theorem d_law_19 : decode code 19 = .ok (.invokestatic 9, 3) := by decide +kernel
theorem d_law_22 : decode code 22 = .ok (.invokespecial 20, 3) := by decide +kernel
theorem d_law_25 : decode code 25 = .ok (.astore_n 2, 1) := by decide +kernel
theorem d_law_26 : decode code 26 = .ok (.iconst 1, 1) := by decide +kernel
theorem d_law_27 : decode code 27 = .ok (.istore_n 3, 1) := by decide +kernel
theorem d_law_28 : decode code 28 = .ok (.iload_n 3, 1) := by decide +kernel
theorem d_law_29 : decode code 29 = .ok (.aload_n 0, 1) := by decide +kernel
theorem d_law_30 : decode code 30 = .ok (.arraylength, 1) := by decide +kernel
theorem d_law_31 : decode code 31 = .ok (.iconst 5, 1) := by decide +kernel
theorem d_law_32 : decode code 32 = .ok (.isub, 1) := by decide +kernel
theorem d_law_33 : decode code 33 = .ok (.if_icmp .gt 479, 3) := by decide +kernel
theorem d_law_36 : decode code 36 = .ok (.aload_n 0, 1) := by decide +kernel
theorem d_law_37 : decode code 37 = .ok (.iload_n 3, 1) := by decide +kernel
theorem d_law_38 : decode code 38 = .ok (.iaload, 1) := by decide +kernel
theorem d_law_39 : decode code 39 = .ok (.bipush 15, 2) := by decide +kernel
theorem d_law_41 : decode code 41 = .ok (.iand, 1) := by decide +kernel
theorem d_law_42 : decode code 42 = .ok (.tableswitch 464 0 9 #[54, 113, 162, 231, 254, 267, 336, 405, 418, 441], 54) := by decide +kernel
theorem d_law_96 : decode code 96 = .ok (.aload_n 1, 1) := by decide +kernel
theorem d_law_97 : decode code 97 = .ok (.aload_n 0, 1) := by decide +kernel
theorem d_law_98 : decode code 98 = .ok (.iload_n 3, 1) := by decide +kernel
theorem d_law_99 : decode code 99 = .ok (.iconst 1, 1) := by decide +kernel
theorem d_law_100 : decode code 100 = .ok (.iadd, 1) := by decide +kernel
theorem d_law_101 : decode code 101 = .ok (.iaload, 1) := by decide +kernel
theorem d_law_102 : decode code 102 = .ok (.aload_n 0, 1) := by decide +kernel
theorem d_law_103 : decode code 103 = .ok (.iload_n 3, 1) := by decide +kernel
theorem d_law_104 : decode code 104 = .ok (.iconst 2, 1) := by decide +kernel
theorem d_law_105 : decode code 105 = .ok (.iadd, 1) := by decide +kernel
theorem d_law_106 : decode code 106 = .ok (.iaload, 1) := by decide +kernel
theorem d_law_107 : decode code 107 = .ok (.aload_n 0, 1) := by decide +kernel
theorem d_law_108 : decode code 108 = .ok (.iload_n 3, 1) := by decide +kernel
theorem d_law_109 : decode code 109 = .ok (.iconst 3, 1) := by decide +kernel
theorem d_law_110 : decode code 110 = .ok (.iadd, 1) := by decide +kernel
theorem d_law_111 : decode code 111 = .ok (.iaload, 1) := by decide +kernel
theorem d_law_112 : decode code 112 = .ok (.ifCond .eq 7, 3) := by decide +kernel
theorem d_law_115 : decode code 115 = .ok (.iconst 1, 1) := by decide +kernel
theorem d_law_116 : decode code 116 = .ok (.goto 4, 3) := by decide +kernel
theorem d_law_119 : decode code 119 = .ok (.iconst 0, 1) := by decide +kernel
theorem d_law_120 : decode code 120 = .ok (.invokevirtual 21, 3) := by decide +kernel
theorem d_law_123 : decode code 123 = .ok (.aload_n 2, 1) := by decide +kernel
theorem d_law_124 : decode code 124 = .ok (.aload_n 0, 1) := by decide +kernel
theorem d_law_125 : decode code 125 = .ok (.iload_n 3, 1) := by decide +kernel
theorem d_law_126 : decode code 126 = .ok (.iconst 1, 1) := by decide +kernel
theorem d_law_127 : decode code 127 = .ok (.iadd, 1) := by decide +kernel
theorem d_law_128 : decode code 128 = .ok (.iaload, 1) := by decide +kernel
theorem d_law_129 : decode code 129 = .ok (.aload_n 0, 1) := by decide +kernel
theorem d_law_130 : decode code 130 = .ok (.iload_n 3, 1) := by decide +kernel
theorem d_law_131 : decode code 131 = .ok (.iconst 2, 1) := by decide +kernel
theorem d_law_132 : decode code 132 = .ok (.iadd, 1) := by decide +kernel
theorem d_law_133 : decode code 133 = .ok (.iaload, 1) := by decide +kernel
theorem d_law_134 : decode code 134 = .ok (.aload_n 0, 1) := by decide +kernel
theorem d_law_135 : decode code 135 = .ok (.iload_n 3, 1) := by decide +kernel
theorem d_law_136 : decode code 136 = .ok (.iconst 3, 1) := by decide +kernel
theorem d_law_137 : decode code 137 = .ok (.iadd, 1) := by decide +kernel
theorem d_law_138 : decode code 138 = .ok (.iaload, 1) := by decide +kernel
theorem d_law_139 : decode code 139 = .ok (.ifCond .eq 7, 3) := by decide +kernel
theorem d_law_142 : decode code 142 = .ok (.iconst 1, 1) := by decide +kernel
theorem d_law_143 : decode code 143 = .ok (.goto 4, 3) := by decide +kernel
theorem d_law_146 : decode code 146 = .ok (.iconst 0, 1) := by decide +kernel
theorem d_law_147 : decode code 147 = .ok (.invokevirtual 25, 3) := by decide +kernel
theorem d_law_150 : decode code 150 = .ok (.if_icmp .eq 356, 3) := by decide +kernel
theorem d_law_153 : decode code 153 = .ok (.iconst 0, 1) := by decide +kernel
theorem d_law_154 : decode code 154 = .ok (.ireturn, 1) := by decide +kernel
theorem d_law_155 : decode code 155 = .ok (.aload_n 1, 1) := by decide +kernel
theorem d_law_156 : decode code 156 = .ok (.aload_n 0, 1) := by decide +kernel
theorem d_law_157 : decode code 157 = .ok (.iload_n 3, 1) := by decide +kernel
theorem d_law_158 : decode code 158 = .ok (.iconst 1, 1) := by decide +kernel
theorem d_law_159 : decode code 159 = .ok (.iadd, 1) := by decide +kernel
theorem d_law_160 : decode code 160 = .ok (.iaload, 1) := by decide +kernel
theorem d_law_161 : decode code 161 = .ok (.aload_n 0, 1) := by decide +kernel
theorem d_law_162 : decode code 162 = .ok (.iload_n 3, 1) := by decide +kernel
theorem d_law_163 : decode code 163 = .ok (.iconst 2, 1) := by decide +kernel
theorem d_law_164 : decode code 164 = .ok (.iadd, 1) := by decide +kernel
theorem d_law_165 : decode code 165 = .ok (.iaload, 1) := by decide +kernel
theorem d_law_166 : decode code 166 = .ok (.ifCond .eq 7, 3) := by decide +kernel
theorem d_law_169 : decode code 169 = .ok (.iconst 1, 1) := by decide +kernel
theorem d_law_170 : decode code 170 = .ok (.goto 4, 3) := by decide +kernel
theorem d_law_173 : decode code 173 = .ok (.iconst 0, 1) := by decide +kernel
theorem d_law_174 : decode code 174 = .ok (.invokevirtual 26, 3) := by decide +kernel
theorem d_law_177 : decode code 177 = .ok (.aload_n 2, 1) := by decide +kernel
theorem d_law_178 : decode code 178 = .ok (.aload_n 0, 1) := by decide +kernel
theorem d_law_179 : decode code 179 = .ok (.iload_n 3, 1) := by decide +kernel
theorem d_law_180 : decode code 180 = .ok (.iconst 1, 1) := by decide +kernel
theorem d_law_181 : decode code 181 = .ok (.iadd, 1) := by decide +kernel
theorem d_law_182 : decode code 182 = .ok (.iaload, 1) := by decide +kernel
theorem d_law_183 : decode code 183 = .ok (.aload_n 0, 1) := by decide +kernel
theorem d_law_184 : decode code 184 = .ok (.iload_n 3, 1) := by decide +kernel
theorem d_law_185 : decode code 185 = .ok (.iconst 2, 1) := by decide +kernel
theorem d_law_186 : decode code 186 = .ok (.iadd, 1) := by decide +kernel
theorem d_law_187 : decode code 187 = .ok (.iaload, 1) := by decide +kernel
theorem d_law_188 : decode code 188 = .ok (.ifCond .eq 7, 3) := by decide +kernel
theorem d_law_191 : decode code 191 = .ok (.iconst 1, 1) := by decide +kernel
theorem d_law_192 : decode code 192 = .ok (.goto 4, 3) := by decide +kernel
theorem d_law_195 : decode code 195 = .ok (.iconst 0, 1) := by decide +kernel
theorem d_law_196 : decode code 196 = .ok (.invokevirtual 30, 3) := by decide +kernel
theorem d_law_199 : decode code 199 = .ok (.if_icmp .eq 307, 3) := by decide +kernel
theorem d_law_202 : decode code 202 = .ok (.iconst 0, 1) := by decide +kernel
theorem d_law_203 : decode code 203 = .ok (.ireturn, 1) := by decide +kernel
theorem d_law_204 : decode code 204 = .ok (.aload_n 1, 1) := by decide +kernel
theorem d_law_205 : decode code 205 = .ok (.aload_n 0, 1) := by decide +kernel
theorem d_law_206 : decode code 206 = .ok (.iload_n 3, 1) := by decide +kernel
theorem d_law_207 : decode code 207 = .ok (.iconst 1, 1) := by decide +kernel
theorem d_law_208 : decode code 208 = .ok (.iadd, 1) := by decide +kernel
theorem d_law_209 : decode code 209 = .ok (.iaload, 1) := by decide +kernel
theorem d_law_210 : decode code 210 = .ok (.aload_n 0, 1) := by decide +kernel
end
section
theorem d_law_211 : decode code 211 = .ok (.iload_n 3, 1) := by decide +kernel
theorem d_law_212 : decode code 212 = .ok (.iconst 2, 1) := by decide +kernel
theorem d_law_213 : decode code 213 = .ok (.iadd, 1) := by decide +kernel
theorem d_law_214 : decode code 214 = .ok (.iaload, 1) := by decide +kernel
theorem d_law_215 : decode code 215 = .ok (.aload_n 0, 1) := by decide +kernel
theorem d_law_216 : decode code 216 = .ok (.iload_n 3, 1) := by decide +kernel
theorem d_law_217 : decode code 217 = .ok (.iconst 3, 1) := by decide +kernel
theorem d_law_218 : decode code 218 = .ok (.iadd, 1) := by decide +kernel
theorem d_law_219 : decode code 219 = .ok (.iaload, 1) := by decide +kernel
theorem d_law_220 : decode code 220 = .ok (.aload_n 0, 1) := by decide +kernel
theorem d_law_221 : decode code 221 = .ok (.iload_n 3, 1) := by decide +kernel
theorem d_law_222 : decode code 222 = .ok (.iconst 4, 1) := by decide +kernel
theorem d_law_223 : decode code 223 = .ok (.iadd, 1) := by decide +kernel
theorem d_law_224 : decode code 224 = .ok (.iaload, 1) := by decide +kernel
theorem d_law_225 : decode code 225 = .ok (.ifCond .eq 7, 3) := by decide +kernel
theorem d_law_228 : decode code 228 = .ok (.iconst 1, 1) := by decide +kernel
theorem d_law_229 : decode code 229 = .ok (.goto 4, 3) := by decide +kernel
theorem d_law_232 : decode code 232 = .ok (.iconst 0, 1) := by decide +kernel
theorem d_law_233 : decode code 233 = .ok (.invokevirtual 31, 3) := by decide +kernel
theorem d_law_236 : decode code 236 = .ok (.aload_n 2, 1) := by decide +kernel
theorem d_law_237 : decode code 237 = .ok (.aload_n 0, 1) := by decide +kernel
theorem d_law_238 : decode code 238 = .ok (.iload_n 3, 1) := by decide +kernel
theorem d_law_239 : decode code 239 = .ok (.iconst 1, 1) := by decide +kernel
theorem d_law_240 : decode code 240 = .ok (.iadd, 1) := by decide +kernel
theorem d_law_241 : decode code 241 = .ok (.iaload, 1) := by decide +kernel
theorem d_law_242 : decode code 242 = .ok (.aload_n 0, 1) := by decide +kernel
theorem d_law_243 : decode code 243 = .ok (.iload_n 3, 1) := by decide +kernel
theorem d_law_244 : decode code 244 = .ok (.iconst 2, 1) := by decide +kernel
theorem d_law_245 : decode code 245 = .ok (.iadd, 1) := by decide +kernel
theorem d_law_246 : decode code 246 = .ok (.iaload, 1) := by decide +kernel
theorem d_law_247 : decode code 247 = .ok (.aload_n 0, 1) := by decide +kernel
theorem d_law_248 : decode code 248 = .ok (.iload_n 3, 1) := by decide +kernel
theorem d_law_249 : decode code 249 = .ok (.iconst 3, 1) := by decide +kernel
theorem d_law_250 : decode code 250 = .ok (.iadd, 1) := by decide +kernel
theorem d_law_251 : decode code 251 = .ok (.iaload, 1) := by decide +kernel
theorem d_law_252 : decode code 252 = .ok (.aload_n 0, 1) := by decide +kernel
theorem d_law_253 : decode code 253 = .ok (.iload_n 3, 1) := by decide +kernel
theorem d_law_254 : decode code 254 = .ok (.iconst 4, 1) := by decide +kernel
theorem d_law_255 : decode code 255 = .ok (.iadd, 1) := by decide +kernel
theorem d_law_256 : decode code 256 = .ok (.iaload, 1) := by decide +kernel
theorem d_law_257 : decode code 257 = .ok (.ifCond .eq 7, 3) := by decide +kernel
theorem d_law_260 : decode code 260 = .ok (.iconst 1, 1) := by decide +kernel
theorem d_law_261 : decode code 261 = .ok (.goto 4, 3) := by decide +kernel
theorem d_law_264 : decode code 264 = .ok (.iconst 0, 1) := by decide +kernel
theorem d_law_265 : decode code 265 = .ok (.invokevirtual 35, 3) := by decide +kernel
theorem d_law_268 : decode code 268 = .ok (.if_icmp .eq 238, 3) := by decide +kernel
theorem d_law_271 : decode code 271 = .ok (.iconst 0, 1) := by decide +kernel
theorem d_law_272 : decode code 272 = .ok (.ireturn, 1) := by decide +kernel
theorem d_law_273 : decode code 273 = .ok (.aload_n 1, 1) := by decide +kernel
theorem d_law_274 : decode code 274 = .ok (.aload_n 0, 1) := by decide +kernel
theorem d_law_275 : decode code 275 = .ok (.iload_n 3, 1) := by decide +kernel
theorem d_law_276 : decode code 276 = .ok (.iconst 1, 1) := by decide +kernel
theorem d_law_277 : decode code 277 = .ok (.iadd, 1) := by decide +kernel
theorem d_law_278 : decode code 278 = .ok (.iaload, 1) := by decide +kernel
theorem d_law_279 : decode code 279 = .ok (.invokevirtual 36, 3) := by decide +kernel
theorem d_law_282 : decode code 282 = .ok (.aload_n 2, 1) := by decide +kernel
theorem d_law_283 : decode code 283 = .ok (.aload_n 0, 1) := by decide +kernel
theorem d_law_284 : decode code 284 = .ok (.iload_n 3, 1) := by decide +kernel
theorem d_law_285 : decode code 285 = .ok (.iconst 1, 1) := by decide +kernel
theorem d_law_286 : decode code 286 = .ok (.iadd, 1) := by decide +kernel
theorem d_law_287 : decode code 287 = .ok (.iaload, 1) := by decide +kernel
theorem d_law_288 : decode code 288 = .ok (.invokevirtual 40, 3) := by decide +kernel
theorem d_law_291 : decode code 291 = .ok (.if_icmp .eq 215, 3) := by decide +kernel
theorem d_law_294 : decode code 294 = .ok (.iconst 0, 1) := by decide +kernel
theorem d_law_295 : decode code 295 = .ok (.ireturn, 1) := by decide +kernel
theorem d_law_296 : decode code 296 = .ok (.aload_n 1, 1) := by decide +kernel
theorem d_law_297 : decode code 297 = .ok (.invokevirtual 41, 3) := by decide +kernel
theorem d_law_300 : decode code 300 = .ok (.aload_n 2, 1) := by decide +kernel
theorem d_law_301 : decode code 301 = .ok (.invokevirtual 45, 3) := by decide +kernel
theorem d_law_304 : decode code 304 = .ok (.if_icmp .eq 202, 3) := by decide +kernel
theorem d_law_307 : decode code 307 = .ok (.iconst 0, 1) := by decide +kernel
theorem d_law_308 : decode code 308 = .ok (.ireturn, 1) := by decide +kernel
theorem d_law_309 : decode code 309 = .ok (.aload_n 1, 1) := by decide +kernel
theorem d_law_310 : decode code 310 = .ok (.aload_n 0, 1) := by decide +kernel
theorem d_law_311 : decode code 311 = .ok (.iload_n 3, 1) := by decide +kernel
theorem d_law_312 : decode code 312 = .ok (.iconst 1, 1) := by decide +kernel
theorem d_law_313 : decode code 313 = .ok (.iadd, 1) := by decide +kernel
theorem d_law_314 : decode code 314 = .ok (.iaload, 1) := by decide +kernel
theorem d_law_315 : decode code 315 = .ok (.aload_n 0, 1) := by decide +kernel
theorem d_law_316 : decode code 316 = .ok (.iload_n 3, 1) := by decide +kernel
theorem d_law_317 : decode code 317 = .ok (.iconst 2, 1) := by decide +kernel
theorem d_law_318 : decode code 318 = .ok (.iadd, 1) := by decide +kernel
theorem d_law_319 : decode code 319 = .ok (.iaload, 1) := by decide +kernel
theorem d_law_320 : decode code 320 = .ok (.aload_n 0, 1) := by decide +kernel
theorem d_law_321 : decode code 321 = .ok (.iload_n 3, 1) := by decide +kernel
theorem d_law_322 : decode code 322 = .ok (.iconst 3, 1) := by decide +kernel
theorem d_law_323 : decode code 323 = .ok (.iadd, 1) := by decide +kernel
theorem d_law_324 : decode code 324 = .ok (.iaload, 1) := by decide +kernel
theorem d_law_325 : decode code 325 = .ok (.aload_n 0, 1) := by decide +kernel
theorem d_law_326 : decode code 326 = .ok (.iload_n 3, 1) := by decide +kernel
theorem d_law_327 : decode code 327 = .ok (.iconst 4, 1) := by decide +kernel
theorem d_law_328 : decode code 328 = .ok (.iadd, 1) := by decide +kernel
theorem d_law_329 : decode code 329 = .ok (.iaload, 1) := by decide +kernel
theorem d_law_330 : decode code 330 = .ok (.ifCond .eq 7, 3) := by decide +kernel
theorem d_law_333 : decode code 333 = .ok (.iconst 1, 1) := by decide +kernel
theorem d_law_334 : decode code 334 = .ok (.goto 4, 3) := by decide +kernel
theorem d_law_337 : decode code 337 = .ok (.iconst 0, 1) := by decide +kernel
theorem d_law_338 : decode code 338 = .ok (.invokevirtual 46, 3) := by decide +kernel
theorem d_law_341 : decode code 341 = .ok (.aload_n 2, 1) := by decide +kernel
theorem d_law_342 : decode code 342 = .ok (.aload_n 0, 1) := by decide +kernel
theorem d_law_343 : decode code 343 = .ok (.iload_n 3, 1) := by decide +kernel
theorem d_law_344 : decode code 344 = .ok (.iconst 1, 1) := by decide +kernel
theorem d_law_345 : decode code 345 = .ok (.iadd, 1) := by decide +kernel
theorem d_law_346 : decode code 346 = .ok (.iaload, 1) := by decide +kernel
theorem d_law_347 : decode code 347 = .ok (.aload_n 0, 1) := by decide +kernel
theorem d_law_348 : decode code 348 = .ok (.iload_n 3, 1) := by decide +kernel
theorem d_law_349 : decode code 349 = .ok (.iconst 2, 1) := by decide +kernel
theorem d_law_350 : decode code 350 = .ok (.iadd, 1) := by decide +kernel
theorem d_law_351 : decode code 351 = .ok (.iaload, 1) := by decide +kernel
theorem d_law_352 : decode code 352 = .ok (.aload_n 0, 1) := by decide +kernel
theorem d_law_353 : decode code 353 = .ok (.iload_n 3, 1) := by decide +kernel
theorem d_law_354 : decode code 354 = .ok (.iconst 3, 1) := by decide +kernel
theorem d_law_355 : decode code 355 = .ok (.iadd, 1) := by decide +kernel
theorem d_law_356 : decode code 356 = .ok (.iaload, 1) := by decide +kernel
theorem d_law_357 : decode code 357 = .ok (.aload_n 0, 1) := by decide +kernel
end
section
theorem d_law_358 : decode code 358 = .ok (.iload_n 3, 1) := by decide +kernel
theorem d_law_359 : decode code 359 = .ok (.iconst 4, 1) := by decide +kernel
theorem d_law_360 : decode code 360 = .ok (.iadd, 1) := by decide +kernel
theorem d_law_361 : decode code 361 = .ok (.iaload, 1) := by decide +kernel
theorem d_law_362 : decode code 362 = .ok (.ifCond .eq 7, 3) := by decide +kernel
theorem d_law_365 : decode code 365 = .ok (.iconst 1, 1) := by decide +kernel
theorem d_law_366 : decode code 366 = .ok (.goto 4, 3) := by decide +kernel
theorem d_law_369 : decode code 369 = .ok (.iconst 0, 1) := by decide +kernel
theorem d_law_370 : decode code 370 = .ok (.invokevirtual 49, 3) := by decide +kernel
theorem d_law_373 : decode code 373 = .ok (.if_icmp .eq 133, 3) := by decide +kernel
theorem d_law_376 : decode code 376 = .ok (.iconst 0, 1) := by decide +kernel
theorem d_law_377 : decode code 377 = .ok (.ireturn, 1) := by decide +kernel
theorem d_law_378 : decode code 378 = .ok (.aload_n 1, 1) := by decide +kernel
theorem d_law_379 : decode code 379 = .ok (.aload_n 0, 1) := by decide +kernel
theorem d_law_380 : decode code 380 = .ok (.iload_n 3, 1) := by decide +kernel
theorem d_law_381 : decode code 381 = .ok (.iconst 1, 1) := by decide +kernel
theorem d_law_382 : decode code 382 = .ok (.iadd, 1) := by decide +kernel
theorem d_law_383 : decode code 383 = .ok (.iaload, 1) := by decide +kernel
theorem d_law_384 : decode code 384 = .ok (.aload_n 0, 1) := by decide +kernel
theorem d_law_385 : decode code 385 = .ok (.iload_n 3, 1) := by decide +kernel
theorem d_law_386 : decode code 386 = .ok (.iconst 2, 1) := by decide +kernel
theorem d_law_387 : decode code 387 = .ok (.iadd, 1) := by decide +kernel
theorem d_law_388 : decode code 388 = .ok (.iaload, 1) := by decide +kernel
theorem d_law_389 : decode code 389 = .ok (.aload_n 0, 1) := by decide +kernel
theorem d_law_390 : decode code 390 = .ok (.iload_n 3, 1) := by decide +kernel
theorem d_law_391 : decode code 391 = .ok (.iconst 3, 1) := by decide +kernel
theorem d_law_392 : decode code 392 = .ok (.iadd, 1) := by decide +kernel
theorem d_law_393 : decode code 393 = .ok (.iaload, 1) := by decide +kernel
theorem d_law_394 : decode code 394 = .ok (.aload_n 0, 1) := by decide +kernel
theorem d_law_395 : decode code 395 = .ok (.iload_n 3, 1) := by decide +kernel
theorem d_law_396 : decode code 396 = .ok (.iconst 4, 1) := by decide +kernel
theorem d_law_397 : decode code 397 = .ok (.iadd, 1) := by decide +kernel
theorem d_law_398 : decode code 398 = .ok (.iaload, 1) := by decide +kernel
theorem d_law_399 : decode code 399 = .ok (.ifCond .eq 7, 3) := by decide +kernel
theorem d_law_402 : decode code 402 = .ok (.iconst 1, 1) := by decide +kernel
theorem d_law_403 : decode code 403 = .ok (.goto 4, 3) := by decide +kernel
theorem d_law_406 : decode code 406 = .ok (.iconst 0, 1) := by decide +kernel
theorem d_law_407 : decode code 407 = .ok (.invokevirtual 50, 3) := by decide +kernel
theorem d_law_410 : decode code 410 = .ok (.aload_n 2, 1) := by decide +kernel
theorem d_law_411 : decode code 411 = .ok (.aload_n 0, 1) := by decide +kernel
theorem d_law_412 : decode code 412 = .ok (.iload_n 3, 1) := by decide +kernel
theorem d_law_413 : decode code 413 = .ok (.iconst 1, 1) := by decide +kernel
theorem d_law_414 : decode code 414 = .ok (.iadd, 1) := by decide +kernel
theorem d_law_415 : decode code 415 = .ok (.iaload, 1) := by decide +kernel
theorem d_law_416 : decode code 416 = .ok (.aload_n 0, 1) := by decide +kernel
theorem d_law_417 : decode code 417 = .ok (.iload_n 3, 1) := by decide +kernel
theorem d_law_418 : decode code 418 = .ok (.iconst 2, 1) := by decide +kernel
theorem d_law_419 : decode code 419 = .ok (.iadd, 1) := by decide +kernel
theorem d_law_420 : decode code 420 = .ok (.iaload, 1) := by decide +kernel
theorem d_law_421 : decode code 421 = .ok (.aload_n 0, 1) := by decide +kernel
theorem d_law_422 : decode code 422 = .ok (.iload_n 3, 1) := by decide +kernel
theorem d_law_423 : decode code 423 = .ok (.iconst 3, 1) := by decide +kernel
theorem d_law_424 : decode code 424 = .ok (.iadd, 1) := by decide +kernel
theorem d_law_425 : decode code 425 = .ok (.iaload, 1) := by decide +kernel
theorem d_law_426 : decode code 426 = .ok (.aload_n 0, 1) := by decide +kernel
theorem d_law_427 : decode code 427 = .ok (.iload_n 3, 1) := by decide +kernel
theorem d_law_428 : decode code 428 = .ok (.iconst 4, 1) := by decide +kernel
theorem d_law_429 : decode code 429 = .ok (.iadd, 1) := by decide +kernel
theorem d_law_430 : decode code 430 = .ok (.iaload, 1) := by decide +kernel
theorem d_law_431 : decode code 431 = .ok (.ifCond .eq 7, 3) := by decide +kernel
theorem d_law_434 : decode code 434 = .ok (.iconst 1, 1) := by decide +kernel
theorem d_law_435 : decode code 435 = .ok (.goto 4, 3) := by decide +kernel
theorem d_law_438 : decode code 438 = .ok (.iconst 0, 1) := by decide +kernel
theorem d_law_439 : decode code 439 = .ok (.invokevirtual 53, 3) := by decide +kernel
theorem d_law_442 : decode code 442 = .ok (.if_icmp .eq 64, 3) := by decide +kernel
theorem d_law_445 : decode code 445 = .ok (.iconst 0, 1) := by decide +kernel
theorem d_law_446 : decode code 446 = .ok (.ireturn, 1) := by decide +kernel
theorem d_law_447 : decode code 447 = .ok (.aload_n 1, 1) := by decide +kernel
theorem d_law_448 : decode code 448 = .ok (.invokevirtual 54, 3) := by decide +kernel
theorem d_law_451 : decode code 451 = .ok (.aload_n 2, 1) := by decide +kernel
theorem d_law_452 : decode code 452 = .ok (.invokevirtual 57, 3) := by decide +kernel
theorem d_law_455 : decode code 455 = .ok (.if_icmp .eq 51, 3) := by decide +kernel
theorem d_law_458 : decode code 458 = .ok (.iconst 0, 1) := by decide +kernel
theorem d_law_459 : decode code 459 = .ok (.ireturn, 1) := by decide +kernel
theorem d_law_460 : decode code 460 = .ok (.aload_n 1, 1) := by decide +kernel
theorem d_law_461 : decode code 461 = .ok (.aload_n 0, 1) := by decide +kernel
theorem d_law_462 : decode code 462 = .ok (.iload_n 3, 1) := by decide +kernel
theorem d_law_463 : decode code 463 = .ok (.iconst 1, 1) := by decide +kernel
theorem d_law_464 : decode code 464 = .ok (.iadd, 1) := by decide +kernel
theorem d_law_465 : decode code 465 = .ok (.iaload, 1) := by decide +kernel
theorem d_law_466 : decode code 466 = .ok (.invokevirtual 58, 3) := by decide +kernel
theorem d_law_469 : decode code 469 = .ok (.aload_n 2, 1) := by decide +kernel
theorem d_law_470 : decode code 470 = .ok (.aload_n 0, 1) := by decide +kernel
theorem d_law_471 : decode code 471 = .ok (.iload_n 3, 1) := by decide +kernel
theorem d_law_472 : decode code 472 = .ok (.iconst 1, 1) := by decide +kernel
theorem d_law_473 : decode code 473 = .ok (.iadd, 1) := by decide +kernel
theorem d_law_474 : decode code 474 = .ok (.iaload, 1) := by decide +kernel
theorem d_law_475 : decode code 475 = .ok (.invokevirtual 61, 3) := by decide +kernel
theorem d_law_478 : decode code 478 = .ok (.if_icmp .eq 28, 3) := by decide +kernel
theorem d_law_481 : decode code 481 = .ok (.iconst 0, 1) := by decide +kernel
theorem d_law_482 : decode code 482 = .ok (.ireturn, 1) := by decide +kernel
theorem d_law_483 : decode code 483 = .ok (.aload_n 1, 1) := by decide +kernel
theorem d_law_484 : decode code 484 = .ok (.aload_n 0, 1) := by decide +kernel
theorem d_law_485 : decode code 485 = .ok (.iload_n 3, 1) := by decide +kernel
theorem d_law_486 : decode code 486 = .ok (.iconst 1, 1) := by decide +kernel
theorem d_law_487 : decode code 487 = .ok (.iadd, 1) := by decide +kernel
theorem d_law_488 : decode code 488 = .ok (.iaload, 1) := by decide +kernel
theorem d_law_489 : decode code 489 = .ok (.invokevirtual 62, 3) := by decide +kernel
theorem d_law_492 : decode code 492 = .ok (.aload_n 2, 1) := by decide +kernel
theorem d_law_493 : decode code 493 = .ok (.aload_n 0, 1) := by decide +kernel
theorem d_law_494 : decode code 494 = .ok (.iload_n 3, 1) := by decide +kernel
theorem d_law_495 : decode code 495 = .ok (.iconst 1, 1) := by decide +kernel
theorem d_law_496 : decode code 496 = .ok (.iadd, 1) := by decide +kernel
theorem d_law_497 : decode code 497 = .ok (.iaload, 1) := by decide +kernel
theorem d_law_498 : decode code 498 = .ok (.invokevirtual 65, 3) := by decide +kernel
theorem d_law_501 : decode code 501 = .ok (.if_icmp .eq 5, 3) := by decide +kernel
theorem d_law_504 : decode code 504 = .ok (.iconst 0, 1) := by decide +kernel
theorem d_law_505 : decode code 505 = .ok (.ireturn, 1) := by decide +kernel
theorem d_law_506 : decode code 506 = .ok (.iinc 3 5, 3) := by decide +kernel
theorem d_law_509 : decode code 509 = .ok (.goto (-481), 3) := by decide +kernel
theorem d_law_512 : decode code 512 = .ok (.iconst 1, 1) := by decide +kernel
theorem d_law_513 : decode code 513 = .ok (.ireturn, 1) := by decide +kernel
end
section
/-! rows over numbers: the machine's ints by their naturals (nI), truth values (ct_bI), sets of six places (ct_mk6) -/
def ct_bI (b : Bool) : Int32 := if b then 1 else 0
def ct_updB (f : Nat → Bool) (k : Nat) (x : Bool) : Nat → Bool := fun j => if j = k then x else f j
def ct_updN (f : Nat → Nat) (k x : Nat) : Nat → Nat := fun j => if j = k then x else f j
def ct_updD (d : Nat → Nat → Bool) (a b : Nat) (o : Bool) : Nat → Nat → Bool := fun i j => if i = a ∧ j = b then o else d i j
def ct_mk (b0 b1 b2 b3 b4 b5 : Bool) : Int32 := nI (b0.toNat + 2 * b1.toNat + 4 * b2.toNat + 8 * b3.toNat + 16 * b4.toNat + 32 * b5.toNat)
def ct_mk6 (f : Nat → Bool) : Int32 := ct_mk (f 0) (f 1) (f 2) (f 3) (f 4) (f 5)
theorem ct_bit0 : ∀ b0 b1 b2 b3 b4 b5 : Bool, (ct_mk b0 b1 b2 b3 b4 b5 >>> (nI 0 &&& 31)) &&& nI 1 = ct_bI b0 := by decide +kernel
theorem ct_bit1 : ∀ b0 b1 b2 b3 b4 b5 : Bool, (ct_mk b0 b1 b2 b3 b4 b5 >>> (nI 1 &&& 31)) &&& nI 1 = ct_bI b1 := by decide +kernel
theorem ct_bit2 : ∀ b0 b1 b2 b3 b4 b5 : Bool, (ct_mk b0 b1 b2 b3 b4 b5 >>> (nI 2 &&& 31)) &&& nI 1 = ct_bI b2 := by decide +kernel
theorem ct_bit3 : ∀ b0 b1 b2 b3 b4 b5 : Bool, (ct_mk b0 b1 b2 b3 b4 b5 >>> (nI 3 &&& 31)) &&& nI 1 = ct_bI b3 := by decide +kernel
theorem ct_bit4 : ∀ b0 b1 b2 b3 b4 b5 : Bool, (ct_mk b0 b1 b2 b3 b4 b5 >>> (nI 4 &&& 31)) &&& nI 1 = ct_bI b4 := by decide +kernel
theorem ct_bit5 : ∀ b0 b1 b2 b3 b4 b5 : Bool, (ct_mk b0 b1 b2 b3 b4 b5 >>> (nI 5 &&& 31)) &&& nI 1 = ct_bI b5 := by decide +kernel
theorem ct_bit {f : Nat → Bool} {i : Nat} (hi : i < 6) : (ct_mk6 f >>> (nI i &&& 31)) &&& nI 1 = ct_bI (f i) := by
  match i, hi with
  | 0, _ => exact ct_bit0 _ _ _ _ _ _
  | 1, _ => exact ct_bit1 _ _ _ _ _ _
  | 2, _ => exact ct_bit2 _ _ _ _ _ _
  | 3, _ => exact ct_bit3 _ _ _ _ _ _
  | 4, _ => exact ct_bit4 _ _ _ _ _ _
  | 5, _ => exact ct_bit5 _ _ _ _ _ _
  | n + 6, h => exact absurd h (by omega)
theorem ct_clr0 : ∀ b0 b1 b2 b3 b4 b5 : Bool, ct_mk b0 b1 b2 b3 b4 b5 &&& ((nI 1 <<< (nI 0 &&& 31)) ^^^ (-1)) = ct_mk false b1 b2 b3 b4 b5 := by decide +kernel
theorem ct_clr1 : ∀ b0 b1 b2 b3 b4 b5 : Bool, ct_mk b0 b1 b2 b3 b4 b5 &&& ((nI 1 <<< (nI 1 &&& 31)) ^^^ (-1)) = ct_mk b0 false b2 b3 b4 b5 := by decide +kernel
theorem ct_clr2 : ∀ b0 b1 b2 b3 b4 b5 : Bool, ct_mk b0 b1 b2 b3 b4 b5 &&& ((nI 1 <<< (nI 2 &&& 31)) ^^^ (-1)) = ct_mk b0 b1 false b3 b4 b5 := by decide +kernel
theorem ct_clr3 : ∀ b0 b1 b2 b3 b4 b5 : Bool, ct_mk b0 b1 b2 b3 b4 b5 &&& ((nI 1 <<< (nI 3 &&& 31)) ^^^ (-1)) = ct_mk b0 b1 b2 false b4 b5 := by decide +kernel
theorem ct_clr4 : ∀ b0 b1 b2 b3 b4 b5 : Bool, ct_mk b0 b1 b2 b3 b4 b5 &&& ((nI 1 <<< (nI 4 &&& 31)) ^^^ (-1)) = ct_mk b0 b1 b2 b3 false b5 := by decide +kernel
theorem ct_clr5 : ∀ b0 b1 b2 b3 b4 b5 : Bool, ct_mk b0 b1 b2 b3 b4 b5 &&& ((nI 1 <<< (nI 5 &&& 31)) ^^^ (-1)) = ct_mk b0 b1 b2 b3 b4 false := by decide +kernel
theorem ct_clr {f : Nat → Bool} {i : Nat} (hi : i < 6) : ct_mk6 f &&& ((nI 1 <<< (nI i &&& 31)) ^^^ (-1)) = ct_mk6 (ct_updB f i false) := by
  match i, hi with
  | 0, _ => exact ct_clr0 _ _ _ _ _ _
  | 1, _ => exact ct_clr1 _ _ _ _ _ _
  | 2, _ => exact ct_clr2 _ _ _ _ _ _
  | 3, _ => exact ct_clr3 _ _ _ _ _ _
  | 4, _ => exact ct_clr4 _ _ _ _ _ _
  | 5, _ => exact ct_clr5 _ _ _ _ _ _
  | n + 6, h => exact absurd h (by omega)
theorem ct_set0 : ∀ b0 b1 b2 b3 b4 b5 : Bool, ct_mk b0 b1 b2 b3 b4 b5 ||| (nI 1 <<< (nI 0 &&& 31)) = ct_mk true b1 b2 b3 b4 b5 := by decide +kernel
theorem ct_set1 : ∀ b0 b1 b2 b3 b4 b5 : Bool, ct_mk b0 b1 b2 b3 b4 b5 ||| (nI 1 <<< (nI 1 &&& 31)) = ct_mk b0 true b2 b3 b4 b5 := by decide +kernel
theorem ct_set2 : ∀ b0 b1 b2 b3 b4 b5 : Bool, ct_mk b0 b1 b2 b3 b4 b5 ||| (nI 1 <<< (nI 2 &&& 31)) = ct_mk b0 b1 true b3 b4 b5 := by decide +kernel
theorem ct_set3 : ∀ b0 b1 b2 b3 b4 b5 : Bool, ct_mk b0 b1 b2 b3 b4 b5 ||| (nI 1 <<< (nI 3 &&& 31)) = ct_mk b0 b1 b2 true b4 b5 := by decide +kernel
theorem ct_set4 : ∀ b0 b1 b2 b3 b4 b5 : Bool, ct_mk b0 b1 b2 b3 b4 b5 ||| (nI 1 <<< (nI 4 &&& 31)) = ct_mk b0 b1 b2 b3 true b5 := by decide +kernel
theorem ct_set5 : ∀ b0 b1 b2 b3 b4 b5 : Bool, ct_mk b0 b1 b2 b3 b4 b5 ||| (nI 1 <<< (nI 5 &&& 31)) = ct_mk b0 b1 b2 b3 b4 true := by decide +kernel
theorem ct_set {f : Nat → Bool} {i : Nat} (hi : i < 6) : ct_mk6 f ||| (nI 1 <<< (nI i &&& 31)) = ct_mk6 (ct_updB f i true) := by
  match i, hi with
  | 0, _ => exact ct_set0 _ _ _ _ _ _
  | 1, _ => exact ct_set1 _ _ _ _ _ _
  | 2, _ => exact ct_set2 _ _ _ _ _ _
  | 3, _ => exact ct_set3 _ _ _ _ _ _
  | 4, _ => exact ct_set4 _ _ _ _ _ _
  | 5, _ => exact ct_set5 _ _ _ _ _ _
  | n + 6, h => exact absurd h (by omega)
theorem ct_i8 : ∀ w, w < 128 → (nI w).toInt8.toInt32 = nI w := by decide +kernel
theorem ct_i16 : ∀ w, w < 1000 → (nI w).toInt16.toInt32 = nI w := by decide +kernel
theorem ct_nb {w : Nat} (h : w < 128) : vp_nar .byte (nI w) = nI w := by rw [vp_nar_byte]; exact ct_i8 w h
theorem ct_ns {w : Nat} (h : w < 1000) : vp_nar .short (nI w) = nI w := by rw [vp_nar_short]; exact ct_i16 w h
theorem ct_nz (b : Bool) : vp_nar .boolean (ct_bI b) = ct_bI b := by cases b <;> rfl
theorem ct_nzv (b : Bool) : narrow .boolean (.int (ct_bI b)) = .int (ct_bI b) := by cases b <;> rfl
theorem ct_fz (b : Bool) : fits .boolean (.int (ct_bI b)) = true := by cases b <;> rfl
theorem ct_b0 {b : Bool} : ct_bI b = 0 ↔ b = false := by cases b <;> decide
theorem ct_b1 {b : Bool} : ct_bI b = nI 1 ↔ b = true := by cases b <;> decide
theorem ct_bN (b : Bool) : ct_bI b = nI b.toNat := by cases b <;> rfl
theorem ct_n0 {n : Nat} (h : n < 2 ^ 31) : nI n = 0 ↔ n = 0 := by
  constructor
  · intro q
    rcases Nat.eq_zero_or_pos n with h0 | h0
    · exact h0
    · exact absurd q (nI_ne0 h0 h)
  · intro q
    rw [q]; rfl
section CTR
variable {p : Program} {l : Launch} {e : Env} {R : Room} {s : State} {m : MethodId} {args : Array Value} {below : List Frame} {meth : Method} {c : Code} {H : Heap} {locs : List Loc} {cells slots : Nat} {Q : State → Prop}
variable {cc : ByteArray} {pc : Nat} {ls : Array Slot} {rest : List Value}
theorem r_top {x y : Int32} (h : x = y) (k : W p l e R s m args below meth c H locs cells slots Q (F0 m pc ls (.int y :: rest))) : W p l e R s m args below meth c H locs cells slots Q (F0 m pc ls (.int x :: rest)) := by
  subst h; exact k
theorem r_div (hx : p.tables.exec = Jvm.exec) (hb : c.code = cc) {a d : Nat} (hdg : decode cc pc = .ok (.idiv, 1)) (ha : a < 2 ^ 31) (h0 : 0 < d) (hd : d < 2 ^ 31)
    (k : W p l e R s m args below meth c H locs cells slots Q (F0 m (pc + 1) ls (.int (nI (a / d)) :: rest))) : W p l e R s m args below meth c H locs cells slots Q (F0 m pc ls (.int (nI d) :: .int (nI a) :: rest)) :=
  lv_idiv hx hb hdg (nI_ne0 h0 hd) (r_top (pk_div ha h0 hd) k)
theorem r_rem (hx : p.tables.exec = Jvm.exec) (hb : c.code = cc) {a d : Nat} (hdg : decode cc pc = .ok (.irem, 1)) (ha : a < 2 ^ 31) (h0 : 0 < d) (hd : d < 2 ^ 31)
    (k : W p l e R s m args below meth c H locs cells slots Q (F0 m (pc + 1) ls (.int (nI (a % d)) :: rest))) : W p l e R s m args below meth c H locs cells slots Q (F0 m pc ls (.int (nI d) :: .int (nI a) :: rest)) :=
  lv_irem hx hb hdg (nI_ne0 h0 hd) (r_top (pk_rem ha h0 hd) k)
theorem r_add (hx : p.tables.exec = Jvm.exec) (hb : c.code = cc) {a d : Nat} (hdg : decode cc pc = .ok (.iadd, 1))
    (k : W p l e R s m args below meth c H locs cells slots Q (F0 m (pc + 1) ls (.int (nI (a + d)) :: rest))) : W p l e R s m args below meth c H locs cells slots Q (F0 m pc ls (.int (nI d) :: .int (nI a) :: rest)) :=
  lv_iadd hx hb hdg (r_top (nI_add a d) k)
theorem r_mul (hx : p.tables.exec = Jvm.exec) (hb : c.code = cc) {a d : Nat} (hdg : decode cc pc = .ok (.imul, 1))
    (k : W p l e R s m args below meth c H locs cells slots Q (F0 m (pc + 1) ls (.int (nI (a * d)) :: rest))) : W p l e R s m args below meth c H locs cells slots Q (F0 m pc ls (.int (nI d) :: .int (nI a) :: rest)) :=
  lv_imul hx hb hdg (r_top (pk_mul a d) k)
theorem r_sub (hx : p.tables.exec = Jvm.exec) (hb : c.code = cc) {a d : Nat} (hdg : decode cc pc = .ok (.isub, 1)) (h : d ≤ a)
    (k : W p l e R s m args below meth c H locs cells slots Q (F0 m (pc + 1) ls (.int (nI (a - d)) :: rest))) : W p l e R s m args below meth c H locs cells slots Q (F0 m pc ls (.int (nI d) :: .int (nI a) :: rest)) :=
  lv_isub hx hb hdg (r_top (pk_sub h) k)
theorem r_cmp_eq (hx : p.tables.exec = Jvm.exec) (hb : c.code = cc) {a d : Nat} {off : Int} {tgt : Nat} (hdg : decode cc pc = .ok (.if_icmp .eq off, 3)) (ht : (pc : Int) + off = (tgt : Int)) (ha : a < 2 ^ 31) (hd : d < 2 ^ 31)
    (kt : a = d → W p l e R s m args below meth c H locs cells slots Q (F0 m tgt ls rest)) (kf : a ≠ d → W p l e R s m args below meth c H locs cells slots Q (F0 m (pc + 3) ls rest)) : W p l e R s m args below meth c H locs cells slots Q (F0 m pc ls (.int (nI d) :: .int (nI a) :: rest)) :=
  lv_icmp_eq hx hb hdg ht (fun h => kt ((nI_eq ha hd).mp h)) (fun h => kf (fun q => h ((nI_eq ha hd).mpr q)))
theorem r_cmp_ne (hx : p.tables.exec = Jvm.exec) (hb : c.code = cc) {a d : Nat} {off : Int} {tgt : Nat} (hdg : decode cc pc = .ok (.if_icmp .ne off, 3)) (ht : (pc : Int) + off = (tgt : Int)) (ha : a < 2 ^ 31) (hd : d < 2 ^ 31)
    (kt : a ≠ d → W p l e R s m args below meth c H locs cells slots Q (F0 m tgt ls rest)) (kf : a = d → W p l e R s m args below meth c H locs cells slots Q (F0 m (pc + 3) ls rest)) : W p l e R s m args below meth c H locs cells slots Q (F0 m pc ls (.int (nI d) :: .int (nI a) :: rest)) :=
  lv_icmp_ne hx hb hdg ht (fun h => kt (fun q => h ((nI_eq ha hd).mpr q))) (fun h => kf ((nI_eq ha hd).mp h))
theorem r_cmp_lt (hx : p.tables.exec = Jvm.exec) (hb : c.code = cc) {a d : Nat} {off : Int} {tgt : Nat} (hdg : decode cc pc = .ok (.if_icmp .lt off, 3)) (ht : (pc : Int) + off = (tgt : Int)) (ha : a < 2 ^ 31) (hd : d < 2 ^ 31)
    (kt : a < d → W p l e R s m args below meth c H locs cells slots Q (F0 m tgt ls rest)) (kf : d ≤ a → W p l e R s m args below meth c H locs cells slots Q (F0 m (pc + 3) ls rest)) : W p l e R s m args below meth c H locs cells slots Q (F0 m pc ls (.int (nI d) :: .int (nI a) :: rest)) :=
  lv_icmp_lt hx hb hdg ht (fun h => kt ((nI_ltI ha hd).mp h)) (fun h => kf (Nat.not_lt.mp (fun q => h ((nI_ltI ha hd).mpr q))))
theorem r_cmp_ge (hx : p.tables.exec = Jvm.exec) (hb : c.code = cc) {a d : Nat} {off : Int} {tgt : Nat} (hdg : decode cc pc = .ok (.if_icmp .ge off, 3)) (ht : (pc : Int) + off = (tgt : Int)) (ha : a < 2 ^ 31) (hd : d < 2 ^ 31)
    (kt : d ≤ a → W p l e R s m args below meth c H locs cells slots Q (F0 m tgt ls rest)) (kf : a < d → W p l e R s m args below meth c H locs cells slots Q (F0 m (pc + 3) ls rest)) : W p l e R s m args below meth c H locs cells slots Q (F0 m pc ls (.int (nI d) :: .int (nI a) :: rest)) :=
  lv_icmp_ge hx hb hdg ht (fun h => kt ((nI_leI hd ha).mp h)) (fun h => kf (Nat.not_le.mp (fun q => h ((nI_leI hd ha).mpr q))))
theorem r_cmp_gt (hx : p.tables.exec = Jvm.exec) (hb : c.code = cc) {a d : Nat} {off : Int} {tgt : Nat} (hdg : decode cc pc = .ok (.if_icmp .gt off, 3)) (ht : (pc : Int) + off = (tgt : Int)) (ha : a < 2 ^ 31) (hd : d < 2 ^ 31)
    (kt : d < a → W p l e R s m args below meth c H locs cells slots Q (F0 m tgt ls rest)) (kf : a ≤ d → W p l e R s m args below meth c H locs cells slots Q (F0 m (pc + 3) ls rest)) : W p l e R s m args below meth c H locs cells slots Q (F0 m pc ls (.int (nI d) :: .int (nI a) :: rest)) :=
  lv_icmp_gt hx hb hdg ht (fun h => kt ((nI_ltI hd ha).mp h)) (fun h => kf (Nat.not_lt.mp (fun q => h ((nI_ltI hd ha).mpr q))))
theorem r_cmp_le (hx : p.tables.exec = Jvm.exec) (hb : c.code = cc) {a d : Nat} {off : Int} {tgt : Nat} (hdg : decode cc pc = .ok (.if_icmp .le off, 3)) (ht : (pc : Int) + off = (tgt : Int)) (ha : a < 2 ^ 31) (hd : d < 2 ^ 31)
    (kt : a ≤ d → W p l e R s m args below meth c H locs cells slots Q (F0 m tgt ls rest)) (kf : d < a → W p l e R s m args below meth c H locs cells slots Q (F0 m (pc + 3) ls rest)) : W p l e R s m args below meth c H locs cells slots Q (F0 m pc ls (.int (nI d) :: .int (nI a) :: rest)) :=
  lv_icmp_le hx hb hdg ht (fun h => kt ((nI_leI ha hd).mp h)) (fun h => kf (Nat.not_le.mp (fun q => h ((nI_leI ha hd).mpr q))))
theorem r_if_eq (hx : p.tables.exec = Jvm.exec) (hb : c.code = cc) {a : Nat} {off : Int} {tgt : Nat} (hdg : decode cc pc = .ok (.ifCond .eq off, 3)) (ht : (pc : Int) + off = (tgt : Int)) (ha : a < 2 ^ 31)
    (kt : a = 0 → W p l e R s m args below meth c H locs cells slots Q (F0 m tgt ls rest)) (kf : a ≠ 0 → W p l e R s m args below meth c H locs cells slots Q (F0 m (pc + 3) ls rest)) : W p l e R s m args below meth c H locs cells slots Q (F0 m pc ls (.int (nI a) :: rest)) :=
  lv_if_eq hx hb hdg ht (fun h => kt ((ct_n0 ha).mp h)) (fun h => kf (fun q => h ((ct_n0 ha).mpr q)))
theorem r_if_ne (hx : p.tables.exec = Jvm.exec) (hb : c.code = cc) {a : Nat} {off : Int} {tgt : Nat} (hdg : decode cc pc = .ok (.ifCond .ne off, 3)) (ht : (pc : Int) + off = (tgt : Int)) (ha : a < 2 ^ 31)
    (kt : a ≠ 0 → W p l e R s m args below meth c H locs cells slots Q (F0 m tgt ls rest)) (kf : a = 0 → W p l e R s m args below meth c H locs cells slots Q (F0 m (pc + 3) ls rest)) : W p l e R s m args below meth c H locs cells slots Q (F0 m pc ls (.int (nI a) :: rest)) :=
  lv_if_ne hx hb hdg ht (fun h => kt (fun q => h ((ct_n0 ha).mpr q))) (fun h => kf ((ct_n0 ha).mp h))
/-- truth values -/
theorem r_bif_eq (hx : p.tables.exec = Jvm.exec) (hb : c.code = cc) {b : Bool} {off : Int} {tgt : Nat} (hdg : decode cc pc = .ok (.ifCond .eq off, 3)) (ht : (pc : Int) + off = (tgt : Int))
    (kt : b = false → W p l e R s m args below meth c H locs cells slots Q (F0 m tgt ls rest)) (kf : b = true → W p l e R s m args below meth c H locs cells slots Q (F0 m (pc + 3) ls rest)) : W p l e R s m args below meth c H locs cells slots Q (F0 m pc ls (.int (ct_bI b) :: rest)) :=
  lv_if_eq hx hb hdg ht (fun h => kt (ct_b0.mp h)) (fun h => kf (by cases b with | true => rfl | false => exact absurd rfl h))
theorem r_bif_ne (hx : p.tables.exec = Jvm.exec) (hb : c.code = cc) {b : Bool} {off : Int} {tgt : Nat} (hdg : decode cc pc = .ok (.ifCond .ne off, 3)) (ht : (pc : Int) + off = (tgt : Int))
    (kt : b = true → W p l e R s m args below meth c H locs cells slots Q (F0 m tgt ls rest)) (kf : b = false → W p l e R s m args below meth c H locs cells slots Q (F0 m (pc + 3) ls rest)) : W p l e R s m args below meth c H locs cells slots Q (F0 m pc ls (.int (ct_bI b) :: rest)) :=
  lv_if_ne hx hb hdg ht (fun h => kt (by cases b with | true => rfl | false => exact absurd rfl h)) (fun h => kf (ct_b0.mp h))
theorem r_b1_ne (hx : p.tables.exec = Jvm.exec) (hb : c.code = cc) {b : Bool} {off : Int} {tgt : Nat} (hdg : decode cc pc = .ok (.if_icmp .ne off, 3)) (ht : (pc : Int) + off = (tgt : Int))
    (kt : b = false → W p l e R s m args below meth c H locs cells slots Q (F0 m tgt ls rest)) (kf : b = true → W p l e R s m args below meth c H locs cells slots Q (F0 m (pc + 3) ls rest)) : W p l e R s m args below meth c H locs cells slots Q (F0 m pc ls (.int (nI 1) :: .int (ct_bI b) :: rest)) :=
  lv_icmp_ne hx hb hdg ht (fun h => kt (by cases b with | true => exact absurd rfl h | false => rfl)) (fun h => kf (ct_b1.mp h))
/-- 'x != 0' as a value, four instructions -/
theorem r_nz (hx : p.tables.exec = Jvm.exec) (hb : c.code = cc) {x : Int32} {q1 q2 q3 q4 : Nat} (h0 : decode cc pc = .ok (.ifCond .eq 7, 3)) (h1 : decode cc q1 = .ok (.iconst 1, 1)) (h2 : decode cc q2 = .ok (.goto 4, 3)) (h3 : decode cc q3 = .ok (.iconst 0, 1)) (e1 : q1 = pc + 3) (e2 : q2 = pc + 4) (e3 : q3 = pc + 7) (e4 : q4 = pc + 8)
    (k : W p l e R s m args below meth c H locs cells slots Q (F0 m q4 ls (.int (ct_bI (decide (x ≠ 0))) :: rest))) : W p l e R s m args below meth c H locs cells slots Q (F0 m pc ls (.int x :: rest)) := by
  subst e1; subst e2; subst e3; subst e4
  refine lv_if_eq (tgt := pc + 7) hx hb h0 (by omega) (fun h => ?_) (fun h => ?_)
  · refine lv_iconst (v := 0) hx hb h3 rfl ?_
    rw [show ct_bI (decide (x ≠ 0)) = 0 by simp [h, ct_bI]] at k
    exact k
  · refine lv_iconst (v := 1) hx hb h1 rfl ?_
    refine lv_goto (tgt := pc + 8) hx hb h2 (by omega) ?_
    rw [show ct_bI (decide (x ≠ 0)) = 1 by simp [h, ct_bI]] at k
    exact k
theorem ct_start {y : MethodName} {n : Nat} {ret : Option FieldType} {rm : Room} {B : State → Prop} {Qc : Array Value → State → Outcome → State → Prop} {mc ms : Nat} {free : Addr → Prop} (av : List Value) (hy : plainName y.cls = true) (hn : (lg_sl av).length ≤ n)
    (h : ∀ (p : Program) (e : Env) (s : State) (m : MethodId) (below : List Frame) (meth : Method) (c : Code) (ls : Array Slot), CallFix p m c cc n s av.toArray ct_tbl y.cls → meth.sig.returnType = ret → meth.locks = false → meth.name = y.name → B s → lv_has ls n (lv_args 0 av) → W p l e rm s m av.toArray below meth c s.heap [] 0 0 (MQ below Qc av.toArray s mc ms free) (F0 m 0 ls [])) :
    Met l y (Cond.code y cc n ret :: ct_tbl) rm (va_Pc av B) Qc mc ms free := by
  refine Met.ofW (cc := cc) (maxL := n) (ret := ret) hy rfl ?_
  intro p e s m args below meth c s₁ Bd hml hv
  obtain ⟨rfl, hB⟩ := hv
  have hts := atoms_spec (ws := Cond.code y cc n ret :: ct_tbl) Bd.pre
  have hl := lv_entry av (n := n) hn
  rw [lg_entry_eq]
  exact h p e s m below meth c _ ⟨Bd.exec, Bd.bytes, hml, findClass_of_methodNamed Bd.named, fun w hw => hts w (List.mem_cons_of_mem _ hw)⟩ Bd.returns Bd.notSynchronized (name_of_methodNamed Bd.named Bd.method).1 hB hl
/-- ends of methods that only read -/
theorem r_ret (hx : p.tables.exec = Jvm.exec) (hb : c.code = cc) {r v : Int32} (hr : meth.sig.returnType = some .int) (hlk : meth.locks = false) (hdg : decode cc pc = .ok (.ireturn, 1)) (hv : v = r) : W p l e R s m args below meth c s.heap [] 0 0 (MQ below (QcRead r) args s 0 0 (fun _ => False)) (F0 m pc ls [.int v]) := by
  subst hv
  exact W.iret hx hb hr (fun t ht hW => ⟨rfl, ht⟩) (fun q h => by cases h) hdg (hlocks := hlk)
theorem r_retz (hx : p.tables.exec = Jvm.exec) (hb : c.code = cc) {v : Int32} {b : Bool} (hr : meth.sig.returnType = some .boolean) (hlk : meth.locks = false) (hdg : decode cc pc = .ok (.ireturn, 1)) (hv : v = ct_bI b) : W p l e R s m args below meth c s.heap [] 0 0 (MQ below (QcRead (ct_bI b)) args s 0 0 (fun _ => False)) (F0 m pc ls [.int v]) := by
  subst hv
  exact W.zret hx hb hr (ct_nzv b) (fun t ht hW => ⟨rfl, ht⟩) (fun q h => by cases h) hdg (hlocks := hlk)
/-- a static method that only reads numbers -/
theorem r_callS {y : MethodName} {bytes : ByteArray} {maxL nL index : Nat} {ret : Option FieldType} {rm : Room} {own : String} {r : Int32} {As st0 : List Value} (n : Nat) (S : CallFix p m c cc nL s args ct_tbl own) (hM : Met l y (Cond.code y bytes maxL ret :: ct_tbl) rm (va_Pc As (fun _ => True)) (QcRead r) 0 0 (fun _ => False))
    (hG : GoodIn ct_tbl (wsS own index y (Cond.code y bytes maxL ret :: ct_tbl))) (hd : y.cls = own ∧ y.cls ≠ "java/lang/invoke/MethodHandle" ∧ y.cls ≠ "java/lang/invoke/VarHandle" ∧ (parseMethodDescriptor y.desc).map (fun d => d.parameters.length) = some n) (hR : rm.frames + 1 ≤ R.frames ∧ 8 + (maxL + 11) + rm.locals ≤ R.locals) (hz : rm.cells = 0 ∧ rm.slots = 0) (hc : cells ≤ R.cells ∧ slots ≤ R.slots)
    (hn : As.length = n) (hsz : ls.size = nL) (hst : st0 = As.reverse ++ rest) (hW : (rest.map fun v => v.category).sum ≤ 8) (hdg : decode cc pc = .ok (.invokestatic index, 3))
    (k : W p l e R s m args below meth c H locs cells slots Q (F0 m (pc + 3) ls (.int r :: rest))) : W p l e R s m args below meth c H locs cells slots Q (F0 m pc ls st0) :=
  W.callR (W.runS S hM (cwS n S.2.2.2.2 hG rfl hz.1 hz.2 hd hR) ⟨fun _ _ _ _ q => q, fun U hU hW => ⟨rfl, trivial⟩⟩ rfl hn hsz hst (lv_room hW) hdg hc) k
/-- a method of an object that only reads -/
theorem r_callV {y : MethodName} {bytes : ByteArray} {maxL nL index : Nat} {ret : Option FieldType} {rm : Room} {own C : String} {r : Int32} {As st0 : List Value} {h0 : Nat} {B : State → Prop} (n : Nat) (S : CallFix p m c cc nL s args ct_tbl own) (hM : Met l y (Cond.code y bytes maxL ret :: ct_tbl) rm (va_Pc (.ref h0 :: As) B) (QcRead r) 0 0 (fun _ => False))
    (hG : GoodIn ct_tbl (wsV own index C y (Cond.code y bytes maxL ret :: ct_tbl))) (hd : y.cls = C ∧ y.cls ≠ "java/lang/invoke/MethodHandle" ∧ y.cls ≠ "java/lang/invoke/VarHandle" ∧ (parseMethodDescriptor y.desc).map (fun d => d.parameters.length) = some n) (hR : rm.frames + 1 ≤ R.frames ∧ 8 + (maxL + 11) + rm.locals ≤ R.locals) (hz : rm.cells = 0 ∧ rm.slots = 0) (hc : cells ≤ R.cells ∧ slots ≤ R.slots)
    (hbl : ∀ (a : Array Value) (U : State) (g : JFrame) (mk : MethodId), B U → B (U.calling g mk a)) (hrc : ∃ cellB : Cell, H[h0]? = some cellB ∧ cellB.vm.isStatics = false ∧ s.vm.findClass C = some cellB.cls) (hB : ∀ U : State, U.heap = H → s.WarmedH U.vm → B U)
    (hn : As.length = n) (hsz : ls.size = nL) (hst : st0 = As.reverse ++ .ref h0 :: rest) (hW : (rest.map fun v => v.category).sum ≤ 8) (hdg : decode cc pc = .ok (.invokevirtual index, 3))
    (k : W p l e R s m args below meth c H locs cells slots Q (F0 m (pc + 3) ls (.int r :: rest))) : W p l e R s m args below meth c H locs cells slots Q (F0 m pc ls st0) :=
  W.callR (W.runV S hM (cwV n S.2.2.2.2 hG rfl hz.1 hz.2 hd hR) ⟨fun a U g mk q => ⟨q.1, hbl a U g mk q.2⟩, hrc, fun U hU hW => ⟨rfl, hB U hU hW⟩⟩ rfl hn hsz hst (lv_room hW) hdg hc) k
end CTR
end
section
/-! THE WORLDS. ct_G: doors (from, to), exits, may the guards wait, may the thief. ct_Bo: the board. ct_T: the class's table (ready, winner, far, open, queue, queued). ct_U: the model's (known, winner, rounds). -/
abbrev ct_G : Type := (Nat → Nat → Bool) × (Nat → Bool) × Bool × Bool
abbrev ct_Bo : Type := Nat × Nat × Nat × Bool
abbrev ct_T : Type := Bool × (Nat → Nat) × (Nat → Nat) × (Nat → Int32) × (Nat → Nat) × Nat
abbrev ct_U : Type := Bool × (Nat → Nat) × (Nat → Int32)
abbrev xt_r (t : ct_T) : Bool := t.1
abbrev xt_w (t : ct_T) : Nat → Nat := t.2.1
abbrev xt_f (t : ct_T) : Nat → Nat := t.2.2.1
abbrev xt_o (t : ct_T) : Nat → Int32 := t.2.2.2.1
abbrev xt_q (t : ct_T) : Nat → Nat := t.2.2.2.2.1
abbrev xt_n (t : ct_T) : Nat := t.2.2.2.2.2
abbrev xs_r (t : ct_T) (v : Bool) : ct_T := (v, t.2)
abbrev xs_w (t : ct_T) (v : Nat → Nat) : ct_T := (t.1, v, t.2.2)
abbrev xs_f (t : ct_T) (v : Nat → Nat) : ct_T := (t.1, t.2.1, v, t.2.2.2)
abbrev xs_o (t : ct_T) (v : Nat → Int32) : ct_T := (t.1, t.2.1, t.2.2.1, v, t.2.2.2.2)
abbrev xs_q (t : ct_T) (v : Nat → Nat) : ct_T := (t.1, t.2.1, t.2.2.1, t.2.2.2.1, v, t.2.2.2.2.2)
abbrev xs_n (t : ct_T) (v : Nat) : ct_T := (t.1, t.2.1, t.2.2.1, t.2.2.2.1, t.2.2.2.2.1, v)
def ct_wI (g : ct_G) : Int32 := nI (g.2.2.1.toNat + 2 * g.2.2.2.toNat)
def fX (ad : Nat → Nat) (g : ct_G) (b : ct_Bo) (t : ct_T) : List Value := [.int (ct_bI g.2.2.1), .int (ct_bI g.2.2.2), .ref (ad 1), .ref (ad 2), .int (ct_mk6 g.2.1), .int (nI b.1), .int (nI b.2.1), .int (nI b.2.2.1), .int (ct_bI b.2.2.2), .int (ct_bI (xt_r t)), .ref (ad 3), .ref (ad 4), .ref (ad 5), .ref (ad 6), .int (nI (xt_n t))]
def wX2 (ad : Nat → Nat) (cd : Nat → ClassId) (d1 d2 : Nat → Nat → Bool) (g : ct_G) (b : ct_Bo) (t : ct_T) : va_W := [(ad 0, .inr (0, fX ad g b t)), (ad 1, .inl (cd 1, 6, .inl (fun i => ct_mk6 (fun j => d1 i j)))), (ad 2, .inl (cd 2, 6, .inl (fun j => ct_mk6 (fun i => d2 i j)))), (ad 3, .inl (cd 3, 432, .inl (fun j => nI (xt_w t j)))), (ad 4, .inl (cd 4, 432, .inl (fun j => nI (xt_f t j)))), (ad 5, .inl (cd 5, 432, .inl (xt_o t))), (ad 6, .inl (cd 6, 432, .inl (fun j => nI (xt_q t j))))]
abbrev wX (ad : Nat → Nat) (cd : Nat → ClassId) (g : ct_G) (b : ct_Bo) (t : ct_T) : va_W := wX2 ad cd g.1 g.1 g b t
def tX (cd : Nat → ClassId) : List (ClassId × FieldType) := [(cd 1, .int), (cd 2, .int), (cd 3, .byte), (cd 4, .short), (cd 5, .byte), (cd 6, .short)]
def fM (ad : Nat → Nat) (g : ct_G) (k : Nat) (u : ct_U) : List Value := [.int (ct_wI g), .ref (ad 1), .ref (ad 2), .int (nI k), .int (ct_bI u.1), .ref (ad 3), .ref (ad 4)]
def wM (ad : Nat → Nat) (cd : Nat → ClassId) (g : ct_G) (k : Nat) (u : ct_U) : va_W := [(ad 0, .inr (1, fM ad g k u)), (ad 1, .inl (cd 1, 36, .inl (fun j => ct_bI (g.1 (j / 6) (j % 6))))), (ad 2, .inl (cd 2, 6, .inl (fun j => ct_bI (g.2.1 j)))), (ad 3, .inl (cd 3, 432, .inl (fun j => nI (u.2.1 j)))), (ad 4, .inl (cd 4, 432, .inl u.2.2))]
def tM (cd : Nat → ClassId) : List (ClassId × FieldType) := [(cd 1, .boolean), (cd 2, .boolean), (cd 3, .int), (cd 4, .int)]
theorem ct_updF {α : Type} (f : Nat → Int32) (F : α → Nat → Int32) (k : Nat) (v : Int32) (x : α) (h1 : F x k = v) (h2 : ∀ j, j ≠ k → F x j = f j) : upd f k v = F x := by
  funext j
  by_cases h : j = k
  · subst h; rw [pk_us, h1]
  · rw [pk_un h, h2 j h]
theorem ct_updNI (f : Nat → Nat) (k v : Nat) : upd (fun j => nI (f j)) k (nI v) = fun j => nI (ct_updN f k v j) := by
  funext j
  by_cases h : j = k
  · subst h; rw [pk_us]; simp [ct_updN]
  · rw [pk_un h]; simp [ct_updN, h]
theorem ct_updBI (f : Nat → Bool) (k : Nat) (v : Bool) : upd (fun j => ct_bI (f j)) k (ct_bI v) = fun j => ct_bI (ct_updB f k v j) := by
  funext j
  by_cases h : j = k
  · subst h; rw [pk_us]; simp [ct_updB]
  · rw [pk_un h]; simp [ct_updB, h]
theorem ct_updDI (d : Nat → Nat → Bool) {a b : Nat} (hb : b < 6) (v : Bool) : upd (fun j => ct_bI (d (j / 6) (j % 6))) (a * 6 + b) (ct_bI v) = fun j => ct_bI (ct_updD d a b v (j / 6) (j % 6)) := by
  funext j
  by_cases h : j = a * 6 + b
  · subst h; rw [pk_us]
    have h1 : (a * 6 + b) / 6 = a := by omega
    have h2 : (a * 6 + b) % 6 = b := by omega
    simp [ct_updD, h1, h2]
  · rw [pk_un h]
    have h1 : ¬ (j / 6 = a ∧ j % 6 = b) := by omega
    simp [ct_updD, h1]
theorem ct_updO (d : Nat → Nat → Bool) (a b : Nat) (v : Bool) : upd (fun i => ct_mk6 (fun j => d i j)) a (ct_mk6 (ct_updB (fun j => d a j) b v)) = fun i => ct_mk6 (fun j => ct_updD d a b v i j) := by
  funext i
  by_cases h : i = a
  · subst h; rw [pk_us]; congr 1; funext j; simp [ct_updB, ct_updD]
  · rw [pk_un h]; congr 1; funext j; simp [ct_updD, h]
theorem ct_updI (d : Nat → Nat → Bool) (a b : Nat) (v : Bool) : upd (fun j => ct_mk6 (fun i => d i j)) b (ct_mk6 (ct_updB (fun i => d i b) a v)) = fun j => ct_mk6 (fun i => ct_updD d a b v i j) := by
  funext j
  by_cases h : j = b
  · subst h; rw [pk_us]; congr 1; funext i; simp [ct_updB, ct_updD]
  · rw [pk_un h]; congr 1; funext i; simp [ct_updD, h]
abbrev ct_Pre (D : va_G) (tys : List (ClassId × FieldType)) (ws : va_W) (sz : Nat) : State → Prop := fun U => U.heap.size = sz ∧ va_P D classes ws U.heap ∧ va_K D classes tys U ∧ va_D (fun _ => True) ws
/-- a world that is only read -/
abbrev ct_PreR (D : va_G) (tys : List (ClassId × FieldType)) (ws : va_W) : State → Prop := fun U => va_P D classes ws U.heap ∧ va_K D classes tys U
def ct_Qv {S : Type} (D : va_G) (tys : List (ClassId × FieldType)) (wf : S → va_W) (post : S → Prop) (A : Nat → Prop) : Array Value → State → Outcome → State → Prop := va_Qv post (fun u U => va_P D classes (wf u) U.heap ∧ va_K D classes tys U ∧ va_D A (wf u)) A
def ct_Qi {S : Type} (D : va_G) (tys : List (ClassId × FieldType)) (wf : S → va_W) (post : Int32 → S → Prop) (A : Nat → Prop) : Array Value → State → Outcome → State → Prop := va_Qi post (fun u U => va_P D classes (wf u) U.heap ∧ va_K D classes tys U ∧ va_D A (wf u)) A
section CTW
variable {p : Program} {l : Launch} {e : Env} {R : Room} {s : State} {m : MethodId} {args : Array Value} {below : List Frame} {meth : Method} {c : Code} {H : Heap} {locs : List Loc} {cells slots : Nat} {Q : State → Prop}
variable {cc : ByteArray} {pc nL : Nat} {ls : Array Slot} {rest : List Value} {D : va_G} {tys : List (ClassId × FieldType)} {A : Nat → Prop} {H0 : Heap}
theorem w_start {y : MethodName} {n : Nat} {ret : Option FieldType} {rm : Room} {ws : va_W} {Qk : (Nat → Prop) → Array Value → State → Outcome → State → Prop} (av : List Value) (hy : plainName y.cls = true) (hn : (lg_sl av).length ≤ n)
    (h : ∀ (p : Program) (e : Env) (s : State) (m : MethodId) (below : List Frame) (meth : Method) (c : Code) (ls : Array Slot) (A : Nat → Prop), CallFix p m c cc n s av.toArray ct_tbl y.cls → meth.sig.returnType = ret → meth.locks = false → va_P D classes ws s.heap → va_K D classes tys s → va_D A ws → (∀ q : Nat, s.heap.size ≤ q → A q) → lv_has ls n (lv_args 0 av) → W p l e rm s m av.toArray below meth c s.heap [] 0 0 (MQ below (Qk A) av.toArray s 0 0 A) (F0 m 0 ls [])) :
    ∀ sz : Nat, Met l y (Cond.code y cc n ret :: ct_tbl) rm (va_Pc av (ct_Pre D tys ws sz)) (Qk (va_A ws sz)) 0 0 (va_A ws sz) := by
  intro sz
  refine ct_start av hy hn (fun p e s m below meth c ls S hr hlk _ hB hl => ?_)
  obtain ⟨hsz, hP, hK, hD⟩ := hB
  subst hsz
  exact h p e s m below meth c ls (va_A ws s.heap.size) S hr hlk hP hK hD.self (fun q hq => Or.inr hq) hl
theorem w_retv {S : Type} {wf : S → va_W} {post : S → Prop} (hx : p.tables.exec = Jvm.exec) (hb : c.code = cc) (hr : meth.sig.returnType = none) (hlk : meth.locks = false) (hK : va_K D classes tys s) (hdg : decode cc pc = .ok (.return_, 1)) (u : S) (hu : post u) (hP : va_P D classes (wf u) H) (hD : va_D A (wf u)) (hS : va_S A s.heap H locs) :
    W p l e R s m args below meth c H locs 0 0 (MQ below (ct_Qv D tys wf post A) args s 0 0 A) (F0 m pc ls []) :=
  W.vret hx hb hr (fun t ht hW => ⟨⟨u, rfl, hu, by rw [ht]; exact hP, va_K.moved hW.alike hK, hD⟩, hS.F ht⟩) hS.2.2 hdg (hlocks := hlk)
theorem w_reti {S : Type} {wf : S → va_W} {post : Int32 → S → Prop} {v : Int32} (hx : p.tables.exec = Jvm.exec) (hb : c.code = cc) (hr : meth.sig.returnType = some .int) (hlk : meth.locks = false) (hK : va_K D classes tys s) (hdg : decode cc pc = .ok (.ireturn, 1)) (u : S) (hu : post v u) (hP : va_P D classes (wf u) H) (hD : va_D A (wf u)) (hS : va_S A s.heap H locs) :
    W p l e R s m args below meth c H locs 0 0 (MQ below (ct_Qi D tys wf post A) args s 0 0 A) (F0 m pc ls [.int v]) :=
  W.iret hx hb hr (fun t ht hW => ⟨⟨v, u, rfl, hu, by rw [ht]; exact hP, va_K.moved hW.alike hK, hD⟩, hS.F ht⟩) hS.2.2 hdg (hlocks := hlk)
/-- a call of a method that changes its object's world, from a method of the same world -/
theorem w_callv {y : MethodName} {bytes : ByteArray} {maxL index : Nat} {rm : Room} {own C : String} {As st0 : List Value} {h0 : Nat} {ws : va_W} {S' : Type} {wf : S' → va_W} {post : S' → Prop} (n : Nat) (S : CallFix p m c cc nL s args ct_tbl own) (hM : ∀ sz : Nat, Met l y (Cond.code y bytes maxL none :: ct_tbl) rm (va_Pc (.ref h0 :: As) (ct_Pre D tys ws sz)) (ct_Qv D tys wf post (va_A ws sz)) 0 0 (va_A ws sz))
    (hG : GoodIn ct_tbl (wsV own index C y (Cond.code y bytes maxL none :: ct_tbl))) (hd : y.cls = C ∧ y.cls ≠ "java/lang/invoke/MethodHandle" ∧ y.cls ≠ "java/lang/invoke/VarHandle" ∧ (parseMethodDescriptor y.desc).map (fun d => d.parameters.length) = some n) (hR : rm.frames + 1 ≤ R.frames ∧ 8 + (maxL + 11) + rm.locals ≤ R.locals) (hz : rm.cells = 0 ∧ rm.slots = 0) (hc : cells ≤ R.cells ∧ slots ≤ R.slots)
    (hrc : ∃ cellB : Cell, H[h0]? = some cellB ∧ cellB.vm.isStatics = false ∧ s.vm.findClass C = some cellB.cls) (hK : va_K D classes tys s) (hP : va_P D classes ws H) (hD : va_D A ws) (hS : va_S A H0 H locs) (hA : ∀ q : Nat, H0.size ≤ q → A q)
    (hn : As.length = n) (hsz : ls.size = nL) (hst : st0 = As.reverse ++ .ref h0 :: rest) (hW : (rest.map fun v => v.category).sum ≤ 8) (hdg : decode cc pc = .ok (.invokevirtual index, 3))
    (kk : ∀ (u : S') (H1 : Heap) (locs1 : List Loc), post u → va_P D classes (wf u) H1 → va_D A (wf u) → va_S A H0 H1 locs1 → W p l e R s m args below meth c H1 locs1 cells slots Q (F0 m (pc + 3) ls rest)) : W p l e R s m args below meth c H locs cells slots Q (F0 m pc ls st0) := by
  have hF : ∀ q : Nat, va_A ws H.size q → A q := by
    intro q h
    rcases h with ⟨k, e, h⟩ | h
    · exact hD.2 k (q, e) h
    · exact hA q (Nat.le_trans hS.1 h)
  refine va_callv (va_runV S (hM H.size) (cwV n S.2.2.2.2 hG rfl hz.1 hz.2 hd hR) ⟨fun a U g mk q => ⟨q.1, q.2.1, q.2.2.1, va_K.moved (u := U) (U := U.calling g mk a) (Vm.Alike.refl U.vm) q.2.2.2.1, q.2.2.2.2⟩, hrc, fun U hU hW => ⟨rfl, by rw [hU], by rw [hU]; exact hP, va_K.moved hW.alike hK, hD.weaken (fun _ _ _ _ => trivial)⟩⟩ rfl hn hsz hst (lv_room hW) hdg hc) hS (fun q _ h => hF q h) hF (fun u t H1 locs1 ht hvm hw hB hz1 hk1 hS1 => ?_)
  obtain ⟨hP1, hK1, hD1⟩ := hB
  rw [ht] at hP1
  exact kk u H1 locs1 hw hP1 (hD1.weaken (fun k q _ h => hF q.1 h)) hS1
variable {dC : Nat → ClassId} {dI : Nat → Nat → Nat} {ad : Nat → Nat} {cd : Nat → ClassId} {g : ct_G} {b : ct_Bo} {t : ct_T} {k9 : Nat} {u : ct_U} {d1 d2 : Nat → Nat → Bool}
theorem x_get (S : CallFix p m c cc nL s args ct_tbl R_X) (hK : va_K (dC, dI) classes (tX cd) s) (hP : va_P (dC, dI) classes (wX2 ad cd d1 d2 g b t) H) (k : Nat) (hk : k < 15) {idx : Nat} (hl : Cond.fieldLink R_X idx (F_X k).1 (F_X k).2.1 (F_X k).2.2.1 ∈ ct_tbl) {v : Value} (hv : (fX ad g b t)[k]? = some v) (hdg : decode cc pc = .ok (.getfield idx, 3)) (kk : W p l e R s m args below meth c H locs cells slots Q (F0 m (pc + 3) ls (v :: rest))) : W p l e R s m args below meth c H locs cells slots Q (F0 m pc ls (.ref (ad 0) :: rest)) :=
  va_get (D := (dC, dI)) (ci := 0) (fs := fX ad g b t) (C := R_X) (T := F_X) (N := 15) S.1 S.2.1 S.2.2.2.2 i_X S.2.2.2.1 hK hP 0 rfl rfl k hk (S.2.2.2.2 _ hl) (fun _ h => h) hv hdg kk
theorem xg_guardsWait (S : CallFix p m c cc nL s args ct_tbl R_X) (hK : va_K (dC, dI) classes (tX cd) s) (hP : va_P (dC, dI) classes (wX2 ad cd d1 d2 g b t) H) (hdg : decode cc pc = .ok (.getfield 30, 3)) (kk : W p l e R s m args below meth c H locs cells slots Q (F0 m (pc + 3) ls (.int (ct_bI g.2.2.1) :: rest))) : W p l e R s m args below meth c H locs cells slots Q (F0 m pc ls (.ref (ad 0) :: rest)) := x_get S hK hP 0 (by decide) mf_X0 rfl hdg kk
theorem xg_thiefWaits (S : CallFix p m c cc nL s args ct_tbl R_X) (hK : va_K (dC, dI) classes (tX cd) s) (hP : va_P (dC, dI) classes (wX2 ad cd d1 d2 g b t) H) (hdg : decode cc pc = .ok (.getfield 34, 3)) (kk : W p l e R s m args below meth c H locs cells slots Q (F0 m (pc + 3) ls (.int (ct_bI g.2.2.2) :: rest))) : W p l e R s m args below meth c H locs cells slots Q (F0 m pc ls (.ref (ad 0) :: rest)) := x_get S hK hP 1 (by decide) mf_X1 rfl hdg kk
theorem xg_out (S : CallFix p m c cc nL s args ct_tbl R_X) (hK : va_K (dC, dI) classes (tX cd) s) (hP : va_P (dC, dI) classes (wX2 ad cd d1 d2 g b t) H) (hdg : decode cc pc = .ok (.getfield 7, 3)) (kk : W p l e R s m args below meth c H locs cells slots Q (F0 m (pc + 3) ls (.ref (ad 1) :: rest))) : W p l e R s m args below meth c H locs cells slots Q (F0 m pc ls (.ref (ad 0) :: rest)) := x_get S hK hP 2 (by decide) mf_X2 rfl hdg kk
theorem xg_in (S : CallFix p m c cc nL s args ct_tbl R_X) (hK : va_K (dC, dI) classes (tX cd) s) (hP : va_P (dC, dI) classes (wX2 ad cd d1 d2 g b t) H) (hdg : decode cc pc = .ok (.getfield 13, 3)) (kk : W p l e R s m args below meth c H locs cells slots Q (F0 m (pc + 3) ls (.ref (ad 2) :: rest))) : W p l e R s m args below meth c H locs cells slots Q (F0 m pc ls (.ref (ad 0) :: rest)) := x_get S hK hP 3 (by decide) mf_X3 rfl hdg kk
theorem xg_exits (S : CallFix p m c cc nL s args ct_tbl R_X) (hK : va_K (dC, dI) classes (tX cd) s) (hP : va_P (dC, dI) classes (wX2 ad cd d1 d2 g b t) H) (hdg : decode cc pc = .ok (.getfield 51, 3)) (kk : W p l e R s m args below meth c H locs cells slots Q (F0 m (pc + 3) ls (.int (ct_mk6 g.2.1) :: rest))) : W p l e R s m args below meth c H locs cells slots Q (F0 m pc ls (.ref (ad 0) :: rest)) := x_get S hK hP 4 (by decide) mf_X4 rfl hdg kk
theorem xg_boardA (S : CallFix p m c cc nL s args ct_tbl R_X) (hK : va_K (dC, dI) classes (tX cd) s) (hP : va_P (dC, dI) classes (wX2 ad cd d1 d2 g b t) H) (hdg : decode cc pc = .ok (.getfield 54, 3)) (kk : W p l e R s m args below meth c H locs cells slots Q (F0 m (pc + 3) ls (.int (nI b.1) :: rest))) : W p l e R s m args below meth c H locs cells slots Q (F0 m pc ls (.ref (ad 0) :: rest)) := x_get S hK hP 5 (by decide) mf_X5 rfl hdg kk
theorem xg_boardB (S : CallFix p m c cc nL s args ct_tbl R_X) (hK : va_K (dC, dI) classes (tX cd) s) (hP : va_P (dC, dI) classes (wX2 ad cd d1 d2 g b t) H) (hdg : decode cc pc = .ok (.getfield 37, 3)) (kk : W p l e R s m args below meth c H locs cells slots Q (F0 m (pc + 3) ls (.int (nI b.2.1) :: rest))) : W p l e R s m args below meth c H locs cells slots Q (F0 m pc ls (.ref (ad 0) :: rest)) := x_get S hK hP 6 (by decide) mf_X6 rfl hdg kk
theorem xg_boardT (S : CallFix p m c cc nL s args ct_tbl R_X) (hK : va_K (dC, dI) classes (tX cd) s) (hP : va_P (dC, dI) classes (wX2 ad cd d1 d2 g b t) H) (hdg : decode cc pc = .ok (.getfield 41, 3)) (kk : W p l e R s m args below meth c H locs cells slots Q (F0 m (pc + 3) ls (.int (nI b.2.2.1) :: rest))) : W p l e R s m args below meth c H locs cells slots Q (F0 m pc ls (.ref (ad 0) :: rest)) := x_get S hK hP 7 (by decide) mf_X7 rfl hdg kk
theorem xg_boardThief (S : CallFix p m c cc nL s args ct_tbl R_X) (hK : va_K (dC, dI) classes (tX cd) s) (hP : va_P (dC, dI) classes (wX2 ad cd d1 d2 g b t) H) (hdg : decode cc pc = .ok (.getfield 57, 3)) (kk : W p l e R s m args below meth c H locs cells slots Q (F0 m (pc + 3) ls (.int (ct_bI b.2.2.2) :: rest))) : W p l e R s m args below meth c H locs cells slots Q (F0 m pc ls (.ref (ad 0) :: rest)) := x_get S hK hP 8 (by decide) mf_X8 rfl hdg kk
theorem xg_ready (S : CallFix p m c cc nL s args ct_tbl R_X) (hK : va_K (dC, dI) classes (tX cd) s) (hP : va_P (dC, dI) classes (wX2 ad cd d1 d2 g b t) H) (hdg : decode cc pc = .ok (.getfield 48, 3)) (kk : W p l e R s m args below meth c H locs cells slots Q (F0 m (pc + 3) ls (.int (ct_bI (xt_r t)) :: rest))) : W p l e R s m args below meth c H locs cells slots Q (F0 m pc ls (.ref (ad 0) :: rest)) := x_get S hK hP 9 (by decide) mf_X9 rfl hdg kk
theorem xg_winner (S : CallFix p m c cc nL s args ct_tbl R_X) (hK : va_K (dC, dI) classes (tX cd) s) (hP : va_P (dC, dI) classes (wX2 ad cd d1 d2 g b t) H) (hdg : decode cc pc = .ok (.getfield 16, 3)) (kk : W p l e R s m args below meth c H locs cells slots Q (F0 m (pc + 3) ls (.ref (ad 3) :: rest))) : W p l e R s m args below meth c H locs cells slots Q (F0 m pc ls (.ref (ad 0) :: rest)) := x_get S hK hP 10 (by decide) mf_X10 rfl hdg kk
theorem xg_far (S : CallFix p m c cc nL s args ct_tbl R_X) (hK : va_K (dC, dI) classes (tX cd) s) (hP : va_P (dC, dI) classes (wX2 ad cd d1 d2 g b t) H) (hdg : decode cc pc = .ok (.getfield 20, 3)) (kk : W p l e R s m args below meth c H locs cells slots Q (F0 m (pc + 3) ls (.ref (ad 4) :: rest))) : W p l e R s m args below meth c H locs cells slots Q (F0 m pc ls (.ref (ad 0) :: rest)) := x_get S hK hP 11 (by decide) mf_X11 rfl hdg kk
theorem xg_open (S : CallFix p m c cc nL s args ct_tbl R_X) (hK : va_K (dC, dI) classes (tX cd) s) (hP : va_P (dC, dI) classes (wX2 ad cd d1 d2 g b t) H) (hdg : decode cc pc = .ok (.getfield 24, 3)) (kk : W p l e R s m args below meth c H locs cells slots Q (F0 m (pc + 3) ls (.ref (ad 5) :: rest))) : W p l e R s m args below meth c H locs cells slots Q (F0 m pc ls (.ref (ad 0) :: rest)) := x_get S hK hP 12 (by decide) mf_X12 rfl hdg kk
theorem xg_queue (S : CallFix p m c cc nL s args ct_tbl R_X) (hK : va_K (dC, dI) classes (tX cd) s) (hP : va_P (dC, dI) classes (wX2 ad cd d1 d2 g b t) H) (hdg : decode cc pc = .ok (.getfield 27, 3)) (kk : W p l e R s m args below meth c H locs cells slots Q (F0 m (pc + 3) ls (.ref (ad 6) :: rest))) : W p l e R s m args below meth c H locs cells slots Q (F0 m pc ls (.ref (ad 0) :: rest)) := x_get S hK hP 13 (by decide) mf_X13 rfl hdg kk
theorem xg_queued (S : CallFix p m c cc nL s args ct_tbl R_X) (hK : va_K (dC, dI) classes (tX cd) s) (hP : va_P (dC, dI) classes (wX2 ad cd d1 d2 g b t) H) (hdg : decode cc pc = .ok (.getfield 75, 3)) (kk : W p l e R s m args below meth c H locs cells slots Q (F0 m (pc + 3) ls (.int (nI (xt_n t)) :: rest))) : W p l e R s m args below meth c H locs cells slots Q (F0 m pc ls (.ref (ad 0) :: rest)) := x_get S hK hP 14 (by decide) mf_X14 rfl hdg kk
theorem xp_exits (S : CallFix p m c cc nL s args ct_tbl R_X) (hK : va_K (dC, dI) classes (tX cd) s) (hP : va_P (dC, dI) classes (wX2 ad cd d1 d2 g b t) H) (hD : va_D A (wX2 ad cd d1 d2 g b t)) (hS : va_S A H0 H locs) {e9 : Nat → Bool} (hdg : decode cc pc = .ok (.putfield 51, 3)) (kk : ∀ (H1 : Heap) (locs1 : List Loc), va_P (dC, dI) classes (wX2 ad cd d1 d2 (g.1, e9, g.2.2) b t) H1 → va_D A (wX2 ad cd d1 d2 (g.1, e9, g.2.2) b t) → va_S A H0 H1 locs1 → W p l e R s m args below meth c H1 locs1 cells slots Q (F0 m (pc + 3) ls rest)) : W p l e R s m args below meth c H locs cells slots Q (F0 m pc ls (.int (ct_mk6 e9) :: .ref (ad 0) :: rest)) :=
  va_put (D := (dC, dI)) (ci := 0) (fs := fX ad g b t) (v := .int (ct_mk6 e9)) (ty := .int) (C := R_X) (T := F_X) (N := 15) S.1 S.2.1 S.2.2.2.2 i_X t_X t_X_ok n_X S.2.2.2.1 hK hP hD hS 0 rfl rfl 4 (by decide) (S.2.2.2.2 _ mf_X4) (fun _ h => h) rfl rfl rfl rfl (Nat.le_of_ble_eq_true rfl) hdg (fun H1 locs1 h1 h2 h3 => kk H1 locs1 h1 h2 h3)
theorem xp_boardA (S : CallFix p m c cc nL s args ct_tbl R_X) (hK : va_K (dC, dI) classes (tX cd) s) (hP : va_P (dC, dI) classes (wX2 ad cd d1 d2 g b t) H) (hD : va_D A (wX2 ad cd d1 d2 g b t)) (hS : va_S A H0 H locs) {v9 : Nat} (hdg : decode cc pc = .ok (.putfield 54, 3)) (kk : ∀ (H1 : Heap) (locs1 : List Loc), va_P (dC, dI) classes (wX2 ad cd d1 d2 g (v9, b.2) t) H1 → va_D A (wX2 ad cd d1 d2 g (v9, b.2) t) → va_S A H0 H1 locs1 → W p l e R s m args below meth c H1 locs1 cells slots Q (F0 m (pc + 3) ls rest)) : W p l e R s m args below meth c H locs cells slots Q (F0 m pc ls (.int (nI v9) :: .ref (ad 0) :: rest)) :=
  va_put (D := (dC, dI)) (ci := 0) (fs := fX ad g b t) (v := .int (nI v9)) (ty := .int) (C := R_X) (T := F_X) (N := 15) S.1 S.2.1 S.2.2.2.2 i_X t_X t_X_ok n_X S.2.2.2.1 hK hP hD hS 0 rfl rfl 5 (by decide) (S.2.2.2.2 _ mf_X5) (fun _ h => h) rfl rfl rfl rfl (Nat.le_of_ble_eq_true rfl) hdg (fun H1 locs1 h1 h2 h3 => kk H1 locs1 h1 h2 h3)
theorem xp_boardB (S : CallFix p m c cc nL s args ct_tbl R_X) (hK : va_K (dC, dI) classes (tX cd) s) (hP : va_P (dC, dI) classes (wX2 ad cd d1 d2 g b t) H) (hD : va_D A (wX2 ad cd d1 d2 g b t)) (hS : va_S A H0 H locs) {v9 : Nat} (hdg : decode cc pc = .ok (.putfield 37, 3)) (kk : ∀ (H1 : Heap) (locs1 : List Loc), va_P (dC, dI) classes (wX2 ad cd d1 d2 g (b.1, v9, b.2.2) t) H1 → va_D A (wX2 ad cd d1 d2 g (b.1, v9, b.2.2) t) → va_S A H0 H1 locs1 → W p l e R s m args below meth c H1 locs1 cells slots Q (F0 m (pc + 3) ls rest)) : W p l e R s m args below meth c H locs cells slots Q (F0 m pc ls (.int (nI v9) :: .ref (ad 0) :: rest)) :=
  va_put (D := (dC, dI)) (ci := 0) (fs := fX ad g b t) (v := .int (nI v9)) (ty := .int) (C := R_X) (T := F_X) (N := 15) S.1 S.2.1 S.2.2.2.2 i_X t_X t_X_ok n_X S.2.2.2.1 hK hP hD hS 0 rfl rfl 6 (by decide) (S.2.2.2.2 _ mf_X6) (fun _ h => h) rfl rfl rfl rfl (Nat.le_of_ble_eq_true rfl) hdg (fun H1 locs1 h1 h2 h3 => kk H1 locs1 h1 h2 h3)
theorem xp_boardT (S : CallFix p m c cc nL s args ct_tbl R_X) (hK : va_K (dC, dI) classes (tX cd) s) (hP : va_P (dC, dI) classes (wX2 ad cd d1 d2 g b t) H) (hD : va_D A (wX2 ad cd d1 d2 g b t)) (hS : va_S A H0 H locs) {v9 : Nat} (hdg : decode cc pc = .ok (.putfield 41, 3)) (kk : ∀ (H1 : Heap) (locs1 : List Loc), va_P (dC, dI) classes (wX2 ad cd d1 d2 g (b.1, b.2.1, v9, b.2.2.2) t) H1 → va_D A (wX2 ad cd d1 d2 g (b.1, b.2.1, v9, b.2.2.2) t) → va_S A H0 H1 locs1 → W p l e R s m args below meth c H1 locs1 cells slots Q (F0 m (pc + 3) ls rest)) : W p l e R s m args below meth c H locs cells slots Q (F0 m pc ls (.int (nI v9) :: .ref (ad 0) :: rest)) :=
  va_put (D := (dC, dI)) (ci := 0) (fs := fX ad g b t) (v := .int (nI v9)) (ty := .int) (C := R_X) (T := F_X) (N := 15) S.1 S.2.1 S.2.2.2.2 i_X t_X t_X_ok n_X S.2.2.2.1 hK hP hD hS 0 rfl rfl 7 (by decide) (S.2.2.2.2 _ mf_X7) (fun _ h => h) rfl rfl rfl rfl (Nat.le_of_ble_eq_true rfl) hdg (fun H1 locs1 h1 h2 h3 => kk H1 locs1 h1 h2 h3)
theorem xp_boardThief (S : CallFix p m c cc nL s args ct_tbl R_X) (hK : va_K (dC, dI) classes (tX cd) s) (hP : va_P (dC, dI) classes (wX2 ad cd d1 d2 g b t) H) (hD : va_D A (wX2 ad cd d1 d2 g b t)) (hS : va_S A H0 H locs) {v9 : Bool} (hdg : decode cc pc = .ok (.putfield 57, 3)) (kk : ∀ (H1 : Heap) (locs1 : List Loc), va_P (dC, dI) classes (wX2 ad cd d1 d2 g (b.1, b.2.1, b.2.2.1, v9) t) H1 → va_D A (wX2 ad cd d1 d2 g (b.1, b.2.1, b.2.2.1, v9) t) → va_S A H0 H1 locs1 → W p l e R s m args below meth c H1 locs1 cells slots Q (F0 m (pc + 3) ls rest)) : W p l e R s m args below meth c H locs cells slots Q (F0 m pc ls (.int (ct_bI v9) :: .ref (ad 0) :: rest)) :=
  va_put (D := (dC, dI)) (ci := 0) (fs := fX ad g b t) (v := .int (ct_bI v9)) (ty := .boolean) (C := R_X) (T := F_X) (N := 15) S.1 S.2.1 S.2.2.2.2 i_X t_X t_X_ok n_X S.2.2.2.1 hK hP hD hS 0 rfl rfl 8 (by decide) (S.2.2.2.2 _ mf_X8) (fun _ h => h) rfl rfl (ct_nzv v9) (ct_fz v9) (Nat.le_of_ble_eq_true rfl) hdg (fun H1 locs1 h1 h2 h3 => kk H1 locs1 h1 h2 h3)
theorem xp_ready (S : CallFix p m c cc nL s args ct_tbl R_X) (hK : va_K (dC, dI) classes (tX cd) s) (hP : va_P (dC, dI) classes (wX2 ad cd d1 d2 g b t) H) (hD : va_D A (wX2 ad cd d1 d2 g b t)) (hS : va_S A H0 H locs) {v9 : Bool} (hdg : decode cc pc = .ok (.putfield 48, 3)) (kk : ∀ (H1 : Heap) (locs1 : List Loc), va_P (dC, dI) classes (wX2 ad cd d1 d2 g b (xs_r t v9)) H1 → va_D A (wX2 ad cd d1 d2 g b (xs_r t v9)) → va_S A H0 H1 locs1 → W p l e R s m args below meth c H1 locs1 cells slots Q (F0 m (pc + 3) ls rest)) : W p l e R s m args below meth c H locs cells slots Q (F0 m pc ls (.int (ct_bI v9) :: .ref (ad 0) :: rest)) :=
  va_put (D := (dC, dI)) (ci := 0) (fs := fX ad g b t) (v := .int (ct_bI v9)) (ty := .boolean) (C := R_X) (T := F_X) (N := 15) S.1 S.2.1 S.2.2.2.2 i_X t_X t_X_ok n_X S.2.2.2.1 hK hP hD hS 0 rfl rfl 9 (by decide) (S.2.2.2.2 _ mf_X9) (fun _ h => h) rfl rfl (ct_nzv v9) (ct_fz v9) (Nat.le_of_ble_eq_true rfl) hdg (fun H1 locs1 h1 h2 h3 => kk H1 locs1 h1 h2 h3)
theorem xp_queued (S : CallFix p m c cc nL s args ct_tbl R_X) (hK : va_K (dC, dI) classes (tX cd) s) (hP : va_P (dC, dI) classes (wX2 ad cd d1 d2 g b t) H) (hD : va_D A (wX2 ad cd d1 d2 g b t)) (hS : va_S A H0 H locs) {v9 : Nat} (hdg : decode cc pc = .ok (.putfield 75, 3)) (kk : ∀ (H1 : Heap) (locs1 : List Loc), va_P (dC, dI) classes (wX2 ad cd d1 d2 g b (xs_n t v9)) H1 → va_D A (wX2 ad cd d1 d2 g b (xs_n t v9)) → va_S A H0 H1 locs1 → W p l e R s m args below meth c H1 locs1 cells slots Q (F0 m (pc + 3) ls rest)) : W p l e R s m args below meth c H locs cells slots Q (F0 m pc ls (.int (nI v9) :: .ref (ad 0) :: rest)) :=
  va_put (D := (dC, dI)) (ci := 0) (fs := fX ad g b t) (v := .int (nI v9)) (ty := .int) (C := R_X) (T := F_X) (N := 15) S.1 S.2.1 S.2.2.2.2 i_X t_X t_X_ok n_X S.2.2.2.1 hK hP hD hS 0 rfl rfl 14 (by decide) (S.2.2.2.2 _ mf_X14) (fun _ h => h) rfl rfl rfl rfl (Nat.le_of_ble_eq_true rfl) hdg (fun H1 locs1 h1 h2 h3 => kk H1 locs1 h1 h2 h3)
theorem xl_out (S : CallFix p m c cc nL s args ct_tbl R_X) (hK : va_K (dC, dI) classes (tX cd) s) (hP : va_P (dC, dI) classes (wX2 ad cd d1 d2 g b t) H) {i9 : Nat} (hi : i9 < 6) (hdg : decode cc pc = .ok (.iaload, 1)) (kk : W p l e R s m args below meth c H locs cells slots Q (F0 m (pc + 1) ls (.int (ct_mk6 (fun j => d1 i9 j)) :: rest))) : W p l e R s m args below meth c H locs cells slots Q (F0 m pc ls (.int (nI i9) :: .ref (ad 1) :: rest)) :=
  va_iald S.1 S.2.1 hK hP 1 0 rfl rfl (vp_in_nI hi (by decide)) hdg (r_top (by rw [nI_clamp (show i9 < 2 ^ 31 by omega)]) kk)
theorem xl_in (S : CallFix p m c cc nL s args ct_tbl R_X) (hK : va_K (dC, dI) classes (tX cd) s) (hP : va_P (dC, dI) classes (wX2 ad cd d1 d2 g b t) H) {i9 : Nat} (hi : i9 < 6) (hdg : decode cc pc = .ok (.iaload, 1)) (kk : W p l e R s m args below meth c H locs cells slots Q (F0 m (pc + 1) ls (.int (ct_mk6 (fun i => d2 i i9)) :: rest))) : W p l e R s m args below meth c H locs cells slots Q (F0 m pc ls (.int (nI i9) :: .ref (ad 2) :: rest)) :=
  va_iald S.1 S.2.1 hK hP 2 1 rfl rfl (vp_in_nI hi (by decide)) hdg (r_top (by rw [nI_clamp (show i9 < 2 ^ 31 by omega)]) kk)
theorem xl_winner (S : CallFix p m c cc nL s args ct_tbl R_X) (hK : va_K (dC, dI) classes (tX cd) s) (hP : va_P (dC, dI) classes (wX2 ad cd d1 d2 g b t) H) {i9 : Nat} (hi : i9 < 432) (hdg : decode cc pc = .ok (.baload, 1)) (kk : W p l e R s m args below meth c H locs cells slots Q (F0 m (pc + 1) ls (.int (nI (xt_w t i9)) :: rest))) : W p l e R s m args below meth c H locs cells slots Q (F0 m pc ls (.int (nI i9) :: .ref (ad 3) :: rest)) :=
  va_bald S.1 S.2.1 hK hP 3 2 rfl rfl (vp_in_nI hi (by decide)) hdg (r_top (by rw [nI_clamp (show i9 < 2 ^ 31 by omega)]) kk)
theorem xl_far (S : CallFix p m c cc nL s args ct_tbl R_X) (hK : va_K (dC, dI) classes (tX cd) s) (hP : va_P (dC, dI) classes (wX2 ad cd d1 d2 g b t) H) {i9 : Nat} (hi : i9 < 432) (hdg : decode cc pc = .ok (.saload, 1)) (kk : W p l e R s m args below meth c H locs cells slots Q (F0 m (pc + 1) ls (.int (nI (xt_f t i9)) :: rest))) : W p l e R s m args below meth c H locs cells slots Q (F0 m pc ls (.int (nI i9) :: .ref (ad 4) :: rest)) :=
  va_sald S.1 S.2.1 hK hP 4 3 rfl rfl (vp_in_nI hi (by decide)) hdg (r_top (by rw [nI_clamp (show i9 < 2 ^ 31 by omega)]) kk)
theorem xl_open (S : CallFix p m c cc nL s args ct_tbl R_X) (hK : va_K (dC, dI) classes (tX cd) s) (hP : va_P (dC, dI) classes (wX2 ad cd d1 d2 g b t) H) {i9 : Nat} (hi : i9 < 432) (hdg : decode cc pc = .ok (.baload, 1)) (kk : W p l e R s m args below meth c H locs cells slots Q (F0 m (pc + 1) ls (.int (xt_o t i9) :: rest))) : W p l e R s m args below meth c H locs cells slots Q (F0 m pc ls (.int (nI i9) :: .ref (ad 5) :: rest)) :=
  va_bald S.1 S.2.1 hK hP 5 4 rfl rfl (vp_in_nI hi (by decide)) hdg (r_top (by rw [nI_clamp (show i9 < 2 ^ 31 by omega)]) kk)
theorem xl_queue (S : CallFix p m c cc nL s args ct_tbl R_X) (hK : va_K (dC, dI) classes (tX cd) s) (hP : va_P (dC, dI) classes (wX2 ad cd d1 d2 g b t) H) {i9 : Nat} (hi : i9 < 432) (hdg : decode cc pc = .ok (.saload, 1)) (kk : W p l e R s m args below meth c H locs cells slots Q (F0 m (pc + 1) ls (.int (nI (xt_q t i9)) :: rest))) : W p l e R s m args below meth c H locs cells slots Q (F0 m pc ls (.int (nI i9) :: .ref (ad 6) :: rest)) :=
  va_sald S.1 S.2.1 hK hP 6 5 rfl rfl (vp_in_nI hi (by decide)) hdg (r_top (by rw [nI_clamp (show i9 < 2 ^ 31 by omega)]) kk)
theorem xa_winner (S : CallFix p m c cc nL s args ct_tbl R_X) (hK : va_K (dC, dI) classes (tX cd) s) (hP : va_P (dC, dI) classes (wX2 ad cd d1 d2 g b t) H) (hD : va_D A (wX2 ad cd d1 d2 g b t)) (hS : va_S A H0 H locs) {i9 : Nat} {v9 : Nat} (hi : i9 < 432) (hv : v9 < 128) (hdg : decode cc pc = .ok (.bastore, 1)) (kk : ∀ (H1 : Heap) (locs1 : List Loc), va_P (dC, dI) classes (wX2 ad cd d1 d2 g b (xs_w t (ct_updN (xt_w t) i9 v9))) H1 → va_D A (wX2 ad cd d1 d2 g b (xs_w t (ct_updN (xt_w t) i9 v9))) → va_S A H0 H1 locs1 → W p l e R s m args below meth c H1 locs1 cells slots Q (F0 m (pc + 1) ls rest)) : W p l e R s m args below meth c H locs cells slots Q (F0 m pc ls (.int (nI v9) :: .int (nI i9) :: .ref (ad 3) :: rest)) := by
  have he : upd (fun j => nI (xt_w t j)) (nI i9).toNatClampNeg (vp_nar .byte (nI v9)) = fun j => nI (ct_updN (xt_w t) i9 v9 j) := by rw [nI_clamp (show i9 < 2 ^ 31 by omega), ct_nb hv]; exact ct_updNI _ _ _
  refine va_bast S.1 S.2.1 hK hP hD hS 3 2 rfl rfl (vp_in_nI hi (by decide)) hdg (fun H1 locs1 h1 h2 h3 => ?_)
  rw [he] at h1 h2
  exact kk H1 locs1 h1 h2 h3
theorem xa_far (S : CallFix p m c cc nL s args ct_tbl R_X) (hK : va_K (dC, dI) classes (tX cd) s) (hP : va_P (dC, dI) classes (wX2 ad cd d1 d2 g b t) H) (hD : va_D A (wX2 ad cd d1 d2 g b t)) (hS : va_S A H0 H locs) {i9 : Nat} {v9 : Nat} (hi : i9 < 432) (hv : v9 < 1000) (hdg : decode cc pc = .ok (.sastore, 1)) (kk : ∀ (H1 : Heap) (locs1 : List Loc), va_P (dC, dI) classes (wX2 ad cd d1 d2 g b (xs_f t (ct_updN (xt_f t) i9 v9))) H1 → va_D A (wX2 ad cd d1 d2 g b (xs_f t (ct_updN (xt_f t) i9 v9))) → va_S A H0 H1 locs1 → W p l e R s m args below meth c H1 locs1 cells slots Q (F0 m (pc + 1) ls rest)) : W p l e R s m args below meth c H locs cells slots Q (F0 m pc ls (.int (nI v9) :: .int (nI i9) :: .ref (ad 4) :: rest)) := by
  have he : upd (fun j => nI (xt_f t j)) (nI i9).toNatClampNeg (vp_nar .short (nI v9)) = fun j => nI (ct_updN (xt_f t) i9 v9 j) := by rw [nI_clamp (show i9 < 2 ^ 31 by omega), ct_ns hv]; exact ct_updNI _ _ _
  refine va_sast S.1 S.2.1 hK hP hD hS 4 3 rfl rfl (vp_in_nI hi (by decide)) hdg (fun H1 locs1 h1 h2 h3 => ?_)
  rw [he] at h1 h2
  exact kk H1 locs1 h1 h2 h3
theorem xa_queue (S : CallFix p m c cc nL s args ct_tbl R_X) (hK : va_K (dC, dI) classes (tX cd) s) (hP : va_P (dC, dI) classes (wX2 ad cd d1 d2 g b t) H) (hD : va_D A (wX2 ad cd d1 d2 g b t)) (hS : va_S A H0 H locs) {i9 : Nat} {v9 : Nat} (hi : i9 < 432) (hv : v9 < 1000) (hdg : decode cc pc = .ok (.sastore, 1)) (kk : ∀ (H1 : Heap) (locs1 : List Loc), va_P (dC, dI) classes (wX2 ad cd d1 d2 g b (xs_q t (ct_updN (xt_q t) i9 v9))) H1 → va_D A (wX2 ad cd d1 d2 g b (xs_q t (ct_updN (xt_q t) i9 v9))) → va_S A H0 H1 locs1 → W p l e R s m args below meth c H1 locs1 cells slots Q (F0 m (pc + 1) ls rest)) : W p l e R s m args below meth c H locs cells slots Q (F0 m pc ls (.int (nI v9) :: .int (nI i9) :: .ref (ad 6) :: rest)) := by
  have he : upd (fun j => nI (xt_q t j)) (nI i9).toNatClampNeg (vp_nar .short (nI v9)) = fun j => nI (ct_updN (xt_q t) i9 v9 j) := by rw [nI_clamp (show i9 < 2 ^ 31 by omega), ct_ns hv]; exact ct_updNI _ _ _
  refine va_sast S.1 S.2.1 hK hP hD hS 6 5 rfl rfl (vp_in_nI hi (by decide)) hdg (fun H1 locs1 h1 h2 h3 => ?_)
  rw [he] at h1 h2
  exact kk H1 locs1 h1 h2 h3
theorem xa_open (S : CallFix p m c cc nL s args ct_tbl R_X) (hK : va_K (dC, dI) classes (tX cd) s) (hP : va_P (dC, dI) classes (wX2 ad cd d1 d2 g b t) H) (hD : va_D A (wX2 ad cd d1 d2 g b t)) (hS : va_S A H0 H locs) {i9 : Nat} {v9 : Int32} (hi : i9 < 432) (hv : vp_nar .byte v9 = v9) (hdg : decode cc pc = .ok (.bastore, 1)) (kk : ∀ (H1 : Heap) (locs1 : List Loc), va_P (dC, dI) classes (wX2 ad cd d1 d2 g b (xs_o t (upd (xt_o t) i9 v9))) H1 → va_D A (wX2 ad cd d1 d2 g b (xs_o t (upd (xt_o t) i9 v9))) → va_S A H0 H1 locs1 → W p l e R s m args below meth c H1 locs1 cells slots Q (F0 m (pc + 1) ls rest)) : W p l e R s m args below meth c H locs cells slots Q (F0 m pc ls (.int (v9) :: .int (nI i9) :: .ref (ad 5) :: rest)) := by
  have he : upd (xt_o t) (nI i9).toNatClampNeg (vp_nar .byte (v9)) = upd (xt_o t) i9 v9 := by rw [nI_clamp (show i9 < 2 ^ 31 by omega), hv]
  refine va_bast S.1 S.2.1 hK hP hD hS 5 4 rfl rfl (vp_in_nI hi (by decide)) hdg (fun H1 locs1 h1 h2 h3 => ?_)
  rw [he] at h1 h2
  exact kk H1 locs1 h1 h2 h3
theorem xa_out (S : CallFix p m c cc nL s args ct_tbl R_X) (hK : va_K (dC, dI) classes (tX cd) s) (hP : va_P (dC, dI) classes (wX2 ad cd d1 d2 g b t) H) (hD : va_D A (wX2 ad cd d1 d2 g b t)) (hS : va_S A H0 H locs) {a9 b9 : Nat} {o9 : Bool} (hi : a9 < 6) (hdg : decode cc pc = .ok (.iastore, 1)) (kk : ∀ (H1 : Heap) (locs1 : List Loc), va_P (dC, dI) classes (wX2 ad cd (ct_updD d1 a9 b9 o9) d2 g b t) H1 → va_D A (wX2 ad cd (ct_updD d1 a9 b9 o9) d2 g b t) → va_S A H0 H1 locs1 → W p l e R s m args below meth c H1 locs1 cells slots Q (F0 m (pc + 1) ls rest)) : W p l e R s m args below meth c H locs cells slots Q (F0 m pc ls (.int (ct_mk6 (ct_updB (fun j => d1 a9 j) b9 o9)) :: .int (nI a9) :: .ref (ad 1) :: rest)) := by
  have he : upd (fun i => ct_mk6 (fun j => d1 i j)) (nI a9).toNatClampNeg (ct_mk6 (ct_updB (fun j => d1 a9 j) b9 o9)) = fun i => ct_mk6 (fun j => ct_updD d1 a9 b9 o9 i j) := by rw [nI_clamp (show a9 < 2 ^ 31 by omega)]; exact ct_updO _ _ _ _
  refine va_iast S.1 S.2.1 hK hP hD hS 1 0 rfl rfl (vp_in_nI hi (by decide)) hdg (fun H1 locs1 h1 h2 h3 => ?_)
  rw [he] at h1 h2
  exact kk H1 locs1 h1 h2 h3
theorem xa_in (S : CallFix p m c cc nL s args ct_tbl R_X) (hK : va_K (dC, dI) classes (tX cd) s) (hP : va_P (dC, dI) classes (wX2 ad cd d1 d2 g b t) H) (hD : va_D A (wX2 ad cd d1 d2 g b t)) (hS : va_S A H0 H locs) {a9 b9 : Nat} {o9 : Bool} (hi : b9 < 6) (hdg : decode cc pc = .ok (.iastore, 1)) (kk : ∀ (H1 : Heap) (locs1 : List Loc), va_P (dC, dI) classes (wX2 ad cd d1 (ct_updD d2 a9 b9 o9) g b t) H1 → va_D A (wX2 ad cd d1 (ct_updD d2 a9 b9 o9) g b t) → va_S A H0 H1 locs1 → W p l e R s m args below meth c H1 locs1 cells slots Q (F0 m (pc + 1) ls rest)) : W p l e R s m args below meth c H locs cells slots Q (F0 m pc ls (.int (ct_mk6 (ct_updB (fun i => d2 i b9) a9 o9)) :: .int (nI b9) :: .ref (ad 2) :: rest)) := by
  have he : upd (fun j => ct_mk6 (fun i => d2 i j)) (nI b9).toNatClampNeg (ct_mk6 (ct_updB (fun i => d2 i b9) a9 o9)) = fun j => ct_mk6 (fun i => ct_updD d2 a9 b9 o9 i j) := by rw [nI_clamp (show b9 < 2 ^ 31 by omega)]; exact ct_updI _ _ _ _
  refine va_iast S.1 S.2.1 hK hP hD hS 2 1 rfl rfl (vp_in_nI hi (by decide)) hdg (fun H1 locs1 h1 h2 h3 => ?_)
  rw [he] at h1 h2
  exact kk H1 locs1 h1 h2 h3
theorem m_get (S : CallFix p m c cc nL s args ct_tbl R_M) (hK : va_K (dC, dI) classes (tM cd) s) (hP : va_P (dC, dI) classes (wM ad cd g k9 u) H) (k : Nat) (hk : k < 7) {idx : Nat} (hl : Cond.fieldLink R_M idx (F_M k).1 (F_M k).2.1 (F_M k).2.2.1 ∈ ct_tbl) {v : Value} (hv : (fM ad g k9 u)[k]? = some v) (hdg : decode cc pc = .ok (.getfield idx, 3)) (kk : W p l e R s m args below meth c H locs cells slots Q (F0 m (pc + 3) ls (v :: rest))) : W p l e R s m args below meth c H locs cells slots Q (F0 m pc ls (.ref (ad 0) :: rest)) :=
  va_get (D := (dC, dI)) (ci := 1) (fs := fM ad g k9 u) (C := R_M) (T := F_M) (N := 7) S.1 S.2.1 S.2.2.2.2 i_M S.2.2.2.1 hK hP 0 rfl rfl k hk (S.2.2.2.2 _ hl) (fun _ h => h) hv hdg kk
theorem mg_waits (S : CallFix p m c cc nL s args ct_tbl R_M) (hK : va_K (dC, dI) classes (tM cd) s) (hP : va_P (dC, dI) classes (wM ad cd g k9 u) H) (hdg : decode cc pc = .ok (.getfield 23, 3)) (kk : W p l e R s m args below meth c H locs cells slots Q (F0 m (pc + 3) ls (.int (ct_wI g) :: rest))) : W p l e R s m args below meth c H locs cells slots Q (F0 m pc ls (.ref (ad 0) :: rest)) := m_get S hK hP 0 (by decide) mf_M0 rfl hdg kk
theorem mg_doors (S : CallFix p m c cc nL s args ct_tbl R_M) (hK : va_K (dC, dI) classes (tM cd) s) (hP : va_P (dC, dI) classes (wM ad cd g k9 u) H) (hdg : decode cc pc = .ok (.getfield 7, 3)) (kk : W p l e R s m args below meth c H locs cells slots Q (F0 m (pc + 3) ls (.ref (ad 1) :: rest))) : W p l e R s m args below meth c H locs cells slots Q (F0 m pc ls (.ref (ad 0) :: rest)) := m_get S hK hP 1 (by decide) mf_M1 rfl hdg kk
theorem mg_exits (S : CallFix p m c cc nL s args ct_tbl R_M) (hK : va_K (dC, dI) classes (tM cd) s) (hP : va_P (dC, dI) classes (wM ad cd g k9 u) H) (hdg : decode cc pc = .ok (.getfield 13, 3)) (kk : W p l e R s m args below meth c H locs cells slots Q (F0 m (pc + 3) ls (.ref (ad 2) :: rest))) : W p l e R s m args below meth c H locs cells slots Q (F0 m pc ls (.ref (ad 0) :: rest)) := m_get S hK hP 2 (by decide) mf_M2 rfl hdg kk
theorem mg_at (S : CallFix p m c cc nL s args ct_tbl R_M) (hK : va_K (dC, dI) classes (tM cd) s) (hP : va_P (dC, dI) classes (wM ad cd g k9 u) H) (hdg : decode cc pc = .ok (.getfield 31, 3)) (kk : W p l e R s m args below meth c H locs cells slots Q (F0 m (pc + 3) ls (.int (nI k9) :: rest))) : W p l e R s m args below meth c H locs cells slots Q (F0 m pc ls (.ref (ad 0) :: rest)) := m_get S hK hP 3 (by decide) mf_M3 rfl hdg kk
theorem mg_known (S : CallFix p m c cc nL s args ct_tbl R_M) (hK : va_K (dC, dI) classes (tM cd) s) (hP : va_P (dC, dI) classes (wM ad cd g k9 u) H) (hdg : decode cc pc = .ok (.getfield 38, 3)) (kk : W p l e R s m args below meth c H locs cells slots Q (F0 m (pc + 3) ls (.int (ct_bI u.1) :: rest))) : W p l e R s m args below meth c H locs cells slots Q (F0 m pc ls (.ref (ad 0) :: rest)) := m_get S hK hP 4 (by decide) mf_M4 rfl hdg kk
theorem mg_winner (S : CallFix p m c cc nL s args ct_tbl R_M) (hK : va_K (dC, dI) classes (tM cd) s) (hP : va_P (dC, dI) classes (wM ad cd g k9 u) H) (hdg : decode cc pc = .ok (.getfield 16, 3)) (kk : W p l e R s m args below meth c H locs cells slots Q (F0 m (pc + 3) ls (.ref (ad 3) :: rest))) : W p l e R s m args below meth c H locs cells slots Q (F0 m pc ls (.ref (ad 0) :: rest)) := m_get S hK hP 5 (by decide) mf_M5 rfl hdg kk
theorem mg_rounds (S : CallFix p m c cc nL s args ct_tbl R_M) (hK : va_K (dC, dI) classes (tM cd) s) (hP : va_P (dC, dI) classes (wM ad cd g k9 u) H) (hdg : decode cc pc = .ok (.getfield 20, 3)) (kk : W p l e R s m args below meth c H locs cells slots Q (F0 m (pc + 3) ls (.ref (ad 4) :: rest))) : W p l e R s m args below meth c H locs cells slots Q (F0 m pc ls (.ref (ad 0) :: rest)) := m_get S hK hP 6 (by decide) mf_M6 rfl hdg kk
theorem mp_at (S : CallFix p m c cc nL s args ct_tbl R_M) (hK : va_K (dC, dI) classes (tM cd) s) (hP : va_P (dC, dI) classes (wM ad cd g k9 u) H) (hD : va_D A (wM ad cd g k9 u)) (hS : va_S A H0 H locs) {v9 : Nat} (hdg : decode cc pc = .ok (.putfield 31, 3)) (kk : ∀ (H1 : Heap) (locs1 : List Loc), va_P (dC, dI) classes (wM ad cd g v9 u) H1 → va_D A (wM ad cd g v9 u) → va_S A H0 H1 locs1 → W p l e R s m args below meth c H1 locs1 cells slots Q (F0 m (pc + 3) ls rest)) : W p l e R s m args below meth c H locs cells slots Q (F0 m pc ls (.int (nI v9) :: .ref (ad 0) :: rest)) :=
  va_put (D := (dC, dI)) (ci := 1) (fs := fM ad g k9 u) (v := .int (nI v9)) (ty := .int) (C := R_M) (T := F_M) (N := 7) S.1 S.2.1 S.2.2.2.2 i_M t_M t_M_ok n_M S.2.2.2.1 hK hP hD hS 0 rfl rfl 3 (by decide) (S.2.2.2.2 _ mf_M3) (fun _ h => h) rfl rfl rfl rfl (Nat.le_of_ble_eq_true rfl) hdg (fun H1 locs1 h1 h2 h3 => kk H1 locs1 h1 h2 h3)
theorem mp_known (S : CallFix p m c cc nL s args ct_tbl R_M) (hK : va_K (dC, dI) classes (tM cd) s) (hP : va_P (dC, dI) classes (wM ad cd g k9 u) H) (hD : va_D A (wM ad cd g k9 u)) (hS : va_S A H0 H locs) {v9 : Bool} (hdg : decode cc pc = .ok (.putfield 38, 3)) (kk : ∀ (H1 : Heap) (locs1 : List Loc), va_P (dC, dI) classes (wM ad cd g k9 (v9, u.2)) H1 → va_D A (wM ad cd g k9 (v9, u.2)) → va_S A H0 H1 locs1 → W p l e R s m args below meth c H1 locs1 cells slots Q (F0 m (pc + 3) ls rest)) : W p l e R s m args below meth c H locs cells slots Q (F0 m pc ls (.int (ct_bI v9) :: .ref (ad 0) :: rest)) :=
  va_put (D := (dC, dI)) (ci := 1) (fs := fM ad g k9 u) (v := .int (ct_bI v9)) (ty := .boolean) (C := R_M) (T := F_M) (N := 7) S.1 S.2.1 S.2.2.2.2 i_M t_M t_M_ok n_M S.2.2.2.1 hK hP hD hS 0 rfl rfl 4 (by decide) (S.2.2.2.2 _ mf_M4) (fun _ h => h) rfl rfl (ct_nzv v9) (ct_fz v9) (Nat.le_of_ble_eq_true rfl) hdg (fun H1 locs1 h1 h2 h3 => kk H1 locs1 h1 h2 h3)
theorem mo_doors (S : CallFix p m c cc nL s args ct_tbl R_M) (hK : va_K (dC, dI) classes (tM cd) s) (hP : va_P (dC, dI) classes (wM ad cd g k9 u) H) {i9 : Nat} (hi : i9 < 36) (hdg : decode cc pc = .ok (.baload, 1)) (kk : W p l e R s m args below meth c H locs cells slots Q (F0 m (pc + 1) ls (.int (ct_bI (g.1 (i9 / 6) (i9 % 6))) :: rest))) : W p l e R s m args below meth c H locs cells slots Q (F0 m pc ls (.int (nI i9) :: .ref (ad 1) :: rest)) :=
  va_zald S.1 S.2.1 hK hP 1 0 rfl rfl (vp_in_nI hi (by decide)) hdg (r_top (by rw [nI_clamp (show i9 < 2 ^ 31 by omega)]) kk)
theorem mo_exits (S : CallFix p m c cc nL s args ct_tbl R_M) (hK : va_K (dC, dI) classes (tM cd) s) (hP : va_P (dC, dI) classes (wM ad cd g k9 u) H) {i9 : Nat} (hi : i9 < 6) (hdg : decode cc pc = .ok (.baload, 1)) (kk : W p l e R s m args below meth c H locs cells slots Q (F0 m (pc + 1) ls (.int (ct_bI (g.2.1 i9)) :: rest))) : W p l e R s m args below meth c H locs cells slots Q (F0 m pc ls (.int (nI i9) :: .ref (ad 2) :: rest)) :=
  va_zald S.1 S.2.1 hK hP 2 1 rfl rfl (vp_in_nI hi (by decide)) hdg (r_top (by rw [nI_clamp (show i9 < 2 ^ 31 by omega)]) kk)
theorem mo_winner (S : CallFix p m c cc nL s args ct_tbl R_M) (hK : va_K (dC, dI) classes (tM cd) s) (hP : va_P (dC, dI) classes (wM ad cd g k9 u) H) {i9 : Nat} (hi : i9 < 432) (hdg : decode cc pc = .ok (.iaload, 1)) (kk : W p l e R s m args below meth c H locs cells slots Q (F0 m (pc + 1) ls (.int (nI (u.2.1 i9)) :: rest))) : W p l e R s m args below meth c H locs cells slots Q (F0 m pc ls (.int (nI i9) :: .ref (ad 3) :: rest)) :=
  va_iald S.1 S.2.1 hK hP 3 2 rfl rfl (vp_in_nI hi (by decide)) hdg (r_top (by rw [nI_clamp (show i9 < 2 ^ 31 by omega)]) kk)
theorem mo_rounds (S : CallFix p m c cc nL s args ct_tbl R_M) (hK : va_K (dC, dI) classes (tM cd) s) (hP : va_P (dC, dI) classes (wM ad cd g k9 u) H) {i9 : Nat} (hi : i9 < 432) (hdg : decode cc pc = .ok (.iaload, 1)) (kk : W p l e R s m args below meth c H locs cells slots Q (F0 m (pc + 1) ls (.int (u.2.2 i9) :: rest))) : W p l e R s m args below meth c H locs cells slots Q (F0 m pc ls (.int (nI i9) :: .ref (ad 4) :: rest)) :=
  va_iald S.1 S.2.1 hK hP 4 3 rfl rfl (vp_in_nI hi (by decide)) hdg (r_top (by rw [nI_clamp (show i9 < 2 ^ 31 by omega)]) kk)
theorem ms_doors (S : CallFix p m c cc nL s args ct_tbl R_M) (hK : va_K (dC, dI) classes (tM cd) s) (hP : va_P (dC, dI) classes (wM ad cd g k9 u) H) (hD : va_D A (wM ad cd g k9 u)) (hS : va_S A H0 H locs) {a9 b9 : Nat} {o9 : Bool} (hi : a9 * 6 + b9 < 36) (hb9 : b9 < 6) (hdg : decode cc pc = .ok (.bastore, 1)) (kk : ∀ (H1 : Heap) (locs1 : List Loc), va_P (dC, dI) classes (wM ad cd (ct_updD g.1 a9 b9 o9, g.2) k9 u) H1 → va_D A (wM ad cd (ct_updD g.1 a9 b9 o9, g.2) k9 u) → va_S A H0 H1 locs1 → W p l e R s m args below meth c H1 locs1 cells slots Q (F0 m (pc + 1) ls rest)) : W p l e R s m args below meth c H locs cells slots Q (F0 m pc ls (.int (ct_bI o9) :: .int (nI (a9 * 6 + b9)) :: .ref (ad 1) :: rest)) := by
  have he : upd (fun j => ct_bI (g.1 (j / 6) (j % 6))) (nI (a9 * 6 + b9)).toNatClampNeg (vp_nar .boolean (ct_bI o9)) = fun j => ct_bI (ct_updD g.1 a9 b9 o9 (j / 6) (j % 6)) := by rw [nI_clamp (show a9 * 6 + b9 < 2 ^ 31 by omega), ct_nz]; exact ct_updDI _ hb9 _
  refine va_zast S.1 S.2.1 hK hP hD hS 1 0 rfl rfl (vp_in_nI hi (by decide)) hdg (fun H1 locs1 h1 h2 h3 => ?_)
  rw [he] at h1 h2
  exact kk H1 locs1 h1 h2 h3
theorem ms_exits (S : CallFix p m c cc nL s args ct_tbl R_M) (hK : va_K (dC, dI) classes (tM cd) s) (hP : va_P (dC, dI) classes (wM ad cd g k9 u) H) (hD : va_D A (wM ad cd g k9 u)) (hS : va_S A H0 H locs) {a9 : Nat} {o9 : Bool} (hi : a9 < 6) (hdg : decode cc pc = .ok (.bastore, 1)) (kk : ∀ (H1 : Heap) (locs1 : List Loc), va_P (dC, dI) classes (wM ad cd (g.1, ct_updB g.2.1 a9 o9, g.2.2) k9 u) H1 → va_D A (wM ad cd (g.1, ct_updB g.2.1 a9 o9, g.2.2) k9 u) → va_S A H0 H1 locs1 → W p l e R s m args below meth c H1 locs1 cells slots Q (F0 m (pc + 1) ls rest)) : W p l e R s m args below meth c H locs cells slots Q (F0 m pc ls (.int (ct_bI o9) :: .int (nI (a9)) :: .ref (ad 2) :: rest)) := by
  have he : upd (fun j => ct_bI (g.2.1 j)) (nI (a9)).toNatClampNeg (vp_nar .boolean (ct_bI o9)) = fun j => ct_bI (ct_updB g.2.1 a9 o9 j) := by rw [nI_clamp (show a9 < 2 ^ 31 by omega), ct_nz]; exact ct_updBI _ _ _
  refine va_zast S.1 S.2.1 hK hP hD hS 2 1 rfl rfl (vp_in_nI hi (by decide)) hdg (fun H1 locs1 h1 h2 h3 => ?_)
  rw [he] at h1 h2
  exact kk H1 locs1 h1 h2 h3
theorem ms_winner (S : CallFix p m c cc nL s args ct_tbl R_M) (hK : va_K (dC, dI) classes (tM cd) s) (hP : va_P (dC, dI) classes (wM ad cd g k9 u) H) (hD : va_D A (wM ad cd g k9 u)) (hS : va_S A H0 H locs) {a9 v9 : Nat} (hi : a9 < 432) (hdg : decode cc pc = .ok (.iastore, 1)) (kk : ∀ (H1 : Heap) (locs1 : List Loc), va_P (dC, dI) classes (wM ad cd g k9 (u.1, ct_updN u.2.1 a9 v9, u.2.2)) H1 → va_D A (wM ad cd g k9 (u.1, ct_updN u.2.1 a9 v9, u.2.2)) → va_S A H0 H1 locs1 → W p l e R s m args below meth c H1 locs1 cells slots Q (F0 m (pc + 1) ls rest)) : W p l e R s m args below meth c H locs cells slots Q (F0 m pc ls (.int (nI v9) :: .int (nI (a9)) :: .ref (ad 3) :: rest)) := by
  have he : upd (fun j => nI (u.2.1 j)) (nI (a9)).toNatClampNeg (nI v9) = fun j => nI (ct_updN u.2.1 a9 v9 j) := by rw [nI_clamp (show a9 < 2 ^ 31 by omega)]; exact ct_updNI _ _ _
  refine va_iast S.1 S.2.1 hK hP hD hS 3 2 rfl rfl (vp_in_nI hi (by decide)) hdg (fun H1 locs1 h1 h2 h3 => ?_)
  rw [he] at h1 h2
  exact kk H1 locs1 h1 h2 h3
theorem ms_rounds (S : CallFix p m c cc nL s args ct_tbl R_M) (hK : va_K (dC, dI) classes (tM cd) s) (hP : va_P (dC, dI) classes (wM ad cd g k9 u) H) (hD : va_D A (wM ad cd g k9 u)) (hS : va_S A H0 H locs) {a9 : Nat} {v9 : Int32} (hi : a9 < 432) (hdg : decode cc pc = .ok (.iastore, 1)) (kk : ∀ (H1 : Heap) (locs1 : List Loc), va_P (dC, dI) classes (wM ad cd g k9 (u.1, u.2.1, upd u.2.2 a9 v9)) H1 → va_D A (wM ad cd g k9 (u.1, u.2.1, upd u.2.2 a9 v9)) → va_S A H0 H1 locs1 → W p l e R s m args below meth c H1 locs1 cells slots Q (F0 m (pc + 1) ls rest)) : W p l e R s m args below meth c H locs cells slots Q (F0 m pc ls (.int (v9) :: .int (nI (a9)) :: .ref (ad 4) :: rest)) := by
  have he : upd (u.2.2) (nI (a9)).toNatClampNeg (v9) = upd u.2.2 a9 v9 := by rw [nI_clamp (show a9 < 2 ^ 31 by omega)]
  refine va_iast S.1 S.2.1 hK hP hD hS 4 3 rfl rfl (vp_in_nI hi (by decide)) hdg (fun H1 locs1 h1 h2 h3 => ?_)
  rw [he] at h1 h2
  exact kk H1 locs1 h1 h2 h3
/-- the receiver -/
theorem x_rc (hK : va_K (dC, dI) classes (tX cd) s) (hP : va_P (dC, dI) classes (wX2 ad cd d1 d2 g b t) H) : ∃ cellB : Cell, H[ad 0]? = some cellB ∧ cellB.vm.isStatics = false ∧ s.vm.findClass R_X = some cellB.cls := va_recv hK hP (ci := 0) (q0 := 0) (q := (R_X, F_X, 15)) (fs := fX ad g b t) rfl rfl
theorem m_rc (hK : va_K (dC, dI) classes (tM cd) s) (hP : va_P (dC, dI) classes (wM ad cd g k9 u) H) : ∃ cellB : Cell, H[ad 0]? = some cellB ∧ cellB.vm.isStatics = false ∧ s.vm.findClass R_M = some cellB.cls := va_recv hK hP (ci := 1) (q0 := 0) (q := (R_M, F_M, 7)) (fs := fM ad g k9 u) rfl rfl
/-- a call of a method that only reads this world -/
theorem w_callR {y : MethodName} {bytes : ByteArray} {maxL index : Nat} {ret : Option FieldType} {rm : Room} {own C : String} {r : Int32} {As st0 : List Value} {h0 : Nat} {ws : va_W} (n : Nat) (S : CallFix p m c cc nL s args ct_tbl own) (hM : Met l y (Cond.code y bytes maxL ret :: ct_tbl) rm (va_Pc (.ref h0 :: As) (ct_PreR D tys ws)) (QcRead r) 0 0 (fun _ => False))
    (hG : GoodIn ct_tbl (wsV own index C y (Cond.code y bytes maxL ret :: ct_tbl))) (hd : y.cls = C ∧ y.cls ≠ "java/lang/invoke/MethodHandle" ∧ y.cls ≠ "java/lang/invoke/VarHandle" ∧ (parseMethodDescriptor y.desc).map (fun d => d.parameters.length) = some n) (hR : rm.frames + 1 ≤ R.frames ∧ 8 + (maxL + 11) + rm.locals ≤ R.locals) (hz : rm.cells = 0 ∧ rm.slots = 0) (hc : cells ≤ R.cells ∧ slots ≤ R.slots)
    (hrc : ∃ cellB : Cell, H[h0]? = some cellB ∧ cellB.vm.isStatics = false ∧ s.vm.findClass C = some cellB.cls) (hK : va_K D classes tys s) (hP : va_P D classes ws H)
    (hn : As.length = n) (hsz : ls.size = nL) (hst : st0 = As.reverse ++ .ref h0 :: rest) (hW : (rest.map fun v => v.category).sum ≤ 8) (hdg : decode cc pc = .ok (.invokevirtual index, 3))
    (k : W p l e R s m args below meth c H locs cells slots Q (F0 m (pc + 3) ls (.int r :: rest))) : W p l e R s m args below meth c H locs cells slots Q (F0 m pc ls st0) :=
  r_callV n S hM hG hd hR hz hc (fun a U g mk q => ⟨q.1, va_K.moved (u := U) (U := U.calling g mk a) (Vm.Alike.refl U.vm) q.2⟩) hrc (fun U hU hW => ⟨by rw [hU]; exact hP, va_K.moved hW.alike hK⟩) hn hsz hst hW hdg k
end CTW
end
section
/-! PURE WORDS: positions, moves, who has won, the rounds (ct_it), what the questions answer -/
def ct_num (a b t k : Nat) : Nat := ((a * 6 + b) * 6 + t) * 2 + k
def ct_off (x : Int32) : Bool := decide (x < 0 ∨ nI 5 < x)
def ct_ov (g : ct_G) (p : Nat) : Nat := if p / 2 % 6 = p / 72 ∨ p / 2 % 6 = p / 12 % 6 then 1 else if g.2.1 (p / 2 % 6) = true then 2 else 0
def ct_mv (g : ct_G) (p c : Nat) : Option Nat :=
  if p % 2 = 1 then
    if c = 12 then (if g.2.2.2 = true then some (p - 1) else none)
    else if c < 6 ∧ g.1 (p / 2 % 6) c = true then some (ct_num (p / 72) (p / 12 % 6) c 0) else none
  else if c = 12 then (if g.2.2.1 = true then some (p + 1) else none)
  else if c < 6 then (if g.1 (p / 72) c = true then some (ct_num c (p / 12 % 6) (p / 2 % 6) 1) else none)
  else if g.1 (p / 12 % 6) (c - 6) = true then some (ct_num (p / 72) (c - 6) (p / 2 % 6) 1) else none
def ct_mvI (g : ct_G) (p : Nat) (x : Int32) : Option Nat := if x < 0 ∨ nI 12 < x then none else ct_mv g p x.toNatClampNeg
def ct_afX (g : ct_G) (p : Nat) (x : Int32) : Option Nat := if ct_ov g p ≠ 0 then none else ct_mvI g p x
def ct_af (o : Option Nat) : Int32 := match o with
  | none => -1
  | some q => nI q
def ct_mo (p : Nat) : Nat := if p % 2 = 1 then 2 else 1
def ct_any (f : Nat → Bool) : Nat → Bool
  | 0 => false
  | n + 1 => ct_any f n || f n
def ct_all (f : Nat → Bool) : Nat → Bool
  | 0 => true
  | n + 1 => ct_all f n && f n
def ct_cnt (f : Nat → Bool) : Nat → Nat
  | 0 => 0
  | n + 1 => ct_cnt f n + (f n).toNat
def ct_hit (g : ct_G) (S : Nat → Nat) (p c : Nat) : Bool := match ct_mv g p c with
  | none => false
  | some q => S q == ct_mo p
def ct_los (g : ct_G) (S : Nat → Nat) (p c : Nat) : Bool := match ct_mv g p c with
  | none => true
  | some q => S q == 3 - ct_mo p
def ct_fol (g : ct_G) (S : Nat → Nat) (p : Nat) : Nat := if ct_any (ct_hit g S p) 13 = true then ct_mo p else if ct_all (ct_los g S p) 13 = true then 3 - ct_mo p else 0
/-- who has won p as found in the rounds before r -/
def ct_it (g : ct_G) : Nat → Nat → Nat
  | 0, _ => 0
  | r + 1, p => if ct_ov g p ≠ 0 then ct_ov g p else if ct_it g r p ≠ 0 then ct_it g r p else ct_fol g (ct_it g r) p
def ct_rdn (g : ct_G) (p : Nat) : Nat → Nat
  | 0 => 0
  | n + 1 => ct_rdn g p n + (if ct_it g (n + 1) p = 0 then 1 else 0)
def ct_win (g : ct_G) (p : Nat) : Nat := ct_it g 432 p
def ct_far (g : ct_G) (p : Nat) : Nat := ct_rdn g p 432
def ct_len (g : ct_G) (p : Nat) : Int32 := if ct_win g p = 0 then -3 else nI (ct_far g p)
def ct_okX (g : ct_G) (t : ct_T) : Prop := ∀ p, p < 432 → xt_w t p = ct_win g p ∧ (ct_win g p ≠ 0 → xt_f t p = ct_far g p)
def ct_okM (g : ct_G) (u : ct_U) : Prop := ∀ p, p < 432 → u.2.1 p = ct_win g p ∧ u.2.2 p = ct_len g p
def ct_inX (g : ct_G) (t : ct_T) : Prop := xt_r t = true → ct_okX g t
def ct_inM (g : ct_G) (u : ct_U) : Prop := u.1 = true → ct_okM g u
/-- the board -/
def ct_inB (b : ct_Bo) : Prop := b.1 < 6 ∧ b.2.1 < 6 ∧ b.2.2.1 < 6
def ct_nb9 (b : ct_Bo) : Nat := ct_num b.1 b.2.1 b.2.2.1 b.2.2.2.toNat
def ct_bo (q : Nat) : ct_Bo := (q / 72, q / 12 % 6, q / 2 % 6, decide (q % 2 = 1))
/-- what the methods answer -/
def ct_doorR (g : ct_G) (x y : Int32) : Int32 := if ct_off x = true ∨ ct_off y = true then -1 else if x = y then -2 else ct_bI (g.1 x.toNatClampNeg y.toNatClampNeg)
def ct_doorG (g : ct_G) (x y : Int32) (o : Bool) : ct_G := if ct_off x = true ∨ ct_off y = true then g else if x = y then g else (ct_updD g.1 x.toNatClampNeg y.toNatClampNeg o, g.2)
def ct_doorN (x y : Int32) : Bool := if ct_off x = true ∨ ct_off y = true then false else if x = y then false else true
def ct_exitR (g : ct_G) (x : Int32) : Int32 := if ct_off x = true then -1 else ct_bI (g.2.1 x.toNatClampNeg)
def ct_exitG (g : ct_G) (x : Int32) (o : Bool) : ct_G := if ct_off x = true then g else (g.1, ct_updB g.2.1 x.toNatClampNeg o, g.2.2)
def ct_bad3 (x y z : Int32) : Bool := ct_off x || ct_off y || ct_off z
def ct_setR (x y z : Int32) : Int32 := if ct_bad3 x y z = true then -1 else 0
def ct_setB (b : ct_Bo) (x y z : Int32) (o : Bool) : ct_Bo := if ct_bad3 x y z = true then b else (x.toNatClampNeg, y.toNatClampNeg, z.toNatClampNeg, o)
def ct_p3 (x y z : Int32) (o : Bool) : Nat := ct_num x.toNatClampNeg y.toNatClampNeg z.toNatClampNeg o.toNat
def ct_outR (g : ct_G) (x y z : Int32) (o : Bool) : Int32 := if ct_bad3 x y z = true then -1 else nI (ct_win g (ct_p3 x y z o))
def ct_lenR (g : ct_G) (x y z : Int32) (o : Bool) : Int32 := if ct_bad3 x y z = true then -1 else ct_len g (ct_p3 x y z o)
def ct_playR (g : ct_G) (p : Nat) (x : Int32) : Int32 := match ct_afX g p x with
  | none => -2
  | some _ => 0
def ct_playB (g : ct_G) (b : ct_Bo) (x : Int32) : ct_Bo := match ct_afX g (ct_nb9 b) x with
  | none => b
  | some q => ct_bo q
def ct_playK (g : ct_G) (k : Nat) (x : Int32) : Nat := match ct_afX g k x with
  | none => k
  | some q => q
def ct_boardR (b : ct_Bo) : Int32 := nI (b.1 + 8 * b.2.1 + 64 * b.2.2.1 + 512 * b.2.2.2.toNat)
def ct_bok (g : ct_G) (p c : Nat) : Bool := match (if ct_ov g p ≠ 0 then none else ct_mv g p c) with
  | none => false
  | some q => ct_win g q == ct_win g p && (ct_win g p == 0 || ct_far g q + 1 == ct_far g p)
def ct_fst (f : Nat → Bool) : Nat → Nat → Int32
  | 0, _ => -2
  | n + 1, c => if f c = true then nI c else ct_fst f n (c + 1)
def ct_best (g : ct_G) (p : Nat) : Int32 := ct_fst (ct_bok g p) 13 0
def ct_tot (g : ct_G) (x : Int32) : Nat → Nat
  | 0 => 0
  | n + 1 => ct_tot g x n + (if nI (ct_win g n) = x then 1 else 0)
def ct_lng (g : ct_G) (x : Int32) : Nat → Int32
  | 0 => -3
  | n + 1 => if nI (ct_win g n) = x ∧ ct_lng g x n < ct_len g n then ct_len g n else ct_lng g x n
def ct_bits (f : Nat → Bool) : Nat → Nat
  | 0 => 0
  | n + 1 => ct_bits f n + (f n).toNat
def ct_mc (g : ct_G) (p : Nat) : Nat := if p % 2 = 1 then ct_bits (fun j => g.1 (p / 2 % 6) j) 6 + g.2.2.2.toNat else ct_bits (fun j => g.1 (p / 72) j) 6 + ct_bits (fun j => g.1 (p / 12 % 6) j) 6 + g.2.2.1.toNat
/-- the steps of the retrograde analysis -/
def ct_settle (t : ct_T) (p w n : Nat) : ct_T := if 432 ≤ xt_n t then t else xs_n (xs_q (xs_f (xs_w t (ct_updN (xt_w t) p w)) (ct_updN (xt_f t) p n)) (ct_updN (xt_q t) (xt_n t) p)) (xt_n t + 1)
def ct_ans1 (t : ct_T) (p : Nat) : ct_T := xs_o t (upd (xt_o t) p ((xt_o t p - nI 1).toInt8.toInt32))
def ct_ans (t : ct_T) (p w n : Nat) : ct_T := if xt_w t p ≠ 0 then t else if ct_mo p = w ∨ xt_o (ct_ans1 t p) p = 0 then ct_settle (ct_ans1 t p) p w n else ct_ans1 t p
def ct_spE (g : ct_G) (p w n : Nat) (t : ct_T) : Nat → ct_T
  | 0 => t
  | k + 1 => if g.1 k (p / 2 % 6) = true then ct_ans (ct_spE g p w n t k) (p + 1 + 2 * k - 2 * (p / 2 % 6)) w n else ct_spE g p w n t k
def ct_spA (g : ct_G) (p w n k : Nat) (t : ct_T) : ct_T := if g.1 k (p / 72) = true then ct_ans t (p - 1 + 72 * k - 72 * (p / 72)) w n else t
def ct_spB (g : ct_G) (p w n k : Nat) (t : ct_T) : ct_T := if g.1 k (p / 12 % 6) = true then ct_ans t (p - 1 + 12 * k - 12 * (p / 12 % 6)) w n else t
def ct_spO (g : ct_G) (p w n : Nat) (t : ct_T) : Nat → ct_T
  | 0 => t
  | k + 1 => ct_spB g p w n k (ct_spA g p w n k (ct_spO g p w n t k))
def ct_spread (g : ct_G) (t : ct_T) (p : Nat) : ct_T :=
  if p % 2 = 0 then (if g.2.2.2 = true then ct_ans (ct_spE g p (xt_w t p) (xt_f t p + 1) t 6) (p + 1) (xt_w t p) (xt_f t p + 1) else ct_spE g p (xt_w t p) (xt_f t p + 1) t 6)
  else (if g.2.2.1 = true then ct_ans (ct_spO g p (xt_w t p) (xt_f t p + 1) t 6) (p - 1) (xt_w t p) (xt_f t p + 1) else ct_spO g p (xt_w t p) (xt_f t p + 1) t 6)
def ct_who (g : ct_G) (p : Nat) : Nat := if ct_ov g p = 0 ∧ ct_mc g p = 0 then (if p % 2 = 1 then 1 else 2) else ct_ov g p
def ct_ini1 (g : ct_G) (t : ct_T) (p : Nat) : ct_T := xs_o (xs_f (xs_w t (ct_updN (xt_w t) p 0)) (ct_updN (xt_f t) p 0)) (upd (xt_o t) p (nI (ct_mc g p)))
def ct_ini (g : ct_G) (t : ct_T) (p : Nat) : ct_T := if ct_who g p = 0 then ct_ini1 g t p else ct_settle (ct_ini1 g t p) p (ct_who g p) 0
def ct_inis (g : ct_G) (t : ct_T) : Nat → ct_T
  | 0 => xs_n t 0
  | k + 1 => ct_ini g (ct_inis g t k) k
/-! easy facts -/
theorem ct_off_f {x : Int32} (h : ct_off x = false) : ∃ j : Nat, j < 6 ∧ x = nI j := by
  have h1 : ¬ (x < 0 ∨ nI 5 < x) := of_decide_eq_false h
  have h2 : x ≤ nI 5 := by
    rw [Int32.le_iff_toInt_le]
    exact Int.not_lt.mp (fun q => h1 (Or.inr (Int32.lt_iff_toInt_lt.mpr q)))
  obtain ⟨j, hj, e⟩ := nI_of2 (M := nI 5) (n := 5) (nI_toInt (by decide)) (fun q => h1 (Or.inl q)) h2
  exact ⟨j, by omega, e⟩
theorem ct_any_iff {f : Nat → Bool} : ∀ {n : Nat}, ct_any f n = true ↔ ∃ c, c < n ∧ f c = true := by
  intro n
  induction n with
  | zero => simp [ct_any]
  | succ n ih =>
    simp only [ct_any, Bool.or_eq_true, ih]
    constructor
    · rintro (⟨c, h1, h2⟩ | h)
      · exact ⟨c, by omega, h2⟩
      · exact ⟨n, by omega, h⟩
    · rintro ⟨c, h1, h2⟩
      by_cases e : c = n
      · subst e; exact Or.inr h2
      · exact Or.inl ⟨c, by omega, h2⟩
theorem ct_all_iff {f : Nat → Bool} : ∀ {n : Nat}, ct_all f n = true ↔ ∀ c, c < n → f c = true := by
  intro n
  induction n with
  | zero => simp [ct_all]
  | succ n ih =>
    simp only [ct_all, Bool.and_eq_true, ih]
    constructor
    · rintro ⟨h1, h2⟩ c hc
      by_cases e : c = n
      · subst e; exact h2
      · exact h1 c (by omega)
    · intro h
      exact ⟨fun c hc => h c (by omega), h n (by omega)⟩
theorem ct_cnt_le (f : Nat → Bool) : ∀ n : Nat, ct_cnt f n ≤ n := by
  intro n
  induction n with
  | zero => exact Nat.le_refl 0
  | succ n ih =>
    have : (f n).toNat ≤ 1 := by cases f n <;> decide
    simp only [ct_cnt]; omega
theorem ct_cnt_congr {f f' : Nat → Bool} : ∀ {n : Nat}, (∀ c, c < n → f c = f' c) → ct_cnt f n = ct_cnt f' n := by
  intro n
  induction n with
  | zero => intro _; rfl
  | succ n ih =>
    intro h
    simp only [ct_cnt]
    rw [ih (fun c hc => h c (by omega)), h n (by omega)]
theorem ct_cnt_upd {f f' : Nat → Bool} {k : Nat} : ∀ {n : Nat}, k < n → f k = false → f' k = true → (∀ c, c ≠ k → f' c = f c) → ct_cnt f' n = ct_cnt f n + 1 := by
  intro n
  induction n with
  | zero => intro h; omega
  | succ n ih =>
    intro hk h1 h2 h3
    simp only [ct_cnt]
    by_cases e : k = n
    · subst e
      rw [h1, h2, ct_cnt_congr (f := f') (f' := f) (fun c hc => h3 c (by omega))]
      rfl
    · rw [ih (by omega) h1 h2 h3, h3 n (fun q => e q.symm)]
      omega
theorem ct_cnt_lt {f : Nat → Bool} {k n : Nat} (hk : k < n) (h : f k = false) : ct_cnt f n < n := by
  have h1 := ct_cnt_upd (f := f) (f' := fun c => if c = k then true else f c) hk h (by simp) (fun c hc => by simp [hc])
  have h2 := ct_cnt_le (fun c => if c = k then true else f c) n
  omega
theorem ct_cnt_0 {f : Nat → Bool} : ∀ {n : Nat}, ct_cnt f n = 0 → ∀ c, c < n → f c = false := by
  intro n
  induction n with
  | zero => intro _ c hc; omega
  | succ n ih =>
    intro h c hc
    simp only [ct_cnt] at h
    by_cases e : c = n
    · subst e
      cases hf : f c with
      | false => rfl
      | true => rw [hf] at h; simp at h
    · exact ih (by omega) c (by omega)
theorem ct_cnt_pos {f : Nat → Bool} : ∀ {n c : Nat}, c < n → f c = true → 0 < ct_cnt f n := by
  intro n c hc hf
  rcases Nat.eq_zero_or_pos (ct_cnt f n) with h | h
  · have := ct_cnt_0 h c hc
    rw [hf] at this; cases this
  · exact h
theorem ct_mo_12 (p : Nat) : ct_mo p = 1 ∨ ct_mo p = 2 := by
  unfold ct_mo; split <;> simp
theorem ct_ov_le (g : ct_G) (p : Nat) : ct_ov g p ≤ 2 := by
  unfold ct_ov; split
  · omega
  · split <;> omega
theorem ct_fol_le (g : ct_G) (S : Nat → Nat) (p : Nat) : ct_fol g S p ≤ 2 := by
  have := ct_mo_12 p
  unfold ct_fol; split
  · omega
  · split <;> omega
theorem ct_it_le (g : ct_G) : ∀ r p : Nat, ct_it g r p ≤ 2 := by
  intro r
  induction r with
  | zero => intro p; simp [ct_it]
  | succ r ih =>
    intro p
    simp only [ct_it]
    split
    · exact ct_ov_le g p
    · split
      · exact ih p
      · exact ct_fol_le g _ p
theorem ct_win_le (g : ct_G) (p : Nat) : ct_win g p ≤ 2 := ct_it_le g 432 p
theorem ct_rdn_le (g : ct_G) (p : Nat) : ∀ n : Nat, ct_rdn g p n ≤ n := by
  intro n
  induction n with
  | zero => exact Nat.le_refl 0
  | succ n ih => simp only [ct_rdn]; split <;> omega
theorem ct_far_le (g : ct_G) (p : Nat) : ct_far g p ≤ 432 := ct_rdn_le g p 432
theorem ct_mv_lt {g : ct_G} {p c q : Nat} (hp : p < 432) (hc : c < 13) (h : ct_mv g p c = some q) : q < 432 := by
  unfold ct_mv ct_num at h
  split at h
  · split at h
    · split at h
      · cases h; omega
      · cases h
    · split at h
      · cases h; omega
      · cases h
  · split at h
    · split at h
      · cases h; omega
      · cases h
    · split at h
      · split at h
        · cases h; omega
        · cases h
      · split at h
        · cases h; omega
        · cases h
theorem ct_bits_le (f : Nat → Bool) : ∀ n : Nat, ct_bits f n ≤ n := by
  intro n
  induction n with
  | zero => exact Nat.le_refl 0
  | succ n ih =>
    have : (f n).toNat ≤ 1 := by cases f n <;> decide
    simp only [ct_bits]; omega
theorem ct_mc_le (g : ct_G) (p : Nat) : ct_mc g p ≤ 13 := by
  have h1 : g.2.2.2.toNat ≤ 1 := by cases g.2.2.2 <;> decide
  have h2 : g.2.2.1.toNat ≤ 1 := by cases g.2.2.1 <;> decide
  have h3 := ct_bits_le (fun j => g.1 (p / 2 % 6) j) 6
  have h4 := ct_bits_le (fun j => g.1 (p / 72) j) 6
  have h5 := ct_bits_le (fun j => g.1 (p / 12 % 6) j) 6
  unfold ct_mc; split <;> omega
theorem ct_who_le (g : ct_G) (p : Nat) : ct_who g p ≤ 2 := by
  have := ct_ov_le g p
  unfold ct_who; split
  · split <;> omega
  · exact this
end
section
/-! rows and facts over the pure words -/
section CTR2
variable {p : Program} {l : Launch} {e : Env} {R : Room} {s : State} {m : MethodId} {args : Array Value} {below : List Frame} {meth : Method} {c : Code} {H : Heap} {locs : List Loc} {cells slots : Nat} {Q : State → Prop}
variable {cc : ByteArray} {pc : Nat} {ls : Array Slot} {rest : List Value}
theorem r_af {o : Option Nat} (h1 : o = none → W p l e R s m args below meth c H locs cells slots Q (F0 m pc ls (.int (-1) :: rest))) (h2 : ∀ q : Nat, o = some q → W p l e R s m args below meth c H locs cells slots Q (F0 m pc ls (.int (nI q) :: rest))) : W p l e R s m args below meth c H locs cells slots Q (F0 m pc ls (.int (ct_af o) :: rest)) := by
  cases o with
  | none => exact h1 rfl
  | some q => exact h2 q rfl
theorem r_iflt_n (hx : p.tables.exec = Jvm.exec) (hb : c.code = cc) {a : Nat} {off : Int} {tgt : Nat} (hdg : decode cc pc = .ok (.ifCond .lt off, 3)) (ht : (pc : Int) + off = (tgt : Int)) (ha : a < 2 ^ 31)
    (kf : W p l e R s m args below meth c H locs cells slots Q (F0 m (pc + 3) ls rest)) : W p l e R s m args below meth c H locs cells slots Q (F0 m pc ls (.int (nI a) :: rest)) :=
  lv_if_lt hx hb hdg ht (fun h => absurd h (nI_pos ha)) (fun _ => kf)
theorem r_iflt_m (hx : p.tables.exec = Jvm.exec) (hb : c.code = cc) {off : Int} {tgt : Nat} (hdg : decode cc pc = .ok (.ifCond .lt off, 3)) (ht : (pc : Int) + off = (tgt : Int))
    (kt : W p l e R s m args below meth c H locs cells slots Q (F0 m tgt ls rest)) : W p l e R s m args below meth c H locs cells slots Q (F0 m pc ls (.int (-1) :: rest)) :=
  lv_if_lt hx hb hdg ht (fun _ => kt) (fun h => absurd (by decide) h)
theorem r_ifge_n (hx : p.tables.exec = Jvm.exec) (hb : c.code = cc) {a : Nat} {off : Int} {tgt : Nat} (hdg : decode cc pc = .ok (.ifCond .ge off, 3)) (ht : (pc : Int) + off = (tgt : Int)) (ha : a < 2 ^ 31)
    (kt : W p l e R s m args below meth c H locs cells slots Q (F0 m tgt ls rest)) : W p l e R s m args below meth c H locs cells slots Q (F0 m pc ls (.int (nI a) :: rest)) :=
  lv_if_ge hx hb hdg ht (fun _ => kt) (fun h => absurd (nI_pos' ha) h)
theorem r_ifge_m (hx : p.tables.exec = Jvm.exec) (hb : c.code = cc) {off : Int} {tgt : Nat} (hdg : decode cc pc = .ok (.ifCond .ge off, 3)) (ht : (pc : Int) + off = (tgt : Int))
    (kf : W p l e R s m args below meth c H locs cells slots Q (F0 m (pc + 3) ls rest)) : W p l e R s m args below meth c H locs cells slots Q (F0 m pc ls (.int (-1) :: rest)) :=
  lv_if_ge hx hb hdg ht (fun h => absurd h (by decide)) (fun _ => kf)
end CTR2
theorem ct_tn (o : Bool) : o.toNat ≤ 1 := by cases o <;> decide
theorem ct_num_lt {a b t : Nat} (o : Bool) (ha : a < 6) (hb : b < 6) (ht : t < 6) : ct_num a b t o.toNat < 432 := by
  have := ct_tn o
  unfold ct_num; omega
theorem ct_nb9_lt {b : ct_Bo} (h : ct_inB b) : ct_nb9 b < 432 := ct_num_lt b.2.2.2 h.1 h.2.1 h.2.2
theorem ct_cl {j : Nat} (h : j < 6) : (nI j).toNatClampNeg = j := nI_clamp (by omega)
theorem ct_updD_DD (d : Nat → Nat → Bool) (a b : Nat) (x y : Bool) : ct_updD (ct_updD d a b x) a b y = ct_updD d a b y := by
  funext i j
  unfold ct_updD
  split <;> rfl
theorem ct_updB_BB (f : Nat → Bool) (a : Nat) (x y : Bool) : ct_updB (ct_updB f a x) a y = ct_updB f a y := by
  funext j
  unfold ct_updB
  split <;> rfl
theorem ct_mvI_some {g : ct_G} {p q : Nat} {x : Int32} (hp : p < 432) (h : ct_mvI g p x = some q) : ∃ c, c < 13 ∧ x = nI c ∧ ct_mv g p c = some q ∧ q < 432 := by
  unfold ct_mvI at h
  by_cases hx : x < 0 ∨ nI 12 < x
  · rw [if_pos hx] at h; cases h
  · rw [if_neg hx] at h
    have h2 : x ≤ nI 12 := by
      rw [Int32.le_iff_toInt_le]
      exact Int.not_lt.mp (fun z => hx (Or.inr (Int32.lt_iff_toInt_lt.mpr z)))
    obtain ⟨j, hj, e⟩ := nI_of2 (M := nI 12) (n := 12) (nI_toInt (by decide)) (fun z => hx (Or.inl z)) h2
    subst e
    rw [nI_clamp (by omega)] at h
    exact ⟨j, by omega, rfl, h, ct_mv_lt hp (by omega) h⟩
theorem ct_afX_some {g : ct_G} {p q : Nat} {x : Int32} (hp : p < 432) (h : ct_afX g p x = some q) : q < 432 := by
  unfold ct_afX at h
  split at h
  · cases h
  · obtain ⟨c, -, -, -, h4⟩ := ct_mvI_some hp h
    exact h4
theorem ct_doorR_b {g : ct_G} {x y : Int32} (h : ct_off x = true ∨ ct_off y = true) : (-1 : Int32) = ct_doorR g x y := (if_pos h).symm
theorem ct_doorG_b {g : ct_G} {x y : Int32} {o : Bool} (h : ct_off x = true ∨ ct_off y = true) : g = ct_doorG g x y o := (if_pos h).symm
theorem ct_or_f {x y : Bool} (h1 : x = false) (h2 : y = false) : ¬ (x = true ∨ y = true) := by
  rw [h1, h2]; simp
theorem ct_bad3_f {x y z : Int32} (h1 : ct_off x = false) (h2 : ct_off y = false) (h3 : ct_off z = false) : ¬ ct_bad3 x y z = true := by
  simp [ct_bad3, h1, h2, h3]
theorem ct_p3_n {a b t : Nat} (o : Bool) (ha : a < 6) (hb : b < 6) (ht : t < 6) : ct_p3 (nI a) (nI b) (nI t) o = ct_num a b t o.toNat := by
  unfold ct_p3
  rw [ct_cl ha, ct_cl hb, ct_cl ht]
theorem ct_outR_n {g : ct_G} {a b t : Nat} {o : Bool} (ha : a < 6) (hb : b < 6) (ht : t < 6) (h1 : ct_off (nI a) = false) (h2 : ct_off (nI b) = false) (h3 : ct_off (nI t) = false) : ct_outR g (nI a) (nI b) (nI t) o = nI (ct_win g (ct_num a b t o.toNat)) := by
  unfold ct_outR
  rw [if_neg (ct_bad3_f h1 h2 h3), ct_p3_n o ha hb ht]
theorem ct_lenR_n {g : ct_G} {a b t : Nat} {o : Bool} (ha : a < 6) (hb : b < 6) (ht : t < 6) (h1 : ct_off (nI a) = false) (h2 : ct_off (nI b) = false) (h3 : ct_off (nI t) = false) : ct_lenR g (nI a) (nI b) (nI t) o = ct_len g (ct_num a b t o.toNat) := by
  unfold ct_lenR
  rw [if_neg (ct_bad3_f h1 h2 h3), ct_p3_n o ha hb ht]
theorem ct_bokX {g : ct_G} {p c : Nat} (hc : c < 13) : ct_bok g p c = match ct_afX g p (nI c) with
    | none => false
    | some q => ct_win g q == ct_win g p && (ct_win g p == 0 || ct_far g q + 1 == ct_far g p) := by
  have h1 : ¬ (nI c < 0 ∨ nI 12 < nI c) := by
    rintro (z | z)
    · exact nI_pos (by omega) z
    · exact nI_nlt (by omega) (by decide) z
  unfold ct_bok ct_afX ct_mvI
  rw [if_neg h1, nI_clamp (by omega)]
  rfl
theorem ct_bokX_n {g : ct_G} {p c : Nat} (hc : c < 13) (h : ct_afX g p (nI c) = none) : ct_bok g p c = false := by
  rw [ct_bokX hc, h]
theorem ct_bokX_s {g : ct_G} {p c q : Nat} (hc : c < 13) (h : ct_afX g p (nI c) = some q) : ct_bok g p c = (ct_win g q == ct_win g p && (ct_win g p == 0 || ct_far g q + 1 == ct_far g p)) := by
  rw [ct_bokX hc, h]
theorem ct_m1 {a b : Nat} (ha : a < 2 ^ 30) (hb : b < 2 ^ 30) : nI a = nI b - nI 1 ↔ a + 1 = b := by
  constructor
  · intro h
    have h1 := congrArg Int32.toInt h
    rw [nI_toInt (by omega), pk_sub_toInt hb (by decide)] at h1
    omega
  · intro h
    rw [pk_sub (by omega)]
    congr 1; omega
theorem ct_fst_t {f : Nat → Bool} {n c : Nat} (h : f c = true) : ct_fst f (n + 1) c = nI c := if_pos h
theorem ct_fst_f {f : Nat → Bool} {n c : Nat} (h : f c = false) : ct_fst f (n + 1) c = ct_fst f n (c + 1) := if_neg (by simp [h])
theorem ct_lng_no {g : ct_G} {x : Int32} (h1 : ¬ x = nI 1) (h2 : ¬ x = nI 2) : ∀ n, ct_lng g x n = -3 := by
  intro n
  induction n with
  | zero => rfl
  | succ n ih =>
    simp only [ct_lng, ih]
    split
    · rename_i h
      have hw := ct_win_le g n
      have h0 : ct_win g n = 0 := by
        rcases Nat.lt_or_ge (ct_win g n) 1 with z | z
        · omega
        · exfalso
          rcases (show ct_win g n = 1 ∨ ct_win g n = 2 by omega) with y | y
          · rw [y] at h; exact h1 h.1.symm
          · rw [y] at h; exact h2 h.1.symm
      unfold ct_len
      rw [if_pos h0]
    · rfl
theorem ct_len_w {g : ct_G} {p : Nat} (h : ct_win g p ≠ 0) : ct_len g p = nI (ct_far g p) := if_neg h
theorem ct_len_0 {g : ct_G} {p : Nat} (h : ct_win g p = 0) : ct_len g p = -3 := if_pos h
end
section
/-! THE CLASS, methods that only read: contracts c_X_off, c_X_number, c_X_bits, c_X_over, c_X_after, c_X_moveCount, c_X_board -/
theorem ct_off_t1 {x : Int32} (h : x < 0) : ct_off x = true := decide_eq_true (Or.inl h)
theorem ct_nle {x y : Int32} (h : ¬ x ≤ y) : y < x := by
  rw [Int32.lt_iff_toInt_lt]
  exact Int.not_le.mp (fun q => h (Int32.le_iff_toInt_le.mpr q))
theorem ct_nlt {x y : Int32} (h : x ≤ y) : ¬ y < x := by
  rw [Int32.lt_iff_toInt_lt]
  exact Int.not_lt.mpr (Int32.le_iff_toInt_le.mp h)
theorem ct_off_t2 {x : Int32} (h : ¬ x ≤ nI 5) : ct_off x = true := decide_eq_true (Or.inr (ct_nle h))
theorem ct_off_f0 {x : Int32} (h1 : ¬ x < 0) (h2 : x ≤ nI 5) : ct_off x = false := decide_eq_false (by
  rintro (q | q)
  · exact h1 q
  · exact ct_nlt h2 q)
theorem ct_ring (X K C D Y : Int32) (h : Y + K * D = X + K * C) : X + K * (C - D) = Y := by grind
theorem ct_sh {x k c d y : Nat} (h : y + k * d = x + k * c) : nI x + nI k * (nI c - nI d) = nI y := by
  refine ct_ring _ _ _ _ _ ?_
  rw [pk_mul, nI_add, pk_mul, nI_add, h]
theorem ct_le12 {x : Int32} (h1 : ¬ x < 0) (h2 : x ≤ nI 12) : ∃ c : Nat, c < 13 ∧ x = nI c := by
  obtain ⟨j, hj, e⟩ := nI_of2 (M := nI 12) (n := 12) (nI_toInt (by decide)) h1 h2
  exact ⟨j, by omega, e⟩
theorem ct_mvI_n {g : ct_G} {p c : Nat} (hc : c < 13) : ct_mvI g p (nI c) = ct_mv g p c := by
  have h1 : ¬ nI c < 0 := nI_pos (by omega)
  have h2 : ¬ nI 12 < nI c := nI_nlt (by omega) (by decide)
  unfold ct_mvI
  rw [if_neg (by rintro (q | q); exact h1 q; exact h2 q), nI_clamp (by omega)]
theorem ct_afX_n {g : ct_G} {p c : Nat} (hc : c < 13) (h0 : ct_ov g p = 0) : ct_afX g p (nI c) = ct_mv g p c := by
  unfold ct_afX
  rw [if_neg (by simp [h0]), ct_mvI_n hc]
theorem hd_X_off : y_X_off.cls = R_X ∧ y_X_off.cls ≠ "java/lang/invoke/MethodHandle" ∧ y_X_off.cls ≠ "java/lang/invoke/VarHandle" ∧ (parseMethodDescriptor y_X_off.desc).map (fun d => d.parameters.length) = some 1 := by decide +kernel
theorem hd_X_number : y_X_number.cls = R_X ∧ y_X_number.cls ≠ "java/lang/invoke/MethodHandle" ∧ y_X_number.cls ≠ "java/lang/invoke/VarHandle" ∧ (parseMethodDescriptor y_X_number.desc).map (fun d => d.parameters.length) = some 4 := by decide +kernel
theorem hd_X_bits : y_X_bits.cls = R_X ∧ y_X_bits.cls ≠ "java/lang/invoke/MethodHandle" ∧ y_X_bits.cls ≠ "java/lang/invoke/VarHandle" ∧ (parseMethodDescriptor y_X_bits.desc).map (fun d => d.parameters.length) = some 1 := by decide +kernel
theorem hd_X_over : y_X_over.cls = R_X ∧ y_X_over.cls ≠ "java/lang/invoke/MethodHandle" ∧ y_X_over.cls ≠ "java/lang/invoke/VarHandle" ∧ (parseMethodDescriptor y_X_over.desc).map (fun d => d.parameters.length) = some 1 := by decide +kernel
theorem hd_X_after : y_X_after.cls = R_X ∧ y_X_after.cls ≠ "java/lang/invoke/MethodHandle" ∧ y_X_after.cls ≠ "java/lang/invoke/VarHandle" ∧ (parseMethodDescriptor y_X_after.desc).map (fun d => d.parameters.length) = some 2 := by decide +kernel
theorem hd_X_moveCount : y_X_moveCount.cls = R_X ∧ y_X_moveCount.cls ≠ "java/lang/invoke/MethodHandle" ∧ y_X_moveCount.cls ≠ "java/lang/invoke/VarHandle" ∧ (parseMethodDescriptor y_X_moveCount.desc).map (fun d => d.parameters.length) = some 1 := by decide +kernel
theorem hd_X_board : y_X_board.cls = R_X ∧ y_X_board.cls ≠ "java/lang/invoke/MethodHandle" ∧ y_X_board.cls ≠ "java/lang/invoke/VarHandle" ∧ (parseMethodDescriptor y_X_board.desc).map (fun d => d.parameters.length) = some 0 := by decide +kernel
set_option maxHeartbeats 4000000 in
set_option maxRecDepth 100000 in
/-- off(x) -/
theorem c_X_off (l : Launch) (x : Int32) : Met l y_X_off (Cond.code y_X_off b_X_off 1 (some .boolean) :: ct_tbl) ({ frames := 0, cells := 0, slots := 0, locals := 0 }) (va_Pc [.int x] (fun _ => True)) (QcRead (ct_bI (ct_off x))) 0 0 (fun _ => False) := by
  refine ct_start [.int x] (by decide) (Nat.le_of_ble_eq_true rfl) (fun pp ee s m below meth c ls S hr hlk _ hB hl => ?_)
  obtain ⟨hx, hb, hml, hown, hts⟩ := id S
  have hl : lv_has ls 1 [(0, .int x)] := hl
  refine lv_iload_n hx hb d_X_off_0 rfl (lv_at hl 0 rfl) ?_
  refine lv_if_lt (tgt := 9) hx hb d_X_off_1 (by decide) (fun h_1 => ?_) (fun h_1 => ?_)
  · refine lv_iconst (v := nI 1) hx hb d_X_off_9 (by decide) ?_
    refine lv_goto (tgt := 14) hx hb d_X_off_10 (by decide) ?_
    exact r_retz hx hb hr hlk d_X_off_14 (by first | (rw [ct_off_t1 h_1]; rfl) | (rw [ct_off_t2 h_6]; rfl) | (rw [ct_off_f0 h_1 h_6]; rfl))
  · refine lv_iload_n hx hb d_X_off_4 rfl (lv_at hl 0 rfl) ?_
    refine lv_iconst (v := nI 5) hx hb d_X_off_5 (by decide) ?_
    refine lv_icmp_le (tgt := 13) hx hb d_X_off_6 (by decide) (fun h_6 => ?_) (fun h_6 => ?_)
    · refine lv_iconst (v := nI 0) hx hb d_X_off_13 (by decide) ?_
      exact r_retz hx hb hr hlk d_X_off_14 (by first | (rw [ct_off_t1 h_1]; rfl) | (rw [ct_off_t2 h_6]; rfl) | (rw [ct_off_f0 h_1 h_6]; rfl))
    · refine lv_iconst (v := nI 1) hx hb d_X_off_9 (by decide) ?_
      refine lv_goto (tgt := 14) hx hb d_X_off_10 (by decide) ?_
      exact r_retz hx hb hr hlk d_X_off_14 (by first | (rw [ct_off_t1 h_1]; rfl) | (rw [ct_off_t2 h_6]; rfl) | (rw [ct_off_f0 h_1 h_6]; rfl))
set_option maxHeartbeats 4000000 in
set_option maxRecDepth 100000 in
/-- number(a, b, t, thief) -/
theorem c_X_number (l : Launch) (a1 a2 a3 : Nat) (o : Bool) : Met l y_X_number (Cond.code y_X_number b_X_number 4 (some .int) :: ct_tbl) ({ frames := 0, cells := 0, slots := 0, locals := 0 }) (va_Pc [.int (nI a1), .int (nI a2), .int (nI a3), .int (ct_bI o)] (fun _ => True)) (QcRead (nI (ct_num a1 a2 a3 o.toNat))) 0 0 (fun _ => False) := by
  refine ct_start [.int (nI a1), .int (nI a2), .int (nI a3), .int (ct_bI o)] (by decide) (Nat.le_of_ble_eq_true rfl) (fun pp ee s m below meth c ls S hr hlk _ hB hl => ?_)
  obtain ⟨hx, hb, hml, hown, hts⟩ := id S
  have hl : lv_has ls 4 [(0, .int (nI a1)), (1, .int (nI a2)), (2, .int (nI a3)), (3, .int (ct_bI o))] := hl
  refine lv_iload_n hx hb d_X_number_0 rfl (lv_at hl 0 rfl) ?_
  refine lv_bipush (v := nI 6) hx hb d_X_number_1 (by decide) ?_
  refine r_mul hx hb d_X_number_3 ?_
  refine lv_iload_n hx hb d_X_number_4 rfl (lv_at hl 1 rfl) ?_
  refine r_add hx hb d_X_number_5 ?_
  refine lv_bipush (v := nI 6) hx hb d_X_number_6 (by decide) ?_
  refine r_mul hx hb d_X_number_8 ?_
  refine lv_iload_n hx hb d_X_number_9 rfl (lv_at hl 2 rfl) ?_
  refine r_add hx hb d_X_number_10 ?_
  refine lv_iconst (v := nI 2) hx hb d_X_number_11 (by decide) ?_
  refine r_mul hx hb d_X_number_12 ?_
  refine lv_iload_n hx hb d_X_number_13 rfl (lv_at hl 3 rfl) ?_
  refine r_bif_eq (tgt := 21) hx hb d_X_number_14 (by decide) (fun h_14 => ?_) (fun h_14 => ?_)
  · refine lv_iconst (v := nI 0) hx hb d_X_number_21 (by decide) ?_
    refine r_add hx hb d_X_number_22 ?_
    exact r_ret hx hb hr hlk d_X_number_23 (by rw [h_14]; rfl)
  · refine lv_iconst (v := nI 1) hx hb d_X_number_17 (by decide) ?_
    refine lv_goto (tgt := 22) hx hb d_X_number_18 (by decide) ?_
    refine r_add hx hb d_X_number_22 ?_
    exact r_ret hx hb hr hlk d_X_number_23 (by rw [h_14]; rfl)
set_option maxHeartbeats 4000000 in
set_option maxRecDepth 100000 in
/-- bits(set) -/
theorem c_X_bits (l : Launch) (f : Nat → Bool) : Met l y_X_bits (Cond.code y_X_bits b_X_bits 3 (some .int) :: ct_tbl) ({ frames := 0, cells := 0, slots := 0, locals := 0 }) (va_Pc [.int (ct_mk6 f)] (fun _ => True)) (QcRead (nI (ct_bits f 6))) 0 0 (fun _ => False) := by
  refine ct_start [.int (ct_mk6 f)] (by decide) (Nat.le_of_ble_eq_true rfl) (fun pp ee s m below meth c ls S hr hlk _ hB hl => ?_)
  obtain ⟨hx, hb, hml, hown, hts⟩ := id S
  have hl : lv_has ls 3 [(0, .int (ct_mk6 f))] := hl
  have loop : ∀ k i : Nat, i ≤ 6 → 6 < i + k → ∀ ls : Array Slot, lv_has ls 3 [(0, .int (ct_mk6 f)), (1, .int (nI (ct_bits f i))), (2, .int (nI i))] → W pp l ee ({ frames := 0, cells := 0, slots := 0, locals := 0 }) s m ([.int (ct_mk6 f)] : List Value).toArray below meth c s.heap [] 0 0 (MQ below (QcRead (nI (ct_bits f 6))) ([.int (ct_mk6 f)] : List Value).toArray s 0 0 (fun _ => False)) (F0 m 4 ls []) := by
    intro k
    induction k with
    | zero => intro i h1 h2; omega
    | succ k ih =>
      intro i hi hk ls hl
      refine lv_iload_n hx hb d_X_bits_4 rfl (lv_at hl 2 rfl) ?_
      refine lv_bipush (v := nI 6) hx hb d_X_bits_5 (by decide) ?_
      refine r_cmp_ge (tgt := 24) hx hb d_X_bits_7 (by decide) (by omega) (by omega) (fun h_7 => ?_) (fun h_7 => ?_)
      · refine lv_iload_n hx hb d_X_bits_24 rfl (lv_at hl 1 rfl) ?_
        obtain rfl : i = 6 := by omega
        exact r_ret hx hb hr hlk d_X_bits_25 rfl
      · refine lv_iload_n hx hb d_X_bits_10 rfl (lv_at hl 1 rfl) ?_
        refine lv_iload_n hx hb d_X_bits_11 rfl (lv_at hl 0 rfl) ?_
        refine lv_iload_n hx hb d_X_bits_12 rfl (lv_at hl 2 rfl) ?_
        refine lv_ishr hx hb d_X_bits_13 ?_
        refine lv_iconst (v := nI 1) hx hb d_X_bits_14 (by decide) ?_
        refine lv_iand hx hb d_X_bits_15 ?_
        refine r_top (y := nI ((f i).toNat)) ((ct_bit (by omega)).trans (ct_bN _)) ?_
        refine r_add hx hb d_X_bits_16 ?_
        refine lv_istore_n (lv' := [(1, .int (nI ((ct_bits f i) + ((f i).toNat)))), (0, .int (ct_mk6 f)), (2, .int (nI i))]) hx hb d_X_bits_17 rfl hl (by decide) rfl (fun ls hl => ?_)
        refine lv_iinc (v := nI (i + 1)) (lv' := [(2, .int (nI (i + 1))), (1, .int (nI ((ct_bits f i) + ((f i).toNat)))), (0, .int (ct_mk6 f))]) hx hb d_X_bits_18 hl (k := 2) rfl (nI_add _ 1) (by decide) rfl (fun ls hl => ?_)
        refine lv_goto (tgt := 4) hx hb d_X_bits_21 (by decide) ?_
        exact ih (i + 1) (by omega) (by omega) ls (lv_sub hl [2, 1, 0] rfl)
  refine lv_iconst (v := nI 0) hx hb d_X_bits_0 (by decide) ?_
  refine lv_istore_n (lv' := [(1, .int (nI 0)), (0, .int (ct_mk6 f))]) hx hb d_X_bits_1 rfl hl (by decide) rfl (fun ls hl => ?_)
  refine lv_iconst (v := nI 0) hx hb d_X_bits_2 (by decide) ?_
  refine lv_istore_n (lv' := [(2, .int (nI 0)), (1, .int (nI 0)), (0, .int (ct_mk6 f))]) hx hb d_X_bits_3 rfl hl (by decide) rfl (fun ls hl => ?_)
  exact loop 7 0 (by omega) (by omega) ls (lv_sub hl [2, 1, 0] rfl)
set_option maxHeartbeats 4000000 in
set_option maxRecDepth 100000 in
/-- over(p) -/
theorem c_X_over (l : Launch) (dC : Nat → ClassId) (dI : Nat → Nat → Nat) (ad : Nat → Nat) (cd : Nat → ClassId) (g : ct_G) (b : ct_Bo) (t : ct_T) (p : Nat) (hp : p < 432) : Met l y_X_over (Cond.code y_X_over b_X_over 5 (some .int) :: ct_tbl) ({ frames := 0, cells := 0, slots := 0, locals := 0 }) (va_Pc [.ref (ad 0), .int (nI p)] (ct_PreR (dC, dI) (tX cd) (wX ad cd g b t))) (QcRead (nI (ct_ov g p))) 0 0 (fun _ => False) := by
  refine ct_start [.ref (ad 0), .int (nI p)] (by decide) (Nat.le_of_ble_eq_true rfl) (fun pp ee s m below meth c ls S hr hlk _ hB hl => ?_)
  obtain ⟨hx, hb, hml, hown, hts⟩ := id S
  have hl : lv_has ls 5 [(0, .ref (ad 0)), (1, .int (nI p))] := hl
  obtain ⟨hP, hK⟩ := hB
  refine lv_iload_n hx hb d_X_over_0 rfl (lv_at hl 1 rfl) ?_
  refine lv_bipush (v := nI 72) hx hb d_X_over_1 (by decide) ?_
  refine r_div hx hb d_X_over_3 (by omega) (by decide) (by decide) ?_
  refine lv_istore_n (lv' := [(2, .int (nI (p / 72))), (0, .ref (ad 0)), (1, .int (nI p))]) hx hb d_X_over_4 rfl hl (by decide) rfl (fun ls hl => ?_)
  refine lv_iload_n hx hb d_X_over_5 rfl (lv_at hl 2 rfl) ?_
  refine lv_bipush (v := nI 12) hx hb d_X_over_6 (by decide) ?_
  refine r_div hx hb d_X_over_8 (by omega) (by decide) (by decide) ?_
  refine lv_bipush (v := nI 6) hx hb d_X_over_9 (by decide) ?_
  refine r_rem hx hb d_X_over_11 (by omega) (by decide) (by decide) ?_
  refine lv_istore_n (lv' := [(3, .int (nI ((p / 12) % 6))), (2, .int (nI (p / 72))), (0, .ref (ad 0)), (1, .int (nI p))]) hx hb d_X_over_12 rfl hl (by decide) rfl (fun ls hl => ?_)
  refine lv_iload_n hx hb d_X_over_13 rfl (lv_at hl 3 rfl) ?_
  refine lv_iconst (v := nI 2) hx hb d_X_over_14 (by decide) ?_
  refine r_div hx hb d_X_over_15 (by omega) (by decide) (by decide) ?_
  refine lv_bipush (v := nI 6) hx hb d_X_over_16 (by decide) ?_
  refine r_rem hx hb d_X_over_18 (by omega) (by decide) (by decide) ?_
  refine lv_istore (lv' := [(4, .int (nI ((p / 2) % 6))), (3, .int (nI ((p / 12) % 6))), (2, .int (nI (p / 72))), (0, .ref (ad 0)), (1, .int (nI p))]) hx hb d_X_over_19 hl (by decide) rfl (fun ls hl => ?_)
  refine lv_iload hx hb d_X_over_21 (lv_at hl 0 rfl) ?_
  refine lv_iload_n hx hb d_X_over_23 rfl (lv_at hl 2 rfl) ?_
  refine r_cmp_eq (tgt := 33) hx hb d_X_over_24 (by decide) (by omega) (by omega) (fun h_24 => ?_) (fun h_24 => ?_)
  · refine lv_iconst (v := nI 1) hx hb d_X_over_33 (by decide) ?_
    exact r_ret hx hb hr hlk d_X_over_34 (congrArg nI (by simp [ct_ov, h_24]))
  · refine lv_iload hx hb d_X_over_27 (lv_at hl 0 rfl) ?_
    refine lv_iload_n hx hb d_X_over_29 rfl (lv_at hl 1 rfl) ?_
    refine r_cmp_ne (tgt := 35) hx hb d_X_over_30 (by decide) (by omega) (by omega) (fun h_30 => ?_) (fun h_30 => ?_)
    · refine lv_aload_n hx hb d_X_over_35 rfl (lv_at hl 3 rfl) ?_
      refine xg_exits S hK hP d_X_over_36 ?_
      refine lv_iload hx hb d_X_over_39 (lv_at hl 0 rfl) ?_
      refine lv_ishr hx hb d_X_over_41 ?_
      refine lv_iconst (v := nI 1) hx hb d_X_over_42 (by decide) ?_
      refine lv_iand hx hb d_X_over_43 ?_
      refine r_top (y := ct_bI (g.2.1 (p / 2 % 6))) (ct_bit (f := g.2.1) (by omega)) ?_
      refine lv_iconst (v := nI 1) hx hb d_X_over_44 (by decide) ?_
      refine r_b1_ne (tgt := 52) hx hb d_X_over_45 (by decide) (fun h_45 => ?_) (fun h_45 => ?_)
      · refine lv_iconst (v := nI 0) hx hb d_X_over_52 (by decide) ?_
        exact r_ret hx hb hr hlk d_X_over_53 (congrArg nI (by simp [ct_ov, h_24, h_30, h_45]))
      · refine lv_iconst (v := nI 2) hx hb d_X_over_48 (by decide) ?_
        refine lv_goto (tgt := 53) hx hb d_X_over_49 (by decide) ?_
        exact r_ret hx hb hr hlk d_X_over_53 (congrArg nI (by simp [ct_ov, h_24, h_30, h_45]))
    · refine lv_iconst (v := nI 1) hx hb d_X_over_33 (by decide) ?_
      exact r_ret hx hb hr hlk d_X_over_34 (congrArg nI (by simp [ct_ov, h_24, h_30]))
theorem ct_afX_lt {g : ct_G} {p : Nat} {x : Int32} (h : x < 0) : (-1 : Int32) = ct_af (ct_afX g p x) := by
  unfold ct_afX ct_mvI
  rw [if_pos (Or.inl h)]
  split <;> rfl
theorem ct_afX_gt {g : ct_G} {p : Nat} {x : Int32} (h : nI 12 < x) : (-1 : Int32) = ct_af (ct_afX g p x) := by
  unfold ct_afX ct_mvI
  rw [if_pos (Or.inr h)]
  split <;> rfl
set_option maxHeartbeats 4000000 in
set_option maxRecDepth 100000 in
/-- after(p, code) -/
theorem c_X_after (l : Launch) (dC : Nat → ClassId) (dI : Nat → Nat → Nat) (ad : Nat → Nat) (cd : Nat → ClassId) (g : ct_G) (b : ct_Bo) (t : ct_T) (p : Nat) (hp : p < 432) (x : Int32) : Met l y_X_after (Cond.code y_X_after b_X_after 8 (some .int) :: ct_tbl) ({ frames := 1, cells := 0, slots := 0, locals := 24 }) (va_Pc [.ref (ad 0), .int (nI p), .int x] (ct_PreR (dC, dI) (tX cd) (wX ad cd g b t))) (QcRead (ct_af (ct_afX g p x))) 0 0 (fun _ => False) := by
  refine ct_start [.ref (ad 0), .int (nI p), .int x] (by decide) (Nat.le_of_ble_eq_true rfl) (fun pp ee s m below meth c ls S hr hlk _ hB hl => ?_)
  obtain ⟨hx, hb, hml, hown, hts⟩ := id S
  have hl : lv_has ls 8 [(0, .ref (ad 0)), (1, .int (nI p)), (2, .int x)] := hl
  obtain ⟨hP, hK⟩ := hB
  refine lv_iload_n hx hb d_X_after_0 rfl (lv_at hl 2 rfl) ?_
  refine lv_if_lt (tgt := 10) hx hb d_X_after_1 (by decide) (fun h_1 => ?_) (fun h_1 => ?_)
  · refine lv_iconst (v := (-1)) hx hb d_X_after_10 (by decide) ?_
    exact r_ret hx hb hr hlk d_X_after_11 (by first | rw [ct_afX_lt h_1] | rw [ct_afX_gt (ct_nle h_7)])
  · refine lv_iload_n hx hb d_X_after_4 rfl (lv_at hl 2 rfl) ?_
    refine lv_bipush (v := nI 12) hx hb d_X_after_5 (by decide) ?_
    refine lv_icmp_le (tgt := 12) hx hb d_X_after_7 (by decide) (fun h_7 => ?_) (fun h_7 => ?_)
    · obtain ⟨c9, hc9, rfl⟩ := ct_le12 h_1 h_7
      refine lv_aload_n hx hb d_X_after_12 rfl (lv_at hl 0 rfl) ?_
      refine lv_iload_n hx hb d_X_after_13 rfl (lv_at hl 1 rfl) ?_
      refine w_callR 1 S (c_X_over l dC dI ad cd g b t p (by omega)) gv_X_X_over hd_X_over ⟨(Nat.le_of_ble_eq_true rfl), (Nat.le_of_ble_eq_true rfl)⟩ ⟨rfl, rfl⟩ ⟨Nat.zero_le _, Nat.zero_le _⟩ (x_rc hK hP) hK hP rfl hl.1 rfl (Nat.le_of_ble_eq_true rfl) d_X_after_14 ?_
      refine lv_istore_n (lv' := [(3, .int (nI (ct_ov g p))), (0, .ref (ad 0)), (1, .int (nI p)), (2, .int (nI c9))]) hx hb d_X_after_17 rfl hl (by decide) rfl (fun ls hl => ?_)
      refine lv_iload_n hx hb d_X_after_18 rfl (lv_at hl 0 rfl) ?_
      refine r_if_eq (tgt := 24) hx hb d_X_after_19 (by decide) (by have := ct_ov_le g p; omega) (fun h_19 => ?_) (fun h_19 => ?_)
      · rw [ct_afX_n hc9 h_19]
        refine lv_iload_n hx hb d_X_after_24 rfl (lv_at hl 2 rfl) ?_
        refine lv_bipush (v := nI 72) hx hb d_X_after_25 (by decide) ?_
        refine r_div hx hb d_X_after_27 (by omega) (by decide) (by decide) ?_
        refine lv_istore (lv' := [(4, .int (nI (p / 72))), (3, .int (nI (ct_ov g p))), (0, .ref (ad 0)), (1, .int (nI p)), (2, .int (nI c9))]) hx hb d_X_after_28 hl (by decide) rfl (fun ls hl => ?_)
        refine lv_iload_n hx hb d_X_after_30 rfl (lv_at hl 3 rfl) ?_
        refine lv_bipush (v := nI 12) hx hb d_X_after_31 (by decide) ?_
        refine r_div hx hb d_X_after_33 (by omega) (by decide) (by decide) ?_
        refine lv_bipush (v := nI 6) hx hb d_X_after_34 (by decide) ?_
        refine r_rem hx hb d_X_after_36 (by omega) (by decide) (by decide) ?_
        refine lv_istore (lv' := [(5, .int (nI ((p / 12) % 6))), (4, .int (nI (p / 72))), (3, .int (nI (ct_ov g p))), (0, .ref (ad 0)), (1, .int (nI p)), (2, .int (nI c9))]) hx hb d_X_after_37 hl (by decide) rfl (fun ls hl => ?_)
        refine lv_iload_n hx hb d_X_after_39 rfl (lv_at hl 4 rfl) ?_
        refine lv_iconst (v := nI 2) hx hb d_X_after_40 (by decide) ?_
        refine r_div hx hb d_X_after_41 (by omega) (by decide) (by decide) ?_
        refine lv_bipush (v := nI 6) hx hb d_X_after_42 (by decide) ?_
        refine r_rem hx hb d_X_after_44 (by omega) (by decide) (by decide) ?_
        refine lv_istore (lv' := [(6, .int (nI ((p / 2) % 6))), (5, .int (nI ((p / 12) % 6))), (4, .int (nI (p / 72))), (3, .int (nI (ct_ov g p))), (0, .ref (ad 0)), (1, .int (nI p)), (2, .int (nI c9))]) hx hb d_X_after_45 hl (by decide) rfl (fun ls hl => ?_)
        refine lv_iload_n hx hb d_X_after_47 rfl (lv_at hl 5 rfl) ?_
        refine lv_iconst (v := nI 2) hx hb d_X_after_48 (by decide) ?_
        refine r_rem hx hb d_X_after_49 (by omega) (by decide) (by decide) ?_
        refine lv_iconst (v := nI 1) hx hb d_X_after_50 (by decide) ?_
        refine r_cmp_ne (tgt := 107) hx hb d_X_after_51 (by decide) (by omega) (by omega) (fun h_51 => ?_) (fun h_51 => ?_)
        · refine lv_iload_n hx hb d_X_after_107 rfl (lv_at hl 6 rfl) ?_
          refine lv_bipush (v := nI 12) hx hb d_X_after_108 (by decide) ?_
          refine r_cmp_ne (tgt := 128) hx hb d_X_after_110 (by decide) (by omega) (by omega) (fun h_110 => ?_) (fun h_110 => ?_)
          · refine lv_iload_n hx hb d_X_after_128 rfl (lv_at hl 6 rfl) ?_
            refine lv_bipush (v := nI 6) hx hb d_X_after_129 (by decide) ?_
            refine r_cmp_ge (tgt := 164) hx hb d_X_after_131 (by decide) (by omega) (by omega) (fun h_131 => ?_) (fun h_131 => ?_)
            · refine lv_iload_n hx hb d_X_after_164 rfl (lv_at hl 6 rfl) ?_
              refine lv_bipush (v := nI 6) hx hb d_X_after_165 (by decide) ?_
              refine r_sub hx hb d_X_after_167 (by omega) ?_
              refine lv_istore (lv' := [(7, .int (nI (c9 - 6))), (6, .int (nI ((p / 2) % 6))), (5, .int (nI ((p / 12) % 6))), (4, .int (nI (p / 72))), (3, .int (nI (ct_ov g p))), (0, .ref (ad 0)), (1, .int (nI p)), (2, .int (nI c9))]) hx hb d_X_after_168 hl (by decide) rfl (fun ls hl => ?_)
              refine lv_aload_n hx hb d_X_after_170 rfl (lv_at hl 5 rfl) ?_
              refine xg_out S hK hP d_X_after_171 ?_
              refine lv_iload hx hb d_X_after_174 (lv_at hl 2 rfl) ?_
              refine xl_out S hK hP (by omega) d_X_after_176 ?_
              refine lv_iload hx hb d_X_after_177 (lv_at hl 0 rfl) ?_
              refine lv_ishr hx hb d_X_after_179 ?_
              refine lv_iconst (v := nI 1) hx hb d_X_after_180 (by decide) ?_
              refine lv_iand hx hb d_X_after_181 ?_
              refine r_top (y := ct_bI (g.1 (p / 12 % 6) (c9 - 6))) (ct_bit (f := fun j => g.1 (p / 12 % 6) j) (by omega)) ?_
              refine r_bif_ne (tgt := 189) hx hb d_X_after_182 (by decide) (fun h_182 => ?_) (fun h_182 => ?_)
              · refine lv_iload_n hx hb d_X_after_189 rfl (lv_at hl 6 rfl) ?_
                refine lv_iconst (v := nI 1) hx hb d_X_after_190 (by decide) ?_
                refine r_add hx hb d_X_after_191 ?_
                refine lv_bipush (v := nI 12) hx hb d_X_after_192 (by decide) ?_
                refine lv_iload hx hb d_X_after_194 (lv_at hl 0 rfl) ?_
                refine lv_iload hx hb d_X_after_196 (lv_at hl 2 rfl) ?_
                refine lv_isub hx hb d_X_after_198 ?_
                refine lv_imul hx hb d_X_after_199 ?_
                refine lv_iadd hx hb d_X_after_200 ?_
                have e9 : ct_mv g p c9 = some (ct_num (p / 72) (c9 - 6) (p / 2 % 6) 1) := by first | (simp [ct_mv, h_51, h_110, h_131, h_182, show c9 < 6 by omega]; done) | (simp [ct_mv, h_51, h_110, h_131, h_182, show ¬ c9 < 6 by omega]; done)
                rw [e9]
                exact r_ret hx hb hr hlk d_X_after_201 (ct_sh (by unfold ct_num; omega))
              · refine lv_iconst (v := (-1)) hx hb d_X_after_185 (by decide) ?_
                refine lv_goto (tgt := 201) hx hb d_X_after_186 (by decide) ?_
                exact r_ret hx hb hr hlk d_X_after_201 (by first | (simp [ct_mv, ct_af, h_51, h_110, h_131, h_182]; done) | (simp [ct_mv, ct_af, h_51, h_110, h_131, h_182, show ¬ c9 < 6 by omega]; done))
            · refine lv_aload_n hx hb d_X_after_134 rfl (lv_at hl 4 rfl) ?_
              refine xg_out S hK hP d_X_after_135 ?_
              refine lv_iload hx hb d_X_after_138 (lv_at hl 2 rfl) ?_
              refine xl_out S hK hP (by omega) d_X_after_140 ?_
              refine lv_iload_n hx hb d_X_after_141 rfl (lv_at hl 6 rfl) ?_
              refine lv_ishr hx hb d_X_after_142 ?_
              refine lv_iconst (v := nI 1) hx hb d_X_after_143 (by decide) ?_
              refine lv_iand hx hb d_X_after_144 ?_
              refine r_top (y := ct_bI (g.1 (p / 72) c9)) (ct_bit (f := fun j => g.1 (p / 72) j) (by omega)) ?_
              refine r_bif_ne (tgt := 152) hx hb d_X_after_145 (by decide) (fun h_145 => ?_) (fun h_145 => ?_)
              · refine lv_iload_n hx hb d_X_after_152 rfl (lv_at hl 5 rfl) ?_
                refine lv_iconst (v := nI 1) hx hb d_X_after_153 (by decide) ?_
                refine r_add hx hb d_X_after_154 ?_
                refine lv_bipush (v := nI 72) hx hb d_X_after_155 (by decide) ?_
                refine lv_iload_n hx hb d_X_after_157 rfl (lv_at hl 6 rfl) ?_
                refine lv_iload hx hb d_X_after_158 (lv_at hl 2 rfl) ?_
                refine lv_isub hx hb d_X_after_160 ?_
                refine lv_imul hx hb d_X_after_161 ?_
                refine lv_iadd hx hb d_X_after_162 ?_
                have e9 : ct_mv g p c9 = some (ct_num c9 (p / 12 % 6) (p / 2 % 6) 1) := by first | (simp [ct_mv, h_51, h_110, h_131, h_145, show c9 < 6 by omega]; done) | (simp [ct_mv, h_51, h_110, h_131, h_145, show ¬ c9 < 6 by omega]; done)
                rw [e9]
                exact r_ret hx hb hr hlk d_X_after_163 (ct_sh (by unfold ct_num; omega))
              · refine lv_iconst (v := (-1)) hx hb d_X_after_148 (by decide) ?_
                refine lv_goto (tgt := 163) hx hb d_X_after_149 (by decide) ?_
                exact r_ret hx hb hr hlk d_X_after_163 (by first | (simp [ct_mv, ct_af, h_51, h_110, h_131, h_145]; done) | (simp [ct_mv, ct_af, h_51, h_110, h_131, h_145, show ¬ c9 < 6 by omega]; done))
          · refine lv_aload_n hx hb d_X_after_113 rfl (lv_at hl 4 rfl) ?_
            refine xg_guardsWait S hK hP d_X_after_114 ?_
            refine r_bif_eq (tgt := 126) hx hb d_X_after_117 (by decide) (fun h_117 => ?_) (fun h_117 => ?_)
            · refine lv_iconst (v := (-1)) hx hb d_X_after_126 (by decide) ?_
              exact r_ret hx hb hr hlk d_X_after_127 (by first | (simp [ct_mv, ct_af, h_51, h_110, h_117]; done) | (simp [ct_mv, ct_af, h_51, h_110, h_117, show ¬ c9 < 6 by omega]; done))
            · refine lv_iload_n hx hb d_X_after_120 rfl (lv_at hl 5 rfl) ?_
              refine lv_iconst (v := nI 1) hx hb d_X_after_121 (by decide) ?_
              refine r_add hx hb d_X_after_122 ?_
              refine lv_goto (tgt := 127) hx hb d_X_after_123 (by decide) ?_
              exact r_ret hx hb hr hlk d_X_after_127 (by first | (simp [ct_mv, ct_af, h_51, h_110, h_117]; done) | (simp [ct_mv, ct_af, h_51, h_110, h_117, show ¬ c9 < 6 by omega]; done))
        · refine lv_iload_n hx hb d_X_after_54 rfl (lv_at hl 6 rfl) ?_
          refine lv_bipush (v := nI 12) hx hb d_X_after_55 (by decide) ?_
          refine r_cmp_ne (tgt := 75) hx hb d_X_after_57 (by decide) (by omega) (by omega) (fun h_57 => ?_) (fun h_57 => ?_)
          · refine lv_iload_n hx hb d_X_after_75 rfl (lv_at hl 6 rfl) ?_
            refine lv_iconst (v := nI 5) hx hb d_X_after_76 (by decide) ?_
            refine r_cmp_gt (tgt := 94) hx hb d_X_after_77 (by decide) (by omega) (by omega) (fun h_77 => ?_) (fun h_77 => ?_)
            · refine lv_iconst (v := (-1)) hx hb d_X_after_94 (by decide) ?_
              exact r_ret hx hb hr hlk d_X_after_95 (by first | (simp [ct_mv, ct_af, h_51, h_57, h_77]; done) | (simp [ct_mv, ct_af, h_51, h_57, h_77, show ¬ c9 < 6 by omega]; done))
            · refine lv_aload_n hx hb d_X_after_80 rfl (lv_at hl 4 rfl) ?_
              refine xg_out S hK hP d_X_after_81 ?_
              refine lv_iload hx hb d_X_after_84 (lv_at hl 0 rfl) ?_
              refine xl_out S hK hP (by omega) d_X_after_86 ?_
              refine lv_iload_n hx hb d_X_after_87 rfl (lv_at hl 6 rfl) ?_
              refine lv_ishr hx hb d_X_after_88 ?_
              refine lv_iconst (v := nI 1) hx hb d_X_after_89 (by decide) ?_
              refine lv_iand hx hb d_X_after_90 ?_
              refine r_top (y := ct_bI (g.1 (p / 2 % 6) c9)) (ct_bit (f := fun j => g.1 (p / 2 % 6) j) (by omega)) ?_
              refine r_bif_ne (tgt := 96) hx hb d_X_after_91 (by decide) (fun h_91 => ?_) (fun h_91 => ?_)
              · refine lv_iload_n hx hb d_X_after_96 rfl (lv_at hl 5 rfl) ?_
                refine lv_iconst (v := nI 1) hx hb d_X_after_97 (by decide) ?_
                refine r_sub hx hb d_X_after_98 (by omega) ?_
                refine lv_iconst (v := nI 2) hx hb d_X_after_99 (by decide) ?_
                refine lv_iload_n hx hb d_X_after_100 rfl (lv_at hl 6 rfl) ?_
                refine lv_iload hx hb d_X_after_101 (lv_at hl 0 rfl) ?_
                refine lv_isub hx hb d_X_after_103 ?_
                refine lv_imul hx hb d_X_after_104 ?_
                refine lv_iadd hx hb d_X_after_105 ?_
                have e9 : ct_mv g p c9 = some (ct_num (p / 72) (p / 12 % 6) c9 0) := by first | (simp [ct_mv, h_51, h_57, h_77, h_91, show c9 < 6 by omega]; done) | (simp [ct_mv, h_51, h_57, h_77, h_91, show ¬ c9 < 6 by omega]; done)
                rw [e9]
                exact r_ret hx hb hr hlk d_X_after_106 (ct_sh (by unfold ct_num; omega))
              · refine lv_iconst (v := (-1)) hx hb d_X_after_94 (by decide) ?_
                exact r_ret hx hb hr hlk d_X_after_95 (by first | (simp [ct_mv, ct_af, h_51, h_57, h_77, h_91]; done) | (simp [ct_mv, ct_af, h_51, h_57, h_77, h_91, show ¬ c9 < 6 by omega]; done))
          · refine lv_aload_n hx hb d_X_after_60 rfl (lv_at hl 4 rfl) ?_
            refine xg_thiefWaits S hK hP d_X_after_61 ?_
            refine r_bif_eq (tgt := 73) hx hb d_X_after_64 (by decide) (fun h_64 => ?_) (fun h_64 => ?_)
            · refine lv_iconst (v := (-1)) hx hb d_X_after_73 (by decide) ?_
              exact r_ret hx hb hr hlk d_X_after_74 (by first | (simp [ct_mv, ct_af, h_51, h_57, h_64]; done) | (simp [ct_mv, ct_af, h_51, h_57, h_64, show ¬ c9 < 6 by omega]; done))
            · refine lv_iload_n hx hb d_X_after_67 rfl (lv_at hl 5 rfl) ?_
              refine lv_iconst (v := nI 1) hx hb d_X_after_68 (by decide) ?_
              refine r_sub hx hb d_X_after_69 (by omega) ?_
              refine lv_goto (tgt := 74) hx hb d_X_after_70 (by decide) ?_
              exact r_ret hx hb hr hlk d_X_after_74 (by first | (simp [ct_mv, ct_af, h_51, h_57, h_64]; done) | (simp [ct_mv, ct_af, h_51, h_57, h_64, show ¬ c9 < 6 by omega]; done))
      · refine lv_iconst (v := (-1)) hx hb d_X_after_22 (by decide) ?_
        exact r_ret hx hb hr hlk d_X_after_23 (by simp [ct_afX, ct_af, h_19])
    · refine lv_iconst (v := (-1)) hx hb d_X_after_10 (by decide) ?_
      exact r_ret hx hb hr hlk d_X_after_11 (by first | rw [ct_afX_lt h_1] | rw [ct_afX_gt (ct_nle h_7)])
set_option maxHeartbeats 4000000 in
set_option maxRecDepth 100000 in
/-- moveCount(p) -/
theorem c_X_moveCount (l : Launch) (dC : Nat → ClassId) (dI : Nat → Nat → Nat) (ad : Nat → Nat) (cd : Nat → ClassId) (g : ct_G) (b : ct_Bo) (t : ct_T) (p : Nat) (hp : p < 432) : Met l y_X_moveCount (Cond.code y_X_moveCount b_X_moveCount 7 (some .int) :: ct_tbl) ({ frames := 1, cells := 0, slots := 0, locals := 22 }) (va_Pc [.ref (ad 0), .int (nI p)] (ct_PreR (dC, dI) (tX cd) (wX ad cd g b t))) (QcRead (nI (ct_mc g p))) 0 0 (fun _ => False) := by
  refine ct_start [.ref (ad 0), .int (nI p)] (by decide) (Nat.le_of_ble_eq_true rfl) (fun pp ee s m below meth c ls S hr hlk _ hB hl => ?_)
  obtain ⟨hx, hb, hml, hown, hts⟩ := id S
  have hl : lv_has ls 7 [(0, .ref (ad 0)), (1, .int (nI p))] := hl
  obtain ⟨hP, hK⟩ := hB
  refine lv_aload_n hx hb d_X_moveCount_0 rfl (lv_at hl 0 rfl) ?_
  refine xg_out S hK hP d_X_moveCount_1 ?_
  refine lv_iload_n hx hb d_X_moveCount_4 rfl (lv_at hl 1 rfl) ?_
  refine lv_bipush (v := nI 72) hx hb d_X_moveCount_5 (by decide) ?_
  refine r_div hx hb d_X_moveCount_7 (by omega) (by decide) (by decide) ?_
  refine xl_out S hK hP (by omega) d_X_moveCount_8 ?_
  refine lv_istore_n (lv' := [(2, .int (ct_mk6 (fun j => g.1 (p / 72) j))), (0, .ref (ad 0)), (1, .int (nI p))]) hx hb d_X_moveCount_9 rfl hl (by decide) rfl (fun ls hl => ?_)
  refine lv_aload_n hx hb d_X_moveCount_10 rfl (lv_at hl 1 rfl) ?_
  refine xg_out S hK hP d_X_moveCount_11 ?_
  refine lv_iload_n hx hb d_X_moveCount_14 rfl (lv_at hl 2 rfl) ?_
  refine lv_bipush (v := nI 12) hx hb d_X_moveCount_15 (by decide) ?_
  refine r_div hx hb d_X_moveCount_17 (by omega) (by decide) (by decide) ?_
  refine lv_bipush (v := nI 6) hx hb d_X_moveCount_18 (by decide) ?_
  refine r_rem hx hb d_X_moveCount_20 (by omega) (by decide) (by decide) ?_
  refine xl_out S hK hP (by omega) d_X_moveCount_21 ?_
  refine lv_istore_n (lv' := [(3, .int (ct_mk6 (fun j => g.1 ((p / 12) % 6) j))), (2, .int (ct_mk6 (fun j => g.1 (p / 72) j))), (0, .ref (ad 0)), (1, .int (nI p))]) hx hb d_X_moveCount_22 rfl hl (by decide) rfl (fun ls hl => ?_)
  refine lv_aload_n hx hb d_X_moveCount_23 rfl (lv_at hl 2 rfl) ?_
  refine xg_out S hK hP d_X_moveCount_24 ?_
  refine lv_iload_n hx hb d_X_moveCount_27 rfl (lv_at hl 3 rfl) ?_
  refine lv_iconst (v := nI 2) hx hb d_X_moveCount_28 (by decide) ?_
  refine r_div hx hb d_X_moveCount_29 (by omega) (by decide) (by decide) ?_
  refine lv_bipush (v := nI 6) hx hb d_X_moveCount_30 (by decide) ?_
  refine r_rem hx hb d_X_moveCount_32 (by omega) (by decide) (by decide) ?_
  refine xl_out S hK hP (by omega) d_X_moveCount_33 ?_
  refine lv_istore (lv' := [(4, .int (ct_mk6 (fun j => g.1 ((p / 2) % 6) j))), (3, .int (ct_mk6 (fun j => g.1 ((p / 12) % 6) j))), (2, .int (ct_mk6 (fun j => g.1 (p / 72) j))), (0, .ref (ad 0)), (1, .int (nI p))]) hx hb d_X_moveCount_34 hl (by decide) rfl (fun ls hl => ?_)
  refine lv_iload_n hx hb d_X_moveCount_36 rfl (lv_at hl 4 rfl) ?_
  refine lv_iconst (v := nI 2) hx hb d_X_moveCount_37 (by decide) ?_
  refine r_rem hx hb d_X_moveCount_38 (by omega) (by decide) (by decide) ?_
  refine lv_iconst (v := nI 1) hx hb d_X_moveCount_39 (by decide) ?_
  refine r_cmp_ne (tgt := 67) hx hb d_X_moveCount_40 (by decide) (by omega) (by omega) (fun h_40 => ?_) (fun h_40 => ?_)
  · refine lv_iload_n hx hb d_X_moveCount_67 rfl (lv_at hl 2 rfl) ?_
    refine r_callS 1 S (c_X_bits l (fun j => g.1 (p / 72) j)) gs_X_X_bits hd_X_bits ⟨(Nat.le_of_ble_eq_true rfl), (Nat.le_of_ble_eq_true rfl)⟩ ⟨rfl, rfl⟩ ⟨Nat.zero_le _, Nat.zero_le _⟩ rfl hl.1 rfl (Nat.le_of_ble_eq_true rfl) d_X_moveCount_68 ?_
    refine lv_istore (lv' := [(5, .int (nI (ct_bits (fun j => g.1 (p / 72) j) 6))), (4, .int (ct_mk6 (fun j => g.1 ((p / 2) % 6) j))), (3, .int (ct_mk6 (fun j => g.1 ((p / 12) % 6) j))), (2, .int (ct_mk6 (fun j => g.1 (p / 72) j))), (0, .ref (ad 0)), (1, .int (nI p))]) hx hb d_X_moveCount_71 hl (by decide) rfl (fun ls hl => ?_)
    refine lv_iload_n hx hb d_X_moveCount_73 rfl (lv_at hl 2 rfl) ?_
    refine r_callS 1 S (c_X_bits l (fun j => g.1 ((p / 12) % 6) j)) gs_X_X_bits hd_X_bits ⟨(Nat.le_of_ble_eq_true rfl), (Nat.le_of_ble_eq_true rfl)⟩ ⟨rfl, rfl⟩ ⟨Nat.zero_le _, Nat.zero_le _⟩ rfl hl.1 rfl (Nat.le_of_ble_eq_true rfl) d_X_moveCount_74 ?_
    refine lv_istore (lv' := [(6, .int (nI (ct_bits (fun j => g.1 ((p / 12) % 6) j) 6))), (5, .int (nI (ct_bits (fun j => g.1 (p / 72) j) 6))), (4, .int (ct_mk6 (fun j => g.1 ((p / 2) % 6) j))), (3, .int (ct_mk6 (fun j => g.1 ((p / 12) % 6) j))), (2, .int (ct_mk6 (fun j => g.1 (p / 72) j))), (0, .ref (ad 0)), (1, .int (nI p))]) hx hb d_X_moveCount_77 hl (by decide) rfl (fun ls hl => ?_)
    refine lv_aload_n hx hb d_X_moveCount_79 rfl (lv_at hl 5 rfl) ?_
    refine xg_guardsWait S hK hP d_X_moveCount_80 ?_
    refine r_bif_eq (tgt := 96) hx hb d_X_moveCount_83 (by decide) (fun h_83 => ?_) (fun h_83 => ?_)
    · refine lv_iload hx hb d_X_moveCount_96 (lv_at hl 1 rfl) ?_
      refine lv_iload hx hb d_X_moveCount_98 (lv_at hl 0 rfl) ?_
      refine r_add hx hb d_X_moveCount_100 ?_
      exact r_ret hx hb hr hlk d_X_moveCount_101 (congrArg nI (by simp [ct_mc, h_40, h_83]))
    · refine lv_iload hx hb d_X_moveCount_86 (lv_at hl 1 rfl) ?_
      refine lv_iload hx hb d_X_moveCount_88 (lv_at hl 0 rfl) ?_
      refine r_add hx hb d_X_moveCount_90 ?_
      refine lv_iconst (v := nI 1) hx hb d_X_moveCount_91 (by decide) ?_
      refine r_add hx hb d_X_moveCount_92 ?_
      refine lv_goto (tgt := 101) hx hb d_X_moveCount_93 (by decide) ?_
      exact r_ret hx hb hr hlk d_X_moveCount_101 (congrArg nI (by simp [ct_mc, h_40, h_83]))
  · refine lv_iload hx hb d_X_moveCount_43 (lv_at hl 0 rfl) ?_
    refine r_callS 1 S (c_X_bits l (fun j => g.1 ((p / 2) % 6) j)) gs_X_X_bits hd_X_bits ⟨(Nat.le_of_ble_eq_true rfl), (Nat.le_of_ble_eq_true rfl)⟩ ⟨rfl, rfl⟩ ⟨Nat.zero_le _, Nat.zero_le _⟩ rfl hl.1 rfl (Nat.le_of_ble_eq_true rfl) d_X_moveCount_45 ?_
    refine lv_istore (lv' := [(5, .int (nI (ct_bits (fun j => g.1 ((p / 2) % 6) j) 6))), (4, .int (ct_mk6 (fun j => g.1 ((p / 2) % 6) j))), (3, .int (ct_mk6 (fun j => g.1 ((p / 12) % 6) j))), (2, .int (ct_mk6 (fun j => g.1 (p / 72) j))), (0, .ref (ad 0)), (1, .int (nI p))]) hx hb d_X_moveCount_48 hl (by decide) rfl (fun ls hl => ?_)
    refine lv_aload_n hx hb d_X_moveCount_50 rfl (lv_at hl 4 rfl) ?_
    refine xg_thiefWaits S hK hP d_X_moveCount_51 ?_
    refine r_bif_eq (tgt := 64) hx hb d_X_moveCount_54 (by decide) (fun h_54 => ?_) (fun h_54 => ?_)
    · refine lv_iload hx hb d_X_moveCount_64 (lv_at hl 0 rfl) ?_
      exact r_ret hx hb hr hlk d_X_moveCount_66 (congrArg nI (by simp [ct_mc, h_40, h_54]))
    · refine lv_iload hx hb d_X_moveCount_57 (lv_at hl 0 rfl) ?_
      refine lv_iconst (v := nI 1) hx hb d_X_moveCount_59 (by decide) ?_
      refine r_add hx hb d_X_moveCount_60 ?_
      refine lv_goto (tgt := 66) hx hb d_X_moveCount_61 (by decide) ?_
      exact r_ret hx hb hr hlk d_X_moveCount_66 (congrArg nI (by simp [ct_mc, h_40, h_54]))
set_option maxHeartbeats 4000000 in
set_option maxRecDepth 100000 in
/-- board() -/
theorem c_X_board (l : Launch) (dC : Nat → ClassId) (dI : Nat → Nat → Nat) (ad : Nat → Nat) (cd : Nat → ClassId) (g : ct_G) (b : ct_Bo) (t : ct_T) : Met l y_X_board (Cond.code y_X_board b_X_board 2 (some .int) :: ct_tbl) ({ frames := 0, cells := 0, slots := 0, locals := 0 }) (va_Pc [.ref (ad 0)] (ct_PreR (dC, dI) (tX cd) (wX ad cd g b t))) (QcRead (ct_boardR b)) 0 0 (fun _ => False) := by
  refine ct_start [.ref (ad 0)] (by decide) (Nat.le_of_ble_eq_true rfl) (fun pp ee s m below meth c ls S hr hlk _ hB hl => ?_)
  obtain ⟨hx, hb, hml, hown, hts⟩ := id S
  have hl : lv_has ls 2 [(0, .ref (ad 0))] := hl
  obtain ⟨hP, hK⟩ := hB
  refine lv_aload_n hx hb d_X_board_0 rfl (lv_at hl 0 rfl) ?_
  refine xg_boardThief S hK hP d_X_board_1 ?_
  refine r_bif_eq (tgt := 13) hx hb d_X_board_4 (by decide) (fun h_4 => ?_) (fun h_4 => ?_)
  · refine lv_iconst (v := nI 0) hx hb d_X_board_13 (by decide) ?_
    refine lv_istore_n (lv' := [(1, .int (nI 0)), (0, .ref (ad 0))]) hx hb d_X_board_14 rfl hl (by decide) rfl (fun ls hl => ?_)
    refine lv_aload_n hx hb d_X_board_15 rfl (lv_at hl 1 rfl) ?_
    refine xg_boardA S hK hP d_X_board_16 ?_
    refine lv_bipush (v := nI 8) hx hb d_X_board_19 (by decide) ?_
    refine lv_aload_n hx hb d_X_board_21 rfl (lv_at hl 1 rfl) ?_
    refine xg_boardB S hK hP d_X_board_22 ?_
    refine r_mul hx hb d_X_board_25 ?_
    refine r_add hx hb d_X_board_26 ?_
    refine lv_bipush (v := nI 64) hx hb d_X_board_27 (by decide) ?_
    refine lv_aload_n hx hb d_X_board_29 rfl (lv_at hl 1 rfl) ?_
    refine xg_boardT S hK hP d_X_board_30 ?_
    refine r_mul hx hb d_X_board_33 ?_
    refine r_add hx hb d_X_board_34 ?_
    refine lv_iload_n hx hb d_X_board_35 rfl (lv_at hl 0 rfl) ?_
    refine r_add hx hb d_X_board_36 ?_
    exact r_ret hx hb hr hlk d_X_board_37 (congrArg nI (by simp [h_4]))
  · refine lv_sipush (v := nI 512) hx hb d_X_board_7 (by decide) ?_
    refine lv_goto (tgt := 14) hx hb d_X_board_10 (by decide) ?_
    refine lv_istore_n (lv' := [(1, .int (nI 512)), (0, .ref (ad 0))]) hx hb d_X_board_14 rfl hl (by decide) rfl (fun ls hl => ?_)
    refine lv_aload_n hx hb d_X_board_15 rfl (lv_at hl 1 rfl) ?_
    refine xg_boardA S hK hP d_X_board_16 ?_
    refine lv_bipush (v := nI 8) hx hb d_X_board_19 (by decide) ?_
    refine lv_aload_n hx hb d_X_board_21 rfl (lv_at hl 1 rfl) ?_
    refine xg_boardB S hK hP d_X_board_22 ?_
    refine r_mul hx hb d_X_board_25 ?_
    refine r_add hx hb d_X_board_26 ?_
    refine lv_bipush (v := nI 64) hx hb d_X_board_27 (by decide) ?_
    refine lv_aload_n hx hb d_X_board_29 rfl (lv_at hl 1 rfl) ?_
    refine xg_boardT S hK hP d_X_board_30 ?_
    refine r_mul hx hb d_X_board_33 ?_
    refine r_add hx hb d_X_board_34 ?_
    refine lv_iload_n hx hb d_X_board_35 rfl (lv_at hl 0 rfl) ?_
    refine r_add hx hb d_X_board_36 ?_
    exact r_ret hx hb hr hlk d_X_board_37 (congrArg nI (by simp [h_4]))
end
section
theorem hd_X_settle : y_X_settle.cls = R_X ∧ y_X_settle.cls ≠ "java/lang/invoke/MethodHandle" ∧ y_X_settle.cls ≠ "java/lang/invoke/VarHandle" ∧ (parseMethodDescriptor y_X_settle.desc).map (fun d => d.parameters.length) = some 3 := by decide +kernel
theorem hd_X_answer : y_X_answer.cls = R_X ∧ y_X_answer.cls ≠ "java/lang/invoke/MethodHandle" ∧ y_X_answer.cls ≠ "java/lang/invoke/VarHandle" ∧ (parseMethodDescriptor y_X_answer.desc).map (fun d => d.parameters.length) = some 3 := by decide +kernel
theorem hd_X_spread : y_X_spread.cls = R_X ∧ y_X_spread.cls ≠ "java/lang/invoke/MethodHandle" ∧ y_X_spread.cls ≠ "java/lang/invoke/VarHandle" ∧ (parseMethodDescriptor y_X_spread.desc).map (fun d => d.parameters.length) = some 1 := by decide +kernel
/-- bounds that the walk needs -/
def ct_bd (t : ct_T) : Prop := xt_n t ≤ 432 ∧ ∀ j, j < 432 → xt_w t j < 128
theorem ct_bd_settle {t : ct_T} {p w n : Nat} (h : ct_bd t) (hw : w < 128) : ct_bd (ct_settle t p w n) := by
  unfold ct_settle
  split
  · exact h
  · refine ⟨by show xt_n t + 1 ≤ 432; omega, fun j hj => ?_⟩
    show ct_updN (xt_w t) p w j < 128
    unfold ct_updN
    split
    · exact hw
    · exact h.2 j hj
theorem ct_bd_ans {t : ct_T} {p w n : Nat} (h : ct_bd t) (hw : w < 128) : ct_bd (ct_ans t p w n) := by
  unfold ct_ans
  split
  · exact h
  · split
    · exact ct_bd_settle (t := ct_ans1 t p) h hw
    · exact h
theorem ct_bd_spE {g : ct_G} {p w n : Nat} {t : ct_T} (h : ct_bd t) (hw : w < 128) : ∀ k, ct_bd (ct_spE g p w n t k) := by
  intro k
  induction k with
  | zero => exact h
  | succ k ih =>
    simp only [ct_spE]
    split
    · exact ct_bd_ans ih hw
    · exact ih
theorem ct_bd_spA {g : ct_G} {p w n k : Nat} {t : ct_T} (h : ct_bd t) (hw : w < 128) : ct_bd (ct_spA g p w n k t) := by
  unfold ct_spA
  split
  · exact ct_bd_ans h hw
  · exact h
theorem ct_bd_spB {g : ct_G} {p w n k : Nat} {t : ct_T} (h : ct_bd t) (hw : w < 128) : ct_bd (ct_spB g p w n k t) := by
  unfold ct_spB
  split
  · exact ct_bd_ans h hw
  · exact h
theorem ct_bd_spO {g : ct_G} {p w n : Nat} {t : ct_T} (h : ct_bd t) (hw : w < 128) : ∀ k, ct_bd (ct_spO g p w n t k) := by
  intro k
  induction k with
  | zero => exact h
  | succ k ih => exact ct_bd_spB (ct_bd_spA ih hw) hw
set_option maxHeartbeats 4000000 in
set_option maxRecDepth 100000 in
/-- settle(p, w, n) -/
theorem c_X_settle (l : Launch) (dC : Nat → ClassId) (dI : Nat → Nat → Nat) (ad : Nat → Nat) (cd : Nat → ClassId) (g : ct_G) (b : ct_Bo) (t : ct_T) (p w n : Nat) (hp : p < 432) (hw : w < 128) (hn : n < 1000) (hq : xt_n t ≤ 432) : ∀ sz : Nat, Met l y_X_settle (Cond.code y_X_settle b_X_settle 4 none :: ct_tbl) ({ frames := 0, cells := 0, slots := 0, locals := 0 }) (va_Pc [.ref (ad 0), .int (nI p), .int (nI w), .int (nI n)] (ct_Pre (dC, dI) (tX cd) (wX ad cd g b t) sz)) (ct_Qv (dC, dI) (tX cd) (fun t' : ct_T => wX ad cd g b t') (fun t' => t' = ct_settle t p w n) (va_A (wX ad cd g b t) sz)) 0 0 (va_A (wX ad cd g b t) sz) := by
  refine w_start (Qk := ct_Qv (dC, dI) (tX cd) (fun t' : ct_T => wX ad cd g b t') (fun t' => t' = ct_settle t p w n)) [.ref (ad 0), .int (nI p), .int (nI w), .int (nI n)] (by decide) (Nat.le_of_ble_eq_true rfl) (fun pp ee s m below meth c ls A S hr hlk hP hK hD hA hl => ?_)
  obtain ⟨hx, hb, hml, hown, hts⟩ := id S
  have hl : lv_has ls 4 [(0, .ref (ad 0)), (1, .int (nI p)), (2, .int (nI w)), (3, .int (nI n))] := hl
  have hS : va_S A s.heap s.heap [] := va_S.rf
  refine lv_aload_n hx hb d_X_settle_0 rfl (lv_at hl 0 rfl) ?_
  refine xg_queued S hK hP d_X_settle_1 ?_
  refine lv_sipush (v := nI 432) hx hb d_X_settle_4 (by decide) ?_
  refine r_cmp_lt (tgt := 11) hx hb d_X_settle_7 (by decide) (by omega) (by omega) (fun h_7 => ?_) (fun h_7 => ?_)
  · refine lv_aload_n hx hb d_X_settle_11 rfl (lv_at hl 0 rfl) ?_
    refine xg_winner S hK hP d_X_settle_12 ?_
    refine lv_iload_n hx hb d_X_settle_15 rfl (lv_at hl 1 rfl) ?_
    refine lv_iload_n hx hb d_X_settle_16 rfl (lv_at hl 2 rfl) ?_
    refine lv_i2b (v := nI (w)) hx hb d_X_settle_17 (ct_i8 _ (by omega)) ?_
    refine xa_winner S hK hP hD hS (by omega) (by omega) d_X_settle_18 (fun H locs hP hD hS => ?_)
    refine lv_aload_n hx hb d_X_settle_19 rfl (lv_at hl 0 rfl) ?_
    refine xg_far S hK hP d_X_settle_20 ?_
    refine lv_iload_n hx hb d_X_settle_23 rfl (lv_at hl 1 rfl) ?_
    refine lv_iload_n hx hb d_X_settle_24 rfl (lv_at hl 3 rfl) ?_
    refine lv_i2s (v := nI (n)) hx hb d_X_settle_25 (ct_i16 _ (by omega)) ?_
    refine xa_far S hK hP hD hS (by omega) (by omega) d_X_settle_26 (fun H locs hP hD hS => ?_)
    refine lv_aload_n hx hb d_X_settle_27 rfl (lv_at hl 0 rfl) ?_
    refine xg_queue S hK hP d_X_settle_28 ?_
    refine lv_aload_n hx hb d_X_settle_31 rfl (lv_at hl 0 rfl) ?_
    refine xg_queued S hK hP d_X_settle_32 ?_
    refine lv_iload_n hx hb d_X_settle_35 rfl (lv_at hl 1 rfl) ?_
    refine lv_i2s (v := nI (p)) hx hb d_X_settle_36 (ct_i16 _ (by omega)) ?_
    refine xa_queue S hK hP hD hS (by omega) (by omega) d_X_settle_37 (fun H locs hP hD hS => ?_)
    refine lv_aload_n hx hb d_X_settle_38 rfl (lv_at hl 0 rfl) ?_
    refine lv_dup hx hb d_X_settle_39 rfl ?_
    refine xg_queued S hK hP d_X_settle_40 ?_
    refine lv_iconst (v := nI 1) hx hb d_X_settle_43 (by decide) ?_
    refine r_add hx hb d_X_settle_44 ?_
    refine xp_queued S hK hP hD hS d_X_settle_45 (fun H locs hP hD hS => ?_)
    exact w_retv hx hb hr hlk hK d_X_settle_48 (xs_n (xs_q (xs_f (xs_w t (ct_updN (xt_w t) p w)) (ct_updN (xt_f (xs_w t (ct_updN (xt_w t) p w))) p n)) (ct_updN (xt_q (xs_f (xs_w t (ct_updN (xt_w t) p w)) (ct_updN (xt_f (xs_w t (ct_updN (xt_w t) p w))) p n))) (xt_n (xs_f (xs_w t (ct_updN (xt_w t) p w)) (ct_updN (xt_f (xs_w t (ct_updN (xt_w t) p w))) p n))) p)) ((xt_n (xs_q (xs_f (xs_w t (ct_updN (xt_w t) p w)) (ct_updN (xt_f (xs_w t (ct_updN (xt_w t) p w))) p n)) (ct_updN (xt_q (xs_f (xs_w t (ct_updN (xt_w t) p w)) (ct_updN (xt_f (xs_w t (ct_updN (xt_w t) p w))) p n))) (xt_n (xs_f (xs_w t (ct_updN (xt_w t) p w)) (ct_updN (xt_f (xs_w t (ct_updN (xt_w t) p w))) p n))) p))) + 1)) (by unfold ct_settle; exact (if_neg (by omega)).symm) hP hD hS
  · exact w_retv hx hb hr hlk hK d_X_settle_10 (t) (by unfold ct_settle; exact (if_pos h_7).symm) hP hD hS
set_option maxHeartbeats 4000000 in
set_option maxRecDepth 100000 in
/-- answer(p, w, n) -/
theorem c_X_answer (l : Launch) (dC : Nat → ClassId) (dI : Nat → Nat → Nat) (ad : Nat → Nat) (cd : Nat → ClassId) (g : ct_G) (b : ct_Bo) (t : ct_T) (p w n : Nat) (hp : p < 432) (hw : w < 128) (hn : n < 1000) (hbd : ct_bd t) : ∀ sz : Nat, Met l y_X_answer (Cond.code y_X_answer b_X_answer 5 none :: ct_tbl) ({ frames := 1, cells := 0, slots := 0, locals := 23 }) (va_Pc [.ref (ad 0), .int (nI p), .int (nI w), .int (nI n)] (ct_Pre (dC, dI) (tX cd) (wX ad cd g b t) sz)) (ct_Qv (dC, dI) (tX cd) (fun t' : ct_T => wX ad cd g b t') (fun t' => t' = ct_ans t p w n) (va_A (wX ad cd g b t) sz)) 0 0 (va_A (wX ad cd g b t) sz) := by
  refine w_start (Qk := ct_Qv (dC, dI) (tX cd) (fun t' : ct_T => wX ad cd g b t') (fun t' => t' = ct_ans t p w n)) [.ref (ad 0), .int (nI p), .int (nI w), .int (nI n)] (by decide) (Nat.le_of_ble_eq_true rfl) (fun pp ee s m below meth c ls A S hr hlk hP hK hD hA hl => ?_)
  obtain ⟨hx, hb, hml, hown, hts⟩ := id S
  have hl : lv_has ls 5 [(0, .ref (ad 0)), (1, .int (nI p)), (2, .int (nI w)), (3, .int (nI n))] := hl
  have hS : va_S A s.heap s.heap [] := va_S.rf
  have hwt := hbd.2 p hp
  have hmo := ct_mo_12 p
  refine lv_aload_n hx hb d_X_answer_0 rfl (lv_at hl 0 rfl) ?_
  refine xg_winner S hK hP d_X_answer_1 ?_
  refine lv_iload_n hx hb d_X_answer_4 rfl (lv_at hl 1 rfl) ?_
  refine xl_winner S hK hP (by omega) d_X_answer_5 ?_
  refine r_if_eq (tgt := 10) hx hb d_X_answer_6 (by decide) (by omega) (fun h_6 => ?_) (fun h_6 => ?_)
  · refine lv_iload_n hx hb d_X_answer_10 rfl (lv_at hl 1 rfl) ?_
    refine lv_iconst (v := nI 2) hx hb d_X_answer_11 (by decide) ?_
    refine r_rem hx hb d_X_answer_12 (by omega) (by decide) (by decide) ?_
    refine lv_iconst (v := nI 1) hx hb d_X_answer_13 (by decide) ?_
    refine r_cmp_ne (tgt := 21) hx hb d_X_answer_14 (by decide) (by omega) (by omega) (fun h_14 => ?_) (fun h_14 => ?_)
    · refine lv_iconst (v := nI 1) hx hb d_X_answer_21 (by decide) ?_
      refine r_top (y := nI (ct_mo p)) (congrArg nI (by simp [ct_mo, h_14])) ?_
      refine lv_istore (lv' := [(4, .int (nI (ct_mo p))), (0, .ref (ad 0)), (1, .int (nI p)), (2, .int (nI w)), (3, .int (nI n))]) hx hb d_X_answer_22 hl (by decide) rfl (fun ls hl => ?_)
      refine lv_aload_n hx hb d_X_answer_24 rfl (lv_at hl 1 rfl) ?_
      refine xg_open S hK hP d_X_answer_25 ?_
      refine lv_iload_n hx hb d_X_answer_28 rfl (lv_at hl 2 rfl) ?_
      refine lv_dup2_11 hx hb d_X_answer_29 rfl rfl ?_
      refine xl_open S hK hP (by omega) d_X_answer_30 ?_
      refine lv_iconst (v := nI 1) hx hb d_X_answer_31 (by decide) ?_
      refine lv_isub hx hb d_X_answer_32 ?_
      refine lv_i2b (v := (((((xt_o t p) - nI (1)))).toInt8.toInt32)) hx hb d_X_answer_33 rfl ?_
      refine xa_open S hK hP hD hS (by omega) (pk_vb _) d_X_answer_34 (fun H locs hP hD hS => ?_)
      refine lv_iload hx hb d_X_answer_35 (lv_at hl 0 rfl) ?_
      refine lv_iload_n hx hb d_X_answer_37 rfl (lv_at hl 3 rfl) ?_
      refine r_cmp_eq (tgt := 50) hx hb d_X_answer_38 (by decide) (by omega) (by omega) (fun h_38 => ?_) (fun h_38 => ?_)
      · refine lv_aload_n hx hb d_X_answer_50 rfl (lv_at hl 1 rfl) ?_
        refine lv_iload_n hx hb d_X_answer_51 rfl (lv_at hl 2 rfl) ?_
        refine lv_iload_n hx hb d_X_answer_52 rfl (lv_at hl 3 rfl) ?_
        refine lv_iload_n hx hb d_X_answer_53 rfl (lv_at hl 4 rfl) ?_
        refine w_callv 3 S (c_X_settle l dC dI ad cd g b (xs_o t (upd (xt_o t) p ((((((xt_o t p) - nI (1)))).toInt8.toInt32)))) p w n (by omega) (by omega) (by omega) (hbd.1)) gv_X_X_settle hd_X_settle ⟨(Nat.le_of_ble_eq_true rfl), (Nat.le_of_ble_eq_true rfl)⟩ ⟨rfl, rfl⟩ ⟨Nat.zero_le _, Nat.zero_le _⟩ (x_rc hK hP) hK hP hD hS hA rfl hl.1 rfl (Nat.le_of_ble_eq_true rfl) d_X_answer_54 (fun t9 H locs ht9 hP hD hS => ?_)
        subst ht9
        exact w_retv hx hb hr hlk hK d_X_answer_57 (ct_settle (xs_o t (upd (xt_o t) p ((((((xt_o t p) - nI (1)))).toInt8.toInt32)))) p w n) (by unfold ct_ans; exact ((if_neg (fun q => q h_6)).trans (if_pos (Or.inl h_38))).symm) hP hD hS
      · refine lv_aload_n hx hb d_X_answer_41 rfl (lv_at hl 1 rfl) ?_
        refine xg_open S hK hP d_X_answer_42 ?_
        refine lv_iload_n hx hb d_X_answer_45 rfl (lv_at hl 2 rfl) ?_
        refine xl_open S hK hP (by omega) d_X_answer_46 ?_
        refine lv_if_ne (tgt := 57) hx hb d_X_answer_47 (by decide) (fun h_47 => ?_) (fun h_47 => ?_)
        · exact w_retv hx hb hr hlk hK d_X_answer_57 (xs_o t (upd (xt_o t) p ((((((xt_o t p) - nI (1)))).toInt8.toInt32)))) (by unfold ct_ans; exact ((if_neg (fun q => q h_6)).trans (if_neg (by rintro (q | q); exact h_38 q; exact h_47 q))).symm) hP hD hS
        · refine lv_aload_n hx hb d_X_answer_50 rfl (lv_at hl 1 rfl) ?_
          refine lv_iload_n hx hb d_X_answer_51 rfl (lv_at hl 2 rfl) ?_
          refine lv_iload_n hx hb d_X_answer_52 rfl (lv_at hl 3 rfl) ?_
          refine lv_iload_n hx hb d_X_answer_53 rfl (lv_at hl 4 rfl) ?_
          refine w_callv 3 S (c_X_settle l dC dI ad cd g b (xs_o t (upd (xt_o t) p ((((((xt_o t p) - nI (1)))).toInt8.toInt32)))) p w n (by omega) (by omega) (by omega) (hbd.1)) gv_X_X_settle hd_X_settle ⟨(Nat.le_of_ble_eq_true rfl), (Nat.le_of_ble_eq_true rfl)⟩ ⟨rfl, rfl⟩ ⟨Nat.zero_le _, Nat.zero_le _⟩ (x_rc hK hP) hK hP hD hS hA rfl hl.1 rfl (Nat.le_of_ble_eq_true rfl) d_X_answer_54 (fun t9 H locs ht9 hP hD hS => ?_)
          subst ht9
          exact w_retv hx hb hr hlk hK d_X_answer_57 (ct_settle (xs_o t (upd (xt_o t) p ((((((xt_o t p) - nI (1)))).toInt8.toInt32)))) p w n) (by unfold ct_ans; exact ((if_neg (fun q => q h_6)).trans (if_pos (Or.inr h_47))).symm) hP hD hS
    · refine lv_iconst (v := nI 2) hx hb d_X_answer_17 (by decide) ?_
      refine lv_goto (tgt := 22) hx hb d_X_answer_18 (by decide) ?_
      refine r_top (y := nI (ct_mo p)) (congrArg nI (by simp [ct_mo, h_14])) ?_
      refine lv_istore (lv' := [(4, .int (nI (ct_mo p))), (0, .ref (ad 0)), (1, .int (nI p)), (2, .int (nI w)), (3, .int (nI n))]) hx hb d_X_answer_22 hl (by decide) rfl (fun ls hl => ?_)
      refine lv_aload_n hx hb d_X_answer_24 rfl (lv_at hl 1 rfl) ?_
      refine xg_open S hK hP d_X_answer_25 ?_
      refine lv_iload_n hx hb d_X_answer_28 rfl (lv_at hl 2 rfl) ?_
      refine lv_dup2_11 hx hb d_X_answer_29 rfl rfl ?_
      refine xl_open S hK hP (by omega) d_X_answer_30 ?_
      refine lv_iconst (v := nI 1) hx hb d_X_answer_31 (by decide) ?_
      refine lv_isub hx hb d_X_answer_32 ?_
      refine lv_i2b (v := (((((xt_o t p) - nI (1)))).toInt8.toInt32)) hx hb d_X_answer_33 rfl ?_
      refine xa_open S hK hP hD hS (by omega) (pk_vb _) d_X_answer_34 (fun H locs hP hD hS => ?_)
      refine lv_iload hx hb d_X_answer_35 (lv_at hl 0 rfl) ?_
      refine lv_iload_n hx hb d_X_answer_37 rfl (lv_at hl 3 rfl) ?_
      refine r_cmp_eq (tgt := 50) hx hb d_X_answer_38 (by decide) (by omega) (by omega) (fun h_38 => ?_) (fun h_38 => ?_)
      · refine lv_aload_n hx hb d_X_answer_50 rfl (lv_at hl 1 rfl) ?_
        refine lv_iload_n hx hb d_X_answer_51 rfl (lv_at hl 2 rfl) ?_
        refine lv_iload_n hx hb d_X_answer_52 rfl (lv_at hl 3 rfl) ?_
        refine lv_iload_n hx hb d_X_answer_53 rfl (lv_at hl 4 rfl) ?_
        refine w_callv 3 S (c_X_settle l dC dI ad cd g b (xs_o t (upd (xt_o t) p ((((((xt_o t p) - nI (1)))).toInt8.toInt32)))) p w n (by omega) (by omega) (by omega) (hbd.1)) gv_X_X_settle hd_X_settle ⟨(Nat.le_of_ble_eq_true rfl), (Nat.le_of_ble_eq_true rfl)⟩ ⟨rfl, rfl⟩ ⟨Nat.zero_le _, Nat.zero_le _⟩ (x_rc hK hP) hK hP hD hS hA rfl hl.1 rfl (Nat.le_of_ble_eq_true rfl) d_X_answer_54 (fun t9 H locs ht9 hP hD hS => ?_)
        subst ht9
        exact w_retv hx hb hr hlk hK d_X_answer_57 (ct_settle (xs_o t (upd (xt_o t) p ((((((xt_o t p) - nI (1)))).toInt8.toInt32)))) p w n) (by unfold ct_ans; exact ((if_neg (fun q => q h_6)).trans (if_pos (Or.inl h_38))).symm) hP hD hS
      · refine lv_aload_n hx hb d_X_answer_41 rfl (lv_at hl 1 rfl) ?_
        refine xg_open S hK hP d_X_answer_42 ?_
        refine lv_iload_n hx hb d_X_answer_45 rfl (lv_at hl 2 rfl) ?_
        refine xl_open S hK hP (by omega) d_X_answer_46 ?_
        refine lv_if_ne (tgt := 57) hx hb d_X_answer_47 (by decide) (fun h_47 => ?_) (fun h_47 => ?_)
        · exact w_retv hx hb hr hlk hK d_X_answer_57 (xs_o t (upd (xt_o t) p ((((((xt_o t p) - nI (1)))).toInt8.toInt32)))) (by unfold ct_ans; exact ((if_neg (fun q => q h_6)).trans (if_neg (by rintro (q | q); exact h_38 q; exact h_47 q))).symm) hP hD hS
        · refine lv_aload_n hx hb d_X_answer_50 rfl (lv_at hl 1 rfl) ?_
          refine lv_iload_n hx hb d_X_answer_51 rfl (lv_at hl 2 rfl) ?_
          refine lv_iload_n hx hb d_X_answer_52 rfl (lv_at hl 3 rfl) ?_
          refine lv_iload_n hx hb d_X_answer_53 rfl (lv_at hl 4 rfl) ?_
          refine w_callv 3 S (c_X_settle l dC dI ad cd g b (xs_o t (upd (xt_o t) p ((((((xt_o t p) - nI (1)))).toInt8.toInt32)))) p w n (by omega) (by omega) (by omega) (hbd.1)) gv_X_X_settle hd_X_settle ⟨(Nat.le_of_ble_eq_true rfl), (Nat.le_of_ble_eq_true rfl)⟩ ⟨rfl, rfl⟩ ⟨Nat.zero_le _, Nat.zero_le _⟩ (x_rc hK hP) hK hP hD hS hA rfl hl.1 rfl (Nat.le_of_ble_eq_true rfl) d_X_answer_54 (fun t9 H locs ht9 hP hD hS => ?_)
          subst ht9
          exact w_retv hx hb hr hlk hK d_X_answer_57 (ct_settle (xs_o t (upd (xt_o t) p ((((((xt_o t p) - nI (1)))).toInt8.toInt32)))) p w n) (by unfold ct_ans; exact ((if_neg (fun q => q h_6)).trans (if_pos (Or.inr h_47))).symm) hP hD hS
  · exact w_retv hx hb hr hlk hK d_X_answer_9 (t) (by unfold ct_ans; exact (if_pos h_6).symm) hP hD hS
set_option maxHeartbeats 4000000 in
set_option maxRecDepth 100000 in
/-- spread(p) -/
theorem c_X_spread (l : Launch) (dC : Nat → ClassId) (dI : Nat → Nat → Nat) (ad : Nat → Nat) (cd : Nat → ClassId) (g : ct_G) (b : ct_Bo) (t : ct_T) (p : Nat) (hp : p < 432) (hbd : ct_bd t) (hf : xt_f t p < 900) : ∀ sz : Nat, Met l y_X_spread (Cond.code y_X_spread b_X_spread 8 none :: ct_tbl) ({ frames := 2, cells := 0, slots := 0, locals := 47 }) (va_Pc [.ref (ad 0), .int (nI p)] (ct_Pre (dC, dI) (tX cd) (wX ad cd g b t) sz)) (ct_Qv (dC, dI) (tX cd) (fun t' : ct_T => wX ad cd g b t') (fun t' => t' = ct_spread g t p) (va_A (wX ad cd g b t) sz)) 0 0 (va_A (wX ad cd g b t) sz) := by
  refine w_start (Qk := ct_Qv (dC, dI) (tX cd) (fun t' : ct_T => wX ad cd g b t') (fun t' => t' = ct_spread g t p)) [.ref (ad 0), .int (nI p)] (by decide) (Nat.le_of_ble_eq_true rfl) (fun pp ee s m below meth c ls A S hr hlk hP hK hD hA hl => ?_)
  obtain ⟨hx, hb, hml, hown, hts⟩ := id S
  have hl : lv_has ls 8 [(0, .ref (ad 0)), (1, .int (nI p))] := hl
  have hS : va_S A s.heap s.heap [] := va_S.rf
  have hwt := hbd.2 p hp
  refine lv_iload_n hx hb d_X_spread_0 rfl (lv_at hl 1 rfl) ?_
  refine lv_bipush (v := nI 72) hx hb d_X_spread_1 (by decide) ?_
  refine r_div hx hb d_X_spread_3 (by omega) (by decide) (by decide) ?_
  refine lv_istore_n (lv' := [(2, .int (nI (p / 72))), (0, .ref (ad 0)), (1, .int (nI p))]) hx hb d_X_spread_4 rfl hl (by decide) rfl (fun ls hl => ?_)
  refine lv_iload_n hx hb d_X_spread_5 rfl (lv_at hl 2 rfl) ?_
  refine lv_bipush (v := nI 12) hx hb d_X_spread_6 (by decide) ?_
  refine r_div hx hb d_X_spread_8 (by omega) (by decide) (by decide) ?_
  refine lv_bipush (v := nI 6) hx hb d_X_spread_9 (by decide) ?_
  refine r_rem hx hb d_X_spread_11 (by omega) (by decide) (by decide) ?_
  refine lv_istore_n (lv' := [(3, .int (nI ((p / 12) % 6))), (2, .int (nI (p / 72))), (0, .ref (ad 0)), (1, .int (nI p))]) hx hb d_X_spread_12 rfl hl (by decide) rfl (fun ls hl => ?_)
  refine lv_iload_n hx hb d_X_spread_13 rfl (lv_at hl 3 rfl) ?_
  refine lv_iconst (v := nI 2) hx hb d_X_spread_14 (by decide) ?_
  refine r_div hx hb d_X_spread_15 (by omega) (by decide) (by decide) ?_
  refine lv_bipush (v := nI 6) hx hb d_X_spread_16 (by decide) ?_
  refine r_rem hx hb d_X_spread_18 (by omega) (by decide) (by decide) ?_
  refine lv_istore (lv' := [(4, .int (nI ((p / 2) % 6))), (3, .int (nI ((p / 12) % 6))), (2, .int (nI (p / 72))), (0, .ref (ad 0)), (1, .int (nI p))]) hx hb d_X_spread_19 hl (by decide) rfl (fun ls hl => ?_)
  refine lv_aload_n hx hb d_X_spread_21 rfl (lv_at hl 3 rfl) ?_
  refine xg_winner S hK hP d_X_spread_22 ?_
  refine lv_iload_n hx hb d_X_spread_25 rfl (lv_at hl 4 rfl) ?_
  refine xl_winner S hK hP (by omega) d_X_spread_26 ?_
  refine lv_istore (lv' := [(5, .int (nI (xt_w t p))), (4, .int (nI ((p / 2) % 6))), (3, .int (nI ((p / 12) % 6))), (2, .int (nI (p / 72))), (0, .ref (ad 0)), (1, .int (nI p))]) hx hb d_X_spread_27 hl (by decide) rfl (fun ls hl => ?_)
  refine lv_aload_n hx hb d_X_spread_29 rfl (lv_at hl 4 rfl) ?_
  refine xg_far S hK hP d_X_spread_30 ?_
  refine lv_iload_n hx hb d_X_spread_33 rfl (lv_at hl 5 rfl) ?_
  refine xl_far S hK hP (by omega) d_X_spread_34 ?_
  refine lv_iconst (v := nI 1) hx hb d_X_spread_35 (by decide) ?_
  refine r_add hx hb d_X_spread_36 ?_
  refine lv_istore (lv' := [(6, .int (nI ((xt_f t p) + 1))), (5, .int (nI (xt_w t p))), (4, .int (nI ((p / 2) % 6))), (3, .int (nI ((p / 12) % 6))), (2, .int (nI (p / 72))), (0, .ref (ad 0)), (1, .int (nI p))]) hx hb d_X_spread_37 hl (by decide) rfl (fun ls hl => ?_)
  refine lv_iload_n hx hb d_X_spread_39 rfl (lv_at hl 6 rfl) ?_
  refine lv_iconst (v := nI 2) hx hb d_X_spread_40 (by decide) ?_
  refine r_rem hx hb d_X_spread_41 (by omega) (by decide) (by decide) ?_
  refine r_if_ne (tgt := 115) hx hb d_X_spread_42 (by decide) (by omega) (fun h_42 => ?_) (fun h_42 => ?_)
  · refine lv_iconst (v := nI 0) hx hb d_X_spread_115 (by decide) ?_
    refine lv_istore (lv' := [(7, .int (nI 0)), (6, .int (nI ((xt_f t p) + 1))), (5, .int (nI (xt_w t p))), (4, .int (nI ((p / 2) % 6))), (3, .int (nI ((p / 12) % 6))), (2, .int (nI (p / 72))), (0, .ref (ad 0)), (1, .int (nI p))]) hx hb d_X_spread_116 hl (by decide) rfl (fun ls hl => ?_)
    have loop : ∀ k i : Nat, i ≤ 6 → 6 < i + k → ∀ (H : Heap) (locs : List Loc) (ls : Array Slot), va_P (dC, dI) classes (wX ad cd g b (ct_spO g p (xt_w t p) (xt_f t p + 1) t i)) H → va_D A (wX ad cd g b (ct_spO g p (xt_w t p) (xt_f t p + 1) t i)) → va_S A s.heap H locs → lv_has ls 8 [(0, .ref (ad 0)), (1, .int (nI p)), (2, .int (nI (p / 72))), (3, .int (nI ((p / 12) % 6))), (4, .int (nI ((p / 2) % 6))), (5, .int (nI (xt_w t p))), (6, .int (nI ((xt_f t p) + 1))), (7, .int (nI i))] → W pp l ee ({ frames := 2, cells := 0, slots := 0, locals := 47 }) s m ([.ref (ad 0), .int (nI p)] : List Value).toArray below meth c H locs 0 0 (MQ below (ct_Qv (dC, dI) (tX cd) (fun t' : ct_T => wX ad cd g b t') (fun t' => t' = ct_spread g t p) A) ([.ref (ad 0), .int (nI p)] : List Value).toArray s 0 0 A) (F0 m 118 ls []) := by
      intro k
      induction k with
      | zero => intro i h1 h2; omega
      | succ k ih =>
        intro i hi hk H locs ls hP hD hS hl
        have hbi := ct_bd_spO (g := g) (p := p) (n := xt_f t p + 1) hbd hwt i
        refine lv_iload hx hb d_X_spread_118 (lv_at hl 7 rfl) ?_
        refine lv_bipush (v := nI 6) hx hb d_X_spread_120 (by decide) ?_
        refine r_cmp_ge (tgt := 199) hx hb d_X_spread_122 (by decide) (by omega) (by omega) (fun h_122 => ?_) (fun h_122 => ?_)
        · obtain rfl : i = 6 := by omega
          refine lv_aload_n hx hb d_X_spread_199 rfl (lv_at hl 0 rfl) ?_
          refine xg_guardsWait S hK hP d_X_spread_200 ?_
          refine r_bif_eq (tgt := 217) hx hb d_X_spread_203 (by decide) (fun h_203 => ?_) (fun h_203 => ?_)
          · exact w_retv hx hb hr hlk hK d_X_spread_217 (ct_spO g p (xt_w t p) (xt_f t p + 1) t 6) (by unfold ct_spread; exact ((if_neg h_42).trans (if_neg (by simp [h_203]))).symm) hP hD hS
          · refine lv_aload_n hx hb d_X_spread_206 rfl (lv_at hl 0 rfl) ?_
            refine lv_iload_n hx hb d_X_spread_207 rfl (lv_at hl 1 rfl) ?_
            refine lv_iconst (v := nI 1) hx hb d_X_spread_208 (by decide) ?_
            refine r_sub hx hb d_X_spread_209 (by omega) ?_
            refine lv_iload hx hb d_X_spread_210 (lv_at hl 5 rfl) ?_
            refine lv_iload hx hb d_X_spread_212 (lv_at hl 6 rfl) ?_
            refine w_callv 3 S (c_X_answer l dC dI ad cd g b (ct_spO g p (xt_w t p) (xt_f t p + 1) t 6) (p - 1) (xt_w t p) ((xt_f t p) + 1) (by omega) (by omega) (by omega) (hbi)) gv_X_X_answer hd_X_answer ⟨(Nat.le_of_ble_eq_true rfl), (Nat.le_of_ble_eq_true rfl)⟩ ⟨rfl, rfl⟩ ⟨Nat.zero_le _, Nat.zero_le _⟩ (x_rc hK hP) hK hP hD hS hA rfl hl.1 rfl (Nat.le_of_ble_eq_true rfl) d_X_spread_214 (fun t9 H locs ht9 hP hD hS => ?_)
            subst ht9
            exact w_retv hx hb hr hlk hK d_X_spread_217 (ct_ans (ct_spO g p (xt_w t p) (xt_f t p + 1) t 6) (p - 1) (xt_w t p) ((xt_f t p) + 1)) (by unfold ct_spread; exact ((if_neg h_42).trans (if_pos h_203)).symm) hP hD hS
        · refine lv_aload_n hx hb d_X_spread_125 rfl (lv_at hl 0 rfl) ?_
          refine xg_in S hK hP d_X_spread_126 ?_
          refine lv_iload_n hx hb d_X_spread_129 rfl (lv_at hl 2 rfl) ?_
          refine xl_in S hK hP (by omega) d_X_spread_130 ?_
          refine lv_iload hx hb d_X_spread_131 (lv_at hl 7 rfl) ?_
          refine lv_ishr hx hb d_X_spread_133 ?_
          refine lv_iconst (v := nI 1) hx hb d_X_spread_134 (by decide) ?_
          refine lv_iand hx hb d_X_spread_135 ?_
          refine r_top (y := ct_bI (g.1 i (p / 72))) (ct_bit (f := fun x => g.1 x (p / 72)) (by omega)) ?_
          refine lv_iconst (v := nI 1) hx hb d_X_spread_136 (by decide) ?_
          refine r_b1_ne (tgt := 159) hx hb d_X_spread_137 (by decide) (fun h_137 => ?_) (fun h_137 => ?_)
          · have e9 : ct_spA g p (xt_w t p) (xt_f t p + 1) i (ct_spO g p (xt_w t p) (xt_f t p + 1) t i) = ct_spO g p (xt_w t p) (xt_f t p + 1) t i := if_neg (by simp [h_137])
            have hP : va_P (dC, dI) classes (wX ad cd g b (ct_spA g p (xt_w t p) (xt_f t p + 1) i (ct_spO g p (xt_w t p) (xt_f t p + 1) t i))) H := by rw [e9]; exact hP
            have hD : va_D A (wX ad cd g b (ct_spA g p (xt_w t p) (xt_f t p + 1) i (ct_spO g p (xt_w t p) (xt_f t p + 1) t i))) := by rw [e9]; exact hD
            refine lv_aload_n hx hb d_X_spread_159 rfl (lv_at hl 0 rfl) ?_
            refine xg_in S hK hP d_X_spread_160 ?_
            refine lv_iload_n hx hb d_X_spread_163 rfl (lv_at hl 3 rfl) ?_
            refine xl_in S hK hP (by omega) d_X_spread_164 ?_
            refine lv_iload hx hb d_X_spread_165 (lv_at hl 7 rfl) ?_
            refine lv_ishr hx hb d_X_spread_167 ?_
            refine lv_iconst (v := nI 1) hx hb d_X_spread_168 (by decide) ?_
            refine lv_iand hx hb d_X_spread_169 ?_
            refine r_top (y := ct_bI (g.1 i (p / 12 % 6))) (ct_bit (f := fun x => g.1 x (p / 12 % 6)) (by omega)) ?_
            refine lv_iconst (v := nI 1) hx hb d_X_spread_170 (by decide) ?_
            refine r_b1_ne (tgt := 193) hx hb d_X_spread_171 (by decide) (fun h_171 => ?_) (fun h_171 => ?_)
            · have e8 : ct_spB g p (xt_w t p) (xt_f t p + 1) i (ct_spA g p (xt_w t p) (xt_f t p + 1) i (ct_spO g p (xt_w t p) (xt_f t p + 1) t i)) = ct_spA g p (xt_w t p) (xt_f t p + 1) i (ct_spO g p (xt_w t p) (xt_f t p + 1) t i) := if_neg (by simp [h_171])
              have hP : va_P (dC, dI) classes (wX ad cd g b (ct_spB g p (xt_w t p) (xt_f t p + 1) i (ct_spA g p (xt_w t p) (xt_f t p + 1) i (ct_spO g p (xt_w t p) (xt_f t p + 1) t i)))) H := by rw [e8]; exact hP
              have hD : va_D A (wX ad cd g b (ct_spB g p (xt_w t p) (xt_f t p + 1) i (ct_spA g p (xt_w t p) (xt_f t p + 1) i (ct_spO g p (xt_w t p) (xt_f t p + 1) t i)))) := by rw [e8]; exact hD
              refine lv_iinc (v := nI (i + 1)) (lv' := [(7, .int (nI (i + 1))), (0, .ref (ad 0)), (1, .int (nI p)), (2, .int (nI (p / 72))), (3, .int (nI ((p / 12) % 6))), (4, .int (nI ((p / 2) % 6))), (5, .int (nI (xt_w t p))), (6, .int (nI ((xt_f t p) + 1)))]) hx hb d_X_spread_193 hl (k := 7) rfl (nI_add _ 1) (by decide) rfl (fun ls hl => ?_)
              refine lv_goto (tgt := 118) hx hb d_X_spread_196 (by decide) ?_
              exact ih (i + 1) (by omega) (by omega) H _ ls hP hD hS (lv_sub hl [1, 2, 3, 4, 5, 6, 7, 0] rfl)
            · refine lv_aload_n hx hb d_X_spread_174 rfl (lv_at hl 0 rfl) ?_
              refine lv_iload_n hx hb d_X_spread_175 rfl (lv_at hl 1 rfl) ?_
              refine lv_iconst (v := nI 1) hx hb d_X_spread_176 (by decide) ?_
              refine r_sub hx hb d_X_spread_177 (by omega) ?_
              refine lv_bipush (v := nI 12) hx hb d_X_spread_178 (by decide) ?_
              refine lv_iload hx hb d_X_spread_180 (lv_at hl 7 rfl) ?_
              refine lv_iload_n hx hb d_X_spread_182 rfl (lv_at hl 3 rfl) ?_
              refine lv_isub hx hb d_X_spread_183 ?_
              refine lv_imul hx hb d_X_spread_184 ?_
              refine lv_iadd hx hb d_X_spread_185 ?_
              refine r_top (y := nI (p - 1 + 12 * i - 12 * (p / 12 % 6))) (ct_sh (by omega)) ?_
              refine lv_iload hx hb d_X_spread_186 (lv_at hl 5 rfl) ?_
              refine lv_iload hx hb d_X_spread_188 (lv_at hl 6 rfl) ?_
              refine w_callv 3 S (c_X_answer l dC dI ad cd g b (ct_spA g p (xt_w t p) (xt_f t p + 1) i (ct_spO g p (xt_w t p) (xt_f t p + 1) t i)) (p - 1 + 12 * i - 12 * (p / 12 % 6)) (xt_w t p) ((xt_f t p) + 1) (by omega) (by omega) (by omega) (ct_bd_spA hbi hwt)) gv_X_X_answer hd_X_answer ⟨(Nat.le_of_ble_eq_true rfl), (Nat.le_of_ble_eq_true rfl)⟩ ⟨rfl, rfl⟩ ⟨Nat.zero_le _, Nat.zero_le _⟩ (x_rc hK hP) hK hP hD hS hA rfl hl.1 rfl (Nat.le_of_ble_eq_true rfl) d_X_spread_190 (fun t9 H locs ht9 hP hD hS => ?_)
              subst ht9
              have e8 : ct_spB g p (xt_w t p) (xt_f t p + 1) i (ct_spA g p (xt_w t p) (xt_f t p + 1) i (ct_spO g p (xt_w t p) (xt_f t p + 1) t i)) = ct_ans (ct_spA g p (xt_w t p) (xt_f t p + 1) i (ct_spO g p (xt_w t p) (xt_f t p + 1) t i)) (p - 1 + 12 * i - 12 * (p / 12 % 6)) (xt_w t p) ((xt_f t p) + 1) := if_pos h_171
              have hP : va_P (dC, dI) classes (wX ad cd g b (ct_spB g p (xt_w t p) (xt_f t p + 1) i (ct_spA g p (xt_w t p) (xt_f t p + 1) i (ct_spO g p (xt_w t p) (xt_f t p + 1) t i)))) H := by rw [e8]; exact hP
              have hD : va_D A (wX ad cd g b (ct_spB g p (xt_w t p) (xt_f t p + 1) i (ct_spA g p (xt_w t p) (xt_f t p + 1) i (ct_spO g p (xt_w t p) (xt_f t p + 1) t i)))) := by rw [e8]; exact hD
              refine lv_iinc (v := nI (i + 1)) (lv' := [(7, .int (nI (i + 1))), (0, .ref (ad 0)), (1, .int (nI p)), (2, .int (nI (p / 72))), (3, .int (nI ((p / 12) % 6))), (4, .int (nI ((p / 2) % 6))), (5, .int (nI (xt_w t p))), (6, .int (nI ((xt_f t p) + 1)))]) hx hb d_X_spread_193 hl (k := 7) rfl (nI_add _ 1) (by decide) rfl (fun ls hl => ?_)
              refine lv_goto (tgt := 118) hx hb d_X_spread_196 (by decide) ?_
              exact ih (i + 1) (by omega) (by omega) H _ ls hP hD hS (lv_sub hl [1, 2, 3, 4, 5, 6, 7, 0] rfl)
          · refine lv_aload_n hx hb d_X_spread_140 rfl (lv_at hl 0 rfl) ?_
            refine lv_iload_n hx hb d_X_spread_141 rfl (lv_at hl 1 rfl) ?_
            refine lv_iconst (v := nI 1) hx hb d_X_spread_142 (by decide) ?_
            refine r_sub hx hb d_X_spread_143 (by omega) ?_
            refine lv_bipush (v := nI 72) hx hb d_X_spread_144 (by decide) ?_
            refine lv_iload hx hb d_X_spread_146 (lv_at hl 7 rfl) ?_
            refine lv_iload_n hx hb d_X_spread_148 rfl (lv_at hl 2 rfl) ?_
            refine lv_isub hx hb d_X_spread_149 ?_
            refine lv_imul hx hb d_X_spread_150 ?_
            refine lv_iadd hx hb d_X_spread_151 ?_
            refine r_top (y := nI (p - 1 + 72 * i - 72 * (p / 72))) (ct_sh (by omega)) ?_
            refine lv_iload hx hb d_X_spread_152 (lv_at hl 5 rfl) ?_
            refine lv_iload hx hb d_X_spread_154 (lv_at hl 6 rfl) ?_
            refine w_callv 3 S (c_X_answer l dC dI ad cd g b (ct_spO g p (xt_w t p) (xt_f t p + 1) t i) (p - 1 + 72 * i - 72 * (p / 72)) (xt_w t p) ((xt_f t p) + 1) (by omega) (by omega) (by omega) (hbi)) gv_X_X_answer hd_X_answer ⟨(Nat.le_of_ble_eq_true rfl), (Nat.le_of_ble_eq_true rfl)⟩ ⟨rfl, rfl⟩ ⟨Nat.zero_le _, Nat.zero_le _⟩ (x_rc hK hP) hK hP hD hS hA rfl hl.1 rfl (Nat.le_of_ble_eq_true rfl) d_X_spread_156 (fun t9 H locs ht9 hP hD hS => ?_)
            subst ht9
            have e9 : ct_spA g p (xt_w t p) (xt_f t p + 1) i (ct_spO g p (xt_w t p) (xt_f t p + 1) t i) = ct_ans (ct_spO g p (xt_w t p) (xt_f t p + 1) t i) (p - 1 + 72 * i - 72 * (p / 72)) (xt_w t p) ((xt_f t p) + 1) := if_pos h_137
            have hP : va_P (dC, dI) classes (wX ad cd g b (ct_spA g p (xt_w t p) (xt_f t p + 1) i (ct_spO g p (xt_w t p) (xt_f t p + 1) t i))) H := by rw [e9]; exact hP
            have hD : va_D A (wX ad cd g b (ct_spA g p (xt_w t p) (xt_f t p + 1) i (ct_spO g p (xt_w t p) (xt_f t p + 1) t i))) := by rw [e9]; exact hD
            refine lv_aload_n hx hb d_X_spread_159 rfl (lv_at hl 0 rfl) ?_
            refine xg_in S hK hP d_X_spread_160 ?_
            refine lv_iload_n hx hb d_X_spread_163 rfl (lv_at hl 3 rfl) ?_
            refine xl_in S hK hP (by omega) d_X_spread_164 ?_
            refine lv_iload hx hb d_X_spread_165 (lv_at hl 7 rfl) ?_
            refine lv_ishr hx hb d_X_spread_167 ?_
            refine lv_iconst (v := nI 1) hx hb d_X_spread_168 (by decide) ?_
            refine lv_iand hx hb d_X_spread_169 ?_
            refine r_top (y := ct_bI (g.1 i (p / 12 % 6))) (ct_bit (f := fun x => g.1 x (p / 12 % 6)) (by omega)) ?_
            refine lv_iconst (v := nI 1) hx hb d_X_spread_170 (by decide) ?_
            refine r_b1_ne (tgt := 193) hx hb d_X_spread_171 (by decide) (fun h_171 => ?_) (fun h_171 => ?_)
            · have e8 : ct_spB g p (xt_w t p) (xt_f t p + 1) i (ct_spA g p (xt_w t p) (xt_f t p + 1) i (ct_spO g p (xt_w t p) (xt_f t p + 1) t i)) = ct_spA g p (xt_w t p) (xt_f t p + 1) i (ct_spO g p (xt_w t p) (xt_f t p + 1) t i) := if_neg (by simp [h_171])
              have hP : va_P (dC, dI) classes (wX ad cd g b (ct_spB g p (xt_w t p) (xt_f t p + 1) i (ct_spA g p (xt_w t p) (xt_f t p + 1) i (ct_spO g p (xt_w t p) (xt_f t p + 1) t i)))) H := by rw [e8]; exact hP
              have hD : va_D A (wX ad cd g b (ct_spB g p (xt_w t p) (xt_f t p + 1) i (ct_spA g p (xt_w t p) (xt_f t p + 1) i (ct_spO g p (xt_w t p) (xt_f t p + 1) t i)))) := by rw [e8]; exact hD
              refine lv_iinc (v := nI (i + 1)) (lv' := [(7, .int (nI (i + 1))), (0, .ref (ad 0)), (1, .int (nI p)), (2, .int (nI (p / 72))), (3, .int (nI ((p / 12) % 6))), (4, .int (nI ((p / 2) % 6))), (5, .int (nI (xt_w t p))), (6, .int (nI ((xt_f t p) + 1)))]) hx hb d_X_spread_193 hl (k := 7) rfl (nI_add _ 1) (by decide) rfl (fun ls hl => ?_)
              refine lv_goto (tgt := 118) hx hb d_X_spread_196 (by decide) ?_
              exact ih (i + 1) (by omega) (by omega) H _ ls hP hD hS (lv_sub hl [1, 2, 3, 4, 5, 6, 7, 0] rfl)
            · refine lv_aload_n hx hb d_X_spread_174 rfl (lv_at hl 0 rfl) ?_
              refine lv_iload_n hx hb d_X_spread_175 rfl (lv_at hl 1 rfl) ?_
              refine lv_iconst (v := nI 1) hx hb d_X_spread_176 (by decide) ?_
              refine r_sub hx hb d_X_spread_177 (by omega) ?_
              refine lv_bipush (v := nI 12) hx hb d_X_spread_178 (by decide) ?_
              refine lv_iload hx hb d_X_spread_180 (lv_at hl 7 rfl) ?_
              refine lv_iload_n hx hb d_X_spread_182 rfl (lv_at hl 3 rfl) ?_
              refine lv_isub hx hb d_X_spread_183 ?_
              refine lv_imul hx hb d_X_spread_184 ?_
              refine lv_iadd hx hb d_X_spread_185 ?_
              refine r_top (y := nI (p - 1 + 12 * i - 12 * (p / 12 % 6))) (ct_sh (by omega)) ?_
              refine lv_iload hx hb d_X_spread_186 (lv_at hl 5 rfl) ?_
              refine lv_iload hx hb d_X_spread_188 (lv_at hl 6 rfl) ?_
              refine w_callv 3 S (c_X_answer l dC dI ad cd g b (ct_spA g p (xt_w t p) (xt_f t p + 1) i (ct_spO g p (xt_w t p) (xt_f t p + 1) t i)) (p - 1 + 12 * i - 12 * (p / 12 % 6)) (xt_w t p) ((xt_f t p) + 1) (by omega) (by omega) (by omega) (ct_bd_spA hbi hwt)) gv_X_X_answer hd_X_answer ⟨(Nat.le_of_ble_eq_true rfl), (Nat.le_of_ble_eq_true rfl)⟩ ⟨rfl, rfl⟩ ⟨Nat.zero_le _, Nat.zero_le _⟩ (x_rc hK hP) hK hP hD hS hA rfl hl.1 rfl (Nat.le_of_ble_eq_true rfl) d_X_spread_190 (fun t9 H locs ht9 hP hD hS => ?_)
              subst ht9
              have e8 : ct_spB g p (xt_w t p) (xt_f t p + 1) i (ct_spA g p (xt_w t p) (xt_f t p + 1) i (ct_spO g p (xt_w t p) (xt_f t p + 1) t i)) = ct_ans (ct_spA g p (xt_w t p) (xt_f t p + 1) i (ct_spO g p (xt_w t p) (xt_f t p + 1) t i)) (p - 1 + 12 * i - 12 * (p / 12 % 6)) (xt_w t p) ((xt_f t p) + 1) := if_pos h_171
              have hP : va_P (dC, dI) classes (wX ad cd g b (ct_spB g p (xt_w t p) (xt_f t p + 1) i (ct_spA g p (xt_w t p) (xt_f t p + 1) i (ct_spO g p (xt_w t p) (xt_f t p + 1) t i)))) H := by rw [e8]; exact hP
              have hD : va_D A (wX ad cd g b (ct_spB g p (xt_w t p) (xt_f t p + 1) i (ct_spA g p (xt_w t p) (xt_f t p + 1) i (ct_spO g p (xt_w t p) (xt_f t p + 1) t i)))) := by rw [e8]; exact hD
              refine lv_iinc (v := nI (i + 1)) (lv' := [(7, .int (nI (i + 1))), (0, .ref (ad 0)), (1, .int (nI p)), (2, .int (nI (p / 72))), (3, .int (nI ((p / 12) % 6))), (4, .int (nI ((p / 2) % 6))), (5, .int (nI (xt_w t p))), (6, .int (nI ((xt_f t p) + 1)))]) hx hb d_X_spread_193 hl (k := 7) rfl (nI_add _ 1) (by decide) rfl (fun ls hl => ?_)
              refine lv_goto (tgt := 118) hx hb d_X_spread_196 (by decide) ?_
              exact ih (i + 1) (by omega) (by omega) H _ ls hP hD hS (lv_sub hl [1, 2, 3, 4, 5, 6, 7, 0] rfl)
    exact loop 7 0 (by omega) (by omega) _ _ ls hP hD hS (lv_sub hl [6, 7, 5, 4, 3, 2, 1, 0] rfl)
  · refine lv_iconst (v := nI 0) hx hb d_X_spread_45 (by decide) ?_
    refine lv_istore (lv' := [(7, .int (nI 0)), (6, .int (nI ((xt_f t p) + 1))), (5, .int (nI (xt_w t p))), (4, .int (nI ((p / 2) % 6))), (3, .int (nI ((p / 12) % 6))), (2, .int (nI (p / 72))), (0, .ref (ad 0)), (1, .int (nI p))]) hx hb d_X_spread_46 hl (by decide) rfl (fun ls hl => ?_)
    have loop : ∀ k i : Nat, i ≤ 6 → 6 < i + k → ∀ (H : Heap) (locs : List Loc) (ls : Array Slot), va_P (dC, dI) classes (wX ad cd g b (ct_spE g p (xt_w t p) (xt_f t p + 1) t i)) H → va_D A (wX ad cd g b (ct_spE g p (xt_w t p) (xt_f t p + 1) t i)) → va_S A s.heap H locs → lv_has ls 8 [(0, .ref (ad 0)), (1, .int (nI p)), (2, .int (nI (p / 72))), (3, .int (nI ((p / 12) % 6))), (4, .int (nI ((p / 2) % 6))), (5, .int (nI (xt_w t p))), (6, .int (nI ((xt_f t p) + 1))), (7, .int (nI i))] → W pp l ee ({ frames := 2, cells := 0, slots := 0, locals := 47 }) s m ([.ref (ad 0), .int (nI p)] : List Value).toArray below meth c H locs 0 0 (MQ below (ct_Qv (dC, dI) (tX cd) (fun t' : ct_T => wX ad cd g b t') (fun t' => t' = ct_spread g t p) A) ([.ref (ad 0), .int (nI p)] : List Value).toArray s 0 0 A) (F0 m 48 ls []) := by
      intro k
      induction k with
      | zero => intro i h1 h2; omega
      | succ k ih =>
        intro i hi hk H locs ls hP hD hS hl
        have hbi := ct_bd_spE (g := g) (p := p) (n := xt_f t p + 1) hbd hwt i
        refine lv_iload hx hb d_X_spread_48 (lv_at hl 7 rfl) ?_
        refine lv_bipush (v := nI 6) hx hb d_X_spread_50 (by decide) ?_
        refine r_cmp_ge (tgt := 96) hx hb d_X_spread_52 (by decide) (by omega) (by omega) (fun h_52 => ?_) (fun h_52 => ?_)
        · obtain rfl : i = 6 := by omega
          refine lv_aload_n hx hb d_X_spread_96 rfl (lv_at hl 0 rfl) ?_
          refine xg_thiefWaits S hK hP d_X_spread_97 ?_
          refine r_bif_eq (tgt := 114) hx hb d_X_spread_100 (by decide) (fun h_100 => ?_) (fun h_100 => ?_)
          · exact w_retv hx hb hr hlk hK d_X_spread_114 (ct_spE g p (xt_w t p) (xt_f t p + 1) t 6) (by unfold ct_spread; exact ((if_pos h_42).trans (if_neg (by simp [h_100]))).symm) hP hD hS
          · refine lv_aload_n hx hb d_X_spread_103 rfl (lv_at hl 0 rfl) ?_
            refine lv_iload_n hx hb d_X_spread_104 rfl (lv_at hl 1 rfl) ?_
            refine lv_iconst (v := nI 1) hx hb d_X_spread_105 (by decide) ?_
            refine r_add hx hb d_X_spread_106 ?_
            refine lv_iload hx hb d_X_spread_107 (lv_at hl 5 rfl) ?_
            refine lv_iload hx hb d_X_spread_109 (lv_at hl 6 rfl) ?_
            refine w_callv 3 S (c_X_answer l dC dI ad cd g b (ct_spE g p (xt_w t p) (xt_f t p + 1) t 6) (p + 1) (xt_w t p) ((xt_f t p) + 1) (by omega) (by omega) (by omega) (hbi)) gv_X_X_answer hd_X_answer ⟨(Nat.le_of_ble_eq_true rfl), (Nat.le_of_ble_eq_true rfl)⟩ ⟨rfl, rfl⟩ ⟨Nat.zero_le _, Nat.zero_le _⟩ (x_rc hK hP) hK hP hD hS hA rfl hl.1 rfl (Nat.le_of_ble_eq_true rfl) d_X_spread_111 (fun t9 H locs ht9 hP hD hS => ?_)
            subst ht9
            exact w_retv hx hb hr hlk hK d_X_spread_114 (ct_ans (ct_spE g p (xt_w t p) (xt_f t p + 1) t 6) (p + 1) (xt_w t p) ((xt_f t p) + 1)) (by unfold ct_spread; exact ((if_pos h_42).trans (if_pos h_100)).symm) hP hD hS
        · refine lv_aload_n hx hb d_X_spread_55 rfl (lv_at hl 0 rfl) ?_
          refine xg_in S hK hP d_X_spread_56 ?_
          refine lv_iload hx hb d_X_spread_59 (lv_at hl 4 rfl) ?_
          refine xl_in S hK hP (by omega) d_X_spread_61 ?_
          refine lv_iload hx hb d_X_spread_62 (lv_at hl 7 rfl) ?_
          refine lv_ishr hx hb d_X_spread_64 ?_
          refine lv_iconst (v := nI 1) hx hb d_X_spread_65 (by decide) ?_
          refine lv_iand hx hb d_X_spread_66 ?_
          refine r_top (y := ct_bI (g.1 i (p / 2 % 6))) (ct_bit (f := fun x => g.1 x (p / 2 % 6)) (by omega)) ?_
          refine lv_iconst (v := nI 1) hx hb d_X_spread_67 (by decide) ?_
          refine r_b1_ne (tgt := 90) hx hb d_X_spread_68 (by decide) (fun h_68 => ?_) (fun h_68 => ?_)
          · refine lv_iinc (v := nI (i + 1)) (lv' := [(7, .int (nI (i + 1))), (0, .ref (ad 0)), (1, .int (nI p)), (2, .int (nI (p / 72))), (3, .int (nI ((p / 12) % 6))), (4, .int (nI ((p / 2) % 6))), (5, .int (nI (xt_w t p))), (6, .int (nI ((xt_f t p) + 1)))]) hx hb d_X_spread_90 hl (k := 7) rfl (nI_add _ 1) (by decide) rfl (fun ls hl => ?_)
            refine lv_goto (tgt := 48) hx hb d_X_spread_93 (by decide) ?_
            have e9 : ct_spE g p (xt_w t p) (xt_f t p + 1) t (i + 1) = ct_spE g p (xt_w t p) (xt_f t p + 1) t i := if_neg (by simp [h_68])
            exact ih (i + 1) (by omega) (by omega) H _ ls (by rw [e9]; exact hP) (by rw [e9]; exact hD) hS (lv_sub hl [1, 2, 3, 4, 5, 6, 7, 0] rfl)
          · refine lv_aload_n hx hb d_X_spread_71 rfl (lv_at hl 0 rfl) ?_
            refine lv_iload_n hx hb d_X_spread_72 rfl (lv_at hl 1 rfl) ?_
            refine lv_iconst (v := nI 1) hx hb d_X_spread_73 (by decide) ?_
            refine r_add hx hb d_X_spread_74 ?_
            refine lv_iconst (v := nI 2) hx hb d_X_spread_75 (by decide) ?_
            refine lv_iload hx hb d_X_spread_76 (lv_at hl 7 rfl) ?_
            refine lv_iload hx hb d_X_spread_78 (lv_at hl 4 rfl) ?_
            refine lv_isub hx hb d_X_spread_80 ?_
            refine lv_imul hx hb d_X_spread_81 ?_
            refine lv_iadd hx hb d_X_spread_82 ?_
            refine r_top (y := nI (p + 1 + 2 * i - 2 * (p / 2 % 6))) (ct_sh (by omega)) ?_
            refine lv_iload hx hb d_X_spread_83 (lv_at hl 5 rfl) ?_
            refine lv_iload hx hb d_X_spread_85 (lv_at hl 6 rfl) ?_
            refine w_callv 3 S (c_X_answer l dC dI ad cd g b (ct_spE g p (xt_w t p) (xt_f t p + 1) t i) (p + 1 + 2 * i - 2 * (p / 2 % 6)) (xt_w t p) ((xt_f t p) + 1) (by omega) (by omega) (by omega) (hbi)) gv_X_X_answer hd_X_answer ⟨(Nat.le_of_ble_eq_true rfl), (Nat.le_of_ble_eq_true rfl)⟩ ⟨rfl, rfl⟩ ⟨Nat.zero_le _, Nat.zero_le _⟩ (x_rc hK hP) hK hP hD hS hA rfl hl.1 rfl (Nat.le_of_ble_eq_true rfl) d_X_spread_87 (fun t9 H locs ht9 hP hD hS => ?_)
            subst ht9
            refine lv_iinc (v := nI (i + 1)) (lv' := [(7, .int (nI (i + 1))), (0, .ref (ad 0)), (1, .int (nI p)), (2, .int (nI (p / 72))), (3, .int (nI ((p / 12) % 6))), (4, .int (nI ((p / 2) % 6))), (5, .int (nI (xt_w t p))), (6, .int (nI ((xt_f t p) + 1)))]) hx hb d_X_spread_90 hl (k := 7) rfl (nI_add _ 1) (by decide) rfl (fun ls hl => ?_)
            refine lv_goto (tgt := 48) hx hb d_X_spread_93 (by decide) ?_
            have e9 : ct_spE g p (xt_w t p) (xt_f t p + 1) t (i + 1) = ct_ans (ct_spE g p (xt_w t p) (xt_f t p + 1) t i) (p + 1 + 2 * i - 2 * (p / 2 % 6)) (xt_w t p) ((xt_f t p) + 1) := if_pos h_68
            exact ih (i + 1) (by omega) (by omega) H _ ls (by rw [e9]; exact hP) (by rw [e9]; exact hD) hS (lv_sub hl [1, 2, 3, 4, 5, 6, 7, 0] rfl)
    exact loop 7 0 (by omega) (by omega) _ _ ls hP hD hS (lv_sub hl [6, 7, 5, 4, 3, 2, 1, 0] rfl)
end
section
/-! THE PLAIN LAW OF THE RETROGRADE ANALYSIS: ct_Inv holds at the head of its loop; at its end the table is right -/
theorem ct_it_mono (g : ct_G) {r p : Nat} (h : ct_it g r p ≠ 0) : ct_it g (r + 1) p = ct_it g r p := by
  cases r with
  | zero => exact absurd rfl h
  | succ r =>
    by_cases ho : ct_ov g p = 0
    · have e : ct_it g (r + 1 + 1) p = if ct_ov g p ≠ 0 then ct_ov g p else if ct_it g (r + 1) p ≠ 0 then ct_it g (r + 1) p else ct_fol g (ct_it g (r + 1)) p := rfl
      rw [e, if_neg (fun q => q ho), if_pos h]
    · have e1 : ct_it g (r + 1 + 1) p = ct_ov g p := if_pos ho
      have e2 : ct_it g (r + 1) p = ct_ov g p := if_pos ho
      rw [e1, e2]
theorem ct_it_up (g : ct_G) {r p : Nat} (h : ct_it g r p ≠ 0) : ∀ k, ct_it g (r + k) p = ct_it g r p := by
  intro k
  induction k with
  | zero => rfl
  | succ k ih =>
    have h1 : ct_it g (r + k) p ≠ 0 := by rw [ih]; exact h
    rw [show r + (k + 1) = (r + k) + 1 by omega, ct_it_mono g h1, ih]
theorem ct_it_ge (g : ct_G) {r k p : Nat} (hk : r ≤ k) (h : ct_it g r p ≠ 0) : ct_it g k p = ct_it g r p := by
  obtain ⟨d, rfl⟩ : ∃ d, k = r + d := ⟨k - r, by omega⟩
  exact ct_it_up g h d
theorem ct_it_0 (g : ct_G) {r k p : Nat} (hk : r ≤ k) (h : ct_it g k p = 0) : ct_it g r p = 0 := by
  by_cases h1 : ct_it g r p = 0
  · exact h1
  · rw [ct_it_ge g hk h1] at h; exact absurd h h1
/-- the round in which p is found -/
theorem ct_rdn_eq (g : ct_G) {p r : Nat} (h0 : ct_it g r p = 0) (h1 : ct_it g (r + 1) p ≠ 0) : ∀ n, ct_rdn g p n = if n ≤ r then n else r := by
  intro n
  induction n with
  | zero => simp [ct_rdn]
  | succ n ih =>
    simp only [ct_rdn, ih]
    by_cases hn : n + 1 ≤ r
    · rw [if_pos (ct_it_0 g hn h0), if_pos (by omega), if_pos hn]
    · have h2 : ct_it g (n + 1) p ≠ 0 := by rw [ct_it_ge g (by omega) h1]; exact h1
      rw [if_neg h2, if_neg hn]
      split <;> omega
theorem ct_far_eq (g : ct_G) {p r : Nat} (h0 : ct_it g r p = 0) (h1 : ct_it g (r + 1) p ≠ 0) (hr : r < 432) : ct_far g p = r := by
  unfold ct_far
  rw [ct_rdn_eq g h0 h1, if_neg (by omega)]
theorem ct_fol_hit {g : ct_G} {S : Nat → Nat} {p c q : Nat} (hc : c < 13) (hm : ct_mv g p c = some q) (hs : S q = ct_mo p) : ct_fol g S p = ct_mo p := by
  unfold ct_fol
  rw [if_pos (ct_any_iff.mpr ⟨c, hc, by simp [ct_hit, hm, hs]⟩)]
theorem ct_fol_all {g : ct_G} {S : Nat → Nat} {p : Nat} (h : ∀ c q, c < 13 → ct_mv g p c = some q → S q = 3 - ct_mo p) : ct_fol g S p = 3 - ct_mo p := by
  have hmo := ct_mo_12 p
  unfold ct_fol
  rw [if_neg, if_pos]
  · refine ct_all_iff.mpr (fun c hc => ?_)
    unfold ct_los
    cases hm : ct_mv g p c with
    | none => rfl
    | some q => simp [h c q hc hm]
  · intro q
    obtain ⟨c, hc, h1⟩ := ct_any_iff.mp q
    unfold ct_hit at h1
    cases hm : ct_mv g p c with
    | none => rw [hm] at h1; cases h1
    | some q => rw [hm] at h1; have := h c q hc hm; simp at h1; omega
theorem ct_fol_ne {g : ct_G} {S : Nat → Nat} {p : Nat} (h : ct_fol g S p ≠ 0) : (∃ c q, c < 13 ∧ ct_mv g p c = some q ∧ S q = ct_mo p) ∨ (∀ c q, c < 13 → ct_mv g p c = some q → S q = 3 - ct_mo p) := by
  unfold ct_fol at h
  by_cases h1 : ct_any (ct_hit g S p) 13 = true
  · left
    obtain ⟨c, hc, h2⟩ := ct_any_iff.mp h1
    unfold ct_hit at h2
    cases hm : ct_mv g p c with
    | none => rw [hm] at h2; cases h2
    | some q => rw [hm] at h2; exact ⟨c, q, hc, hm, by simpa using h2⟩
  · rw [if_neg h1] at h
    by_cases h2 : ct_all (ct_los g S p) 13 = true
    · right
      intro c q hc hm
      have h3 := ct_all_iff.mp h2 c hc
      unfold ct_los at h3
      rw [hm] at h3
      simpa using h3
    · rw [if_neg h2] at h; exact absurd rfl h
theorem ct_fol_congr {g : ct_G} {S S' : Nat → Nat} {p : Nat} (hp : p < 432) (h : ∀ q, q < 432 → S q = S' q) : ct_fol g S p = ct_fol g S' p := by
  have e1 : ∀ c, c < 13 → ct_hit g S p c = ct_hit g S' p c := by
    intro c hc
    unfold ct_hit
    cases hm : ct_mv g p c with
    | none => rfl
    | some q => simp only [h q (ct_mv_lt hp hc hm)]
  have e2 : ∀ c, c < 13 → ct_los g S p c = ct_los g S' p c := by
    intro c hc
    unfold ct_los
    cases hm : ct_mv g p c with
    | none => rfl
    | some q => simp only [h q (ct_mv_lt hp hc hm)]
  have e3 : ct_any (ct_hit g S p) 13 = ct_any (ct_hit g S' p) 13 := by
    apply Bool.eq_iff_iff.mpr
    rw [ct_any_iff, ct_any_iff]
    constructor
    · rintro ⟨c, hc, h1⟩; exact ⟨c, hc, by rw [← e1 c hc]; exact h1⟩
    · rintro ⟨c, hc, h1⟩; exact ⟨c, hc, by rw [e1 c hc]; exact h1⟩
  have e4 : ct_all (ct_los g S p) 13 = ct_all (ct_los g S' p) 13 := by
    apply Bool.eq_iff_iff.mpr
    rw [ct_all_iff, ct_all_iff]
    constructor
    · intro h1 c hc; rw [← e2 c hc]; exact h1 c hc
    · intro h1 c hc; rw [e2 c hc]; exact h1 c hc
  unfold ct_fol
  rw [e3, e4]
theorem ct_it_s (g : ct_G) {r p : Nat} (ho : ct_ov g p = 0) (h0 : ct_it g r p = 0) : ct_it g (r + 1) p = ct_fol g (ct_it g r) p := by
  have e : ct_it g (r + 1) p = if ct_ov g p ≠ 0 then ct_ov g p else if ct_it g r p ≠ 0 then ct_it g r p else ct_fol g (ct_it g r) p := rfl
  rw [e, if_neg (fun q => q ho), if_neg (fun q => q h0)]
/-- moves of p that E hasn't told yet -/
def ct_un (g : ct_G) (E : Nat → Nat → Bool) (p : Nat) : Nat := ct_cnt (fun c => (ct_mv g p c).isSome && !E p c) 13
/-- within the telling of position Q i, whose length is L and whose winner is wq: E are the moves told -/
def ct_Mid (g : ct_G) (i L wq : Nat) (Q : Nat → Nat) (t : ct_T) (E : Nat → Nat → Bool) : Prop :=
  (i < xt_n t ∧ (∀ j, j ≤ i → xt_q t j = Q j) ∧ xt_f t (Q i) = L ∧ xt_w t (Q i) = wq) ∧
  (xt_n t = ct_cnt (fun p => xt_w t p != 0) 432) ∧
  (∀ j, j < xt_n t → xt_q t j < 432 ∧ xt_w t (xt_q t j) ≠ 0 ∧ xt_f t (xt_q t j) ≤ j ∧ xt_f t (xt_q t j) ≤ L + 1) ∧
  (∀ j k, j < k → k < xt_n t → xt_q t j ≠ xt_q t k ∧ xt_f t (xt_q t j) ≤ xt_f t (xt_q t k)) ∧
  (∀ p, p < 432 → xt_w t p ≠ 0 → (∃ j, j < xt_n t ∧ xt_q t j = p) ∧ ct_it g (xt_f t p) p = 0 ∧ ct_it g (xt_f t p + 1) p = xt_w t p) ∧
  (∀ p, p < 432 → ct_it g (L + 1) p ≠ 0 → xt_w t p ≠ 0) ∧
  (∀ p c q, p < 432 → c < 13 → E p c = true → ct_mv g p c = some q → xt_w t q ≠ 0 ∧ xt_f t q ≤ L ∧ (xt_w t p = 0 → xt_w t q ≠ ct_mo p)) ∧
  (∀ p, p < 432 → xt_w t p = 0 → xt_o t p = nI (ct_un g E p) ∧ 0 < ct_un g E p) ∧
  (∀ p, p < 432 → ct_ov g p ≠ 0 → xt_w t p ≠ 0)
theorem ct_dec8 : ∀ k, k < 14 → (nI (k + 1) - nI 1).toInt8.toInt32 = nI k := by decide +kernel
theorem ct_un_same {g : ct_G} {E E' : Nat → Nat → Bool} {p p0 c0 : Nat} (hE : ∀ p c, ¬ (p = p0 ∧ c = c0) → E' p c = E p c) (hp : p ≠ p0) : ct_un g E' p = ct_un g E p := by
  unfold ct_un
  refine ct_cnt_congr (fun c _ => ?_)
  rw [hE p c (fun q => hp q.1)]
theorem ct_un_one {g : ct_G} {E E' : Nat → Nat → Bool} {p0 c0 q : Nat} (hc : c0 < 13) (hm : ct_mv g p0 c0 = some q) (h0 : E p0 c0 = false) (h1 : E' p0 c0 = true) (hE : ∀ p c, ¬ (p = p0 ∧ c = c0) → E' p c = E p c) : ct_un g E p0 = ct_un g E' p0 + 1 := by
  unfold ct_un
  refine ct_cnt_upd (k := c0) hc ?_ ?_ ?_
  · simp [h1]
  · simp [hm, h0]
  · intro c hne
    rw [hE p0 c (fun q => hne q.2)]
/-- one move told -/
theorem ct_Mid_ans {g : ct_G} {i L wq : Nat} {Q : Nat → Nat} {t : ct_T} {E E' : Nat → Nat → Bool} {p0 c0 : Nat} (hM : ct_Mid g i L wq Q t E) (hp0 : p0 < 432) (hc0 : c0 < 13) (hm : ct_mv g p0 c0 = some (Q i)) (h0 : E p0 c0 = false) (h1 : E' p0 c0 = true) (hE : ∀ p c, ¬ (p = p0 ∧ c = c0) → E' p c = E p c) :
    ct_Mid g i L wq Q (ct_ans t p0 wq (L + 1)) E' := by
  obtain ⟨⟨hi, hQ, hfL, hwq⟩, hn, hq, hord, hdec, hcomp, hE7, hO, hov⟩ := hM
  have hQi : Q i < 432 := by rw [← hQ i (Nat.le_refl i)]; exact (hq i hi).1
  have hwq0 : wq ≠ 0 := by rw [← hwq, ← hQ i (Nat.le_refl i)]; exact (hq i hi).2.1
  have hqit : ct_it g (L + 1) (Q i) = wq := by
    have := (hdec (Q i) hQi (by rw [hwq]; exact hwq0)).2.2
    rw [hfL, hwq] at this
    exact this
  by_cases hw : xt_w t p0 = 0
  · -- not decided yet
    have hun := ct_un_one (g := g) hc0 hm h0 h1 hE
    obtain ⟨ho1, ho2⟩ := hO p0 hp0 hw
    have hun13 : ct_un g E p0 ≤ 13 := ct_cnt_le _ 13
    have hval : (xt_o t p0 - nI 1).toInt8.toInt32 = nI (ct_un g E' p0) := by
      rw [ho1, hun]
      exact ct_dec8 _ (by omega)
    have hoo : ∀ p, xt_o (ct_ans1 t p0) p = if p = p0 then nI (ct_un g E' p0) else xt_o t p := by
      intro p
      show upd (xt_o t) p0 _ p = _
      unfold upd
      rw [hval]
    have hne : Q i ≠ p0 := by
      intro q; rw [← q, hwq] at hw; exact hwq0 hw
    by_cases hset : ct_mo p0 = wq ∨ xt_o (ct_ans1 t p0) p0 = 0
    · -- decided now
      have hnlt : xt_n t < 432 := by rw [hn]; exact ct_cnt_lt hp0 (by simp [hw])
      have e : ct_ans t p0 wq (L + 1) = xs_n (xs_q (xs_f (xs_w (ct_ans1 t p0) (ct_updN (xt_w t) p0 wq)) (ct_updN (xt_f t) p0 (L + 1))) (ct_updN (xt_q t) (xt_n t) p0)) (xt_n t + 1) := by
        unfold ct_ans
        rw [if_neg (fun q => q hw), if_pos hset]
        unfold ct_settle
        exact if_neg (by show ¬ 432 ≤ xt_n t; omega)
      rw [e]
      generalize hT : xs_n (xs_q (xs_f (xs_w (ct_ans1 t p0) (ct_updN (xt_w t) p0 wq)) (ct_updN (xt_f t) p0 (L + 1))) (ct_updN (xt_q t) (xt_n t) p0)) (xt_n t + 1) = T
      have tn : xt_n T = xt_n t + 1 := by rw [← hT]
      have tw : ∀ p, xt_w T p = if p = p0 then wq else xt_w t p := by intro p; rw [← hT]; rfl
      have tf : ∀ p, xt_f T p = if p = p0 then L + 1 else xt_f t p := by intro p; rw [← hT]; rfl
      have tq : ∀ j, xt_q T j = if j = xt_n t then p0 else xt_q t j := by intro j; rw [← hT]; rfl
      have to : ∀ p, xt_o T p = if p = p0 then nI (ct_un g E' p0) else xt_o t p := by intro p; rw [← hT]; exact hoo p
      have hqne : ∀ j, j < xt_n t → xt_q t j ≠ p0 := by
        intro j hj q
        have := (hq j hj).2.1
        rw [q] at this; exact this hw
      have tq1 : ∀ j, j < xt_n t → xt_q T j = xt_q t j := by intro j hj; rw [tq, if_neg (by omega)]
      have tf1 : ∀ j, j < xt_n t → xt_f T (xt_q t j) = xt_f t (xt_q t j) := by intro j hj; rw [tf, if_neg (hqne j hj)]
      have tw1 : ∀ j, j < xt_n t → xt_w T (xt_q t j) = xt_w t (xt_q t j) := by intro j hj; rw [tw, if_neg (hqne j hj)]
      have hp0it : ct_it g (L + 1) p0 = 0 := by
        by_cases hz : ct_it g (L + 1) p0 = 0
        · exact hz
        · exact absurd hw (hcomp p0 hp0 hz)
      have hp0ov : ct_ov g p0 = 0 := by
        by_cases hz : ct_ov g p0 = 0
        · exact hz
        · exact absurd hw (hov p0 hp0 hz)
      have hnew : ct_it g (L + 1 + 1) p0 = wq := by
        rw [ct_it_s g hp0ov hp0it]
        by_cases hmo : ct_mo p0 = wq
        · rw [ct_fol_hit hc0 hm (by rw [hqit, hmo]), hmo]
        · have hz : ct_un g E' p0 = 0 := by
            rcases hset with q | q
            · exact absurd q hmo
            · rw [hoo, if_pos rfl] at q
              exact (ct_n0 (by omega)).mp q
          have hall : ∀ c q, c < 13 → ct_mv g p0 c = some q → ct_it g (L + 1) q = 3 - ct_mo p0 := by
            intro c q hc hmc
            have hEt : E' p0 c = true := by
              have := ct_cnt_0 hz c hc
              simp [hmc] at this
              exact this
            by_cases hcc : c = c0
            · subst hcc
              rw [hm] at hmc
              cases hmc
              rw [hqit]
              have h2 := ct_mo_12 p0
              have h3 : wq ≤ 2 := by rw [← hqit]; exact ct_it_le g _ _
              omega
            · rw [hE p0 c (fun z => hcc z.2)] at hEt
              obtain ⟨a1, a2, a3⟩ := hE7 p0 c q hp0 hc hEt hmc
              have hqlt := ct_mv_lt hp0 hc hmc
              obtain ⟨-, b1, b2⟩ := hdec q hqlt a1
              have b3 : ct_it g (L + 1) q = xt_w t q := by
                rw [ct_it_ge g (r := xt_f t q + 1) (by omega) (by rw [b2]; exact a1), b2]
              have h2 := ct_mo_12 p0
              have h3 : xt_w t q ≤ 2 := by rw [← b3]; exact ct_it_le g _ _
              have h4 := a3 hw
              rw [b3]; omega
          rw [ct_fol_all hall]
          have := hall c0 (Q i) hc0 hm
          rw [hqit] at this
          exact this.symm
      refine ⟨⟨by omega, ?_, ?_, ?_⟩, ?_, ?_, ?_, ?_, ?_, ?_, ?_, ?_⟩
      · intro j hj
        rw [tq1 j (by omega)]; exact hQ j hj
      · rw [tf, if_neg hne]; exact hfL
      · rw [tw, if_neg hne]; exact hwq
      · rw [tn, hn]
        refine (ct_cnt_upd (k := p0) hp0 ?_ ?_ ?_).symm
        · simp [hw]
        · simp [tw, hwq0]
        · intro c hc
          simp [tw, hc]
      · intro j hj
        by_cases hjn : j = xt_n t
        · have e2 : xt_q T j = p0 := by rw [tq, if_pos hjn]
          rw [e2, tw, tf, if_pos rfl, if_pos rfl]
          refine ⟨hp0, hwq0, ?_, by omega⟩
          have := (hq i hi).2.2.1
          rw [hQ i (Nat.le_refl i), hfL] at this
          omega
        · have hj2 : j < xt_n t := by omega
          rw [tq1 j hj2, tw1 j hj2, tf1 j hj2]
          exact hq j hj2
      · intro j k hjk hk
        have hj2 : j < xt_n t := by omega
        by_cases hkn : k = xt_n t
        · have e2 : xt_q T k = p0 := by rw [tq, if_pos hkn]
          rw [e2, tq1 j hj2, tf1 j hj2, tf p0, if_pos rfl]
          exact ⟨hqne j hj2, (hq j hj2).2.2.2⟩
        · have hk2 : k < xt_n t := by omega
          rw [tq1 j hj2, tq1 k hk2, tf1 j hj2, tf1 k hk2]
          exact hord j k hjk hk2
      · intro p hp hwp
        by_cases hpp : p = p0
        · subst hpp
          refine ⟨⟨xt_n t, by omega, by rw [tq, if_pos rfl]⟩, ?_, ?_⟩
          · rw [tf, if_pos rfl]; exact hp0it
          · rw [tf, if_pos rfl, tw, if_pos rfl]; exact hnew
        · rw [tw, if_neg hpp] at hwp
          obtain ⟨⟨j, hj, hjq⟩, b1, b2⟩ := hdec p hp hwp
          refine ⟨⟨j, by omega, by rw [tq1 j hj]; exact hjq⟩, ?_, ?_⟩
          · rw [tf, if_neg hpp]; exact b1
          · rw [tf, if_neg hpp, tw, if_neg hpp]; exact b2
      · intro p hp hit
        rw [tw]
        split
        · exact hwq0
        · exact hcomp p hp hit
      · intro p c q hp hc hEp hmc
        by_cases hpc : p = p0 ∧ c = c0
        · obtain ⟨rfl, rfl⟩ := hpc
          rw [hm] at hmc
          cases hmc
          rw [tw (Q i), if_neg hne, tf, if_neg hne, hwq, hfL]
          refine ⟨hwq0, Nat.le_refl L, fun h => ?_⟩
          rw [tw, if_pos rfl] at h
          exact absurd h hwq0
        · rw [hE p c hpc] at hEp
          obtain ⟨a1, a2, a3⟩ := hE7 p c q hp hc hEp hmc
          have hqp : q ≠ p0 := by intro z; rw [z] at a1; exact a1 hw
          rw [tw q, if_neg hqp, tf, if_neg hqp]
          refine ⟨a1, a2, fun h => ?_⟩
          rw [tw] at h
          split at h
          · exact absurd h hwq0
          · exact a3 h
      · intro p hp hwp
        have hpp : p ≠ p0 := by
          intro z; rw [tw, if_pos z] at hwp; exact hwq0 hwp
        rw [tw, if_neg hpp] at hwp
        rw [to, if_neg hpp, ct_un_same hE hpp]
        exact hO p hp hwp
      · intro p hp ho
        rw [tw]
        split
        · exact hwq0
        · exact hov p hp ho
    · -- only counted
      have e : ct_ans t p0 wq (L + 1) = ct_ans1 t p0 := by
        unfold ct_ans
        rw [if_neg (fun q => q hw), if_neg hset]
      have hmo : ct_mo p0 ≠ wq := fun q => hset (Or.inl q)
      have hpos : 0 < ct_un g E' p0 := by
        rcases Nat.eq_zero_or_pos (ct_un g E' p0) with z | z
        · exact absurd (Or.inr (by rw [hoo, if_pos rfl, z]; rfl)) hset
        · exact z
      rw [e]
      refine ⟨⟨hi, hQ, hfL, hwq⟩, hn, hq, hord, hdec, hcomp, ?_, ?_, hov⟩
      · intro p c q hp hc hEp hmc
        by_cases hpc : p = p0 ∧ c = c0
        · obtain ⟨rfl, rfl⟩ := hpc
          rw [hm] at hmc
          cases hmc
          show xt_w t (Q i) ≠ 0 ∧ xt_f t (Q i) ≤ L ∧ (xt_w t p = 0 → xt_w t (Q i) ≠ ct_mo p)
          rw [hwq, hfL]
          exact ⟨hwq0, Nat.le_refl L, fun _ z => hmo z.symm⟩
        · rw [hE p c hpc] at hEp
          exact hE7 p c q hp hc hEp hmc
      · intro p hp hwp
        by_cases hpp : p = p0
        · subst hpp
          rw [hoo, if_pos rfl]
          exact ⟨rfl, hpos⟩
        · rw [hoo, if_neg hpp, ct_un_same hE hpp]
          exact hO p hp hwp
  · -- decided before
    have e : ct_ans t p0 wq (L + 1) = t := by
      unfold ct_ans
      exact if_pos hw
    rw [e]
    refine ⟨⟨hi, hQ, hfL, hwq⟩, hn, hq, hord, hdec, hcomp, ?_, ?_, hov⟩
    · intro p c q hp hc hEp hmc
      by_cases hpc : p = p0 ∧ c = c0
      · obtain ⟨rfl, rfl⟩ := hpc
        rw [hm] at hmc
        cases hmc
        rw [hwq, hfL]
        exact ⟨hwq0, Nat.le_refl L, fun z => absurd z hw⟩
      · rw [hE p c hpc] at hEp
        exact hE7 p c q hp hc hEp hmc
    · intro p hp hwp
      have hpp : p ≠ p0 := by intro z; rw [z] at hwp; exact hw hwp
      rw [ct_un_same hE hpp]
      exact hO p hp hwp
end
section
/-! THE PLAIN LAW, second half: a whole telling, the start, the end -/
theorem ct_Mid_congr {g : ct_G} {i L wq : Nat} {Q : Nat → Nat} {t : ct_T} {E E' : Nat → Nat → Bool} (hE : ∀ p c, p < 432 → c < 13 → E' p c = E p c) (hM : ct_Mid g i L wq Q t E) : ct_Mid g i L wq Q t E' := by
  obtain ⟨h1, hn, hq, hord, hdec, hcomp, hE7, hO, hov⟩ := hM
  refine ⟨h1, hn, hq, hord, hdec, hcomp, ?_, ?_, hov⟩
  · intro p c q hp hc hEp hm
    rw [hE p c hp hc] at hEp
    exact hE7 p c q hp hc hEp hm
  · intro p hp hw
    have : ct_un g E' p = ct_un g E p := ct_cnt_congr (fun c hc => by rw [hE p c hp hc])
    rw [this]
    exact hO p hp hw
def ct_EE (g : ct_G) (E : Nat → Nat → Bool) (q : Nat) (P : Nat → Nat → Bool) : Nat → Nat → Bool := fun p c => E p c || (decide (ct_mv g p c = some q) && P p c)
theorem ct_Mid_P {g : ct_G} {i L wq : Nat} {Q : Nat → Nat} {t : ct_T} {E P P' : Nat → Nat → Bool} {p0 c0 : Nat} {cond : Bool} (hM : ct_Mid g i L wq Q t (ct_EE g E (Q i) P)) (hE0 : ∀ p c, ct_mv g p c = some (Q i) → E p c = false)
    (h1 : cond = true → p0 < 432 ∧ c0 < 13 ∧ ct_mv g p0 c0 = some (Q i) ∧ P p0 c0 = false ∧ P' p0 c0 = true)
    (h2 : ∀ p c, p < 432 → c < 13 → ct_mv g p c = some (Q i) → ¬ (cond = true ∧ p = p0 ∧ c = c0) → P' p c = P p c) :
    ct_Mid g i L wq Q (if cond = true then ct_ans t p0 wq (L + 1) else t) (ct_EE g E (Q i) P') := by
  have key : ∀ p c, p < 432 → c < 13 → ¬ (cond = true ∧ p = p0 ∧ c = c0) → ct_EE g E (Q i) P' p c = ct_EE g E (Q i) P p c := by
    intro p c hp hc hn
    unfold ct_EE
    by_cases hm : ct_mv g p c = some (Q i)
    · rw [h2 p c hp hc hm hn]
    · simp [hm]
  cases cond with
  | true =>
    obtain ⟨a1, a2, a3, a4, a5⟩ := h1 rfl
    rw [if_pos rfl]
    refine ct_Mid_congr (E := fun p c => if p < 432 ∧ c < 13 then ct_EE g E (Q i) P' p c else ct_EE g E (Q i) P p c) (fun p c hp hc => by simp [hp, hc]) (ct_Mid_ans hM a1 a2 a3 ?_ ?_ (fun p c hn => ?_))
    · simp [ct_EE, a4, hE0 p0 c0 a3]
    · simp [ct_EE, a1, a2, a3, a5]
    · by_cases hpc : p < 432 ∧ c < 13
      · simp only [if_pos hpc]
        exact key p c hpc.1 hpc.2 (fun z => hn z.2)
      · simp only [if_neg hpc]
  | false =>
    rw [if_neg (by decide)]
    exact ct_Mid_congr (fun p c hp hc => key p c hp hc (fun z => by cases z.1)) hM
/-- the moves that lead to q -/
theorem ct_edge_e {g : ct_G} {p c q : Nat} (hq : q < 432) (he : q % 2 = 0) (h : ct_mv g p c = some q) :
    (c = 12 ∧ p = q + 1 ∧ g.2.2.2 = true) ∨ (c = q / 2 % 6 ∧ g.1 (p / 2 % 6) (q / 2 % 6) = true ∧ p = q + 1 + 2 * (p / 2 % 6) - 2 * (q / 2 % 6)) := by
  unfold ct_mv ct_num at h
  split at h
  · split at h
    · split at h
      · rename_i h1 h2 h3
        cases h; left; exact ⟨h2, by omega, h3⟩
      · cases h
    · split at h
      · rename_i h1 h2 h3
        have e := Option.some.inj h
        right
        have hc : c = q / 2 % 6 := by omega
        refine ⟨hc, ?_, by omega⟩
        rw [← hc]; exact h3.2
      · cases h
  · split at h
    · split at h
      · cases h; omega
      · cases h
    · split at h
      · split at h
        · have e := Option.some.inj h; omega
        · cases h
      · split at h
        · have e := Option.some.inj h; omega
        · cases h
theorem ct_edge_o {g : ct_G} {p c q : Nat} (hq : q < 432) (he : ¬ q % 2 = 0) (hc13 : c < 13) (h : ct_mv g p c = some q) :
    (c = 12 ∧ p = q - 1 ∧ g.2.2.1 = true) ∨ (c = q / 72 ∧ g.1 (p / 72) (q / 72) = true ∧ p = q - 1 + 72 * (p / 72) - 72 * (q / 72)) ∨ (c = 6 + q / 12 % 6 ∧ g.1 (p / 12 % 6) (q / 12 % 6) = true ∧ p = q - 1 + 12 * (p / 12 % 6) - 12 * (q / 12 % 6)) := by
  unfold ct_mv ct_num at h
  split at h
  · split at h
    · split at h
      · cases h; omega
      · cases h
    · split at h
      · have e := Option.some.inj h; omega
      · cases h
  · split at h
    · split at h
      · rename_i h1 h2 h3
        cases h; left; exact ⟨h2, by omega, h3⟩
      · cases h
    · split at h
      · split at h
        · rename_i h1 h2 h3 h4
          have e := Option.some.inj h
          right; left
          have hc : c = q / 72 := by omega
          refine ⟨hc, ?_, by omega⟩
          rw [← hc]; exact h4
        · cases h
      · split at h
        · rename_i h1 h2 h3 h4
          have e := Option.some.inj h
          right; right
          have hc : c - 6 = q / 12 % 6 := by omega
          refine ⟨by omega, ?_, by omega⟩
          rw [← hc]; exact h4
        · cases h
theorem ct_edge_e1 {g : ct_G} {q k : Nat} (hq : q < 432) (he : q % 2 = 0) (hk : k < 6) (hd : g.1 k (q / 2 % 6) = true) :
    q + 1 + 2 * k - 2 * (q / 2 % 6) < 432 ∧ (q + 1 + 2 * k - 2 * (q / 2 % 6)) / 2 % 6 = k ∧ ct_mv g (q + 1 + 2 * k - 2 * (q / 2 % 6)) (q / 2 % 6) = some q := by
  have e1 : (q + 1 + 2 * k - 2 * (q / 2 % 6)) / 2 % 6 = k := by omega
  have e2 : (q + 1 + 2 * k - 2 * (q / 2 % 6)) / 12 % 6 = q / 12 % 6 := by omega
  have e3 : (q + 1 + 2 * k - 2 * (q / 2 % 6)) / 72 = q / 72 := by omega
  refine ⟨by omega, e1, ?_⟩
  unfold ct_mv
  rw [if_pos (by omega), if_neg (by omega), e1, e2, e3, if_pos ⟨by omega, hd⟩]
  unfold ct_num
  congr 1; omega
theorem ct_edge_e2 {g : ct_G} {q : Nat} (he : q % 2 = 0) (hd : g.2.2.2 = true) : ct_mv g (q + 1) 12 = some q := by
  unfold ct_mv
  rw [if_pos (by omega), if_pos rfl, if_pos hd]
  rfl
theorem ct_edge_o1 {g : ct_G} {q k : Nat} (hq : q < 432) (he : ¬ q % 2 = 0) (hk : k < 6) (hd : g.1 k (q / 72) = true) :
    q - 1 + 72 * k - 72 * (q / 72) < 432 ∧ (q - 1 + 72 * k - 72 * (q / 72)) / 72 = k ∧ ct_mv g (q - 1 + 72 * k - 72 * (q / 72)) (q / 72) = some q := by
  have e1 : (q - 1 + 72 * k - 72 * (q / 72)) / 2 % 6 = q / 2 % 6 := by omega
  have e2 : (q - 1 + 72 * k - 72 * (q / 72)) / 12 % 6 = q / 12 % 6 := by omega
  have e3 : (q - 1 + 72 * k - 72 * (q / 72)) / 72 = k := by omega
  refine ⟨by omega, e3, ?_⟩
  unfold ct_mv
  rw [if_neg (by omega), if_neg (by omega), if_pos (by omega), e1, e2, e3, if_pos hd]
  unfold ct_num
  congr 1; omega
theorem ct_edge_o2 {g : ct_G} {q k : Nat} (hq : q < 432) (he : ¬ q % 2 = 0) (hk : k < 6) (hd : g.1 k (q / 12 % 6) = true) :
    q - 1 + 12 * k - 12 * (q / 12 % 6) < 432 ∧ (q - 1 + 12 * k - 12 * (q / 12 % 6)) / 12 % 6 = k ∧ ct_mv g (q - 1 + 12 * k - 12 * (q / 12 % 6)) (6 + q / 12 % 6) = some q := by
  have e1 : (q - 1 + 12 * k - 12 * (q / 12 % 6)) / 2 % 6 = q / 2 % 6 := by omega
  have e2 : (q - 1 + 12 * k - 12 * (q / 12 % 6)) / 12 % 6 = k := by omega
  have e3 : (q - 1 + 12 * k - 12 * (q / 12 % 6)) / 72 = q / 72 := by omega
  refine ⟨by omega, e2, ?_⟩
  unfold ct_mv
  rw [if_neg (by omega), if_neg (by omega), if_neg (by omega), e1, e2, e3, show 6 + q / 12 % 6 - 6 = q / 12 % 6 by omega, if_pos hd]
  unfold ct_num
  congr 1; omega
theorem ct_edge_o3 {g : ct_G} {q : Nat} (he : ¬ q % 2 = 0) (hd : g.2.2.1 = true) : ct_mv g (q - 1) 12 = some q := by
  unfold ct_mv
  rw [if_neg (by omega), if_pos rfl, if_pos hd]
  congr 1; omega
/-- a whole telling -/
theorem ct_Mid_spread {g : ct_G} {i : Nat} {t : ct_T} {E : Nat → Nat → Bool} (hi : i < xt_n t) (hM : ct_Mid g i (xt_f t (xt_q t i)) (xt_w t (xt_q t i)) (xt_q t) t E) (hE0 : ∀ p c, ct_mv g p c = some (xt_q t i) → E p c = false) :
    ct_Mid g i (xt_f t (xt_q t i)) (xt_w t (xt_q t i)) (xt_q t) (ct_spread g t (xt_q t i)) (ct_EE g E (xt_q t i) (fun _ _ => true)) := by
  have hq : xt_q t i < 432 := by
    obtain ⟨-, -, h, -⟩ := hM
    exact (h i hi).1
  generalize hL : xt_f t (xt_q t i) = L at hM ⊢
  generalize hwq : xt_w t (xt_q t i) = wq at hM ⊢
  have eqn : ct_EE g E (xt_q t i) (fun p c => decide (13 ≤ c)) = ct_EE g E (xt_q t i) (fun p c => decide (13 ≤ c)) := rfl
  have h00 : ct_Mid g i L wq (xt_q t) t (ct_EE g E (xt_q t i) (fun p c => decide (13 ≤ c))) := by
    refine ct_Mid_congr (fun p c _ hc => ?_) hM
    have : ¬ 13 ≤ c := by omega
    simp [ct_EE, this]
  unfold ct_spread
  rw [hL, hwq]
  by_cases he : xt_q t i % 2 = 0
  · rw [if_pos he]
    have loop : ∀ k, k ≤ 6 → ct_Mid g i L wq (xt_q t) (ct_spE g (xt_q t i) wq (L + 1) t k) (ct_EE g E (xt_q t i) (fun p c => decide (13 ≤ c) || (decide (c = xt_q t i / 2 % 6) && decide (p / 2 % 6 < k)))) := by
      intro k
      induction k with
      | zero =>
        intro _
        refine ct_Mid_congr (fun p c _ _ => ?_) h00
        simp [ct_EE]
      | succ k ih =>
        intro hk
        have ih := ih (by omega)
        show ct_Mid g i L wq (xt_q t) (if g.1 k (xt_q t i / 2 % 6) = true then ct_ans (ct_spE g (xt_q t i) wq (L + 1) t k) (xt_q t i + 1 + 2 * k - 2 * (xt_q t i / 2 % 6)) wq (L + 1) else ct_spE g (xt_q t i) wq (L + 1) t k) _
        refine ct_Mid_P (c0 := xt_q t i / 2 % 6) ih hE0 (fun hc => ?_) (fun p c hp hcc hm hn => ?_)
        · obtain ⟨a1, a2, a3⟩ := ct_edge_e1 hq he (show k < 6 by omega) hc
          refine ⟨a1, by omega, a3, ?_, ?_⟩
          · rw [a2]; simp; omega
          · rw [a2]; simp
        · rcases ct_edge_e hq he hm with ⟨b1, b2, b3⟩ | ⟨b1, b2, b3⟩
          · have : ¬ c = xt_q t i / 2 % 6 := by omega
            simp [this]
          · by_cases hk2 : p / 2 % 6 = k
            · exact absurd ⟨by rw [← hk2]; exact b2, by rw [← hk2]; exact b3, b1⟩ hn
            · have : (p / 2 % 6 < k + 1) ↔ (p / 2 % 6 < k) := by omega
              simp [this]
    have h6 := loop 6 (Nat.le_refl 6)
    refine ct_Mid_P (c0 := 12) (p0 := xt_q t i + 1) h6 hE0 (fun hc => ⟨by omega, by omega, ct_edge_e2 he hc, ?_, rfl⟩) (fun p c hp hcc hm hn => ?_)
    · have : ¬ 12 = xt_q t i / 2 % 6 := by omega
      simp [this]
    · rcases ct_edge_e hq he hm with ⟨b1, b2, b3⟩ | ⟨b1, b2, b3⟩
      · exact absurd ⟨b3, b2, b1⟩ hn
      · have : p / 2 % 6 < 6 := by omega
        simp [b1, this]
  · rw [if_neg he]
    have loop : ∀ k, k ≤ 6 → ct_Mid g i L wq (xt_q t) (ct_spO g (xt_q t i) wq (L + 1) t k) (ct_EE g E (xt_q t i) (fun p c => decide (13 ≤ c) || ((decide (c = xt_q t i / 72) && decide (p / 72 < k)) || (decide (c = 6 + xt_q t i / 12 % 6) && decide (p / 12 % 6 < k))))) := by
      intro k
      induction k with
      | zero =>
        intro _
        refine ct_Mid_congr (fun p c _ _ => ?_) h00
        simp [ct_EE]
      | succ k ih =>
        intro hk
        have ih := ih (by omega)
        have hA : ct_Mid g i L wq (xt_q t) (ct_spA g (xt_q t i) wq (L + 1) k (ct_spO g (xt_q t i) wq (L + 1) t k)) (ct_EE g E (xt_q t i) (fun p c => decide (13 ≤ c) || ((decide (c = xt_q t i / 72) && decide (p / 72 < k + 1)) || (decide (c = 6 + xt_q t i / 12 % 6) && decide (p / 12 % 6 < k))))) := by
          refine ct_Mid_P (c0 := xt_q t i / 72) ih hE0 (fun hc => ?_) (fun p c hp hcc hm hn => ?_)
          · obtain ⟨a1, a2, a3⟩ := ct_edge_o1 hq he (show k < 6 by omega) hc
            refine ⟨a1, by omega, a3, ?_, ?_⟩
            · rw [a2]
              have h1 : ¬ 13 ≤ xt_q t i / 72 := by omega
              have h2 : ¬ xt_q t i / 72 = 6 + xt_q t i / 12 % 6 := by omega
              simp [h1, h2]
            · rw [a2]; simp
          · by_cases h13 : 13 ≤ c
            · simp [h13]
            · rcases ct_edge_o hq he (by omega) hm with ⟨b1, b2, b3⟩ | ⟨b1, b2, b3⟩ | ⟨b1, b2, b3⟩
              · have h1 : ¬ c = xt_q t i / 72 := by omega
                simp [h1]
              · by_cases hk2 : p / 72 = k
                · exact absurd ⟨by rw [← hk2]; exact b2, by rw [← hk2]; exact b3, b1⟩ hn
                · have : (p / 72 < k + 1) ↔ (p / 72 < k) := by omega
                  simp [this]
              · have h1 : ¬ c = xt_q t i / 72 := by omega
                simp [h1]
        refine ct_Mid_P (c0 := 6 + xt_q t i / 12 % 6) hA hE0 (fun hc => ?_) (fun p c hp hcc hm hn => ?_)
        · obtain ⟨a1, a2, a3⟩ := ct_edge_o2 hq he (show k < 6 by omega) hc
          refine ⟨a1, by omega, a3, ?_, ?_⟩
          · rw [a2]
            have h1 : ¬ 13 ≤ 6 + xt_q t i / 12 % 6 := by omega
            have h2 : ¬ 6 + xt_q t i / 12 % 6 = xt_q t i / 72 := by omega
            simp [h1, h2]
          · rw [a2]; simp
        · by_cases h13 : 13 ≤ c
          · simp [h13]
          · rcases ct_edge_o hq he (by omega) hm with ⟨b1, b2, b3⟩ | ⟨b1, b2, b3⟩ | ⟨b1, b2, b3⟩
            · have h1 : ¬ c = 6 + xt_q t i / 12 % 6 := by omega
              simp [h1]
            · have h1 : ¬ c = 6 + xt_q t i / 12 % 6 := by omega
              simp [h1]
            · by_cases hk2 : p / 12 % 6 = k
              · exact absurd ⟨by rw [← hk2]; exact b2, by rw [← hk2]; exact b3, b1⟩ hn
              · have : (p / 12 % 6 < k + 1) ↔ (p / 12 % 6 < k) := by omega
                simp [this]
    have h6 := loop 6 (Nat.le_refl 6)
    refine ct_Mid_P (c0 := 12) (p0 := xt_q t i - 1) h6 hE0 (fun hc => ⟨by omega, by omega, ct_edge_o3 he hc, ?_, rfl⟩) (fun p c hp hcc hm hn => ?_)
    · have h1 : ¬ 12 = xt_q t i / 72 := by omega
      have h2 : ¬ 12 = 6 + xt_q t i / 12 % 6 := by omega
      simp [h1, h2]
    · by_cases h13 : 13 ≤ c
      · simp [h13]
      · rcases ct_edge_o hq he (by omega) hm with ⟨b1, b2, b3⟩ | ⟨b1, b2, b3⟩ | ⟨b1, b2, b3⟩
        · exact absurd ⟨b3, b2, b1⟩ hn
        · have h1 : p / 72 < 6 := by omega
          simp [b1, h1]
        · have h1 : p / 12 % 6 < 6 := by omega
          simp [b1, h1]
end
section
/-! THE PLAIN LAW, third part: what holds at the head of the loop (ct_Inv); it begins, it goes on, it ends with the right table -/
/-- the move c of p leads to a position told before i -/
def ct_pr (g : ct_G) (t : ct_T) (i p c : Nat) : Bool := match ct_mv g p c with
  | none => false
  | some q => ct_any (fun j => xt_q t j == q) i
def ct_Inv (g : ct_G) (i : Nat) (t : ct_T) : Prop :=
  i ≤ xt_n t ∧
  (xt_n t = ct_cnt (fun p => xt_w t p != 0) 432) ∧
  (∀ j, j < xt_n t → xt_q t j < 432 ∧ xt_w t (xt_q t j) ≠ 0 ∧ xt_f t (xt_q t j) ≤ j ∧ (i < xt_n t → xt_f t (xt_q t j) ≤ xt_f t (xt_q t i) + 1)) ∧
  (∀ j k, j < k → k < xt_n t → xt_q t j ≠ xt_q t k ∧ xt_f t (xt_q t j) ≤ xt_f t (xt_q t k)) ∧
  (∀ p, p < 432 → xt_w t p ≠ 0 → (∃ j, j < xt_n t ∧ xt_q t j = p) ∧ ct_it g (xt_f t p) p = 0 ∧ ct_it g (xt_f t p + 1) p = xt_w t p) ∧
  (∀ p c q, p < 432 → c < 13 → ct_pr g t i p c = true → ct_mv g p c = some q → xt_w t p = 0 → xt_w t q ≠ ct_mo p) ∧
  (∀ p, p < 432 → xt_w t p = 0 → xt_o t p = nI (ct_un g (ct_pr g t i) p) ∧ 0 < ct_un g (ct_pr g t i) p) ∧
  (∀ p, p < 432 → ct_ov g p ≠ 0 → xt_w t p ≠ 0)
theorem ct_pr_iff {g : ct_G} {t : ct_T} {i p c q : Nat} (hm : ct_mv g p c = some q) : ct_pr g t i p c = true ↔ ∃ j, j < i ∧ xt_q t j = q := by
  unfold ct_pr
  rw [hm]
  show ct_any (fun j => xt_q t j == q) i = true ↔ _
  rw [ct_any_iff]
  simp
theorem ct_Inv_n {g : ct_G} {i : Nat} {t : ct_T} (h : ct_Inv g i t) : xt_n t ≤ 432 := by
  rw [h.2.1]; exact ct_cnt_le _ _
/-- all that the rounds find is in the table, as far as the telling has come -/
theorem ct_Inv_comp {g : ct_G} {i : Nat} {t : ct_T} (h : ct_Inv g i t) : ∀ r : Nat, (∀ j, i ≤ j → j < xt_n t → r ≤ xt_f t (xt_q t j) + 1) → ∀ p, p < 432 → ct_it g r p ≠ 0 → xt_w t p ≠ 0 := by
  obtain ⟨hi, hn, hq, hord, hdec, hpr, hO, hov⟩ := h
  intro r
  induction r with
  | zero => intro _ p _ h0; exact absurd rfl h0
  | succ r ih =>
    intro hr p hp hit hw
    have ih := ih (fun j h1 h2 => by have := hr j h1 h2; omega)
    have ho : ct_ov g p = 0 := by
      by_cases z : ct_ov g p = 0
      · exact z
      · exact absurd hw (hov p hp z)
    have h0 : ct_it g r p = 0 := by
      by_cases z : ct_it g r p = 0
      · exact z
      · exact absurd hw (ih p hp z)
    rw [ct_it_s g ho h0] at hit
    -- a target that round r knows has been told, with that winner
    have told : ∀ q, q < 432 → ct_it g r q ≠ 0 → (∃ j, j < i ∧ xt_q t j = q) ∧ xt_w t q = ct_it g r q := by
      intro q hq4 hqr
      have hwq := ih q hq4 hqr
      obtain ⟨⟨j, hj, hjq⟩, b1, b2⟩ := hdec q hq4 hwq
      have hfr : xt_f t q < r := by
        rcases Nat.lt_or_ge (xt_f t q) r with z | z
        · exact z
        · exact absurd (ct_it_0 g z b1) hqr
      refine ⟨⟨j, ?_, hjq⟩, ?_⟩
      · rcases Nat.lt_or_ge j i with z | z
        · exact z
        · have := hr j z hj
          rw [hjq] at this
          omega
      · rw [← b2]
        exact (ct_it_ge g (r := xt_f t q + 1) (by omega) (by rw [b2]; exact hwq)).symm
    rcases ct_fol_ne hit with ⟨c, q, hc, hm, hs⟩ | hall
    · have hq4 := ct_mv_lt hp hc hm
      have hmo := ct_mo_12 p
      obtain ⟨a1, a2⟩ := told q hq4 (by rw [hs]; omega)
      exact hpr p c q hp hc ((ct_pr_iff hm).mpr a1) hm hw (by rw [a2, hs])
    · obtain ⟨-, hpos⟩ := hO p hp hw
      have hz : ct_un g (ct_pr g t i) p = 0 := by
        rcases Nat.eq_zero_or_pos (ct_un g (ct_pr g t i) p) with z | z
        · exact z
        · exfalso
          have hex : ∃ c, c < 13 ∧ ((ct_mv g p c).isSome && !ct_pr g t i p c) = true := by
            by_cases ha : ct_any (fun c => (ct_mv g p c).isSome && !ct_pr g t i p c) 13 = true
            · obtain ⟨c, hc, h1⟩ := ct_any_iff.mp ha
              exact ⟨c, hc, h1⟩
            · exfalso
              have : ct_un g (ct_pr g t i) p = 0 := by
                have e0 : ct_un g (ct_pr g t i) p = ct_cnt (fun _ => false) 13 := ct_cnt_congr (fun c hc => by
                  cases hf : ((ct_mv g p c).isSome && !ct_pr g t i p c) with
                  | false => rfl
                  | true => exact absurd (ct_any_iff.mpr ⟨c, hc, hf⟩) ha)
                rw [e0]; rfl
              omega
          obtain ⟨c, hc, h1⟩ := hex
          cases hm : ct_mv g p c with
          | none => rw [hm] at h1; simp at h1
          | some q =>
            have hmo := ct_mo_12 p
            have hs := hall c q hc hm
            obtain ⟨a1, -⟩ := told q (ct_mv_lt hp hc hm) (by rw [hs]; omega)
            rw [(ct_pr_iff hm).mpr a1] at h1
            simp at h1
      omega
theorem ct_Inv_bd {g : ct_G} {i : Nat} {t : ct_T} (h : ct_Inv g i t) : ct_bd t := by
  refine ⟨ct_Inv_n h, fun j hj => ?_⟩
  obtain ⟨hi, hn, hq, hord, hdec, hpr, hO, hov⟩ := h
  by_cases z : xt_w t j = 0
  · omega
  · have := (hdec j hj z).2.2
    rw [← this]
    have := ct_it_le g (xt_f t j + 1) j
    omega
theorem ct_Inv_i {g : ct_G} {i : Nat} {t : ct_T} (h : ct_Inv g i t) (hi : i < xt_n t) : xt_q t i < 432 ∧ xt_f t (xt_q t i) < 900 := by
  have hn := ct_Inv_n h
  obtain ⟨-, -, hq, -⟩ := h
  have := hq i hi
  exact ⟨this.1, by omega⟩
theorem ct_Inv_mid {g : ct_G} {i : Nat} {t : ct_T} (h : ct_Inv g i t) (hi : i < xt_n t) : ct_Mid g i (xt_f t (xt_q t i)) (xt_w t (xt_q t i)) (xt_q t) t (ct_pr g t i) := by
  have hcomp := ct_Inv_comp h (xt_f t (xt_q t i) + 1) (by
    intro j h1 h2
    obtain ⟨-, -, -, hord, -⟩ := h
    rcases Nat.lt_or_ge i j with z | z
    · have := (hord i j z h2).2; omega
    · have : j = i := by omega
      subst this; omega)
  obtain ⟨-, hn, hq, hord, hdec, hpr, hO, hov⟩ := h
  refine ⟨⟨hi, fun _ _ => rfl, rfl, rfl⟩, hn, fun j hj => ⟨(hq j hj).1, (hq j hj).2.1, (hq j hj).2.2.1, (hq j hj).2.2.2 hi⟩, hord, hdec, hcomp, ?_, hO, hov⟩
  intro p c q hp hc hE hm
  obtain ⟨j, hj, hjq⟩ := (ct_pr_iff hm).mp hE
  subst hjq
  exact ⟨(hq j (by omega)).2.1, (hord j i hj hi).2, fun z => hpr p c _ hp hc hE hm z⟩
theorem ct_Inv_step {g : ct_G} {i : Nat} {t : ct_T} (h : ct_Inv g i t) (hi : i < xt_n t) : ct_Inv g (i + 1) (ct_spread g t (xt_q t i)) := by
  have hE0 : ∀ p c, ct_mv g p c = some (xt_q t i) → ct_pr g t i p c = false := by
    intro p c hm
    cases hb : ct_pr g t i p c with
    | false => rfl
    | true =>
      obtain ⟨j, hj, hjq⟩ := (ct_pr_iff hm).mp hb
      exact absurd hjq (h.2.2.2.1 j i hj hi).1
  have hM := ct_Mid_spread hi (ct_Inv_mid h hi) hE0
  generalize ct_spread g t (xt_q t i) = T at hM ⊢
  obtain ⟨⟨hi2, hQ, hfL, hwq⟩, hn, hq, hord, hdec, hcomp, hE7, hO, hov⟩ := hM
  have hEE : ∀ p c, p < 432 → c < 13 → ct_pr g T (i + 1) p c = ct_EE g (ct_pr g t i) (xt_q t i) (fun _ _ => true) p c := by
    intro p c hp hc
    unfold ct_EE
    cases hm : ct_mv g p c with
    | none => simp [ct_pr, hm]
    | some q =>
      apply Bool.eq_iff_iff.mpr
      rw [ct_pr_iff hm, Bool.or_eq_true, ct_pr_iff hm]
      constructor
      · rintro ⟨j, hj, hjq⟩
        rw [hQ j (by omega)] at hjq
        by_cases z : j = i
        · subst z; right; simp [hjq]
        · left; exact ⟨j, by omega, hjq⟩
      · rintro (⟨j, hj, hjq⟩ | z)
        · exact ⟨j, by omega, by rw [hQ j (by omega)]; exact hjq⟩
        · have z2 : q = xt_q t i := by simpa using z
          exact ⟨i, by omega, by rw [hQ i (Nat.le_refl i), z2]⟩
  refine ⟨by omega, hn, ?_, hord, hdec, ?_, ?_, hov⟩
  · intro j hj
    obtain ⟨a1, a2, a3, a4⟩ := hq j hj
    refine ⟨a1, a2, a3, fun h1 => ?_⟩
    have h2 := (hord i (i + 1) (by omega) h1).2
    rw [hQ i (Nat.le_refl i), hfL] at h2
    omega
  · intro p c q hp hc hE hm hw
    rw [hEE p c hp hc] at hE
    exact (hE7 p c q hp hc hE hm).2.2 hw
  · intro p hp hw
    have e : ct_un g (ct_pr g T (i + 1)) p = ct_un g (ct_EE g (ct_pr g t i) (xt_q t i) (fun _ _ => true)) p := ct_cnt_congr (fun c hc => by rw [hEE p c hp hc])
    rw [e]
    exact hO p hp hw
theorem ct_Inv_end {g : ct_G} {i : Nat} {t : ct_T} (h : ct_Inv g i t) (hi : xt_n t ≤ i) : ct_okX g t := by
  have hn4 := ct_Inv_n h
  have hcomp := ct_Inv_comp h 432 (by intro j h1 h2; omega)
  obtain ⟨-, hn, hq, hord, hdec, hpr, hO, hov⟩ := h
  intro p hp
  by_cases hw : xt_w t p = 0
  · have h0 : ct_win g p = 0 := by
      by_cases z : ct_win g p = 0
      · exact z
      · exact absurd hw (hcomp p hp z)
    exact ⟨by rw [hw, h0], fun z => absurd h0 z⟩
  · obtain ⟨⟨j, hj, hjq⟩, b1, b2⟩ := hdec p hp hw
    have hf := (hq j hj).2.2.1
    rw [hjq] at hf
    have hb : ct_it g (xt_f t p + 1) p ≠ 0 := by rw [b2]; exact hw
    refine ⟨?_, fun _ => ?_⟩
    · unfold ct_win
      rw [ct_it_ge g (r := xt_f t p + 1) (by omega) hb, b2]
    · exact (ct_far_eq g b1 hb (by omega)).symm
/-! the start -/
theorem ct_mc_cnt (g : ct_G) (p : Nat) : ct_cnt (fun c => (ct_mv g p c).isSome) 13 = ct_mc g p := by
  by_cases hp : p % 2 = 1
  · have h6 : ∀ c, c < 6 → (ct_mv g p c).isSome = g.1 (p / 2 % 6) c := by
      intro c hc
      unfold ct_mv
      rw [if_pos hp, if_neg (by omega)]
      cases hd : g.1 (p / 2 % 6) c <;> simp [hc]
    have h12 : ∀ c, 6 ≤ c → c < 12 → (ct_mv g p c).isSome = false := by
      intro c h1 h2
      unfold ct_mv
      rw [if_pos hp, if_neg (by omega), if_neg (by omega)]
      rfl
    have hw : (ct_mv g p 12).isSome = g.2.2.2 := by
      unfold ct_mv
      rw [if_pos hp, if_pos rfl]
      cases g.2.2.2 <;> rfl
    simp only [ct_cnt, ct_bits, ct_mc, if_pos hp]
    rw [h6 0 (by omega), h6 1 (by omega), h6 2 (by omega), h6 3 (by omega), h6 4 (by omega), h6 5 (by omega), h12 6 (by omega) (by omega), h12 7 (by omega) (by omega), h12 8 (by omega) (by omega), h12 9 (by omega) (by omega), h12 10 (by omega) (by omega), h12 11 (by omega) (by omega), hw]
    simp
  · have h6 : ∀ c, c < 6 → (ct_mv g p c).isSome = g.1 (p / 72) c := by
      intro c hc
      unfold ct_mv
      rw [if_neg hp, if_neg (by omega), if_pos hc]
      cases hd : g.1 (p / 72) c <;> simp
    have h12 : ∀ c, c < 6 → (ct_mv g p (c + 6)).isSome = g.1 (p / 12 % 6) c := by
      intro c h1
      unfold ct_mv
      rw [if_neg hp, if_neg (by omega), if_neg (by omega)]
      rw [show c + 6 - 6 = c by omega]
      cases hd : g.1 (p / 12 % 6) c <;> simp
    have hw : (ct_mv g p 12).isSome = g.2.2.1 := by
      unfold ct_mv
      rw [if_neg hp, if_pos rfl]
      cases g.2.2.1 <;> rfl
    simp only [ct_cnt, ct_bits, ct_mc, if_neg hp]
    rw [h6 0 (by omega), h6 1 (by omega), h6 2 (by omega), h6 3 (by omega), h6 4 (by omega), h6 5 (by omega), h12 0 (by omega), h12 1 (by omega), h12 2 (by omega), h12 3 (by omega), h12 4 (by omega), h12 5 (by omega), hw]
    omega
theorem ct_it1 (g : ct_G) (p : Nat) : ct_it g 1 p = ct_who g p := by
  by_cases ho : ct_ov g p = 0
  · rw [ct_it_s g ho rfl]
    by_cases hm : ct_mc g p = 0
    · have hno : ∀ c q, c < 13 → ct_mv g p c = some q → ct_it g 0 q = 3 - ct_mo p := by
        intro c q hc hmv
        have := ct_cnt_0 ((ct_mc_cnt g p).trans hm) c hc
        rw [hmv] at this
        cases this
      rw [ct_fol_all hno]
      rw [show ct_who g p = (if p % 2 = 1 then 1 else 2) from if_pos ⟨ho, hm⟩]
      unfold ct_mo
      split <;> rfl
    · have e2 : ct_who g p = 0 := by
        unfold ct_who
        rw [if_neg (fun z => hm z.2), ho]
      rw [e2]
      by_cases z : ct_fol g (ct_it g 0) p = 0
      · exact z
      · exfalso
        have hmo := ct_mo_12 p
        rcases ct_fol_ne z with ⟨c, q, hc, hmv, hs⟩ | hall
        · have : ct_it g 0 q = 0 := rfl
          omega
        · refine hm ((ct_mc_cnt g p).symm.trans ?_)
          have e0 : ct_cnt (fun c => (ct_mv g p c).isSome) 13 = ct_cnt (fun _ => false) 13 := ct_cnt_congr (fun c hc => by
            cases hmv : ct_mv g p c with
            | none => rfl
            | some q =>
              have h1 := hall c q hc hmv
              have h2 : ct_it g 0 q = 0 := rfl
              omega)
          rw [e0]; rfl
  · have e1 : ct_it g 1 p = ct_ov g p := if_pos ho
    rw [e1]
    unfold ct_who
    rw [if_neg (fun z => ho z.1)]
def ct_Ini (g : ct_G) (k : Nat) (t : ct_T) : Prop :=
  xt_n t = ct_cnt (fun p => ct_who g p != 0) k ∧
  (∀ p, p < k → xt_w t p = ct_who g p ∧ xt_f t p = 0 ∧ xt_o t p = nI (ct_mc g p)) ∧
  (∀ j, j < xt_n t → xt_q t j < k ∧ ct_who g (xt_q t j) ≠ 0) ∧
  (∀ j j', j < j' → j' < xt_n t → xt_q t j < xt_q t j') ∧
  (∀ p, p < k → ct_who g p ≠ 0 → ∃ j, j < xt_n t ∧ xt_q t j = p)
theorem ct_Ini_all (g : ct_G) (t : ct_T) : ∀ k, k ≤ 432 → ct_Ini g k (ct_inis g t k) := by
  intro k
  induction k with
  | zero =>
    intro _
    refine ⟨rfl, fun p hp => by omega, fun j hj => ?_, fun j j' _ hj => ?_, fun p hp => by omega⟩
    · have : xt_n (ct_inis g t 0) = 0 := rfl
      omega
    · have : xt_n (ct_inis g t 0) = 0 := rfl
      omega
  | succ k ih =>
    intro hk
    have ih := ih (by omega)
    show ct_Ini g (k + 1) (ct_ini g (ct_inis g t k) k)
    generalize ct_inis g t k = T at ih ⊢
    obtain ⟨hn, hv, hq, hord, hall⟩ := ih
    have hnk : xt_n T ≤ k := by rw [hn]; exact ct_cnt_le _ _
    have iw : ∀ p, xt_w (ct_ini1 g T k) p = if p = k then 0 else xt_w T p := fun p => rfl
    have if9 : ∀ p, xt_f (ct_ini1 g T k) p = if p = k then 0 else xt_f T p := fun p => rfl
    have io : ∀ p, xt_o (ct_ini1 g T k) p = if p = k then nI (ct_mc g k) else xt_o T p := fun p => rfl
    unfold ct_ini
    by_cases hw : ct_who g k = 0
    · rw [if_pos hw]
      refine ⟨?_, fun p hp => ?_, fun j hj => ?_, hord, fun p hp h1 => ?_⟩
      · show xt_n T = _
        simp [ct_cnt, hn, hw]
      · rw [iw, if9, io]
        by_cases e : p = k
        · subst e; simp [hw]
        · rw [if_neg e, if_neg e, if_neg e]; exact hv p (by omega)
      · have := hq j hj
        exact ⟨by show xt_q T j < k + 1; omega, this.2⟩
      · have e : p ≠ k := by intro e; rw [e] at h1; exact h1 hw
        exact hall p (by omega) h1
    · rw [if_neg hw]
      have e : ct_settle (ct_ini1 g T k) k (ct_who g k) 0 = xs_n (xs_q (xs_f (xs_w (ct_ini1 g T k) (ct_updN (xt_w (ct_ini1 g T k)) k (ct_who g k))) (ct_updN (xt_f (ct_ini1 g T k)) k 0)) (ct_updN (xt_q T) (xt_n T) k)) (xt_n T + 1) := by
        unfold ct_settle
        exact if_neg (by show ¬ 432 ≤ xt_n T; omega)
      rw [e]
      generalize hT2 : xs_n (xs_q (xs_f (xs_w (ct_ini1 g T k) (ct_updN (xt_w (ct_ini1 g T k)) k (ct_who g k))) (ct_updN (xt_f (ct_ini1 g T k)) k 0)) (ct_updN (xt_q T) (xt_n T) k)) (xt_n T + 1) = T2
      have tn : xt_n T2 = xt_n T + 1 := by rw [← hT2]
      have tw : ∀ p, xt_w T2 p = if p = k then ct_who g k else xt_w (ct_ini1 g T k) p := by intro p; rw [← hT2]; rfl
      have tf : ∀ p, xt_f T2 p = if p = k then 0 else xt_f (ct_ini1 g T k) p := by intro p; rw [← hT2]; rfl
      have to : ∀ p, xt_o T2 p = xt_o (ct_ini1 g T k) p := by intro p; rw [← hT2]
      have tq : ∀ j, xt_q T2 j = if j = xt_n T then k else xt_q T j := by intro j; rw [← hT2]; rfl
      refine ⟨?_, fun p hp => ?_, fun j hj => ?_, fun j j' hjj hj => ?_, fun p hp h1 => ?_⟩
      · rw [tn, hn]
        have hb : (ct_who g k != 0) = true := by simpa using hw
        simp only [ct_cnt, hb]
        rfl
      · rw [tw, tf, to, io]
        by_cases e : p = k
        · subst e; simp
        · rw [if_neg e, if_neg e, if_neg e, iw, if9, if_neg e, if_neg e]; exact hv p (by omega)
      · rw [tq]
        split
        · exact ⟨by omega, hw⟩
        · have := hq j (by omega)
          exact ⟨by omega, this.2⟩
      · rw [tq, tq, if_neg (show ¬ j = xt_n T by omega)]
        split
        · have := hq j (by omega); omega
        · exact hord j j' hjj (by omega)
      · by_cases e : p = k
        · exact ⟨xt_n T, by omega, by rw [tq, if_pos rfl, e]⟩
        · obtain ⟨j, hj, hjp⟩ := hall p (by omega) h1
          exact ⟨j, by omega, by rw [tq, if_neg (by omega)]; exact hjp⟩
theorem ct_inis_n (g : ct_G) (t : ct_T) {k : Nat} (hk : k ≤ 432) : xt_n (ct_inis g t k) ≤ 432 := by
  rw [(ct_Ini_all g t k hk).1]
  have := ct_cnt_le (fun p => ct_who g p != 0) k
  omega
theorem ct_Inv_start (g : ct_G) (t : ct_T) : ct_Inv g 0 (ct_inis g t 432) := by
  have h := ct_Ini_all g t 432 (Nat.le_refl _)
  generalize ct_inis g t 432 = T at h ⊢
  obtain ⟨hn, hv, hq, hord, hall⟩ := h
  have hun : ∀ p, ct_un g (ct_pr g T 0) p = ct_mc g p := by
    intro p
    rw [← ct_mc_cnt]
    refine ct_cnt_congr (fun c hc => ?_)
    cases hm : ct_mv g p c with
    | none => rfl
    | some q => simp [ct_pr, hm, ct_any]
  refine ⟨Nat.zero_le _, ?_, fun j hj => ?_, fun j k hjk hk => ?_, fun p hp hw => ?_, fun p c q hp hc hE hm => ?_, fun p hp hw => ?_, fun p hp ho => ?_⟩
  · rw [hn]
    exact ct_cnt_congr (fun c hc => by rw [(hv c hc).1])
  · obtain ⟨a1, a2⟩ := hq j hj
    obtain ⟨b1, b2, -⟩ := hv _ a1
    exact ⟨a1, by rw [b1]; exact a2, by omega, fun _ => by omega⟩
  · have a1 := hord j k hjk hk
    have a2 := hq k hk
    exact ⟨by omega, by rw [(hv _ (show xt_q T j < 432 by omega)).2.1]; omega⟩
  · obtain ⟨b1, b2, -⟩ := hv p hp
    rw [b1] at hw
    refine ⟨hall p hp hw, ?_, ?_⟩
    · rw [b2]; rfl
    · rw [b2, b1]; exact ct_it1 g p
  · rw [ct_pr_iff hm] at hE
    obtain ⟨j, hj, -⟩ := hE
    omega
  · obtain ⟨b1, -, b3⟩ := hv p hp
    rw [b1] at hw
    rw [hun, b3]
    refine ⟨rfl, ?_⟩
    rcases Nat.eq_zero_or_pos (ct_mc g p) with z | z
    · exfalso
      unfold ct_who at hw
      by_cases ho : ct_ov g p = 0
      · rw [if_pos ⟨ho, z⟩] at hw
        split at hw <;> omega
      · rw [if_neg (fun y => ho y.1)] at hw
        exact ho hw
    · exact z
  · rw [(hv p hp).1]
    unfold ct_who
    rw [if_neg (fun y => ho y.1)]
    exact ho
end
section
theorem hd_X_prepare : y_X_prepare.cls = R_X ∧ y_X_prepare.cls ≠ "java/lang/invoke/MethodHandle" ∧ y_X_prepare.cls ≠ "java/lang/invoke/VarHandle" ∧ (parseMethodDescriptor y_X_prepare.desc).map (fun d => d.parameters.length) = some 0 := by decide +kernel
set_option maxHeartbeats 4000000 in
set_option maxRecDepth 100000 in
/-- prepare(): the table is ready, and right -/
theorem c_X_prepare (l : Launch) (dC : Nat → ClassId) (dI : Nat → Nat → Nat) (ad : Nat → Nat) (cd : Nat → ClassId) (g : ct_G) (b : ct_Bo) (t : ct_T) (hin : ct_inX g t) : ∀ sz : Nat, Met l y_X_prepare (Cond.code y_X_prepare b_X_prepare 4 none :: ct_tbl) ({ frames := 3, cells := 0, slots := 0, locals := 74 }) (va_Pc [.ref (ad 0)] (ct_Pre (dC, dI) (tX cd) (wX ad cd g b t) sz)) (ct_Qv (dC, dI) (tX cd) (fun t' : ct_T => wX ad cd g b t') (fun t' => xt_r t' = true ∧ ct_okX g t') (va_A (wX ad cd g b t) sz)) 0 0 (va_A (wX ad cd g b t) sz) := by
  refine w_start (Qk := ct_Qv (dC, dI) (tX cd) (fun t' : ct_T => wX ad cd g b t') (fun t' => xt_r t' = true ∧ ct_okX g t')) [.ref (ad 0)] (by decide) (Nat.le_of_ble_eq_true rfl) (fun pp ee s m below meth c ls A S hr hlk hP hK hD hA hl => ?_)
  obtain ⟨hx, hb, hml, hown, hts⟩ := id S
  have hl : lv_has ls 4 [(0, .ref (ad 0))] := hl
  have hS : va_S A s.heap s.heap [] := va_S.rf
  have loop2 : ∀ k i : Nat, i ≤ 432 → 432 < i + k → ∀ t1 : ct_T, ct_Inv g i t1 → ∀ (H : Heap) (locs : List Loc) (ls : Array Slot), va_P (dC, dI) classes (wX ad cd g b t1) H → va_D A (wX ad cd g b t1) → va_S A s.heap H locs → lv_has ls 4 [(0, .ref (ad 0)), (1, .int (nI i))] → W pp l ee ({ frames := 3, cells := 0, slots := 0, locals := 74 }) s m ([.ref (ad 0)] : List Value).toArray below meth c H locs 0 0 (MQ below (ct_Qv (dC, dI) (tX cd) (fun t' : ct_T => wX ad cd g b t') (fun t' => xt_r t' = true ∧ ct_okX g t') A) ([.ref (ad 0)] : List Value).toArray s 0 0 A) (F0 m 96 ls []) := by
    intro k
    induction k with
    | zero => intro i h1 h2; omega
    | succ k ih =>
      intro i hi hk t1 hI H locs ls hP hD hS hl
      have hn := ct_Inv_n hI
      refine lv_iload_n hx hb d_X_prepare_96 rfl (lv_at hl 1 rfl) ?_
      refine lv_aload_n hx hb d_X_prepare_97 rfl (lv_at hl 0 rfl) ?_
      refine xg_queued S hK hP d_X_prepare_98 ?_
      refine r_cmp_ge (tgt := 127) hx hb d_X_prepare_101 (by decide) (by omega) (by omega) (fun h_101 => ?_) (fun h_101 => ?_)
      · refine lv_aload_n hx hb d_X_prepare_127 rfl (lv_at hl 0 rfl) ?_
        refine lv_iconst (v := nI 1) hx hb d_X_prepare_128 (by decide) ?_
        refine r_top (y := ct_bI (true)) rfl ?_
        refine xp_ready S hK hP hD hS d_X_prepare_129 (fun H locs hP hD hS => ?_)
        exact w_retv hx hb hr hlk hK d_X_prepare_132 (xs_r t1 true) ⟨rfl, ct_Inv_end hI (by omega)⟩ hP hD hS
      · refine lv_iload_n hx hb d_X_prepare_104 rfl (lv_at hl 1 rfl) ?_
        refine lv_sipush (v := nI 432) hx hb d_X_prepare_105 (by decide) ?_
        refine r_cmp_ge (tgt := 127) hx hb d_X_prepare_108 (by decide) (by omega) (by omega) (fun h_108 => ?_) (fun h_108 => ?_)
        · refine lv_aload_n hx hb d_X_prepare_127 rfl (lv_at hl 0 rfl) ?_
          refine lv_iconst (v := nI 1) hx hb d_X_prepare_128 (by decide) ?_
          refine r_top (y := ct_bI (true)) rfl ?_
          refine xp_ready S hK hP hD hS d_X_prepare_129 (fun H locs hP hD hS => ?_)
          exact w_retv hx hb hr hlk hK d_X_prepare_132 (xs_r t1 true) ⟨rfl, ct_Inv_end hI (by omega)⟩ hP hD hS
        · refine lv_aload_n hx hb d_X_prepare_111 rfl (lv_at hl 0 rfl) ?_
          refine lv_aload_n hx hb d_X_prepare_112 rfl (lv_at hl 0 rfl) ?_
          refine xg_queue S hK hP d_X_prepare_113 ?_
          refine lv_iload_n hx hb d_X_prepare_116 rfl (lv_at hl 1 rfl) ?_
          refine xl_queue S hK hP (by omega) d_X_prepare_117 ?_
          refine w_callv 1 S (c_X_spread l dC dI ad cd g b t1 (xt_q t1 i) (ct_Inv_i hI h_101).1 (ct_Inv_bd hI) (ct_Inv_i hI h_101).2) gv_X_X_spread hd_X_spread ⟨(Nat.le_of_ble_eq_true rfl), (Nat.le_of_ble_eq_true rfl)⟩ ⟨rfl, rfl⟩ ⟨Nat.zero_le _, Nat.zero_le _⟩ (x_rc hK hP) hK hP hD hS hA rfl hl.1 rfl (Nat.le_of_ble_eq_true rfl) d_X_prepare_118 (fun t9 H locs ht9 hP hD hS => ?_)
          subst ht9
          refine lv_iinc (v := nI (i + 1)) (lv' := [(1, .int (nI (i + 1))), (0, .ref (ad 0))]) hx hb d_X_prepare_121 hl (k := 1) rfl (nI_add _ 1) (by decide) rfl (fun ls hl => ?_)
          refine lv_goto (tgt := 96) hx hb d_X_prepare_124 (by decide) ?_
          exact ih (i + 1) (by omega) (by omega) _ (ct_Inv_step hI h_101) _ _ ls hP hD hS (lv_sub hl [1, 0] rfl)
  have loop1 : ∀ k i : Nat, i ≤ 432 → 432 < i + k → ∀ (H : Heap) (locs : List Loc) (ls : Array Slot), va_P (dC, dI) classes (wX ad cd g b (ct_inis g t i)) H → va_D A (wX ad cd g b (ct_inis g t i)) → va_S A s.heap H locs → lv_has ls 4 [(0, .ref (ad 0)), (1, .int (nI i))] → W pp l ee ({ frames := 3, cells := 0, slots := 0, locals := 74 }) s m ([.ref (ad 0)] : List Value).toArray below meth c H locs 0 0 (MQ below (ct_Qv (dC, dI) (tX cd) (fun t' : ct_T => wX ad cd g b t') (fun t' => xt_r t' = true ∧ ct_okX g t') A) ([.ref (ad 0)] : List Value).toArray s 0 0 A) (F0 m 15 ls []) := by
    intro k
    induction k with
    | zero => intro i h1 h2; omega
    | succ k ih =>
      intro i hi hk H locs ls hP hD hS hl
      have hn := ct_inis_n g t hi
      refine lv_iload_n hx hb d_X_prepare_15 rfl (lv_at hl 1 rfl) ?_
      refine lv_sipush (v := nI 432) hx hb d_X_prepare_16 (by decide) ?_
      refine r_cmp_ge (tgt := 94) hx hb d_X_prepare_19 (by decide) (by omega) (by omega) (fun h_19 => ?_) (fun h_19 => ?_)
      · obtain rfl : i = 432 := by omega
        refine lv_iconst (v := nI 0) hx hb d_X_prepare_94 (by decide) ?_
        refine lv_istore_n (lv' := [(1, .int (nI 0)), (0, .ref (ad 0))]) hx hb d_X_prepare_95 rfl hl (by decide) rfl (fun ls hl => ?_)
        exact loop2 433 0 (by omega) (by omega) _ (ct_Inv_start g t) _ _ ls hP hD hS (lv_sub hl [1, 0] rfl)
      · refine lv_aload_n hx hb d_X_prepare_22 rfl (lv_at hl 0 rfl) ?_
        refine xg_winner S hK hP d_X_prepare_23 ?_
        refine lv_iload_n hx hb d_X_prepare_26 rfl (lv_at hl 1 rfl) ?_
        refine lv_iconst (v := nI 0) hx hb d_X_prepare_27 (by decide) ?_
        refine xa_winner S hK hP hD hS (by omega) (by omega) d_X_prepare_28 (fun H locs hP hD hS => ?_)
        refine lv_aload_n hx hb d_X_prepare_29 rfl (lv_at hl 0 rfl) ?_
        refine xg_far S hK hP d_X_prepare_30 ?_
        refine lv_iload_n hx hb d_X_prepare_33 rfl (lv_at hl 1 rfl) ?_
        refine lv_iconst (v := nI 0) hx hb d_X_prepare_34 (by decide) ?_
        refine xa_far S hK hP hD hS (by omega) (by omega) d_X_prepare_35 (fun H locs hP hD hS => ?_)
        refine lv_aload_n hx hb d_X_prepare_36 rfl (lv_at hl 0 rfl) ?_
        refine lv_iload_n hx hb d_X_prepare_37 rfl (lv_at hl 1 rfl) ?_
        refine w_callR 1 S (c_X_moveCount l dC dI ad cd g b (xs_f (xs_w (ct_inis g t i) (ct_updN (xt_w (ct_inis g t i)) i 0)) (ct_updN (xt_f (xs_w (ct_inis g t i) (ct_updN (xt_w (ct_inis g t i)) i 0))) i 0)) i (by omega)) gv_X_X_moveCount hd_X_moveCount ⟨(Nat.le_of_ble_eq_true rfl), (Nat.le_of_ble_eq_true rfl)⟩ ⟨rfl, rfl⟩ ⟨Nat.zero_le _, Nat.zero_le _⟩ (x_rc hK hP) hK hP rfl hl.1 rfl (Nat.le_of_ble_eq_true rfl) d_X_prepare_38 ?_
        refine lv_istore_n (lv' := [(2, .int (nI (ct_mc g i))), (0, .ref (ad 0)), (1, .int (nI i))]) hx hb d_X_prepare_41 rfl hl (by decide) rfl (fun ls hl => ?_)
        have hmc := ct_mc_le g i
        refine lv_aload_n hx hb d_X_prepare_42 rfl (lv_at hl 1 rfl) ?_
        refine xg_open S hK hP d_X_prepare_43 ?_
        refine lv_iload_n hx hb d_X_prepare_46 rfl (lv_at hl 2 rfl) ?_
        refine lv_iload_n hx hb d_X_prepare_47 rfl (lv_at hl 0 rfl) ?_
        refine lv_i2b (v := nI (ct_mc g i)) hx hb d_X_prepare_48 (ct_i8 _ (by omega)) ?_
        refine xa_open S hK hP hD hS (by omega) (ct_nb (by omega)) d_X_prepare_49 (fun H locs hP hD hS => ?_)
        refine lv_aload_n hx hb d_X_prepare_50 rfl (lv_at hl 1 rfl) ?_
        refine lv_iload_n hx hb d_X_prepare_51 rfl (lv_at hl 2 rfl) ?_
        refine w_callR 1 S (c_X_over l dC dI ad cd g b (xs_o (xs_f (xs_w (ct_inis g t i) (ct_updN (xt_w (ct_inis g t i)) i 0)) (ct_updN (xt_f (xs_w (ct_inis g t i) (ct_updN (xt_w (ct_inis g t i)) i 0))) i 0)) (upd (xt_o (xs_f (xs_w (ct_inis g t i) (ct_updN (xt_w (ct_inis g t i)) i 0)) (ct_updN (xt_f (xs_w (ct_inis g t i) (ct_updN (xt_w (ct_inis g t i)) i 0))) i 0))) i (nI (ct_mc g i)))) i (by omega)) gv_X_X_over hd_X_over ⟨(Nat.le_of_ble_eq_true rfl), (Nat.le_of_ble_eq_true rfl)⟩ ⟨rfl, rfl⟩ ⟨Nat.zero_le _, Nat.zero_le _⟩ (x_rc hK hP) hK hP rfl hl.1 rfl (Nat.le_of_ble_eq_true rfl) d_X_prepare_52 ?_
        refine lv_istore_n (lv' := [(3, .int (nI (ct_ov g i))), (2, .int (nI (ct_mc g i))), (0, .ref (ad 0)), (1, .int (nI i))]) hx hb d_X_prepare_55 rfl hl (by decide) rfl (fun ls hl => ?_)
        have hov := ct_ov_le g i
        have hwho := ct_who_le g i
        refine lv_iload_n hx hb d_X_prepare_56 rfl (lv_at hl 0 rfl) ?_
        refine r_if_ne (tgt := 77) hx hb d_X_prepare_57 (by decide) (by omega) (fun h_57 => ?_) (fun h_57 => ?_)
        · have e9 : ct_who g i = ct_ov g i := by simp [ct_who, h_57]
          have hl : lv_has ls 4 [(3, .int (nI (ct_who g i))), (2, .int (nI (ct_mc g i))), (0, .ref (ad 0)), (1, .int (nI i))] := by rw [e9]; exact hl
          refine lv_iload_n hx hb d_X_prepare_77 rfl (lv_at hl 0 rfl) ?_
          refine r_if_eq (tgt := 88) hx hb d_X_prepare_78 (by decide) (by omega) (fun h_78 => ?_) (fun h_78 => ?_)
          · refine lv_iinc (v := nI (i + 1)) (lv' := [(1, .int (nI (i + 1))), (3, .int (nI (ct_who g i))), (2, .int (nI (ct_mc g i))), (0, .ref (ad 0))]) hx hb d_X_prepare_88 hl (k := 3) rfl (nI_add _ 1) (by decide) rfl (fun ls hl => ?_)
            refine lv_goto (tgt := 15) hx hb d_X_prepare_91 (by decide) ?_
            have e8 : ct_inis g t (i + 1) = xs_o (xs_f (xs_w (ct_inis g t i) (ct_updN (xt_w (ct_inis g t i)) i 0)) (ct_updN (xt_f (xs_w (ct_inis g t i) (ct_updN (xt_w (ct_inis g t i)) i 0))) i 0)) (upd (xt_o (xs_f (xs_w (ct_inis g t i) (ct_updN (xt_w (ct_inis g t i)) i 0)) (ct_updN (xt_f (xs_w (ct_inis g t i) (ct_updN (xt_w (ct_inis g t i)) i 0))) i 0))) i (nI (ct_mc g i))) := if_pos h_78
            exact ih (i + 1) (by omega) (by omega) _ _ ls (by rw [e8]; exact hP) (by rw [e8]; exact hD) hS (lv_sub hl [3, 0] rfl)
          · refine lv_aload_n hx hb d_X_prepare_81 rfl (lv_at hl 2 rfl) ?_
            refine lv_iload_n hx hb d_X_prepare_82 rfl (lv_at hl 3 rfl) ?_
            refine lv_iload_n hx hb d_X_prepare_83 rfl (lv_at hl 0 rfl) ?_
            refine lv_iconst (v := nI 0) hx hb d_X_prepare_84 (by decide) ?_
            refine w_callv 3 S (c_X_settle l dC dI ad cd g b (xs_o (xs_f (xs_w (ct_inis g t i) (ct_updN (xt_w (ct_inis g t i)) i 0)) (ct_updN (xt_f (xs_w (ct_inis g t i) (ct_updN (xt_w (ct_inis g t i)) i 0))) i 0)) (upd (xt_o (xs_f (xs_w (ct_inis g t i) (ct_updN (xt_w (ct_inis g t i)) i 0)) (ct_updN (xt_f (xs_w (ct_inis g t i) (ct_updN (xt_w (ct_inis g t i)) i 0))) i 0))) i (nI (ct_mc g i)))) i (ct_who g i) 0 (by omega) (by omega) (by omega) (hn)) gv_X_X_settle hd_X_settle ⟨(Nat.le_of_ble_eq_true rfl), (Nat.le_of_ble_eq_true rfl)⟩ ⟨rfl, rfl⟩ ⟨Nat.zero_le _, Nat.zero_le _⟩ (x_rc hK hP) hK hP hD hS hA rfl hl.1 rfl (Nat.le_of_ble_eq_true rfl) d_X_prepare_85 (fun t9 H locs ht9 hP hD hS => ?_)
            subst ht9
            refine lv_iinc (v := nI (i + 1)) (lv' := [(1, .int (nI (i + 1))), (3, .int (nI (ct_who g i))), (2, .int (nI (ct_mc g i))), (0, .ref (ad 0))]) hx hb d_X_prepare_88 hl (k := 3) rfl (nI_add _ 1) (by decide) rfl (fun ls hl => ?_)
            refine lv_goto (tgt := 15) hx hb d_X_prepare_91 (by decide) ?_
            have e8 : ct_inis g t (i + 1) = ct_settle (xs_o (xs_f (xs_w (ct_inis g t i) (ct_updN (xt_w (ct_inis g t i)) i 0)) (ct_updN (xt_f (xs_w (ct_inis g t i) (ct_updN (xt_w (ct_inis g t i)) i 0))) i 0)) (upd (xt_o (xs_f (xs_w (ct_inis g t i) (ct_updN (xt_w (ct_inis g t i)) i 0)) (ct_updN (xt_f (xs_w (ct_inis g t i) (ct_updN (xt_w (ct_inis g t i)) i 0))) i 0))) i (nI (ct_mc g i)))) i (ct_who g i) 0 := if_neg h_78
            exact ih (i + 1) (by omega) (by omega) _ _ ls (by rw [e8]; exact hP) (by rw [e8]; exact hD) hS (lv_sub hl [3, 0] rfl)
        · refine lv_iload_n hx hb d_X_prepare_60 rfl (lv_at hl 1 rfl) ?_
          refine r_if_ne (tgt := 77) hx hb d_X_prepare_61 (by decide) (by omega) (fun h_61 => ?_) (fun h_61 => ?_)
          · have e9 : ct_who g i = ct_ov g i := by simp [ct_who, h_57, h_61]
            have hl : lv_has ls 4 [(3, .int (nI (ct_who g i))), (2, .int (nI (ct_mc g i))), (0, .ref (ad 0)), (1, .int (nI i))] := by rw [e9]; exact hl
            refine lv_iload_n hx hb d_X_prepare_77 rfl (lv_at hl 0 rfl) ?_
            refine r_if_eq (tgt := 88) hx hb d_X_prepare_78 (by decide) (by omega) (fun h_78 => ?_) (fun h_78 => ?_)
            · refine lv_iinc (v := nI (i + 1)) (lv' := [(1, .int (nI (i + 1))), (3, .int (nI (ct_who g i))), (2, .int (nI (ct_mc g i))), (0, .ref (ad 0))]) hx hb d_X_prepare_88 hl (k := 3) rfl (nI_add _ 1) (by decide) rfl (fun ls hl => ?_)
              refine lv_goto (tgt := 15) hx hb d_X_prepare_91 (by decide) ?_
              have e8 : ct_inis g t (i + 1) = xs_o (xs_f (xs_w (ct_inis g t i) (ct_updN (xt_w (ct_inis g t i)) i 0)) (ct_updN (xt_f (xs_w (ct_inis g t i) (ct_updN (xt_w (ct_inis g t i)) i 0))) i 0)) (upd (xt_o (xs_f (xs_w (ct_inis g t i) (ct_updN (xt_w (ct_inis g t i)) i 0)) (ct_updN (xt_f (xs_w (ct_inis g t i) (ct_updN (xt_w (ct_inis g t i)) i 0))) i 0))) i (nI (ct_mc g i))) := if_pos h_78
              exact ih (i + 1) (by omega) (by omega) _ _ ls (by rw [e8]; exact hP) (by rw [e8]; exact hD) hS (lv_sub hl [3, 0] rfl)
            · refine lv_aload_n hx hb d_X_prepare_81 rfl (lv_at hl 2 rfl) ?_
              refine lv_iload_n hx hb d_X_prepare_82 rfl (lv_at hl 3 rfl) ?_
              refine lv_iload_n hx hb d_X_prepare_83 rfl (lv_at hl 0 rfl) ?_
              refine lv_iconst (v := nI 0) hx hb d_X_prepare_84 (by decide) ?_
              refine w_callv 3 S (c_X_settle l dC dI ad cd g b (xs_o (xs_f (xs_w (ct_inis g t i) (ct_updN (xt_w (ct_inis g t i)) i 0)) (ct_updN (xt_f (xs_w (ct_inis g t i) (ct_updN (xt_w (ct_inis g t i)) i 0))) i 0)) (upd (xt_o (xs_f (xs_w (ct_inis g t i) (ct_updN (xt_w (ct_inis g t i)) i 0)) (ct_updN (xt_f (xs_w (ct_inis g t i) (ct_updN (xt_w (ct_inis g t i)) i 0))) i 0))) i (nI (ct_mc g i)))) i (ct_who g i) 0 (by omega) (by omega) (by omega) (hn)) gv_X_X_settle hd_X_settle ⟨(Nat.le_of_ble_eq_true rfl), (Nat.le_of_ble_eq_true rfl)⟩ ⟨rfl, rfl⟩ ⟨Nat.zero_le _, Nat.zero_le _⟩ (x_rc hK hP) hK hP hD hS hA rfl hl.1 rfl (Nat.le_of_ble_eq_true rfl) d_X_prepare_85 (fun t9 H locs ht9 hP hD hS => ?_)
              subst ht9
              refine lv_iinc (v := nI (i + 1)) (lv' := [(1, .int (nI (i + 1))), (3, .int (nI (ct_who g i))), (2, .int (nI (ct_mc g i))), (0, .ref (ad 0))]) hx hb d_X_prepare_88 hl (k := 3) rfl (nI_add _ 1) (by decide) rfl (fun ls hl => ?_)
              refine lv_goto (tgt := 15) hx hb d_X_prepare_91 (by decide) ?_
              have e8 : ct_inis g t (i + 1) = ct_settle (xs_o (xs_f (xs_w (ct_inis g t i) (ct_updN (xt_w (ct_inis g t i)) i 0)) (ct_updN (xt_f (xs_w (ct_inis g t i) (ct_updN (xt_w (ct_inis g t i)) i 0))) i 0)) (upd (xt_o (xs_f (xs_w (ct_inis g t i) (ct_updN (xt_w (ct_inis g t i)) i 0)) (ct_updN (xt_f (xs_w (ct_inis g t i) (ct_updN (xt_w (ct_inis g t i)) i 0))) i 0))) i (nI (ct_mc g i)))) i (ct_who g i) 0 := if_neg h_78
              exact ih (i + 1) (by omega) (by omega) _ _ ls (by rw [e8]; exact hP) (by rw [e8]; exact hD) hS (lv_sub hl [3, 0] rfl)
          · refine lv_iload_n hx hb d_X_prepare_64 rfl (lv_at hl 3 rfl) ?_
            refine lv_iconst (v := nI 2) hx hb d_X_prepare_65 (by decide) ?_
            refine r_rem hx hb d_X_prepare_66 (by omega) (by decide) (by decide) ?_
            refine lv_iconst (v := nI 1) hx hb d_X_prepare_67 (by decide) ?_
            refine r_cmp_ne (tgt := 75) hx hb d_X_prepare_68 (by decide) (by omega) (by omega) (fun h_68 => ?_) (fun h_68 => ?_)
            · refine lv_iconst (v := nI 2) hx hb d_X_prepare_75 (by decide) ?_
              refine lv_istore_n (lv' := [(3, .int (nI 2)), (2, .int (nI (ct_mc g i))), (0, .ref (ad 0)), (1, .int (nI i))]) hx hb d_X_prepare_76 rfl hl (by decide) rfl (fun ls hl => ?_)
              have e9 : ct_who g i = 2 := by simp [ct_who, h_57, h_61, h_68]
              have hl : lv_has ls 4 [(3, .int (nI (ct_who g i))), (2, .int (nI (ct_mc g i))), (0, .ref (ad 0)), (1, .int (nI i))] := by rw [e9]; exact hl
              refine lv_iload_n hx hb d_X_prepare_77 rfl (lv_at hl 0 rfl) ?_
              refine r_if_eq (tgt := 88) hx hb d_X_prepare_78 (by decide) (by omega) (fun h_78 => ?_) (fun h_78 => ?_)
              · refine lv_iinc (v := nI (i + 1)) (lv' := [(1, .int (nI (i + 1))), (3, .int (nI (ct_who g i))), (2, .int (nI (ct_mc g i))), (0, .ref (ad 0))]) hx hb d_X_prepare_88 hl (k := 3) rfl (nI_add _ 1) (by decide) rfl (fun ls hl => ?_)
                refine lv_goto (tgt := 15) hx hb d_X_prepare_91 (by decide) ?_
                have e8 : ct_inis g t (i + 1) = xs_o (xs_f (xs_w (ct_inis g t i) (ct_updN (xt_w (ct_inis g t i)) i 0)) (ct_updN (xt_f (xs_w (ct_inis g t i) (ct_updN (xt_w (ct_inis g t i)) i 0))) i 0)) (upd (xt_o (xs_f (xs_w (ct_inis g t i) (ct_updN (xt_w (ct_inis g t i)) i 0)) (ct_updN (xt_f (xs_w (ct_inis g t i) (ct_updN (xt_w (ct_inis g t i)) i 0))) i 0))) i (nI (ct_mc g i))) := if_pos h_78
                exact ih (i + 1) (by omega) (by omega) _ _ ls (by rw [e8]; exact hP) (by rw [e8]; exact hD) hS (lv_sub hl [3, 0] rfl)
              · refine lv_aload_n hx hb d_X_prepare_81 rfl (lv_at hl 2 rfl) ?_
                refine lv_iload_n hx hb d_X_prepare_82 rfl (lv_at hl 3 rfl) ?_
                refine lv_iload_n hx hb d_X_prepare_83 rfl (lv_at hl 0 rfl) ?_
                refine lv_iconst (v := nI 0) hx hb d_X_prepare_84 (by decide) ?_
                refine w_callv 3 S (c_X_settle l dC dI ad cd g b (xs_o (xs_f (xs_w (ct_inis g t i) (ct_updN (xt_w (ct_inis g t i)) i 0)) (ct_updN (xt_f (xs_w (ct_inis g t i) (ct_updN (xt_w (ct_inis g t i)) i 0))) i 0)) (upd (xt_o (xs_f (xs_w (ct_inis g t i) (ct_updN (xt_w (ct_inis g t i)) i 0)) (ct_updN (xt_f (xs_w (ct_inis g t i) (ct_updN (xt_w (ct_inis g t i)) i 0))) i 0))) i (nI (ct_mc g i)))) i (ct_who g i) 0 (by omega) (by omega) (by omega) (hn)) gv_X_X_settle hd_X_settle ⟨(Nat.le_of_ble_eq_true rfl), (Nat.le_of_ble_eq_true rfl)⟩ ⟨rfl, rfl⟩ ⟨Nat.zero_le _, Nat.zero_le _⟩ (x_rc hK hP) hK hP hD hS hA rfl hl.1 rfl (Nat.le_of_ble_eq_true rfl) d_X_prepare_85 (fun t9 H locs ht9 hP hD hS => ?_)
                subst ht9
                refine lv_iinc (v := nI (i + 1)) (lv' := [(1, .int (nI (i + 1))), (3, .int (nI (ct_who g i))), (2, .int (nI (ct_mc g i))), (0, .ref (ad 0))]) hx hb d_X_prepare_88 hl (k := 3) rfl (nI_add _ 1) (by decide) rfl (fun ls hl => ?_)
                refine lv_goto (tgt := 15) hx hb d_X_prepare_91 (by decide) ?_
                have e8 : ct_inis g t (i + 1) = ct_settle (xs_o (xs_f (xs_w (ct_inis g t i) (ct_updN (xt_w (ct_inis g t i)) i 0)) (ct_updN (xt_f (xs_w (ct_inis g t i) (ct_updN (xt_w (ct_inis g t i)) i 0))) i 0)) (upd (xt_o (xs_f (xs_w (ct_inis g t i) (ct_updN (xt_w (ct_inis g t i)) i 0)) (ct_updN (xt_f (xs_w (ct_inis g t i) (ct_updN (xt_w (ct_inis g t i)) i 0))) i 0))) i (nI (ct_mc g i)))) i (ct_who g i) 0 := if_neg h_78
                exact ih (i + 1) (by omega) (by omega) _ _ ls (by rw [e8]; exact hP) (by rw [e8]; exact hD) hS (lv_sub hl [3, 0] rfl)
            · refine lv_iconst (v := nI 1) hx hb d_X_prepare_71 (by decide) ?_
              refine lv_goto (tgt := 76) hx hb d_X_prepare_72 (by decide) ?_
              refine lv_istore_n (lv' := [(3, .int (nI 1)), (2, .int (nI (ct_mc g i))), (0, .ref (ad 0)), (1, .int (nI i))]) hx hb d_X_prepare_76 rfl hl (by decide) rfl (fun ls hl => ?_)
              have e9 : ct_who g i = 1 := by simp [ct_who, h_57, h_61, h_68]
              have hl : lv_has ls 4 [(3, .int (nI (ct_who g i))), (2, .int (nI (ct_mc g i))), (0, .ref (ad 0)), (1, .int (nI i))] := by rw [e9]; exact hl
              refine lv_iload_n hx hb d_X_prepare_77 rfl (lv_at hl 0 rfl) ?_
              refine r_if_eq (tgt := 88) hx hb d_X_prepare_78 (by decide) (by omega) (fun h_78 => ?_) (fun h_78 => ?_)
              · refine lv_iinc (v := nI (i + 1)) (lv' := [(1, .int (nI (i + 1))), (3, .int (nI (ct_who g i))), (2, .int (nI (ct_mc g i))), (0, .ref (ad 0))]) hx hb d_X_prepare_88 hl (k := 3) rfl (nI_add _ 1) (by decide) rfl (fun ls hl => ?_)
                refine lv_goto (tgt := 15) hx hb d_X_prepare_91 (by decide) ?_
                have e8 : ct_inis g t (i + 1) = xs_o (xs_f (xs_w (ct_inis g t i) (ct_updN (xt_w (ct_inis g t i)) i 0)) (ct_updN (xt_f (xs_w (ct_inis g t i) (ct_updN (xt_w (ct_inis g t i)) i 0))) i 0)) (upd (xt_o (xs_f (xs_w (ct_inis g t i) (ct_updN (xt_w (ct_inis g t i)) i 0)) (ct_updN (xt_f (xs_w (ct_inis g t i) (ct_updN (xt_w (ct_inis g t i)) i 0))) i 0))) i (nI (ct_mc g i))) := if_pos h_78
                exact ih (i + 1) (by omega) (by omega) _ _ ls (by rw [e8]; exact hP) (by rw [e8]; exact hD) hS (lv_sub hl [3, 0] rfl)
              · refine lv_aload_n hx hb d_X_prepare_81 rfl (lv_at hl 2 rfl) ?_
                refine lv_iload_n hx hb d_X_prepare_82 rfl (lv_at hl 3 rfl) ?_
                refine lv_iload_n hx hb d_X_prepare_83 rfl (lv_at hl 0 rfl) ?_
                refine lv_iconst (v := nI 0) hx hb d_X_prepare_84 (by decide) ?_
                refine w_callv 3 S (c_X_settle l dC dI ad cd g b (xs_o (xs_f (xs_w (ct_inis g t i) (ct_updN (xt_w (ct_inis g t i)) i 0)) (ct_updN (xt_f (xs_w (ct_inis g t i) (ct_updN (xt_w (ct_inis g t i)) i 0))) i 0)) (upd (xt_o (xs_f (xs_w (ct_inis g t i) (ct_updN (xt_w (ct_inis g t i)) i 0)) (ct_updN (xt_f (xs_w (ct_inis g t i) (ct_updN (xt_w (ct_inis g t i)) i 0))) i 0))) i (nI (ct_mc g i)))) i (ct_who g i) 0 (by omega) (by omega) (by omega) (hn)) gv_X_X_settle hd_X_settle ⟨(Nat.le_of_ble_eq_true rfl), (Nat.le_of_ble_eq_true rfl)⟩ ⟨rfl, rfl⟩ ⟨Nat.zero_le _, Nat.zero_le _⟩ (x_rc hK hP) hK hP hD hS hA rfl hl.1 rfl (Nat.le_of_ble_eq_true rfl) d_X_prepare_85 (fun t9 H locs ht9 hP hD hS => ?_)
                subst ht9
                refine lv_iinc (v := nI (i + 1)) (lv' := [(1, .int (nI (i + 1))), (3, .int (nI (ct_who g i))), (2, .int (nI (ct_mc g i))), (0, .ref (ad 0))]) hx hb d_X_prepare_88 hl (k := 3) rfl (nI_add _ 1) (by decide) rfl (fun ls hl => ?_)
                refine lv_goto (tgt := 15) hx hb d_X_prepare_91 (by decide) ?_
                have e8 : ct_inis g t (i + 1) = ct_settle (xs_o (xs_f (xs_w (ct_inis g t i) (ct_updN (xt_w (ct_inis g t i)) i 0)) (ct_updN (xt_f (xs_w (ct_inis g t i) (ct_updN (xt_w (ct_inis g t i)) i 0))) i 0)) (upd (xt_o (xs_f (xs_w (ct_inis g t i) (ct_updN (xt_w (ct_inis g t i)) i 0)) (ct_updN (xt_f (xs_w (ct_inis g t i) (ct_updN (xt_w (ct_inis g t i)) i 0))) i 0))) i (nI (ct_mc g i)))) i (ct_who g i) 0 := if_neg h_78
                exact ih (i + 1) (by omega) (by omega) _ _ ls (by rw [e8]; exact hP) (by rw [e8]; exact hD) hS (lv_sub hl [3, 0] rfl)
  refine lv_aload_n hx hb d_X_prepare_0 rfl (lv_at hl 0 rfl) ?_
  refine xg_ready S hK hP d_X_prepare_1 ?_
  refine r_bif_eq (tgt := 8) hx hb d_X_prepare_4 (by decide) (fun h_4 => ?_) (fun h_4 => ?_)
  · refine lv_aload_n hx hb d_X_prepare_8 rfl (lv_at hl 0 rfl) ?_
    refine lv_iconst (v := nI 0) hx hb d_X_prepare_9 (by decide) ?_
    refine xp_queued S hK hP hD hS d_X_prepare_10 (fun H locs hP hD hS => ?_)
    refine lv_iconst (v := nI 0) hx hb d_X_prepare_13 (by decide) ?_
    refine lv_istore_n (lv' := [(1, .int (nI 0)), (0, .ref (ad 0))]) hx hb d_X_prepare_14 rfl hl (by decide) rfl (fun ls hl => ?_)
    exact loop1 433 0 (by omega) (by omega) _ _ ls hP hD hS (lv_sub hl [1, 0] rfl)
  · exact w_retv hx hb hr hlk hK d_X_prepare_7 (t) ⟨h_4, hin h_4⟩ hP hD hS
set_option maxHeartbeats 4000000 in
set_option maxRecDepth 100000 in
/-- outcome(x, y, z, o) -/
theorem c_X_outcome (l : Launch) (dC : Nat → ClassId) (dI : Nat → Nat → Nat) (ad : Nat → Nat) (cd : Nat → ClassId) (g : ct_G) (b : ct_Bo) (t : ct_T) (hin : ct_inX g t) (x y z : Int32) (o : Bool) : ∀ sz : Nat, Met l y_X_outcome (Cond.code y_X_outcome b_X_outcome 6 (some .int) :: ct_tbl) ({ frames := 4, cells := 0, slots := 0, locals := 97 }) (va_Pc [.ref (ad 0), .int x, .int y, .int z, .int (ct_bI o)] (ct_Pre (dC, dI) (tX cd) (wX ad cd g b t) sz)) (ct_Qi (dC, dI) (tX cd) (fun t' : ct_T => wX ad cd g b t') (fun (r : Int32) (t' : ct_T) => r = ct_outR g x y z o ∧ ct_inX g t') (va_A (wX ad cd g b t) sz)) 0 0 (va_A (wX ad cd g b t) sz) := by
  refine w_start (Qk := ct_Qi (dC, dI) (tX cd) (fun t' : ct_T => wX ad cd g b t') (fun (r : Int32) (t' : ct_T) => r = ct_outR g x y z o ∧ ct_inX g t')) [.ref (ad 0), .int x, .int y, .int z, .int (ct_bI o)] (by decide) (Nat.le_of_ble_eq_true rfl) (fun pp ee s m below meth c ls A S hr hlk hP hK hD hA hl => ?_)
  obtain ⟨hx, hb, hml, hown, hts⟩ := id S
  have hl : lv_has ls 6 [(0, .ref (ad 0)), (1, .int x), (2, .int y), (3, .int z), (4, .int (ct_bI o))] := hl
  have hS : va_S A s.heap s.heap [] := va_S.rf
  refine lv_iload_n hx hb d_X_outcome_0 rfl (lv_at hl 1 rfl) ?_
  refine r_callS 1 S (c_X_off l x) gs_X_X_off hd_X_off ⟨(Nat.le_of_ble_eq_true rfl), (Nat.le_of_ble_eq_true rfl)⟩ ⟨rfl, rfl⟩ ⟨Nat.zero_le _, Nat.zero_le _⟩ rfl hl.1 rfl (Nat.le_of_ble_eq_true rfl) d_X_outcome_1 ?_
  refine r_bif_ne (tgt := 21) hx hb d_X_outcome_4 (by decide) (fun h_4 => ?_) (fun h_4 => ?_)
  · refine lv_iconst (v := (-1)) hx hb d_X_outcome_21 (by decide) ?_
    exact w_reti hx hb hr hlk hK d_X_outcome_22 (t) (⟨by simp [ct_outR, ct_bad3, h_4], hin⟩) hP hD hS
  · refine lv_iload_n hx hb d_X_outcome_7 rfl (lv_at hl 2 rfl) ?_
    refine r_callS 1 S (c_X_off l y) gs_X_X_off hd_X_off ⟨(Nat.le_of_ble_eq_true rfl), (Nat.le_of_ble_eq_true rfl)⟩ ⟨rfl, rfl⟩ ⟨Nat.zero_le _, Nat.zero_le _⟩ rfl hl.1 rfl (Nat.le_of_ble_eq_true rfl) d_X_outcome_8 ?_
    refine r_bif_ne (tgt := 21) hx hb d_X_outcome_11 (by decide) (fun h_11 => ?_) (fun h_11 => ?_)
    · refine lv_iconst (v := (-1)) hx hb d_X_outcome_21 (by decide) ?_
      exact w_reti hx hb hr hlk hK d_X_outcome_22 (t) (⟨by simp [ct_outR, ct_bad3, h_4, h_11], hin⟩) hP hD hS
    · refine lv_iload_n hx hb d_X_outcome_14 rfl (lv_at hl 3 rfl) ?_
      refine r_callS 1 S (c_X_off l z) gs_X_X_off hd_X_off ⟨(Nat.le_of_ble_eq_true rfl), (Nat.le_of_ble_eq_true rfl)⟩ ⟨rfl, rfl⟩ ⟨Nat.zero_le _, Nat.zero_le _⟩ rfl hl.1 rfl (Nat.le_of_ble_eq_true rfl) d_X_outcome_15 ?_
      refine r_bif_eq (tgt := 23) hx hb d_X_outcome_18 (by decide) (fun h_18 => ?_) (fun h_18 => ?_)
      · obtain ⟨j1, hj1, rfl⟩ := ct_off_f h_4
        obtain ⟨j2, hj2, rfl⟩ := ct_off_f h_11
        obtain ⟨j3, hj3, rfl⟩ := ct_off_f h_18
        refine lv_aload_n hx hb d_X_outcome_23 rfl (lv_at hl 0 rfl) ?_
        refine w_callv 0 S (c_X_prepare l dC dI ad cd g b t hin) gv_X_X_prepare hd_X_prepare ⟨(Nat.le_of_ble_eq_true rfl), (Nat.le_of_ble_eq_true rfl)⟩ ⟨rfl, rfl⟩ ⟨Nat.zero_le _, Nat.zero_le _⟩ (x_rc hK hP) hK hP hD hS hA rfl hl.1 rfl (Nat.le_of_ble_eq_true rfl) d_X_outcome_24 (fun t9 H locs ht9 hP hD hS => ?_)
        refine lv_iload_n hx hb d_X_outcome_27 rfl (lv_at hl 1 rfl) ?_
        refine lv_iload_n hx hb d_X_outcome_28 rfl (lv_at hl 2 rfl) ?_
        refine lv_iload_n hx hb d_X_outcome_29 rfl (lv_at hl 3 rfl) ?_
        refine lv_iload hx hb d_X_outcome_30 (lv_at hl 4 rfl) ?_
        refine r_callS 4 S (c_X_number l j1 j2 j3 o) gs_X_X_number hd_X_number ⟨(Nat.le_of_ble_eq_true rfl), (Nat.le_of_ble_eq_true rfl)⟩ ⟨rfl, rfl⟩ ⟨Nat.zero_le _, Nat.zero_le _⟩ rfl hl.1 rfl (Nat.le_of_ble_eq_true rfl) d_X_outcome_32 ?_
        have hN := ct_num_lt o hj1 hj2 hj3
        obtain ⟨hw9, hf9⟩ := ht9.2 _ hN
        have hwl := ct_win_le g (ct_num j1 j2 j3 o.toNat)
        refine lv_istore (lv' := [(5, .int (nI (ct_num j1 j2 j3 o.toNat))), (0, .ref (ad 0)), (1, .int (nI j1)), (2, .int (nI j2)), (3, .int (nI j3)), (4, .int (ct_bI o))]) hx hb d_X_outcome_35 hl (by decide) rfl (fun ls hl => ?_)
        refine lv_aload_n hx hb d_X_outcome_37 rfl (lv_at hl 1 rfl) ?_
        refine xg_winner S hK hP d_X_outcome_38 ?_
        refine lv_iload hx hb d_X_outcome_41 (lv_at hl 0 rfl) ?_
        refine xl_winner S hK hP (by omega) d_X_outcome_43 ?_
        exact w_reti hx hb hr hlk hK d_X_outcome_44 (t9) (⟨by rw [ct_outR_n hj1 hj2 hj3 h_4 h_11 h_18, hw9], fun _ => ht9.2⟩) hP hD hS
      · refine lv_iconst (v := (-1)) hx hb d_X_outcome_21 (by decide) ?_
        exact w_reti hx hb hr hlk hK d_X_outcome_22 (t) (⟨by simp [ct_outR, ct_bad3, h_4, h_11, h_18], hin⟩) hP hD hS
set_option maxHeartbeats 4000000 in
set_option maxRecDepth 100000 in
/-- length(x, y, z, o) -/
theorem c_X_length (l : Launch) (dC : Nat → ClassId) (dI : Nat → Nat → Nat) (ad : Nat → Nat) (cd : Nat → ClassId) (g : ct_G) (b : ct_Bo) (t : ct_T) (hin : ct_inX g t) (x y z : Int32) (o : Bool) : ∀ sz : Nat, Met l y_X_length (Cond.code y_X_length b_X_length 6 (some .int) :: ct_tbl) ({ frames := 4, cells := 0, slots := 0, locals := 97 }) (va_Pc [.ref (ad 0), .int x, .int y, .int z, .int (ct_bI o)] (ct_Pre (dC, dI) (tX cd) (wX ad cd g b t) sz)) (ct_Qi (dC, dI) (tX cd) (fun t' : ct_T => wX ad cd g b t') (fun (r : Int32) (t' : ct_T) => r = ct_lenR g x y z o ∧ ct_inX g t') (va_A (wX ad cd g b t) sz)) 0 0 (va_A (wX ad cd g b t) sz) := by
  refine w_start (Qk := ct_Qi (dC, dI) (tX cd) (fun t' : ct_T => wX ad cd g b t') (fun (r : Int32) (t' : ct_T) => r = ct_lenR g x y z o ∧ ct_inX g t')) [.ref (ad 0), .int x, .int y, .int z, .int (ct_bI o)] (by decide) (Nat.le_of_ble_eq_true rfl) (fun pp ee s m below meth c ls A S hr hlk hP hK hD hA hl => ?_)
  obtain ⟨hx, hb, hml, hown, hts⟩ := id S
  have hl : lv_has ls 6 [(0, .ref (ad 0)), (1, .int x), (2, .int y), (3, .int z), (4, .int (ct_bI o))] := hl
  have hS : va_S A s.heap s.heap [] := va_S.rf
  refine lv_iload_n hx hb d_X_length_0 rfl (lv_at hl 1 rfl) ?_
  refine r_callS 1 S (c_X_off l x) gs_X_X_off hd_X_off ⟨(Nat.le_of_ble_eq_true rfl), (Nat.le_of_ble_eq_true rfl)⟩ ⟨rfl, rfl⟩ ⟨Nat.zero_le _, Nat.zero_le _⟩ rfl hl.1 rfl (Nat.le_of_ble_eq_true rfl) d_X_length_1 ?_
  refine r_bif_ne (tgt := 21) hx hb d_X_length_4 (by decide) (fun h_4 => ?_) (fun h_4 => ?_)
  · refine lv_iconst (v := (-1)) hx hb d_X_length_21 (by decide) ?_
    exact w_reti hx hb hr hlk hK d_X_length_22 (t) (⟨by simp [ct_lenR, ct_bad3, h_4], hin⟩) hP hD hS
  · refine lv_iload_n hx hb d_X_length_7 rfl (lv_at hl 2 rfl) ?_
    refine r_callS 1 S (c_X_off l y) gs_X_X_off hd_X_off ⟨(Nat.le_of_ble_eq_true rfl), (Nat.le_of_ble_eq_true rfl)⟩ ⟨rfl, rfl⟩ ⟨Nat.zero_le _, Nat.zero_le _⟩ rfl hl.1 rfl (Nat.le_of_ble_eq_true rfl) d_X_length_8 ?_
    refine r_bif_ne (tgt := 21) hx hb d_X_length_11 (by decide) (fun h_11 => ?_) (fun h_11 => ?_)
    · refine lv_iconst (v := (-1)) hx hb d_X_length_21 (by decide) ?_
      exact w_reti hx hb hr hlk hK d_X_length_22 (t) (⟨by simp [ct_lenR, ct_bad3, h_4, h_11], hin⟩) hP hD hS
    · refine lv_iload_n hx hb d_X_length_14 rfl (lv_at hl 3 rfl) ?_
      refine r_callS 1 S (c_X_off l z) gs_X_X_off hd_X_off ⟨(Nat.le_of_ble_eq_true rfl), (Nat.le_of_ble_eq_true rfl)⟩ ⟨rfl, rfl⟩ ⟨Nat.zero_le _, Nat.zero_le _⟩ rfl hl.1 rfl (Nat.le_of_ble_eq_true rfl) d_X_length_15 ?_
      refine r_bif_eq (tgt := 23) hx hb d_X_length_18 (by decide) (fun h_18 => ?_) (fun h_18 => ?_)
      · obtain ⟨j1, hj1, rfl⟩ := ct_off_f h_4
        obtain ⟨j2, hj2, rfl⟩ := ct_off_f h_11
        obtain ⟨j3, hj3, rfl⟩ := ct_off_f h_18
        refine lv_aload_n hx hb d_X_length_23 rfl (lv_at hl 0 rfl) ?_
        refine w_callv 0 S (c_X_prepare l dC dI ad cd g b t hin) gv_X_X_prepare hd_X_prepare ⟨(Nat.le_of_ble_eq_true rfl), (Nat.le_of_ble_eq_true rfl)⟩ ⟨rfl, rfl⟩ ⟨Nat.zero_le _, Nat.zero_le _⟩ (x_rc hK hP) hK hP hD hS hA rfl hl.1 rfl (Nat.le_of_ble_eq_true rfl) d_X_length_24 (fun t9 H locs ht9 hP hD hS => ?_)
        refine lv_iload_n hx hb d_X_length_27 rfl (lv_at hl 1 rfl) ?_
        refine lv_iload_n hx hb d_X_length_28 rfl (lv_at hl 2 rfl) ?_
        refine lv_iload_n hx hb d_X_length_29 rfl (lv_at hl 3 rfl) ?_
        refine lv_iload hx hb d_X_length_30 (lv_at hl 4 rfl) ?_
        refine r_callS 4 S (c_X_number l j1 j2 j3 o) gs_X_X_number hd_X_number ⟨(Nat.le_of_ble_eq_true rfl), (Nat.le_of_ble_eq_true rfl)⟩ ⟨rfl, rfl⟩ ⟨Nat.zero_le _, Nat.zero_le _⟩ rfl hl.1 rfl (Nat.le_of_ble_eq_true rfl) d_X_length_32 ?_
        have hN := ct_num_lt o hj1 hj2 hj3
        obtain ⟨hw9, hf9⟩ := ht9.2 _ hN
        have hwl := ct_win_le g (ct_num j1 j2 j3 o.toNat)
        refine lv_istore (lv' := [(5, .int (nI (ct_num j1 j2 j3 o.toNat))), (0, .ref (ad 0)), (1, .int (nI j1)), (2, .int (nI j2)), (3, .int (nI j3)), (4, .int (ct_bI o))]) hx hb d_X_length_35 hl (by decide) rfl (fun ls hl => ?_)
        refine lv_aload_n hx hb d_X_length_37 rfl (lv_at hl 1 rfl) ?_
        refine xg_winner S hK hP d_X_length_38 ?_
        refine lv_iload hx hb d_X_length_41 (lv_at hl 0 rfl) ?_
        refine xl_winner S hK hP (by omega) d_X_length_43 ?_
        refine r_if_ne (tgt := 52) hx hb d_X_length_44 (by decide) (by omega) (fun h_44 => ?_) (fun h_44 => ?_)
        · refine lv_aload_n hx hb d_X_length_52 rfl (lv_at hl 1 rfl) ?_
          refine xg_far S hK hP d_X_length_53 ?_
          refine lv_iload hx hb d_X_length_56 (lv_at hl 0 rfl) ?_
          refine xl_far S hK hP (by omega) d_X_length_58 ?_
          exact w_reti hx hb hr hlk hK d_X_length_59 (t9) (⟨by rw [ct_lenR_n hj1 hj2 hj3 h_4 h_11 h_18, ct_len_w (by omega), hf9 (by omega)], fun _ => ht9.2⟩) hP hD hS
        · refine lv_bipush (v := (-3)) hx hb d_X_length_47 (by decide) ?_
          refine lv_goto (tgt := 59) hx hb d_X_length_49 (by decide) ?_
          exact w_reti hx hb hr hlk hK d_X_length_59 (t9) (⟨by rw [ct_lenR_n hj1 hj2 hj3 h_4 h_11 h_18, ct_len_0 (by omega)], fun _ => ht9.2⟩) hP hD hS
      · refine lv_iconst (v := (-1)) hx hb d_X_length_21 (by decide) ?_
        exact w_reti hx hb hr hlk hK d_X_length_22 (t) (⟨by simp [ct_lenR, ct_bad3, h_4, h_11, h_18], hin⟩) hP hD hS
set_option maxHeartbeats 4000000 in
set_option maxRecDepth 100000 in
/-- best() -/
theorem c_X_best (l : Launch) (dC : Nat → ClassId) (dI : Nat → Nat → Nat) (ad : Nat → Nat) (cd : Nat → ClassId) (g : ct_G) (b : ct_Bo) (t : ct_T) (hin : ct_inX g t) (hbo : ct_inB b) : ∀ sz : Nat, Met l y_X_best (Cond.code y_X_best b_X_best 4 (some .int) :: ct_tbl) ({ frames := 4, cells := 0, slots := 0, locals := 97 }) (va_Pc [.ref (ad 0)] (ct_Pre (dC, dI) (tX cd) (wX ad cd g b t) sz)) (ct_Qi (dC, dI) (tX cd) (fun t' : ct_T => wX ad cd g b t') (fun (r : Int32) (t' : ct_T) => r = ct_best g (ct_nb9 b) ∧ ct_inX g t') (va_A (wX ad cd g b t) sz)) 0 0 (va_A (wX ad cd g b t) sz) := by
  refine w_start (Qk := ct_Qi (dC, dI) (tX cd) (fun t' : ct_T => wX ad cd g b t') (fun (r : Int32) (t' : ct_T) => r = ct_best g (ct_nb9 b) ∧ ct_inX g t')) [.ref (ad 0)] (by decide) (Nat.le_of_ble_eq_true rfl) (fun pp ee s m below meth c ls A S hr hlk hP hK hD hA hl => ?_)
  obtain ⟨hx, hb, hml, hown, hts⟩ := id S
  have hl : lv_has ls 4 [(0, .ref (ad 0))] := hl
  have hS : va_S A s.heap s.heap [] := va_S.rf
  have hN := ct_nb9_lt hbo
  refine lv_aload_n hx hb d_X_best_0 rfl (lv_at hl 0 rfl) ?_
  refine w_callv 0 S (c_X_prepare l dC dI ad cd g b t hin) gv_X_X_prepare hd_X_prepare ⟨(Nat.le_of_ble_eq_true rfl), (Nat.le_of_ble_eq_true rfl)⟩ ⟨rfl, rfl⟩ ⟨Nat.zero_le _, Nat.zero_le _⟩ (x_rc hK hP) hK hP hD hS hA rfl hl.1 rfl (Nat.le_of_ble_eq_true rfl) d_X_best_1 (fun t9 H locs ht9 hP hD hS => ?_)
  refine lv_aload_n hx hb d_X_best_4 rfl (lv_at hl 0 rfl) ?_
  refine xg_boardA S hK hP d_X_best_5 ?_
  refine lv_aload_n hx hb d_X_best_8 rfl (lv_at hl 0 rfl) ?_
  refine xg_boardB S hK hP d_X_best_9 ?_
  refine lv_aload_n hx hb d_X_best_12 rfl (lv_at hl 0 rfl) ?_
  refine xg_boardT S hK hP d_X_best_13 ?_
  refine lv_aload_n hx hb d_X_best_16 rfl (lv_at hl 0 rfl) ?_
  refine xg_boardThief S hK hP d_X_best_17 ?_
  refine r_callS 4 S (c_X_number l b.1 b.2.1 b.2.2.1 b.2.2.2) gs_X_X_number hd_X_number ⟨(Nat.le_of_ble_eq_true rfl), (Nat.le_of_ble_eq_true rfl)⟩ ⟨rfl, rfl⟩ ⟨Nat.zero_le _, Nat.zero_le _⟩ rfl hl.1 rfl (Nat.le_of_ble_eq_true rfl) d_X_best_20 ?_
  refine r_top (y := nI (ct_nb9 b)) (rfl) ?_
  refine lv_istore_n (lv' := [(1, .int (nI (ct_nb9 b))), (0, .ref (ad 0))]) hx hb d_X_best_23 rfl hl (by decide) rfl (fun ls hl => ?_)
  refine lv_iconst (v := nI 0) hx hb d_X_best_24 (by decide) ?_
  refine lv_istore_n (lv' := [(2, .int (nI 0)), (1, .int (nI (ct_nb9 b))), (0, .ref (ad 0))]) hx hb d_X_best_25 rfl hl (by decide) rfl (fun ls hl => ?_)
  obtain ⟨hwN, hfN⟩ := ht9.2 _ hN
  have hwlN := ct_win_le g (ct_nb9 b)
  have hflN := ct_far_le g (ct_nb9 b)
  have loop : ∀ k i : Nat, i + k = 13 → ct_best g (ct_nb9 b) = ct_fst (ct_bok g (ct_nb9 b)) k i → ∀ ls : Array Slot, lv_has ls 4 [(0, .ref (ad 0)), (1, .int (nI (ct_nb9 b))), (2, .int (nI i))] → W pp l ee ({ frames := 4, cells := 0, slots := 0, locals := 97 }) s m ([.ref (ad 0)] : List Value).toArray below meth c H locs 0 0 (MQ below (ct_Qi (dC, dI) (tX cd) (fun t' : ct_T => wX ad cd g b t') (fun (r : Int32) (t' : ct_T) => r = ct_best g (ct_nb9 b) ∧ ct_inX g t') A) ([.ref (ad 0)] : List Value).toArray s 0 0 A) (F0 m 26 ls []) := by
    intro k
    induction k with
    | zero =>
      intro i hi he ls hl
      refine lv_iload_n hx hb d_X_best_26 rfl (lv_at hl 2 rfl) ?_
      refine lv_bipush (v := nI 12) hx hb d_X_best_27 (by decide) ?_
      refine r_cmp_gt (tgt := 92) hx hb d_X_best_29 (by decide) (by omega) (by omega) (fun h_29 => ?_) (fun h_29 => ?_)
      · refine lv_bipush (v := (-2)) hx hb d_X_best_92 (by decide) ?_
        exact w_reti hx hb hr hlk hK d_X_best_94 (t9) (⟨he.symm, fun _ => ht9.2⟩) hP hD hS
      · omega
    | succ k ih =>
      intro i hi he ls hl
      refine lv_iload_n hx hb d_X_best_26 rfl (lv_at hl 2 rfl) ?_
      refine lv_bipush (v := nI 12) hx hb d_X_best_27 (by decide) ?_
      refine r_cmp_gt (tgt := 92) hx hb d_X_best_29 (by decide) (by omega) (by omega) (fun h_29 => ?_) (fun h_29 => ?_)
      · omega
      · refine lv_aload_n hx hb d_X_best_32 rfl (lv_at hl 0 rfl) ?_
        refine lv_iload_n hx hb d_X_best_33 rfl (lv_at hl 1 rfl) ?_
        refine lv_iload_n hx hb d_X_best_34 rfl (lv_at hl 2 rfl) ?_
        refine w_callR 2 S (c_X_after l dC dI ad cd g b t9 (ct_nb9 b) hN (nI i)) gv_X_X_after hd_X_after ⟨(Nat.le_of_ble_eq_true rfl), (Nat.le_of_ble_eq_true rfl)⟩ ⟨rfl, rfl⟩ ⟨Nat.zero_le _, Nat.zero_le _⟩ (x_rc hK hP) hK hP rfl hl.1 rfl (Nat.le_of_ble_eq_true rfl) d_X_best_35 ?_
        refine r_af (fun ho => ?_) (fun q9 ho => ?_)
        · refine lv_istore_n (lv' := [(3, .int (-1)), (0, .ref (ad 0)), (1, .int (nI (ct_nb9 b))), (2, .int (nI i))]) hx hb d_X_best_38 rfl hl (by decide) rfl (fun ls hl => ?_)
          refine lv_iload_n hx hb d_X_best_39 rfl (lv_at hl 0 rfl) ?_
          refine r_iflt_m (tgt := 86) hx hb d_X_best_40 (by decide) ?_
          refine lv_iinc (v := nI (i + 1)) (lv' := [(2, .int (nI (i + 1))), (3, .int (-1)), (0, .ref (ad 0)), (1, .int (nI (ct_nb9 b)))]) hx hb d_X_best_86 hl (k := 3) rfl (nI_add _ 1) (by decide) rfl (fun ls hl => ?_)
          refine lv_goto (tgt := 26) hx hb d_X_best_89 (by decide) ?_
          have e9 : ct_bok g (ct_nb9 b) i = false := ct_bokX_n (by omega) ho
          exact ih (i + 1) (by omega) (by rw [he, ct_fst_f e9]) ls (lv_sub hl [2, 3, 0] rfl)
        · have hq9 := ct_afX_some hN ho
          obtain ⟨hwq, hfq⟩ := ht9.2 _ hq9
          have hwlq := ct_win_le g q9
          have hflq := ct_far_le g q9
          refine lv_istore_n (lv' := [(3, .int (nI q9)), (0, .ref (ad 0)), (1, .int (nI (ct_nb9 b))), (2, .int (nI i))]) hx hb d_X_best_38 rfl hl (by decide) rfl (fun ls hl => ?_)
          refine lv_iload_n hx hb d_X_best_39 rfl (lv_at hl 0 rfl) ?_
          refine r_iflt_n (tgt := 86) hx hb d_X_best_40 (by decide) (by omega) ?_
          refine lv_aload_n hx hb d_X_best_43 rfl (lv_at hl 1 rfl) ?_
          refine xg_winner S hK hP d_X_best_44 ?_
          refine lv_iload_n hx hb d_X_best_47 rfl (lv_at hl 0 rfl) ?_
          refine xl_winner S hK hP (by omega) d_X_best_48 ?_
          refine lv_aload_n hx hb d_X_best_49 rfl (lv_at hl 1 rfl) ?_
          refine xg_winner S hK hP d_X_best_50 ?_
          refine lv_iload_n hx hb d_X_best_53 rfl (lv_at hl 2 rfl) ?_
          refine xl_winner S hK hP (by omega) d_X_best_54 ?_
          refine r_cmp_ne (tgt := 86) hx hb d_X_best_55 (by decide) (by omega) (by omega) (fun h_55 => ?_) (fun h_55 => ?_)
          · refine lv_iinc (v := nI (i + 1)) (lv' := [(2, .int (nI (i + 1))), (3, .int (nI q9)), (0, .ref (ad 0)), (1, .int (nI (ct_nb9 b)))]) hx hb d_X_best_86 hl (k := 3) rfl (nI_add _ 1) (by decide) rfl (fun ls hl => ?_)
            refine lv_goto (tgt := 26) hx hb d_X_best_89 (by decide) ?_
            have e9 : ct_bok g (ct_nb9 b) i = false := by rw [ct_bokX_s (by omega) ho]; have h5 : ¬ ct_win g q9 = ct_win g (ct_nb9 b) := (by omega); simp [h5]
            exact ih (i + 1) (by omega) (by rw [he, ct_fst_f e9]) ls (lv_sub hl [2, 3, 0] rfl)
          · refine lv_aload_n hx hb d_X_best_58 rfl (lv_at hl 1 rfl) ?_
            refine xg_winner S hK hP d_X_best_59 ?_
            refine lv_iload_n hx hb d_X_best_62 rfl (lv_at hl 2 rfl) ?_
            refine xl_winner S hK hP (by omega) d_X_best_63 ?_
            refine r_if_eq (tgt := 84) hx hb d_X_best_64 (by decide) (by omega) (fun h_64 => ?_) (fun h_64 => ?_)
            · refine lv_iload_n hx hb d_X_best_84 rfl (lv_at hl 3 rfl) ?_
              exact w_reti hx hb hr hlk hK d_X_best_85 (t9) (⟨by rw [he, ct_fst_t (by rw [ct_bokX_s (by omega) ho]; have h6 : ct_win g (ct_nb9 b) = 0 := (by omega); have h5 : ct_win g q9 = ct_win g (ct_nb9 b) := (by omega); simp [h5, h6])], fun _ => ht9.2⟩) hP hD hS
            · refine lv_aload_n hx hb d_X_best_67 rfl (lv_at hl 1 rfl) ?_
              refine xg_far S hK hP d_X_best_68 ?_
              refine lv_iload_n hx hb d_X_best_71 rfl (lv_at hl 0 rfl) ?_
              refine xl_far S hK hP (by omega) d_X_best_72 ?_
              refine lv_aload_n hx hb d_X_best_73 rfl (lv_at hl 1 rfl) ?_
              refine xg_far S hK hP d_X_best_74 ?_
              refine lv_iload_n hx hb d_X_best_77 rfl (lv_at hl 2 rfl) ?_
              refine xl_far S hK hP (by omega) d_X_best_78 ?_
              refine lv_iconst (v := nI 1) hx hb d_X_best_79 (by decide) ?_
              refine lv_isub hx hb d_X_best_80 ?_
              refine lv_icmp_ne (tgt := 86) hx hb d_X_best_81 (by decide) (fun h_81 => ?_) (fun h_81 => ?_)
              · refine lv_iinc (v := nI (i + 1)) (lv' := [(2, .int (nI (i + 1))), (3, .int (nI q9)), (0, .ref (ad 0)), (1, .int (nI (ct_nb9 b)))]) hx hb d_X_best_86 hl (k := 3) rfl (nI_add _ 1) (by decide) rfl (fun ls hl => ?_)
                refine lv_goto (tgt := 26) hx hb d_X_best_89 (by decide) ?_
                have e9 : ct_bok g (ct_nb9 b) i = false := by rw [ct_bokX_s (by omega) ho]; have h8 : ¬ ct_far g q9 + 1 = ct_far g (ct_nb9 b) := (fun z => h_81 (by rw [hfq (by omega), hfN (by omega)]; exact (ct_m1 (by omega) (by omega)).mpr z)); have h6 : ¬ ct_win g (ct_nb9 b) = 0 := (by omega); simp [h8, h6]
                exact ih (i + 1) (by omega) (by rw [he, ct_fst_f e9]) ls (lv_sub hl [2, 3, 0] rfl)
              · refine lv_iload_n hx hb d_X_best_84 rfl (lv_at hl 3 rfl) ?_
                exact w_reti hx hb hr hlk hK d_X_best_85 (t9) (⟨by rw [he, ct_fst_t (by rw [ct_bokX_s (by omega) ho]; have h8 : ct_far g q9 + 1 = ct_far g (ct_nb9 b) := (ct_m1 (by omega) (by omega)).mp (by rw [← hfq (by omega), ← hfN (by omega)]; exact h_81); have h5 : ct_win g q9 = ct_win g (ct_nb9 b) := (by omega); simp [h8, h5])], fun _ => ht9.2⟩) hP hD hS
  exact loop 13 0 rfl rfl ls (lv_sub hl [2, 1, 0] rfl)
set_option maxHeartbeats 4000000 in
set_option maxRecDepth 100000 in
/-- total(x) -/
theorem c_X_total (l : Launch) (dC : Nat → ClassId) (dI : Nat → Nat → Nat) (ad : Nat → Nat) (cd : Nat → ClassId) (g : ct_G) (b : ct_Bo) (t : ct_T) (hin : ct_inX g t) (x : Int32) : ∀ sz : Nat, Met l y_X_total (Cond.code y_X_total b_X_total 4 (some .int) :: ct_tbl) ({ frames := 4, cells := 0, slots := 0, locals := 97 }) (va_Pc [.ref (ad 0), .int x] (ct_Pre (dC, dI) (tX cd) (wX ad cd g b t) sz)) (ct_Qi (dC, dI) (tX cd) (fun t' : ct_T => wX ad cd g b t') (fun (r : Int32) (t' : ct_T) => r = nI (ct_tot g x 432) ∧ ct_inX g t') (va_A (wX ad cd g b t) sz)) 0 0 (va_A (wX ad cd g b t) sz) := by
  refine w_start (Qk := ct_Qi (dC, dI) (tX cd) (fun t' : ct_T => wX ad cd g b t') (fun (r : Int32) (t' : ct_T) => r = nI (ct_tot g x 432) ∧ ct_inX g t')) [.ref (ad 0), .int x] (by decide) (Nat.le_of_ble_eq_true rfl) (fun pp ee s m below meth c ls A S hr hlk hP hK hD hA hl => ?_)
  obtain ⟨hx, hb, hml, hown, hts⟩ := id S
  have hl : lv_has ls 4 [(0, .ref (ad 0)), (1, .int x)] := hl
  have hS : va_S A s.heap s.heap [] := va_S.rf
  refine lv_aload_n hx hb d_X_total_0 rfl (lv_at hl 0 rfl) ?_
  refine w_callv 0 S (c_X_prepare l dC dI ad cd g b t hin) gv_X_X_prepare hd_X_prepare ⟨(Nat.le_of_ble_eq_true rfl), (Nat.le_of_ble_eq_true rfl)⟩ ⟨rfl, rfl⟩ ⟨Nat.zero_le _, Nat.zero_le _⟩ (x_rc hK hP) hK hP hD hS hA rfl hl.1 rfl (Nat.le_of_ble_eq_true rfl) d_X_total_1 (fun t9 H locs ht9 hP hD hS => ?_)
  refine lv_iconst (v := nI 0) hx hb d_X_total_4 (by decide) ?_
  refine lv_istore_n (lv' := [(2, .int (nI 0)), (0, .ref (ad 0)), (1, .int x)]) hx hb d_X_total_5 rfl hl (by decide) rfl (fun ls hl => ?_)
  refine lv_iconst (v := nI 0) hx hb d_X_total_6 (by decide) ?_
  refine lv_istore_n (lv' := [(3, .int (nI 0)), (2, .int (nI 0)), (0, .ref (ad 0)), (1, .int x)]) hx hb d_X_total_7 rfl hl (by decide) rfl (fun ls hl => ?_)
  have loop : ∀ k i : Nat, i ≤ 432 → 432 < i + k → ∀ ls : Array Slot, lv_has ls 4 [(0, .ref (ad 0)), (1, .int x), (2, .int (nI (ct_tot g x i))), (3, .int (nI i))] → W pp l ee ({ frames := 4, cells := 0, slots := 0, locals := 97 }) s m ([.ref (ad 0), .int x] : List Value).toArray below meth c H locs 0 0 (MQ below (ct_Qi (dC, dI) (tX cd) (fun t' : ct_T => wX ad cd g b t') (fun (r : Int32) (t' : ct_T) => r = nI (ct_tot g x 432) ∧ ct_inX g t') A) ([.ref (ad 0), .int x] : List Value).toArray s 0 0 A) (F0 m 8 ls []) := by
    intro k
    induction k with
    | zero => intro i h1 h2; omega
    | succ k ih =>
      intro i hi hk ls hl
      refine lv_iload_n hx hb d_X_total_8 rfl (lv_at hl 3 rfl) ?_
      refine lv_sipush (v := nI 432) hx hb d_X_total_9 (by decide) ?_
      refine r_cmp_ge (tgt := 34) hx hb d_X_total_12 (by decide) (by omega) (by omega) (fun h_12 => ?_) (fun h_12 => ?_)
      · obtain rfl : i = 432 := by omega
        refine lv_iload_n hx hb d_X_total_34 rfl (lv_at hl 2 rfl) ?_
        exact w_reti hx hb hr hlk hK d_X_total_35 (t9) (⟨rfl, fun _ => ht9.2⟩) hP hD hS
      · refine lv_aload_n hx hb d_X_total_15 rfl (lv_at hl 0 rfl) ?_
        refine xg_winner S hK hP d_X_total_16 ?_
        refine lv_iload_n hx hb d_X_total_19 rfl (lv_at hl 3 rfl) ?_
        refine xl_winner S hK hP (by omega) d_X_total_20 ?_
        refine lv_iload_n hx hb d_X_total_21 rfl (lv_at hl 1 rfl) ?_
        refine lv_icmp_ne (tgt := 28) hx hb d_X_total_22 (by decide) (fun h_22 => ?_) (fun h_22 => ?_)
        · have e9 : ct_tot g x (i + 1) = ct_tot g x i := by
            show ct_tot g x i + (if nI (ct_win g i) = x then 1 else 0) = _
            rw [← (ht9.2 i (by omega)).1, if_neg h_22, Nat.add_zero]
          have hl : lv_has ls 4 [(0, .ref (ad 0)), (1, .int x), (2, .int (nI (ct_tot g x (i + 1)))), (3, .int (nI i))] := by rw [e9]; exact hl
          refine lv_iinc (v := nI (i + 1)) (lv' := [(3, .int (nI (i + 1))), (0, .ref (ad 0)), (1, .int x), (2, .int (nI (ct_tot g x (i + 1))))]) hx hb d_X_total_28 hl (k := 3) rfl (nI_add _ 1) (by decide) rfl (fun ls hl => ?_)
          refine lv_goto (tgt := 8) hx hb d_X_total_31 (by decide) ?_
          exact ih (i + 1) (by omega) (by omega) ls (lv_sub hl [1, 2, 3, 0] rfl)
        · refine lv_iinc (v := nI (ct_tot g x i + 1)) (lv' := [(2, .int (nI (ct_tot g x i + 1))), (0, .ref (ad 0)), (1, .int x), (3, .int (nI i))]) hx hb d_X_total_25 hl (k := 2) rfl (nI_add _ 1) (by decide) rfl (fun ls hl => ?_)
          have e9 : ct_tot g x (i + 1) = ct_tot g x i + 1 := by
            show ct_tot g x i + (if nI (ct_win g i) = x then 1 else 0) = _
            rw [← (ht9.2 i (by omega)).1, if_pos h_22]
          have hl : lv_has ls 4 [(2, .int (nI (ct_tot g x (i + 1)))), (0, .ref (ad 0)), (1, .int x), (3, .int (nI i))] := by rw [e9]; exact hl
          refine lv_iinc (v := nI (i + 1)) (lv' := [(3, .int (nI (i + 1))), (2, .int (nI (ct_tot g x (i + 1)))), (0, .ref (ad 0)), (1, .int x)]) hx hb d_X_total_28 hl (k := 3) rfl (nI_add _ 1) (by decide) rfl (fun ls hl => ?_)
          refine lv_goto (tgt := 8) hx hb d_X_total_31 (by decide) ?_
          exact ih (i + 1) (by omega) (by omega) ls (lv_sub hl [2, 3, 1, 0] rfl)
  exact loop 433 0 (by omega) (by omega) ls (lv_sub hl [2, 3, 1, 0] rfl)
set_option maxHeartbeats 4000000 in
set_option maxRecDepth 100000 in
/-- longest(x) -/
theorem c_X_longest (l : Launch) (dC : Nat → ClassId) (dI : Nat → Nat → Nat) (ad : Nat → Nat) (cd : Nat → ClassId) (g : ct_G) (b : ct_Bo) (t : ct_T) (hin : ct_inX g t) (x : Int32) : ∀ sz : Nat, Met l y_X_longest (Cond.code y_X_longest b_X_longest 4 (some .int) :: ct_tbl) ({ frames := 4, cells := 0, slots := 0, locals := 97 }) (va_Pc [.ref (ad 0), .int x] (ct_Pre (dC, dI) (tX cd) (wX ad cd g b t) sz)) (ct_Qi (dC, dI) (tX cd) (fun t' : ct_T => wX ad cd g b t') (fun (r : Int32) (t' : ct_T) => r = ct_lng g x 432 ∧ ct_inX g t') (va_A (wX ad cd g b t) sz)) 0 0 (va_A (wX ad cd g b t) sz) := by
  refine w_start (Qk := ct_Qi (dC, dI) (tX cd) (fun t' : ct_T => wX ad cd g b t') (fun (r : Int32) (t' : ct_T) => r = ct_lng g x 432 ∧ ct_inX g t')) [.ref (ad 0), .int x] (by decide) (Nat.le_of_ble_eq_true rfl) (fun pp ee s m below meth c ls A S hr hlk hP hK hD hA hl => ?_)
  obtain ⟨hx, hb, hml, hown, hts⟩ := id S
  have hl : lv_has ls 4 [(0, .ref (ad 0)), (1, .int x)] := hl
  have hS : va_S A s.heap s.heap [] := va_S.rf
  have tail : (x = nI 1 ∨ x = nI 2) → ∀ ls : Array Slot, lv_has ls 4 [(0, .ref (ad 0)), (1, .int x)] → W pp l ee ({ frames := 4, cells := 0, slots := 0, locals := 97 }) s m ([.ref (ad 0), .int x] : List Value).toArray below meth c s.heap [] 0 0 (MQ below (ct_Qi (dC, dI) (tX cd) (fun t' : ct_T => wX ad cd g b t') (fun (r : Int32) (t' : ct_T) => r = ct_lng g x 432 ∧ ct_inX g t') A) ([.ref (ad 0), .int x] : List Value).toArray s 0 0 A) (F0 m 13 ls []) := by
    intro hx9 ls hl
    refine lv_aload_n hx hb d_X_longest_13 rfl (lv_at hl 0 rfl) ?_
    refine w_callv 0 S (c_X_prepare l dC dI ad cd g b t hin) gv_X_X_prepare hd_X_prepare ⟨(Nat.le_of_ble_eq_true rfl), (Nat.le_of_ble_eq_true rfl)⟩ ⟨rfl, rfl⟩ ⟨Nat.zero_le _, Nat.zero_le _⟩ (x_rc hK hP) hK hP hD hS hA rfl hl.1 rfl (Nat.le_of_ble_eq_true rfl) d_X_longest_14 (fun t9 H locs ht9 hP hD hS => ?_)
    refine lv_bipush (v := (-3)) hx hb d_X_longest_17 (by decide) ?_
    refine lv_istore_n (lv' := [(2, .int (-3)), (0, .ref (ad 0)), (1, .int x)]) hx hb d_X_longest_19 rfl hl (by decide) rfl (fun ls hl => ?_)
    refine lv_iconst (v := nI 0) hx hb d_X_longest_20 (by decide) ?_
    refine lv_istore_n (lv' := [(3, .int (nI 0)), (2, .int (-3)), (0, .ref (ad 0)), (1, .int x)]) hx hb d_X_longest_21 rfl hl (by decide) rfl (fun ls hl => ?_)
    have hx0 : ∀ i, i < 432 → nI (xt_w t9 i) = x → ct_len g i = nI (xt_f t9 i) := by
      intro i hi h
      obtain ⟨a1, a2⟩ := ht9.2 i hi
      have a3 := ct_win_le g i
      have a4 : ct_win g i ≠ 0 := by
        intro z
        rw [a1, z] at h
        rcases hx9 with y | y <;> rw [y] at h <;> exact absurd h (by decide)
      rw [ct_len_w a4, a2 a4]
    have loop : ∀ k i : Nat, i ≤ 432 → 432 < i + k → ∀ ls : Array Slot, lv_has ls 4 [(0, .ref (ad 0)), (1, .int x), (2, .int (ct_lng g x i)), (3, .int (nI i))] → W pp l ee ({ frames := 4, cells := 0, slots := 0, locals := 97 }) s m ([.ref (ad 0), .int x] : List Value).toArray below meth c H locs 0 0 (MQ below (ct_Qi (dC, dI) (tX cd) (fun t' : ct_T => wX ad cd g b t') (fun (r : Int32) (t' : ct_T) => r = ct_lng g x 432 ∧ ct_inX g t') A) ([.ref (ad 0), .int x] : List Value).toArray s 0 0 A) (F0 m 22 ls []) := by
      intro k
      induction k with
      | zero => intro i h1 h2; omega
      | succ k ih =>
        intro i hi hk ls hl
        refine lv_iload_n hx hb d_X_longest_22 rfl (lv_at hl 3 rfl) ?_
        refine lv_sipush (v := nI 432) hx hb d_X_longest_23 (by decide) ?_
        refine r_cmp_ge (tgt := 62) hx hb d_X_longest_26 (by decide) (by omega) (by omega) (fun h_26 => ?_) (fun h_26 => ?_)
        · obtain rfl : i = 432 := by omega
          refine lv_iload_n hx hb d_X_longest_62 rfl (lv_at hl 2 rfl) ?_
          exact w_reti hx hb hr hlk hK d_X_longest_63 (t9) (⟨rfl, fun _ => ht9.2⟩) hP hD hS
        · refine lv_aload_n hx hb d_X_longest_29 rfl (lv_at hl 0 rfl) ?_
          refine xg_winner S hK hP d_X_longest_30 ?_
          refine lv_iload_n hx hb d_X_longest_33 rfl (lv_at hl 3 rfl) ?_
          refine xl_winner S hK hP (by omega) d_X_longest_34 ?_
          refine lv_iload_n hx hb d_X_longest_35 rfl (lv_at hl 1 rfl) ?_
          refine lv_icmp_ne (tgt := 56) hx hb d_X_longest_36 (by decide) (fun h_36 => ?_) (fun h_36 => ?_)
          · have e9 : ct_lng g x (i + 1) = (ct_lng g x i) := by
              show (if nI (ct_win g i) = x ∧ ct_lng g x i < ct_len g i then ct_len g i else ct_lng g x i) = _
              rw [← (ht9.2 i (by omega)).1, if_neg (fun z => h_36 z.1)]
            have hl : lv_has ls 4 [(0, .ref (ad 0)), (1, .int x), (2, .int (ct_lng g x (i + 1))), (3, .int (nI i))] := by rw [e9]; exact hl
            refine lv_iinc (v := nI (i + 1)) (lv' := [(3, .int (nI (i + 1))), (0, .ref (ad 0)), (1, .int x), (2, .int (ct_lng g x (i + 1)))]) hx hb d_X_longest_56 hl (k := 3) rfl (nI_add _ 1) (by decide) rfl (fun ls hl => ?_)
            refine lv_goto (tgt := 22) hx hb d_X_longest_59 (by decide) ?_
            exact ih (i + 1) (by omega) (by omega) ls (lv_sub hl [1, 2, 3, 0] rfl)
          · refine lv_aload_n hx hb d_X_longest_39 rfl (lv_at hl 0 rfl) ?_
            refine xg_far S hK hP d_X_longest_40 ?_
            refine lv_iload_n hx hb d_X_longest_43 rfl (lv_at hl 3 rfl) ?_
            refine xl_far S hK hP (by omega) d_X_longest_44 ?_
            refine lv_iload_n hx hb d_X_longest_45 rfl (lv_at hl 2 rfl) ?_
            refine lv_icmp_le (tgt := 56) hx hb d_X_longest_46 (by decide) (fun h_46 => ?_) (fun h_46 => ?_)
            · have e9 : ct_lng g x (i + 1) = (ct_lng g x i) := by
                show (if nI (ct_win g i) = x ∧ ct_lng g x i < ct_len g i then ct_len g i else ct_lng g x i) = _
                rw [← (ht9.2 i (by omega)).1, hx0 i (by omega) h_36, if_neg (fun z => ct_nlt h_46 z.2)]
              have hl : lv_has ls 4 [(0, .ref (ad 0)), (1, .int x), (2, .int (ct_lng g x (i + 1))), (3, .int (nI i))] := by rw [e9]; exact hl
              refine lv_iinc (v := nI (i + 1)) (lv' := [(3, .int (nI (i + 1))), (0, .ref (ad 0)), (1, .int x), (2, .int (ct_lng g x (i + 1)))]) hx hb d_X_longest_56 hl (k := 3) rfl (nI_add _ 1) (by decide) rfl (fun ls hl => ?_)
              refine lv_goto (tgt := 22) hx hb d_X_longest_59 (by decide) ?_
              exact ih (i + 1) (by omega) (by omega) ls (lv_sub hl [1, 2, 3, 0] rfl)
            · refine lv_aload_n hx hb d_X_longest_49 rfl (lv_at hl 0 rfl) ?_
              refine xg_far S hK hP d_X_longest_50 ?_
              refine lv_iload_n hx hb d_X_longest_53 rfl (lv_at hl 3 rfl) ?_
              refine xl_far S hK hP (by omega) d_X_longest_54 ?_
              refine lv_istore_n (lv' := [(2, .int (nI (xt_f t9 i))), (0, .ref (ad 0)), (1, .int x), (3, .int (nI i))]) hx hb d_X_longest_55 rfl hl (by decide) rfl (fun ls hl => ?_)
              have e9 : ct_lng g x (i + 1) = nI (xt_f t9 i) := by
                show (if nI (ct_win g i) = x ∧ ct_lng g x i < ct_len g i then ct_len g i else ct_lng g x i) = _
                rw [← (ht9.2 i (by omega)).1, hx0 i (by omega) h_36, if_pos ⟨h_36, ct_nle h_46⟩]
              have hl : lv_has ls 4 [(2, .int (ct_lng g x (i + 1))), (0, .ref (ad 0)), (1, .int x), (3, .int (nI i))] := by rw [e9]; exact hl
              refine lv_iinc (v := nI (i + 1)) (lv' := [(3, .int (nI (i + 1))), (2, .int (ct_lng g x (i + 1))), (0, .ref (ad 0)), (1, .int x)]) hx hb d_X_longest_56 hl (k := 3) rfl (nI_add _ 1) (by decide) rfl (fun ls hl => ?_)
              refine lv_goto (tgt := 22) hx hb d_X_longest_59 (by decide) ?_
              exact ih (i + 1) (by omega) (by omega) ls (lv_sub hl [2, 3, 1, 0] rfl)
    exact loop 433 0 (by omega) (by omega) ls (lv_sub hl [2, 3, 1, 0] rfl)
  refine lv_iload_n hx hb d_X_longest_0 rfl (lv_at hl 1 rfl) ?_
  refine lv_iconst (v := nI 1) hx hb d_X_longest_1 (by decide) ?_
  refine lv_icmp_eq (tgt := 13) hx hb d_X_longest_2 (by decide) (fun h_2 => ?_) (fun h_2 => ?_)
  · exact tail (Or.inl h_2) ls (lv_sub hl [0, 1] rfl)
  · refine lv_iload_n hx hb d_X_longest_5 rfl (lv_at hl 1 rfl) ?_
    refine lv_iconst (v := nI 2) hx hb d_X_longest_6 (by decide) ?_
    refine lv_icmp_eq (tgt := 13) hx hb d_X_longest_7 (by decide) (fun h_7 => ?_) (fun h_7 => ?_)
    · exact tail (Or.inr h_7) ls (lv_sub hl [0, 1] rfl)
    · refine lv_bipush (v := (-3)) hx hb d_X_longest_10 (by decide) ?_
      exact w_reti hx hb hr hlk hK d_X_longest_12 (t) (⟨(ct_lng_no h_2 h_7 432).symm, hin⟩) hP hD hS
end
section
set_option maxHeartbeats 4000000 in
set_option maxRecDepth 100000 in
/-- door(x, y, o) -/
theorem c_X_door (l : Launch) (dC : Nat → ClassId) (dI : Nat → Nat → Nat) (ad : Nat → Nat) (cd : Nat → ClassId) (g : ct_G) (b : ct_Bo) (t : ct_T) (hin : ct_inX g t) (x y : Int32) (o : Bool) : ∀ sz : Nat, Met l y_X_door (Cond.code y_X_door b_X_door 5 (some .int) :: ct_tbl) ({ frames := 1, cells := 0, slots := 0, locals := 20 }) (va_Pc [.ref (ad 0), .int x, .int y, .int (ct_bI o)] (ct_Pre (dC, dI) (tX cd) (wX ad cd g b t) sz)) (ct_Qi (dC, dI) (tX cd) (fun u : ct_G × ct_T => wX ad cd u.1 b u.2) (fun (r : Int32) (u : ct_G × ct_T) => r = ct_doorR g x y ∧ u.1 = ct_doorG g x y o ∧ ct_inX u.1 u.2) (va_A (wX ad cd g b t) sz)) 0 0 (va_A (wX ad cd g b t) sz) := by
  refine w_start (Qk := ct_Qi (dC, dI) (tX cd) (fun u : ct_G × ct_T => wX ad cd u.1 b u.2) (fun (r : Int32) (u : ct_G × ct_T) => r = ct_doorR g x y ∧ u.1 = ct_doorG g x y o ∧ ct_inX u.1 u.2)) [.ref (ad 0), .int x, .int y, .int (ct_bI o)] (by decide) (Nat.le_of_ble_eq_true rfl) (fun pp ee s m below meth c ls A S hr hlk hP hK hD hA hl => ?_)
  obtain ⟨hx, hb, hml, hown, hts⟩ := id S
  have hl : lv_has ls 5 [(0, .ref (ad 0)), (1, .int x), (2, .int y), (3, .int (ct_bI o))] := hl
  have hS : va_S A s.heap s.heap [] := va_S.rf
  refine lv_iload_n hx hb d_X_door_0 rfl (lv_at hl 1 rfl) ?_
  refine r_callS 1 S (c_X_off l x) gs_X_X_off hd_X_off ⟨(Nat.le_of_ble_eq_true rfl), (Nat.le_of_ble_eq_true rfl)⟩ ⟨rfl, rfl⟩ ⟨Nat.zero_le _, Nat.zero_le _⟩ rfl hl.1 rfl (Nat.le_of_ble_eq_true rfl) d_X_door_1 ?_
  refine r_bif_ne (tgt := 14) hx hb d_X_door_4 (by decide) (fun h_4 => ?_) (fun h_4 => ?_)
  · refine lv_iconst (v := (-1)) hx hb d_X_door_14 (by decide) ?_
    exact w_reti hx hb hr hlk hK d_X_door_15 (g, t) (⟨ct_doorR_b (Or.inl h_4), ct_doorG_b (Or.inl h_4), hin⟩) hP hD hS
  · refine lv_iload_n hx hb d_X_door_7 rfl (lv_at hl 2 rfl) ?_
    refine r_callS 1 S (c_X_off l y) gs_X_X_off hd_X_off ⟨(Nat.le_of_ble_eq_true rfl), (Nat.le_of_ble_eq_true rfl)⟩ ⟨rfl, rfl⟩ ⟨Nat.zero_le _, Nat.zero_le _⟩ rfl hl.1 rfl (Nat.le_of_ble_eq_true rfl) d_X_door_8 ?_
    refine r_bif_eq (tgt := 16) hx hb d_X_door_11 (by decide) (fun h_11 => ?_) (fun h_11 => ?_)
    · obtain ⟨j1, hj1, rfl⟩ := ct_off_f h_4
      obtain ⟨j2, hj2, rfl⟩ := ct_off_f h_11
      refine lv_iload_n hx hb d_X_door_16 rfl (lv_at hl 1 rfl) ?_
      refine lv_iload_n hx hb d_X_door_17 rfl (lv_at hl 2 rfl) ?_
      refine r_cmp_ne (tgt := 24) hx hb d_X_door_18 (by decide) (by omega) (by omega) (fun h_18 => ?_) (fun h_18 => ?_)
      · refine lv_aload_n hx hb d_X_door_24 rfl (lv_at hl 0 rfl) ?_
        refine xg_out S hK hP d_X_door_25 ?_
        refine lv_iload_n hx hb d_X_door_28 rfl (lv_at hl 1 rfl) ?_
        refine xl_out S hK hP (by omega) d_X_door_29 ?_
        refine lv_iload_n hx hb d_X_door_30 rfl (lv_at hl 2 rfl) ?_
        refine lv_ishr hx hb d_X_door_31 ?_
        refine lv_iconst (v := nI 1) hx hb d_X_door_32 (by decide) ?_
        refine lv_iand hx hb d_X_door_33 ?_
        refine r_top (y := ct_bI (g.1 j1 j2)) (ct_bit (f := fun j => g.1 j1 j) (by omega)) ?_
        refine lv_istore (lv' := [(4, .int (ct_bI (g.1 j1 j2))), (0, .ref (ad 0)), (1, .int (nI j1)), (2, .int (nI j2)), (3, .int (ct_bI o))]) hx hb d_X_door_34 hl (by decide) rfl (fun ls hl => ?_)
        refine lv_aload_n hx hb d_X_door_36 rfl (lv_at hl 1 rfl) ?_
        refine xg_out S hK hP d_X_door_37 ?_
        refine lv_iload_n hx hb d_X_door_40 rfl (lv_at hl 2 rfl) ?_
        refine lv_dup2_11 hx hb d_X_door_41 rfl rfl ?_
        refine xl_out S hK hP (by omega) d_X_door_42 ?_
        refine lv_iconst (v := nI 1) hx hb d_X_door_43 (by decide) ?_
        refine lv_iload_n hx hb d_X_door_44 rfl (lv_at hl 3 rfl) ?_
        refine lv_ishl hx hb d_X_door_45 ?_
        refine lv_iconst (v := (-1)) hx hb d_X_door_46 (by decide) ?_
        refine lv_ixor hx hb d_X_door_47 ?_
        refine lv_iand hx hb d_X_door_48 ?_
        refine r_top (y := (ct_mk6 (ct_updB (fun j => g.1 j1 j) j2 false))) (ct_clr (by omega)) ?_
        refine xa_out S hK hP hD hS (by omega) d_X_door_49 (fun H locs hP hD hS => ?_)
        refine lv_aload_n hx hb d_X_door_50 rfl (lv_at hl 1 rfl) ?_
        refine xg_in S hK hP d_X_door_51 ?_
        refine lv_iload_n hx hb d_X_door_54 rfl (lv_at hl 3 rfl) ?_
        refine lv_dup2_11 hx hb d_X_door_55 rfl rfl ?_
        refine xl_in S hK hP (by omega) d_X_door_56 ?_
        refine lv_iconst (v := nI 1) hx hb d_X_door_57 (by decide) ?_
        refine lv_iload_n hx hb d_X_door_58 rfl (lv_at hl 2 rfl) ?_
        refine lv_ishl hx hb d_X_door_59 ?_
        refine lv_iconst (v := (-1)) hx hb d_X_door_60 (by decide) ?_
        refine lv_ixor hx hb d_X_door_61 ?_
        refine lv_iand hx hb d_X_door_62 ?_
        refine r_top (y := (ct_mk6 (ct_updB (fun i => g.1 i j2) j1 false))) (ct_clr (by omega)) ?_
        refine xa_in S hK hP hD hS (by omega) d_X_door_63 (fun H locs hP hD hS => ?_)
        refine lv_iload_n hx hb d_X_door_64 rfl (lv_at hl 4 rfl) ?_
        refine r_bif_eq (tgt := 92) hx hb d_X_door_65 (by decide) (fun h_65 => ?_) (fun h_65 => ?_)
        · have e9 : (ct_updD g.1 j1 j2 false) = ct_updD g.1 j1 j2 o := by rw [h_65]
          have hP : va_P (dC, dI) classes (wX ad cd (ct_updD g.1 j1 j2 o, g.2) b t) H := by rw [e9] at hP; exact hP
          have hD : va_D A (wX ad cd (ct_updD g.1 j1 j2 o, g.2) b t) := by rw [e9] at hD; exact hD
          refine lv_aload_n hx hb d_X_door_92 rfl (lv_at hl 1 rfl) ?_
          refine lv_iconst (v := nI 0) hx hb d_X_door_93 (by decide) ?_
          refine r_top (y := ct_bI (false)) rfl ?_
          refine xp_ready S hK hP hD hS d_X_door_94 (fun H locs hP hD hS => ?_)
          refine lv_iload hx hb d_X_door_97 (lv_at hl 0 rfl) ?_
          have hne : ¬ nI j1 = nI j2 := fun z => h_18 ((nI_eq (by omega) (by omega)).mp z)
          exact w_reti hx hb hr hlk hK d_X_door_99 ((ct_updD g.1 j1 j2 o, g.2), xs_r t false) (⟨by unfold ct_doorR; rw [if_neg (ct_or_f h_4 h_11), if_neg hne, ct_cl hj1, ct_cl hj2], by unfold ct_doorG; rw [if_neg (ct_or_f h_4 h_11), if_neg hne, ct_cl hj1, ct_cl hj2], fun z => by cases z⟩) hP hD hS
        · refine lv_aload_n hx hb d_X_door_68 rfl (lv_at hl 1 rfl) ?_
          refine xg_out S hK hP d_X_door_69 ?_
          refine lv_iload_n hx hb d_X_door_72 rfl (lv_at hl 2 rfl) ?_
          refine lv_dup2_11 hx hb d_X_door_73 rfl rfl ?_
          refine xl_out S hK hP (by omega) d_X_door_74 ?_
          refine lv_iconst (v := nI 1) hx hb d_X_door_75 (by decide) ?_
          refine lv_iload_n hx hb d_X_door_76 rfl (lv_at hl 3 rfl) ?_
          refine lv_ishl hx hb d_X_door_77 ?_
          refine lv_ior hx hb d_X_door_78 ?_
          refine r_top (y := (ct_mk6 (ct_updB (fun j => (ct_updD g.1 j1 j2 false) j1 j) j2 true))) (ct_set (by omega)) ?_
          refine xa_out S hK hP hD hS (by omega) d_X_door_79 (fun H locs hP hD hS => ?_)
          refine lv_aload_n hx hb d_X_door_80 rfl (lv_at hl 1 rfl) ?_
          refine xg_in S hK hP d_X_door_81 ?_
          refine lv_iload_n hx hb d_X_door_84 rfl (lv_at hl 3 rfl) ?_
          refine lv_dup2_11 hx hb d_X_door_85 rfl rfl ?_
          refine xl_in S hK hP (by omega) d_X_door_86 ?_
          refine lv_iconst (v := nI 1) hx hb d_X_door_87 (by decide) ?_
          refine lv_iload_n hx hb d_X_door_88 rfl (lv_at hl 2 rfl) ?_
          refine lv_ishl hx hb d_X_door_89 ?_
          refine lv_ior hx hb d_X_door_90 ?_
          refine r_top (y := (ct_mk6 (ct_updB (fun i => (ct_updD g.1 j1 j2 false) i j2) j1 true))) (ct_set (by omega)) ?_
          refine xa_in S hK hP hD hS (by omega) d_X_door_91 (fun H locs hP hD hS => ?_)
          have e9 : (ct_updD (ct_updD g.1 j1 j2 false) j1 j2 true) = ct_updD g.1 j1 j2 o := by rw [h_65]; exact ct_updD_DD _ _ _ _ _
          have hP : va_P (dC, dI) classes (wX ad cd (ct_updD g.1 j1 j2 o, g.2) b t) H := by rw [e9] at hP; exact hP
          have hD : va_D A (wX ad cd (ct_updD g.1 j1 j2 o, g.2) b t) := by rw [e9] at hD; exact hD
          refine lv_aload_n hx hb d_X_door_92 rfl (lv_at hl 1 rfl) ?_
          refine lv_iconst (v := nI 0) hx hb d_X_door_93 (by decide) ?_
          refine r_top (y := ct_bI (false)) rfl ?_
          refine xp_ready S hK hP hD hS d_X_door_94 (fun H locs hP hD hS => ?_)
          refine lv_iload hx hb d_X_door_97 (lv_at hl 0 rfl) ?_
          have hne : ¬ nI j1 = nI j2 := fun z => h_18 ((nI_eq (by omega) (by omega)).mp z)
          exact w_reti hx hb hr hlk hK d_X_door_99 ((ct_updD g.1 j1 j2 o, g.2), xs_r t false) (⟨by unfold ct_doorR; rw [if_neg (ct_or_f h_4 h_11), if_neg hne, ct_cl hj1, ct_cl hj2], by unfold ct_doorG; rw [if_neg (ct_or_f h_4 h_11), if_neg hne, ct_cl hj1, ct_cl hj2], fun z => by cases z⟩) hP hD hS
      · refine lv_bipush (v := (-2)) hx hb d_X_door_21 (by decide) ?_
        subst h_18
        exact w_reti hx hb hr hlk hK d_X_door_23 (g, t) (⟨by simp [ct_doorR, h_4], by simp [ct_doorG, h_4], hin⟩) hP hD hS
    · refine lv_iconst (v := (-1)) hx hb d_X_door_14 (by decide) ?_
      exact w_reti hx hb hr hlk hK d_X_door_15 (g, t) (⟨ct_doorR_b (Or.inr h_11), ct_doorG_b (Or.inr h_11), hin⟩) hP hD hS
set_option maxHeartbeats 4000000 in
set_option maxRecDepth 100000 in
/-- exit(x, o) -/
theorem c_X_exit (l : Launch) (dC : Nat → ClassId) (dI : Nat → Nat → Nat) (ad : Nat → Nat) (cd : Nat → ClassId) (g : ct_G) (b : ct_Bo) (t : ct_T) (hin : ct_inX g t) (x : Int32) (o : Bool) : ∀ sz : Nat, Met l y_X_exit (Cond.code y_X_exit b_X_exit 4 (some .int) :: ct_tbl) ({ frames := 1, cells := 0, slots := 0, locals := 20 }) (va_Pc [.ref (ad 0), .int x, .int (ct_bI o)] (ct_Pre (dC, dI) (tX cd) (wX ad cd g b t) sz)) (ct_Qi (dC, dI) (tX cd) (fun u : ct_G × ct_T => wX ad cd u.1 b u.2) (fun (r : Int32) (u : ct_G × ct_T) => r = ct_exitR g x ∧ u.1 = ct_exitG g x o ∧ ct_inX u.1 u.2) (va_A (wX ad cd g b t) sz)) 0 0 (va_A (wX ad cd g b t) sz) := by
  refine w_start (Qk := ct_Qi (dC, dI) (tX cd) (fun u : ct_G × ct_T => wX ad cd u.1 b u.2) (fun (r : Int32) (u : ct_G × ct_T) => r = ct_exitR g x ∧ u.1 = ct_exitG g x o ∧ ct_inX u.1 u.2)) [.ref (ad 0), .int x, .int (ct_bI o)] (by decide) (Nat.le_of_ble_eq_true rfl) (fun pp ee s m below meth c ls A S hr hlk hP hK hD hA hl => ?_)
  obtain ⟨hx, hb, hml, hown, hts⟩ := id S
  have hl : lv_has ls 4 [(0, .ref (ad 0)), (1, .int x), (2, .int (ct_bI o))] := hl
  have hS : va_S A s.heap s.heap [] := va_S.rf
  refine lv_iload_n hx hb d_X_exit_0 rfl (lv_at hl 1 rfl) ?_
  refine r_callS 1 S (c_X_off l x) gs_X_X_off hd_X_off ⟨(Nat.le_of_ble_eq_true rfl), (Nat.le_of_ble_eq_true rfl)⟩ ⟨rfl, rfl⟩ ⟨Nat.zero_le _, Nat.zero_le _⟩ rfl hl.1 rfl (Nat.le_of_ble_eq_true rfl) d_X_exit_1 ?_
  refine r_bif_eq (tgt := 9) hx hb d_X_exit_4 (by decide) (fun h_4 => ?_) (fun h_4 => ?_)
  · obtain ⟨j1, hj1, rfl⟩ := ct_off_f h_4
    refine lv_aload_n hx hb d_X_exit_9 rfl (lv_at hl 0 rfl) ?_
    refine xg_exits S hK hP d_X_exit_10 ?_
    refine lv_iload_n hx hb d_X_exit_13 rfl (lv_at hl 1 rfl) ?_
    refine lv_ishr hx hb d_X_exit_14 ?_
    refine lv_iconst (v := nI 1) hx hb d_X_exit_15 (by decide) ?_
    refine lv_iand hx hb d_X_exit_16 ?_
    refine r_top (y := ct_bI (g.2.1 j1)) (ct_bit (f := g.2.1) (by omega)) ?_
    refine lv_istore_n (lv' := [(3, .int (ct_bI (g.2.1 j1))), (0, .ref (ad 0)), (1, .int (nI j1)), (2, .int (ct_bI o))]) hx hb d_X_exit_17 rfl hl (by decide) rfl (fun ls hl => ?_)
    refine lv_aload_n hx hb d_X_exit_18 rfl (lv_at hl 1 rfl) ?_
    refine lv_dup hx hb d_X_exit_19 rfl ?_
    refine xg_exits S hK hP d_X_exit_20 ?_
    refine lv_iconst (v := nI 1) hx hb d_X_exit_23 (by decide) ?_
    refine lv_iload_n hx hb d_X_exit_24 rfl (lv_at hl 2 rfl) ?_
    refine lv_ishl hx hb d_X_exit_25 ?_
    refine lv_iconst (v := (-1)) hx hb d_X_exit_26 (by decide) ?_
    refine lv_ixor hx hb d_X_exit_27 ?_
    refine lv_iand hx hb d_X_exit_28 ?_
    refine r_top (y := (ct_mk6 (ct_updB g.2.1 j1 false))) (ct_clr (by omega)) ?_
    refine xp_exits S hK hP hD hS d_X_exit_29 (fun H locs hP hD hS => ?_)
    refine lv_iload_n hx hb d_X_exit_32 rfl (lv_at hl 3 rfl) ?_
    refine r_bif_eq (tgt := 48) hx hb d_X_exit_33 (by decide) (fun h_33 => ?_) (fun h_33 => ?_)
    · have e9 : ct_updB g.2.1 j1 false = ct_updB g.2.1 j1 o := by rw [h_33]
      have hP : va_P (dC, dI) classes (wX ad cd (g.1, ct_updB g.2.1 j1 o, g.2.2) b t) H := by rw [e9] at hP; exact hP
      have hD : va_D A (wX ad cd (g.1, ct_updB g.2.1 j1 o, g.2.2) b t) := by rw [e9] at hD; exact hD
      refine lv_aload_n hx hb d_X_exit_48 rfl (lv_at hl 1 rfl) ?_
      refine lv_iconst (v := nI 0) hx hb d_X_exit_49 (by decide) ?_
      refine r_top (y := ct_bI (false)) rfl ?_
      refine xp_ready S hK hP hD hS d_X_exit_50 (fun H locs hP hD hS => ?_)
      refine lv_iload_n hx hb d_X_exit_53 rfl (lv_at hl 0 rfl) ?_
      exact w_reti hx hb hr hlk hK d_X_exit_54 ((g.1, ct_updB g.2.1 j1 o, g.2.2), xs_r t false) (⟨by unfold ct_exitR; rw [if_neg (by simp [h_4]), ct_cl hj1], by unfold ct_exitG; rw [if_neg (by simp [h_4]), ct_cl hj1], fun z => by cases z⟩) hP hD hS
    · refine lv_aload_n hx hb d_X_exit_36 rfl (lv_at hl 1 rfl) ?_
      refine lv_dup hx hb d_X_exit_37 rfl ?_
      refine xg_exits S hK hP d_X_exit_38 ?_
      refine lv_iconst (v := nI 1) hx hb d_X_exit_41 (by decide) ?_
      refine lv_iload_n hx hb d_X_exit_42 rfl (lv_at hl 2 rfl) ?_
      refine lv_ishl hx hb d_X_exit_43 ?_
      refine lv_ior hx hb d_X_exit_44 ?_
      refine r_top (y := (ct_mk6 (ct_updB (ct_updB g.2.1 j1 false) j1 true))) (ct_set (f := ct_updB g.2.1 j1 false) (by omega)) ?_
      refine xp_exits S hK hP hD hS d_X_exit_45 (fun H locs hP hD hS => ?_)
      have e9 : ct_updB (ct_updB g.2.1 j1 false) j1 true = ct_updB g.2.1 j1 o := by rw [h_33]; exact ct_updB_BB _ _ _ _
      have hP : va_P (dC, dI) classes (wX ad cd (g.1, ct_updB g.2.1 j1 o, g.2.2) b t) H := by rw [e9] at hP; exact hP
      have hD : va_D A (wX ad cd (g.1, ct_updB g.2.1 j1 o, g.2.2) b t) := by rw [e9] at hD; exact hD
      refine lv_aload_n hx hb d_X_exit_48 rfl (lv_at hl 1 rfl) ?_
      refine lv_iconst (v := nI 0) hx hb d_X_exit_49 (by decide) ?_
      refine r_top (y := ct_bI (false)) rfl ?_
      refine xp_ready S hK hP hD hS d_X_exit_50 (fun H locs hP hD hS => ?_)
      refine lv_iload_n hx hb d_X_exit_53 rfl (lv_at hl 0 rfl) ?_
      exact w_reti hx hb hr hlk hK d_X_exit_54 ((g.1, ct_updB g.2.1 j1 o, g.2.2), xs_r t false) (⟨by unfold ct_exitR; rw [if_neg (by simp [h_4]), ct_cl hj1], by unfold ct_exitG; rw [if_neg (by simp [h_4]), ct_cl hj1], fun z => by cases z⟩) hP hD hS
  · refine lv_iconst (v := (-1)) hx hb d_X_exit_7 (by decide) ?_
    exact w_reti hx hb hr hlk hK d_X_exit_8 (g, t) (⟨(if_pos h_4).symm, (if_pos h_4).symm, hin⟩) hP hD hS
set_option maxHeartbeats 4000000 in
set_option maxRecDepth 100000 in
/-- set(x, y, z, o) -/
theorem c_X_set (l : Launch) (dC : Nat → ClassId) (dI : Nat → Nat → Nat) (ad : Nat → Nat) (cd : Nat → ClassId) (g : ct_G) (b : ct_Bo) (t : ct_T) (x y z : Int32) (o : Bool) : ∀ sz : Nat, Met l y_X_set (Cond.code y_X_set b_X_set 5 (some .int) :: ct_tbl) ({ frames := 1, cells := 0, slots := 0, locals := 20 }) (va_Pc [.ref (ad 0), .int x, .int y, .int z, .int (ct_bI o)] (ct_Pre (dC, dI) (tX cd) (wX ad cd g b t) sz)) (ct_Qi (dC, dI) (tX cd) (fun b' : ct_Bo => wX ad cd g b' t) (fun (r : Int32) (b' : ct_Bo) => r = ct_setR x y z ∧ b' = ct_setB b x y z o) (va_A (wX ad cd g b t) sz)) 0 0 (va_A (wX ad cd g b t) sz) := by
  refine w_start (Qk := ct_Qi (dC, dI) (tX cd) (fun b' : ct_Bo => wX ad cd g b' t) (fun (r : Int32) (b' : ct_Bo) => r = ct_setR x y z ∧ b' = ct_setB b x y z o)) [.ref (ad 0), .int x, .int y, .int z, .int (ct_bI o)] (by decide) (Nat.le_of_ble_eq_true rfl) (fun pp ee s m below meth c ls A S hr hlk hP hK hD hA hl => ?_)
  obtain ⟨hx, hb, hml, hown, hts⟩ := id S
  have hl : lv_has ls 5 [(0, .ref (ad 0)), (1, .int x), (2, .int y), (3, .int z), (4, .int (ct_bI o))] := hl
  have hS : va_S A s.heap s.heap [] := va_S.rf
  refine lv_iload_n hx hb d_X_set_0 rfl (lv_at hl 1 rfl) ?_
  refine r_callS 1 S (c_X_off l x) gs_X_X_off hd_X_off ⟨(Nat.le_of_ble_eq_true rfl), (Nat.le_of_ble_eq_true rfl)⟩ ⟨rfl, rfl⟩ ⟨Nat.zero_le _, Nat.zero_le _⟩ rfl hl.1 rfl (Nat.le_of_ble_eq_true rfl) d_X_set_1 ?_
  refine r_bif_ne (tgt := 21) hx hb d_X_set_4 (by decide) (fun h_4 => ?_) (fun h_4 => ?_)
  · refine lv_iconst (v := (-1)) hx hb d_X_set_21 (by decide) ?_
    exact w_reti hx hb hr hlk hK d_X_set_22 (b) (⟨by simp [ct_setR, ct_bad3, h_4], by simp [ct_setB, ct_bad3, h_4]⟩) hP hD hS
  · refine lv_iload_n hx hb d_X_set_7 rfl (lv_at hl 2 rfl) ?_
    refine r_callS 1 S (c_X_off l y) gs_X_X_off hd_X_off ⟨(Nat.le_of_ble_eq_true rfl), (Nat.le_of_ble_eq_true rfl)⟩ ⟨rfl, rfl⟩ ⟨Nat.zero_le _, Nat.zero_le _⟩ rfl hl.1 rfl (Nat.le_of_ble_eq_true rfl) d_X_set_8 ?_
    refine r_bif_ne (tgt := 21) hx hb d_X_set_11 (by decide) (fun h_11 => ?_) (fun h_11 => ?_)
    · refine lv_iconst (v := (-1)) hx hb d_X_set_21 (by decide) ?_
      exact w_reti hx hb hr hlk hK d_X_set_22 (b) (⟨by simp [ct_setR, ct_bad3, h_4, h_11], by simp [ct_setB, ct_bad3, h_4, h_11]⟩) hP hD hS
    · refine lv_iload_n hx hb d_X_set_14 rfl (lv_at hl 3 rfl) ?_
      refine r_callS 1 S (c_X_off l z) gs_X_X_off hd_X_off ⟨(Nat.le_of_ble_eq_true rfl), (Nat.le_of_ble_eq_true rfl)⟩ ⟨rfl, rfl⟩ ⟨Nat.zero_le _, Nat.zero_le _⟩ rfl hl.1 rfl (Nat.le_of_ble_eq_true rfl) d_X_set_15 ?_
      refine r_bif_eq (tgt := 23) hx hb d_X_set_18 (by decide) (fun h_18 => ?_) (fun h_18 => ?_)
      · obtain ⟨j1, hj1, rfl⟩ := ct_off_f h_4
        obtain ⟨j2, hj2, rfl⟩ := ct_off_f h_11
        obtain ⟨j3, hj3, rfl⟩ := ct_off_f h_18
        refine lv_aload_n hx hb d_X_set_23 rfl (lv_at hl 0 rfl) ?_
        refine lv_iload_n hx hb d_X_set_24 rfl (lv_at hl 1 rfl) ?_
        refine xp_boardA S hK hP hD hS d_X_set_25 (fun H locs hP hD hS => ?_)
        refine lv_aload_n hx hb d_X_set_28 rfl (lv_at hl 0 rfl) ?_
        refine lv_iload_n hx hb d_X_set_29 rfl (lv_at hl 2 rfl) ?_
        refine xp_boardB S hK hP hD hS d_X_set_30 (fun H locs hP hD hS => ?_)
        refine lv_aload_n hx hb d_X_set_33 rfl (lv_at hl 0 rfl) ?_
        refine lv_iload_n hx hb d_X_set_34 rfl (lv_at hl 3 rfl) ?_
        refine xp_boardT S hK hP hD hS d_X_set_35 (fun H locs hP hD hS => ?_)
        refine lv_aload_n hx hb d_X_set_38 rfl (lv_at hl 0 rfl) ?_
        refine lv_iload hx hb d_X_set_39 (lv_at hl 4 rfl) ?_
        refine xp_boardThief S hK hP hD hS d_X_set_41 (fun H locs hP hD hS => ?_)
        refine lv_iconst (v := nI 0) hx hb d_X_set_44 (by decide) ?_
        exact w_reti hx hb hr hlk hK d_X_set_45 ((j1, j2, j3, o)) (⟨(if_neg (ct_bad3_f h_4 h_11 h_18)).symm, by unfold ct_setB; rw [if_neg (ct_bad3_f h_4 h_11 h_18), ct_cl hj1, ct_cl hj2, ct_cl hj3]⟩) hP hD hS
      · refine lv_iconst (v := (-1)) hx hb d_X_set_21 (by decide) ?_
        exact w_reti hx hb hr hlk hK d_X_set_22 (b) (⟨by simp [ct_setR, ct_bad3, h_4, h_11, h_18], by simp [ct_setB, ct_bad3, h_4, h_11, h_18]⟩) hP hD hS
set_option maxHeartbeats 4000000 in
set_option maxRecDepth 100000 in
/-- play(x) -/
theorem c_X_play (l : Launch) (dC : Nat → ClassId) (dI : Nat → Nat → Nat) (ad : Nat → Nat) (cd : Nat → ClassId) (g : ct_G) (b : ct_Bo) (t : ct_T) (hbo : ct_inB b) (x : Int32) : ∀ sz : Nat, Met l y_X_play (Cond.code y_X_play b_X_play 4 (some .int) :: ct_tbl) ({ frames := 2, cells := 0, slots := 0, locals := 51 }) (va_Pc [.ref (ad 0), .int x] (ct_Pre (dC, dI) (tX cd) (wX ad cd g b t) sz)) (ct_Qi (dC, dI) (tX cd) (fun b' : ct_Bo => wX ad cd g b' t) (fun (r : Int32) (b' : ct_Bo) => r = ct_playR g (ct_nb9 b) x ∧ b' = ct_playB g b x) (va_A (wX ad cd g b t) sz)) 0 0 (va_A (wX ad cd g b t) sz) := by
  refine w_start (Qk := ct_Qi (dC, dI) (tX cd) (fun b' : ct_Bo => wX ad cd g b' t) (fun (r : Int32) (b' : ct_Bo) => r = ct_playR g (ct_nb9 b) x ∧ b' = ct_playB g b x)) [.ref (ad 0), .int x] (by decide) (Nat.le_of_ble_eq_true rfl) (fun pp ee s m below meth c ls A S hr hlk hP hK hD hA hl => ?_)
  obtain ⟨hx, hb, hml, hown, hts⟩ := id S
  have hl : lv_has ls 4 [(0, .ref (ad 0)), (1, .int x)] := hl
  have hS : va_S A s.heap s.heap [] := va_S.rf
  have hN := ct_nb9_lt hbo
  refine lv_aload_n hx hb d_X_play_0 rfl (lv_at hl 0 rfl) ?_
  refine xg_boardA S hK hP d_X_play_1 ?_
  refine lv_aload_n hx hb d_X_play_4 rfl (lv_at hl 0 rfl) ?_
  refine xg_boardB S hK hP d_X_play_5 ?_
  refine lv_aload_n hx hb d_X_play_8 rfl (lv_at hl 0 rfl) ?_
  refine xg_boardT S hK hP d_X_play_9 ?_
  refine lv_aload_n hx hb d_X_play_12 rfl (lv_at hl 0 rfl) ?_
  refine xg_boardThief S hK hP d_X_play_13 ?_
  refine r_callS 4 S (c_X_number l b.1 b.2.1 b.2.2.1 b.2.2.2) gs_X_X_number hd_X_number ⟨(Nat.le_of_ble_eq_true rfl), (Nat.le_of_ble_eq_true rfl)⟩ ⟨rfl, rfl⟩ ⟨Nat.zero_le _, Nat.zero_le _⟩ rfl hl.1 rfl (Nat.le_of_ble_eq_true rfl) d_X_play_16 ?_
  refine r_top (y := nI (ct_nb9 b)) (rfl) ?_
  refine lv_istore_n (lv' := [(2, .int (nI (ct_nb9 b))), (0, .ref (ad 0)), (1, .int x)]) hx hb d_X_play_19 rfl hl (by decide) rfl (fun ls hl => ?_)
  refine lv_aload_n hx hb d_X_play_20 rfl (lv_at hl 1 rfl) ?_
  refine lv_iload_n hx hb d_X_play_21 rfl (lv_at hl 0 rfl) ?_
  refine lv_iload_n hx hb d_X_play_22 rfl (lv_at hl 2 rfl) ?_
  refine w_callR 2 S (c_X_after l dC dI ad cd g b t (ct_nb9 b) hN x) gv_X_X_after hd_X_after ⟨(Nat.le_of_ble_eq_true rfl), (Nat.le_of_ble_eq_true rfl)⟩ ⟨rfl, rfl⟩ ⟨Nat.zero_le _, Nat.zero_le _⟩ (x_rc hK hP) hK hP rfl hl.1 rfl (Nat.le_of_ble_eq_true rfl) d_X_play_23 ?_
  refine r_af (fun ho => ?_) (fun q9 ho => ?_)
  · refine lv_istore_n (lv' := [(3, .int (-1)), (2, .int (nI (ct_nb9 b))), (0, .ref (ad 0)), (1, .int x)]) hx hb d_X_play_26 rfl hl (by decide) rfl (fun ls hl => ?_)
    refine lv_iload_n hx hb d_X_play_27 rfl (lv_at hl 0 rfl) ?_
    refine r_ifge_m (tgt := 34) hx hb d_X_play_28 (by decide) ?_
    refine lv_bipush (v := (-2)) hx hb d_X_play_31 (by decide) ?_
    exact w_reti hx hb hr hlk hK d_X_play_33 (b) (⟨by unfold ct_playR; rw [ho], by unfold ct_playB; rw [ho]⟩) hP hD hS
  · have hq9 := ct_afX_some hN ho
    refine lv_istore_n (lv' := [(3, .int (nI q9)), (2, .int (nI (ct_nb9 b))), (0, .ref (ad 0)), (1, .int x)]) hx hb d_X_play_26 rfl hl (by decide) rfl (fun ls hl => ?_)
    refine lv_iload_n hx hb d_X_play_27 rfl (lv_at hl 0 rfl) ?_
    refine r_ifge_n (tgt := 34) hx hb d_X_play_28 (by decide) (by omega) ?_
    refine lv_aload_n hx hb d_X_play_34 rfl (lv_at hl 2 rfl) ?_
    refine lv_iload_n hx hb d_X_play_35 rfl (lv_at hl 0 rfl) ?_
    refine lv_bipush (v := nI 72) hx hb d_X_play_36 (by decide) ?_
    refine r_div hx hb d_X_play_38 (by omega) (by decide) (by decide) ?_
    refine xp_boardA S hK hP hD hS d_X_play_39 (fun H locs hP hD hS => ?_)
    refine lv_aload_n hx hb d_X_play_42 rfl (lv_at hl 2 rfl) ?_
    refine lv_iload_n hx hb d_X_play_43 rfl (lv_at hl 0 rfl) ?_
    refine lv_bipush (v := nI 12) hx hb d_X_play_44 (by decide) ?_
    refine r_div hx hb d_X_play_46 (by omega) (by decide) (by decide) ?_
    refine lv_bipush (v := nI 6) hx hb d_X_play_47 (by decide) ?_
    refine r_rem hx hb d_X_play_49 (by omega) (by decide) (by decide) ?_
    refine xp_boardB S hK hP hD hS d_X_play_50 (fun H locs hP hD hS => ?_)
    refine lv_aload_n hx hb d_X_play_53 rfl (lv_at hl 2 rfl) ?_
    refine lv_iload_n hx hb d_X_play_54 rfl (lv_at hl 0 rfl) ?_
    refine lv_iconst (v := nI 2) hx hb d_X_play_55 (by decide) ?_
    refine r_div hx hb d_X_play_56 (by omega) (by decide) (by decide) ?_
    refine lv_bipush (v := nI 6) hx hb d_X_play_57 (by decide) ?_
    refine r_rem hx hb d_X_play_59 (by omega) (by decide) (by decide) ?_
    refine xp_boardT S hK hP hD hS d_X_play_60 (fun H locs hP hD hS => ?_)
    refine lv_aload_n hx hb d_X_play_63 rfl (lv_at hl 2 rfl) ?_
    refine lv_iload_n hx hb d_X_play_64 rfl (lv_at hl 0 rfl) ?_
    refine lv_iconst (v := nI 2) hx hb d_X_play_65 (by decide) ?_
    refine r_rem hx hb d_X_play_66 (by omega) (by decide) (by decide) ?_
    refine lv_iconst (v := nI 1) hx hb d_X_play_67 (by decide) ?_
    refine r_cmp_ne (tgt := 75) hx hb d_X_play_68 (by decide) (by omega) (by omega) (fun h_68 => ?_) (fun h_68 => ?_)
    · refine lv_iconst (v := nI 0) hx hb d_X_play_75 (by decide) ?_
      refine r_top (y := ct_bI (false)) rfl ?_
      refine xp_boardThief S hK hP hD hS d_X_play_76 (fun H locs hP hD hS => ?_)
      refine lv_iconst (v := nI 0) hx hb d_X_play_79 (by decide) ?_
      exact w_reti hx hb hr hlk hK d_X_play_80 ((q9 / 72, q9 / 12 % 6, q9 / 2 % 6, false)) (⟨by unfold ct_playR; rw [ho]; rfl, by unfold ct_playB; rw [ho]; simp [ct_bo, h_68]⟩) hP hD hS
    · refine lv_iconst (v := nI 1) hx hb d_X_play_71 (by decide) ?_
      refine lv_goto (tgt := 76) hx hb d_X_play_72 (by decide) ?_
      refine r_top (y := ct_bI (true)) rfl ?_
      refine xp_boardThief S hK hP hD hS d_X_play_76 (fun H locs hP hD hS => ?_)
      refine lv_iconst (v := nI 0) hx hb d_X_play_79 (by decide) ?_
      exact w_reti hx hb hr hlk hK d_X_play_80 ((q9 / 72, q9 / 12 % 6, q9 / 2 % 6, true)) (⟨by unfold ct_playR; rw [ho]; rfl, by unfold ct_playB; rw [ho]; simp [ct_bo, h_68]⟩) hP hD hS
end
section
/-! THE MODEL's pure side: what its rounds hold (ct_MP), and that they come to the same table -/
theorem r_if_le {p : Program} {l : Launch} {e : Env} {R : Room} {s : State} {m : MethodId} {args : Array Value} {below : List Frame} {meth : Method} {c : Code} {H : Heap} {locs : List Loc} {cells slots : Nat} {Q : State → Prop} {cc : ByteArray} {pc : Nat} {ls : Array Slot} {rest : List Value} (hx : p.tables.exec = Jvm.exec) (hb : c.code = cc) {a : Nat} {off : Int} {tgt : Nat} (hdg : decode cc pc = .ok (.ifCond .le off, 3)) (ht : (pc : Int) + off = (tgt : Int)) (ha : a < 2 ^ 31)
    (kt : a = 0 → W p l e R s m args below meth c H locs cells slots Q (F0 m tgt ls rest)) (kf : a ≠ 0 → W p l e R s m args below meth c H locs cells slots Q (F0 m (pc + 3) ls rest)) : W p l e R s m args below meth c H locs cells slots Q (F0 m pc ls (.int (nI a) :: rest)) :=
  lv_if_le hx hb hdg ht (fun h => kt (by
    rcases Nat.eq_zero_or_pos a with z | z
    · exact z
    · exact absurd h (nI_nle z ha))) (fun h => kf (fun z => h (by rw [z]; exact Int32.le_refl _)))
theorem ct_wt (g : ct_G) : ct_wI g &&& nI 2 = nI (2 * g.2.2.2.toNat) := by
  unfold ct_wI
  cases g.2.2.1 <;> cases g.2.2.2 <;> rfl
theorem ct_wg (g : ct_G) : ct_wI g &&& nI 1 = nI (g.2.2.1.toNat) := by
  unfold ct_wI
  cases g.2.2.1 <;> cases g.2.2.2 <;> rfl
theorem ct_tz {o : Bool} (h : o.toNat = 0) : o = false := by cases o with
  | true => cases h
  | false => rfl
theorem ct_to {o : Bool} (h : o.toNat ≠ 0) : o = true := by cases o with
  | true => rfl
  | false => exact absurd rfl h
theorem ct_mvI_lt {g : ct_G} {p : Nat} {x : Int32} (h : x < 0) : (-1 : Int32) = ct_af (ct_mvI g p x) := by
  unfold ct_mvI
  rw [if_pos (Or.inl h)]; rfl
theorem ct_mvI_gt {g : ct_G} {p : Nat} {x : Int32} (h : nI 12 < x) : (-1 : Int32) = ct_af (ct_mvI g p x) := by
  unfold ct_mvI
  rw [if_pos (Or.inr h)]; rfl
/-- what the rounds before r know -/
def ct_S (u : ct_U) (r q : Nat) : Nat := if u.2.2 q < nI r then u.2.1 q else 0
theorem ct_S_ne1 {u : ct_U} {r q w : Nat} (h : u.2.1 q ≠ w) (hw : w ≠ 0) : ct_S u r q ≠ w := by
  unfold ct_S; split
  · exact h
  · exact fun z => hw z.symm
theorem ct_S_ne2 {u : ct_U} {r q w : Nat} (h : ¬ u.2.2 q < nI r) (hw : w ≠ 0) : ct_S u r q ≠ w := by
  unfold ct_S
  rw [if_neg h]
  exact fun z => hw z.symm
theorem ct_S_eq {u : ct_U} {r q w : Nat} (h : u.2.2 q < nI r) (h2 : u.2.1 q = w) : ct_S u r q = w := by
  unfold ct_S
  rw [if_pos h, h2]
def ct_can (g : ct_G) (p : Nat) : Bool := decide (ct_ov g p = 0) && ct_any (fun c => (ct_mv g p c).isSome) 13
def ct_boardK (k : Nat) : Int32 := nI (k / 72 + 8 * (k / 12 % 6) + 64 * (k / 2 % 6) + 512 * (k % 2))
theorem ct_fst_no {f : Nat → Bool} : ∀ n c : Nat, (∀ j, c ≤ j → j < c + n → f j = false) → ct_fst f n c = -2 := by
  intro n
  induction n with
  | zero => intro c _; rfl
  | succ n ih =>
    intro c h
    rw [ct_fst_f (h c (Nat.le_refl c) (by omega))]
    exact ih (c + 1) (fun j h1 h2 => h j (by omega) (by omega))
theorem ct_best_no {g : ct_G} {p : Nat} (h : ct_can g p = false) : ct_best g p = -2 := by
  refine ct_fst_no 13 0 (fun c _ hc => ?_)
  unfold ct_bok
  by_cases ho : ct_ov g p = 0
  · rw [if_neg (fun z => z ho)]
    cases hm : ct_mv g p c with
    | none => rfl
    | some q =>
      exfalso
      have h1 : ct_any (fun c => (ct_mv g p c).isSome) 13 = true := ct_any_iff.mpr ⟨c, by omega, by rw [hm]; rfl⟩
      simp [ct_can, ho, h1] at h
  · rw [if_pos ho]
theorem ct_bokM_n {g : ct_G} {p c : Nat} (h : ct_mv g p c = none) : ct_bok g p c = false := by
  unfold ct_bok
  by_cases ho : ct_ov g p = 0
  · rw [if_neg (fun z => z ho), h]
  · rw [if_pos ho]
theorem ct_bokM_s {g : ct_G} {p c q : Nat} (ho : ct_ov g p = 0) (h : ct_mv g p c = some q) : ct_bok g p c = (ct_win g q == ct_win g p && (ct_win g p == 0 || ct_far g q + 1 == ct_far g p)) := by
  unfold ct_bok
  rw [if_neg (fun z => z ho), h]
/-! the rounds -/
def ct_V (g : ct_G) (r j : Nat) : Nat := if r = 0 then ct_ov g j else ct_it g r j
theorem ct_V_s (g : ct_G) (r j : Nat) : ct_V g (r + 1) j = ct_it g (r + 1) j := if_neg (by omega)
theorem ct_V_0 (g : ct_G) {r j : Nat} (h : ct_V g r j = 0) : ct_ov g j = 0 ∧ ct_it g r j = 0 := by
  unfold ct_V at h
  by_cases hr : r = 0
  · rw [if_pos hr] at h
    subst hr
    exact ⟨h, rfl⟩
  · rw [if_neg hr] at h
    refine ⟨?_, h⟩
    by_cases z : ct_ov g j = 0
    · exact z
    · obtain ⟨d, rfl⟩ : ∃ d, r = d + 1 := ⟨r - 1, by omega⟩
      have e : ct_it g (d + 1) j = ct_ov g j := if_pos z
      rw [e] at h; exact absurd h z
theorem ct_V_n (g : ct_G) {r j : Nat} (h : ct_V g r j ≠ 0) : ct_it g (r + 1) j = ct_V g r j := by
  unfold ct_V at h ⊢
  by_cases hr : r = 0
  · rw [if_pos hr] at h ⊢
    subst hr
    exact if_pos h
  · rw [if_neg hr] at h ⊢
    exact ct_it_mono g h
def ct_MP (g : ct_G) (r : Nat) (u : ct_U) (j : Nat) : Prop := u.2.1 j = ct_V g r j ∧ (u.2.1 j = 0 → u.2.2 j = -3) ∧ (u.2.1 j ≠ 0 → ∃ x, x < 432 ∧ u.2.2 j = nI x ∧ ct_it g x j = 0 ∧ ct_it g (x + 1) j = u.2.1 j)
theorem ct_MP_le {g : ct_G} {r : Nat} {u : ct_U} {j : Nat} (h : ct_MP g r u j) : u.2.1 j ≤ 2 := by
  rw [h.1]
  unfold ct_V
  split
  · exact ct_ov_le g j
  · exact ct_it_le g r j
theorem ct_S_it {g : ct_G} {r : Nat} {u : ct_U} {q : Nat} (hr : r ≤ 432) (h : ct_MP g r u q ∨ ct_MP g (r + 1) u q) : ct_S u r q = ct_it g r q := by
  have h2 : (u.2.1 q = 0 → u.2.2 q = -3) ∧ (u.2.1 q ≠ 0 → ∃ x, x < 432 ∧ u.2.2 q = nI x ∧ ct_it g x q = 0 ∧ ct_it g (x + 1) q = u.2.1 q) := by
    rcases h with h | h <;> exact h.2
  by_cases h0 : u.2.1 q = 0
  · have e1 : ct_S u r q = 0 := by
      unfold ct_S; split
      · exact h0
      · rfl
    have e2 : ct_it g r q = 0 := by
      rcases h with h | h
      · rw [h.1] at h0; exact (ct_V_0 g h0).2
      · rw [h.1] at h0; exact ct_it_0 g (by omega) (ct_V_0 g h0).2
    rw [e1, e2]
  · obtain ⟨x, hx, e1, e2, e3⟩ := h2.2 h0
    by_cases hxr : x < r
    · rw [ct_S_eq (by rw [e1]; exact nI_lt hxr (by omega)) rfl]
      rw [ct_it_ge g (r := x + 1) (by omega) (by rw [e3]; exact h0), e3]
    · rw [ct_it_0 g (k := x) (by omega) e2]
      unfold ct_S
      rw [if_neg (by rw [e1]; exact nI_nlt (by omega) (by omega))]
/-- the start of the rounds -/
theorem ct_MP_0 {g : ct_G} {u : ct_U} {j : Nat} (h1 : u.2.1 j = ct_ov g j) (h2 : u.2.2 j = if ct_ov g j = 0 then -3 else nI 0) : ct_MP g 0 u j := by
  refine ⟨h1, fun h => ?_, fun h => ?_⟩
  · rw [h1] at h; rw [h2, if_pos h]
  · rw [h1] at h
    refine ⟨0, by omega, by rw [h2, if_neg h], rfl, ?_⟩
    rw [h1]
    exact if_pos h
/-- a position found before stays -/
theorem ct_MP_keep {g : ct_G} {r : Nat} {u : ct_U} {j : Nat} (h : ct_MP g r u j) (h0 : u.2.1 j ≠ 0) : ct_MP g (r + 1) u j := by
  refine ⟨?_, h.2⟩
  rw [ct_V_s, h.1]
  rw [h.1] at h0
  exact (ct_V_n g h0).symm
/-- a position looked at in round r -/
theorem ct_MP_find {g : ct_G} {r : Nat} {u u' : ct_U} {j : Nat} (hr : r < 432) (h : ct_MP g r u j) (h0 : u.2.1 j = 0) (h1 : u'.2.1 j = ct_it g (r + 1) j) (h2 : u'.2.2 j = if ct_it g (r + 1) j = 0 then -3 else nI r) : ct_MP g (r + 1) u' j := by
  have hz : ct_it g r j = 0 := by
    rw [h.1] at h0; exact (ct_V_0 g h0).2
  refine ⟨by rw [ct_V_s, h1], fun z => ?_, fun z => ?_⟩
  · rw [h1] at z; rw [h2, if_pos z]
  · rw [h1] at z
    exact ⟨r, hr, by rw [h2, if_neg z], hz, h1.symm⟩
theorem ct_MP_other {g : ct_G} {r : Nat} {u u' : ct_U} {j : Nat} (h1 : u'.2.1 j = u.2.1 j) (h2 : u'.2.2 j = u.2.2 j) (h : ct_MP g r u j) : ct_MP g r u' j := by
  unfold ct_MP
  rw [h1, h2]
  exact h
theorem ct_fol_M {g : ct_G} {r p : Nat} {u : ct_U} (hr : r ≤ 432) (hp : p < 432) (h : ∀ j, j < 432 → ct_MP g r u j ∨ ct_MP g (r + 1) u j) (hP : ct_MP g r u p) (h0 : u.2.1 p = 0) : ct_fol g (ct_S u r) p = ct_it g (r + 1) p := by
  rw [hP.1] at h0
  obtain ⟨a1, a2⟩ := ct_V_0 g h0
  rw [ct_it_s g a1 a2]
  exact ct_fol_congr hp (fun q hq => ct_S_it hr (h q hq))
theorem ct_stab {g : ct_G} {r : Nat} (h : ∀ j, j < 432 → ct_it g (r + 1) j = ct_it g r j) : ∀ k j, j < 432 → ct_it g (r + k) j = ct_it g r j := by
  intro k
  induction k with
  | zero => intro j _; rfl
  | succ k ih =>
    intro j hj
    rw [← h j hj]
    have e1 : ct_it g (r + k + 1) j = if ct_ov g j ≠ 0 then ct_ov g j else if ct_it g (r + k) j ≠ 0 then ct_it g (r + k) j else ct_fol g (ct_it g (r + k)) j := rfl
    have e2 : ct_it g (r + 1) j = if ct_ov g j ≠ 0 then ct_ov g j else if ct_it g r j ≠ 0 then ct_it g r j else ct_fol g (ct_it g r) j := rfl
    show ct_it g (r + k + 1) j = _
    rw [e1, e2, ih j hj, ct_fol_congr hj ih]
/-- nothing found in a round behind the first: the table is whole -/
theorem ct_more {g : ct_G} {r : Nat} (hr : r ≠ 0) (hr2 : r < 432) (h : ∀ j, j < 432 → ct_it g (r + 1) j = ct_V g r j) : ∀ j, j < 432 → ct_win g j = ct_V g (r + 1) j := by
  have h1 : ∀ j, j < 432 → ct_it g (r + 1) j = ct_it g r j := fun j hj => by
    rw [h j hj]; exact if_neg hr
  intro j hj
  rw [ct_V_s, h1 j hj]
  unfold ct_win
  have := ct_stab h1 (432 - r) j hj
  rw [show r + (432 - r) = 432 by omega] at this
  exact this
theorem ct_okM_of {g : ct_G} {r : Nat} {u : ct_U} (h : ∀ j, j < 432 → ct_MP g r u j) (hw : ∀ j, j < 432 → ct_win g j = ct_V g r j) : ct_okM g u := by
  intro j hj
  obtain ⟨a1, a2, a3⟩ := h j hj
  have e : u.2.1 j = ct_win g j := by rw [a1, hw j hj]
  refine ⟨e, ?_⟩
  by_cases h0 : u.2.1 j = 0
  · rw [a2 h0, ct_len_0 (by rw [← e]; exact h0)]
  · obtain ⟨x, hx, e1, e2, e3⟩ := a3 h0
    rw [e1, ct_len_w (by rw [← e]; exact h0), ct_far_eq g e2 (by rw [e3]; exact h0) hx]
end
section
/-! THE MODEL, methods that only read -/
theorem hd_M_number : y_M_number.cls = R_M ∧ y_M_number.cls ≠ "java/lang/invoke/MethodHandle" ∧ y_M_number.cls ≠ "java/lang/invoke/VarHandle" ∧ (parseMethodDescriptor y_M_number.desc).map (fun d => d.parameters.length) = some 4 := by decide +kernel
theorem hd_M_bad : y_M_bad.cls = R_M ∧ y_M_bad.cls ≠ "java/lang/invoke/MethodHandle" ∧ y_M_bad.cls ≠ "java/lang/invoke/VarHandle" ∧ (parseMethodDescriptor y_M_bad.desc).map (fun d => d.parameters.length) = some 1 := by decide +kernel
theorem hd_M_over : y_M_over.cls = R_M ∧ y_M_over.cls ≠ "java/lang/invoke/MethodHandle" ∧ y_M_over.cls ≠ "java/lang/invoke/VarHandle" ∧ (parseMethodDescriptor y_M_over.desc).map (fun d => d.parameters.length) = some 1 := by decide +kernel
theorem hd_M_after : y_M_after.cls = R_M ∧ y_M_after.cls ≠ "java/lang/invoke/MethodHandle" ∧ y_M_after.cls ≠ "java/lang/invoke/VarHandle" ∧ (parseMethodDescriptor y_M_after.desc).map (fun d => d.parameters.length) = some 2 := by decide +kernel
theorem hd_M_mover : y_M_mover.cls = R_M ∧ y_M_mover.cls ≠ "java/lang/invoke/MethodHandle" ∧ y_M_mover.cls ≠ "java/lang/invoke/VarHandle" ∧ (parseMethodDescriptor y_M_mover.desc).map (fun d => d.parameters.length) = some 1 := by decide +kernel
theorem hd_M_follows : y_M_follows.cls = R_M ∧ y_M_follows.cls ≠ "java/lang/invoke/MethodHandle" ∧ y_M_follows.cls ≠ "java/lang/invoke/VarHandle" ∧ (parseMethodDescriptor y_M_follows.desc).map (fun d => d.parameters.length) = some 2 := by decide +kernel
theorem hd_M_canMove : y_M_canMove.cls = R_M ∧ y_M_canMove.cls ≠ "java/lang/invoke/MethodHandle" ∧ y_M_canMove.cls ≠ "java/lang/invoke/VarHandle" ∧ (parseMethodDescriptor y_M_canMove.desc).map (fun d => d.parameters.length) = some 1 := by decide +kernel
theorem hd_M_board : y_M_board.cls = R_M ∧ y_M_board.cls ≠ "java/lang/invoke/MethodHandle" ∧ y_M_board.cls ≠ "java/lang/invoke/VarHandle" ∧ (parseMethodDescriptor y_M_board.desc).map (fun d => d.parameters.length) = some 0 := by decide +kernel
set_option maxHeartbeats 4000000 in
set_option maxRecDepth 100000 in
/-- number(a, b, t, thief) -/
theorem c_M_number (l : Launch) (dC : Nat → ClassId) (dI : Nat → Nat → Nat) (ad : Nat → Nat) (cd : Nat → ClassId) (g : ct_G) (k9 : Nat) (u : ct_U) (a1 a2 a3 : Nat) (o : Bool) : Met l y_M_number (Cond.code y_M_number b_M_number 5 (some .int) :: ct_tbl) ({ frames := 0, cells := 0, slots := 0, locals := 0 }) (va_Pc [.ref (ad 0), .int (nI a1), .int (nI a2), .int (nI a3), .int (ct_bI o)] (ct_PreR (dC, dI) (tM cd) (wM ad cd g k9 u))) (QcRead (nI (ct_num a1 a2 a3 o.toNat))) 0 0 (fun _ => False) := by
  refine ct_start [.ref (ad 0), .int (nI a1), .int (nI a2), .int (nI a3), .int (ct_bI o)] (by decide) (Nat.le_of_ble_eq_true rfl) (fun pp ee s m below meth c ls S hr hlk _ hB hl => ?_)
  obtain ⟨hx, hb, hml, hown, hts⟩ := id S
  have hl : lv_has ls 5 [(0, .ref (ad 0)), (1, .int (nI a1)), (2, .int (nI a2)), (3, .int (nI a3)), (4, .int (ct_bI o))] := hl
  obtain ⟨hP, hK⟩ := hB
  refine lv_iload_n hx hb d_M_number_0 rfl (lv_at hl 1 rfl) ?_
  refine lv_bipush (v := nI 6) hx hb d_M_number_1 (by decide) ?_
  refine r_mul hx hb d_M_number_3 ?_
  refine lv_iload_n hx hb d_M_number_4 rfl (lv_at hl 2 rfl) ?_
  refine r_add hx hb d_M_number_5 ?_
  refine lv_bipush (v := nI 6) hx hb d_M_number_6 (by decide) ?_
  refine r_mul hx hb d_M_number_8 ?_
  refine lv_iload_n hx hb d_M_number_9 rfl (lv_at hl 3 rfl) ?_
  refine r_add hx hb d_M_number_10 ?_
  refine lv_iconst (v := nI 2) hx hb d_M_number_11 (by decide) ?_
  refine r_mul hx hb d_M_number_12 ?_
  refine lv_iload hx hb d_M_number_13 (lv_at hl 4 rfl) ?_
  refine r_bif_eq (tgt := 22) hx hb d_M_number_15 (by decide) (fun h_15 => ?_) (fun h_15 => ?_)
  · refine lv_iconst (v := nI 0) hx hb d_M_number_22 (by decide) ?_
    refine r_add hx hb d_M_number_23 ?_
    exact r_ret hx hb hr hlk d_M_number_24 (by rw [h_15]; rfl)
  · refine lv_iconst (v := nI 1) hx hb d_M_number_18 (by decide) ?_
    refine lv_goto (tgt := 23) hx hb d_M_number_19 (by decide) ?_
    refine r_add hx hb d_M_number_23 ?_
    exact r_ret hx hb hr hlk d_M_number_24 (by rw [h_15]; rfl)
set_option maxHeartbeats 4000000 in
set_option maxRecDepth 100000 in
/-- bad(x) -/
theorem c_M_bad (l : Launch) (dC : Nat → ClassId) (dI : Nat → Nat → Nat) (ad : Nat → Nat) (cd : Nat → ClassId) (g : ct_G) (k9 : Nat) (u : ct_U) (x : Int32) : Met l y_M_bad (Cond.code y_M_bad b_M_bad 2 (some .boolean) :: ct_tbl) ({ frames := 0, cells := 0, slots := 0, locals := 0 }) (va_Pc [.ref (ad 0), .int x] (ct_PreR (dC, dI) (tM cd) (wM ad cd g k9 u))) (QcRead (ct_bI (ct_off x))) 0 0 (fun _ => False) := by
  refine ct_start [.ref (ad 0), .int x] (by decide) (Nat.le_of_ble_eq_true rfl) (fun pp ee s m below meth c ls S hr hlk _ hB hl => ?_)
  obtain ⟨hx, hb, hml, hown, hts⟩ := id S
  have hl : lv_has ls 2 [(0, .ref (ad 0)), (1, .int x)] := hl
  obtain ⟨hP, hK⟩ := hB
  refine lv_iload_n hx hb d_M_bad_0 rfl (lv_at hl 1 rfl) ?_
  refine lv_if_lt (tgt := 9) hx hb d_M_bad_1 (by decide) (fun h_1 => ?_) (fun h_1 => ?_)
  · refine lv_iconst (v := nI 1) hx hb d_M_bad_9 (by decide) ?_
    refine lv_goto (tgt := 14) hx hb d_M_bad_10 (by decide) ?_
    exact r_retz hx hb hr hlk d_M_bad_14 (by first | (rw [ct_off_t1 h_1]; rfl) | (rw [ct_off_t2 h_6]; rfl) | (rw [ct_off_f0 h_1 h_6]; rfl))
  · refine lv_iload_n hx hb d_M_bad_4 rfl (lv_at hl 1 rfl) ?_
    refine lv_iconst (v := nI 5) hx hb d_M_bad_5 (by decide) ?_
    refine lv_icmp_le (tgt := 13) hx hb d_M_bad_6 (by decide) (fun h_6 => ?_) (fun h_6 => ?_)
    · refine lv_iconst (v := nI 0) hx hb d_M_bad_13 (by decide) ?_
      exact r_retz hx hb hr hlk d_M_bad_14 (by first | (rw [ct_off_t1 h_1]; rfl) | (rw [ct_off_t2 h_6]; rfl) | (rw [ct_off_f0 h_1 h_6]; rfl))
    · refine lv_iconst (v := nI 1) hx hb d_M_bad_9 (by decide) ?_
      refine lv_goto (tgt := 14) hx hb d_M_bad_10 (by decide) ?_
      exact r_retz hx hb hr hlk d_M_bad_14 (by first | (rw [ct_off_t1 h_1]; rfl) | (rw [ct_off_t2 h_6]; rfl) | (rw [ct_off_f0 h_1 h_6]; rfl))
set_option maxHeartbeats 4000000 in
set_option maxRecDepth 100000 in
/-- over(p) -/
theorem c_M_over (l : Launch) (dC : Nat → ClassId) (dI : Nat → Nat → Nat) (ad : Nat → Nat) (cd : Nat → ClassId) (g : ct_G) (k9 : Nat) (u : ct_U) (p : Nat) (hp : p < 432) : Met l y_M_over (Cond.code y_M_over b_M_over 3 (some .int) :: ct_tbl) ({ frames := 0, cells := 0, slots := 0, locals := 0 }) (va_Pc [.ref (ad 0), .int (nI p)] (ct_PreR (dC, dI) (tM cd) (wM ad cd g k9 u))) (QcRead (nI (ct_ov g p))) 0 0 (fun _ => False) := by
  refine ct_start [.ref (ad 0), .int (nI p)] (by decide) (Nat.le_of_ble_eq_true rfl) (fun pp ee s m below meth c ls S hr hlk _ hB hl => ?_)
  obtain ⟨hx, hb, hml, hown, hts⟩ := id S
  have hl : lv_has ls 3 [(0, .ref (ad 0)), (1, .int (nI p))] := hl
  obtain ⟨hP, hK⟩ := hB
  refine lv_iload_n hx hb d_M_over_0 rfl (lv_at hl 1 rfl) ?_
  refine lv_iconst (v := nI 2) hx hb d_M_over_1 (by decide) ?_
  refine r_div hx hb d_M_over_2 (by omega) (by decide) (by decide) ?_
  refine lv_bipush (v := nI 6) hx hb d_M_over_3 (by decide) ?_
  refine r_rem hx hb d_M_over_5 (by omega) (by decide) (by decide) ?_
  refine lv_istore_n (lv' := [(2, .int (nI ((p / 2) % 6))), (0, .ref (ad 0)), (1, .int (nI p))]) hx hb d_M_over_6 rfl hl (by decide) rfl (fun ls hl => ?_)
  refine lv_iload_n hx hb d_M_over_7 rfl (lv_at hl 0 rfl) ?_
  refine lv_iload_n hx hb d_M_over_8 rfl (lv_at hl 2 rfl) ?_
  refine lv_bipush (v := nI 72) hx hb d_M_over_9 (by decide) ?_
  refine r_div hx hb d_M_over_11 (by omega) (by decide) (by decide) ?_
  refine r_cmp_eq (tgt := 26) hx hb d_M_over_12 (by decide) (by omega) (by omega) (fun h_12 => ?_) (fun h_12 => ?_)
  · refine lv_iconst (v := nI 1) hx hb d_M_over_26 (by decide) ?_
    exact r_ret hx hb hr hlk d_M_over_27 (congrArg nI (by simp [ct_ov, h_12]))
  · refine lv_iload_n hx hb d_M_over_15 rfl (lv_at hl 0 rfl) ?_
    refine lv_iload_n hx hb d_M_over_16 rfl (lv_at hl 2 rfl) ?_
    refine lv_bipush (v := nI 12) hx hb d_M_over_17 (by decide) ?_
    refine r_div hx hb d_M_over_19 (by omega) (by decide) (by decide) ?_
    refine lv_bipush (v := nI 6) hx hb d_M_over_20 (by decide) ?_
    refine r_rem hx hb d_M_over_22 (by omega) (by decide) (by decide) ?_
    refine r_cmp_ne (tgt := 28) hx hb d_M_over_23 (by decide) (by omega) (by omega) (fun h_23 => ?_) (fun h_23 => ?_)
    · refine lv_aload_n hx hb d_M_over_28 rfl (lv_at hl 1 rfl) ?_
      refine mg_exits S hK hP d_M_over_29 ?_
      refine lv_iload_n hx hb d_M_over_32 rfl (lv_at hl 0 rfl) ?_
      refine mo_exits S hK hP (by omega) d_M_over_33 ?_
      refine r_bif_eq (tgt := 41) hx hb d_M_over_34 (by decide) (fun h_34 => ?_) (fun h_34 => ?_)
      · refine lv_iconst (v := nI 0) hx hb d_M_over_41 (by decide) ?_
        exact r_ret hx hb hr hlk d_M_over_42 (congrArg nI (by simp [ct_ov, h_12, h_23, h_34]))
      · refine lv_iconst (v := nI 2) hx hb d_M_over_37 (by decide) ?_
        refine lv_goto (tgt := 42) hx hb d_M_over_38 (by decide) ?_
        exact r_ret hx hb hr hlk d_M_over_42 (congrArg nI (by simp [ct_ov, h_12, h_23, h_34]))
    · refine lv_iconst (v := nI 1) hx hb d_M_over_26 (by decide) ?_
      exact r_ret hx hb hr hlk d_M_over_27 (congrArg nI (by simp [ct_ov, h_12, h_23]))
set_option maxHeartbeats 4000000 in
set_option maxRecDepth 100000 in
/-- mover(p) -/
theorem c_M_mover (l : Launch) (dC : Nat → ClassId) (dI : Nat → Nat → Nat) (ad : Nat → Nat) (cd : Nat → ClassId) (g : ct_G) (k9 : Nat) (u : ct_U) (p : Nat) (hp : p < 432) : Met l y_M_mover (Cond.code y_M_mover b_M_mover 2 (some .int) :: ct_tbl) ({ frames := 0, cells := 0, slots := 0, locals := 0 }) (va_Pc [.ref (ad 0), .int (nI p)] (ct_PreR (dC, dI) (tM cd) (wM ad cd g k9 u))) (QcRead (nI (ct_mo p))) 0 0 (fun _ => False) := by
  refine ct_start [.ref (ad 0), .int (nI p)] (by decide) (Nat.le_of_ble_eq_true rfl) (fun pp ee s m below meth c ls S hr hlk _ hB hl => ?_)
  obtain ⟨hx, hb, hml, hown, hts⟩ := id S
  have hl : lv_has ls 2 [(0, .ref (ad 0)), (1, .int (nI p))] := hl
  obtain ⟨hP, hK⟩ := hB
  refine lv_iload_n hx hb d_M_mover_0 rfl (lv_at hl 1 rfl) ?_
  refine lv_iconst (v := nI 2) hx hb d_M_mover_1 (by decide) ?_
  refine r_rem hx hb d_M_mover_2 (by omega) (by decide) (by decide) ?_
  refine lv_iconst (v := nI 1) hx hb d_M_mover_3 (by decide) ?_
  refine r_cmp_ne (tgt := 11) hx hb d_M_mover_4 (by decide) (by omega) (by omega) (fun h_4 => ?_) (fun h_4 => ?_)
  · refine lv_iconst (v := nI 1) hx hb d_M_mover_11 (by decide) ?_
    exact r_ret hx hb hr hlk d_M_mover_12 (congrArg nI (by simp [ct_mo, h_4]))
  · refine lv_iconst (v := nI 2) hx hb d_M_mover_7 (by decide) ?_
    refine lv_goto (tgt := 12) hx hb d_M_mover_8 (by decide) ?_
    exact r_ret hx hb hr hlk d_M_mover_12 (congrArg nI (by simp [ct_mo, h_4]))
set_option maxHeartbeats 4000000 in
set_option maxRecDepth 100000 in
/-- after(p, x) -/
theorem c_M_after (l : Launch) (dC : Nat → ClassId) (dI : Nat → Nat → Nat) (ad : Nat → Nat) (cd : Nat → ClassId) (g : ct_G) (k9 : Nat) (u : ct_U) (p : Nat) (hp : p < 432) (x : Int32) : Met l y_M_after (Cond.code y_M_after b_M_after 8 (some .int) :: ct_tbl) ({ frames := 1, cells := 0, slots := 0, locals := 24 }) (va_Pc [.ref (ad 0), .int (nI p), .int x] (ct_PreR (dC, dI) (tM cd) (wM ad cd g k9 u))) (QcRead (ct_af (ct_mvI g p x))) 0 0 (fun _ => False) := by
  refine ct_start [.ref (ad 0), .int (nI p), .int x] (by decide) (Nat.le_of_ble_eq_true rfl) (fun pp ee s m below meth c ls S hr hlk _ hB hl => ?_)
  obtain ⟨hx, hb, hml, hown, hts⟩ := id S
  have hl : lv_has ls 8 [(0, .ref (ad 0)), (1, .int (nI p)), (2, .int x)] := hl
  obtain ⟨hP, hK⟩ := hB
  refine lv_iload_n hx hb d_M_after_0 rfl (lv_at hl 1 rfl) ?_
  refine lv_bipush (v := nI 72) hx hb d_M_after_1 (by decide) ?_
  refine r_div hx hb d_M_after_3 (by omega) (by decide) (by decide) ?_
  refine lv_istore_n (lv' := [(3, .int (nI (p / 72))), (0, .ref (ad 0)), (1, .int (nI p)), (2, .int x)]) hx hb d_M_after_4 rfl hl (by decide) rfl (fun ls hl => ?_)
  refine lv_iload_n hx hb d_M_after_5 rfl (lv_at hl 2 rfl) ?_
  refine lv_bipush (v := nI 12) hx hb d_M_after_6 (by decide) ?_
  refine r_div hx hb d_M_after_8 (by omega) (by decide) (by decide) ?_
  refine lv_bipush (v := nI 6) hx hb d_M_after_9 (by decide) ?_
  refine r_rem hx hb d_M_after_11 (by omega) (by decide) (by decide) ?_
  refine lv_istore (lv' := [(4, .int (nI ((p / 12) % 6))), (3, .int (nI (p / 72))), (0, .ref (ad 0)), (1, .int (nI p)), (2, .int x)]) hx hb d_M_after_12 hl (by decide) rfl (fun ls hl => ?_)
  refine lv_iload_n hx hb d_M_after_14 rfl (lv_at hl 3 rfl) ?_
  refine lv_iconst (v := nI 2) hx hb d_M_after_15 (by decide) ?_
  refine r_div hx hb d_M_after_16 (by omega) (by decide) (by decide) ?_
  refine lv_bipush (v := nI 6) hx hb d_M_after_17 (by decide) ?_
  refine r_rem hx hb d_M_after_19 (by omega) (by decide) (by decide) ?_
  refine lv_istore (lv' := [(5, .int (nI ((p / 2) % 6))), (4, .int (nI ((p / 12) % 6))), (3, .int (nI (p / 72))), (0, .ref (ad 0)), (1, .int (nI p)), (2, .int x)]) hx hb d_M_after_20 hl (by decide) rfl (fun ls hl => ?_)
  refine lv_iload_n hx hb d_M_after_22 rfl (lv_at hl 4 rfl) ?_
  refine lv_iconst (v := nI 2) hx hb d_M_after_23 (by decide) ?_
  refine r_rem hx hb d_M_after_24 (by omega) (by decide) (by decide) ?_
  refine lv_iconst (v := nI 1) hx hb d_M_after_25 (by decide) ?_
  refine r_cmp_ne (tgt := 33) hx hb d_M_after_26 (by decide) (by omega) (by omega) (fun h_26 => ?_) (fun h_26 => ?_)
  · refine lv_iconst (v := nI 0) hx hb d_M_after_33 (by decide) ?_
    refine lv_istore (lv' := [(6, .int (nI 0)), (5, .int (nI ((p / 2) % 6))), (4, .int (nI ((p / 12) % 6))), (3, .int (nI (p / 72))), (0, .ref (ad 0)), (1, .int (nI p)), (2, .int x)]) hx hb d_M_after_34 hl (by decide) rfl (fun ls hl => ?_)
    refine lv_iload_n hx hb d_M_after_36 rfl (lv_at hl 6 rfl) ?_
    refine lv_if_lt (tgt := 46) hx hb d_M_after_37 (by decide) (fun h_37 => ?_) (fun h_37 => ?_)
    · refine lv_iconst (v := (-1)) hx hb d_M_after_46 (by decide) ?_
      exact r_ret hx hb hr hlk d_M_after_47 (by first | exact ct_mvI_lt h_37 | exact ct_mvI_gt (ct_nle h_43))
    · refine lv_iload_n hx hb d_M_after_40 rfl (lv_at hl 6 rfl) ?_
      refine lv_bipush (v := nI 12) hx hb d_M_after_41 (by decide) ?_
      refine lv_icmp_le (tgt := 48) hx hb d_M_after_43 (by decide) (fun h_43 => ?_) (fun h_43 => ?_)
      · obtain ⟨c9, hc9, rfl⟩ := ct_le12 h_37 h_43
        rw [ct_mvI_n hc9]
        refine lv_iload_n hx hb d_M_after_48 rfl (lv_at hl 6 rfl) ?_
        refine lv_bipush (v := nI 12) hx hb d_M_after_49 (by decide) ?_
        refine r_cmp_ne (tgt := 121) hx hb d_M_after_51 (by decide) (by omega) (by omega) (fun h_51 => ?_) (fun h_51 => ?_)
        · refine lv_iload hx hb d_M_after_121 (lv_at hl 0 rfl) ?_
          refine r_if_eq (tgt := 161) hx hb d_M_after_123 (by decide) (by decide) (fun _ => ?_) (fun h => absurd rfl h)
          refine lv_iload_n hx hb d_M_after_161 rfl (lv_at hl 6 rfl) ?_
          refine lv_bipush (v := nI 6) hx hb d_M_after_162 (by decide) ?_
          refine r_cmp_ge (tgt := 196) hx hb d_M_after_164 (by decide) (by omega) (by omega) (fun h_164 => ?_) (fun h_164 => ?_)
          · refine lv_aload_n hx hb d_M_after_196 rfl (lv_at hl 4 rfl) ?_
            refine mg_doors S hK hP d_M_after_197 ?_
            refine lv_iload hx hb d_M_after_200 (lv_at hl 2 rfl) ?_
            refine lv_bipush (v := nI 6) hx hb d_M_after_202 (by decide) ?_
            refine r_mul hx hb d_M_after_204 ?_
            refine lv_iload_n hx hb d_M_after_205 rfl (lv_at hl 6 rfl) ?_
            refine r_add hx hb d_M_after_206 ?_
            refine lv_bipush (v := nI 6) hx hb d_M_after_207 (by decide) ?_
            refine r_sub hx hb d_M_after_209 (by omega) ?_
            refine mo_doors S hK hP (by omega) d_M_after_210 ?_
            refine r_top (y := ct_bI (g.1 (p / 12 % 6) (c9 - 6))) (by rw [show (p / 12 % 6 * 6 + c9 - 6) / 6 = p / 12 % 6 by omega, show (p / 12 % 6 * 6 + c9 - 6) % 6 = c9 - 6 by omega]) ?_
            refine r_bif_eq (tgt := 229) hx hb d_M_after_211 (by decide) (fun h_211 => ?_) (fun h_211 => ?_)
            · refine lv_iconst (v := (-1)) hx hb d_M_after_229 (by decide) ?_
              exact r_ret hx hb hr hlk d_M_after_230 (by first | (simp [ct_mv, ct_af, h_26, h_51, h_164, h_211]; done) | (simp [ct_mv, ct_af, h_26, h_51, h_164, h_211, show ¬ c9 < 6 by omega]; done))
            · refine lv_aload_n hx hb d_M_after_214 rfl (lv_at hl 4 rfl) ?_
              refine lv_iload_n hx hb d_M_after_215 rfl (lv_at hl 3 rfl) ?_
              refine lv_iload_n hx hb d_M_after_216 rfl (lv_at hl 6 rfl) ?_
              refine lv_bipush (v := nI 6) hx hb d_M_after_217 (by decide) ?_
              refine r_sub hx hb d_M_after_219 (by omega) ?_
              refine lv_iload hx hb d_M_after_220 (lv_at hl 1 rfl) ?_
              refine lv_iconst (v := nI 1) hx hb d_M_after_222 (by decide) ?_
              refine r_top (y := ct_bI true) rfl ?_
              refine w_callR 4 S (c_M_number l dC dI ad cd g k9 u (p / 72) (c9 - 6) ((p / 2) % 6) true) gv_M_M_number hd_M_number ⟨(Nat.le_of_ble_eq_true rfl), (Nat.le_of_ble_eq_true rfl)⟩ ⟨rfl, rfl⟩ ⟨Nat.zero_le _, Nat.zero_le _⟩ (m_rc hK hP) hK hP rfl hl.1 rfl (Nat.le_of_ble_eq_true rfl) d_M_after_223 ?_
              refine r_top (y := nI (ct_num (p / 72) (c9 - 6) ((p / 2) % 6) 1)) rfl ?_
              refine lv_goto (tgt := 230) hx hb d_M_after_226 (by decide) ?_
              have e9 : ct_mv g p c9 = some (ct_num (p / 72) (c9 - 6) (p / 2 % 6) 1) := by first | (simp [ct_mv, h_26, h_51, h_164, h_211, show c9 < 6 by omega]; done) | (simp [ct_mv, h_26, h_51, h_164, h_211, show ¬ c9 < 6 by omega]; done)
              rw [e9]
              exact r_ret hx hb hr hlk d_M_after_230 rfl
          · refine lv_aload_n hx hb d_M_after_167 rfl (lv_at hl 4 rfl) ?_
            refine mg_doors S hK hP d_M_after_168 ?_
            refine lv_iload_n hx hb d_M_after_171 rfl (lv_at hl 3 rfl) ?_
            refine lv_bipush (v := nI 6) hx hb d_M_after_172 (by decide) ?_
            refine r_mul hx hb d_M_after_174 ?_
            refine lv_iload_n hx hb d_M_after_175 rfl (lv_at hl 6 rfl) ?_
            refine r_add hx hb d_M_after_176 ?_
            refine mo_doors S hK hP (by omega) d_M_after_177 ?_
            refine r_top (y := ct_bI (g.1 (p / 72) c9)) (by rw [show (p / 72 * 6 + c9) / 6 = p / 72 by omega, show (p / 72 * 6 + c9) % 6 = c9 by omega]) ?_
            refine r_bif_eq (tgt := 194) hx hb d_M_after_178 (by decide) (fun h_178 => ?_) (fun h_178 => ?_)
            · refine lv_iconst (v := (-1)) hx hb d_M_after_194 (by decide) ?_
              exact r_ret hx hb hr hlk d_M_after_195 (by first | (simp [ct_mv, ct_af, h_26, h_51, h_164, h_178]; done) | (simp [ct_mv, ct_af, h_26, h_51, h_164, h_178, show ¬ c9 < 6 by omega]; done))
            · refine lv_aload_n hx hb d_M_after_181 rfl (lv_at hl 4 rfl) ?_
              refine lv_iload_n hx hb d_M_after_182 rfl (lv_at hl 6 rfl) ?_
              refine lv_iload hx hb d_M_after_183 (lv_at hl 2 rfl) ?_
              refine lv_iload hx hb d_M_after_185 (lv_at hl 1 rfl) ?_
              refine lv_iconst (v := nI 1) hx hb d_M_after_187 (by decide) ?_
              refine r_top (y := ct_bI true) rfl ?_
              refine w_callR 4 S (c_M_number l dC dI ad cd g k9 u c9 ((p / 12) % 6) ((p / 2) % 6) true) gv_M_M_number hd_M_number ⟨(Nat.le_of_ble_eq_true rfl), (Nat.le_of_ble_eq_true rfl)⟩ ⟨rfl, rfl⟩ ⟨Nat.zero_le _, Nat.zero_le _⟩ (m_rc hK hP) hK hP rfl hl.1 rfl (Nat.le_of_ble_eq_true rfl) d_M_after_188 ?_
              refine r_top (y := nI (ct_num c9 ((p / 12) % 6) ((p / 2) % 6) 1)) rfl ?_
              refine lv_goto (tgt := 195) hx hb d_M_after_191 (by decide) ?_
              have e9 : ct_mv g p c9 = some (ct_num c9 (p / 12 % 6) (p / 2 % 6) 1) := by first | (simp [ct_mv, h_26, h_51, h_164, h_178, show c9 < 6 by omega]; done) | (simp [ct_mv, h_26, h_51, h_164, h_178, show ¬ c9 < 6 by omega]; done)
              rw [e9]
              exact r_ret hx hb hr hlk d_M_after_195 rfl
        · refine lv_iload hx hb d_M_after_54 (lv_at hl 0 rfl) ?_
          refine r_if_eq (tgt := 76) hx hb d_M_after_56 (by decide) (by decide) (fun _ => ?_) (fun h => absurd rfl h)
          refine lv_aload_n hx hb d_M_after_76 rfl (lv_at hl 4 rfl) ?_
          refine mg_waits S hK hP d_M_after_77 ?_
          refine lv_iconst (v := nI 1) hx hb d_M_after_80 (by decide) ?_
          refine lv_iand hx hb d_M_after_81 ?_
          refine r_top (y := nI (g.2.2.1.toNat)) (ct_wg g) ?_
          refine r_if_eq (tgt := 89) hx hb d_M_after_82 (by decide) (by have := ct_tn g.2.2.1; omega) (fun h_82 => ?_) (fun h_82 => ?_)
          · have hm9 : g.2.2.1 = false := ct_tz (by omega)
            refine lv_iconst (v := nI 0) hx hb d_M_after_89 (by decide) ?_
            refine lv_istore (lv' := [(7, .int (nI 0)), (6, .int (nI 0)), (5, .int (nI ((p / 2) % 6))), (4, .int (nI ((p / 12) % 6))), (3, .int (nI (p / 72))), (0, .ref (ad 0)), (1, .int (nI p)), (2, .int (nI c9))]) hx hb d_M_after_90 hl (by decide) rfl (fun ls hl => ?_)
            refine lv_iload hx hb d_M_after_92 (lv_at hl 0 rfl) ?_
            refine r_if_eq (tgt := 119) hx hb d_M_after_94 (by decide) (by decide) (fun _ => ?_) (fun h => absurd rfl h)
            refine lv_iconst (v := (-1)) hx hb d_M_after_119 (by decide) ?_
            exact r_ret hx hb hr hlk d_M_after_120 (by first | (simp [ct_mv, ct_af, h_26, h_51, hm9]; done) | (simp [ct_mv, ct_af, h_26, h_51, hm9, show ¬ c9 < 6 by omega]; done))
          · have hm9 : g.2.2.1 = true := ct_to (by omega)
            refine lv_iconst (v := nI 1) hx hb d_M_after_85 (by decide) ?_
            refine lv_goto (tgt := 90) hx hb d_M_after_86 (by decide) ?_
            refine lv_istore (lv' := [(7, .int (nI 1)), (6, .int (nI 0)), (5, .int (nI ((p / 2) % 6))), (4, .int (nI ((p / 12) % 6))), (3, .int (nI (p / 72))), (0, .ref (ad 0)), (1, .int (nI p)), (2, .int (nI c9))]) hx hb d_M_after_90 hl (by decide) rfl (fun ls hl => ?_)
            refine lv_iload hx hb d_M_after_92 (lv_at hl 0 rfl) ?_
            refine r_if_eq (tgt := 119) hx hb d_M_after_94 (by decide) (by decide) (fun h => absurd h (by decide)) (fun _ => ?_)
            refine lv_aload_n hx hb d_M_after_97 rfl (lv_at hl 5 rfl) ?_
            refine lv_iload_n hx hb d_M_after_98 rfl (lv_at hl 4 rfl) ?_
            refine lv_iload hx hb d_M_after_99 (lv_at hl 3 rfl) ?_
            refine lv_iload hx hb d_M_after_101 (lv_at hl 2 rfl) ?_
            refine lv_iload hx hb d_M_after_103 (lv_at hl 1 rfl) ?_
            refine r_if_ne (tgt := 112) hx hb d_M_after_105 (by decide) (by decide) (fun h => absurd rfl h) (fun _ => ?_)
            refine lv_iconst (v := nI 1) hx hb d_M_after_108 (by decide) ?_
            refine lv_goto (tgt := 113) hx hb d_M_after_109 (by decide) ?_
            refine r_top (y := ct_bI true) rfl ?_
            refine w_callR 4 S (c_M_number l dC dI ad cd g k9 u (p / 72) ((p / 12) % 6) ((p / 2) % 6) true) gv_M_M_number hd_M_number ⟨(Nat.le_of_ble_eq_true rfl), (Nat.le_of_ble_eq_true rfl)⟩ ⟨rfl, rfl⟩ ⟨Nat.zero_le _, Nat.zero_le _⟩ (m_rc hK hP) hK hP rfl hl.1 rfl (Nat.le_of_ble_eq_true rfl) d_M_after_113 ?_
            refine r_top (y := nI (ct_num (p / 72) ((p / 12) % 6) ((p / 2) % 6) 1)) rfl ?_
            refine lv_goto (tgt := 120) hx hb d_M_after_116 (by decide) ?_
            have e9 : ct_mv g p c9 = some (p + 1) := by simp [ct_mv, h_26, h_51, hm9]
            rw [e9]
            exact r_ret hx hb hr hlk d_M_after_120 (congrArg nI (by unfold ct_num; omega))
      · refine lv_iconst (v := (-1)) hx hb d_M_after_46 (by decide) ?_
        exact r_ret hx hb hr hlk d_M_after_47 (by first | exact ct_mvI_lt h_37 | exact ct_mvI_gt (ct_nle h_43))
  · refine lv_iconst (v := nI 1) hx hb d_M_after_29 (by decide) ?_
    refine lv_goto (tgt := 34) hx hb d_M_after_30 (by decide) ?_
    refine lv_istore (lv' := [(6, .int (nI 1)), (5, .int (nI ((p / 2) % 6))), (4, .int (nI ((p / 12) % 6))), (3, .int (nI (p / 72))), (0, .ref (ad 0)), (1, .int (nI p)), (2, .int x)]) hx hb d_M_after_34 hl (by decide) rfl (fun ls hl => ?_)
    refine lv_iload_n hx hb d_M_after_36 rfl (lv_at hl 6 rfl) ?_
    refine lv_if_lt (tgt := 46) hx hb d_M_after_37 (by decide) (fun h_37 => ?_) (fun h_37 => ?_)
    · refine lv_iconst (v := (-1)) hx hb d_M_after_46 (by decide) ?_
      exact r_ret hx hb hr hlk d_M_after_47 (by first | exact ct_mvI_lt h_37 | exact ct_mvI_gt (ct_nle h_43))
    · refine lv_iload_n hx hb d_M_after_40 rfl (lv_at hl 6 rfl) ?_
      refine lv_bipush (v := nI 12) hx hb d_M_after_41 (by decide) ?_
      refine lv_icmp_le (tgt := 48) hx hb d_M_after_43 (by decide) (fun h_43 => ?_) (fun h_43 => ?_)
      · obtain ⟨c9, hc9, rfl⟩ := ct_le12 h_37 h_43
        rw [ct_mvI_n hc9]
        refine lv_iload_n hx hb d_M_after_48 rfl (lv_at hl 6 rfl) ?_
        refine lv_bipush (v := nI 12) hx hb d_M_after_49 (by decide) ?_
        refine r_cmp_ne (tgt := 121) hx hb d_M_after_51 (by decide) (by omega) (by omega) (fun h_51 => ?_) (fun h_51 => ?_)
        · refine lv_iload hx hb d_M_after_121 (lv_at hl 0 rfl) ?_
          refine r_if_eq (tgt := 161) hx hb d_M_after_123 (by decide) (by decide) (fun h => absurd h (by decide)) (fun _ => ?_)
          refine lv_iload_n hx hb d_M_after_126 rfl (lv_at hl 6 rfl) ?_
          refine lv_bipush (v := nI 6) hx hb d_M_after_127 (by decide) ?_
          refine r_cmp_ge (tgt := 159) hx hb d_M_after_129 (by decide) (by omega) (by omega) (fun h_129 => ?_) (fun h_129 => ?_)
          · refine lv_iconst (v := (-1)) hx hb d_M_after_159 (by decide) ?_
            exact r_ret hx hb hr hlk d_M_after_160 (by first | (simp [ct_mv, ct_af, h_26, h_51, h_129]; done) | (simp [ct_mv, ct_af, h_26, h_51, h_129, show ¬ c9 < 6 by omega]; done))
          · refine lv_aload_n hx hb d_M_after_132 rfl (lv_at hl 4 rfl) ?_
            refine mg_doors S hK hP d_M_after_133 ?_
            refine lv_iload hx hb d_M_after_136 (lv_at hl 1 rfl) ?_
            refine lv_bipush (v := nI 6) hx hb d_M_after_138 (by decide) ?_
            refine r_mul hx hb d_M_after_140 ?_
            refine lv_iload_n hx hb d_M_after_141 rfl (lv_at hl 6 rfl) ?_
            refine r_add hx hb d_M_after_142 ?_
            refine mo_doors S hK hP (by omega) d_M_after_143 ?_
            refine r_top (y := ct_bI (g.1 (p / 2 % 6) c9)) (by rw [show (p / 2 % 6 * 6 + c9) / 6 = p / 2 % 6 by omega, show (p / 2 % 6 * 6 + c9) % 6 = c9 by omega]) ?_
            refine r_bif_eq (tgt := 159) hx hb d_M_after_144 (by decide) (fun h_144 => ?_) (fun h_144 => ?_)
            · refine lv_iconst (v := (-1)) hx hb d_M_after_159 (by decide) ?_
              exact r_ret hx hb hr hlk d_M_after_160 (by first | (simp [ct_mv, ct_af, h_26, h_51, h_129, h_144]; done) | (simp [ct_mv, ct_af, h_26, h_51, h_129, h_144, show ¬ c9 < 6 by omega]; done))
            · refine lv_aload_n hx hb d_M_after_147 rfl (lv_at hl 4 rfl) ?_
              refine lv_iload_n hx hb d_M_after_148 rfl (lv_at hl 3 rfl) ?_
              refine lv_iload hx hb d_M_after_149 (lv_at hl 2 rfl) ?_
              refine lv_iload_n hx hb d_M_after_151 rfl (lv_at hl 6 rfl) ?_
              refine lv_iconst (v := nI 0) hx hb d_M_after_152 (by decide) ?_
              refine r_top (y := ct_bI false) rfl ?_
              refine w_callR 4 S (c_M_number l dC dI ad cd g k9 u (p / 72) ((p / 12) % 6) c9 false) gv_M_M_number hd_M_number ⟨(Nat.le_of_ble_eq_true rfl), (Nat.le_of_ble_eq_true rfl)⟩ ⟨rfl, rfl⟩ ⟨Nat.zero_le _, Nat.zero_le _⟩ (m_rc hK hP) hK hP rfl hl.1 rfl (Nat.le_of_ble_eq_true rfl) d_M_after_153 ?_
              refine r_top (y := nI (ct_num (p / 72) ((p / 12) % 6) c9 0)) rfl ?_
              refine lv_goto (tgt := 160) hx hb d_M_after_156 (by decide) ?_
              have e9 : ct_mv g p c9 = some (ct_num (p / 72) (p / 12 % 6) c9 0) := by first | (simp [ct_mv, h_26, h_51, h_129, h_144, show c9 < 6 by omega]; done) | (simp [ct_mv, h_26, h_51, h_129, h_144, show ¬ c9 < 6 by omega]; done)
              rw [e9]
              exact r_ret hx hb hr hlk d_M_after_160 rfl
        · refine lv_iload hx hb d_M_after_54 (lv_at hl 0 rfl) ?_
          refine r_if_eq (tgt := 76) hx hb d_M_after_56 (by decide) (by decide) (fun h => absurd h (by decide)) (fun _ => ?_)
          refine lv_aload_n hx hb d_M_after_59 rfl (lv_at hl 4 rfl) ?_
          refine mg_waits S hK hP d_M_after_60 ?_
          refine lv_iconst (v := nI 2) hx hb d_M_after_63 (by decide) ?_
          refine lv_iand hx hb d_M_after_64 ?_
          refine r_top (y := nI (2 * g.2.2.2.toNat)) (ct_wt g) ?_
          refine r_if_eq (tgt := 72) hx hb d_M_after_65 (by decide) (by have := ct_tn g.2.2.2; omega) (fun h_65 => ?_) (fun h_65 => ?_)
          · have hm9 : g.2.2.2 = false := ct_tz (by omega)
            refine lv_iconst (v := nI 0) hx hb d_M_after_72 (by decide) ?_
            refine lv_goto (tgt := 90) hx hb d_M_after_73 (by decide) ?_
            refine lv_istore (lv' := [(7, .int (nI 0)), (6, .int (nI 1)), (5, .int (nI ((p / 2) % 6))), (4, .int (nI ((p / 12) % 6))), (3, .int (nI (p / 72))), (0, .ref (ad 0)), (1, .int (nI p)), (2, .int (nI c9))]) hx hb d_M_after_90 hl (by decide) rfl (fun ls hl => ?_)
            refine lv_iload hx hb d_M_after_92 (lv_at hl 0 rfl) ?_
            refine r_if_eq (tgt := 119) hx hb d_M_after_94 (by decide) (by decide) (fun _ => ?_) (fun h => absurd rfl h)
            refine lv_iconst (v := (-1)) hx hb d_M_after_119 (by decide) ?_
            exact r_ret hx hb hr hlk d_M_after_120 (by first | (simp [ct_mv, ct_af, h_26, h_51, hm9]; done) | (simp [ct_mv, ct_af, h_26, h_51, hm9, show ¬ c9 < 6 by omega]; done))
          · have hm9 : g.2.2.2 = true := ct_to (by omega)
            refine lv_iconst (v := nI 1) hx hb d_M_after_68 (by decide) ?_
            refine lv_goto (tgt := 90) hx hb d_M_after_69 (by decide) ?_
            refine lv_istore (lv' := [(7, .int (nI 1)), (6, .int (nI 1)), (5, .int (nI ((p / 2) % 6))), (4, .int (nI ((p / 12) % 6))), (3, .int (nI (p / 72))), (0, .ref (ad 0)), (1, .int (nI p)), (2, .int (nI c9))]) hx hb d_M_after_90 hl (by decide) rfl (fun ls hl => ?_)
            refine lv_iload hx hb d_M_after_92 (lv_at hl 0 rfl) ?_
            refine r_if_eq (tgt := 119) hx hb d_M_after_94 (by decide) (by decide) (fun h => absurd h (by decide)) (fun _ => ?_)
            refine lv_aload_n hx hb d_M_after_97 rfl (lv_at hl 5 rfl) ?_
            refine lv_iload_n hx hb d_M_after_98 rfl (lv_at hl 4 rfl) ?_
            refine lv_iload hx hb d_M_after_99 (lv_at hl 3 rfl) ?_
            refine lv_iload hx hb d_M_after_101 (lv_at hl 2 rfl) ?_
            refine lv_iload hx hb d_M_after_103 (lv_at hl 1 rfl) ?_
            refine r_if_ne (tgt := 112) hx hb d_M_after_105 (by decide) (by decide) (fun _ => ?_) (fun h => absurd h (by decide))
            refine lv_iconst (v := nI 0) hx hb d_M_after_112 (by decide) ?_
            refine r_top (y := ct_bI false) rfl ?_
            refine w_callR 4 S (c_M_number l dC dI ad cd g k9 u (p / 72) ((p / 12) % 6) ((p / 2) % 6) false) gv_M_M_number hd_M_number ⟨(Nat.le_of_ble_eq_true rfl), (Nat.le_of_ble_eq_true rfl)⟩ ⟨rfl, rfl⟩ ⟨Nat.zero_le _, Nat.zero_le _⟩ (m_rc hK hP) hK hP rfl hl.1 rfl (Nat.le_of_ble_eq_true rfl) d_M_after_113 ?_
            refine r_top (y := nI (ct_num (p / 72) ((p / 12) % 6) ((p / 2) % 6) 0)) rfl ?_
            refine lv_goto (tgt := 120) hx hb d_M_after_116 (by decide) ?_
            have e9 : ct_mv g p c9 = some (p - 1) := by simp [ct_mv, h_26, h_51, hm9]
            rw [e9]
            exact r_ret hx hb hr hlk d_M_after_120 (congrArg nI (by unfold ct_num; omega))
      · refine lv_iconst (v := (-1)) hx hb d_M_after_46 (by decide) ?_
        exact r_ret hx hb hr hlk d_M_after_47 (by first | exact ct_mvI_lt h_37 | exact ct_mvI_gt (ct_nle h_43))
theorem ct_nge {x y : Int32} (h : ¬ y ≤ x) : x < y := ct_nle h
set_option maxHeartbeats 4000000 in
set_option maxRecDepth 100000 in
/-- follows(p, r) -/
theorem c_M_follows (l : Launch) (dC : Nat → ClassId) (dI : Nat → Nat → Nat) (ad : Nat → Nat) (cd : Nat → ClassId) (g : ct_G) (k9 : Nat) (u : ct_U) (p r : Nat) (hp : p < 432) (hr9 : r < 1000) (hw : ∀ j, j < 432 → u.2.1 j ≤ 2) : Met l y_M_follows (Cond.code y_M_follows b_M_follows 7 (some .int) :: ct_tbl) ({ frames := 2, cells := 0, slots := 0, locals := 51 }) (va_Pc [.ref (ad 0), .int (nI p), .int (nI r)] (ct_PreR (dC, dI) (tM cd) (wM ad cd g k9 u))) (QcRead (nI (ct_fol g (ct_S u r) p))) 0 0 (fun _ => False) := by
  refine ct_start [.ref (ad 0), .int (nI p), .int (nI r)] (by decide) (Nat.le_of_ble_eq_true rfl) (fun pp ee s m below meth c ls S hr hlk _ hB hl => ?_)
  obtain ⟨hx, hb, hml, hown, hts⟩ := id S
  have hl : lv_has ls 7 [(0, .ref (ad 0)), (1, .int (nI p)), (2, .int (nI r))] := hl
  obtain ⟨hP, hK⟩ := hB
  have hmo := ct_mo_12 p
  refine lv_iconst (v := nI 3) hx hb d_M_follows_0 (by decide) ?_
  refine lv_aload_n hx hb d_M_follows_1 rfl (lv_at hl 0 rfl) ?_
  refine lv_iload_n hx hb d_M_follows_2 rfl (lv_at hl 1 rfl) ?_
  refine w_callR 1 S (c_M_mover l dC dI ad cd g k9 u p (by omega)) gv_M_M_mover hd_M_mover ⟨(Nat.le_of_ble_eq_true rfl), (Nat.le_of_ble_eq_true rfl)⟩ ⟨rfl, rfl⟩ ⟨Nat.zero_le _, Nat.zero_le _⟩ (m_rc hK hP) hK hP rfl hl.1 rfl (Nat.le_of_ble_eq_true rfl) d_M_follows_3 ?_
  refine r_sub hx hb d_M_follows_6 (by omega) ?_
  refine lv_istore_n (lv' := [(3, .int (nI (3 - (ct_mo p)))), (0, .ref (ad 0)), (1, .int (nI p)), (2, .int (nI r))]) hx hb d_M_follows_7 rfl hl (by decide) rfl (fun ls hl => ?_)
  refine lv_iconst (v := nI 1) hx hb d_M_follows_8 (by decide) ?_
  refine lv_istore (lv' := [(4, .int (nI 1)), (3, .int (nI (3 - (ct_mo p)))), (0, .ref (ad 0)), (1, .int (nI p)), (2, .int (nI r))]) hx hb d_M_follows_9 hl (by decide) rfl (fun ls hl => ?_)
  refine lv_iconst (v := nI 0) hx hb d_M_follows_11 (by decide) ?_
  refine lv_istore (lv' := [(5, .int (nI 0)), (4, .int (nI 1)), (3, .int (nI (3 - (ct_mo p)))), (0, .ref (ad 0)), (1, .int (nI p)), (2, .int (nI r))]) hx hb d_M_follows_12 hl (by decide) rfl (fun ls hl => ?_)
  have loop : ∀ k i : Nat, i ≤ 13 → 13 < i + k → ct_any (ct_hit g (ct_S u r) p) i = false → ∀ ls : Array Slot, lv_has ls 7 [(0, .ref (ad 0)), (1, .int (nI p)), (2, .int (nI r)), (3, .int (nI (3 - ct_mo p))), (4, .int (nI ((ct_all (ct_los g (ct_S u r) p) i).toNat))), (5, .int (nI i))] → W pp l ee ({ frames := 2, cells := 0, slots := 0, locals := 51 }) s m ([.ref (ad 0), .int (nI p), .int (nI r)] : List Value).toArray below meth c s.heap [] 0 0 (MQ below (QcRead (nI (ct_fol g (ct_S u r) p))) ([.ref (ad 0), .int (nI p), .int (nI r)] : List Value).toArray s 0 0 (fun _ => False)) (F0 m 14 ls []) := by
    intro k
    induction k with
    | zero => intro i h1 h2; omega
    | succ k ih =>
      intro i hi hk hany ls hl
      refine lv_iload hx hb d_M_follows_14 (lv_at hl 5 rfl) ?_
      refine lv_bipush (v := nI 12) hx hb d_M_follows_16 (by decide) ?_
      refine r_cmp_gt (tgt := 98) hx hb d_M_follows_18 (by decide) (by omega) (by omega) (fun h_18 => ?_) (fun h_18 => ?_)
      · obtain rfl : i = 13 := by omega
        have htn := ct_tn (ct_all (ct_los g (ct_S u r) p) 13)
        refine lv_iload hx hb d_M_follows_98 (lv_at hl 4 rfl) ?_
        refine r_if_eq (tgt := 107) hx hb d_M_follows_100 (by decide) (by omega) (fun h_100 => ?_) (fun h_100 => ?_)
        · refine lv_iconst (v := nI 0) hx hb d_M_follows_107 (by decide) ?_
          exact r_ret hx hb hr hlk d_M_follows_108 (congrArg nI (by unfold ct_fol; rw [if_neg (by simp [hany]), if_neg (by simp [ct_tz h_100])]))
        · refine lv_iload_n hx hb d_M_follows_103 rfl (lv_at hl 3 rfl) ?_
          refine lv_goto (tgt := 108) hx hb d_M_follows_104 (by decide) ?_
          exact r_ret hx hb hr hlk d_M_follows_108 (congrArg nI (by unfold ct_fol; rw [if_neg (by simp [hany]), if_pos (ct_to h_100)]))
      · refine lv_aload_n hx hb d_M_follows_21 rfl (lv_at hl 0 rfl) ?_
        refine lv_iload_n hx hb d_M_follows_22 rfl (lv_at hl 1 rfl) ?_
        refine lv_iload hx hb d_M_follows_23 (lv_at hl 5 rfl) ?_
        refine w_callR 2 S (c_M_after l dC dI ad cd g k9 u p (by omega) (nI i)) gv_M_M_after hd_M_after ⟨(Nat.le_of_ble_eq_true rfl), (Nat.le_of_ble_eq_true rfl)⟩ ⟨rfl, rfl⟩ ⟨Nat.zero_le _, Nat.zero_le _⟩ (m_rc hK hP) hK hP rfl hl.1 rfl (Nat.le_of_ble_eq_true rfl) d_M_follows_25 ?_
        refine r_top (y := (ct_af (ct_mv g p i))) (by rw [ct_mvI_n (by omega)]) ?_
        refine r_af (fun ho => ?_) (fun q9 ho => ?_)
        · refine lv_istore (lv' := [(6, .int (-1)), (0, .ref (ad 0)), (1, .int (nI p)), (2, .int (nI r)), (3, .int (nI (3 - ct_mo p))), (4, .int (nI ((ct_all (ct_los g (ct_S u r) p) i).toNat))), (5, .int (nI i))]) hx hb d_M_follows_28 hl (by decide) rfl (fun ls hl => ?_)
          refine lv_iload hx hb d_M_follows_30 (lv_at hl 0 rfl) ?_
          refine r_iflt_m (tgt := 92) hx hb d_M_follows_32 (by decide) ?_
          have eH : ct_hit g (ct_S u r) p i = false := by simp [ct_hit, ho]
          have eL : ct_los g (ct_S u r) p i = true := by simp [ct_los, ho]
          have e9 : (ct_all (ct_los g (ct_S u r) p) (i + 1)).toNat = (ct_all (ct_los g (ct_S u r) p) i).toNat := by simp [ct_all, eL]
          have hl : lv_has ls 7 [(6, .int (-1)), (0, .ref (ad 0)), (1, .int (nI p)), (2, .int (nI r)), (3, .int (nI (3 - ct_mo p))), (4, .int (nI ((ct_all (ct_los g (ct_S u r) p) (i + 1)).toNat))), (5, .int (nI i))] := by rw [e9]; exact hl
          refine lv_iinc (v := nI (i + 1)) (lv' := [(5, .int (nI (i + 1))), (6, .int (-1)), (0, .ref (ad 0)), (1, .int (nI p)), (2, .int (nI r)), (3, .int (nI (3 - ct_mo p))), (4, .int (nI ((ct_all (ct_los g (ct_S u r) p) (i + 1)).toNat)))]) hx hb d_M_follows_92 hl (k := 6) rfl (nI_add _ 1) (by decide) rfl (fun ls hl => ?_)
          refine lv_goto (tgt := 14) hx hb d_M_follows_95 (by decide) ?_
          exact ih (i + 1) (by omega) (by omega) (by simp [ct_any, hany, eH]) ls (lv_sub hl [2, 3, 4, 5, 6, 0] rfl)
        · have hq9 := ct_mv_lt hp (by omega) ho
          have hwq := hw q9 hq9
          refine lv_istore (lv' := [(6, .int (nI q9)), (0, .ref (ad 0)), (1, .int (nI p)), (2, .int (nI r)), (3, .int (nI (3 - ct_mo p))), (4, .int (nI ((ct_all (ct_los g (ct_S u r) p) i).toNat))), (5, .int (nI i))]) hx hb d_M_follows_28 hl (by decide) rfl (fun ls hl => ?_)
          refine lv_iload hx hb d_M_follows_30 (lv_at hl 0 rfl) ?_
          refine r_iflt_n (tgt := 92) hx hb d_M_follows_32 (by decide) (by omega) ?_
          refine lv_aload_n hx hb d_M_follows_35 rfl (lv_at hl 1 rfl) ?_
          refine mg_winner S hK hP d_M_follows_36 ?_
          refine lv_iload hx hb d_M_follows_39 (lv_at hl 0 rfl) ?_
          refine mo_winner S hK hP (by omega) d_M_follows_41 ?_
          refine lv_aload_n hx hb d_M_follows_42 rfl (lv_at hl 1 rfl) ?_
          refine lv_iload_n hx hb d_M_follows_43 rfl (lv_at hl 2 rfl) ?_
          refine w_callR 1 S (c_M_mover l dC dI ad cd g k9 u p (by omega)) gv_M_M_mover hd_M_mover ⟨(Nat.le_of_ble_eq_true rfl), (Nat.le_of_ble_eq_true rfl)⟩ ⟨rfl, rfl⟩ ⟨Nat.zero_le _, Nat.zero_le _⟩ (m_rc hK hP) hK hP rfl hl.1 rfl (Nat.le_of_ble_eq_true rfl) d_M_follows_44 ?_
          refine r_cmp_ne (tgt := 67) hx hb d_M_follows_47 (by decide) (by omega) (by omega) (fun h_47 => ?_) (fun h_47 => ?_)
          · refine lv_aload_n hx hb d_M_follows_67 rfl (lv_at hl 1 rfl) ?_
            refine mg_winner S hK hP d_M_follows_68 ?_
            refine lv_iload hx hb d_M_follows_71 (lv_at hl 0 rfl) ?_
            refine mo_winner S hK hP (by omega) d_M_follows_73 ?_
            refine lv_iload_n hx hb d_M_follows_74 rfl (lv_at hl 4 rfl) ?_
            refine r_cmp_ne (tgt := 89) hx hb d_M_follows_75 (by decide) (by omega) (by omega) (fun h_75 => ?_) (fun h_75 => ?_)
            · refine lv_iconst (v := nI 0) hx hb d_M_follows_89 (by decide) ?_
              refine lv_istore (lv' := [(4, .int (nI 0)), (6, .int (nI q9)), (0, .ref (ad 0)), (1, .int (nI p)), (2, .int (nI r)), (3, .int (nI (3 - ct_mo p))), (5, .int (nI i))]) hx hb d_M_follows_90 hl (by decide) rfl (fun ls hl => ?_)
              have eH1 : ct_S u r q9 ≠ ct_mo p := ct_S_ne1 h_47 (by omega)
              have eH : ct_hit g (ct_S u r) p i = false := by simp [ct_hit, ho, eH1]
              have eL1 : ct_S u r q9 ≠ 3 - ct_mo p := ct_S_ne1 h_75 (by omega)
              have eL : ct_los g (ct_S u r) p i = false := by simp [ct_los, ho, eL1]
              have e9 : (ct_all (ct_los g (ct_S u r) p) (i + 1)).toNat = 0 := by simp [ct_all, eL]
              have hl : lv_has ls 7 [(4, .int (nI ((ct_all (ct_los g (ct_S u r) p) (i + 1)).toNat))), (6, .int (nI q9)), (0, .ref (ad 0)), (1, .int (nI p)), (2, .int (nI r)), (3, .int (nI (3 - ct_mo p))), (5, .int (nI i))] := by rw [e9]; exact hl
              refine lv_iinc (v := nI (i + 1)) (lv' := [(5, .int (nI (i + 1))), (4, .int (nI ((ct_all (ct_los g (ct_S u r) p) (i + 1)).toNat))), (6, .int (nI q9)), (0, .ref (ad 0)), (1, .int (nI p)), (2, .int (nI r)), (3, .int (nI (3 - ct_mo p)))]) hx hb d_M_follows_92 hl (k := 6) rfl (nI_add _ 1) (by decide) rfl (fun ls hl => ?_)
              refine lv_goto (tgt := 14) hx hb d_M_follows_95 (by decide) ?_
              exact ih (i + 1) (by omega) (by omega) (by simp [ct_any, hany, eH]) ls (lv_sub hl [3, 4, 5, 6, 1, 0] rfl)
            · refine lv_aload_n hx hb d_M_follows_78 rfl (lv_at hl 1 rfl) ?_
              refine mg_rounds S hK hP d_M_follows_79 ?_
              refine lv_iload hx hb d_M_follows_82 (lv_at hl 0 rfl) ?_
              refine mo_rounds S hK hP (by omega) d_M_follows_84 ?_
              refine lv_iload_n hx hb d_M_follows_85 rfl (lv_at hl 3 rfl) ?_
              refine lv_icmp_lt (tgt := 92) hx hb d_M_follows_86 (by decide) (fun h_86 => ?_) (fun h_86 => ?_)
              · have eH1 : ct_S u r q9 ≠ ct_mo p := ct_S_ne1 h_47 (by omega)
                have eH : ct_hit g (ct_S u r) p i = false := by simp [ct_hit, ho, eH1]
                have eL : ct_los g (ct_S u r) p i = true := by simp [ct_los, ho, ct_S_eq h_86 h_75]
                have e9 : (ct_all (ct_los g (ct_S u r) p) (i + 1)).toNat = (ct_all (ct_los g (ct_S u r) p) i).toNat := by simp [ct_all, eL]
                have hl : lv_has ls 7 [(6, .int (nI q9)), (0, .ref (ad 0)), (1, .int (nI p)), (2, .int (nI r)), (3, .int (nI (3 - ct_mo p))), (4, .int (nI ((ct_all (ct_los g (ct_S u r) p) (i + 1)).toNat))), (5, .int (nI i))] := by rw [e9]; exact hl
                refine lv_iinc (v := nI (i + 1)) (lv' := [(5, .int (nI (i + 1))), (6, .int (nI q9)), (0, .ref (ad 0)), (1, .int (nI p)), (2, .int (nI r)), (3, .int (nI (3 - ct_mo p))), (4, .int (nI ((ct_all (ct_los g (ct_S u r) p) (i + 1)).toNat)))]) hx hb d_M_follows_92 hl (k := 6) rfl (nI_add _ 1) (by decide) rfl (fun ls hl => ?_)
                refine lv_goto (tgt := 14) hx hb d_M_follows_95 (by decide) ?_
                exact ih (i + 1) (by omega) (by omega) (by simp [ct_any, hany, eH]) ls (lv_sub hl [2, 3, 4, 5, 6, 0] rfl)
              · refine lv_iconst (v := nI 0) hx hb d_M_follows_89 (by decide) ?_
                refine lv_istore (lv' := [(4, .int (nI 0)), (6, .int (nI q9)), (0, .ref (ad 0)), (1, .int (nI p)), (2, .int (nI r)), (3, .int (nI (3 - ct_mo p))), (5, .int (nI i))]) hx hb d_M_follows_90 hl (by decide) rfl (fun ls hl => ?_)
                have eH1 : ct_S u r q9 ≠ ct_mo p := ct_S_ne1 h_47 (by omega)
                have eH : ct_hit g (ct_S u r) p i = false := by simp [ct_hit, ho, eH1]
                have eL1 : ct_S u r q9 ≠ 3 - ct_mo p := ct_S_ne2 h_86 (by omega)
                have eL : ct_los g (ct_S u r) p i = false := by simp [ct_los, ho, eL1]
                have e9 : (ct_all (ct_los g (ct_S u r) p) (i + 1)).toNat = 0 := by simp [ct_all, eL]
                have hl : lv_has ls 7 [(4, .int (nI ((ct_all (ct_los g (ct_S u r) p) (i + 1)).toNat))), (6, .int (nI q9)), (0, .ref (ad 0)), (1, .int (nI p)), (2, .int (nI r)), (3, .int (nI (3 - ct_mo p))), (5, .int (nI i))] := by rw [e9]; exact hl
                refine lv_iinc (v := nI (i + 1)) (lv' := [(5, .int (nI (i + 1))), (4, .int (nI ((ct_all (ct_los g (ct_S u r) p) (i + 1)).toNat))), (6, .int (nI q9)), (0, .ref (ad 0)), (1, .int (nI p)), (2, .int (nI r)), (3, .int (nI (3 - ct_mo p)))]) hx hb d_M_follows_92 hl (k := 6) rfl (nI_add _ 1) (by decide) rfl (fun ls hl => ?_)
                refine lv_goto (tgt := 14) hx hb d_M_follows_95 (by decide) ?_
                exact ih (i + 1) (by omega) (by omega) (by simp [ct_any, hany, eH]) ls (lv_sub hl [3, 4, 5, 6, 1, 0] rfl)
          · refine lv_aload_n hx hb d_M_follows_50 rfl (lv_at hl 1 rfl) ?_
            refine mg_rounds S hK hP d_M_follows_51 ?_
            refine lv_iload hx hb d_M_follows_54 (lv_at hl 0 rfl) ?_
            refine mo_rounds S hK hP (by omega) d_M_follows_56 ?_
            refine lv_iload_n hx hb d_M_follows_57 rfl (lv_at hl 3 rfl) ?_
            refine lv_icmp_ge (tgt := 67) hx hb d_M_follows_58 (by decide) (fun h_58 => ?_) (fun h_58 => ?_)
            · refine lv_aload_n hx hb d_M_follows_67 rfl (lv_at hl 1 rfl) ?_
              refine mg_winner S hK hP d_M_follows_68 ?_
              refine lv_iload hx hb d_M_follows_71 (lv_at hl 0 rfl) ?_
              refine mo_winner S hK hP (by omega) d_M_follows_73 ?_
              refine lv_iload_n hx hb d_M_follows_74 rfl (lv_at hl 4 rfl) ?_
              refine r_cmp_ne (tgt := 89) hx hb d_M_follows_75 (by decide) (by omega) (by omega) (fun h_75 => ?_) (fun h_75 => ?_)
              · refine lv_iconst (v := nI 0) hx hb d_M_follows_89 (by decide) ?_
                refine lv_istore (lv' := [(4, .int (nI 0)), (6, .int (nI q9)), (0, .ref (ad 0)), (1, .int (nI p)), (2, .int (nI r)), (3, .int (nI (3 - ct_mo p))), (5, .int (nI i))]) hx hb d_M_follows_90 hl (by decide) rfl (fun ls hl => ?_)
                have eH1 : ct_S u r q9 ≠ ct_mo p := ct_S_ne2 (ct_nlt h_58) (by omega)
                have eH : ct_hit g (ct_S u r) p i = false := by simp [ct_hit, ho, eH1]
                have eL1 : ct_S u r q9 ≠ 3 - ct_mo p := ct_S_ne1 h_75 (by omega)
                have eL : ct_los g (ct_S u r) p i = false := by simp [ct_los, ho, eL1]
                have e9 : (ct_all (ct_los g (ct_S u r) p) (i + 1)).toNat = 0 := by simp [ct_all, eL]
                have hl : lv_has ls 7 [(4, .int (nI ((ct_all (ct_los g (ct_S u r) p) (i + 1)).toNat))), (6, .int (nI q9)), (0, .ref (ad 0)), (1, .int (nI p)), (2, .int (nI r)), (3, .int (nI (3 - ct_mo p))), (5, .int (nI i))] := by rw [e9]; exact hl
                refine lv_iinc (v := nI (i + 1)) (lv' := [(5, .int (nI (i + 1))), (4, .int (nI ((ct_all (ct_los g (ct_S u r) p) (i + 1)).toNat))), (6, .int (nI q9)), (0, .ref (ad 0)), (1, .int (nI p)), (2, .int (nI r)), (3, .int (nI (3 - ct_mo p)))]) hx hb d_M_follows_92 hl (k := 6) rfl (nI_add _ 1) (by decide) rfl (fun ls hl => ?_)
                refine lv_goto (tgt := 14) hx hb d_M_follows_95 (by decide) ?_
                exact ih (i + 1) (by omega) (by omega) (by simp [ct_any, hany, eH]) ls (lv_sub hl [3, 4, 5, 6, 1, 0] rfl)
              · refine lv_aload_n hx hb d_M_follows_78 rfl (lv_at hl 1 rfl) ?_
                refine mg_rounds S hK hP d_M_follows_79 ?_
                refine lv_iload hx hb d_M_follows_82 (lv_at hl 0 rfl) ?_
                refine mo_rounds S hK hP (by omega) d_M_follows_84 ?_
                refine lv_iload_n hx hb d_M_follows_85 rfl (lv_at hl 3 rfl) ?_
                refine lv_icmp_lt (tgt := 92) hx hb d_M_follows_86 (by decide) (fun h_86 => ?_) (fun h_86 => ?_)
                · have eH1 : ct_S u r q9 ≠ ct_mo p := ct_S_ne2 (ct_nlt h_58) (by omega)
                  have eH : ct_hit g (ct_S u r) p i = false := by simp [ct_hit, ho, eH1]
                  have eL : ct_los g (ct_S u r) p i = true := by simp [ct_los, ho, ct_S_eq h_86 h_75]
                  have e9 : (ct_all (ct_los g (ct_S u r) p) (i + 1)).toNat = (ct_all (ct_los g (ct_S u r) p) i).toNat := by simp [ct_all, eL]
                  have hl : lv_has ls 7 [(6, .int (nI q9)), (0, .ref (ad 0)), (1, .int (nI p)), (2, .int (nI r)), (3, .int (nI (3 - ct_mo p))), (4, .int (nI ((ct_all (ct_los g (ct_S u r) p) (i + 1)).toNat))), (5, .int (nI i))] := by rw [e9]; exact hl
                  refine lv_iinc (v := nI (i + 1)) (lv' := [(5, .int (nI (i + 1))), (6, .int (nI q9)), (0, .ref (ad 0)), (1, .int (nI p)), (2, .int (nI r)), (3, .int (nI (3 - ct_mo p))), (4, .int (nI ((ct_all (ct_los g (ct_S u r) p) (i + 1)).toNat)))]) hx hb d_M_follows_92 hl (k := 6) rfl (nI_add _ 1) (by decide) rfl (fun ls hl => ?_)
                  refine lv_goto (tgt := 14) hx hb d_M_follows_95 (by decide) ?_
                  exact ih (i + 1) (by omega) (by omega) (by simp [ct_any, hany, eH]) ls (lv_sub hl [2, 3, 4, 5, 6, 0] rfl)
                · refine lv_iconst (v := nI 0) hx hb d_M_follows_89 (by decide) ?_
                  refine lv_istore (lv' := [(4, .int (nI 0)), (6, .int (nI q9)), (0, .ref (ad 0)), (1, .int (nI p)), (2, .int (nI r)), (3, .int (nI (3 - ct_mo p))), (5, .int (nI i))]) hx hb d_M_follows_90 hl (by decide) rfl (fun ls hl => ?_)
                  have eH1 : ct_S u r q9 ≠ ct_mo p := ct_S_ne2 (ct_nlt h_58) (by omega)
                  have eH : ct_hit g (ct_S u r) p i = false := by simp [ct_hit, ho, eH1]
                  have eL1 : ct_S u r q9 ≠ 3 - ct_mo p := ct_S_ne2 h_86 (by omega)
                  have eL : ct_los g (ct_S u r) p i = false := by simp [ct_los, ho, eL1]
                  have e9 : (ct_all (ct_los g (ct_S u r) p) (i + 1)).toNat = 0 := by simp [ct_all, eL]
                  have hl : lv_has ls 7 [(4, .int (nI ((ct_all (ct_los g (ct_S u r) p) (i + 1)).toNat))), (6, .int (nI q9)), (0, .ref (ad 0)), (1, .int (nI p)), (2, .int (nI r)), (3, .int (nI (3 - ct_mo p))), (5, .int (nI i))] := by rw [e9]; exact hl
                  refine lv_iinc (v := nI (i + 1)) (lv' := [(5, .int (nI (i + 1))), (4, .int (nI ((ct_all (ct_los g (ct_S u r) p) (i + 1)).toNat))), (6, .int (nI q9)), (0, .ref (ad 0)), (1, .int (nI p)), (2, .int (nI r)), (3, .int (nI (3 - ct_mo p)))]) hx hb d_M_follows_92 hl (k := 6) rfl (nI_add _ 1) (by decide) rfl (fun ls hl => ?_)
                  refine lv_goto (tgt := 14) hx hb d_M_follows_95 (by decide) ?_
                  exact ih (i + 1) (by omega) (by omega) (by simp [ct_any, hany, eH]) ls (lv_sub hl [3, 4, 5, 6, 1, 0] rfl)
            · refine lv_aload_n hx hb d_M_follows_61 rfl (lv_at hl 1 rfl) ?_
              refine lv_iload_n hx hb d_M_follows_62 rfl (lv_at hl 2 rfl) ?_
              refine w_callR 1 S (c_M_mover l dC dI ad cd g k9 u p (by omega)) gv_M_M_mover hd_M_mover ⟨(Nat.le_of_ble_eq_true rfl), (Nat.le_of_ble_eq_true rfl)⟩ ⟨rfl, rfl⟩ ⟨Nat.zero_le _, Nat.zero_le _⟩ (m_rc hK hP) hK hP rfl hl.1 rfl (Nat.le_of_ble_eq_true rfl) d_M_follows_63 ?_
              exact r_ret hx hb hr hlk d_M_follows_66 (congrArg nI (ct_fol_hit (by omega) ho (ct_S_eq (ct_nge h_58) h_47)).symm)
  exact loop 14 0 (by omega) (by omega) rfl ls (lv_sub hl [3, 4, 5, 2, 1, 0] rfl)
set_option maxHeartbeats 4000000 in
set_option maxRecDepth 100000 in
/-- canMove(p) -/
theorem c_M_canMove (l : Launch) (dC : Nat → ClassId) (dI : Nat → Nat → Nat) (ad : Nat → Nat) (cd : Nat → ClassId) (g : ct_G) (k9 : Nat) (u : ct_U) (p : Nat) (hp : p < 432) : Met l y_M_canMove (Cond.code y_M_canMove b_M_canMove 3 (some .boolean) :: ct_tbl) ({ frames := 2, cells := 0, slots := 0, locals := 51 }) (va_Pc [.ref (ad 0), .int (nI p)] (ct_PreR (dC, dI) (tM cd) (wM ad cd g k9 u))) (QcRead (ct_bI (ct_can g p))) 0 0 (fun _ => False) := by
  refine ct_start [.ref (ad 0), .int (nI p)] (by decide) (Nat.le_of_ble_eq_true rfl) (fun pp ee s m below meth c ls S hr hlk _ hB hl => ?_)
  obtain ⟨hx, hb, hml, hown, hts⟩ := id S
  have hl : lv_has ls 3 [(0, .ref (ad 0)), (1, .int (nI p))] := hl
  obtain ⟨hP, hK⟩ := hB
  have hov := ct_ov_le g p
  refine lv_aload_n hx hb d_M_canMove_0 rfl (lv_at hl 0 rfl) ?_
  refine lv_iload_n hx hb d_M_canMove_1 rfl (lv_at hl 1 rfl) ?_
  refine w_callR 1 S (c_M_over l dC dI ad cd g k9 u p (by omega)) gv_M_M_over hd_M_over ⟨(Nat.le_of_ble_eq_true rfl), (Nat.le_of_ble_eq_true rfl)⟩ ⟨rfl, rfl⟩ ⟨Nat.zero_le _, Nat.zero_le _⟩ (m_rc hK hP) hK hP rfl hl.1 rfl (Nat.le_of_ble_eq_true rfl) d_M_canMove_2 ?_
  refine r_if_eq (tgt := 10) hx hb d_M_canMove_5 (by decide) (by omega) (fun h_5 => ?_) (fun h_5 => ?_)
  · refine lv_iconst (v := nI 0) hx hb d_M_canMove_10 (by decide) ?_
    refine lv_istore_n (lv' := [(2, .int (nI 0)), (0, .ref (ad 0)), (1, .int (nI p))]) hx hb d_M_canMove_11 rfl hl (by decide) rfl (fun ls hl => ?_)
    have loop : ∀ k i : Nat, i ≤ 13 → 13 < i + k → ct_any (fun c => (ct_mv g p c).isSome) i = false → ∀ ls : Array Slot, lv_has ls 3 [(0, .ref (ad 0)), (1, .int (nI p)), (2, .int (nI i))] → W pp l ee ({ frames := 2, cells := 0, slots := 0, locals := 51 }) s m ([.ref (ad 0), .int (nI p)] : List Value).toArray below meth c s.heap [] 0 0 (MQ below (QcRead (ct_bI (ct_can g p))) ([.ref (ad 0), .int (nI p)] : List Value).toArray s 0 0 (fun _ => False)) (F0 m 12 ls []) := by
      intro k
      induction k with
      | zero => intro i h1 h2; omega
      | succ k ih =>
        intro i hi hk hany ls hl
        refine lv_iload_n hx hb d_M_canMove_12 rfl (lv_at hl 2 rfl) ?_
        refine lv_bipush (v := nI 12) hx hb d_M_canMove_13 (by decide) ?_
        refine r_cmp_gt (tgt := 35) hx hb d_M_canMove_15 (by decide) (by omega) (by omega) (fun h_15 => ?_) (fun h_15 => ?_)
        · refine lv_iconst (v := nI 0) hx hb d_M_canMove_35 (by decide) ?_
          obtain rfl : i = 13 := by omega
          exact r_retz hx hb hr hlk d_M_canMove_36 (by rw [show ct_can g p = false by simp [ct_can, hany]]; rfl)
        · refine lv_aload_n hx hb d_M_canMove_18 rfl (lv_at hl 0 rfl) ?_
          refine lv_iload_n hx hb d_M_canMove_19 rfl (lv_at hl 1 rfl) ?_
          refine lv_iload_n hx hb d_M_canMove_20 rfl (lv_at hl 2 rfl) ?_
          refine w_callR 2 S (c_M_after l dC dI ad cd g k9 u p (by omega) (nI i)) gv_M_M_after hd_M_after ⟨(Nat.le_of_ble_eq_true rfl), (Nat.le_of_ble_eq_true rfl)⟩ ⟨rfl, rfl⟩ ⟨Nat.zero_le _, Nat.zero_le _⟩ (m_rc hK hP) hK hP rfl hl.1 rfl (Nat.le_of_ble_eq_true rfl) d_M_canMove_21 ?_
          refine r_top (y := (ct_af (ct_mv g p i))) (by rw [ct_mvI_n (by omega)]) ?_
          refine r_af (fun ho => ?_) (fun q9 ho => ?_)
          · refine r_iflt_m (tgt := 29) hx hb d_M_canMove_24 (by decide) ?_
            refine lv_iinc (v := nI (i + 1)) (lv' := [(2, .int (nI (i + 1))), (0, .ref (ad 0)), (1, .int (nI p))]) hx hb d_M_canMove_29 hl (k := 2) rfl (nI_add _ 1) (by decide) rfl (fun ls hl => ?_)
            refine lv_goto (tgt := 12) hx hb d_M_canMove_32 (by decide) ?_
            exact ih (i + 1) (by omega) (by omega) (by simp [ct_any, hany, ho]) ls (lv_sub hl [1, 2, 0] rfl)
          · have hq9 := ct_mv_lt hp (by omega) ho
            refine r_iflt_n (tgt := 29) hx hb d_M_canMove_24 (by decide) (by omega) ?_
            refine lv_iconst (v := nI 1) hx hb d_M_canMove_27 (by decide) ?_
            exact r_retz hx hb hr hlk d_M_canMove_28 (by rw [show ct_can g p = true by simp only [ct_can, h_5, decide_true, Bool.true_and]; exact ct_any_iff.mpr ⟨i, by omega, by simp [ho]⟩]; rfl)
    exact loop 14 0 (by omega) (by omega) rfl ls (lv_sub hl [1, 2, 0] rfl)
  · refine lv_iconst (v := nI 0) hx hb d_M_canMove_8 (by decide) ?_
    exact r_retz hx hb hr hlk d_M_canMove_9 (by rw [show ct_can g p = false by simp [ct_can, h_5]]; rfl)
set_option maxHeartbeats 4000000 in
set_option maxRecDepth 100000 in
/-- board() -/
theorem c_M_board (l : Launch) (dC : Nat → ClassId) (dI : Nat → Nat → Nat) (ad : Nat → Nat) (cd : Nat → ClassId) (g : ct_G) (k9 : Nat) (u : ct_U) (hk9 : k9 < 432) : Met l y_M_board (Cond.code y_M_board b_M_board 1 (some .int) :: ct_tbl) ({ frames := 0, cells := 0, slots := 0, locals := 0 }) (va_Pc [.ref (ad 0)] (ct_PreR (dC, dI) (tM cd) (wM ad cd g k9 u))) (QcRead (ct_boardK k9)) 0 0 (fun _ => False) := by
  refine ct_start [.ref (ad 0)] (by decide) (Nat.le_of_ble_eq_true rfl) (fun pp ee s m below meth c ls S hr hlk _ hB hl => ?_)
  obtain ⟨hx, hb, hml, hown, hts⟩ := id S
  have hl : lv_has ls 1 [(0, .ref (ad 0))] := hl
  obtain ⟨hP, hK⟩ := hB
  refine lv_aload_n hx hb d_M_board_0 rfl (lv_at hl 0 rfl) ?_
  refine mg_at S hK hP d_M_board_1 ?_
  refine lv_bipush (v := nI 72) hx hb d_M_board_4 (by decide) ?_
  refine r_div hx hb d_M_board_6 (by omega) (by decide) (by decide) ?_
  refine lv_bipush (v := nI 8) hx hb d_M_board_7 (by decide) ?_
  refine lv_aload_n hx hb d_M_board_9 rfl (lv_at hl 0 rfl) ?_
  refine mg_at S hK hP d_M_board_10 ?_
  refine lv_bipush (v := nI 12) hx hb d_M_board_13 (by decide) ?_
  refine r_div hx hb d_M_board_15 (by omega) (by decide) (by decide) ?_
  refine lv_bipush (v := nI 6) hx hb d_M_board_16 (by decide) ?_
  refine r_rem hx hb d_M_board_18 (by omega) (by decide) (by decide) ?_
  refine r_mul hx hb d_M_board_19 ?_
  refine r_add hx hb d_M_board_20 ?_
  refine lv_bipush (v := nI 64) hx hb d_M_board_21 (by decide) ?_
  refine lv_aload_n hx hb d_M_board_23 rfl (lv_at hl 0 rfl) ?_
  refine mg_at S hK hP d_M_board_24 ?_
  refine lv_iconst (v := nI 2) hx hb d_M_board_27 (by decide) ?_
  refine r_div hx hb d_M_board_28 (by omega) (by decide) (by decide) ?_
  refine lv_bipush (v := nI 6) hx hb d_M_board_29 (by decide) ?_
  refine r_rem hx hb d_M_board_31 (by omega) (by decide) (by decide) ?_
  refine r_mul hx hb d_M_board_32 ?_
  refine r_add hx hb d_M_board_33 ?_
  refine lv_sipush (v := nI 512) hx hb d_M_board_34 (by decide) ?_
  refine lv_aload_n hx hb d_M_board_37 rfl (lv_at hl 0 rfl) ?_
  refine mg_at S hK hP d_M_board_38 ?_
  refine lv_iconst (v := nI 2) hx hb d_M_board_41 (by decide) ?_
  refine r_rem hx hb d_M_board_42 (by omega) (by decide) (by decide) ?_
  refine r_mul hx hb d_M_board_43 ?_
  refine r_add hx hb d_M_board_44 ?_
  exact r_ret hx hb hr hlk d_M_board_45 rfl
end
section
theorem hd_M_workOut : y_M_workOut.cls = R_M ∧ y_M_workOut.cls ≠ "java/lang/invoke/MethodHandle" ∧ y_M_workOut.cls ≠ "java/lang/invoke/VarHandle" ∧ (parseMethodDescriptor y_M_workOut.desc).map (fun d => d.parameters.length) = some 0 := by decide +kernel
set_option maxHeartbeats 4000000 in
set_option maxRecDepth 100000 in
/-- workOut(): the table is known, and right -/
theorem c_M_workOut (l : Launch) (dC : Nat → ClassId) (dI : Nat → Nat → Nat) (ad : Nat → Nat) (cd : Nat → ClassId) (g : ct_G) (k9 : Nat) (u : ct_U) (hin : ct_inM g u) : ∀ sz : Nat, Met l y_M_workOut (Cond.code y_M_workOut b_M_workOut 5 none :: ct_tbl) ({ frames := 3, cells := 0, slots := 0, locals := 77 }) (va_Pc [.ref (ad 0)] (ct_Pre (dC, dI) (tM cd) (wM ad cd g k9 u) sz)) (ct_Qv (dC, dI) (tM cd) (fun u' : ct_U => wM ad cd g k9 u') (fun u' => u'.1 = true ∧ ct_okM g u') (va_A (wM ad cd g k9 u) sz)) 0 0 (va_A (wM ad cd g k9 u) sz) := by
  refine w_start (Qk := ct_Qv (dC, dI) (tM cd) (fun u' : ct_U => wM ad cd g k9 u') (fun u' => u'.1 = true ∧ ct_okM g u')) [.ref (ad 0)] (by decide) (Nat.le_of_ble_eq_true rfl) (fun pp ee s m below meth c ls A S hr hlk hP hK hD hA hl => ?_)
  obtain ⟨hx, hb, hml, hown, hts⟩ := id S
  have hl : lv_has ls 5 [(0, .ref (ad 0))] := hl
  have hS : va_S A s.heap s.heap [] := va_S.rf
  have loopO : ∀ k r : Nat, r ≤ 432 → 432 < r + k → ∀ (mo : Bool) (u1 : ct_U), (∀ j, j < 432 → ct_MP g r u1 j) → (mo = false → ∀ j, j < 432 → ct_win g j = ct_V g r j) → ∀ (H : Heap) (locs : List Loc) (ls : Array Slot), va_P (dC, dI) classes (wM ad cd g k9 u1) H → va_D A (wM ad cd g k9 u1) → va_S A s.heap H locs → lv_has ls 5 [(0, .ref (ad 0)), (1, .int (ct_bI mo)), (2, .int (nI r))] → W pp l ee ({ frames := 3, cells := 0, slots := 0, locals := 77 }) s m ([.ref (ad 0)] : List Value).toArray below meth c H locs 0 0 (MQ below (ct_Qv (dC, dI) (tM cd) (fun u' : ct_U => wM ad cd g k9 u') (fun u' => u'.1 = true ∧ ct_okM g u') A) ([.ref (ad 0)] : List Value).toArray s 0 0 A) (F0 m 59 ls []) := by
    intro k
    induction k with
    | zero => intro r h1 h2; omega
    | succ k ihO =>
      intro r hr9 hk mo u1 hMP hmo9 H locs ls hP hD hS hl
      refine lv_iload_n hx hb d_M_workOut_59 rfl (lv_at hl 2 rfl) ?_
      refine lv_sipush (v := nI 432) hx hb d_M_workOut_60 (by decide) ?_
      refine r_cmp_ge (tgt := 166) hx hb d_M_workOut_63 (by decide) (by omega) (by omega) (fun h_63 => ?_) (fun h_63 => ?_)
      · have hok : ct_okM g u1 := by
          obtain rfl : r = 432 := by omega
          exact ct_okM_of hMP (fun j _ => (if_neg (by decide)).symm)
        refine lv_aload_n hx hb d_M_workOut_166 rfl (lv_at hl 0 rfl) ?_
        refine lv_iconst (v := nI 1) hx hb d_M_workOut_167 (by decide) ?_
        refine r_top (y := ct_bI (true)) rfl ?_
        refine mp_known S hK hP hD hS d_M_workOut_168 (fun H locs hP hD hS => ?_)
        exact w_retv hx hb hr hlk hK d_M_workOut_171 ((true, u1.2)) ⟨rfl, hok⟩ hP hD hS
      · refine lv_iload_n hx hb d_M_workOut_66 rfl (lv_at hl 1 rfl) ?_
        refine r_bif_eq (tgt := 166) hx hb d_M_workOut_67 (by decide) (fun h_67 => ?_) (fun h_67 => ?_)
        · have hok : ct_okM g u1 := ct_okM_of hMP (hmo9 h_67)
          refine lv_aload_n hx hb d_M_workOut_166 rfl (lv_at hl 0 rfl) ?_
          refine lv_iconst (v := nI 1) hx hb d_M_workOut_167 (by decide) ?_
          refine r_top (y := ct_bI (true)) rfl ?_
          refine mp_known S hK hP hD hS d_M_workOut_168 (fun H locs hP hD hS => ?_)
          exact w_retv hx hb hr hlk hK d_M_workOut_171 ((true, u1.2)) ⟨rfl, hok⟩ hP hD hS
        · refine lv_iconst (v := nI 0) hx hb d_M_workOut_70 (by decide) ?_
          refine lv_istore_n (lv' := [(3, .int (nI 0)), (0, .ref (ad 0)), (1, .int (ct_bI mo)), (2, .int (nI r))]) hx hb d_M_workOut_71 rfl hl (by decide) rfl (fun ls hl => ?_)
          refine lv_iconst (v := nI 0) hx hb d_M_workOut_72 (by decide) ?_
          refine lv_istore (lv' := [(4, .int (nI 0)), (3, .int (nI 0)), (0, .ref (ad 0)), (1, .int (ct_bI mo)), (2, .int (nI r))]) hx hb d_M_workOut_73 hl (by decide) rfl (fun ls hl => ?_)
          have loopI : ∀ k2 i : Nat, i ≤ 432 → 432 < i + k2 → ∀ (f : Nat) (u2 : ct_U), f ≤ 2 * i → (f = 0 → ∀ j, j < i → ct_it g (r + 1) j = ct_V g r j) → (∀ j, j < 432 → (j < i → ct_MP g (r + 1) u2 j) ∧ (i ≤ j → ct_MP g r u2 j)) → ∀ (H : Heap) (locs : List Loc) (ls : Array Slot), va_P (dC, dI) classes (wM ad cd g k9 u2) H → va_D A (wM ad cd g k9 u2) → va_S A s.heap H locs → lv_has ls 5 [(0, .ref (ad 0)), (1, .int (ct_bI mo)), (2, .int (nI r)), (3, .int (nI f)), (4, .int (nI i))] → W pp l ee ({ frames := 3, cells := 0, slots := 0, locals := 77 }) s m ([.ref (ad 0)] : List Value).toArray below meth c H locs 0 0 (MQ below (ct_Qv (dC, dI) (tM cd) (fun u' : ct_U => wM ad cd g k9 u') (fun u' => u'.1 = true ∧ ct_okM g u') A) ([.ref (ad 0)] : List Value).toArray s 0 0 A) (F0 m 75 ls []) := by
            intro k2
            induction k2 with
            | zero => intro i h1 h2; omega
            | succ k2 ih =>
              intro i hi hk2 f u2 hf2 hf hI H locs ls hP hD hS hl
              have hor : ∀ j, j < 432 → ct_MP g r u2 j ∨ ct_MP g (r + 1) u2 j := fun j hj => by
                rcases Nat.lt_or_ge j i with z | z
                · exact Or.inr ((hI j hj).1 z)
                · exact Or.inl ((hI j hj).2 z)
              have hle : ∀ j, j < 432 → u2.2.1 j ≤ 2 := fun j hj => by
                rcases hor j hj with z | z
                · exact ct_MP_le z
                · exact ct_MP_le z
              refine lv_iload hx hb d_M_workOut_75 (lv_at hl 4 rfl) ?_
              refine lv_sipush (v := nI 432) hx hb d_M_workOut_77 (by decide) ?_
              refine r_cmp_ge (tgt := 146) hx hb d_M_workOut_80 (by decide) (by omega) (by omega) (fun h_80 => ?_) (fun h_80 => ?_)
              · obtain rfl : i = 432 := by omega
                refine lv_iload_n hx hb d_M_workOut_146 rfl (lv_at hl 2 rfl) ?_
                refine r_if_eq (tgt := 154) hx hb d_M_workOut_147 (by decide) (by omega) (fun h_147 => ?_) (fun h_147 => ?_)
                · refine lv_iconst (v := nI 1) hx hb d_M_workOut_154 (by decide) ?_
                  refine lv_goto (tgt := 159) hx hb d_M_workOut_155 (by decide) ?_
                  refine r_top (y := ct_bI true) rfl ?_
                  refine lv_istore_n (lv' := [(1, .int (ct_bI true)), (0, .ref (ad 0)), (2, .int (nI r)), (3, .int (nI f)), (4, .int (nI 432))]) hx hb d_M_workOut_159 rfl hl (by decide) rfl (fun ls hl => ?_)
                  refine lv_iinc (v := nI (r + 1)) (lv' := [(2, .int (nI (r + 1))), (1, .int (ct_bI true)), (0, .ref (ad 0)), (3, .int (nI f)), (4, .int (nI 432))]) hx hb d_M_workOut_160 hl (k := 2) rfl (nI_add _ 1) (by decide) rfl (fun ls hl => ?_)
                  refine lv_goto (tgt := 59) hx hb d_M_workOut_163 (by decide) ?_
                  exact ihO (r + 1) (by omega) (by omega) _ _ (fun j hj => (hI j hj).1 hj) (fun z => by cases z) _ _ ls hP hD hS (lv_sub hl [2, 1, 0] rfl)
                · refine lv_iload_n hx hb d_M_workOut_150 rfl (lv_at hl 3 rfl) ?_
                  refine r_if_le (tgt := 158) hx hb d_M_workOut_151 (by decide) (by omega) (fun h_151 => ?_) (fun h_151 => ?_)
                  · refine lv_iconst (v := nI 0) hx hb d_M_workOut_158 (by decide) ?_
                    refine r_top (y := ct_bI false) rfl ?_
                    refine lv_istore_n (lv' := [(1, .int (ct_bI false)), (0, .ref (ad 0)), (2, .int (nI r)), (3, .int (nI f)), (4, .int (nI 432))]) hx hb d_M_workOut_159 rfl hl (by decide) rfl (fun ls hl => ?_)
                    refine lv_iinc (v := nI (r + 1)) (lv' := [(2, .int (nI (r + 1))), (1, .int (ct_bI false)), (0, .ref (ad 0)), (3, .int (nI f)), (4, .int (nI 432))]) hx hb d_M_workOut_160 hl (k := 2) rfl (nI_add _ 1) (by decide) rfl (fun ls hl => ?_)
                    refine lv_goto (tgt := 59) hx hb d_M_workOut_163 (by decide) ?_
                    exact ihO (r + 1) (by omega) (by omega) _ _ (fun j hj => (hI j hj).1 hj) (fun _ => ct_more h_147 (by omega) (fun j hj => hf h_151 j hj)) _ _ ls hP hD hS (lv_sub hl [2, 1, 0] rfl)
                  · refine lv_iconst (v := nI 1) hx hb d_M_workOut_154 (by decide) ?_
                    refine lv_goto (tgt := 159) hx hb d_M_workOut_155 (by decide) ?_
                    refine r_top (y := ct_bI true) rfl ?_
                    refine lv_istore_n (lv' := [(1, .int (ct_bI true)), (0, .ref (ad 0)), (2, .int (nI r)), (3, .int (nI f)), (4, .int (nI 432))]) hx hb d_M_workOut_159 rfl hl (by decide) rfl (fun ls hl => ?_)
                    refine lv_iinc (v := nI (r + 1)) (lv' := [(2, .int (nI (r + 1))), (1, .int (ct_bI true)), (0, .ref (ad 0)), (3, .int (nI f)), (4, .int (nI 432))]) hx hb d_M_workOut_160 hl (k := 2) rfl (nI_add _ 1) (by decide) rfl (fun ls hl => ?_)
                    refine lv_goto (tgt := 59) hx hb d_M_workOut_163 (by decide) ?_
                    exact ihO (r + 1) (by omega) (by omega) _ _ (fun j hj => (hI j hj).1 hj) (fun z => by cases z) _ _ ls hP hD hS (lv_sub hl [2, 1, 0] rfl)
              · have hlei := hle i (by omega)
                have hiti := ct_it_le g (r + 1) i
                refine lv_aload_n hx hb d_M_workOut_83 rfl (lv_at hl 0 rfl) ?_
                refine mg_winner S hK hP d_M_workOut_84 ?_
                refine lv_iload hx hb d_M_workOut_87 (lv_at hl 4 rfl) ?_
                refine mo_winner S hK hP (by omega) d_M_workOut_89 ?_
                refine r_if_ne (tgt := 140) hx hb d_M_workOut_90 (by decide) (by omega) (fun h_90 => ?_) (fun h_90 => ?_)
                · refine lv_iinc (v := nI (i + 1)) (lv' := [(4, .int (nI (i + 1))), (0, .ref (ad 0)), (1, .int (ct_bI mo)), (2, .int (nI r)), (3, .int (nI f))]) hx hb d_M_workOut_140 hl (k := 4) rfl (nI_add _ 1) (by decide) rfl (fun ls hl => ?_)
                  refine lv_goto (tgt := 75) hx hb d_M_workOut_143 (by decide) ?_
                  have hV := (hI i (by omega)).2 (Nat.le_refl i)
                  exact ih (i + 1) (by omega) (by omega) f u2 (by omega) (fun z j hj => by
                    rcases Nat.lt_or_ge j i with y | y
                    · exact hf z j y
                    · obtain rfl : j = i := by omega
                      exact ct_V_n g (by rw [← hV.1]; exact h_90)) (fun j hj => ⟨fun y => by
                    rcases Nat.lt_or_ge j i with x | x
                    · exact (hI j hj).1 x
                    · obtain rfl : j = i := by omega
                      exact ct_MP_keep hV h_90, fun y => (hI j hj).2 (by omega)⟩) _ _ ls hP hD hS (lv_sub hl [1, 2, 3, 4, 0] rfl)
                · refine lv_aload_n hx hb d_M_workOut_93 rfl (lv_at hl 0 rfl) ?_
                  refine mg_winner S hK hP d_M_workOut_94 ?_
                  refine lv_iload hx hb d_M_workOut_97 (lv_at hl 4 rfl) ?_
                  refine lv_aload_n hx hb d_M_workOut_99 rfl (lv_at hl 0 rfl) ?_
                  refine lv_iload hx hb d_M_workOut_100 (lv_at hl 4 rfl) ?_
                  refine lv_iload_n hx hb d_M_workOut_102 rfl (lv_at hl 2 rfl) ?_
                  refine w_callR 2 S (c_M_follows l dC dI ad cd g k9 u2 i r (by omega) (by omega) hle) gv_M_M_follows hd_M_follows ⟨(Nat.le_of_ble_eq_true rfl), (Nat.le_of_ble_eq_true rfl)⟩ ⟨rfl, rfl⟩ ⟨Nat.zero_le _, Nat.zero_le _⟩ (m_rc hK hP) hK hP rfl hl.1 rfl (Nat.le_of_ble_eq_true rfl) d_M_workOut_103 ?_
                  refine r_top (y := nI (ct_it g (r + 1) i)) (congrArg nI (ct_fol_M (by omega) (by omega) hor ((hI i (by omega)).2 (Nat.le_refl i)) h_90)) ?_
                  refine ms_winner S hK hP hD hS (by omega) d_M_workOut_106 (fun H locs hP hD hS => ?_)
                  refine lv_aload_n hx hb d_M_workOut_107 rfl (lv_at hl 0 rfl) ?_
                  refine mg_rounds S hK hP d_M_workOut_108 ?_
                  refine lv_iload hx hb d_M_workOut_111 (lv_at hl 4 rfl) ?_
                  refine lv_aload_n hx hb d_M_workOut_113 rfl (lv_at hl 0 rfl) ?_
                  refine mg_winner S hK hP d_M_workOut_114 ?_
                  refine lv_iload hx hb d_M_workOut_117 (lv_at hl 4 rfl) ?_
                  refine mo_winner S hK hP (by omega) d_M_workOut_119 ?_
                  refine r_top (y := nI (ct_it g (r + 1) i)) (by simp [ct_updN]) ?_
                  refine r_if_ne (tgt := 128) hx hb d_M_workOut_120 (by decide) (by omega) (fun h_120 => ?_) (fun h_120 => ?_)
                  · refine lv_iload_n hx hb d_M_workOut_128 rfl (lv_at hl 2 rfl) ?_
                    refine ms_rounds S hK hP hD hS (by omega) d_M_workOut_129 (fun H locs hP hD hS => ?_)
                    refine lv_iload_n hx hb d_M_workOut_130 rfl (lv_at hl 3 rfl) ?_
                    refine lv_aload_n hx hb d_M_workOut_131 rfl (lv_at hl 0 rfl) ?_
                    refine mg_winner S hK hP d_M_workOut_132 ?_
                    refine lv_iload hx hb d_M_workOut_135 (lv_at hl 4 rfl) ?_
                    refine mo_winner S hK hP (by omega) d_M_workOut_137 ?_
                    refine r_top (y := nI (ct_it g (r + 1) i)) (by simp [ct_updN]) ?_
                    refine r_add hx hb d_M_workOut_138 ?_
                    refine lv_istore_n (lv' := [(3, .int (nI (f + (ct_it g (r + 1) i)))), (0, .ref (ad 0)), (1, .int (ct_bI mo)), (2, .int (nI r)), (4, .int (nI i))]) hx hb d_M_workOut_139 rfl hl (by decide) rfl (fun ls hl => ?_)
                    refine lv_iinc (v := nI (i + 1)) (lv' := [(4, .int (nI (i + 1))), (3, .int (nI (f + (ct_it g (r + 1) i)))), (0, .ref (ad 0)), (1, .int (ct_bI mo)), (2, .int (nI r))]) hx hb d_M_workOut_140 hl (k := 4) rfl (nI_add _ 1) (by decide) rfl (fun ls hl => ?_)
                    refine lv_goto (tgt := 75) hx hb d_M_workOut_143 (by decide) ?_
                    have hV := (hI i (by omega)).2 (Nat.le_refl i)
                    exact ih (i + 1) (by omega) (by omega) (f + ct_it g (r + 1) i) _ (by omega) (fun z j hj => by
                      rcases Nat.lt_or_ge j i with y | y
                      · exact hf (by omega) j y
                      · obtain rfl : j = i := by omega
                        rw [← hV.1]; omega) (fun j hj => ⟨fun y => by
                      rcases Nat.lt_or_ge j i with x | x
                      · exact ct_MP_other (by simp [ct_updN, show ¬ j = i by omega]) (by simp [upd, show ¬ j = i by omega]) ((hI j hj).1 x)
                      · obtain rfl : j = i := by omega
                        exact ct_MP_find (by omega) hV h_90 (by simp [ct_updN]) (by simp [upd, h_120]), fun y => ct_MP_other (by simp [ct_updN, show ¬ j = i by omega]) (by simp [upd, show ¬ j = i by omega]) ((hI j hj).2 (by omega))⟩) _ _ ls hP hD hS (lv_sub hl [2, 3, 4, 1, 0] rfl)
                  · refine lv_bipush (v := (-3)) hx hb d_M_workOut_123 (by decide) ?_
                    refine lv_goto (tgt := 129) hx hb d_M_workOut_125 (by decide) ?_
                    refine ms_rounds S hK hP hD hS (by omega) d_M_workOut_129 (fun H locs hP hD hS => ?_)
                    refine lv_iload_n hx hb d_M_workOut_130 rfl (lv_at hl 3 rfl) ?_
                    refine lv_aload_n hx hb d_M_workOut_131 rfl (lv_at hl 0 rfl) ?_
                    refine mg_winner S hK hP d_M_workOut_132 ?_
                    refine lv_iload hx hb d_M_workOut_135 (lv_at hl 4 rfl) ?_
                    refine mo_winner S hK hP (by omega) d_M_workOut_137 ?_
                    refine r_top (y := nI (ct_it g (r + 1) i)) (by simp [ct_updN]) ?_
                    refine r_add hx hb d_M_workOut_138 ?_
                    refine lv_istore_n (lv' := [(3, .int (nI (f + (ct_it g (r + 1) i)))), (0, .ref (ad 0)), (1, .int (ct_bI mo)), (2, .int (nI r)), (4, .int (nI i))]) hx hb d_M_workOut_139 rfl hl (by decide) rfl (fun ls hl => ?_)
                    refine lv_iinc (v := nI (i + 1)) (lv' := [(4, .int (nI (i + 1))), (3, .int (nI (f + (ct_it g (r + 1) i)))), (0, .ref (ad 0)), (1, .int (ct_bI mo)), (2, .int (nI r))]) hx hb d_M_workOut_140 hl (k := 4) rfl (nI_add _ 1) (by decide) rfl (fun ls hl => ?_)
                    refine lv_goto (tgt := 75) hx hb d_M_workOut_143 (by decide) ?_
                    have hV := (hI i (by omega)).2 (Nat.le_refl i)
                    exact ih (i + 1) (by omega) (by omega) (f + ct_it g (r + 1) i) _ (by omega) (fun z j hj => by
                      rcases Nat.lt_or_ge j i with y | y
                      · exact hf (by omega) j y
                      · obtain rfl : j = i := by omega
                        rw [← hV.1]; omega) (fun j hj => ⟨fun y => by
                      rcases Nat.lt_or_ge j i with x | x
                      · exact ct_MP_other (by simp [ct_updN, show ¬ j = i by omega]) (by simp [upd, show ¬ j = i by omega]) ((hI j hj).1 x)
                      · obtain rfl : j = i := by omega
                        exact ct_MP_find (by omega) hV h_90 (by simp [ct_updN]) (by simp [upd, h_120]), fun y => ct_MP_other (by simp [ct_updN, show ¬ j = i by omega]) (by simp [upd, show ¬ j = i by omega]) ((hI j hj).2 (by omega))⟩) _ _ ls hP hD hS (lv_sub hl [2, 3, 4, 1, 0] rfl)
          exact loopI 433 0 (by omega) (by omega) 0 u1 (by omega) (fun _ j hj => by omega) (fun j hj => ⟨fun y => by omega, fun _ => hMP j hj⟩) _ _ ls hP hD hS (lv_sub hl [2, 3, 4, 1, 0] rfl)
  have loopA : ∀ k i : Nat, i ≤ 432 → 432 < i + k → ∀ u1 : ct_U, (∀ j, j < i → u1.2.1 j = ct_ov g j ∧ u1.2.2 j = if ct_ov g j = 0 then -3 else nI 0) → ∀ (H : Heap) (locs : List Loc) (ls : Array Slot), va_P (dC, dI) classes (wM ad cd g k9 u1) H → va_D A (wM ad cd g k9 u1) → va_S A s.heap H locs → lv_has ls 5 [(0, .ref (ad 0)), (1, .int (nI i))] → W pp l ee ({ frames := 3, cells := 0, slots := 0, locals := 77 }) s m ([.ref (ad 0)] : List Value).toArray below meth c H locs 0 0 (MQ below (ct_Qv (dC, dI) (tM cd) (fun u' : ct_U => wM ad cd g k9 u') (fun u' => u'.1 = true ∧ ct_okM g u') A) ([.ref (ad 0)] : List Value).toArray s 0 0 A) (F0 m 10 ls []) := by
    intro k
    induction k with
    | zero => intro i h1 h2; omega
    | succ k ih =>
      intro i hi hk u1 hU H locs ls hP hD hS hl
      have hov := ct_ov_le g i
      refine lv_iload_n hx hb d_M_workOut_10 rfl (lv_at hl 1 rfl) ?_
      refine lv_sipush (v := nI 432) hx hb d_M_workOut_11 (by decide) ?_
      refine r_cmp_ge (tgt := 55) hx hb d_M_workOut_14 (by decide) (by omega) (by omega) (fun h_14 => ?_) (fun h_14 => ?_)
      · obtain rfl : i = 432 := by omega
        refine lv_iconst (v := nI 1) hx hb d_M_workOut_55 (by decide) ?_
        refine r_top (y := ct_bI (true)) (rfl) ?_
        refine lv_istore_n (lv' := [(1, .int (ct_bI true)), (0, .ref (ad 0))]) hx hb d_M_workOut_56 rfl hl (by decide) rfl (fun ls hl => ?_)
        refine lv_iconst (v := nI 0) hx hb d_M_workOut_57 (by decide) ?_
        refine lv_istore_n (lv' := [(2, .int (nI 0)), (1, .int (ct_bI true)), (0, .ref (ad 0))]) hx hb d_M_workOut_58 rfl hl (by decide) rfl (fun ls hl => ?_)
        exact loopO 433 0 (by omega) (by omega) true _ (fun j hj => ct_MP_0 (hU j hj).1 (hU j hj).2) (fun z => by cases z) _ _ ls hP hD hS (lv_sub hl [2, 1, 0] rfl)
      · refine lv_aload_n hx hb d_M_workOut_17 rfl (lv_at hl 0 rfl) ?_
        refine mg_winner S hK hP d_M_workOut_18 ?_
        refine lv_iload_n hx hb d_M_workOut_21 rfl (lv_at hl 1 rfl) ?_
        refine lv_aload_n hx hb d_M_workOut_22 rfl (lv_at hl 0 rfl) ?_
        refine lv_iload_n hx hb d_M_workOut_23 rfl (lv_at hl 1 rfl) ?_
        refine w_callR 1 S (c_M_over l dC dI ad cd g k9 u1 i (by omega)) gv_M_M_over hd_M_over ⟨(Nat.le_of_ble_eq_true rfl), (Nat.le_of_ble_eq_true rfl)⟩ ⟨rfl, rfl⟩ ⟨Nat.zero_le _, Nat.zero_le _⟩ (m_rc hK hP) hK hP rfl hl.1 rfl (Nat.le_of_ble_eq_true rfl) d_M_workOut_24 ?_
        refine ms_winner S hK hP hD hS (by omega) d_M_workOut_27 (fun H locs hP hD hS => ?_)
        refine lv_aload_n hx hb d_M_workOut_28 rfl (lv_at hl 0 rfl) ?_
        refine mg_rounds S hK hP d_M_workOut_29 ?_
        refine lv_iload_n hx hb d_M_workOut_32 rfl (lv_at hl 1 rfl) ?_
        refine lv_aload_n hx hb d_M_workOut_33 rfl (lv_at hl 0 rfl) ?_
        refine mg_winner S hK hP d_M_workOut_34 ?_
        refine lv_iload_n hx hb d_M_workOut_37 rfl (lv_at hl 1 rfl) ?_
        refine mo_winner S hK hP (by omega) d_M_workOut_38 ?_
        refine r_top (y := nI (ct_ov g i)) (by simp [ct_updN]) ?_
        refine r_if_ne (tgt := 47) hx hb d_M_workOut_39 (by decide) (by omega) (fun h_39 => ?_) (fun h_39 => ?_)
        · refine lv_iconst (v := nI 0) hx hb d_M_workOut_47 (by decide) ?_
          refine ms_rounds S hK hP hD hS (by omega) d_M_workOut_48 (fun H locs hP hD hS => ?_)
          refine lv_iinc (v := nI (i + 1)) (lv' := [(1, .int (nI (i + 1))), (0, .ref (ad 0))]) hx hb d_M_workOut_49 hl (k := 1) rfl (nI_add _ 1) (by decide) rfl (fun ls hl => ?_)
          refine lv_goto (tgt := 10) hx hb d_M_workOut_52 (by decide) ?_
          exact ih (i + 1) (by omega) (by omega) _ (fun j hj => by
            rcases Nat.lt_or_ge j i with x | x
            · have y := hU j x
              simp [ct_updN, upd, show ¬ j = i by omega]
              exact y
            · obtain rfl : j = i := by omega
              simp [ct_updN, upd, h_39]) _ _ ls hP hD hS (lv_sub hl [1, 0] rfl)
        · refine lv_bipush (v := (-3)) hx hb d_M_workOut_42 (by decide) ?_
          refine lv_goto (tgt := 48) hx hb d_M_workOut_44 (by decide) ?_
          refine ms_rounds S hK hP hD hS (by omega) d_M_workOut_48 (fun H locs hP hD hS => ?_)
          refine lv_iinc (v := nI (i + 1)) (lv' := [(1, .int (nI (i + 1))), (0, .ref (ad 0))]) hx hb d_M_workOut_49 hl (k := 1) rfl (nI_add _ 1) (by decide) rfl (fun ls hl => ?_)
          refine lv_goto (tgt := 10) hx hb d_M_workOut_52 (by decide) ?_
          exact ih (i + 1) (by omega) (by omega) _ (fun j hj => by
            rcases Nat.lt_or_ge j i with x | x
            · have y := hU j x
              simp [ct_updN, upd, show ¬ j = i by omega]
              exact y
            · obtain rfl : j = i := by omega
              simp [ct_updN, upd, h_39]) _ _ ls hP hD hS (lv_sub hl [1, 0] rfl)
  refine lv_aload_n hx hb d_M_workOut_0 rfl (lv_at hl 0 rfl) ?_
  refine mg_known S hK hP d_M_workOut_1 ?_
  refine r_bif_eq (tgt := 8) hx hb d_M_workOut_4 (by decide) (fun h_4 => ?_) (fun h_4 => ?_)
  · refine lv_iconst (v := nI 0) hx hb d_M_workOut_8 (by decide) ?_
    refine lv_istore_n (lv' := [(1, .int (nI 0)), (0, .ref (ad 0))]) hx hb d_M_workOut_9 rfl hl (by decide) rfl (fun ls hl => ?_)
    exact loopA 433 0 (by omega) (by omega) u (fun j hj => by omega) _ _ ls hP hD hS (lv_sub hl [1, 0] rfl)
  · exact w_retv hx hb hr hlk hK d_M_workOut_7 (u) ⟨h_4, hin h_4⟩ hP hD hS
end
section
def ct_setK (k : Nat) (x y z : Int32) (o : Bool) : Nat := if ct_bad3 x y z = true then k else ct_p3 x y z o
theorem ct_afX_ov {g : ct_G} {p : Nat} {x : Int32} (h : ct_ov g p ≠ 0) : ct_afX g p x = none := if_pos h
theorem ct_afX_mv {g : ct_G} {p : Nat} {x : Int32} (h : ct_ov g p = 0) : ct_afX g p x = ct_mvI g p x := if_neg (fun z => z h)
set_option maxHeartbeats 4000000 in
set_option maxRecDepth 100000 in
/-- outcome(x, y, z, o) -/
theorem c_M_outcome (l : Launch) (dC : Nat → ClassId) (dI : Nat → Nat → Nat) (ad : Nat → Nat) (cd : Nat → ClassId) (g : ct_G) (k9 : Nat) (u : ct_U) (hin : ct_inM g u) (x y z : Int32) (o : Bool) : ∀ sz : Nat, Met l y_M_outcome (Cond.code y_M_outcome b_M_outcome 5 (some .int) :: ct_tbl) ({ frames := 4, cells := 0, slots := 0, locals := 101 }) (va_Pc [.ref (ad 0), .int x, .int y, .int z, .int (ct_bI o)] (ct_Pre (dC, dI) (tM cd) (wM ad cd g k9 u) sz)) (ct_Qi (dC, dI) (tM cd) (fun u' : ct_U => wM ad cd g k9 u') (fun (r : Int32) (u' : ct_U) => r = ct_outR g x y z o ∧ ct_inM g u') (va_A (wM ad cd g k9 u) sz)) 0 0 (va_A (wM ad cd g k9 u) sz) := by
  refine w_start (Qk := ct_Qi (dC, dI) (tM cd) (fun u' : ct_U => wM ad cd g k9 u') (fun (r : Int32) (u' : ct_U) => r = ct_outR g x y z o ∧ ct_inM g u')) [.ref (ad 0), .int x, .int y, .int z, .int (ct_bI o)] (by decide) (Nat.le_of_ble_eq_true rfl) (fun pp ee s m below meth c ls A S hr hlk hP hK hD hA hl => ?_)
  obtain ⟨hx, hb, hml, hown, hts⟩ := id S
  have hl : lv_has ls 5 [(0, .ref (ad 0)), (1, .int x), (2, .int y), (3, .int z), (4, .int (ct_bI o))] := hl
  have hS : va_S A s.heap s.heap [] := va_S.rf
  refine lv_aload_n hx hb d_M_outcome_0 rfl (lv_at hl 0 rfl) ?_
  refine lv_iload_n hx hb d_M_outcome_1 rfl (lv_at hl 1 rfl) ?_
  refine w_callR 1 S (c_M_bad l dC dI ad cd g k9 u x) gv_M_M_bad hd_M_bad ⟨(Nat.le_of_ble_eq_true rfl), (Nat.le_of_ble_eq_true rfl)⟩ ⟨rfl, rfl⟩ ⟨Nat.zero_le _, Nat.zero_le _⟩ (m_rc hK hP) hK hP rfl hl.1 rfl (Nat.le_of_ble_eq_true rfl) d_M_outcome_2 ?_
  refine r_bif_ne (tgt := 24) hx hb d_M_outcome_5 (by decide) (fun h_5 => ?_) (fun h_5 => ?_)
  · refine lv_iconst (v := (-1)) hx hb d_M_outcome_24 (by decide) ?_
    exact w_reti hx hb hr hlk hK d_M_outcome_25 (u) (⟨by simp [ct_outR, ct_bad3, h_5], hin⟩) hP hD hS
  · refine lv_aload_n hx hb d_M_outcome_8 rfl (lv_at hl 0 rfl) ?_
    refine lv_iload_n hx hb d_M_outcome_9 rfl (lv_at hl 2 rfl) ?_
    refine w_callR 1 S (c_M_bad l dC dI ad cd g k9 u y) gv_M_M_bad hd_M_bad ⟨(Nat.le_of_ble_eq_true rfl), (Nat.le_of_ble_eq_true rfl)⟩ ⟨rfl, rfl⟩ ⟨Nat.zero_le _, Nat.zero_le _⟩ (m_rc hK hP) hK hP rfl hl.1 rfl (Nat.le_of_ble_eq_true rfl) d_M_outcome_10 ?_
    refine r_bif_ne (tgt := 24) hx hb d_M_outcome_13 (by decide) (fun h_13 => ?_) (fun h_13 => ?_)
    · refine lv_iconst (v := (-1)) hx hb d_M_outcome_24 (by decide) ?_
      exact w_reti hx hb hr hlk hK d_M_outcome_25 (u) (⟨by simp [ct_outR, ct_bad3, h_5, h_13], hin⟩) hP hD hS
    · refine lv_aload_n hx hb d_M_outcome_16 rfl (lv_at hl 0 rfl) ?_
      refine lv_iload_n hx hb d_M_outcome_17 rfl (lv_at hl 3 rfl) ?_
      refine w_callR 1 S (c_M_bad l dC dI ad cd g k9 u z) gv_M_M_bad hd_M_bad ⟨(Nat.le_of_ble_eq_true rfl), (Nat.le_of_ble_eq_true rfl)⟩ ⟨rfl, rfl⟩ ⟨Nat.zero_le _, Nat.zero_le _⟩ (m_rc hK hP) hK hP rfl hl.1 rfl (Nat.le_of_ble_eq_true rfl) d_M_outcome_18 ?_
      refine r_bif_eq (tgt := 26) hx hb d_M_outcome_21 (by decide) (fun h_21 => ?_) (fun h_21 => ?_)
      · obtain ⟨j1, hj1, rfl⟩ := ct_off_f h_5
        obtain ⟨j2, hj2, rfl⟩ := ct_off_f h_13
        obtain ⟨j3, hj3, rfl⟩ := ct_off_f h_21
        refine lv_aload_n hx hb d_M_outcome_26 rfl (lv_at hl 0 rfl) ?_
        refine w_callv 0 S (c_M_workOut l dC dI ad cd g k9 u hin) gv_M_M_workOut hd_M_workOut ⟨(Nat.le_of_ble_eq_true rfl), (Nat.le_of_ble_eq_true rfl)⟩ ⟨rfl, rfl⟩ ⟨Nat.zero_le _, Nat.zero_le _⟩ (m_rc hK hP) hK hP hD hS hA rfl hl.1 rfl (Nat.le_of_ble_eq_true rfl) d_M_outcome_27 (fun t9 H locs ht9 hP hD hS => ?_)
        have hN := ct_num_lt o hj1 hj2 hj3
        obtain ⟨hw9, hf9⟩ := ht9.2 _ hN
        refine lv_aload_n hx hb d_M_outcome_30 rfl (lv_at hl 0 rfl) ?_
        refine mg_winner S hK hP d_M_outcome_31 ?_
        refine lv_aload_n hx hb d_M_outcome_34 rfl (lv_at hl 0 rfl) ?_
        refine lv_iload_n hx hb d_M_outcome_35 rfl (lv_at hl 1 rfl) ?_
        refine lv_iload_n hx hb d_M_outcome_36 rfl (lv_at hl 2 rfl) ?_
        refine lv_iload_n hx hb d_M_outcome_37 rfl (lv_at hl 3 rfl) ?_
        refine lv_iload hx hb d_M_outcome_38 (lv_at hl 4 rfl) ?_
        refine w_callR 4 S (c_M_number l dC dI ad cd g k9 t9 j1 j2 j3 o) gv_M_M_number hd_M_number ⟨(Nat.le_of_ble_eq_true rfl), (Nat.le_of_ble_eq_true rfl)⟩ ⟨rfl, rfl⟩ ⟨Nat.zero_le _, Nat.zero_le _⟩ (m_rc hK hP) hK hP rfl hl.1 rfl (Nat.le_of_ble_eq_true rfl) d_M_outcome_40 ?_
        refine mo_winner S hK hP (by omega) d_M_outcome_43 ?_
        exact w_reti hx hb hr hlk hK d_M_outcome_44 (t9) (⟨by rw [ct_outR_n hj1 hj2 hj3 h_5 h_13 h_21, hw9], fun _ => ht9.2⟩) hP hD hS
      · refine lv_iconst (v := (-1)) hx hb d_M_outcome_24 (by decide) ?_
        exact w_reti hx hb hr hlk hK d_M_outcome_25 (u) (⟨by simp [ct_outR, ct_bad3, h_5, h_13, h_21], hin⟩) hP hD hS
set_option maxHeartbeats 4000000 in
set_option maxRecDepth 100000 in
/-- length(x, y, z, o) -/
theorem c_M_length (l : Launch) (dC : Nat → ClassId) (dI : Nat → Nat → Nat) (ad : Nat → Nat) (cd : Nat → ClassId) (g : ct_G) (k9 : Nat) (u : ct_U) (hin : ct_inM g u) (x y z : Int32) (o : Bool) : ∀ sz : Nat, Met l y_M_length (Cond.code y_M_length b_M_length 5 (some .int) :: ct_tbl) ({ frames := 4, cells := 0, slots := 0, locals := 101 }) (va_Pc [.ref (ad 0), .int x, .int y, .int z, .int (ct_bI o)] (ct_Pre (dC, dI) (tM cd) (wM ad cd g k9 u) sz)) (ct_Qi (dC, dI) (tM cd) (fun u' : ct_U => wM ad cd g k9 u') (fun (r : Int32) (u' : ct_U) => r = ct_lenR g x y z o ∧ ct_inM g u') (va_A (wM ad cd g k9 u) sz)) 0 0 (va_A (wM ad cd g k9 u) sz) := by
  refine w_start (Qk := ct_Qi (dC, dI) (tM cd) (fun u' : ct_U => wM ad cd g k9 u') (fun (r : Int32) (u' : ct_U) => r = ct_lenR g x y z o ∧ ct_inM g u')) [.ref (ad 0), .int x, .int y, .int z, .int (ct_bI o)] (by decide) (Nat.le_of_ble_eq_true rfl) (fun pp ee s m below meth c ls A S hr hlk hP hK hD hA hl => ?_)
  obtain ⟨hx, hb, hml, hown, hts⟩ := id S
  have hl : lv_has ls 5 [(0, .ref (ad 0)), (1, .int x), (2, .int y), (3, .int z), (4, .int (ct_bI o))] := hl
  have hS : va_S A s.heap s.heap [] := va_S.rf
  refine lv_aload_n hx hb d_M_length_0 rfl (lv_at hl 0 rfl) ?_
  refine lv_iload_n hx hb d_M_length_1 rfl (lv_at hl 1 rfl) ?_
  refine w_callR 1 S (c_M_bad l dC dI ad cd g k9 u x) gv_M_M_bad hd_M_bad ⟨(Nat.le_of_ble_eq_true rfl), (Nat.le_of_ble_eq_true rfl)⟩ ⟨rfl, rfl⟩ ⟨Nat.zero_le _, Nat.zero_le _⟩ (m_rc hK hP) hK hP rfl hl.1 rfl (Nat.le_of_ble_eq_true rfl) d_M_length_2 ?_
  refine r_bif_ne (tgt := 24) hx hb d_M_length_5 (by decide) (fun h_5 => ?_) (fun h_5 => ?_)
  · refine lv_iconst (v := (-1)) hx hb d_M_length_24 (by decide) ?_
    exact w_reti hx hb hr hlk hK d_M_length_25 (u) (⟨by simp [ct_lenR, ct_bad3, h_5], hin⟩) hP hD hS
  · refine lv_aload_n hx hb d_M_length_8 rfl (lv_at hl 0 rfl) ?_
    refine lv_iload_n hx hb d_M_length_9 rfl (lv_at hl 2 rfl) ?_
    refine w_callR 1 S (c_M_bad l dC dI ad cd g k9 u y) gv_M_M_bad hd_M_bad ⟨(Nat.le_of_ble_eq_true rfl), (Nat.le_of_ble_eq_true rfl)⟩ ⟨rfl, rfl⟩ ⟨Nat.zero_le _, Nat.zero_le _⟩ (m_rc hK hP) hK hP rfl hl.1 rfl (Nat.le_of_ble_eq_true rfl) d_M_length_10 ?_
    refine r_bif_ne (tgt := 24) hx hb d_M_length_13 (by decide) (fun h_13 => ?_) (fun h_13 => ?_)
    · refine lv_iconst (v := (-1)) hx hb d_M_length_24 (by decide) ?_
      exact w_reti hx hb hr hlk hK d_M_length_25 (u) (⟨by simp [ct_lenR, ct_bad3, h_5, h_13], hin⟩) hP hD hS
    · refine lv_aload_n hx hb d_M_length_16 rfl (lv_at hl 0 rfl) ?_
      refine lv_iload_n hx hb d_M_length_17 rfl (lv_at hl 3 rfl) ?_
      refine w_callR 1 S (c_M_bad l dC dI ad cd g k9 u z) gv_M_M_bad hd_M_bad ⟨(Nat.le_of_ble_eq_true rfl), (Nat.le_of_ble_eq_true rfl)⟩ ⟨rfl, rfl⟩ ⟨Nat.zero_le _, Nat.zero_le _⟩ (m_rc hK hP) hK hP rfl hl.1 rfl (Nat.le_of_ble_eq_true rfl) d_M_length_18 ?_
      refine r_bif_eq (tgt := 26) hx hb d_M_length_21 (by decide) (fun h_21 => ?_) (fun h_21 => ?_)
      · obtain ⟨j1, hj1, rfl⟩ := ct_off_f h_5
        obtain ⟨j2, hj2, rfl⟩ := ct_off_f h_13
        obtain ⟨j3, hj3, rfl⟩ := ct_off_f h_21
        refine lv_aload_n hx hb d_M_length_26 rfl (lv_at hl 0 rfl) ?_
        refine w_callv 0 S (c_M_workOut l dC dI ad cd g k9 u hin) gv_M_M_workOut hd_M_workOut ⟨(Nat.le_of_ble_eq_true rfl), (Nat.le_of_ble_eq_true rfl)⟩ ⟨rfl, rfl⟩ ⟨Nat.zero_le _, Nat.zero_le _⟩ (m_rc hK hP) hK hP hD hS hA rfl hl.1 rfl (Nat.le_of_ble_eq_true rfl) d_M_length_27 (fun t9 H locs ht9 hP hD hS => ?_)
        have hN := ct_num_lt o hj1 hj2 hj3
        obtain ⟨hw9, hf9⟩ := ht9.2 _ hN
        refine lv_aload_n hx hb d_M_length_30 rfl (lv_at hl 0 rfl) ?_
        refine mg_rounds S hK hP d_M_length_31 ?_
        refine lv_aload_n hx hb d_M_length_34 rfl (lv_at hl 0 rfl) ?_
        refine lv_iload_n hx hb d_M_length_35 rfl (lv_at hl 1 rfl) ?_
        refine lv_iload_n hx hb d_M_length_36 rfl (lv_at hl 2 rfl) ?_
        refine lv_iload_n hx hb d_M_length_37 rfl (lv_at hl 3 rfl) ?_
        refine lv_iload hx hb d_M_length_38 (lv_at hl 4 rfl) ?_
        refine w_callR 4 S (c_M_number l dC dI ad cd g k9 t9 j1 j2 j3 o) gv_M_M_number hd_M_number ⟨(Nat.le_of_ble_eq_true rfl), (Nat.le_of_ble_eq_true rfl)⟩ ⟨rfl, rfl⟩ ⟨Nat.zero_le _, Nat.zero_le _⟩ (m_rc hK hP) hK hP rfl hl.1 rfl (Nat.le_of_ble_eq_true rfl) d_M_length_40 ?_
        refine mo_rounds S hK hP (by omega) d_M_length_43 ?_
        exact w_reti hx hb hr hlk hK d_M_length_44 (t9) (⟨by rw [ct_lenR_n hj1 hj2 hj3 h_5 h_13 h_21, hf9], fun _ => ht9.2⟩) hP hD hS
      · refine lv_iconst (v := (-1)) hx hb d_M_length_24 (by decide) ?_
        exact w_reti hx hb hr hlk hK d_M_length_25 (u) (⟨by simp [ct_lenR, ct_bad3, h_5, h_13, h_21], hin⟩) hP hD hS
set_option maxHeartbeats 4000000 in
set_option maxRecDepth 100000 in
/-- best() -/
theorem c_M_best (l : Launch) (dC : Nat → ClassId) (dI : Nat → Nat → Nat) (ad : Nat → Nat) (cd : Nat → ClassId) (g : ct_G) (k9 : Nat) (u : ct_U) (hin : ct_inM g u) (hk9 : k9 < 432) : ∀ sz : Nat, Met l y_M_best (Cond.code y_M_best b_M_best 3 (some .int) :: ct_tbl) ({ frames := 4, cells := 0, slots := 0, locals := 101 }) (va_Pc [.ref (ad 0)] (ct_Pre (dC, dI) (tM cd) (wM ad cd g k9 u) sz)) (ct_Qi (dC, dI) (tM cd) (fun u' : ct_U => wM ad cd g k9 u') (fun (r : Int32) (u' : ct_U) => r = ct_best g k9 ∧ ct_inM g u') (va_A (wM ad cd g k9 u) sz)) 0 0 (va_A (wM ad cd g k9 u) sz) := by
  refine w_start (Qk := ct_Qi (dC, dI) (tM cd) (fun u' : ct_U => wM ad cd g k9 u') (fun (r : Int32) (u' : ct_U) => r = ct_best g k9 ∧ ct_inM g u')) [.ref (ad 0)] (by decide) (Nat.le_of_ble_eq_true rfl) (fun pp ee s m below meth c ls A S hr hlk hP hK hD hA hl => ?_)
  obtain ⟨hx, hb, hml, hown, hts⟩ := id S
  have hl : lv_has ls 3 [(0, .ref (ad 0))] := hl
  have hS : va_S A s.heap s.heap [] := va_S.rf
  refine lv_aload_n hx hb d_M_best_0 rfl (lv_at hl 0 rfl) ?_
  refine lv_aload_n hx hb d_M_best_1 rfl (lv_at hl 0 rfl) ?_
  refine mg_at S hK hP d_M_best_2 ?_
  refine w_callR 1 S (c_M_canMove l dC dI ad cd g k9 u k9 (by omega)) gv_M_M_canMove hd_M_canMove ⟨(Nat.le_of_ble_eq_true rfl), (Nat.le_of_ble_eq_true rfl)⟩ ⟨rfl, rfl⟩ ⟨Nat.zero_le _, Nat.zero_le _⟩ (m_rc hK hP) hK hP rfl hl.1 rfl (Nat.le_of_ble_eq_true rfl) d_M_best_5 ?_
  refine r_bif_ne (tgt := 14) hx hb d_M_best_8 (by decide) (fun h_8 => ?_) (fun h_8 => ?_)
  · have hov0 : ct_ov g k9 = 0 := by
      simp only [ct_can, Bool.and_eq_true, decide_eq_true_eq] at h_8
      exact h_8.1
    refine lv_aload_n hx hb d_M_best_14 rfl (lv_at hl 0 rfl) ?_
    refine w_callv 0 S (c_M_workOut l dC dI ad cd g k9 u hin) gv_M_M_workOut hd_M_workOut ⟨(Nat.le_of_ble_eq_true rfl), (Nat.le_of_ble_eq_true rfl)⟩ ⟨rfl, rfl⟩ ⟨Nat.zero_le _, Nat.zero_le _⟩ (m_rc hK hP) hK hP hD hS hA rfl hl.1 rfl (Nat.le_of_ble_eq_true rfl) d_M_best_15 (fun t9 H locs ht9 hP hD hS => ?_)
    refine lv_iconst (v := nI 0) hx hb d_M_best_18 (by decide) ?_
    refine lv_istore_n (lv' := [(1, .int (nI 0)), (0, .ref (ad 0))]) hx hb d_M_best_19 rfl hl (by decide) rfl (fun ls hl => ?_)
    obtain ⟨hwN, hfN⟩ := ht9.2 _ hk9
    have hwlN := ct_win_le g k9
    have hflN := ct_far_le g k9
    have loop : ∀ k i : Nat, i + k = 13 → ct_best g k9 = ct_fst (ct_bok g k9) k i → ∀ ls : Array Slot, lv_has ls 3 [(0, .ref (ad 0)), (1, .int (nI i))] → W pp l ee ({ frames := 4, cells := 0, slots := 0, locals := 101 }) s m ([.ref (ad 0)] : List Value).toArray below meth c H locs 0 0 (MQ below (ct_Qi (dC, dI) (tM cd) (fun u' : ct_U => wM ad cd g k9 u') (fun (r : Int32) (u' : ct_U) => r = ct_best g k9 ∧ ct_inM g u') A) ([.ref (ad 0)] : List Value).toArray s 0 0 A) (F0 m 20 ls []) := by
      intro k
      induction k with
      | zero =>
        intro i hi he ls hl
        refine lv_iload_n hx hb d_M_best_20 rfl (lv_at hl 1 rfl) ?_
        refine lv_bipush (v := nI 12) hx hb d_M_best_21 (by decide) ?_
        refine r_cmp_gt (tgt := 98) hx hb d_M_best_23 (by decide) (by omega) (by omega) (fun h_23 => ?_) (fun h_23 => ?_)
        · refine lv_bipush (v := (-2)) hx hb d_M_best_98 (by decide) ?_
          exact w_reti hx hb hr hlk hK d_M_best_100 (t9) (⟨he.symm, fun _ => ht9.2⟩) hP hD hS
        · omega
      | succ k ih =>
        intro i hi he ls hl
        refine lv_iload_n hx hb d_M_best_20 rfl (lv_at hl 1 rfl) ?_
        refine lv_bipush (v := nI 12) hx hb d_M_best_21 (by decide) ?_
        refine r_cmp_gt (tgt := 98) hx hb d_M_best_23 (by decide) (by omega) (by omega) (fun h_23 => ?_) (fun h_23 => ?_)
        · omega
        · refine lv_aload_n hx hb d_M_best_26 rfl (lv_at hl 0 rfl) ?_
          refine lv_aload_n hx hb d_M_best_27 rfl (lv_at hl 0 rfl) ?_
          refine mg_at S hK hP d_M_best_28 ?_
          refine lv_iload_n hx hb d_M_best_31 rfl (lv_at hl 1 rfl) ?_
          refine w_callR 2 S (c_M_after l dC dI ad cd g k9 t9 k9 (by omega) (nI i)) gv_M_M_after hd_M_after ⟨(Nat.le_of_ble_eq_true rfl), (Nat.le_of_ble_eq_true rfl)⟩ ⟨rfl, rfl⟩ ⟨Nat.zero_le _, Nat.zero_le _⟩ (m_rc hK hP) hK hP rfl hl.1 rfl (Nat.le_of_ble_eq_true rfl) d_M_best_32 ?_
          refine r_top (y := (ct_af (ct_mv g k9 i))) (by rw [ct_mvI_n (by omega)]) ?_
          refine r_af (fun ho => ?_) (fun q9 ho => ?_)
          · refine lv_istore_n (lv' := [(2, .int (-1)), (0, .ref (ad 0)), (1, .int (nI i))]) hx hb d_M_best_35 rfl hl (by decide) rfl (fun ls hl => ?_)
            refine lv_iload_n hx hb d_M_best_36 rfl (lv_at hl 0 rfl) ?_
            refine r_iflt_m (tgt := 92) hx hb d_M_best_37 (by decide) ?_
            refine lv_iinc (v := nI (i + 1)) (lv' := [(1, .int (nI (i + 1))), (2, .int (-1)), (0, .ref (ad 0))]) hx hb d_M_best_92 hl (k := 2) rfl (nI_add _ 1) (by decide) rfl (fun ls hl => ?_)
            refine lv_goto (tgt := 20) hx hb d_M_best_95 (by decide) ?_
            have e9 : ct_bok g k9 i = false := ct_bokM_n ho
            exact ih (i + 1) (by omega) (by rw [he, ct_fst_f e9]) ls (lv_sub hl [2, 0] rfl)
          · have hq9 := ct_mv_lt hk9 (by omega) ho
            obtain ⟨hwq, hfq⟩ := ht9.2 _ hq9
            have hwlq := ct_win_le g q9
            have hflq := ct_far_le g q9
            refine lv_istore_n (lv' := [(2, .int (nI q9)), (0, .ref (ad 0)), (1, .int (nI i))]) hx hb d_M_best_35 rfl hl (by decide) rfl (fun ls hl => ?_)
            refine lv_iload_n hx hb d_M_best_36 rfl (lv_at hl 0 rfl) ?_
            refine r_iflt_n (tgt := 92) hx hb d_M_best_37 (by decide) (by omega) ?_
            refine lv_aload_n hx hb d_M_best_40 rfl (lv_at hl 1 rfl) ?_
            refine mg_winner S hK hP d_M_best_41 ?_
            refine lv_iload_n hx hb d_M_best_44 rfl (lv_at hl 0 rfl) ?_
            refine mo_winner S hK hP (by omega) d_M_best_45 ?_
            refine lv_aload_n hx hb d_M_best_46 rfl (lv_at hl 1 rfl) ?_
            refine mg_winner S hK hP d_M_best_47 ?_
            refine lv_aload_n hx hb d_M_best_50 rfl (lv_at hl 1 rfl) ?_
            refine mg_at S hK hP d_M_best_51 ?_
            refine mo_winner S hK hP (by omega) d_M_best_54 ?_
            refine r_cmp_ne (tgt := 92) hx hb d_M_best_55 (by decide) (by omega) (by omega) (fun h_55 => ?_) (fun h_55 => ?_)
            · refine lv_iinc (v := nI (i + 1)) (lv' := [(1, .int (nI (i + 1))), (2, .int (nI q9)), (0, .ref (ad 0))]) hx hb d_M_best_92 hl (k := 2) rfl (nI_add _ 1) (by decide) rfl (fun ls hl => ?_)
              refine lv_goto (tgt := 20) hx hb d_M_best_95 (by decide) ?_
              have e9 : ct_bok g k9 i = false := by rw [ct_bokM_s hov0 ho]; have h5 : ¬ ct_win g q9 = ct_win g k9 := (by omega); simp [h5]
              exact ih (i + 1) (by omega) (by rw [he, ct_fst_f e9]) ls (lv_sub hl [2, 0] rfl)
            · refine lv_aload_n hx hb d_M_best_58 rfl (lv_at hl 1 rfl) ?_
              refine mg_winner S hK hP d_M_best_59 ?_
              refine lv_aload_n hx hb d_M_best_62 rfl (lv_at hl 1 rfl) ?_
              refine mg_at S hK hP d_M_best_63 ?_
              refine mo_winner S hK hP (by omega) d_M_best_66 ?_
              refine r_if_eq (tgt := 90) hx hb d_M_best_67 (by decide) (by omega) (fun h_67 => ?_) (fun h_67 => ?_)
              · refine lv_iload_n hx hb d_M_best_90 rfl (lv_at hl 2 rfl) ?_
                exact w_reti hx hb hr hlk hK d_M_best_91 (t9) (⟨by rw [he, ct_fst_t (by rw [ct_bokM_s hov0 ho]; have h6 : ct_win g k9 = 0 := (by omega); have h5 : ct_win g q9 = ct_win g k9 := (by omega); simp [h5, h6])], fun _ => ht9.2⟩) hP hD hS
              · refine lv_aload_n hx hb d_M_best_70 rfl (lv_at hl 1 rfl) ?_
                refine mg_rounds S hK hP d_M_best_71 ?_
                refine lv_iload_n hx hb d_M_best_74 rfl (lv_at hl 0 rfl) ?_
                refine mo_rounds S hK hP (by omega) d_M_best_75 ?_
                refine lv_aload_n hx hb d_M_best_76 rfl (lv_at hl 1 rfl) ?_
                refine mg_rounds S hK hP d_M_best_77 ?_
                refine lv_aload_n hx hb d_M_best_80 rfl (lv_at hl 1 rfl) ?_
                refine mg_at S hK hP d_M_best_81 ?_
                refine mo_rounds S hK hP (by omega) d_M_best_84 ?_
                refine lv_iconst (v := nI 1) hx hb d_M_best_85 (by decide) ?_
                refine lv_isub hx hb d_M_best_86 ?_
                refine lv_icmp_ne (tgt := 92) hx hb d_M_best_87 (by decide) (fun h_87 => ?_) (fun h_87 => ?_)
                · refine lv_iinc (v := nI (i + 1)) (lv' := [(1, .int (nI (i + 1))), (2, .int (nI q9)), (0, .ref (ad 0))]) hx hb d_M_best_92 hl (k := 2) rfl (nI_add _ 1) (by decide) rfl (fun ls hl => ?_)
                  refine lv_goto (tgt := 20) hx hb d_M_best_95 (by decide) ?_
                  have e9 : ct_bok g k9 i = false := by rw [ct_bokM_s hov0 ho]; have h8 : ¬ ct_far g q9 + 1 = ct_far g k9 := (fun z => h_87 (by rw [hfq, hfN, ct_len_w (by omega), ct_len_w (by omega)]; exact (ct_m1 (by omega) (by omega)).mpr z)); have h6 : ¬ ct_win g k9 = 0 := (by omega); simp [h8, h6]
                  exact ih (i + 1) (by omega) (by rw [he, ct_fst_f e9]) ls (lv_sub hl [2, 0] rfl)
                · refine lv_iload_n hx hb d_M_best_90 rfl (lv_at hl 2 rfl) ?_
                  exact w_reti hx hb hr hlk hK d_M_best_91 (t9) (⟨by rw [he, ct_fst_t (by rw [ct_bokM_s hov0 ho]; have h8 : ct_far g q9 + 1 = ct_far g k9 := (ct_m1 (by omega) (by omega)).mp (by rw [hfq, hfN, ct_len_w (by omega), ct_len_w (by omega)] at h_87; exact h_87); have h5 : ct_win g q9 = ct_win g k9 := (by omega); simp [h8, h5])], fun _ => ht9.2⟩) hP hD hS
    exact loop 13 0 rfl rfl ls (lv_sub hl [1, 0] rfl)
  · refine lv_bipush (v := (-2)) hx hb d_M_best_11 (by decide) ?_
    exact w_reti hx hb hr hlk hK d_M_best_13 (u) (⟨(ct_best_no h_8).symm, hin⟩) hP hD hS
set_option maxHeartbeats 4000000 in
set_option maxRecDepth 100000 in
/-- total(x) -/
theorem c_M_total (l : Launch) (dC : Nat → ClassId) (dI : Nat → Nat → Nat) (ad : Nat → Nat) (cd : Nat → ClassId) (g : ct_G) (k9 : Nat) (u : ct_U) (hin : ct_inM g u) (x : Int32) : ∀ sz : Nat, Met l y_M_total (Cond.code y_M_total b_M_total 4 (some .int) :: ct_tbl) ({ frames := 4, cells := 0, slots := 0, locals := 101 }) (va_Pc [.ref (ad 0), .int x] (ct_Pre (dC, dI) (tM cd) (wM ad cd g k9 u) sz)) (ct_Qi (dC, dI) (tM cd) (fun u' : ct_U => wM ad cd g k9 u') (fun (r : Int32) (u' : ct_U) => r = nI (ct_tot g x 432) ∧ ct_inM g u') (va_A (wM ad cd g k9 u) sz)) 0 0 (va_A (wM ad cd g k9 u) sz) := by
  refine w_start (Qk := ct_Qi (dC, dI) (tM cd) (fun u' : ct_U => wM ad cd g k9 u') (fun (r : Int32) (u' : ct_U) => r = nI (ct_tot g x 432) ∧ ct_inM g u')) [.ref (ad 0), .int x] (by decide) (Nat.le_of_ble_eq_true rfl) (fun pp ee s m below meth c ls A S hr hlk hP hK hD hA hl => ?_)
  obtain ⟨hx, hb, hml, hown, hts⟩ := id S
  have hl : lv_has ls 4 [(0, .ref (ad 0)), (1, .int x)] := hl
  have hS : va_S A s.heap s.heap [] := va_S.rf
  refine lv_aload_n hx hb d_M_total_0 rfl (lv_at hl 0 rfl) ?_
  refine w_callv 0 S (c_M_workOut l dC dI ad cd g k9 u hin) gv_M_M_workOut hd_M_workOut ⟨(Nat.le_of_ble_eq_true rfl), (Nat.le_of_ble_eq_true rfl)⟩ ⟨rfl, rfl⟩ ⟨Nat.zero_le _, Nat.zero_le _⟩ (m_rc hK hP) hK hP hD hS hA rfl hl.1 rfl (Nat.le_of_ble_eq_true rfl) d_M_total_1 (fun t9 H locs ht9 hP hD hS => ?_)
  refine lv_iconst (v := nI 0) hx hb d_M_total_4 (by decide) ?_
  refine lv_istore_n (lv' := [(2, .int (nI 0)), (0, .ref (ad 0)), (1, .int x)]) hx hb d_M_total_5 rfl hl (by decide) rfl (fun ls hl => ?_)
  refine lv_iconst (v := nI 0) hx hb d_M_total_6 (by decide) ?_
  refine lv_istore_n (lv' := [(3, .int (nI 0)), (2, .int (nI 0)), (0, .ref (ad 0)), (1, .int x)]) hx hb d_M_total_7 rfl hl (by decide) rfl (fun ls hl => ?_)
  have loop : ∀ k i : Nat, i ≤ 432 → 432 < i + k → ∀ ls : Array Slot, lv_has ls 4 [(0, .ref (ad 0)), (1, .int x), (2, .int (nI (ct_tot g x i))), (3, .int (nI i))] → W pp l ee ({ frames := 4, cells := 0, slots := 0, locals := 101 }) s m ([.ref (ad 0), .int x] : List Value).toArray below meth c H locs 0 0 (MQ below (ct_Qi (dC, dI) (tM cd) (fun u' : ct_U => wM ad cd g k9 u') (fun (r : Int32) (u' : ct_U) => r = nI (ct_tot g x 432) ∧ ct_inM g u') A) ([.ref (ad 0), .int x] : List Value).toArray s 0 0 A) (F0 m 8 ls []) := by
    intro k
    induction k with
    | zero => intro i h1 h2; omega
    | succ k ih =>
      intro i hi hk ls hl
      refine lv_iload_n hx hb d_M_total_8 rfl (lv_at hl 3 rfl) ?_
      refine lv_sipush (v := nI 432) hx hb d_M_total_9 (by decide) ?_
      refine r_cmp_ge (tgt := 34) hx hb d_M_total_12 (by decide) (by omega) (by omega) (fun h_12 => ?_) (fun h_12 => ?_)
      · obtain rfl : i = 432 := by omega
        refine lv_iload_n hx hb d_M_total_34 rfl (lv_at hl 2 rfl) ?_
        exact w_reti hx hb hr hlk hK d_M_total_35 (t9) (⟨rfl, fun _ => ht9.2⟩) hP hD hS
      · refine lv_aload_n hx hb d_M_total_15 rfl (lv_at hl 0 rfl) ?_
        refine mg_winner S hK hP d_M_total_16 ?_
        refine lv_iload_n hx hb d_M_total_19 rfl (lv_at hl 3 rfl) ?_
        refine mo_winner S hK hP (by omega) d_M_total_20 ?_
        refine lv_iload_n hx hb d_M_total_21 rfl (lv_at hl 1 rfl) ?_
        refine lv_icmp_ne (tgt := 28) hx hb d_M_total_22 (by decide) (fun h_22 => ?_) (fun h_22 => ?_)
        · have e9 : ct_tot g x (i + 1) = ct_tot g x i := by
            show ct_tot g x i + (if nI (ct_win g i) = x then 1 else 0) = _
            rw [← (ht9.2 i (by omega)).1, if_neg h_22, Nat.add_zero]
          have hl : lv_has ls 4 [(0, .ref (ad 0)), (1, .int x), (2, .int (nI (ct_tot g x (i + 1)))), (3, .int (nI i))] := by rw [e9]; exact hl
          refine lv_iinc (v := nI (i + 1)) (lv' := [(3, .int (nI (i + 1))), (0, .ref (ad 0)), (1, .int x), (2, .int (nI (ct_tot g x (i + 1))))]) hx hb d_M_total_28 hl (k := 3) rfl (nI_add _ 1) (by decide) rfl (fun ls hl => ?_)
          refine lv_goto (tgt := 8) hx hb d_M_total_31 (by decide) ?_
          exact ih (i + 1) (by omega) (by omega) ls (lv_sub hl [1, 2, 3, 0] rfl)
        · refine lv_iinc (v := nI (ct_tot g x i + 1)) (lv' := [(2, .int (nI (ct_tot g x i + 1))), (0, .ref (ad 0)), (1, .int x), (3, .int (nI i))]) hx hb d_M_total_25 hl (k := 2) rfl (nI_add _ 1) (by decide) rfl (fun ls hl => ?_)
          have e9 : ct_tot g x (i + 1) = ct_tot g x i + 1 := by
            show ct_tot g x i + (if nI (ct_win g i) = x then 1 else 0) = _
            rw [← (ht9.2 i (by omega)).1, if_pos h_22]
          have hl : lv_has ls 4 [(2, .int (nI (ct_tot g x (i + 1)))), (0, .ref (ad 0)), (1, .int x), (3, .int (nI i))] := by rw [e9]; exact hl
          refine lv_iinc (v := nI (i + 1)) (lv' := [(3, .int (nI (i + 1))), (2, .int (nI (ct_tot g x (i + 1)))), (0, .ref (ad 0)), (1, .int x)]) hx hb d_M_total_28 hl (k := 3) rfl (nI_add _ 1) (by decide) rfl (fun ls hl => ?_)
          refine lv_goto (tgt := 8) hx hb d_M_total_31 (by decide) ?_
          exact ih (i + 1) (by omega) (by omega) ls (lv_sub hl [2, 3, 1, 0] rfl)
  exact loop 433 0 (by omega) (by omega) ls (lv_sub hl [2, 3, 1, 0] rfl)
set_option maxHeartbeats 4000000 in
set_option maxRecDepth 100000 in
/-- longest(x) -/
theorem c_M_longest (l : Launch) (dC : Nat → ClassId) (dI : Nat → Nat → Nat) (ad : Nat → Nat) (cd : Nat → ClassId) (g : ct_G) (k9 : Nat) (u : ct_U) (hin : ct_inM g u) (x : Int32) : ∀ sz : Nat, Met l y_M_longest (Cond.code y_M_longest b_M_longest 4 (some .int) :: ct_tbl) ({ frames := 4, cells := 0, slots := 0, locals := 101 }) (va_Pc [.ref (ad 0), .int x] (ct_Pre (dC, dI) (tM cd) (wM ad cd g k9 u) sz)) (ct_Qi (dC, dI) (tM cd) (fun u' : ct_U => wM ad cd g k9 u') (fun (r : Int32) (u' : ct_U) => r = ct_lng g x 432 ∧ ct_inM g u') (va_A (wM ad cd g k9 u) sz)) 0 0 (va_A (wM ad cd g k9 u) sz) := by
  refine w_start (Qk := ct_Qi (dC, dI) (tM cd) (fun u' : ct_U => wM ad cd g k9 u') (fun (r : Int32) (u' : ct_U) => r = ct_lng g x 432 ∧ ct_inM g u')) [.ref (ad 0), .int x] (by decide) (Nat.le_of_ble_eq_true rfl) (fun pp ee s m below meth c ls A S hr hlk hP hK hD hA hl => ?_)
  obtain ⟨hx, hb, hml, hown, hts⟩ := id S
  have hl : lv_has ls 4 [(0, .ref (ad 0)), (1, .int x)] := hl
  have hS : va_S A s.heap s.heap [] := va_S.rf
  refine lv_aload_n hx hb d_M_longest_0 rfl (lv_at hl 0 rfl) ?_
  refine w_callv 0 S (c_M_workOut l dC dI ad cd g k9 u hin) gv_M_M_workOut hd_M_workOut ⟨(Nat.le_of_ble_eq_true rfl), (Nat.le_of_ble_eq_true rfl)⟩ ⟨rfl, rfl⟩ ⟨Nat.zero_le _, Nat.zero_le _⟩ (m_rc hK hP) hK hP hD hS hA rfl hl.1 rfl (Nat.le_of_ble_eq_true rfl) d_M_longest_1 (fun t9 H locs ht9 hP hD hS => ?_)
  refine lv_bipush (v := (-3)) hx hb d_M_longest_4 (by decide) ?_
  refine lv_istore_n (lv' := [(2, .int (-3)), (0, .ref (ad 0)), (1, .int x)]) hx hb d_M_longest_6 rfl hl (by decide) rfl (fun ls hl => ?_)
  refine lv_iconst (v := nI 0) hx hb d_M_longest_7 (by decide) ?_
  refine lv_istore_n (lv' := [(3, .int (nI 0)), (2, .int (-3)), (0, .ref (ad 0)), (1, .int x)]) hx hb d_M_longest_8 rfl hl (by decide) rfl (fun ls hl => ?_)
  have loop : ∀ k i : Nat, i ≤ 432 → 432 < i + k → ∀ ls : Array Slot, lv_has ls 4 [(0, .ref (ad 0)), (1, .int x), (2, .int (ct_lng g x i)), (3, .int (nI i))] → W pp l ee ({ frames := 4, cells := 0, slots := 0, locals := 101 }) s m ([.ref (ad 0), .int x] : List Value).toArray below meth c H locs 0 0 (MQ below (ct_Qi (dC, dI) (tM cd) (fun u' : ct_U => wM ad cd g k9 u') (fun (r : Int32) (u' : ct_U) => r = ct_lng g x 432 ∧ ct_inM g u') A) ([.ref (ad 0), .int x] : List Value).toArray s 0 0 A) (F0 m 9 ls []) := by
    intro k
    induction k with
    | zero => intro i h1 h2; omega
    | succ k ih =>
      intro i hi hk ls hl
      refine lv_iload_n hx hb d_M_longest_9 rfl (lv_at hl 3 rfl) ?_
      refine lv_sipush (v := nI 432) hx hb d_M_longest_10 (by decide) ?_
      refine r_cmp_ge (tgt := 49) hx hb d_M_longest_13 (by decide) (by omega) (by omega) (fun h_13 => ?_) (fun h_13 => ?_)
      · obtain rfl : i = 432 := by omega
        refine lv_iload_n hx hb d_M_longest_49 rfl (lv_at hl 2 rfl) ?_
        exact w_reti hx hb hr hlk hK d_M_longest_50 (t9) (⟨rfl, fun _ => ht9.2⟩) hP hD hS
      · refine lv_aload_n hx hb d_M_longest_16 rfl (lv_at hl 0 rfl) ?_
        refine mg_winner S hK hP d_M_longest_17 ?_
        refine lv_iload_n hx hb d_M_longest_20 rfl (lv_at hl 3 rfl) ?_
        refine mo_winner S hK hP (by omega) d_M_longest_21 ?_
        refine lv_iload_n hx hb d_M_longest_22 rfl (lv_at hl 1 rfl) ?_
        refine lv_icmp_ne (tgt := 43) hx hb d_M_longest_23 (by decide) (fun h_23 => ?_) (fun h_23 => ?_)
        · obtain ⟨a1, a2⟩ := ht9.2 i (by omega)
          have e9 : ct_lng g x (i + 1) = (ct_lng g x i) := by
            show (if nI (ct_win g i) = x ∧ ct_lng g x i < ct_len g i then ct_len g i else ct_lng g x i) = _
            rw [← a1, if_neg (fun z => h_23 z.1)]
          have hl : lv_has ls 4 [(0, .ref (ad 0)), (1, .int x), (2, .int (ct_lng g x (i + 1))), (3, .int (nI i))] := by rw [e9]; exact hl
          refine lv_iinc (v := nI (i + 1)) (lv' := [(3, .int (nI (i + 1))), (0, .ref (ad 0)), (1, .int x), (2, .int (ct_lng g x (i + 1)))]) hx hb d_M_longest_43 hl (k := 3) rfl (nI_add _ 1) (by decide) rfl (fun ls hl => ?_)
          refine lv_goto (tgt := 9) hx hb d_M_longest_46 (by decide) ?_
          exact ih (i + 1) (by omega) (by omega) ls (lv_sub hl [1, 2, 3, 0] rfl)
        · refine lv_aload_n hx hb d_M_longest_26 rfl (lv_at hl 0 rfl) ?_
          refine mg_rounds S hK hP d_M_longest_27 ?_
          refine lv_iload_n hx hb d_M_longest_30 rfl (lv_at hl 3 rfl) ?_
          refine mo_rounds S hK hP (by omega) d_M_longest_31 ?_
          refine lv_iload_n hx hb d_M_longest_32 rfl (lv_at hl 2 rfl) ?_
          refine lv_icmp_le (tgt := 43) hx hb d_M_longest_33 (by decide) (fun h_33 => ?_) (fun h_33 => ?_)
          · obtain ⟨a1, a2⟩ := ht9.2 i (by omega)
            have e9 : ct_lng g x (i + 1) = (ct_lng g x i) := by
              show (if nI (ct_win g i) = x ∧ ct_lng g x i < ct_len g i then ct_len g i else ct_lng g x i) = _
              rw [← a1, ← a2, if_neg (fun z => ct_nlt h_33 z.2)]
            have hl : lv_has ls 4 [(0, .ref (ad 0)), (1, .int x), (2, .int (ct_lng g x (i + 1))), (3, .int (nI i))] := by rw [e9]; exact hl
            refine lv_iinc (v := nI (i + 1)) (lv' := [(3, .int (nI (i + 1))), (0, .ref (ad 0)), (1, .int x), (2, .int (ct_lng g x (i + 1)))]) hx hb d_M_longest_43 hl (k := 3) rfl (nI_add _ 1) (by decide) rfl (fun ls hl => ?_)
            refine lv_goto (tgt := 9) hx hb d_M_longest_46 (by decide) ?_
            exact ih (i + 1) (by omega) (by omega) ls (lv_sub hl [1, 2, 3, 0] rfl)
          · refine lv_aload_n hx hb d_M_longest_36 rfl (lv_at hl 0 rfl) ?_
            refine mg_rounds S hK hP d_M_longest_37 ?_
            refine lv_iload_n hx hb d_M_longest_40 rfl (lv_at hl 3 rfl) ?_
            refine mo_rounds S hK hP (by omega) d_M_longest_41 ?_
            refine lv_istore_n (lv' := [(2, .int (t9.2.2 i)), (0, .ref (ad 0)), (1, .int x), (3, .int (nI i))]) hx hb d_M_longest_42 rfl hl (by decide) rfl (fun ls hl => ?_)
            obtain ⟨a1, a2⟩ := ht9.2 i (by omega)
            have e9 : ct_lng g x (i + 1) = (t9.2.2 i) := by
              show (if nI (ct_win g i) = x ∧ ct_lng g x i < ct_len g i then ct_len g i else ct_lng g x i) = _
              rw [← a1, ← a2, if_pos ⟨h_23, ct_nle h_33⟩]
            have hl : lv_has ls 4 [(2, .int (ct_lng g x (i + 1))), (0, .ref (ad 0)), (1, .int x), (3, .int (nI i))] := by rw [e9]; exact hl
            refine lv_iinc (v := nI (i + 1)) (lv' := [(3, .int (nI (i + 1))), (2, .int (ct_lng g x (i + 1))), (0, .ref (ad 0)), (1, .int x)]) hx hb d_M_longest_43 hl (k := 3) rfl (nI_add _ 1) (by decide) rfl (fun ls hl => ?_)
            refine lv_goto (tgt := 9) hx hb d_M_longest_46 (by decide) ?_
            exact ih (i + 1) (by omega) (by omega) ls (lv_sub hl [2, 3, 1, 0] rfl)
  exact loop 433 0 (by omega) (by omega) ls (lv_sub hl [2, 3, 1, 0] rfl)
set_option maxHeartbeats 4000000 in
set_option maxRecDepth 100000 in
/-- door(x, y, o) -/
theorem c_M_door (l : Launch) (dC : Nat → ClassId) (dI : Nat → Nat → Nat) (ad : Nat → Nat) (cd : Nat → ClassId) (g : ct_G) (k9 : Nat) (u : ct_U) (hin : ct_inM g u) (x y : Int32) (o : Bool) : ∀ sz : Nat, Met l y_M_door (Cond.code y_M_door b_M_door 5 (some .int) :: ct_tbl) ({ frames := 1, cells := 0, slots := 0, locals := 21 }) (va_Pc [.ref (ad 0), .int x, .int y, .int (ct_bI o)] (ct_Pre (dC, dI) (tM cd) (wM ad cd g k9 u) sz)) (ct_Qi (dC, dI) (tM cd) (fun v : ct_G × ct_U => wM ad cd v.1 k9 v.2) (fun (r : Int32) (v : ct_G × ct_U) => r = ct_doorR g x y ∧ v.1 = ct_doorG g x y o ∧ ct_inM v.1 v.2) (va_A (wM ad cd g k9 u) sz)) 0 0 (va_A (wM ad cd g k9 u) sz) := by
  refine w_start (Qk := ct_Qi (dC, dI) (tM cd) (fun v : ct_G × ct_U => wM ad cd v.1 k9 v.2) (fun (r : Int32) (v : ct_G × ct_U) => r = ct_doorR g x y ∧ v.1 = ct_doorG g x y o ∧ ct_inM v.1 v.2)) [.ref (ad 0), .int x, .int y, .int (ct_bI o)] (by decide) (Nat.le_of_ble_eq_true rfl) (fun pp ee s m below meth c ls A S hr hlk hP hK hD hA hl => ?_)
  obtain ⟨hx, hb, hml, hown, hts⟩ := id S
  have hl : lv_has ls 5 [(0, .ref (ad 0)), (1, .int x), (2, .int y), (3, .int (ct_bI o))] := hl
  have hS : va_S A s.heap s.heap [] := va_S.rf
  refine lv_aload_n hx hb d_M_door_0 rfl (lv_at hl 0 rfl) ?_
  refine lv_iload_n hx hb d_M_door_1 rfl (lv_at hl 1 rfl) ?_
  refine w_callR 1 S (c_M_bad l dC dI ad cd g k9 u x) gv_M_M_bad hd_M_bad ⟨(Nat.le_of_ble_eq_true rfl), (Nat.le_of_ble_eq_true rfl)⟩ ⟨rfl, rfl⟩ ⟨Nat.zero_le _, Nat.zero_le _⟩ (m_rc hK hP) hK hP rfl hl.1 rfl (Nat.le_of_ble_eq_true rfl) d_M_door_2 ?_
  refine r_bif_ne (tgt := 16) hx hb d_M_door_5 (by decide) (fun h_5 => ?_) (fun h_5 => ?_)
  · refine lv_iconst (v := (-1)) hx hb d_M_door_16 (by decide) ?_
    exact w_reti hx hb hr hlk hK d_M_door_17 (g, u) (⟨ct_doorR_b (Or.inl h_5), ct_doorG_b (Or.inl h_5), hin⟩) hP hD hS
  · refine lv_aload_n hx hb d_M_door_8 rfl (lv_at hl 0 rfl) ?_
    refine lv_iload_n hx hb d_M_door_9 rfl (lv_at hl 2 rfl) ?_
    refine w_callR 1 S (c_M_bad l dC dI ad cd g k9 u y) gv_M_M_bad hd_M_bad ⟨(Nat.le_of_ble_eq_true rfl), (Nat.le_of_ble_eq_true rfl)⟩ ⟨rfl, rfl⟩ ⟨Nat.zero_le _, Nat.zero_le _⟩ (m_rc hK hP) hK hP rfl hl.1 rfl (Nat.le_of_ble_eq_true rfl) d_M_door_10 ?_
    refine r_bif_eq (tgt := 18) hx hb d_M_door_13 (by decide) (fun h_13 => ?_) (fun h_13 => ?_)
    · obtain ⟨j1, hj1, rfl⟩ := ct_off_f h_5
      obtain ⟨j2, hj2, rfl⟩ := ct_off_f h_13
      refine lv_iload_n hx hb d_M_door_18 rfl (lv_at hl 1 rfl) ?_
      refine lv_iload_n hx hb d_M_door_19 rfl (lv_at hl 2 rfl) ?_
      refine r_cmp_ne (tgt := 26) hx hb d_M_door_20 (by decide) (by omega) (by omega) (fun h_20 => ?_) (fun h_20 => ?_)
      · refine lv_aload_n hx hb d_M_door_26 rfl (lv_at hl 0 rfl) ?_
        refine mg_doors S hK hP d_M_door_27 ?_
        refine lv_iload_n hx hb d_M_door_30 rfl (lv_at hl 1 rfl) ?_
        refine lv_bipush (v := nI 6) hx hb d_M_door_31 (by decide) ?_
        refine r_mul hx hb d_M_door_33 ?_
        refine lv_iload_n hx hb d_M_door_34 rfl (lv_at hl 2 rfl) ?_
        refine r_add hx hb d_M_door_35 ?_
        refine mo_doors S hK hP (by omega) d_M_door_36 ?_
        refine r_top (y := ct_bI (g.1 j1 j2)) (by rw [show (j1 * 6 + j2) / 6 = j1 by omega, show (j1 * 6 + j2) % 6 = j2 by omega]) ?_
        refine r_bif_eq (tgt := 44) hx hb d_M_door_37 (by decide) (fun h_37 => ?_) (fun h_37 => ?_)
        · refine lv_iconst (v := nI 0) hx hb d_M_door_44 (by decide) ?_
          refine r_top (y := ct_bI (g.1 j1 j2)) (by rw [h_37]; rfl) ?_
          refine lv_istore (lv' := [(4, .int (ct_bI (g.1 j1 j2))), (0, .ref (ad 0)), (1, .int (nI j1)), (2, .int (nI j2)), (3, .int (ct_bI o))]) hx hb d_M_door_45 hl (by decide) rfl (fun ls hl => ?_)
          refine lv_aload_n hx hb d_M_door_47 rfl (lv_at hl 1 rfl) ?_
          refine mg_doors S hK hP d_M_door_48 ?_
          refine lv_iload_n hx hb d_M_door_51 rfl (lv_at hl 2 rfl) ?_
          refine lv_bipush (v := nI 6) hx hb d_M_door_52 (by decide) ?_
          refine r_mul hx hb d_M_door_54 ?_
          refine lv_iload_n hx hb d_M_door_55 rfl (lv_at hl 3 rfl) ?_
          refine r_add hx hb d_M_door_56 ?_
          refine lv_iload_n hx hb d_M_door_57 rfl (lv_at hl 4 rfl) ?_
          refine ms_doors S hK hP hD hS (by omega) (by omega) d_M_door_58 (fun H locs hP hD hS => ?_)
          refine lv_aload_n hx hb d_M_door_59 rfl (lv_at hl 1 rfl) ?_
          refine lv_iconst (v := nI 0) hx hb d_M_door_60 (by decide) ?_
          refine r_top (y := ct_bI (false)) rfl ?_
          refine mp_known S hK hP hD hS d_M_door_61 (fun H locs hP hD hS => ?_)
          refine lv_iload hx hb d_M_door_64 (lv_at hl 0 rfl) ?_
          have hne : ¬ nI j1 = nI j2 := fun z => h_20 ((nI_eq (by omega) (by omega)).mp z)
          exact w_reti hx hb hr hlk hK d_M_door_66 ((ct_updD g.1 j1 j2 o, g.2), (false, u.2)) (⟨by unfold ct_doorR; rw [if_neg (ct_or_f h_5 h_13), if_neg hne, ct_cl hj1, ct_cl hj2], by unfold ct_doorG; rw [if_neg (ct_or_f h_5 h_13), if_neg hne, ct_cl hj1, ct_cl hj2], fun z => by cases z⟩) hP hD hS
        · refine lv_iconst (v := nI 1) hx hb d_M_door_40 (by decide) ?_
          refine lv_goto (tgt := 45) hx hb d_M_door_41 (by decide) ?_
          refine r_top (y := ct_bI (g.1 j1 j2)) (by rw [h_37]; rfl) ?_
          refine lv_istore (lv' := [(4, .int (ct_bI (g.1 j1 j2))), (0, .ref (ad 0)), (1, .int (nI j1)), (2, .int (nI j2)), (3, .int (ct_bI o))]) hx hb d_M_door_45 hl (by decide) rfl (fun ls hl => ?_)
          refine lv_aload_n hx hb d_M_door_47 rfl (lv_at hl 1 rfl) ?_
          refine mg_doors S hK hP d_M_door_48 ?_
          refine lv_iload_n hx hb d_M_door_51 rfl (lv_at hl 2 rfl) ?_
          refine lv_bipush (v := nI 6) hx hb d_M_door_52 (by decide) ?_
          refine r_mul hx hb d_M_door_54 ?_
          refine lv_iload_n hx hb d_M_door_55 rfl (lv_at hl 3 rfl) ?_
          refine r_add hx hb d_M_door_56 ?_
          refine lv_iload_n hx hb d_M_door_57 rfl (lv_at hl 4 rfl) ?_
          refine ms_doors S hK hP hD hS (by omega) (by omega) d_M_door_58 (fun H locs hP hD hS => ?_)
          refine lv_aload_n hx hb d_M_door_59 rfl (lv_at hl 1 rfl) ?_
          refine lv_iconst (v := nI 0) hx hb d_M_door_60 (by decide) ?_
          refine r_top (y := ct_bI (false)) rfl ?_
          refine mp_known S hK hP hD hS d_M_door_61 (fun H locs hP hD hS => ?_)
          refine lv_iload hx hb d_M_door_64 (lv_at hl 0 rfl) ?_
          have hne : ¬ nI j1 = nI j2 := fun z => h_20 ((nI_eq (by omega) (by omega)).mp z)
          exact w_reti hx hb hr hlk hK d_M_door_66 ((ct_updD g.1 j1 j2 o, g.2), (false, u.2)) (⟨by unfold ct_doorR; rw [if_neg (ct_or_f h_5 h_13), if_neg hne, ct_cl hj1, ct_cl hj2], by unfold ct_doorG; rw [if_neg (ct_or_f h_5 h_13), if_neg hne, ct_cl hj1, ct_cl hj2], fun z => by cases z⟩) hP hD hS
      · refine lv_bipush (v := (-2)) hx hb d_M_door_23 (by decide) ?_
        subst h_20
        exact w_reti hx hb hr hlk hK d_M_door_25 (g, u) (⟨by simp [ct_doorR, h_5], by simp [ct_doorG, h_5], hin⟩) hP hD hS
    · refine lv_iconst (v := (-1)) hx hb d_M_door_16 (by decide) ?_
      exact w_reti hx hb hr hlk hK d_M_door_17 (g, u) (⟨ct_doorR_b (Or.inr h_13), ct_doorG_b (Or.inr h_13), hin⟩) hP hD hS
set_option maxHeartbeats 4000000 in
set_option maxRecDepth 100000 in
/-- exit(x, o) -/
theorem c_M_exit (l : Launch) (dC : Nat → ClassId) (dI : Nat → Nat → Nat) (ad : Nat → Nat) (cd : Nat → ClassId) (g : ct_G) (k9 : Nat) (u : ct_U) (hin : ct_inM g u) (x : Int32) (o : Bool) : ∀ sz : Nat, Met l y_M_exit (Cond.code y_M_exit b_M_exit 4 (some .int) :: ct_tbl) ({ frames := 1, cells := 0, slots := 0, locals := 21 }) (va_Pc [.ref (ad 0), .int x, .int (ct_bI o)] (ct_Pre (dC, dI) (tM cd) (wM ad cd g k9 u) sz)) (ct_Qi (dC, dI) (tM cd) (fun v : ct_G × ct_U => wM ad cd v.1 k9 v.2) (fun (r : Int32) (v : ct_G × ct_U) => r = ct_exitR g x ∧ v.1 = ct_exitG g x o ∧ ct_inM v.1 v.2) (va_A (wM ad cd g k9 u) sz)) 0 0 (va_A (wM ad cd g k9 u) sz) := by
  refine w_start (Qk := ct_Qi (dC, dI) (tM cd) (fun v : ct_G × ct_U => wM ad cd v.1 k9 v.2) (fun (r : Int32) (v : ct_G × ct_U) => r = ct_exitR g x ∧ v.1 = ct_exitG g x o ∧ ct_inM v.1 v.2)) [.ref (ad 0), .int x, .int (ct_bI o)] (by decide) (Nat.le_of_ble_eq_true rfl) (fun pp ee s m below meth c ls A S hr hlk hP hK hD hA hl => ?_)
  obtain ⟨hx, hb, hml, hown, hts⟩ := id S
  have hl : lv_has ls 4 [(0, .ref (ad 0)), (1, .int x), (2, .int (ct_bI o))] := hl
  have hS : va_S A s.heap s.heap [] := va_S.rf
  refine lv_aload_n hx hb d_M_exit_0 rfl (lv_at hl 0 rfl) ?_
  refine lv_iload_n hx hb d_M_exit_1 rfl (lv_at hl 1 rfl) ?_
  refine w_callR 1 S (c_M_bad l dC dI ad cd g k9 u x) gv_M_M_bad hd_M_bad ⟨(Nat.le_of_ble_eq_true rfl), (Nat.le_of_ble_eq_true rfl)⟩ ⟨rfl, rfl⟩ ⟨Nat.zero_le _, Nat.zero_le _⟩ (m_rc hK hP) hK hP rfl hl.1 rfl (Nat.le_of_ble_eq_true rfl) d_M_exit_2 ?_
  refine r_bif_eq (tgt := 10) hx hb d_M_exit_5 (by decide) (fun h_5 => ?_) (fun h_5 => ?_)
  · obtain ⟨j1, hj1, rfl⟩ := ct_off_f h_5
    refine lv_aload_n hx hb d_M_exit_10 rfl (lv_at hl 0 rfl) ?_
    refine mg_exits S hK hP d_M_exit_11 ?_
    refine lv_iload_n hx hb d_M_exit_14 rfl (lv_at hl 1 rfl) ?_
    refine mo_exits S hK hP (by omega) d_M_exit_15 ?_
    refine r_bif_eq (tgt := 23) hx hb d_M_exit_16 (by decide) (fun h_16 => ?_) (fun h_16 => ?_)
    · refine lv_iconst (v := nI 0) hx hb d_M_exit_23 (by decide) ?_
      refine r_top (y := ct_bI (g.2.1 j1)) (by rw [h_16]; rfl) ?_
      refine lv_istore_n (lv' := [(3, .int (ct_bI (g.2.1 j1))), (0, .ref (ad 0)), (1, .int (nI j1)), (2, .int (ct_bI o))]) hx hb d_M_exit_24 rfl hl (by decide) rfl (fun ls hl => ?_)
      refine lv_aload_n hx hb d_M_exit_25 rfl (lv_at hl 1 rfl) ?_
      refine mg_exits S hK hP d_M_exit_26 ?_
      refine lv_iload_n hx hb d_M_exit_29 rfl (lv_at hl 2 rfl) ?_
      refine lv_iload_n hx hb d_M_exit_30 rfl (lv_at hl 3 rfl) ?_
      refine ms_exits S hK hP hD hS (by omega) d_M_exit_31 (fun H locs hP hD hS => ?_)
      refine lv_aload_n hx hb d_M_exit_32 rfl (lv_at hl 1 rfl) ?_
      refine lv_iconst (v := nI 0) hx hb d_M_exit_33 (by decide) ?_
      refine r_top (y := ct_bI (false)) rfl ?_
      refine mp_known S hK hP hD hS d_M_exit_34 (fun H locs hP hD hS => ?_)
      refine lv_iload_n hx hb d_M_exit_37 rfl (lv_at hl 0 rfl) ?_
      exact w_reti hx hb hr hlk hK d_M_exit_38 ((g.1, ct_updB g.2.1 j1 o, g.2.2), (false, u.2)) (⟨by unfold ct_exitR; rw [if_neg (by simp [h_5]), ct_cl hj1], by unfold ct_exitG; rw [if_neg (by simp [h_5]), ct_cl hj1], fun z => by cases z⟩) hP hD hS
    · refine lv_iconst (v := nI 1) hx hb d_M_exit_19 (by decide) ?_
      refine lv_goto (tgt := 24) hx hb d_M_exit_20 (by decide) ?_
      refine r_top (y := ct_bI (g.2.1 j1)) (by rw [h_16]; rfl) ?_
      refine lv_istore_n (lv' := [(3, .int (ct_bI (g.2.1 j1))), (0, .ref (ad 0)), (1, .int (nI j1)), (2, .int (ct_bI o))]) hx hb d_M_exit_24 rfl hl (by decide) rfl (fun ls hl => ?_)
      refine lv_aload_n hx hb d_M_exit_25 rfl (lv_at hl 1 rfl) ?_
      refine mg_exits S hK hP d_M_exit_26 ?_
      refine lv_iload_n hx hb d_M_exit_29 rfl (lv_at hl 2 rfl) ?_
      refine lv_iload_n hx hb d_M_exit_30 rfl (lv_at hl 3 rfl) ?_
      refine ms_exits S hK hP hD hS (by omega) d_M_exit_31 (fun H locs hP hD hS => ?_)
      refine lv_aload_n hx hb d_M_exit_32 rfl (lv_at hl 1 rfl) ?_
      refine lv_iconst (v := nI 0) hx hb d_M_exit_33 (by decide) ?_
      refine r_top (y := ct_bI (false)) rfl ?_
      refine mp_known S hK hP hD hS d_M_exit_34 (fun H locs hP hD hS => ?_)
      refine lv_iload_n hx hb d_M_exit_37 rfl (lv_at hl 0 rfl) ?_
      exact w_reti hx hb hr hlk hK d_M_exit_38 ((g.1, ct_updB g.2.1 j1 o, g.2.2), (false, u.2)) (⟨by unfold ct_exitR; rw [if_neg (by simp [h_5]), ct_cl hj1], by unfold ct_exitG; rw [if_neg (by simp [h_5]), ct_cl hj1], fun z => by cases z⟩) hP hD hS
  · refine lv_iconst (v := (-1)) hx hb d_M_exit_8 (by decide) ?_
    exact w_reti hx hb hr hlk hK d_M_exit_9 (g, u) (⟨(if_pos h_5).symm, (if_pos h_5).symm, hin⟩) hP hD hS
set_option maxHeartbeats 4000000 in
set_option maxRecDepth 100000 in
/-- set(x, y, z, o) -/
theorem c_M_set (l : Launch) (dC : Nat → ClassId) (dI : Nat → Nat → Nat) (ad : Nat → Nat) (cd : Nat → ClassId) (g : ct_G) (k9 : Nat) (u : ct_U) (x y z : Int32) (o : Bool) : ∀ sz : Nat, Met l y_M_set (Cond.code y_M_set b_M_set 5 (some .int) :: ct_tbl) ({ frames := 1, cells := 0, slots := 0, locals := 24 }) (va_Pc [.ref (ad 0), .int x, .int y, .int z, .int (ct_bI o)] (ct_Pre (dC, dI) (tM cd) (wM ad cd g k9 u) sz)) (ct_Qi (dC, dI) (tM cd) (fun k' : Nat => wM ad cd g k' u) (fun (r : Int32) (k' : Nat) => r = ct_setR x y z ∧ k' = ct_setK k9 x y z o) (va_A (wM ad cd g k9 u) sz)) 0 0 (va_A (wM ad cd g k9 u) sz) := by
  refine w_start (Qk := ct_Qi (dC, dI) (tM cd) (fun k' : Nat => wM ad cd g k' u) (fun (r : Int32) (k' : Nat) => r = ct_setR x y z ∧ k' = ct_setK k9 x y z o)) [.ref (ad 0), .int x, .int y, .int z, .int (ct_bI o)] (by decide) (Nat.le_of_ble_eq_true rfl) (fun pp ee s m below meth c ls A S hr hlk hP hK hD hA hl => ?_)
  obtain ⟨hx, hb, hml, hown, hts⟩ := id S
  have hl : lv_has ls 5 [(0, .ref (ad 0)), (1, .int x), (2, .int y), (3, .int z), (4, .int (ct_bI o))] := hl
  have hS : va_S A s.heap s.heap [] := va_S.rf
  refine lv_aload_n hx hb d_M_set_0 rfl (lv_at hl 0 rfl) ?_
  refine lv_iload_n hx hb d_M_set_1 rfl (lv_at hl 1 rfl) ?_
  refine w_callR 1 S (c_M_bad l dC dI ad cd g k9 u x) gv_M_M_bad hd_M_bad ⟨(Nat.le_of_ble_eq_true rfl), (Nat.le_of_ble_eq_true rfl)⟩ ⟨rfl, rfl⟩ ⟨Nat.zero_le _, Nat.zero_le _⟩ (m_rc hK hP) hK hP rfl hl.1 rfl (Nat.le_of_ble_eq_true rfl) d_M_set_2 ?_
  refine r_bif_ne (tgt := 24) hx hb d_M_set_5 (by decide) (fun h_5 => ?_) (fun h_5 => ?_)
  · refine lv_iconst (v := (-1)) hx hb d_M_set_24 (by decide) ?_
    exact w_reti hx hb hr hlk hK d_M_set_25 (k9) (⟨by simp [ct_setR, ct_bad3, h_5], by simp [ct_setK, ct_bad3, h_5]⟩) hP hD hS
  · refine lv_aload_n hx hb d_M_set_8 rfl (lv_at hl 0 rfl) ?_
    refine lv_iload_n hx hb d_M_set_9 rfl (lv_at hl 2 rfl) ?_
    refine w_callR 1 S (c_M_bad l dC dI ad cd g k9 u y) gv_M_M_bad hd_M_bad ⟨(Nat.le_of_ble_eq_true rfl), (Nat.le_of_ble_eq_true rfl)⟩ ⟨rfl, rfl⟩ ⟨Nat.zero_le _, Nat.zero_le _⟩ (m_rc hK hP) hK hP rfl hl.1 rfl (Nat.le_of_ble_eq_true rfl) d_M_set_10 ?_
    refine r_bif_ne (tgt := 24) hx hb d_M_set_13 (by decide) (fun h_13 => ?_) (fun h_13 => ?_)
    · refine lv_iconst (v := (-1)) hx hb d_M_set_24 (by decide) ?_
      exact w_reti hx hb hr hlk hK d_M_set_25 (k9) (⟨by simp [ct_setR, ct_bad3, h_5, h_13], by simp [ct_setK, ct_bad3, h_5, h_13]⟩) hP hD hS
    · refine lv_aload_n hx hb d_M_set_16 rfl (lv_at hl 0 rfl) ?_
      refine lv_iload_n hx hb d_M_set_17 rfl (lv_at hl 3 rfl) ?_
      refine w_callR 1 S (c_M_bad l dC dI ad cd g k9 u z) gv_M_M_bad hd_M_bad ⟨(Nat.le_of_ble_eq_true rfl), (Nat.le_of_ble_eq_true rfl)⟩ ⟨rfl, rfl⟩ ⟨Nat.zero_le _, Nat.zero_le _⟩ (m_rc hK hP) hK hP rfl hl.1 rfl (Nat.le_of_ble_eq_true rfl) d_M_set_18 ?_
      refine r_bif_eq (tgt := 26) hx hb d_M_set_21 (by decide) (fun h_21 => ?_) (fun h_21 => ?_)
      · obtain ⟨j1, hj1, rfl⟩ := ct_off_f h_5
        obtain ⟨j2, hj2, rfl⟩ := ct_off_f h_13
        obtain ⟨j3, hj3, rfl⟩ := ct_off_f h_21
        refine lv_aload_n hx hb d_M_set_26 rfl (lv_at hl 0 rfl) ?_
        refine lv_aload_n hx hb d_M_set_27 rfl (lv_at hl 0 rfl) ?_
        refine lv_iload_n hx hb d_M_set_28 rfl (lv_at hl 1 rfl) ?_
        refine lv_iload_n hx hb d_M_set_29 rfl (lv_at hl 2 rfl) ?_
        refine lv_iload_n hx hb d_M_set_30 rfl (lv_at hl 3 rfl) ?_
        refine lv_iload hx hb d_M_set_31 (lv_at hl 4 rfl) ?_
        refine w_callR 4 S (c_M_number l dC dI ad cd g k9 u j1 j2 j3 o) gv_M_M_number hd_M_number ⟨(Nat.le_of_ble_eq_true rfl), (Nat.le_of_ble_eq_true rfl)⟩ ⟨rfl, rfl⟩ ⟨Nat.zero_le _, Nat.zero_le _⟩ (m_rc hK hP) hK hP rfl hl.1 rfl (Nat.le_of_ble_eq_true rfl) d_M_set_33 ?_
        refine mp_at S hK hP hD hS d_M_set_36 (fun H locs hP hD hS => ?_)
        refine lv_iconst (v := nI 0) hx hb d_M_set_39 (by decide) ?_
        exact w_reti hx hb hr hlk hK d_M_set_40 (ct_num j1 j2 j3 o.toNat) (⟨(if_neg (ct_bad3_f h_5 h_13 h_21)).symm, by unfold ct_setK; rw [if_neg (ct_bad3_f h_5 h_13 h_21), ct_p3_n o hj1 hj2 hj3]⟩) hP hD hS
      · refine lv_iconst (v := (-1)) hx hb d_M_set_24 (by decide) ?_
        exact w_reti hx hb hr hlk hK d_M_set_25 (k9) (⟨by simp [ct_setR, ct_bad3, h_5, h_13, h_21], by simp [ct_setK, ct_bad3, h_5, h_13, h_21]⟩) hP hD hS
set_option maxHeartbeats 4000000 in
set_option maxRecDepth 100000 in
/-- play(x) -/
theorem c_M_play (l : Launch) (dC : Nat → ClassId) (dI : Nat → Nat → Nat) (ad : Nat → Nat) (cd : Nat → ClassId) (g : ct_G) (k9 : Nat) (u : ct_U) (hk9 : k9 < 432) (x : Int32) : ∀ sz : Nat, Met l y_M_play (Cond.code y_M_play b_M_play 3 (some .int) :: ct_tbl) ({ frames := 2, cells := 0, slots := 0, locals := 51 }) (va_Pc [.ref (ad 0), .int x] (ct_Pre (dC, dI) (tM cd) (wM ad cd g k9 u) sz)) (ct_Qi (dC, dI) (tM cd) (fun k' : Nat => wM ad cd g k' u) (fun (r : Int32) (k' : Nat) => r = ct_playR g k9 x ∧ k' = ct_playK g k9 x) (va_A (wM ad cd g k9 u) sz)) 0 0 (va_A (wM ad cd g k9 u) sz) := by
  refine w_start (Qk := ct_Qi (dC, dI) (tM cd) (fun k' : Nat => wM ad cd g k' u) (fun (r : Int32) (k' : Nat) => r = ct_playR g k9 x ∧ k' = ct_playK g k9 x)) [.ref (ad 0), .int x] (by decide) (Nat.le_of_ble_eq_true rfl) (fun pp ee s m below meth c ls A S hr hlk hP hK hD hA hl => ?_)
  obtain ⟨hx, hb, hml, hown, hts⟩ := id S
  have hl : lv_has ls 3 [(0, .ref (ad 0)), (1, .int x)] := hl
  have hS : va_S A s.heap s.heap [] := va_S.rf
  have hov := ct_ov_le g k9
  refine lv_aload_n hx hb d_M_play_0 rfl (lv_at hl 0 rfl) ?_
  refine lv_aload_n hx hb d_M_play_1 rfl (lv_at hl 0 rfl) ?_
  refine mg_at S hK hP d_M_play_2 ?_
  refine w_callR 1 S (c_M_over l dC dI ad cd g k9 u k9 (by omega)) gv_M_M_over hd_M_over ⟨(Nat.le_of_ble_eq_true rfl), (Nat.le_of_ble_eq_true rfl)⟩ ⟨rfl, rfl⟩ ⟨Nat.zero_le _, Nat.zero_le _⟩ (m_rc hK hP) hK hP rfl hl.1 rfl (Nat.le_of_ble_eq_true rfl) d_M_play_5 ?_
  refine r_if_eq (tgt := 14) hx hb d_M_play_8 (by decide) (by omega) (fun h_8 => ?_) (fun h_8 => ?_)
  · refine lv_aload_n hx hb d_M_play_14 rfl (lv_at hl 0 rfl) ?_
    refine lv_aload_n hx hb d_M_play_15 rfl (lv_at hl 0 rfl) ?_
    refine mg_at S hK hP d_M_play_16 ?_
    refine lv_iload_n hx hb d_M_play_19 rfl (lv_at hl 1 rfl) ?_
    refine w_callR 2 S (c_M_after l dC dI ad cd g k9 u k9 (by omega) x) gv_M_M_after hd_M_after ⟨(Nat.le_of_ble_eq_true rfl), (Nat.le_of_ble_eq_true rfl)⟩ ⟨rfl, rfl⟩ ⟨Nat.zero_le _, Nat.zero_le _⟩ (m_rc hK hP) hK hP rfl hl.1 rfl (Nat.le_of_ble_eq_true rfl) d_M_play_20 ?_
    refine r_af (fun ho => ?_) (fun q9 ho => ?_)
    · refine lv_istore_n (lv' := [(2, .int (-1)), (0, .ref (ad 0)), (1, .int x)]) hx hb d_M_play_23 rfl hl (by decide) rfl (fun ls hl => ?_)
      refine lv_iload_n hx hb d_M_play_24 rfl (lv_at hl 0 rfl) ?_
      refine r_ifge_m (tgt := 31) hx hb d_M_play_25 (by decide) ?_
      refine lv_bipush (v := (-2)) hx hb d_M_play_28 (by decide) ?_
      exact w_reti hx hb hr hlk hK d_M_play_30 (k9) (⟨by unfold ct_playR; rw [ct_afX_mv h_8, ho], by unfold ct_playK; rw [ct_afX_mv h_8, ho]⟩) hP hD hS
    · obtain ⟨-, -, -, -, hq9⟩ := ct_mvI_some hk9 ho
      refine lv_istore_n (lv' := [(2, .int (nI q9)), (0, .ref (ad 0)), (1, .int x)]) hx hb d_M_play_23 rfl hl (by decide) rfl (fun ls hl => ?_)
      refine lv_iload_n hx hb d_M_play_24 rfl (lv_at hl 0 rfl) ?_
      refine r_ifge_n (tgt := 31) hx hb d_M_play_25 (by decide) (by omega) ?_
      refine lv_aload_n hx hb d_M_play_31 rfl (lv_at hl 1 rfl) ?_
      refine lv_iload_n hx hb d_M_play_32 rfl (lv_at hl 0 rfl) ?_
      refine mp_at S hK hP hD hS d_M_play_33 (fun H locs hP hD hS => ?_)
      refine lv_iconst (v := nI 0) hx hb d_M_play_36 (by decide) ?_
      exact w_reti hx hb hr hlk hK d_M_play_37 (q9) (⟨by unfold ct_playR; rw [ct_afX_mv h_8, ho]; rfl, by unfold ct_playK; rw [ct_afX_mv h_8, ho]⟩) hP hD hS
  · refine lv_bipush (v := (-2)) hx hb d_M_play_11 (by decide) ?_
    exact w_reti hx hb hr hlk hK d_M_play_13 (k9) (⟨by unfold ct_playR; rw [ct_afX_ov h_8], by unfold ct_playK; rw [ct_afX_ov h_8]⟩) hP hD hS
end
section
/-! THE CONSTRUCTORS -/
def ct_g0 (x : Int32) : ct_G := (fun _ _ => false, fun _ => false, decide (x &&& nI 1 ≠ 0), decide (x &&& nI 2 ≠ 0))
def ct_bo0 : ct_Bo := (0, 1, 5, false)
def ct_t0 : ct_T := (false, fun _ => 0, fun _ => 0, fun _ => 0, fun _ => 0, 0)
def ct_u0 : ct_U := (false, fun _ => 0, fun _ => 0)
def fX0 : List Value := [.int 0, .int 0, .null, .null, .int 0, .int 0, .int 0, .int 0, .int 0, .int 0, .null, .null, .null, .null, .int 0]
def fM0 : List Value := [.int 0, .null, .null, .int 0, .int 0, .null, .null]
theorem ct_w3 (x : Int32) : x &&& nI 3 = ct_wI (ct_g0 x) := by
  have h3 : x &&& nI 3 = nI (x.toBitVec.toNat % 2 ^ 2) := pk_and x 2 rfl
  have h1 : x &&& nI 1 = (x &&& nI 3) &&& nI 1 := by rw [Int32.and_assoc]; rfl
  have h2 : x &&& nI 2 = (x &&& nI 3) &&& nI 2 := by rw [Int32.and_assoc]; rfl
  show x &&& nI 3 = nI ((decide (x &&& nI 1 ≠ 0)).toNat + 2 * (decide (x &&& nI 2 ≠ 0)).toNat)
  rw [h1, h2, h3]
  generalize hk : x.toBitVec.toNat % 2 ^ 2 = k
  have hk4 : k < 4 := by rw [← hk]; exact Nat.mod_lt _ (by decide)
  have key : ∀ k, k < 4 → nI k = nI ((decide (nI k &&& nI 1 ≠ 0)).toNat + 2 * (decide (nI k &&& nI 2 ≠ 0)).toNat) := by decide +kernel
  exact key k hk4
set_option maxHeartbeats 4000000 in
set_option maxRecDepth 100000 in
theorem c_X_init (l : Launch) (dC : Nat → ClassId) (dI : Nat → Nat → Nat) (h0 sz : Nat) (x : Int32) : Met l y_X_init (Cond.code y_X_init b_X_init 2 none :: ct_tbl) ({ frames := 1, cells := 6, slots := 1740, locals := 12 }) (va_Pc [.ref h0, .int x] (ct_Pre (dC, dI) [] [(h0, .inr (0, fX0))] sz)) (va_Qv (fun v : (Nat → Nat) × (Nat → ClassId) => v.1 0 = h0) (fun v U => va_P (dC, dI) classes (wX v.1 v.2 (ct_g0 x) ct_bo0 ct_t0) U.heap ∧ va_K (dC, dI) classes (tX v.2) U ∧ va_D (va_A [(h0, .inr (0, fX0))] sz) (wX v.1 v.2 (ct_g0 x) ct_bo0 ct_t0)) (va_A [(h0, .inr (0, fX0))] sz)) 6 1740 (va_A [(h0, .inr (0, fX0))] sz) := by
  refine ct_start [.ref h0, .int x] (by decide) (Nat.le_of_ble_eq_true rfl) (fun pp ee s m below meth c ls S hr hlk hin hB hl => ?_)
  obtain ⟨hsz, hP, hK, hD0⟩ := hB
  subst hsz
  obtain ⟨hx, hb, hml, hown, hts⟩ := id S
  have hD := hD0.self (sz := s.heap.size)
  generalize hAe : va_A [(h0, .inr (0, fX0))] s.heap.size = A at hD ⊢
  have hA : ∀ q : Nat, s.heap.size ≤ q → A q := fun q h => by rw [← hAe]; exact Or.inr h
  have hS : va_S A s.heap s.heap [] := va_S.rf
  have hP : va_P (dC, dI) classes [(h0, .inr (0, [.int 0, .int 0, .null, .null, .int 0, .int 0, .int 0, .int 0, .int 0, .int 0, .null, .null, .null, .null, .int 0]))] s.heap := hP
  have hD : va_D A [(h0, .inr (0, [.int 0, .int 0, .null, .null, .int 0, .int 0, .int 0, .int 0, .int 0, .int 0, .null, .null, .null, .null, .int 0]))] := hD
  have hl : lv_has ls 2 [(0, .ref h0), (1, .int x)] := hl
  refine lv_aload_n hx hb d_X_init_0 rfl (lv_at hl 0 rfl) ?_
  refine W.objInit hx hb hown (hts _ ml_X_obj) (hts _ mn_obj) (hts _ mc_obj) rfl (by rw [hml]; exact hl.1) rfl d_X_init_1 (Nat.le_of_ble_eq_true rfl) (Nat.le_of_ble_eq_true rfl) ?_
  refine W.eq (g2 := F0 m 4 ls []) rfl ?_
  refine lv_aload_n hx hb d_X_init_4 rfl (lv_at hl 0 rfl) ?_
  refine lv_bipush (v := nI 6) hx hb d_X_init_5 (by decide) ?_
  refine va_newa (a0 := (6, .inl (fun _ => 0))) (N' := 6) (ty := .int) hx hb (hts _ ma_int) rfl hK hP hD hS hA (fun _ => rfl) (by decide) (by decide) (by decide) (Nat.le_of_ble_eq_true rfl) (Nat.le_of_ble_eq_true rfl) d_X_init_7 (fun q1 c1 H hK hP hD hS => ?_)
  refine W.widen (k := 1) (n := 6) (by omega) (by omega) ?_
  have hK : va_K (dC, dI) classes [(c1, .int)] s := hK
  have hP : va_P (dC, dI) classes [(h0, .inr (0, [.int 0, .int 0, .null, .null, .int 0, .int 0, .int 0, .int 0, .int 0, .int 0, .null, .null, .null, .null, .int 0])), (q1, .inl (c1, 6, .inl (fun _ => 0)))] H := hP
  have hD : va_D A [(h0, .inr (0, [.int 0, .int 0, .null, .null, .int 0, .int 0, .int 0, .int 0, .int 0, .int 0, .null, .null, .null, .null, .int 0])), (q1, .inl (c1, 6, .inl (fun _ => 0)))] := hD
  refine va_putF (D := (dC, dI)) (ci := 0) (v := .ref q1) (ty := .array .int) (C := R_X) (T := F_X) (N := 15) hx hb hts i_X t_X t_X_ok n_X hown hK hP hD hS 0 rfl rfl 2 (by decide) (hts _ mf_X2) (fun _ h9 => h9) rfl hin rfl (by decide +kernel) rfl rfl (Nat.le_of_ble_eq_true rfl) d_X_init_9 (fun H locs hP hD hS => ?_)
  have hP : va_P (dC, dI) classes [(h0, .inr (0, [.int 0, .int 0, .ref q1, .null, .int 0, .int 0, .int 0, .int 0, .int 0, .int 0, .null, .null, .null, .null, .int 0])), (q1, .inl (c1, 6, .inl (fun _ => 0)))] H := hP
  have hD : va_D A [(h0, .inr (0, [.int 0, .int 0, .ref q1, .null, .int 0, .int 0, .int 0, .int 0, .int 0, .int 0, .null, .null, .null, .null, .int 0])), (q1, .inl (c1, 6, .inl (fun _ => 0)))] := hD
  refine lv_aload_n hx hb d_X_init_12 rfl (lv_at hl 0 rfl) ?_
  refine lv_bipush (v := nI 6) hx hb d_X_init_13 (by decide) ?_
  refine va_newa (a0 := (6, .inl (fun _ => 0))) (N' := 6) (ty := .int) hx hb (hts _ ma_int) rfl hK hP hD hS hA (fun _ => rfl) (by decide) (by decide) (by decide) (Nat.le_of_ble_eq_true rfl) (Nat.le_of_ble_eq_true rfl) d_X_init_15 (fun q2 c2 H hK hP hD hS => ?_)
  refine W.widen (k := 2) (n := 12) (by omega) (by omega) ?_
  have hK : va_K (dC, dI) classes [(c1, .int), (c2, .int)] s := hK
  have hP : va_P (dC, dI) classes [(h0, .inr (0, [.int 0, .int 0, .ref q1, .null, .int 0, .int 0, .int 0, .int 0, .int 0, .int 0, .null, .null, .null, .null, .int 0])), (q1, .inl (c1, 6, .inl (fun _ => 0))), (q2, .inl (c2, 6, .inl (fun _ => 0)))] H := hP
  have hD : va_D A [(h0, .inr (0, [.int 0, .int 0, .ref q1, .null, .int 0, .int 0, .int 0, .int 0, .int 0, .int 0, .null, .null, .null, .null, .int 0])), (q1, .inl (c1, 6, .inl (fun _ => 0))), (q2, .inl (c2, 6, .inl (fun _ => 0)))] := hD
  refine va_putF (D := (dC, dI)) (ci := 0) (v := .ref q2) (ty := .array .int) (C := R_X) (T := F_X) (N := 15) hx hb hts i_X t_X t_X_ok n_X hown hK hP hD hS 0 rfl rfl 3 (by decide) (hts _ mf_X3) (fun _ h9 => h9) rfl hin rfl (by decide +kernel) rfl rfl (Nat.le_of_ble_eq_true rfl) d_X_init_17 (fun H locs hP hD hS => ?_)
  have hP : va_P (dC, dI) classes [(h0, .inr (0, [.int 0, .int 0, .ref q1, .ref q2, .int 0, .int 0, .int 0, .int 0, .int 0, .int 0, .null, .null, .null, .null, .int 0])), (q1, .inl (c1, 6, .inl (fun _ => 0))), (q2, .inl (c2, 6, .inl (fun _ => 0)))] H := hP
  have hD : va_D A [(h0, .inr (0, [.int 0, .int 0, .ref q1, .ref q2, .int 0, .int 0, .int 0, .int 0, .int 0, .int 0, .null, .null, .null, .null, .int 0])), (q1, .inl (c1, 6, .inl (fun _ => 0))), (q2, .inl (c2, 6, .inl (fun _ => 0)))] := hD
  refine lv_aload_n hx hb d_X_init_20 rfl (lv_at hl 0 rfl) ?_
  refine lv_sipush (v := nI 432) hx hb d_X_init_21 (by decide) ?_
  refine va_newa (a0 := (432, .inl (fun _ => 0))) (N' := 432) (ty := .byte) hx hb (hts _ ma_byte) rfl hK hP hD hS hA (fun _ => rfl) (by decide) (by decide) (by decide) (Nat.le_of_ble_eq_true rfl) (Nat.le_of_ble_eq_true rfl) d_X_init_24 (fun q3 c3 H hK hP hD hS => ?_)
  refine W.widen (k := 3) (n := 444) (by omega) (by omega) ?_
  have hK : va_K (dC, dI) classes [(c1, .int), (c2, .int), (c3, .byte)] s := hK
  have hP : va_P (dC, dI) classes [(h0, .inr (0, [.int 0, .int 0, .ref q1, .ref q2, .int 0, .int 0, .int 0, .int 0, .int 0, .int 0, .null, .null, .null, .null, .int 0])), (q1, .inl (c1, 6, .inl (fun _ => 0))), (q2, .inl (c2, 6, .inl (fun _ => 0))), (q3, .inl (c3, 432, .inl (fun _ => 0)))] H := hP
  have hD : va_D A [(h0, .inr (0, [.int 0, .int 0, .ref q1, .ref q2, .int 0, .int 0, .int 0, .int 0, .int 0, .int 0, .null, .null, .null, .null, .int 0])), (q1, .inl (c1, 6, .inl (fun _ => 0))), (q2, .inl (c2, 6, .inl (fun _ => 0))), (q3, .inl (c3, 432, .inl (fun _ => 0)))] := hD
  refine va_putF (D := (dC, dI)) (ci := 0) (v := .ref q3) (ty := .array .byte) (C := R_X) (T := F_X) (N := 15) hx hb hts i_X t_X t_X_ok n_X hown hK hP hD hS 0 rfl rfl 10 (by decide) (hts _ mf_X10) (fun _ h9 => h9) rfl hin rfl (by decide +kernel) rfl rfl (Nat.le_of_ble_eq_true rfl) d_X_init_26 (fun H locs hP hD hS => ?_)
  have hP : va_P (dC, dI) classes [(h0, .inr (0, [.int 0, .int 0, .ref q1, .ref q2, .int 0, .int 0, .int 0, .int 0, .int 0, .int 0, .ref q3, .null, .null, .null, .int 0])), (q1, .inl (c1, 6, .inl (fun _ => 0))), (q2, .inl (c2, 6, .inl (fun _ => 0))), (q3, .inl (c3, 432, .inl (fun _ => 0)))] H := hP
  have hD : va_D A [(h0, .inr (0, [.int 0, .int 0, .ref q1, .ref q2, .int 0, .int 0, .int 0, .int 0, .int 0, .int 0, .ref q3, .null, .null, .null, .int 0])), (q1, .inl (c1, 6, .inl (fun _ => 0))), (q2, .inl (c2, 6, .inl (fun _ => 0))), (q3, .inl (c3, 432, .inl (fun _ => 0)))] := hD
  refine lv_aload_n hx hb d_X_init_29 rfl (lv_at hl 0 rfl) ?_
  refine lv_sipush (v := nI 432) hx hb d_X_init_30 (by decide) ?_
  refine va_newa (a0 := (432, .inl (fun _ => 0))) (N' := 432) (ty := .short) hx hb (hts _ ma_short) rfl hK hP hD hS hA (fun _ => rfl) (by decide) (by decide) (by decide) (Nat.le_of_ble_eq_true rfl) (Nat.le_of_ble_eq_true rfl) d_X_init_33 (fun q4 c4 H hK hP hD hS => ?_)
  refine W.widen (k := 4) (n := 876) (by omega) (by omega) ?_
  have hK : va_K (dC, dI) classes [(c1, .int), (c2, .int), (c3, .byte), (c4, .short)] s := hK
  have hP : va_P (dC, dI) classes [(h0, .inr (0, [.int 0, .int 0, .ref q1, .ref q2, .int 0, .int 0, .int 0, .int 0, .int 0, .int 0, .ref q3, .null, .null, .null, .int 0])), (q1, .inl (c1, 6, .inl (fun _ => 0))), (q2, .inl (c2, 6, .inl (fun _ => 0))), (q3, .inl (c3, 432, .inl (fun _ => 0))), (q4, .inl (c4, 432, .inl (fun _ => 0)))] H := hP
  have hD : va_D A [(h0, .inr (0, [.int 0, .int 0, .ref q1, .ref q2, .int 0, .int 0, .int 0, .int 0, .int 0, .int 0, .ref q3, .null, .null, .null, .int 0])), (q1, .inl (c1, 6, .inl (fun _ => 0))), (q2, .inl (c2, 6, .inl (fun _ => 0))), (q3, .inl (c3, 432, .inl (fun _ => 0))), (q4, .inl (c4, 432, .inl (fun _ => 0)))] := hD
  refine va_putF (D := (dC, dI)) (ci := 0) (v := .ref q4) (ty := .array .short) (C := R_X) (T := F_X) (N := 15) hx hb hts i_X t_X t_X_ok n_X hown hK hP hD hS 0 rfl rfl 11 (by decide) (hts _ mf_X11) (fun _ h9 => h9) rfl hin rfl (by decide +kernel) rfl rfl (Nat.le_of_ble_eq_true rfl) d_X_init_35 (fun H locs hP hD hS => ?_)
  have hP : va_P (dC, dI) classes [(h0, .inr (0, [.int 0, .int 0, .ref q1, .ref q2, .int 0, .int 0, .int 0, .int 0, .int 0, .int 0, .ref q3, .ref q4, .null, .null, .int 0])), (q1, .inl (c1, 6, .inl (fun _ => 0))), (q2, .inl (c2, 6, .inl (fun _ => 0))), (q3, .inl (c3, 432, .inl (fun _ => 0))), (q4, .inl (c4, 432, .inl (fun _ => 0)))] H := hP
  have hD : va_D A [(h0, .inr (0, [.int 0, .int 0, .ref q1, .ref q2, .int 0, .int 0, .int 0, .int 0, .int 0, .int 0, .ref q3, .ref q4, .null, .null, .int 0])), (q1, .inl (c1, 6, .inl (fun _ => 0))), (q2, .inl (c2, 6, .inl (fun _ => 0))), (q3, .inl (c3, 432, .inl (fun _ => 0))), (q4, .inl (c4, 432, .inl (fun _ => 0)))] := hD
  refine lv_aload_n hx hb d_X_init_38 rfl (lv_at hl 0 rfl) ?_
  refine lv_sipush (v := nI 432) hx hb d_X_init_39 (by decide) ?_
  refine va_newa (a0 := (432, .inl (fun _ => 0))) (N' := 432) (ty := .byte) hx hb (hts _ ma_byte) rfl hK hP hD hS hA (fun _ => rfl) (by decide) (by decide) (by decide) (Nat.le_of_ble_eq_true rfl) (Nat.le_of_ble_eq_true rfl) d_X_init_42 (fun q5 c5 H hK hP hD hS => ?_)
  refine W.widen (k := 5) (n := 1308) (by omega) (by omega) ?_
  have hK : va_K (dC, dI) classes [(c1, .int), (c2, .int), (c3, .byte), (c4, .short), (c5, .byte)] s := hK
  have hP : va_P (dC, dI) classes [(h0, .inr (0, [.int 0, .int 0, .ref q1, .ref q2, .int 0, .int 0, .int 0, .int 0, .int 0, .int 0, .ref q3, .ref q4, .null, .null, .int 0])), (q1, .inl (c1, 6, .inl (fun _ => 0))), (q2, .inl (c2, 6, .inl (fun _ => 0))), (q3, .inl (c3, 432, .inl (fun _ => 0))), (q4, .inl (c4, 432, .inl (fun _ => 0))), (q5, .inl (c5, 432, .inl (fun _ => 0)))] H := hP
  have hD : va_D A [(h0, .inr (0, [.int 0, .int 0, .ref q1, .ref q2, .int 0, .int 0, .int 0, .int 0, .int 0, .int 0, .ref q3, .ref q4, .null, .null, .int 0])), (q1, .inl (c1, 6, .inl (fun _ => 0))), (q2, .inl (c2, 6, .inl (fun _ => 0))), (q3, .inl (c3, 432, .inl (fun _ => 0))), (q4, .inl (c4, 432, .inl (fun _ => 0))), (q5, .inl (c5, 432, .inl (fun _ => 0)))] := hD
  refine va_putF (D := (dC, dI)) (ci := 0) (v := .ref q5) (ty := .array .byte) (C := R_X) (T := F_X) (N := 15) hx hb hts i_X t_X t_X_ok n_X hown hK hP hD hS 0 rfl rfl 12 (by decide) (hts _ mf_X12) (fun _ h9 => h9) rfl hin rfl (by decide +kernel) rfl rfl (Nat.le_of_ble_eq_true rfl) d_X_init_44 (fun H locs hP hD hS => ?_)
  have hP : va_P (dC, dI) classes [(h0, .inr (0, [.int 0, .int 0, .ref q1, .ref q2, .int 0, .int 0, .int 0, .int 0, .int 0, .int 0, .ref q3, .ref q4, .ref q5, .null, .int 0])), (q1, .inl (c1, 6, .inl (fun _ => 0))), (q2, .inl (c2, 6, .inl (fun _ => 0))), (q3, .inl (c3, 432, .inl (fun _ => 0))), (q4, .inl (c4, 432, .inl (fun _ => 0))), (q5, .inl (c5, 432, .inl (fun _ => 0)))] H := hP
  have hD : va_D A [(h0, .inr (0, [.int 0, .int 0, .ref q1, .ref q2, .int 0, .int 0, .int 0, .int 0, .int 0, .int 0, .ref q3, .ref q4, .ref q5, .null, .int 0])), (q1, .inl (c1, 6, .inl (fun _ => 0))), (q2, .inl (c2, 6, .inl (fun _ => 0))), (q3, .inl (c3, 432, .inl (fun _ => 0))), (q4, .inl (c4, 432, .inl (fun _ => 0))), (q5, .inl (c5, 432, .inl (fun _ => 0)))] := hD
  refine lv_aload_n hx hb d_X_init_47 rfl (lv_at hl 0 rfl) ?_
  refine lv_sipush (v := nI 432) hx hb d_X_init_48 (by decide) ?_
  refine va_newa (a0 := (432, .inl (fun _ => 0))) (N' := 432) (ty := .short) hx hb (hts _ ma_short) rfl hK hP hD hS hA (fun _ => rfl) (by decide) (by decide) (by decide) (Nat.le_of_ble_eq_true rfl) (Nat.le_of_ble_eq_true rfl) d_X_init_51 (fun q6 c6 H hK hP hD hS => ?_)
  refine W.widen (k := 6) (n := 1740) (by omega) (by omega) ?_
  have hK : va_K (dC, dI) classes [(c1, .int), (c2, .int), (c3, .byte), (c4, .short), (c5, .byte), (c6, .short)] s := hK
  have hP : va_P (dC, dI) classes [(h0, .inr (0, [.int 0, .int 0, .ref q1, .ref q2, .int 0, .int 0, .int 0, .int 0, .int 0, .int 0, .ref q3, .ref q4, .ref q5, .null, .int 0])), (q1, .inl (c1, 6, .inl (fun _ => 0))), (q2, .inl (c2, 6, .inl (fun _ => 0))), (q3, .inl (c3, 432, .inl (fun _ => 0))), (q4, .inl (c4, 432, .inl (fun _ => 0))), (q5, .inl (c5, 432, .inl (fun _ => 0))), (q6, .inl (c6, 432, .inl (fun _ => 0)))] H := hP
  have hD : va_D A [(h0, .inr (0, [.int 0, .int 0, .ref q1, .ref q2, .int 0, .int 0, .int 0, .int 0, .int 0, .int 0, .ref q3, .ref q4, .ref q5, .null, .int 0])), (q1, .inl (c1, 6, .inl (fun _ => 0))), (q2, .inl (c2, 6, .inl (fun _ => 0))), (q3, .inl (c3, 432, .inl (fun _ => 0))), (q4, .inl (c4, 432, .inl (fun _ => 0))), (q5, .inl (c5, 432, .inl (fun _ => 0))), (q6, .inl (c6, 432, .inl (fun _ => 0)))] := hD
  refine va_putF (D := (dC, dI)) (ci := 0) (v := .ref q6) (ty := .array .short) (C := R_X) (T := F_X) (N := 15) hx hb hts i_X t_X t_X_ok n_X hown hK hP hD hS 0 rfl rfl 13 (by decide) (hts _ mf_X13) (fun _ h9 => h9) rfl hin rfl (by decide +kernel) rfl rfl (Nat.le_of_ble_eq_true rfl) d_X_init_53 (fun H locs hP hD hS => ?_)
  have hP : va_P (dC, dI) classes [(h0, .inr (0, [.int 0, .int 0, .ref q1, .ref q2, .int 0, .int 0, .int 0, .int 0, .int 0, .int 0, .ref q3, .ref q4, .ref q5, .ref q6, .int 0])), (q1, .inl (c1, 6, .inl (fun _ => 0))), (q2, .inl (c2, 6, .inl (fun _ => 0))), (q3, .inl (c3, 432, .inl (fun _ => 0))), (q4, .inl (c4, 432, .inl (fun _ => 0))), (q5, .inl (c5, 432, .inl (fun _ => 0))), (q6, .inl (c6, 432, .inl (fun _ => 0)))] H := hP
  have hD : va_D A [(h0, .inr (0, [.int 0, .int 0, .ref q1, .ref q2, .int 0, .int 0, .int 0, .int 0, .int 0, .int 0, .ref q3, .ref q4, .ref q5, .ref q6, .int 0])), (q1, .inl (c1, 6, .inl (fun _ => 0))), (q2, .inl (c2, 6, .inl (fun _ => 0))), (q3, .inl (c3, 432, .inl (fun _ => 0))), (q4, .inl (c4, 432, .inl (fun _ => 0))), (q5, .inl (c5, 432, .inl (fun _ => 0))), (q6, .inl (c6, 432, .inl (fun _ => 0)))] := hD
  refine lv_aload_n hx hb d_X_init_56 rfl (lv_at hl 0 rfl) ?_
  refine lv_iload_n hx hb d_X_init_57 rfl (lv_at hl 1 rfl) ?_
  refine lv_iconst (v := nI 1) hx hb d_X_init_58 (by decide) ?_
  refine lv_iand hx hb d_X_init_59 ?_
  refine r_nz (q4 := 68) hx hb d_X_init_60 d_X_init_63 d_X_init_64 d_X_init_67 rfl rfl rfl rfl ?_
  refine va_putF (D := (dC, dI)) (ci := 0) (v := .int (ct_bI (decide (x &&& nI 1 ≠ 0)))) (ty := .boolean) (C := R_X) (T := F_X) (N := 15) hx hb hts i_X t_X t_X_ok n_X hown hK hP hD hS 0 rfl rfl 0 (by decide) (hts _ mf_X0) (fun _ h9 => h9) rfl hin rfl (by decide +kernel) (ct_nzv _) (ct_fz _) (Nat.le_of_ble_eq_true rfl) d_X_init_68 (fun H locs hP hD hS => ?_)
  have hP : va_P (dC, dI) classes [(h0, .inr (0, [.int (ct_bI (decide (x &&& nI 1 ≠ 0))), .int 0, .ref q1, .ref q2, .int 0, .int 0, .int 0, .int 0, .int 0, .int 0, .ref q3, .ref q4, .ref q5, .ref q6, .int 0])), (q1, .inl (c1, 6, .inl (fun _ => 0))), (q2, .inl (c2, 6, .inl (fun _ => 0))), (q3, .inl (c3, 432, .inl (fun _ => 0))), (q4, .inl (c4, 432, .inl (fun _ => 0))), (q5, .inl (c5, 432, .inl (fun _ => 0))), (q6, .inl (c6, 432, .inl (fun _ => 0)))] H := hP
  have hD : va_D A [(h0, .inr (0, [.int (ct_bI (decide (x &&& nI 1 ≠ 0))), .int 0, .ref q1, .ref q2, .int 0, .int 0, .int 0, .int 0, .int 0, .int 0, .ref q3, .ref q4, .ref q5, .ref q6, .int 0])), (q1, .inl (c1, 6, .inl (fun _ => 0))), (q2, .inl (c2, 6, .inl (fun _ => 0))), (q3, .inl (c3, 432, .inl (fun _ => 0))), (q4, .inl (c4, 432, .inl (fun _ => 0))), (q5, .inl (c5, 432, .inl (fun _ => 0))), (q6, .inl (c6, 432, .inl (fun _ => 0)))] := hD
  refine lv_aload_n hx hb d_X_init_71 rfl (lv_at hl 0 rfl) ?_
  refine lv_iload_n hx hb d_X_init_72 rfl (lv_at hl 1 rfl) ?_
  refine lv_iconst (v := nI 2) hx hb d_X_init_73 (by decide) ?_
  refine lv_iand hx hb d_X_init_74 ?_
  refine r_nz (q4 := 83) hx hb d_X_init_75 d_X_init_78 d_X_init_79 d_X_init_82 rfl rfl rfl rfl ?_
  refine va_putF (D := (dC, dI)) (ci := 0) (v := .int (ct_bI (decide (x &&& nI 2 ≠ 0)))) (ty := .boolean) (C := R_X) (T := F_X) (N := 15) hx hb hts i_X t_X t_X_ok n_X hown hK hP hD hS 0 rfl rfl 1 (by decide) (hts _ mf_X1) (fun _ h9 => h9) rfl hin rfl (by decide +kernel) (ct_nzv _) (ct_fz _) (Nat.le_of_ble_eq_true rfl) d_X_init_83 (fun H locs hP hD hS => ?_)
  have hP : va_P (dC, dI) classes [(h0, .inr (0, [.int (ct_bI (decide (x &&& nI 1 ≠ 0))), .int (ct_bI (decide (x &&& nI 2 ≠ 0))), .ref q1, .ref q2, .int 0, .int 0, .int 0, .int 0, .int 0, .int 0, .ref q3, .ref q4, .ref q5, .ref q6, .int 0])), (q1, .inl (c1, 6, .inl (fun _ => 0))), (q2, .inl (c2, 6, .inl (fun _ => 0))), (q3, .inl (c3, 432, .inl (fun _ => 0))), (q4, .inl (c4, 432, .inl (fun _ => 0))), (q5, .inl (c5, 432, .inl (fun _ => 0))), (q6, .inl (c6, 432, .inl (fun _ => 0)))] H := hP
  have hD : va_D A [(h0, .inr (0, [.int (ct_bI (decide (x &&& nI 1 ≠ 0))), .int (ct_bI (decide (x &&& nI 2 ≠ 0))), .ref q1, .ref q2, .int 0, .int 0, .int 0, .int 0, .int 0, .int 0, .ref q3, .ref q4, .ref q5, .ref q6, .int 0])), (q1, .inl (c1, 6, .inl (fun _ => 0))), (q2, .inl (c2, 6, .inl (fun _ => 0))), (q3, .inl (c3, 432, .inl (fun _ => 0))), (q4, .inl (c4, 432, .inl (fun _ => 0))), (q5, .inl (c5, 432, .inl (fun _ => 0))), (q6, .inl (c6, 432, .inl (fun _ => 0)))] := hD
  refine lv_aload_n hx hb d_X_init_86 rfl (lv_at hl 0 rfl) ?_
  refine lv_iconst (v := nI 1) hx hb d_X_init_87 (by decide) ?_
  refine va_put (D := (dC, dI)) (ci := 0) (v := .int (nI 1)) (ty := .int) (C := R_X) (T := F_X) (N := 15) hx hb hts i_X t_X t_X_ok n_X hown hK hP hD hS 0 rfl rfl 6 (by decide) (hts _ mf_X6) (fun _ h9 => h9) rfl (by decide +kernel) rfl rfl (Nat.le_of_ble_eq_true rfl) d_X_init_88 (fun H locs hP hD hS => ?_)
  have hP : va_P (dC, dI) classes [(h0, .inr (0, [.int (ct_bI (decide (x &&& nI 1 ≠ 0))), .int (ct_bI (decide (x &&& nI 2 ≠ 0))), .ref q1, .ref q2, .int 0, .int 0, .int (nI 1), .int 0, .int 0, .int 0, .ref q3, .ref q4, .ref q5, .ref q6, .int 0])), (q1, .inl (c1, 6, .inl (fun _ => 0))), (q2, .inl (c2, 6, .inl (fun _ => 0))), (q3, .inl (c3, 432, .inl (fun _ => 0))), (q4, .inl (c4, 432, .inl (fun _ => 0))), (q5, .inl (c5, 432, .inl (fun _ => 0))), (q6, .inl (c6, 432, .inl (fun _ => 0)))] H := hP
  have hD : va_D A [(h0, .inr (0, [.int (ct_bI (decide (x &&& nI 1 ≠ 0))), .int (ct_bI (decide (x &&& nI 2 ≠ 0))), .ref q1, .ref q2, .int 0, .int 0, .int (nI 1), .int 0, .int 0, .int 0, .ref q3, .ref q4, .ref q5, .ref q6, .int 0])), (q1, .inl (c1, 6, .inl (fun _ => 0))), (q2, .inl (c2, 6, .inl (fun _ => 0))), (q3, .inl (c3, 432, .inl (fun _ => 0))), (q4, .inl (c4, 432, .inl (fun _ => 0))), (q5, .inl (c5, 432, .inl (fun _ => 0))), (q6, .inl (c6, 432, .inl (fun _ => 0)))] := hD
  refine lv_aload_n hx hb d_X_init_91 rfl (lv_at hl 0 rfl) ?_
  refine lv_iconst (v := nI 5) hx hb d_X_init_92 (by decide) ?_
  refine va_put (D := (dC, dI)) (ci := 0) (v := .int (nI 5)) (ty := .int) (C := R_X) (T := F_X) (N := 15) hx hb hts i_X t_X t_X_ok n_X hown hK hP hD hS 0 rfl rfl 7 (by decide) (hts _ mf_X7) (fun _ h9 => h9) rfl (by decide +kernel) rfl rfl (Nat.le_of_ble_eq_true rfl) d_X_init_93 (fun H locs hP hD hS => ?_)
  have hP : va_P (dC, dI) classes [(h0, .inr (0, [.int (ct_bI (decide (x &&& nI 1 ≠ 0))), .int (ct_bI (decide (x &&& nI 2 ≠ 0))), .ref q1, .ref q2, .int 0, .int 0, .int (nI 1), .int (nI 5), .int 0, .int 0, .ref q3, .ref q4, .ref q5, .ref q6, .int 0])), (q1, .inl (c1, 6, .inl (fun _ => 0))), (q2, .inl (c2, 6, .inl (fun _ => 0))), (q3, .inl (c3, 432, .inl (fun _ => 0))), (q4, .inl (c4, 432, .inl (fun _ => 0))), (q5, .inl (c5, 432, .inl (fun _ => 0))), (q6, .inl (c6, 432, .inl (fun _ => 0)))] H := hP
  have hD : va_D A [(h0, .inr (0, [.int (ct_bI (decide (x &&& nI 1 ≠ 0))), .int (ct_bI (decide (x &&& nI 2 ≠ 0))), .ref q1, .ref q2, .int 0, .int 0, .int (nI 1), .int (nI 5), .int 0, .int 0, .ref q3, .ref q4, .ref q5, .ref q6, .int 0])), (q1, .inl (c1, 6, .inl (fun _ => 0))), (q2, .inl (c2, 6, .inl (fun _ => 0))), (q3, .inl (c3, 432, .inl (fun _ => 0))), (q4, .inl (c4, 432, .inl (fun _ => 0))), (q5, .inl (c5, 432, .inl (fun _ => 0))), (q6, .inl (c6, 432, .inl (fun _ => 0)))] := hD
  obtain ⟨ad, had⟩ : ∃ ad : Nat → Nat, ad = fun k => [h0, q1, q2, q3, q4, q5, q6].getD k 0 := ⟨_, rfl⟩
  obtain ⟨cd, hcd⟩ : ∃ cd : Nat → ClassId, cd = fun k => [c1, c1, c2, c3, c4, c5, c6].getD k c1 := ⟨_, rfl⟩
  have hP : va_P (dC, dI) classes (wX ad cd (ct_g0 x) ct_bo0 ct_t0) H := by subst had; subst hcd; exact hP
  have hD : va_D A (wX ad cd (ct_g0 x) ct_bo0 ct_t0) := by subst had; subst hcd; exact hD
  have hK : va_K (dC, dI) classes (tX cd) s := by subst hcd; exact hK
  have h9 : ad 0 = h0 := by subst had; rfl
  exact W.vret hx hb hr (fun t ht hW => ⟨⟨(ad, cd), rfl, h9, by rw [ht]; exact hP, va_K.moved hW.alike hK, hD⟩, hS.F ht⟩) hS.2.2 d_X_init_96 (hlocks := hlk)
set_option maxHeartbeats 4000000 in
set_option maxRecDepth 100000 in
theorem c_M_init (l : Launch) (dC : Nat → ClassId) (dI : Nat → Nat → Nat) (h0 sz : Nat) (x : Int32) : Met l y_M_init (Cond.code y_M_init b_M_init 2 none :: ct_tbl) ({ frames := 1, cells := 4, slots := 906, locals := 24 }) (va_Pc [.ref h0, .int x] (ct_Pre (dC, dI) [] [(h0, .inr (1, fM0))] sz)) (va_Qv (fun v : (Nat → Nat) × (Nat → ClassId) => v.1 0 = h0) (fun v U => va_P (dC, dI) classes (wM v.1 v.2 (ct_g0 x) (ct_num 0 1 5 0) ct_u0) U.heap ∧ va_K (dC, dI) classes (tM v.2) U ∧ va_D (va_A [(h0, .inr (1, fM0))] sz) (wM v.1 v.2 (ct_g0 x) (ct_num 0 1 5 0) ct_u0)) (va_A [(h0, .inr (1, fM0))] sz)) 4 906 (va_A [(h0, .inr (1, fM0))] sz) := by
  refine ct_start [.ref h0, .int x] (by decide) (Nat.le_of_ble_eq_true rfl) (fun pp ee s m below meth c ls S hr hlk hin hB hl => ?_)
  obtain ⟨hsz, hP, hK, hD0⟩ := hB
  subst hsz
  obtain ⟨hx, hb, hml, hown, hts⟩ := id S
  have hD := hD0.self (sz := s.heap.size)
  generalize hAe : va_A [(h0, .inr (1, fM0))] s.heap.size = A at hD ⊢
  have hA : ∀ q : Nat, s.heap.size ≤ q → A q := fun q h => by rw [← hAe]; exact Or.inr h
  have hS : va_S A s.heap s.heap [] := va_S.rf
  have hP : va_P (dC, dI) classes [(h0, .inr (1, [.int 0, .null, .null, .int 0, .int 0, .null, .null]))] s.heap := hP
  have hD : va_D A [(h0, .inr (1, [.int 0, .null, .null, .int 0, .int 0, .null, .null]))] := hD
  have hl : lv_has ls 2 [(0, .ref h0), (1, .int x)] := hl
  refine lv_aload_n hx hb d_M_init_0 rfl (lv_at hl 0 rfl) ?_
  refine W.objInit hx hb hown (hts _ ml_M_obj) (hts _ mn_obj) (hts _ mc_obj) rfl (by rw [hml]; exact hl.1) rfl d_M_init_1 (Nat.le_of_ble_eq_true rfl) (Nat.le_of_ble_eq_true rfl) ?_
  refine W.eq (g2 := F0 m 4 ls []) rfl ?_
  refine lv_aload_n hx hb d_M_init_4 rfl (lv_at hl 0 rfl) ?_
  refine lv_bipush (v := nI 36) hx hb d_M_init_5 (by decide) ?_
  refine va_newa (a0 := (36, .inl (fun _ => 0))) (N' := 36) (ty := .boolean) hx hb (hts _ ma_boolean) rfl hK hP hD hS hA (fun _ => rfl) (by decide) (by decide) (by decide) (Nat.le_of_ble_eq_true rfl) (Nat.le_of_ble_eq_true rfl) d_M_init_7 (fun q1 c1 H hK hP hD hS => ?_)
  refine W.widen (k := 1) (n := 36) (by omega) (by omega) ?_
  have hK : va_K (dC, dI) classes [(c1, .boolean)] s := hK
  have hP : va_P (dC, dI) classes [(h0, .inr (1, [.int 0, .null, .null, .int 0, .int 0, .null, .null])), (q1, .inl (c1, 36, .inl (fun _ => 0)))] H := hP
  have hD : va_D A [(h0, .inr (1, [.int 0, .null, .null, .int 0, .int 0, .null, .null])), (q1, .inl (c1, 36, .inl (fun _ => 0)))] := hD
  refine va_putF (D := (dC, dI)) (ci := 1) (v := .ref q1) (ty := .array .boolean) (C := R_M) (T := F_M) (N := 7) hx hb hts i_M t_M t_M_ok n_M hown hK hP hD hS 0 rfl rfl 1 (by decide) (hts _ mf_M1) (fun _ h9 => h9) rfl hin rfl (by decide +kernel) rfl rfl (Nat.le_of_ble_eq_true rfl) d_M_init_9 (fun H locs hP hD hS => ?_)
  have hP : va_P (dC, dI) classes [(h0, .inr (1, [.int 0, .ref q1, .null, .int 0, .int 0, .null, .null])), (q1, .inl (c1, 36, .inl (fun _ => 0)))] H := hP
  have hD : va_D A [(h0, .inr (1, [.int 0, .ref q1, .null, .int 0, .int 0, .null, .null])), (q1, .inl (c1, 36, .inl (fun _ => 0)))] := hD
  refine lv_aload_n hx hb d_M_init_12 rfl (lv_at hl 0 rfl) ?_
  refine lv_bipush (v := nI 6) hx hb d_M_init_13 (by decide) ?_
  refine va_newa (a0 := (6, .inl (fun _ => 0))) (N' := 6) (ty := .boolean) hx hb (hts _ ma_boolean) rfl hK hP hD hS hA (fun _ => rfl) (by decide) (by decide) (by decide) (Nat.le_of_ble_eq_true rfl) (Nat.le_of_ble_eq_true rfl) d_M_init_15 (fun q2 c2 H hK hP hD hS => ?_)
  refine W.widen (k := 2) (n := 42) (by omega) (by omega) ?_
  have hK : va_K (dC, dI) classes [(c1, .boolean), (c2, .boolean)] s := hK
  have hP : va_P (dC, dI) classes [(h0, .inr (1, [.int 0, .ref q1, .null, .int 0, .int 0, .null, .null])), (q1, .inl (c1, 36, .inl (fun _ => 0))), (q2, .inl (c2, 6, .inl (fun _ => 0)))] H := hP
  have hD : va_D A [(h0, .inr (1, [.int 0, .ref q1, .null, .int 0, .int 0, .null, .null])), (q1, .inl (c1, 36, .inl (fun _ => 0))), (q2, .inl (c2, 6, .inl (fun _ => 0)))] := hD
  refine va_putF (D := (dC, dI)) (ci := 1) (v := .ref q2) (ty := .array .boolean) (C := R_M) (T := F_M) (N := 7) hx hb hts i_M t_M t_M_ok n_M hown hK hP hD hS 0 rfl rfl 2 (by decide) (hts _ mf_M2) (fun _ h9 => h9) rfl hin rfl (by decide +kernel) rfl rfl (Nat.le_of_ble_eq_true rfl) d_M_init_17 (fun H locs hP hD hS => ?_)
  have hP : va_P (dC, dI) classes [(h0, .inr (1, [.int 0, .ref q1, .ref q2, .int 0, .int 0, .null, .null])), (q1, .inl (c1, 36, .inl (fun _ => 0))), (q2, .inl (c2, 6, .inl (fun _ => 0)))] H := hP
  have hD : va_D A [(h0, .inr (1, [.int 0, .ref q1, .ref q2, .int 0, .int 0, .null, .null])), (q1, .inl (c1, 36, .inl (fun _ => 0))), (q2, .inl (c2, 6, .inl (fun _ => 0)))] := hD
  refine lv_aload_n hx hb d_M_init_20 rfl (lv_at hl 0 rfl) ?_
  refine lv_sipush (v := nI 432) hx hb d_M_init_21 (by decide) ?_
  refine va_newa (a0 := (432, .inl (fun _ => 0))) (N' := 432) (ty := .int) hx hb (hts _ ma_int) rfl hK hP hD hS hA (fun _ => rfl) (by decide) (by decide) (by decide) (Nat.le_of_ble_eq_true rfl) (Nat.le_of_ble_eq_true rfl) d_M_init_24 (fun q3 c3 H hK hP hD hS => ?_)
  refine W.widen (k := 3) (n := 474) (by omega) (by omega) ?_
  have hK : va_K (dC, dI) classes [(c1, .boolean), (c2, .boolean), (c3, .int)] s := hK
  have hP : va_P (dC, dI) classes [(h0, .inr (1, [.int 0, .ref q1, .ref q2, .int 0, .int 0, .null, .null])), (q1, .inl (c1, 36, .inl (fun _ => 0))), (q2, .inl (c2, 6, .inl (fun _ => 0))), (q3, .inl (c3, 432, .inl (fun _ => 0)))] H := hP
  have hD : va_D A [(h0, .inr (1, [.int 0, .ref q1, .ref q2, .int 0, .int 0, .null, .null])), (q1, .inl (c1, 36, .inl (fun _ => 0))), (q2, .inl (c2, 6, .inl (fun _ => 0))), (q3, .inl (c3, 432, .inl (fun _ => 0)))] := hD
  refine va_putF (D := (dC, dI)) (ci := 1) (v := .ref q3) (ty := .array .int) (C := R_M) (T := F_M) (N := 7) hx hb hts i_M t_M t_M_ok n_M hown hK hP hD hS 0 rfl rfl 5 (by decide) (hts _ mf_M5) (fun _ h9 => h9) rfl hin rfl (by decide +kernel) rfl rfl (Nat.le_of_ble_eq_true rfl) d_M_init_26 (fun H locs hP hD hS => ?_)
  have hP : va_P (dC, dI) classes [(h0, .inr (1, [.int 0, .ref q1, .ref q2, .int 0, .int 0, .ref q3, .null])), (q1, .inl (c1, 36, .inl (fun _ => 0))), (q2, .inl (c2, 6, .inl (fun _ => 0))), (q3, .inl (c3, 432, .inl (fun _ => 0)))] H := hP
  have hD : va_D A [(h0, .inr (1, [.int 0, .ref q1, .ref q2, .int 0, .int 0, .ref q3, .null])), (q1, .inl (c1, 36, .inl (fun _ => 0))), (q2, .inl (c2, 6, .inl (fun _ => 0))), (q3, .inl (c3, 432, .inl (fun _ => 0)))] := hD
  refine lv_aload_n hx hb d_M_init_29 rfl (lv_at hl 0 rfl) ?_
  refine lv_sipush (v := nI 432) hx hb d_M_init_30 (by decide) ?_
  refine va_newa (a0 := (432, .inl (fun _ => 0))) (N' := 432) (ty := .int) hx hb (hts _ ma_int) rfl hK hP hD hS hA (fun _ => rfl) (by decide) (by decide) (by decide) (Nat.le_of_ble_eq_true rfl) (Nat.le_of_ble_eq_true rfl) d_M_init_33 (fun q4 c4 H hK hP hD hS => ?_)
  refine W.widen (k := 4) (n := 906) (by omega) (by omega) ?_
  have hK : va_K (dC, dI) classes [(c1, .boolean), (c2, .boolean), (c3, .int), (c4, .int)] s := hK
  have hP : va_P (dC, dI) classes [(h0, .inr (1, [.int 0, .ref q1, .ref q2, .int 0, .int 0, .ref q3, .null])), (q1, .inl (c1, 36, .inl (fun _ => 0))), (q2, .inl (c2, 6, .inl (fun _ => 0))), (q3, .inl (c3, 432, .inl (fun _ => 0))), (q4, .inl (c4, 432, .inl (fun _ => 0)))] H := hP
  have hD : va_D A [(h0, .inr (1, [.int 0, .ref q1, .ref q2, .int 0, .int 0, .ref q3, .null])), (q1, .inl (c1, 36, .inl (fun _ => 0))), (q2, .inl (c2, 6, .inl (fun _ => 0))), (q3, .inl (c3, 432, .inl (fun _ => 0))), (q4, .inl (c4, 432, .inl (fun _ => 0)))] := hD
  refine va_putF (D := (dC, dI)) (ci := 1) (v := .ref q4) (ty := .array .int) (C := R_M) (T := F_M) (N := 7) hx hb hts i_M t_M t_M_ok n_M hown hK hP hD hS 0 rfl rfl 6 (by decide) (hts _ mf_M6) (fun _ h9 => h9) rfl hin rfl (by decide +kernel) rfl rfl (Nat.le_of_ble_eq_true rfl) d_M_init_35 (fun H locs hP hD hS => ?_)
  have hP : va_P (dC, dI) classes [(h0, .inr (1, [.int 0, .ref q1, .ref q2, .int 0, .int 0, .ref q3, .ref q4])), (q1, .inl (c1, 36, .inl (fun _ => 0))), (q2, .inl (c2, 6, .inl (fun _ => 0))), (q3, .inl (c3, 432, .inl (fun _ => 0))), (q4, .inl (c4, 432, .inl (fun _ => 0)))] H := hP
  have hD : va_D A [(h0, .inr (1, [.int 0, .ref q1, .ref q2, .int 0, .int 0, .ref q3, .ref q4])), (q1, .inl (c1, 36, .inl (fun _ => 0))), (q2, .inl (c2, 6, .inl (fun _ => 0))), (q3, .inl (c3, 432, .inl (fun _ => 0))), (q4, .inl (c4, 432, .inl (fun _ => 0)))] := hD
  refine lv_aload_n hx hb d_M_init_38 rfl (lv_at hl 0 rfl) ?_
  refine lv_iload_n hx hb d_M_init_39 rfl (lv_at hl 1 rfl) ?_
  refine lv_iconst (v := nI 3) hx hb d_M_init_40 (by decide) ?_
  refine lv_iand hx hb d_M_init_41 ?_
  refine r_top (ct_w3 x) ?_
  refine va_putF (D := (dC, dI)) (ci := 1) (v := .int (ct_wI (ct_g0 x))) (ty := .int) (C := R_M) (T := F_M) (N := 7) hx hb hts i_M t_M t_M_ok n_M hown hK hP hD hS 0 rfl rfl 0 (by decide) (hts _ mf_M0) (fun _ h9 => h9) rfl hin rfl (by decide +kernel) rfl rfl (Nat.le_of_ble_eq_true rfl) d_M_init_42 (fun H locs hP hD hS => ?_)
  have hP : va_P (dC, dI) classes [(h0, .inr (1, [.int (ct_wI (ct_g0 x)), .ref q1, .ref q2, .int 0, .int 0, .ref q3, .ref q4])), (q1, .inl (c1, 36, .inl (fun _ => 0))), (q2, .inl (c2, 6, .inl (fun _ => 0))), (q3, .inl (c3, 432, .inl (fun _ => 0))), (q4, .inl (c4, 432, .inl (fun _ => 0)))] H := hP
  have hD : va_D A [(h0, .inr (1, [.int (ct_wI (ct_g0 x)), .ref q1, .ref q2, .int 0, .int 0, .ref q3, .ref q4])), (q1, .inl (c1, 36, .inl (fun _ => 0))), (q2, .inl (c2, 6, .inl (fun _ => 0))), (q3, .inl (c3, 432, .inl (fun _ => 0))), (q4, .inl (c4, 432, .inl (fun _ => 0)))] := hD
  obtain ⟨ad, had⟩ : ∃ ad : Nat → Nat, ad = fun k => [h0, q1, q2, q3, q4].getD k 0 := ⟨_, rfl⟩
  obtain ⟨cd, hcd⟩ : ∃ cd : Nat → ClassId, cd = fun k => [c1, c1, c2, c3, c4].getD k c1 := ⟨_, rfl⟩
  have hP9 : va_P (dC, dI) classes (wM ad cd (ct_g0 x) 0 ct_u0) H := by subst had; subst hcd; exact hP
  have hD9 : va_D A (wM ad cd (ct_g0 x) 0 ct_u0) := by subst had; subst hcd; exact hD
  have hK9 : va_K (dC, dI) classes (tM cd) s := by subst hcd; exact hK
  have h9 : ad 0 = h0 := by subst had; rfl
  subst h9
  have hP := hP9
  have hD := hD9
  have hK := hK9
  refine lv_aload_n hx hb d_M_init_45 rfl (lv_at hl 0 rfl) ?_
  refine lv_aload_n hx hb d_M_init_46 rfl (lv_at hl 0 rfl) ?_
  refine lv_iconst (v := nI 0) hx hb d_M_init_47 (by decide) ?_
  refine lv_iconst (v := nI 1) hx hb d_M_init_48 (by decide) ?_
  refine lv_iconst (v := nI 5) hx hb d_M_init_49 (by decide) ?_
  refine lv_iconst (v := ct_bI false) hx hb d_M_init_50 (by decide) ?_
  refine w_callR 4 S (c_M_number l dC dI ad cd (ct_g0 x) 0 ct_u0 0 1 5 false) gv_M_M_number hd_M_number ⟨(Nat.le_of_ble_eq_true rfl), (Nat.le_of_ble_eq_true rfl)⟩ ⟨rfl, rfl⟩ ⟨(Nat.le_of_ble_eq_true rfl), (Nat.le_of_ble_eq_true rfl)⟩ (m_rc hK hP) hK hP rfl hl.1 rfl (Nat.le_of_ble_eq_true rfl) d_M_init_51 ?_
  refine mp_at S hK hP hD hS d_M_init_54 (fun H locs hP hD hS => ?_)
  exact W.vret hx hb hr (fun t ht hW => ⟨⟨(ad, cd), rfl, rfl, by rw [ht]; exact hP, va_K.moved hW.alike hK, hD⟩, hS.F ht⟩) hS.2.2 d_M_init_57 (hlocks := hlk)
end
section
/-! THE LAW: calls with a frame, and facts of the board -/
theorem ct_split {A : Nat → Prop} {D : va_G} {cl : List vw_C} {w1 w2 : va_W} {H : Heap} (hP : va_P D cl (w1 ++ w2) H) (hD : va_D A (w1 ++ w2)) :
    va_P D cl w1 H ∧ va_P D cl w2 H ∧ va_D A w1 ∧ va_D A w2 ∧ ∀ (i j : Nat) (p q : Nat × va_E), w1[i]? = some p → w2[j]? = some q → p.1 ≠ q.1 := by
  have l1 : ∀ (i : Nat) (p : Nat × va_E), w1[i]? = some p → (w1 ++ w2)[i]? = some p := fun i p h => by
    rw [List.getElem?_append_left (List.getElem?_eq_some_iff.mp h).1]; exact h
  have l2 : ∀ (j : Nat) (q : Nat × va_E), w2[j]? = some q → (w1 ++ w2)[w1.length + j]? = some q := fun j q h => by
    rw [List.getElem?_append_right (by omega), show w1.length + j - w1.length = j by omega]; exact h
  refine ⟨fun k q h => hP k q (l1 k q h), fun k q h => hP _ q (l2 k q h), ⟨fun i j p q h1 h2 e => hD.1 i j p q (l1 i p h1) (l1 j q h2) e, fun k q h => hD.2 k q (l1 k q h)⟩, ⟨fun i j p q h1 h2 e => ?_, fun k q h => hD.2 _ q (l2 k q h)⟩, fun i j p q h1 h2 e => ?_⟩
  · have := hD.1 _ _ p q (l2 i p h1) (l2 j q h2) e
    omega
  · have h3 := hD.1 _ _ p q (l1 i p h1) (l2 j q h2) e
    have h4 := (List.getElem?_eq_some_iff.mp h1).1
    omega
theorem ct_swap {A : Nat → Prop} {D : va_G} {cl : List vw_C} {w1 w2 : va_W} {H : Heap} (hP : va_P D cl (w1 ++ w2) H) (hD : va_D A (w1 ++ w2)) : va_P D cl (w2 ++ w1) H ∧ va_D A (w2 ++ w1) := by
  obtain ⟨a1, a2, a3, a4, a5⟩ := ct_split hP hD
  exact ⟨a2.app a1, a4.app a3 (fun i j p q h1 h2 e => a5 j i q p h2 h1 e.symm)⟩
/-- behind a call on w1: the rest w2 is as it was -/
theorem ct_joinF {A : Nat → Prop} {D : va_G} {cl : List vw_C} {w1 w2 w3 : va_W} {H H1 : Heap} (hP : va_P D cl (w1 ++ w2) H) (hD : va_D A (w1 ++ w2)) (hF : ∀ q : Nat, va_A w1 H.size q → A q) (hk : ∀ q : Nat, q < H.size → ¬ va_A w1 H.size q → H1[q]? = H[q]?) (hP1 : va_P D cl w3 H1) (hD1 : va_D (va_A w1 H.size) w3) : va_P D cl (w3 ++ w2) H1 ∧ va_D A (w3 ++ w2) := by
  obtain ⟨a1, a2, a3, a4, a5⟩ := ct_split hP hD
  have apart : ∀ (k : Nat) (q : Nat × va_E), w2[k]? = some q → q.1 < H.size ∧ ¬ va_A w1 H.size q.1 := by
    intro k q hq
    have hl := (a2 k q hq).lt
    refine ⟨hl, fun h => ?_⟩
    rcases h with ⟨i, e, h⟩ | h
    · exact a5 i k (q.1, e) q h hq rfl
    · omega
  refine ⟨hP1.app (fun k q hq => ?_), (hD1.weaken (fun k q _ h => hF q.1 h)).app a4 (fun i j p q h1 h2 e => ?_)⟩
  · obtain ⟨g1, g2⟩ := apart k q hq
    exact (a2 k q hq).kept (hk q.1 g1 g2)
  · exact (apart j q h2).2 (by rw [← e]; exact hD1.2 i p h1)
section CTL
variable {p : Program} {l : Launch} {e : Env} {R : Room} {s : State} {m : MethodId} {args : Array Value} {below : List Frame} {meth : Method} {c : Code} {H : Heap} {locs : List Loc} {cells slots : Nat} {Q : State → Prop}
variable {cc : ByteArray} {pc nL : Nat} {ls : Array Slot} {rest : List Value} {D : va_G} {tys : List (ClassId × FieldType)} {A : Nat → Prop} {H0 : Heap}
theorem l_calli {y : MethodName} {bytes : ByteArray} {maxL index : Nat} {rm : Room} {own C : String} {As st0 : List Value} {h0 : Nat} {ws wr : va_W} {S' : Type} {wf : S' → va_W} {post : Int32 → S' → Prop} (n : Nat) (S : CallFix p m c cc nL s args ct_tbl own) (hM : ∀ sz : Nat, Met l y (Cond.code y bytes maxL (some .int) :: ct_tbl) rm (va_Pc (.ref h0 :: As) (ct_Pre D tys ws sz)) (ct_Qi D tys wf post (va_A ws sz)) 0 0 (va_A ws sz))
    (hG : GoodIn ct_tbl (wsV own index C y (Cond.code y bytes maxL (some .int) :: ct_tbl))) (hd : y.cls = C ∧ y.cls ≠ "java/lang/invoke/MethodHandle" ∧ y.cls ≠ "java/lang/invoke/VarHandle" ∧ (parseMethodDescriptor y.desc).map (fun d => d.parameters.length) = some n) (hR : rm.frames + 1 ≤ R.frames ∧ 8 + (maxL + 11) + rm.locals ≤ R.locals) (hz : rm.cells = 0 ∧ rm.slots = 0) (hc : cells ≤ R.cells ∧ slots ≤ R.slots)
    (hrc : ∃ cellB : Cell, H[h0]? = some cellB ∧ cellB.vm.isStatics = false ∧ s.vm.findClass C = some cellB.cls) (hK : va_K D classes tys s) (hP : va_P D classes (ws ++ wr) H) (hD : va_D A (ws ++ wr)) (hS : va_S A H0 H locs) (hA : ∀ q : Nat, H0.size ≤ q → A q)
    (hn : As.length = n) (hsz : ls.size = nL) (hst : st0 = As.reverse ++ .ref h0 :: rest) (hW : (rest.map fun v => v.category).sum ≤ 8) (hdg : decode cc pc = .ok (.invokevirtual index, 3))
    (kk : ∀ (r : Int32) (u : S') (H1 : Heap) (locs1 : List Loc), post r u → va_P D classes (wf u ++ wr) H1 → va_D A (wf u ++ wr) → va_S A H0 H1 locs1 → W p l e R s m args below meth c H1 locs1 cells slots Q (F0 m (pc + 3) ls (.int r :: rest))) : W p l e R s m args below meth c H locs cells slots Q (F0 m pc ls st0) := by
  obtain ⟨hP1, hP2, hD1, hD2, hx5⟩ := ct_split hP hD
  have hF : ∀ q : Nat, va_A ws H.size q → A q := by
    intro q h
    rcases h with ⟨k, e, h⟩ | h
    · exact hD1.2 k (q, e) h
    · exact hA q (Nat.le_trans hS.1 h)
  refine va_calli (va_runV S (hM H.size) (cwV n S.2.2.2.2 hG rfl hz.1 hz.2 hd hR) ⟨fun a U g mk q => ⟨q.1, q.2.1, q.2.2.1, va_K.moved (u := U) (U := U.calling g mk a) (Vm.Alike.refl U.vm) q.2.2.2.1, q.2.2.2.2⟩, hrc, fun U hU hW => ⟨rfl, by rw [hU], by rw [hU]; exact hP1, va_K.moved hW.alike hK, hD1.weaken (fun _ _ _ _ => trivial)⟩⟩ rfl hn hsz hst (lv_room hW) hdg hc) hS (fun q _ h => hF q h) hF (fun r u t H1 locs1 ht hvm hw hB hz1 hk1 hS1 => ?_)
  obtain ⟨hP9, hK9, hD9⟩ := hB
  rw [ht] at hP9
  obtain ⟨hPj, hDj⟩ := ct_joinF hP hD hF hk1 hP9 hD9
  exact kk r u H1 locs1 hw hPj hDj hS1
theorem l_callI {y : MethodName} {bytes : ByteArray} {maxL index mc ms : Nat} {rm : Room} {own : String} {As st0 : List Value} {h0 : Nat} {ws wr : va_W} {S' : Type} {wf : S' → va_W} {tyf : S' → List (ClassId × FieldType)} {post : S' → Prop} (n : Nat) (S : CallFix p m c cc nL s args ct_tbl own) (hM : Met l y (Cond.code y bytes maxL none :: ct_tbl) rm (va_Pc (.ref h0 :: As) (ct_Pre D tys ws H.size)) (va_Qv post (fun v U => va_P D classes (wf v) U.heap ∧ va_K D classes (tyf v) U ∧ va_D (va_A ws H.size) (wf v)) (va_A ws H.size)) mc ms (va_A ws H.size))
    (cw : CallB R s args own index y bytes maxL none (Cond.code y bytes maxL none :: ct_tbl) rm mc ms n ∧ y.name = "<init>" ∧ (Cond.instanceMethod y).before args s = true) (hc : cells + mc ≤ R.cells ∧ slots + ms ≤ R.slots)
    (hK : va_K D classes tys s) (hP : va_P D classes (ws ++ wr) H) (hD : va_D A (ws ++ wr)) (hS : va_S A H0 H locs) (hA : ∀ q : Nat, H0.size ≤ q → A q)
    (hn : As.length = n) (hsz : ls.size = nL) (hst : st0 = As.reverse ++ .ref h0 :: rest) (hW : (rest.map fun v => v.category).sum ≤ 8) (hdg : decode cc pc = .ok (.invokespecial index, 3))
    (kk : ∀ (v : S') (H1 : Heap) (locs1 : List Loc), post v → va_K D classes (tyf v) s → va_P D classes (wf v ++ wr) H1 → va_D A (wf v ++ wr) → va_S A H0 H1 locs1 → W p l e R s m args below meth c H1 locs1 (cells + mc) (slots + ms) Q (F0 m (pc + 3) ls rest)) : W p l e R s m args below meth c H locs cells slots Q (F0 m pc ls st0) := by
  obtain ⟨hP1, hP2, hD1, hD2, hx5⟩ := ct_split hP hD
  have hF : ∀ q : Nat, va_A ws H.size q → A q := by
    intro q h
    rcases h with ⟨k, e, h⟩ | h
    · exact hD1.2 k (q, e) h
    · exact hA q (Nat.le_trans hS.1 h)
  refine va_callv (va_runI S hM cw ⟨fun a U g mk q => ⟨q.1, q.2.1, q.2.2.1, va_K.moved (u := U) (U := U.calling g mk a) (Vm.Alike.refl U.vm) q.2.2.2.1, q.2.2.2.2⟩, fun U hU hW => ⟨rfl, by rw [hU], by rw [hU]; exact hP1, va_K.moved hW.alike hK, hD1.weaken (fun _ _ _ _ => trivial)⟩⟩ rfl hn hsz hst (lv_room hW) hdg hc) hS (fun q _ h => hF q h) hF (fun v t H1 locs1 ht hvm hw hB hz1 hk1 hS1 => ?_)
  obtain ⟨hP9, hK9, hD9⟩ := hB
  rw [ht] at hP9
  obtain ⟨hPj, hDj⟩ := ct_joinF hP hD hF hk1 hP9 hD9
  exact kk v H1 locs1 hw (va_K.moved hvm.symm hK9) hPj hDj hS1
end CTL
/-! the board -/
theorem ct_bad3_t {x y z : Int32} (h : ¬ ct_bad3 x y z = true) : ct_off x = false ∧ ct_off y = false ∧ ct_off z = false := by
  unfold ct_bad3 at h
  cases h1 : ct_off x <;> cases h2 : ct_off y <;> cases h3 : ct_off z <;> simp [h1, h2, h3] at h ⊢
theorem ct_set_ok {b : ct_Bo} (hb : ct_inB b) (x y z : Int32) (o : Bool) : ct_inB (ct_setB b x y z o) ∧ ct_setK (ct_nb9 b) x y z o = ct_nb9 (ct_setB b x y z o) := by
  unfold ct_setB ct_setK
  by_cases h : ct_bad3 x y z = true
  · rw [if_pos h, if_pos h]; exact ⟨hb, rfl⟩
  · rw [if_neg h, if_neg h]
    obtain ⟨h1, h2, h3⟩ := ct_bad3_t h
    obtain ⟨j1, hj1, rfl⟩ := ct_off_f h1
    obtain ⟨j2, hj2, rfl⟩ := ct_off_f h2
    obtain ⟨j3, hj3, rfl⟩ := ct_off_f h3
    refine ⟨?_, rfl⟩
    unfold ct_inB
    rw [ct_cl hj1, ct_cl hj2, ct_cl hj3]
    exact ⟨hj1, hj2, hj3⟩
theorem ct_bo_num {q : Nat} (hq : q < 432) : ct_inB (ct_bo q) ∧ ct_nb9 (ct_bo q) = q := by
  refine ⟨⟨by show q / 72 < 6; omega, by show q / 12 % 6 < 6; omega, by show q / 2 % 6 < 6; omega⟩, ?_⟩
  show ct_num (q / 72) (q / 12 % 6) (q / 2 % 6) (decide (q % 2 = 1)).toNat = q
  unfold ct_num
  by_cases h : q % 2 = 1
  · simp only [h, decide_true, Bool.toNat_true]; omega
  · simp only [h, decide_false, Bool.toNat_false]; omega
theorem ct_play_ok {g : ct_G} {b : ct_Bo} (hb : ct_inB b) (x : Int32) : ct_inB (ct_playB g b x) ∧ ct_playK g (ct_nb9 b) x = ct_nb9 (ct_playB g b x) := by
  unfold ct_playB ct_playK
  cases h : ct_afX g (ct_nb9 b) x with
  | none => exact ⟨hb, rfl⟩
  | some q =>
    obtain ⟨h1, h2⟩ := ct_bo_num (ct_afX_some (ct_nb9_lt hb) h)
    exact ⟨h1, h2.symm⟩
theorem ct_board_ok {b : ct_Bo} (hb : ct_inB b) : ct_boardR b = ct_boardK (ct_nb9 b) := by
  obtain ⟨h1, h2, h3⟩ := hb
  have ho := ct_tn b.2.2.2
  unfold ct_boardR ct_boardK ct_nb9 ct_num
  congr 1
  omega
theorem ct_gt {L i : Nat} (hL : L ≤ 2561) (hi : i ≤ 3000) : nI L - nI 5 < nI i ↔ L < i + 5 := by
  rw [Int32.lt_iff_toInt_lt, pk_sub_toInt (by omega) (by decide), nI_toInt (by omega)]
  omega
end
section
theorem hd_L_cell : y_L_cell.cls = R_law ∧ y_L_cell.cls ≠ "java/lang/invoke/MethodHandle" ∧ y_L_cell.cls ≠ "java/lang/invoke/VarHandle" ∧ (parseMethodDescriptor y_L_cell.desc).map (fun d => d.parameters.length) = some 2 := by decide +kernel
theorem hd_X_door : y_X_door.cls = R_X ∧ y_X_door.cls ≠ "java/lang/invoke/MethodHandle" ∧ y_X_door.cls ≠ "java/lang/invoke/VarHandle" ∧ (parseMethodDescriptor y_X_door.desc).map (fun d => d.parameters.length) = some 3 := by decide +kernel
theorem hd_X_exit : y_X_exit.cls = R_X ∧ y_X_exit.cls ≠ "java/lang/invoke/MethodHandle" ∧ y_X_exit.cls ≠ "java/lang/invoke/VarHandle" ∧ (parseMethodDescriptor y_X_exit.desc).map (fun d => d.parameters.length) = some 2 := by decide +kernel
theorem hd_X_set : y_X_set.cls = R_X ∧ y_X_set.cls ≠ "java/lang/invoke/MethodHandle" ∧ y_X_set.cls ≠ "java/lang/invoke/VarHandle" ∧ (parseMethodDescriptor y_X_set.desc).map (fun d => d.parameters.length) = some 4 := by decide +kernel
theorem hd_X_play : y_X_play.cls = R_X ∧ y_X_play.cls ≠ "java/lang/invoke/MethodHandle" ∧ y_X_play.cls ≠ "java/lang/invoke/VarHandle" ∧ (parseMethodDescriptor y_X_play.desc).map (fun d => d.parameters.length) = some 1 := by decide +kernel
theorem hd_X_outcome : y_X_outcome.cls = R_X ∧ y_X_outcome.cls ≠ "java/lang/invoke/MethodHandle" ∧ y_X_outcome.cls ≠ "java/lang/invoke/VarHandle" ∧ (parseMethodDescriptor y_X_outcome.desc).map (fun d => d.parameters.length) = some 4 := by decide +kernel
theorem hd_X_length : y_X_length.cls = R_X ∧ y_X_length.cls ≠ "java/lang/invoke/MethodHandle" ∧ y_X_length.cls ≠ "java/lang/invoke/VarHandle" ∧ (parseMethodDescriptor y_X_length.desc).map (fun d => d.parameters.length) = some 4 := by decide +kernel
theorem hd_X_best : y_X_best.cls = R_X ∧ y_X_best.cls ≠ "java/lang/invoke/MethodHandle" ∧ y_X_best.cls ≠ "java/lang/invoke/VarHandle" ∧ (parseMethodDescriptor y_X_best.desc).map (fun d => d.parameters.length) = some 0 := by decide +kernel
theorem hd_X_total : y_X_total.cls = R_X ∧ y_X_total.cls ≠ "java/lang/invoke/MethodHandle" ∧ y_X_total.cls ≠ "java/lang/invoke/VarHandle" ∧ (parseMethodDescriptor y_X_total.desc).map (fun d => d.parameters.length) = some 1 := by decide +kernel
theorem hd_X_longest : y_X_longest.cls = R_X ∧ y_X_longest.cls ≠ "java/lang/invoke/MethodHandle" ∧ y_X_longest.cls ≠ "java/lang/invoke/VarHandle" ∧ (parseMethodDescriptor y_X_longest.desc).map (fun d => d.parameters.length) = some 1 := by decide +kernel
theorem hd_M_door : y_M_door.cls = R_M ∧ y_M_door.cls ≠ "java/lang/invoke/MethodHandle" ∧ y_M_door.cls ≠ "java/lang/invoke/VarHandle" ∧ (parseMethodDescriptor y_M_door.desc).map (fun d => d.parameters.length) = some 3 := by decide +kernel
theorem hd_M_exit : y_M_exit.cls = R_M ∧ y_M_exit.cls ≠ "java/lang/invoke/MethodHandle" ∧ y_M_exit.cls ≠ "java/lang/invoke/VarHandle" ∧ (parseMethodDescriptor y_M_exit.desc).map (fun d => d.parameters.length) = some 2 := by decide +kernel
theorem hd_M_set : y_M_set.cls = R_M ∧ y_M_set.cls ≠ "java/lang/invoke/MethodHandle" ∧ y_M_set.cls ≠ "java/lang/invoke/VarHandle" ∧ (parseMethodDescriptor y_M_set.desc).map (fun d => d.parameters.length) = some 4 := by decide +kernel
theorem hd_M_play : y_M_play.cls = R_M ∧ y_M_play.cls ≠ "java/lang/invoke/MethodHandle" ∧ y_M_play.cls ≠ "java/lang/invoke/VarHandle" ∧ (parseMethodDescriptor y_M_play.desc).map (fun d => d.parameters.length) = some 1 := by decide +kernel
theorem hd_M_outcome : y_M_outcome.cls = R_M ∧ y_M_outcome.cls ≠ "java/lang/invoke/MethodHandle" ∧ y_M_outcome.cls ≠ "java/lang/invoke/VarHandle" ∧ (parseMethodDescriptor y_M_outcome.desc).map (fun d => d.parameters.length) = some 4 := by decide +kernel
theorem hd_M_length : y_M_length.cls = R_M ∧ y_M_length.cls ≠ "java/lang/invoke/MethodHandle" ∧ y_M_length.cls ≠ "java/lang/invoke/VarHandle" ∧ (parseMethodDescriptor y_M_length.desc).map (fun d => d.parameters.length) = some 4 := by decide +kernel
theorem hd_M_best : y_M_best.cls = R_M ∧ y_M_best.cls ≠ "java/lang/invoke/MethodHandle" ∧ y_M_best.cls ≠ "java/lang/invoke/VarHandle" ∧ (parseMethodDescriptor y_M_best.desc).map (fun d => d.parameters.length) = some 0 := by decide +kernel
theorem hd_M_total : y_M_total.cls = R_M ∧ y_M_total.cls ≠ "java/lang/invoke/MethodHandle" ∧ y_M_total.cls ≠ "java/lang/invoke/VarHandle" ∧ (parseMethodDescriptor y_M_total.desc).map (fun d => d.parameters.length) = some 1 := by decide +kernel
theorem hd_M_longest : y_M_longest.cls = R_M ∧ y_M_longest.cls ≠ "java/lang/invoke/MethodHandle" ∧ y_M_longest.cls ≠ "java/lang/invoke/VarHandle" ∧ (parseMethodDescriptor y_M_longest.desc).map (fun d => d.parameters.length) = some 1 := by decide +kernel
set_option maxHeartbeats 4000000 in
set_option maxRecDepth 100000 in
/-- cell(script, 0) -/
theorem c_L_cell (l : Launch) (sb n9 : Nat) (xs : Nat → Int32) (hL : n9 ≤ 2561) : Met l y_L_cell (Cond.code y_L_cell b_L_cell 2 (some .int) :: ct_tbl) ({ frames := 0, cells := 0, slots := 0, locals := 0 }) (va_Pc [.ref sb, .int (nI 0)] (fun U => va_X sb n9 xs U U.heap ∧ sb < U.heap.size)) (QcRead (if 0 < n9 then xs 0 else 0)) 0 0 (fun _ => False) := by
  refine ct_start [.ref sb, .int (nI 0)] (by decide) (Nat.le_of_ble_eq_true rfl) (fun pp ee s m below meth c ls S hr hlk _ hB hl => ?_)
  obtain ⟨hx, hb, hml, hown, hts⟩ := id S
  obtain ⟨hX, hbl⟩ := hB
  have hl : lv_has ls 2 [(0, .ref sb), (1, .int (nI 0))] := hl
  have hS : va_S (fun _ => False) s.heap s.heap [] := va_S.rf
  refine lv_iload_n hx hb d_L_cell_0 rfl (lv_at hl 1 rfl) ?_
  refine lv_aload_n hx hb d_L_cell_1 rfl (lv_at hl 0 rfl) ?_
  refine va_slen hx hb hX hbl (fun z => z) hS d_L_cell_2 ?_
  refine r_top (y := nI n9) rfl ?_
  refine r_cmp_ge (tgt := 12) hx hb d_L_cell_3 (by decide) (by decide) (by omega) (fun h => ?_) (fun h => ?_)
  · refine lv_iconst (v := 0) hx hb d_L_cell_12 (by decide) ?_
    exact r_ret hx hb hr hlk d_L_cell_13 (by rw [if_neg (by omega)])
  · refine lv_aload_n hx hb d_L_cell_6 rfl (lv_at hl 0 rfl) ?_
    refine lv_iload_n hx hb d_L_cell_7 rfl (lv_at hl 1 rfl) ?_
    refine va_sld hx hb hX hbl (fun z => z) hS (vp_in_nI h (by omega)) d_L_cell_8 ?_
    refine lv_goto (tgt := 13) hx hb d_L_cell_9 (by decide) ?_
    exact r_ret hx hb hr hlk d_L_cell_13 (by rw [if_pos h]; rfl)
set_option maxHeartbeats 4000000 in
set_option maxRecDepth 100000 in
/-- THE LAW'S LOOP: at its head both objects hold the same map and board, and no table is wrong -/
theorem law_loop {p : Program} {l : Launch} {e : Env} {s : State} {m : MethodId} {below : List Frame} {meth : Method} {c : Code} {dC : Nat → ClassId} {dI : Nat → Nat → Nat} {sb n9 : Nat} {xs : Nat → Int32} {aX aM : Nat → Nat} {cX cM : Nat → ClassId} (hL : n9 ≤ 2561) (C0 : lw_At p s m meth c sb n9 xs) (hKX : va_K (dC, dI) classes (tX cX) s) (hKM : va_K (dC, dI) classes (tM cM) s) :
    ∀ (n i : Nat), i ≤ n9 + 5 → n9 + 5 < i + n → ∀ (g : ct_G) (bo : ct_Bo) (t : ct_T) (u : ct_U), ct_inB bo → ct_inX g t → ct_inM g u → ∀ (H : Heap) (locs : List Loc), va_P (dC, dI) classes (wX aX cX g bo t ++ wM aM cM g (ct_nb9 bo) u) H → va_D (fun q : Nat => s.heap.size ≤ q) (wX aX cX g bo t ++ wM aM cM g (ct_nb9 bo) u) → va_S (fun q : Nat => s.heap.size ≤ q) s.heap H locs → ∀ ls : Array Slot, lv_has ls 4 [(0, .ref sb), (1, .ref (aX 0)), (2, .ref (aM 0)), (3, .int (nI i))] → W p l e room_1 s m #[Value.ref sb] below meth c H locs 12 2668 (lw_Z below #[Value.ref sb] s) (F0 m 28 ls []) := by
  obtain ⟨hx, hb, hr, hml, hown, hts, hX, hbl, hlocks, hgv⟩ := C0
  have S : CallFix p m c code 4 s #[Value.ref sb] ct_tbl R_law := ⟨hx, hb, hml, hown, fun w hw => hts w (List.mem_filter.mp hw).1⟩
  have hA : ∀ q : Nat, s.heap.size ≤ q → (fun q : Nat => s.heap.size ≤ q) q := fun _ h => h
  have hbA : ¬ (fun q : Nat => s.heap.size ≤ q) sb := Nat.not_le.mpr hbl
  intro n
  induction n with
  | zero => intro i h1 h2; omega
  | succ n ih =>
    intro i hi hin g bo t u hB hiX hiM H locs hP hD hS ls hl
    have next : i + 5 ≤ n9 → ∀ (g : ct_G) (bo : ct_Bo) (t : ct_T) (u : ct_U), ct_inB bo → ct_inX g t → ct_inM g u → ∀ (H : Heap) (locs : List Loc), va_P (dC, dI) classes (wX aX cX g bo t ++ wM aM cM g (ct_nb9 bo) u) H → va_D (fun q : Nat => s.heap.size ≤ q) (wX aX cX g bo t ++ wM aM cM g (ct_nb9 bo) u) → va_S (fun q : Nat => s.heap.size ≤ q) s.heap H locs → ∀ ls : Array Slot, lv_has ls 4 [(0, .ref (sb)), (1, .ref (aX 0)), (2, .ref (aM 0)), (3, .int (nI i))] → W p l e room_1 s m #[Value.ref sb] below meth c H locs 12 2668 (lw_Z below #[Value.ref sb] s) (F0 m 506 ls []) := by
      intro h5 g bo t u hB hiX hiM H locs hP hD hS ls hl
      refine lv_iinc (v := nI (i + 5)) (lv' := [(3, .int (nI (i + 5))), (0, .ref (sb)), (1, .ref (aX 0)), (2, .ref (aM 0))]) hx hb d_law_506 hl (k := 3) rfl (nI_add _ 5) (by decide) rfl (fun ls hl => ?_)
      refine lv_goto (tgt := 28) hx hb d_law_509 (by decide) ?_
      exact ih (i + 5) (by omega) (by omega) g bo t u hB hiX hiM _ _ hP hD hS ls (lv_sub hl [1, 2, 3, 0] rfl)
    refine lv_iload_n hx hb d_law_28 rfl (lv_at hl 3 rfl) ?_
    refine lv_aload_n hx hb d_law_29 rfl (lv_at hl 0 rfl) ?_
    refine va_slen hx hb hX hbl hbA hS d_law_30 ?_
    refine r_top (y := nI n9) rfl ?_
    refine lv_iconst (v := nI 5) hx hb d_law_31 (by decide) ?_
    refine lv_isub hx hb d_law_32 ?_
    refine lv_icmp_gt (tgt := 512) hx hb d_law_33 (by decide) (fun h_33 => ?_) (fun h_33 => ?_)
    · refine lv_iconst (v := 1) hx hb d_law_512 (by decide) ?_
      refine va_forget (fun q hq => hS.2.2 q hq) ?_
      exact lw_ret hx hb hr hlocks d_law_513
    · have h5 : i + 5 ≤ n9 := by
        rcases Nat.lt_or_ge n9 (i + 5) with z | z
        · exact absurd ((ct_gt hL (by omega)).mpr z) h_33
        · exact z
      refine lv_aload_n hx hb d_law_36 rfl (lv_at hl 0 rfl) ?_
      refine lv_iload_n hx hb d_law_37 rfl (lv_at hl 3 rfl) ?_
      refine va_sld hx hb hX hbl hbA hS (vp_in_nI (by omega) (by omega)) d_law_38 ?_
      refine r_top (y := xs (i)) (by rw [nI_clamp (by omega)]) ?_
      refine lv_bipush (v := nI 15) hx hb d_law_39 (by decide) ?_
      refine lv_iand hx hb d_law_41 ?_
      obtain ⟨v, hv16, hv⟩ := pk_andE (xs i) (m := nI 15) 4 rfl
      refine r_top (y := nI v) hv ?_
      rcases (show v = 0 ∨ v = 1 ∨ v = 2 ∨ v = 3 ∨ v = 4 ∨ v = 5 ∨ v = 6 ∨ v = 7 ∨ v = 8 ∨ v = 9 ∨ 9 < v by omega) with rfl | rfl | rfl | rfl | rfl | rfl | rfl | rfl | rfl | rfl | h9
      · refine lv_tableIn (off := 54) (tgt := 96) hx hb d_law_42 (by decide) (by decide) (by decide) (by decide) ?_
        refine lv_aload_n hx hb d_law_96 rfl (lv_at hl 1 rfl) ?_
        refine lv_aload_n hx hb d_law_97 rfl (lv_at hl 0 rfl) ?_
        refine lv_iload_n hx hb d_law_98 rfl (lv_at hl 3 rfl) ?_
        refine lv_iconst (v := nI 1) hx hb d_law_99 (by decide) ?_
        refine r_add hx hb d_law_100 ?_
        refine va_sld hx hb hX hbl hbA hS (vp_in_nI (by omega) (by omega)) d_law_101 ?_
        refine r_top (y := xs (i + 1)) (by rw [nI_clamp (by omega)]) ?_
        refine lv_aload_n hx hb d_law_102 rfl (lv_at hl 0 rfl) ?_
        refine lv_iload_n hx hb d_law_103 rfl (lv_at hl 3 rfl) ?_
        refine lv_iconst (v := nI 2) hx hb d_law_104 (by decide) ?_
        refine r_add hx hb d_law_105 ?_
        refine va_sld hx hb hX hbl hbA hS (vp_in_nI (by omega) (by omega)) d_law_106 ?_
        refine r_top (y := xs (i + 2)) (by rw [nI_clamp (by omega)]) ?_
        refine lv_aload_n hx hb d_law_107 rfl (lv_at hl 0 rfl) ?_
        refine lv_iload_n hx hb d_law_108 rfl (lv_at hl 3 rfl) ?_
        refine lv_iconst (v := nI 3) hx hb d_law_109 (by decide) ?_
        refine r_add hx hb d_law_110 ?_
        refine va_sld hx hb hX hbl hbA hS (vp_in_nI (by omega) (by omega)) d_law_111 ?_
        refine r_top (y := xs (i + 3)) (by rw [nI_clamp (by omega)]) ?_
        refine r_nz (q4 := 120) hx hb d_law_112 d_law_115 d_law_116 d_law_119 rfl rfl rfl rfl ?_
        refine l_calli 3 S (c_X_door l dC dI aX cX g bo t hiX (xs (i + 1)) (xs (i + 2)) (decide (xs (i + 3) ≠ 0))) gv_L_X_door hd_X_door ⟨(Nat.le_of_ble_eq_true rfl), (Nat.le_of_ble_eq_true rfl)⟩ ⟨rfl, rfl⟩ ⟨(Nat.le_of_ble_eq_true rfl), (Nat.le_of_ble_eq_true rfl)⟩ (x_rc hKX (ct_split hP hD).1) hKX hP hD hS hA rfl hl.1 rfl (Nat.le_of_ble_eq_true rfl) d_law_120 (fun r1 v1 H locs hv1 hP hD hS => ?_)
        refine lv_aload_n hx hb d_law_123 rfl (lv_at hl 2 rfl) ?_
        refine lv_aload_n hx hb d_law_124 rfl (lv_at hl 0 rfl) ?_
        refine lv_iload_n hx hb d_law_125 rfl (lv_at hl 3 rfl) ?_
        refine lv_iconst (v := nI 1) hx hb d_law_126 (by decide) ?_
        refine r_add hx hb d_law_127 ?_
        refine va_sld hx hb hX hbl hbA hS (vp_in_nI (by omega) (by omega)) d_law_128 ?_
        refine r_top (y := xs (i + 1)) (by rw [nI_clamp (by omega)]) ?_
        refine lv_aload_n hx hb d_law_129 rfl (lv_at hl 0 rfl) ?_
        refine lv_iload_n hx hb d_law_130 rfl (lv_at hl 3 rfl) ?_
        refine lv_iconst (v := nI 2) hx hb d_law_131 (by decide) ?_
        refine r_add hx hb d_law_132 ?_
        refine va_sld hx hb hX hbl hbA hS (vp_in_nI (by omega) (by omega)) d_law_133 ?_
        refine r_top (y := xs (i + 2)) (by rw [nI_clamp (by omega)]) ?_
        refine lv_aload_n hx hb d_law_134 rfl (lv_at hl 0 rfl) ?_
        refine lv_iload_n hx hb d_law_135 rfl (lv_at hl 3 rfl) ?_
        refine lv_iconst (v := nI 3) hx hb d_law_136 (by decide) ?_
        refine r_add hx hb d_law_137 ?_
        refine va_sld hx hb hX hbl hbA hS (vp_in_nI (by omega) (by omega)) d_law_138 ?_
        refine r_top (y := xs (i + 3)) (by rw [nI_clamp (by omega)]) ?_
        refine r_nz (q4 := 147) hx hb d_law_139 d_law_142 d_law_143 d_law_146 rfl rfl rfl rfl ?_
        obtain ⟨hP, hD⟩ := ct_swap hP hD
        refine l_calli 3 S (c_M_door l dC dI aM cM g (ct_nb9 bo) u hiM (xs (i + 1)) (xs (i + 2)) (decide (xs (i + 3) ≠ 0))) gv_L_M_door hd_M_door ⟨(Nat.le_of_ble_eq_true rfl), (Nat.le_of_ble_eq_true rfl)⟩ ⟨rfl, rfl⟩ ⟨(Nat.le_of_ble_eq_true rfl), (Nat.le_of_ble_eq_true rfl)⟩ (m_rc hKM (ct_split hP hD).1) hKM hP hD hS hA rfl hl.1 rfl (Nat.le_of_ble_eq_true rfl) d_law_147 (fun r2 v2 H locs hv2 hP hD hS => ?_)
        obtain ⟨hP, hD⟩ := ct_swap hP hD
        obtain ⟨ga, ta⟩ := v1
        obtain ⟨gb, ub⟩ := v2
        obtain ⟨hr1, hg1, hi1⟩ := hv1
        obtain ⟨hr2, hg2, hi2⟩ := hv2
        have hg3 : gb = ga := hg2.trans hg1.symm
        subst hg3
        refine lv_icmp_eq (tgt := 506) hx hb d_law_150 (by decide) (fun _ => ?_) (fun h => absurd (hr1.trans hr2.symm) h)
        exact next h5 gb bo ta ub hB hi1 hi2 _ _ hP hD hS ls hl
      · refine lv_tableIn (off := 113) (tgt := 155) hx hb d_law_42 (by decide) (by decide) (by decide) (by decide) ?_
        refine lv_aload_n hx hb d_law_155 rfl (lv_at hl 1 rfl) ?_
        refine lv_aload_n hx hb d_law_156 rfl (lv_at hl 0 rfl) ?_
        refine lv_iload_n hx hb d_law_157 rfl (lv_at hl 3 rfl) ?_
        refine lv_iconst (v := nI 1) hx hb d_law_158 (by decide) ?_
        refine r_add hx hb d_law_159 ?_
        refine va_sld hx hb hX hbl hbA hS (vp_in_nI (by omega) (by omega)) d_law_160 ?_
        refine r_top (y := xs (i + 1)) (by rw [nI_clamp (by omega)]) ?_
        refine lv_aload_n hx hb d_law_161 rfl (lv_at hl 0 rfl) ?_
        refine lv_iload_n hx hb d_law_162 rfl (lv_at hl 3 rfl) ?_
        refine lv_iconst (v := nI 2) hx hb d_law_163 (by decide) ?_
        refine r_add hx hb d_law_164 ?_
        refine va_sld hx hb hX hbl hbA hS (vp_in_nI (by omega) (by omega)) d_law_165 ?_
        refine r_top (y := xs (i + 2)) (by rw [nI_clamp (by omega)]) ?_
        refine r_nz (q4 := 174) hx hb d_law_166 d_law_169 d_law_170 d_law_173 rfl rfl rfl rfl ?_
        refine l_calli 2 S (c_X_exit l dC dI aX cX g bo t hiX (xs (i + 1)) (decide (xs (i + 2) ≠ 0))) gv_L_X_exit hd_X_exit ⟨(Nat.le_of_ble_eq_true rfl), (Nat.le_of_ble_eq_true rfl)⟩ ⟨rfl, rfl⟩ ⟨(Nat.le_of_ble_eq_true rfl), (Nat.le_of_ble_eq_true rfl)⟩ (x_rc hKX (ct_split hP hD).1) hKX hP hD hS hA rfl hl.1 rfl (Nat.le_of_ble_eq_true rfl) d_law_174 (fun r1 v1 H locs hv1 hP hD hS => ?_)
        refine lv_aload_n hx hb d_law_177 rfl (lv_at hl 2 rfl) ?_
        refine lv_aload_n hx hb d_law_178 rfl (lv_at hl 0 rfl) ?_
        refine lv_iload_n hx hb d_law_179 rfl (lv_at hl 3 rfl) ?_
        refine lv_iconst (v := nI 1) hx hb d_law_180 (by decide) ?_
        refine r_add hx hb d_law_181 ?_
        refine va_sld hx hb hX hbl hbA hS (vp_in_nI (by omega) (by omega)) d_law_182 ?_
        refine r_top (y := xs (i + 1)) (by rw [nI_clamp (by omega)]) ?_
        refine lv_aload_n hx hb d_law_183 rfl (lv_at hl 0 rfl) ?_
        refine lv_iload_n hx hb d_law_184 rfl (lv_at hl 3 rfl) ?_
        refine lv_iconst (v := nI 2) hx hb d_law_185 (by decide) ?_
        refine r_add hx hb d_law_186 ?_
        refine va_sld hx hb hX hbl hbA hS (vp_in_nI (by omega) (by omega)) d_law_187 ?_
        refine r_top (y := xs (i + 2)) (by rw [nI_clamp (by omega)]) ?_
        refine r_nz (q4 := 196) hx hb d_law_188 d_law_191 d_law_192 d_law_195 rfl rfl rfl rfl ?_
        obtain ⟨hP, hD⟩ := ct_swap hP hD
        refine l_calli 2 S (c_M_exit l dC dI aM cM g (ct_nb9 bo) u hiM (xs (i + 1)) (decide (xs (i + 2) ≠ 0))) gv_L_M_exit hd_M_exit ⟨(Nat.le_of_ble_eq_true rfl), (Nat.le_of_ble_eq_true rfl)⟩ ⟨rfl, rfl⟩ ⟨(Nat.le_of_ble_eq_true rfl), (Nat.le_of_ble_eq_true rfl)⟩ (m_rc hKM (ct_split hP hD).1) hKM hP hD hS hA rfl hl.1 rfl (Nat.le_of_ble_eq_true rfl) d_law_196 (fun r2 v2 H locs hv2 hP hD hS => ?_)
        obtain ⟨hP, hD⟩ := ct_swap hP hD
        obtain ⟨ga, ta⟩ := v1
        obtain ⟨gb, ub⟩ := v2
        obtain ⟨hr1, hg1, hi1⟩ := hv1
        obtain ⟨hr2, hg2, hi2⟩ := hv2
        have hg3 : gb = ga := hg2.trans hg1.symm
        subst hg3
        refine lv_icmp_eq (tgt := 506) hx hb d_law_199 (by decide) (fun _ => ?_) (fun h => absurd (hr1.trans hr2.symm) h)
        exact next h5 gb bo ta ub hB hi1 hi2 _ _ hP hD hS ls hl
      · refine lv_tableIn (off := 162) (tgt := 204) hx hb d_law_42 (by decide) (by decide) (by decide) (by decide) ?_
        refine lv_aload_n hx hb d_law_204 rfl (lv_at hl 1 rfl) ?_
        refine lv_aload_n hx hb d_law_205 rfl (lv_at hl 0 rfl) ?_
        refine lv_iload_n hx hb d_law_206 rfl (lv_at hl 3 rfl) ?_
        refine lv_iconst (v := nI 1) hx hb d_law_207 (by decide) ?_
        refine r_add hx hb d_law_208 ?_
        refine va_sld hx hb hX hbl hbA hS (vp_in_nI (by omega) (by omega)) d_law_209 ?_
        refine r_top (y := xs (i + 1)) (by rw [nI_clamp (by omega)]) ?_
        refine lv_aload_n hx hb d_law_210 rfl (lv_at hl 0 rfl) ?_
        refine lv_iload_n hx hb d_law_211 rfl (lv_at hl 3 rfl) ?_
        refine lv_iconst (v := nI 2) hx hb d_law_212 (by decide) ?_
        refine r_add hx hb d_law_213 ?_
        refine va_sld hx hb hX hbl hbA hS (vp_in_nI (by omega) (by omega)) d_law_214 ?_
        refine r_top (y := xs (i + 2)) (by rw [nI_clamp (by omega)]) ?_
        refine lv_aload_n hx hb d_law_215 rfl (lv_at hl 0 rfl) ?_
        refine lv_iload_n hx hb d_law_216 rfl (lv_at hl 3 rfl) ?_
        refine lv_iconst (v := nI 3) hx hb d_law_217 (by decide) ?_
        refine r_add hx hb d_law_218 ?_
        refine va_sld hx hb hX hbl hbA hS (vp_in_nI (by omega) (by omega)) d_law_219 ?_
        refine r_top (y := xs (i + 3)) (by rw [nI_clamp (by omega)]) ?_
        refine lv_aload_n hx hb d_law_220 rfl (lv_at hl 0 rfl) ?_
        refine lv_iload_n hx hb d_law_221 rfl (lv_at hl 3 rfl) ?_
        refine lv_iconst (v := nI 4) hx hb d_law_222 (by decide) ?_
        refine r_add hx hb d_law_223 ?_
        refine va_sld hx hb hX hbl hbA hS (vp_in_nI (by omega) (by omega)) d_law_224 ?_
        refine r_top (y := xs (i + 4)) (by rw [nI_clamp (by omega)]) ?_
        refine r_nz (q4 := 233) hx hb d_law_225 d_law_228 d_law_229 d_law_232 rfl rfl rfl rfl ?_
        refine l_calli 4 S (c_X_set l dC dI aX cX g bo t (xs (i + 1)) (xs (i + 2)) (xs (i + 3)) (decide (xs (i + 4) ≠ 0))) gv_L_X_set hd_X_set ⟨(Nat.le_of_ble_eq_true rfl), (Nat.le_of_ble_eq_true rfl)⟩ ⟨rfl, rfl⟩ ⟨(Nat.le_of_ble_eq_true rfl), (Nat.le_of_ble_eq_true rfl)⟩ (x_rc hKX (ct_split hP hD).1) hKX hP hD hS hA rfl hl.1 rfl (Nat.le_of_ble_eq_true rfl) d_law_233 (fun r1 v1 H locs hv1 hP hD hS => ?_)
        refine lv_aload_n hx hb d_law_236 rfl (lv_at hl 2 rfl) ?_
        refine lv_aload_n hx hb d_law_237 rfl (lv_at hl 0 rfl) ?_
        refine lv_iload_n hx hb d_law_238 rfl (lv_at hl 3 rfl) ?_
        refine lv_iconst (v := nI 1) hx hb d_law_239 (by decide) ?_
        refine r_add hx hb d_law_240 ?_
        refine va_sld hx hb hX hbl hbA hS (vp_in_nI (by omega) (by omega)) d_law_241 ?_
        refine r_top (y := xs (i + 1)) (by rw [nI_clamp (by omega)]) ?_
        refine lv_aload_n hx hb d_law_242 rfl (lv_at hl 0 rfl) ?_
        refine lv_iload_n hx hb d_law_243 rfl (lv_at hl 3 rfl) ?_
        refine lv_iconst (v := nI 2) hx hb d_law_244 (by decide) ?_
        refine r_add hx hb d_law_245 ?_
        refine va_sld hx hb hX hbl hbA hS (vp_in_nI (by omega) (by omega)) d_law_246 ?_
        refine r_top (y := xs (i + 2)) (by rw [nI_clamp (by omega)]) ?_
        refine lv_aload_n hx hb d_law_247 rfl (lv_at hl 0 rfl) ?_
        refine lv_iload_n hx hb d_law_248 rfl (lv_at hl 3 rfl) ?_
        refine lv_iconst (v := nI 3) hx hb d_law_249 (by decide) ?_
        refine r_add hx hb d_law_250 ?_
        refine va_sld hx hb hX hbl hbA hS (vp_in_nI (by omega) (by omega)) d_law_251 ?_
        refine r_top (y := xs (i + 3)) (by rw [nI_clamp (by omega)]) ?_
        refine lv_aload_n hx hb d_law_252 rfl (lv_at hl 0 rfl) ?_
        refine lv_iload_n hx hb d_law_253 rfl (lv_at hl 3 rfl) ?_
        refine lv_iconst (v := nI 4) hx hb d_law_254 (by decide) ?_
        refine r_add hx hb d_law_255 ?_
        refine va_sld hx hb hX hbl hbA hS (vp_in_nI (by omega) (by omega)) d_law_256 ?_
        refine r_top (y := xs (i + 4)) (by rw [nI_clamp (by omega)]) ?_
        refine r_nz (q4 := 265) hx hb d_law_257 d_law_260 d_law_261 d_law_264 rfl rfl rfl rfl ?_
        obtain ⟨hP, hD⟩ := ct_swap hP hD
        refine l_calli 4 S (c_M_set l dC dI aM cM g (ct_nb9 bo) u (xs (i + 1)) (xs (i + 2)) (xs (i + 3)) (decide (xs (i + 4) ≠ 0))) gv_L_M_set hd_M_set ⟨(Nat.le_of_ble_eq_true rfl), (Nat.le_of_ble_eq_true rfl)⟩ ⟨rfl, rfl⟩ ⟨(Nat.le_of_ble_eq_true rfl), (Nat.le_of_ble_eq_true rfl)⟩ (m_rc hKM (ct_split hP hD).1) hKM hP hD hS hA rfl hl.1 rfl (Nat.le_of_ble_eq_true rfl) d_law_265 (fun r2 v2 H locs hv2 hP hD hS => ?_)
        obtain ⟨hP, hD⟩ := ct_swap hP hD
        obtain ⟨hr1, hg1⟩ := hv1
        obtain ⟨hr2, hg2⟩ := hv2
        obtain ⟨hB1, hk1⟩ := ct_set_ok hB (xs (i + 1)) (xs (i + 2)) (xs (i + 3)) (decide (xs (i + 4) ≠ 0))
        rw [hk1] at hg2
        subst hg1
        subst hg2
        refine lv_icmp_eq (tgt := 506) hx hb d_law_268 (by decide) (fun _ => ?_) (fun h => absurd (hr1.trans hr2.symm) h)
        exact next h5 g _ t u hB1 hiX hiM _ _ hP hD hS ls hl
      · refine lv_tableIn (off := 231) (tgt := 273) hx hb d_law_42 (by decide) (by decide) (by decide) (by decide) ?_
        refine lv_aload_n hx hb d_law_273 rfl (lv_at hl 1 rfl) ?_
        refine lv_aload_n hx hb d_law_274 rfl (lv_at hl 0 rfl) ?_
        refine lv_iload_n hx hb d_law_275 rfl (lv_at hl 3 rfl) ?_
        refine lv_iconst (v := nI 1) hx hb d_law_276 (by decide) ?_
        refine r_add hx hb d_law_277 ?_
        refine va_sld hx hb hX hbl hbA hS (vp_in_nI (by omega) (by omega)) d_law_278 ?_
        refine r_top (y := xs (i + 1)) (by rw [nI_clamp (by omega)]) ?_
        refine l_calli 1 S (c_X_play l dC dI aX cX g bo t hB (xs (i + 1))) gv_L_X_play hd_X_play ⟨(Nat.le_of_ble_eq_true rfl), (Nat.le_of_ble_eq_true rfl)⟩ ⟨rfl, rfl⟩ ⟨(Nat.le_of_ble_eq_true rfl), (Nat.le_of_ble_eq_true rfl)⟩ (x_rc hKX (ct_split hP hD).1) hKX hP hD hS hA rfl hl.1 rfl (Nat.le_of_ble_eq_true rfl) d_law_279 (fun r1 v1 H locs hv1 hP hD hS => ?_)
        refine lv_aload_n hx hb d_law_282 rfl (lv_at hl 2 rfl) ?_
        refine lv_aload_n hx hb d_law_283 rfl (lv_at hl 0 rfl) ?_
        refine lv_iload_n hx hb d_law_284 rfl (lv_at hl 3 rfl) ?_
        refine lv_iconst (v := nI 1) hx hb d_law_285 (by decide) ?_
        refine r_add hx hb d_law_286 ?_
        refine va_sld hx hb hX hbl hbA hS (vp_in_nI (by omega) (by omega)) d_law_287 ?_
        refine r_top (y := xs (i + 1)) (by rw [nI_clamp (by omega)]) ?_
        obtain ⟨hP, hD⟩ := ct_swap hP hD
        refine l_calli 1 S (c_M_play l dC dI aM cM g (ct_nb9 bo) u (ct_nb9_lt hB) (xs (i + 1))) gv_L_M_play hd_M_play ⟨(Nat.le_of_ble_eq_true rfl), (Nat.le_of_ble_eq_true rfl)⟩ ⟨rfl, rfl⟩ ⟨(Nat.le_of_ble_eq_true rfl), (Nat.le_of_ble_eq_true rfl)⟩ (m_rc hKM (ct_split hP hD).1) hKM hP hD hS hA rfl hl.1 rfl (Nat.le_of_ble_eq_true rfl) d_law_288 (fun r2 v2 H locs hv2 hP hD hS => ?_)
        obtain ⟨hP, hD⟩ := ct_swap hP hD
        obtain ⟨hr1, hg1⟩ := hv1
        obtain ⟨hr2, hg2⟩ := hv2
        obtain ⟨hB1, hk1⟩ := ct_play_ok (g := g) hB (xs (i + 1))
        rw [hk1] at hg2
        subst hg1
        subst hg2
        refine lv_icmp_eq (tgt := 506) hx hb d_law_291 (by decide) (fun _ => ?_) (fun h => absurd (hr1.trans hr2.symm) h)
        exact next h5 g _ t u hB1 hiX hiM _ _ hP hD hS ls hl
      · refine lv_tableIn (off := 254) (tgt := 296) hx hb d_law_42 (by decide) (by decide) (by decide) (by decide) ?_
        refine lv_aload_n hx hb d_law_296 rfl (lv_at hl 1 rfl) ?_
        refine w_callR 0 S (c_X_board l dC dI aX cX g bo t) gv_L_X_board hd_X_board ⟨(Nat.le_of_ble_eq_true rfl), (Nat.le_of_ble_eq_true rfl)⟩ ⟨rfl, rfl⟩ ⟨(Nat.le_of_ble_eq_true rfl), (Nat.le_of_ble_eq_true rfl)⟩ (x_rc hKX (ct_split hP hD).1) hKX (ct_split hP hD).1 rfl hl.1 rfl (Nat.le_of_ble_eq_true rfl) d_law_297 ?_
        refine lv_aload_n hx hb d_law_300 rfl (lv_at hl 2 rfl) ?_
        refine w_callR 0 S (c_M_board l dC dI aM cM g (ct_nb9 bo) u (ct_nb9_lt hB)) gv_L_M_board hd_M_board ⟨(Nat.le_of_ble_eq_true rfl), (Nat.le_of_ble_eq_true rfl)⟩ ⟨rfl, rfl⟩ ⟨(Nat.le_of_ble_eq_true rfl), (Nat.le_of_ble_eq_true rfl)⟩ (m_rc hKM (ct_split hP hD).2.1) hKM (ct_split hP hD).2.1 rfl hl.1 rfl (Nat.le_of_ble_eq_true rfl) d_law_301 ?_
        skip
        refine lv_icmp_eq (tgt := 506) hx hb d_law_304 (by decide) (fun _ => ?_) (fun h => absurd (ct_board_ok hB) h)
        exact next h5 g bo t u hB hiX hiM _ _ hP hD hS ls hl
      · refine lv_tableIn (off := 267) (tgt := 309) hx hb d_law_42 (by decide) (by decide) (by decide) (by decide) ?_
        refine lv_aload_n hx hb d_law_309 rfl (lv_at hl 1 rfl) ?_
        refine lv_aload_n hx hb d_law_310 rfl (lv_at hl 0 rfl) ?_
        refine lv_iload_n hx hb d_law_311 rfl (lv_at hl 3 rfl) ?_
        refine lv_iconst (v := nI 1) hx hb d_law_312 (by decide) ?_
        refine r_add hx hb d_law_313 ?_
        refine va_sld hx hb hX hbl hbA hS (vp_in_nI (by omega) (by omega)) d_law_314 ?_
        refine r_top (y := xs (i + 1)) (by rw [nI_clamp (by omega)]) ?_
        refine lv_aload_n hx hb d_law_315 rfl (lv_at hl 0 rfl) ?_
        refine lv_iload_n hx hb d_law_316 rfl (lv_at hl 3 rfl) ?_
        refine lv_iconst (v := nI 2) hx hb d_law_317 (by decide) ?_
        refine r_add hx hb d_law_318 ?_
        refine va_sld hx hb hX hbl hbA hS (vp_in_nI (by omega) (by omega)) d_law_319 ?_
        refine r_top (y := xs (i + 2)) (by rw [nI_clamp (by omega)]) ?_
        refine lv_aload_n hx hb d_law_320 rfl (lv_at hl 0 rfl) ?_
        refine lv_iload_n hx hb d_law_321 rfl (lv_at hl 3 rfl) ?_
        refine lv_iconst (v := nI 3) hx hb d_law_322 (by decide) ?_
        refine r_add hx hb d_law_323 ?_
        refine va_sld hx hb hX hbl hbA hS (vp_in_nI (by omega) (by omega)) d_law_324 ?_
        refine r_top (y := xs (i + 3)) (by rw [nI_clamp (by omega)]) ?_
        refine lv_aload_n hx hb d_law_325 rfl (lv_at hl 0 rfl) ?_
        refine lv_iload_n hx hb d_law_326 rfl (lv_at hl 3 rfl) ?_
        refine lv_iconst (v := nI 4) hx hb d_law_327 (by decide) ?_
        refine r_add hx hb d_law_328 ?_
        refine va_sld hx hb hX hbl hbA hS (vp_in_nI (by omega) (by omega)) d_law_329 ?_
        refine r_top (y := xs (i + 4)) (by rw [nI_clamp (by omega)]) ?_
        refine r_nz (q4 := 338) hx hb d_law_330 d_law_333 d_law_334 d_law_337 rfl rfl rfl rfl ?_
        refine l_calli 4 S (c_X_outcome l dC dI aX cX g bo t hiX (xs (i + 1)) (xs (i + 2)) (xs (i + 3)) (decide (xs (i + 4) ≠ 0))) gv_L_X_outcome hd_X_outcome ⟨(Nat.le_of_ble_eq_true rfl), (Nat.le_of_ble_eq_true rfl)⟩ ⟨rfl, rfl⟩ ⟨(Nat.le_of_ble_eq_true rfl), (Nat.le_of_ble_eq_true rfl)⟩ (x_rc hKX (ct_split hP hD).1) hKX hP hD hS hA rfl hl.1 rfl (Nat.le_of_ble_eq_true rfl) d_law_338 (fun r1 v1 H locs hv1 hP hD hS => ?_)
        refine lv_aload_n hx hb d_law_341 rfl (lv_at hl 2 rfl) ?_
        refine lv_aload_n hx hb d_law_342 rfl (lv_at hl 0 rfl) ?_
        refine lv_iload_n hx hb d_law_343 rfl (lv_at hl 3 rfl) ?_
        refine lv_iconst (v := nI 1) hx hb d_law_344 (by decide) ?_
        refine r_add hx hb d_law_345 ?_
        refine va_sld hx hb hX hbl hbA hS (vp_in_nI (by omega) (by omega)) d_law_346 ?_
        refine r_top (y := xs (i + 1)) (by rw [nI_clamp (by omega)]) ?_
        refine lv_aload_n hx hb d_law_347 rfl (lv_at hl 0 rfl) ?_
        refine lv_iload_n hx hb d_law_348 rfl (lv_at hl 3 rfl) ?_
        refine lv_iconst (v := nI 2) hx hb d_law_349 (by decide) ?_
        refine r_add hx hb d_law_350 ?_
        refine va_sld hx hb hX hbl hbA hS (vp_in_nI (by omega) (by omega)) d_law_351 ?_
        refine r_top (y := xs (i + 2)) (by rw [nI_clamp (by omega)]) ?_
        refine lv_aload_n hx hb d_law_352 rfl (lv_at hl 0 rfl) ?_
        refine lv_iload_n hx hb d_law_353 rfl (lv_at hl 3 rfl) ?_
        refine lv_iconst (v := nI 3) hx hb d_law_354 (by decide) ?_
        refine r_add hx hb d_law_355 ?_
        refine va_sld hx hb hX hbl hbA hS (vp_in_nI (by omega) (by omega)) d_law_356 ?_
        refine r_top (y := xs (i + 3)) (by rw [nI_clamp (by omega)]) ?_
        refine lv_aload_n hx hb d_law_357 rfl (lv_at hl 0 rfl) ?_
        refine lv_iload_n hx hb d_law_358 rfl (lv_at hl 3 rfl) ?_
        refine lv_iconst (v := nI 4) hx hb d_law_359 (by decide) ?_
        refine r_add hx hb d_law_360 ?_
        refine va_sld hx hb hX hbl hbA hS (vp_in_nI (by omega) (by omega)) d_law_361 ?_
        refine r_top (y := xs (i + 4)) (by rw [nI_clamp (by omega)]) ?_
        refine r_nz (q4 := 370) hx hb d_law_362 d_law_365 d_law_366 d_law_369 rfl rfl rfl rfl ?_
        obtain ⟨hP, hD⟩ := ct_swap hP hD
        refine l_calli 4 S (c_M_outcome l dC dI aM cM g (ct_nb9 bo) u hiM (xs (i + 1)) (xs (i + 2)) (xs (i + 3)) (decide (xs (i + 4) ≠ 0))) gv_L_M_outcome hd_M_outcome ⟨(Nat.le_of_ble_eq_true rfl), (Nat.le_of_ble_eq_true rfl)⟩ ⟨rfl, rfl⟩ ⟨(Nat.le_of_ble_eq_true rfl), (Nat.le_of_ble_eq_true rfl)⟩ (m_rc hKM (ct_split hP hD).1) hKM hP hD hS hA rfl hl.1 rfl (Nat.le_of_ble_eq_true rfl) d_law_370 (fun r2 v2 H locs hv2 hP hD hS => ?_)
        obtain ⟨hP, hD⟩ := ct_swap hP hD
        skip
        refine lv_icmp_eq (tgt := 506) hx hb d_law_373 (by decide) (fun _ => ?_) (fun h => absurd (hv1.1.trans hv2.1.symm) h)
        exact next h5 g bo v1 v2 hB hv1.2 hv2.2 _ _ hP hD hS ls hl
      · refine lv_tableIn (off := 336) (tgt := 378) hx hb d_law_42 (by decide) (by decide) (by decide) (by decide) ?_
        refine lv_aload_n hx hb d_law_378 rfl (lv_at hl 1 rfl) ?_
        refine lv_aload_n hx hb d_law_379 rfl (lv_at hl 0 rfl) ?_
        refine lv_iload_n hx hb d_law_380 rfl (lv_at hl 3 rfl) ?_
        refine lv_iconst (v := nI 1) hx hb d_law_381 (by decide) ?_
        refine r_add hx hb d_law_382 ?_
        refine va_sld hx hb hX hbl hbA hS (vp_in_nI (by omega) (by omega)) d_law_383 ?_
        refine r_top (y := xs (i + 1)) (by rw [nI_clamp (by omega)]) ?_
        refine lv_aload_n hx hb d_law_384 rfl (lv_at hl 0 rfl) ?_
        refine lv_iload_n hx hb d_law_385 rfl (lv_at hl 3 rfl) ?_
        refine lv_iconst (v := nI 2) hx hb d_law_386 (by decide) ?_
        refine r_add hx hb d_law_387 ?_
        refine va_sld hx hb hX hbl hbA hS (vp_in_nI (by omega) (by omega)) d_law_388 ?_
        refine r_top (y := xs (i + 2)) (by rw [nI_clamp (by omega)]) ?_
        refine lv_aload_n hx hb d_law_389 rfl (lv_at hl 0 rfl) ?_
        refine lv_iload_n hx hb d_law_390 rfl (lv_at hl 3 rfl) ?_
        refine lv_iconst (v := nI 3) hx hb d_law_391 (by decide) ?_
        refine r_add hx hb d_law_392 ?_
        refine va_sld hx hb hX hbl hbA hS (vp_in_nI (by omega) (by omega)) d_law_393 ?_
        refine r_top (y := xs (i + 3)) (by rw [nI_clamp (by omega)]) ?_
        refine lv_aload_n hx hb d_law_394 rfl (lv_at hl 0 rfl) ?_
        refine lv_iload_n hx hb d_law_395 rfl (lv_at hl 3 rfl) ?_
        refine lv_iconst (v := nI 4) hx hb d_law_396 (by decide) ?_
        refine r_add hx hb d_law_397 ?_
        refine va_sld hx hb hX hbl hbA hS (vp_in_nI (by omega) (by omega)) d_law_398 ?_
        refine r_top (y := xs (i + 4)) (by rw [nI_clamp (by omega)]) ?_
        refine r_nz (q4 := 407) hx hb d_law_399 d_law_402 d_law_403 d_law_406 rfl rfl rfl rfl ?_
        refine l_calli 4 S (c_X_length l dC dI aX cX g bo t hiX (xs (i + 1)) (xs (i + 2)) (xs (i + 3)) (decide (xs (i + 4) ≠ 0))) gv_L_X_length hd_X_length ⟨(Nat.le_of_ble_eq_true rfl), (Nat.le_of_ble_eq_true rfl)⟩ ⟨rfl, rfl⟩ ⟨(Nat.le_of_ble_eq_true rfl), (Nat.le_of_ble_eq_true rfl)⟩ (x_rc hKX (ct_split hP hD).1) hKX hP hD hS hA rfl hl.1 rfl (Nat.le_of_ble_eq_true rfl) d_law_407 (fun r1 v1 H locs hv1 hP hD hS => ?_)
        refine lv_aload_n hx hb d_law_410 rfl (lv_at hl 2 rfl) ?_
        refine lv_aload_n hx hb d_law_411 rfl (lv_at hl 0 rfl) ?_
        refine lv_iload_n hx hb d_law_412 rfl (lv_at hl 3 rfl) ?_
        refine lv_iconst (v := nI 1) hx hb d_law_413 (by decide) ?_
        refine r_add hx hb d_law_414 ?_
        refine va_sld hx hb hX hbl hbA hS (vp_in_nI (by omega) (by omega)) d_law_415 ?_
        refine r_top (y := xs (i + 1)) (by rw [nI_clamp (by omega)]) ?_
        refine lv_aload_n hx hb d_law_416 rfl (lv_at hl 0 rfl) ?_
        refine lv_iload_n hx hb d_law_417 rfl (lv_at hl 3 rfl) ?_
        refine lv_iconst (v := nI 2) hx hb d_law_418 (by decide) ?_
        refine r_add hx hb d_law_419 ?_
        refine va_sld hx hb hX hbl hbA hS (vp_in_nI (by omega) (by omega)) d_law_420 ?_
        refine r_top (y := xs (i + 2)) (by rw [nI_clamp (by omega)]) ?_
        refine lv_aload_n hx hb d_law_421 rfl (lv_at hl 0 rfl) ?_
        refine lv_iload_n hx hb d_law_422 rfl (lv_at hl 3 rfl) ?_
        refine lv_iconst (v := nI 3) hx hb d_law_423 (by decide) ?_
        refine r_add hx hb d_law_424 ?_
        refine va_sld hx hb hX hbl hbA hS (vp_in_nI (by omega) (by omega)) d_law_425 ?_
        refine r_top (y := xs (i + 3)) (by rw [nI_clamp (by omega)]) ?_
        refine lv_aload_n hx hb d_law_426 rfl (lv_at hl 0 rfl) ?_
        refine lv_iload_n hx hb d_law_427 rfl (lv_at hl 3 rfl) ?_
        refine lv_iconst (v := nI 4) hx hb d_law_428 (by decide) ?_
        refine r_add hx hb d_law_429 ?_
        refine va_sld hx hb hX hbl hbA hS (vp_in_nI (by omega) (by omega)) d_law_430 ?_
        refine r_top (y := xs (i + 4)) (by rw [nI_clamp (by omega)]) ?_
        refine r_nz (q4 := 439) hx hb d_law_431 d_law_434 d_law_435 d_law_438 rfl rfl rfl rfl ?_
        obtain ⟨hP, hD⟩ := ct_swap hP hD
        refine l_calli 4 S (c_M_length l dC dI aM cM g (ct_nb9 bo) u hiM (xs (i + 1)) (xs (i + 2)) (xs (i + 3)) (decide (xs (i + 4) ≠ 0))) gv_L_M_length hd_M_length ⟨(Nat.le_of_ble_eq_true rfl), (Nat.le_of_ble_eq_true rfl)⟩ ⟨rfl, rfl⟩ ⟨(Nat.le_of_ble_eq_true rfl), (Nat.le_of_ble_eq_true rfl)⟩ (m_rc hKM (ct_split hP hD).1) hKM hP hD hS hA rfl hl.1 rfl (Nat.le_of_ble_eq_true rfl) d_law_439 (fun r2 v2 H locs hv2 hP hD hS => ?_)
        obtain ⟨hP, hD⟩ := ct_swap hP hD
        skip
        refine lv_icmp_eq (tgt := 506) hx hb d_law_442 (by decide) (fun _ => ?_) (fun h => absurd (hv1.1.trans hv2.1.symm) h)
        exact next h5 g bo v1 v2 hB hv1.2 hv2.2 _ _ hP hD hS ls hl
      · refine lv_tableIn (off := 405) (tgt := 447) hx hb d_law_42 (by decide) (by decide) (by decide) (by decide) ?_
        refine lv_aload_n hx hb d_law_447 rfl (lv_at hl 1 rfl) ?_
        refine l_calli 0 S (c_X_best l dC dI aX cX g bo t hiX hB) gv_L_X_best hd_X_best ⟨(Nat.le_of_ble_eq_true rfl), (Nat.le_of_ble_eq_true rfl)⟩ ⟨rfl, rfl⟩ ⟨(Nat.le_of_ble_eq_true rfl), (Nat.le_of_ble_eq_true rfl)⟩ (x_rc hKX (ct_split hP hD).1) hKX hP hD hS hA rfl hl.1 rfl (Nat.le_of_ble_eq_true rfl) d_law_448 (fun r1 v1 H locs hv1 hP hD hS => ?_)
        refine lv_aload_n hx hb d_law_451 rfl (lv_at hl 2 rfl) ?_
        obtain ⟨hP, hD⟩ := ct_swap hP hD
        refine l_calli 0 S (c_M_best l dC dI aM cM g (ct_nb9 bo) u hiM (ct_nb9_lt hB)) gv_L_M_best hd_M_best ⟨(Nat.le_of_ble_eq_true rfl), (Nat.le_of_ble_eq_true rfl)⟩ ⟨rfl, rfl⟩ ⟨(Nat.le_of_ble_eq_true rfl), (Nat.le_of_ble_eq_true rfl)⟩ (m_rc hKM (ct_split hP hD).1) hKM hP hD hS hA rfl hl.1 rfl (Nat.le_of_ble_eq_true rfl) d_law_452 (fun r2 v2 H locs hv2 hP hD hS => ?_)
        obtain ⟨hP, hD⟩ := ct_swap hP hD
        skip
        refine lv_icmp_eq (tgt := 506) hx hb d_law_455 (by decide) (fun _ => ?_) (fun h => absurd (hv1.1.trans hv2.1.symm) h)
        exact next h5 g bo v1 v2 hB hv1.2 hv2.2 _ _ hP hD hS ls hl
      · refine lv_tableIn (off := 418) (tgt := 460) hx hb d_law_42 (by decide) (by decide) (by decide) (by decide) ?_
        refine lv_aload_n hx hb d_law_460 rfl (lv_at hl 1 rfl) ?_
        refine lv_aload_n hx hb d_law_461 rfl (lv_at hl 0 rfl) ?_
        refine lv_iload_n hx hb d_law_462 rfl (lv_at hl 3 rfl) ?_
        refine lv_iconst (v := nI 1) hx hb d_law_463 (by decide) ?_
        refine r_add hx hb d_law_464 ?_
        refine va_sld hx hb hX hbl hbA hS (vp_in_nI (by omega) (by omega)) d_law_465 ?_
        refine r_top (y := xs (i + 1)) (by rw [nI_clamp (by omega)]) ?_
        refine l_calli 1 S (c_X_total l dC dI aX cX g bo t hiX (xs (i + 1))) gv_L_X_total hd_X_total ⟨(Nat.le_of_ble_eq_true rfl), (Nat.le_of_ble_eq_true rfl)⟩ ⟨rfl, rfl⟩ ⟨(Nat.le_of_ble_eq_true rfl), (Nat.le_of_ble_eq_true rfl)⟩ (x_rc hKX (ct_split hP hD).1) hKX hP hD hS hA rfl hl.1 rfl (Nat.le_of_ble_eq_true rfl) d_law_466 (fun r1 v1 H locs hv1 hP hD hS => ?_)
        refine lv_aload_n hx hb d_law_469 rfl (lv_at hl 2 rfl) ?_
        refine lv_aload_n hx hb d_law_470 rfl (lv_at hl 0 rfl) ?_
        refine lv_iload_n hx hb d_law_471 rfl (lv_at hl 3 rfl) ?_
        refine lv_iconst (v := nI 1) hx hb d_law_472 (by decide) ?_
        refine r_add hx hb d_law_473 ?_
        refine va_sld hx hb hX hbl hbA hS (vp_in_nI (by omega) (by omega)) d_law_474 ?_
        refine r_top (y := xs (i + 1)) (by rw [nI_clamp (by omega)]) ?_
        obtain ⟨hP, hD⟩ := ct_swap hP hD
        refine l_calli 1 S (c_M_total l dC dI aM cM g (ct_nb9 bo) u hiM (xs (i + 1))) gv_L_M_total hd_M_total ⟨(Nat.le_of_ble_eq_true rfl), (Nat.le_of_ble_eq_true rfl)⟩ ⟨rfl, rfl⟩ ⟨(Nat.le_of_ble_eq_true rfl), (Nat.le_of_ble_eq_true rfl)⟩ (m_rc hKM (ct_split hP hD).1) hKM hP hD hS hA rfl hl.1 rfl (Nat.le_of_ble_eq_true rfl) d_law_475 (fun r2 v2 H locs hv2 hP hD hS => ?_)
        obtain ⟨hP, hD⟩ := ct_swap hP hD
        skip
        refine lv_icmp_eq (tgt := 506) hx hb d_law_478 (by decide) (fun _ => ?_) (fun h => absurd (hv1.1.trans hv2.1.symm) h)
        exact next h5 g bo v1 v2 hB hv1.2 hv2.2 _ _ hP hD hS ls hl
      · refine lv_tableIn (off := 441) (tgt := 483) hx hb d_law_42 (by decide) (by decide) (by decide) (by decide) ?_
        refine lv_aload_n hx hb d_law_483 rfl (lv_at hl 1 rfl) ?_
        refine lv_aload_n hx hb d_law_484 rfl (lv_at hl 0 rfl) ?_
        refine lv_iload_n hx hb d_law_485 rfl (lv_at hl 3 rfl) ?_
        refine lv_iconst (v := nI 1) hx hb d_law_486 (by decide) ?_
        refine r_add hx hb d_law_487 ?_
        refine va_sld hx hb hX hbl hbA hS (vp_in_nI (by omega) (by omega)) d_law_488 ?_
        refine r_top (y := xs (i + 1)) (by rw [nI_clamp (by omega)]) ?_
        refine l_calli 1 S (c_X_longest l dC dI aX cX g bo t hiX (xs (i + 1))) gv_L_X_longest hd_X_longest ⟨(Nat.le_of_ble_eq_true rfl), (Nat.le_of_ble_eq_true rfl)⟩ ⟨rfl, rfl⟩ ⟨(Nat.le_of_ble_eq_true rfl), (Nat.le_of_ble_eq_true rfl)⟩ (x_rc hKX (ct_split hP hD).1) hKX hP hD hS hA rfl hl.1 rfl (Nat.le_of_ble_eq_true rfl) d_law_489 (fun r1 v1 H locs hv1 hP hD hS => ?_)
        refine lv_aload_n hx hb d_law_492 rfl (lv_at hl 2 rfl) ?_
        refine lv_aload_n hx hb d_law_493 rfl (lv_at hl 0 rfl) ?_
        refine lv_iload_n hx hb d_law_494 rfl (lv_at hl 3 rfl) ?_
        refine lv_iconst (v := nI 1) hx hb d_law_495 (by decide) ?_
        refine r_add hx hb d_law_496 ?_
        refine va_sld hx hb hX hbl hbA hS (vp_in_nI (by omega) (by omega)) d_law_497 ?_
        refine r_top (y := xs (i + 1)) (by rw [nI_clamp (by omega)]) ?_
        obtain ⟨hP, hD⟩ := ct_swap hP hD
        refine l_calli 1 S (c_M_longest l dC dI aM cM g (ct_nb9 bo) u hiM (xs (i + 1))) gv_L_M_longest hd_M_longest ⟨(Nat.le_of_ble_eq_true rfl), (Nat.le_of_ble_eq_true rfl)⟩ ⟨rfl, rfl⟩ ⟨(Nat.le_of_ble_eq_true rfl), (Nat.le_of_ble_eq_true rfl)⟩ (m_rc hKM (ct_split hP hD).1) hKM hP hD hS hA rfl hl.1 rfl (Nat.le_of_ble_eq_true rfl) d_law_498 (fun r2 v2 H locs hv2 hP hD hS => ?_)
        obtain ⟨hP, hD⟩ := ct_swap hP hD
        skip
        refine lv_icmp_eq (tgt := 506) hx hb d_law_501 (by decide) (fun _ => ?_) (fun h => absurd (hv1.1.trans hv2.1.symm) h)
        exact next h5 g bo v1 v2 hB hv1.2 hv2.2 _ _ hP hD hS ls hl
      · refine lv_tableOut (tgt := 506) hx hb d_law_42 (Or.inr (by rw [nI_toInt (by omega)]; omega)) (by decide) ?_
        exact next h5 g bo t u hB hiX hiM _ _ hP hD hS ls hl
end
section
set_option maxHeartbeats 4000000 in
set_option maxRecDepth 100000 in
/-- THE LAW, from its entry -/
theorem whole_start {p : Program} {e : Env} {s : State} {m : MethodId} {below : List Frame} {meth : Method} {c : Code} (l : Launch) {b L : Nat} {xs : Nat → Int32} (hL : L ≤ 2561) (C0 : lw_At p s m meth c b L xs) : W p l e room_1 s m #[Value.ref b] below meth c s.heap [] 0 0 (lw_Z below #[Value.ref b] s) (entryFrame m ([Value.ref b] : List Value).toArray 4) := by
  obtain ⟨hx, hb, hr, hml, hown, hts0, hX, hbl, hlocks, hgv⟩ := id C0
  have hts : ∀ w ∈ ct_tbl, w.before #[Value.ref b] s = true := fun w hw => hts0 w (List.mem_filter.mp hw).1
  have S : CallFix p m c code 4 s #[Value.ref b] ct_tbl R_law := ⟨hx, hb, hml, hown, hts⟩
  have hA : ∀ q : Nat, s.heap.size ≤ q → (fun q : Nat => s.heap.size ≤ q) q := fun _ h => h
  have hbA : ¬ (fun q : Nat => s.heap.size ≤ q) b := Nat.not_le.mpr hbl
  obtain ⟨c0, iS0, hKn0⟩ := u_known (C := R_X) (T := F_X) (N := 15) (n := 15) hts i_X (hts _ mj_X)
  obtain ⟨c1, iS1, hKn1⟩ := u_known (C := R_M) (T := F_M) (N := 7) (n := 7) hts i_M (hts _ mj_M)
  obtain ⟨dC, dI, hKc⟩ : ∃ (dC : Nat → ClassId) (dI : Nat → Nat → Nat), ∀ (k : Nat) (q : vw_C), classes[k]? = some q → u_Kn s q.1 q.2.1 q.2.2 (dC k) (dI k) := by
    refine ⟨fun k => if k = 0 then c0 else c1, fun k => if k = 0 then iS0 else iS1, ?_⟩
    intro k q hq
    match k, hq with
    | 0, hq => cases hq; exact hKn0
    | 1, hq => cases hq; exact hKn1
    | k + 2, hq => simp [classes] at hq
  have hS : va_S (fun q : Nat => s.heap.size ≤ q) s.heap s.heap [] := va_S.rf
  have hK : va_K (dC, dI) classes [] s := ⟨hKc, fun k q h => by simp at h⟩
  have hP : va_P (dC, dI) classes [] s.heap := fun k q h => by simp at h
  have hD : va_D (fun q : Nat => s.heap.size ≤ q) [] := ⟨fun i j p q h => by simp at h, fun k q h => by simp at h⟩
  have hl := lv_entry ([.ref b]) (n := 4) (Nat.le_of_ble_eq_true rfl)
  rw [lg_entry_eq]
  generalize (lg_sl ([.ref b]) ++ List.replicate (4 - (lg_sl ([.ref b])).length) Slot.unset).toArray = ls at hl ⊢
  have hl : lv_has ls 4 [(0, .ref b)] := hl
  obtain ⟨x0, hx0⟩ : ∃ x : Int32, (if 0 < L then xs 0 else 0) = x := ⟨_, rfl⟩
  refine va_new (ci := 0) (fs := fX0) (C := R_X) (T := F_X) (N := 15) hx hb hts i_X t_X t_X_ok hown (hts _ mk_X) (hts _ mj_X) (hts _ mi_X) hK hP hD hS hA rfl (fun j hj => by rcases (show j = 0 ∨ j = 1 ∨ j = 2 ∨ j = 3 ∨ j = 4 ∨ j = 5 ∨ j = 6 ∨ j = 7 ∨ j = 8 ∨ j = 9 ∨ j = 10 ∨ j = 11 ∨ j = 12 ∨ j = 13 ∨ j = 14 by omega) with rfl | rfl | rfl | rfl | rfl | rfl | rfl | rfl | rfl | rfl | rfl | rfl | rfl | rfl | rfl <;> rfl) (Nat.le_of_ble_eq_true rfl) (Nat.le_of_ble_eq_true rfl) d_law_0 (fun qX H hP hD hS => ?_)
  refine W.widen (k := 1) (n := 15) (by omega) (by omega) ?_
  have hP : va_P (dC, dI) classes ([(qX, .inr (0, fX0))] ++ []) H := hP
  have hD : va_D (fun q : Nat => s.heap.size ≤ q) ([(qX, .inr (0, fX0))] ++ []) := hD
  refine lv_dup hx hb d_law_3 rfl ?_
  refine lv_aload_n hx hb d_law_4 rfl (lv_at hl 0 rfl) ?_
  refine lv_iconst (v := nI 0) hx hb d_law_5 (by decide) ?_
  refine W.callR (W.runS (As := [.ref b, .int (nI 0)]) S (c_L_cell l b L xs hL) (cwS 2 hts gs_L_L_cell rfl rfl rfl hd_L_cell ⟨(Nat.le_of_ble_eq_true rfl), (Nat.le_of_ble_eq_true rfl)⟩) ⟨fun a U g mk q => ⟨q.1, va_X.moved (u := U) (U := U.calling g mk a) (Vm.Alike.refl U.vm) q.2.1, q.2.2⟩, fun U hU hW => ⟨rfl, by rw [hU]; exact va_X.moved hW.alike (hX.kept (hS.2.1 b hbl hbA)), by rw [hU]; exact Nat.lt_of_lt_of_le hbl hS.1⟩⟩ rfl rfl hl.1 rfl (lv_room (Nat.le_of_ble_eq_true rfl)) d_law_6 ⟨(Nat.le_of_ble_eq_true rfl), (Nat.le_of_ble_eq_true rfl)⟩) ?_
  refine r_top hx0 ?_
  refine l_callI (wr := []) (wf := fun v : (Nat → Nat) × (Nat → ClassId) => wX v.1 v.2 (ct_g0 x0) ct_bo0 ct_t0) (tyf := fun v => tX v.2) 1 S (c_X_init l dC dI qX H.size x0) (cwI 1 hts (gd_I mc_X_init) rfl rfl rfl (hts _ mi_X) (hts _ ml_L_X_init) (hts _ mn_X_init) rfl (by decide +kernel) ⟨(Nat.le_of_ble_eq_true rfl), (Nat.le_of_ble_eq_true rfl)⟩) ⟨(Nat.le_of_ble_eq_true rfl), (Nat.le_of_ble_eq_true rfl)⟩ hK hP hD hS hA rfl hl.1 rfl (Nat.le_of_ble_eq_true rfl) d_law_9 (fun v1 H locs hv1 hKX hP9 hD9 hS => ?_)
  obtain ⟨aX, cX⟩ := v1
  have hv1 : aX 0 = qX := hv1
  subst hv1
  have hKX : va_K (dC, dI) classes (tX cX) s := hKX
  have hP : va_P (dC, dI) classes (wX aX cX (ct_g0 x0) ct_bo0 ct_t0) H := by rw [List.append_nil] at hP9; exact hP9
  have hD : va_D (fun q : Nat => s.heap.size ≤ q) (wX aX cX (ct_g0 x0) ct_bo0 ct_t0) := by rw [List.append_nil] at hD9; exact hD9
  refine W.widen (k := 7) (n := 1755) (by omega) (by omega) ?_
  refine lv_astore_n (lv' := [(1, .ref (aX 0)), (0, .ref b)]) hx hb d_law_12 rfl hl (by decide) rfl (fun ls hl => ?_)
  refine va_new (ci := 1) (fs := fM0) (C := R_M) (T := F_M) (N := 7) hx hb hts i_M t_M t_M_ok hown (hts _ mk_M) (hts _ mj_M) (hts _ mi_M) hK hP hD hS hA rfl (fun j hj => by rcases (show j = 0 ∨ j = 1 ∨ j = 2 ∨ j = 3 ∨ j = 4 ∨ j = 5 ∨ j = 6 by omega) with rfl | rfl | rfl | rfl | rfl | rfl | rfl <;> rfl) (Nat.le_of_ble_eq_true rfl) (Nat.le_of_ble_eq_true rfl) d_law_13 (fun qM H hP hD hS => ?_)
  refine W.widen (k := 8) (n := 1762) (by omega) (by omega) ?_
  obtain ⟨hP, hD⟩ := ct_swap hP hD
  refine lv_dup hx hb d_law_16 rfl ?_
  refine lv_aload_n hx hb d_law_17 rfl (lv_at hl 1 rfl) ?_
  refine lv_iconst (v := nI 0) hx hb d_law_18 (by decide) ?_
  refine W.callR (W.runS (As := [.ref b, .int (nI 0)]) S (c_L_cell l b L xs hL) (cwS 2 hts gs_L_L_cell rfl rfl rfl hd_L_cell ⟨(Nat.le_of_ble_eq_true rfl), (Nat.le_of_ble_eq_true rfl)⟩) ⟨fun a U g mk q => ⟨q.1, va_X.moved (u := U) (U := U.calling g mk a) (Vm.Alike.refl U.vm) q.2.1, q.2.2⟩, fun U hU hW => ⟨rfl, by rw [hU]; exact va_X.moved hW.alike (hX.kept (hS.2.1 b hbl hbA)), by rw [hU]; exact Nat.lt_of_lt_of_le hbl hS.1⟩⟩ rfl rfl hl.1 rfl (lv_room (Nat.le_of_ble_eq_true rfl)) d_law_19 ⟨(Nat.le_of_ble_eq_true rfl), (Nat.le_of_ble_eq_true rfl)⟩) ?_
  refine r_top hx0 ?_
  refine l_callI (wf := fun v : (Nat → Nat) × (Nat → ClassId) => wM v.1 v.2 (ct_g0 x0) (ct_num 0 1 5 0) ct_u0) (tyf := fun v => tM v.2) 1 S (c_M_init l dC dI qM H.size x0) (cwI 1 hts (gd_I mc_M_init) rfl rfl rfl (hts _ mi_M) (hts _ ml_L_M_init) (hts _ mn_M_init) rfl (by decide +kernel) ⟨(Nat.le_of_ble_eq_true rfl), (Nat.le_of_ble_eq_true rfl)⟩) ⟨(Nat.le_of_ble_eq_true rfl), (Nat.le_of_ble_eq_true rfl)⟩ hK hP hD hS hA rfl hl.1 rfl (Nat.le_of_ble_eq_true rfl) d_law_22 (fun v2 H locs hv2 hKM hP9 hD9 hS => ?_)
  obtain ⟨aM, cM⟩ := v2
  have hv2 : aM 0 = qM := hv2
  subst hv2
  have hKM : va_K (dC, dI) classes (tM cM) s := hKM
  obtain ⟨hP, hD⟩ := ct_swap hP9 hD9
  refine W.widen (k := 12) (n := 2668) (by omega) (by omega) ?_
  refine lv_astore_n (lv' := [(2, .ref (aM 0)), (1, .ref (aX 0)), (0, .ref b)]) hx hb d_law_25 rfl hl (by decide) rfl (fun ls hl => ?_)
  refine lv_iconst (v := nI 1) hx hb d_law_26 (by decide) ?_
  refine lv_istore_n (lv' := [(3, .int (nI 1)), (2, .ref (aM 0)), (1, .ref (aX 0)), (0, .ref b)]) hx hb d_law_27 rfl hl (by decide) rfl (fun ls hl => ?_)
  exact law_loop hL C0 hKX hKM (L + 6) 1 (by omega) (by omega) (ct_g0 x0) ct_bo0 ct_t0 ct_u0 ⟨by decide, by decide, by decide⟩ (fun z => by cases z) (fun z => by cases z) _ _ hP hD hS ls (lv_sub hl [3, 2, 1, 0] rfl)
set_option maxHeartbeats 4000000 in
theorem lw_walk (l : Launch) (b : Addr) (xs : List Int32) : MetFree l x (headSpec (Jvm.Cond.code x code maxLocals ret :: tables_1) room_1) (lw_P b xs) (fun _ _ _ _ _ => True) lw_Q := by
  refine MetFree.of_bodyS (code := code) (maxLocals := maxLocals) (ret := ret) (by decide) ?_ ?_
  · intro args s m h hn
    obtain ⟨meth, c, h1, h2, h3, h4, h5, h6, -, -⟩ := Cond.code_spec hn (atoms_spec (ws := Jvm.Cond.code x code maxLocals ret :: tables_1) h _ List.mem_cons_self)
    exact ⟨meth, c, h1, h2, h3, h4, h5, h6⟩
  · intro p e s m args below meth c s₁ B hml0 hP _
    obtain ⟨rfl, hx, hbd, hgv⟩ := hP
    obtain ⟨scr, harrAt, hlist, hof, hsmall⟩ := hx
    obtain ⟨hcb, hkn, -, -⟩ := State.arrayAt?_spec harrAt
    have hown : s.vm.findClass R_law = some m.cls := findClass_of_methodNamed B.named
    have hts0 : ∀ c ∈ (Jvm.Cond.code x code maxLocals ret :: tables_1), c.before #[Value.ref b] s = true := atoms_spec (ws := Jvm.Cond.code x code maxLocals ret :: tables_1) B.pre
    have hts : ∀ w ∈ lw_tbl, w.before #[Value.ref b] s = true := k2_hts_sels lw_privs (fun w hw => hts0 w (List.mem_cons_of_mem _ hw)) lw_privs_ok
    have hml : c.maxLocals = 4 := B.maxLocals_eq (hts0 _ List.mem_cons_self)
    have X₀ : Stand p l e room_1 s m #[Value.ref b] below meth c s₁ [] 0 0 := Stand.of_body B
    have hh0 : s₁.heap = s.heap := by rw [B.state]; rfl
    have hsz : scr.slots.size = xs.length := by rw [← Array.length_toList, hlist, List.length_map]
    have hval : ∀ j : Nat, j < xs.length → scr.slots[j]? = some (.int (xs.getD j 0)) := fun j hj => by
      rw [← Array.getElem?_toList, hlist]
      simp [hj]
    have hbl : b < s.heap.size := (Array.getElem?_eq_some_iff.mp hcb).1
    have hX : va_X b xs.length (fun j => xs.getD j 0) s s.heap := ⟨scr, hcb, hof, hkn, hsz, hval⟩
    have K : W p l e room_1 s m #[Value.ref b] below meth c s₁.heap [] 0 0 (lw_Z below #[Value.ref b] s) (entryFrame m ([Value.ref b] : List Value).toArray 4) := by
      rw [hh0]
      exact whole_start l hbd ⟨B.exec, B.bytes, B.returns, hml, hown, hts, hX, hbl, B.notSynchronized, hgv⟩
    obtain ⟨t, a1, o, b1, b2, b3⟩ := K s₁ rfl X₀
    exact ⟨t, o, a1, b1, b2, b3⟩
theorem lw_pre_spec {args : Array Value} {s : State} (h : (Jvm.Cond.and given_1 narrow_1).before args s = true) (hr : rest_1_c.before args s = true) : ∃ (b : Addr) (xs : List Int32), lw_P b xs args s := by
  have hs := flat_of_before _ h
  have hq := flat_of_before _ hr
  have hc : (Cond.count 1).before args s = true := hs _ (by decide +kernel)
  have harr : (Cond.arrayOf (.arg 0) .int).before args s = true := hs _ (by decide +kernel)
  have hle : (Cond.le (.length (.arg 0)) (.int 2561)).before args s = true := hs _ (by decide +kernel)
  have hlen : (Cond.isInt (.length (.arg 0))).before args s = true := hq _ (by decide +kernel)
  have hall : (Cond.all (.arg 0) (.isInt (.elem (.arg 0) (.index 0)))).before args s = true := hq _ (by decide +kernel)
  obtain ⟨b, xs, hb, hx⟩ := State.ints_of_pre rfl harr hlen hall
  have hsm : xs.length < 2 ^ 31 := hx.choose_spec.2.2.2
  have hev : (Term.length (.arg 0)).eval args s none [] s = some (.int xs.length.toInt32) := hx.length_eval hb
  have hv := Cond.le_ints hev (show (Term.int 2561).eval args s none [] s = some (.int 2561) from rfl)
  have hd : xs.length.toInt32 ≤ 2561 := by
    simpa [Cond.before, Cond.holds, hv] using hle
  have hN : xs.length ≤ 2561 := (Int32.ofNat_le_ofNat hsm (by decide)).mp (show Int32.ofNat xs.length ≤ Int32.ofNat 2561 from hd)
  exact ⟨b, xs, Cond.one_arg hc (show args[0]? = some (.ref b) from hb), hx, hN, h⟩
theorem lw_comes (l : Launch) : Comes l x (Jvm.Cond.code x code maxLocals ret :: tables_1) room_1 (fun tb e args s => Calls_1 tb e args s ∧ rest_1 tb e args s ∧ Pre_1 tb e args s)
    (fun _ _ args s o t => lw_Q args s o t) := by
  intro p e ha hc hk s m args below hf hfit hheap happ hpre
  obtain ⟨b, xs, hP⟩ := lw_pre_spec hpre.2.2 hpre.2.1
  obtain ⟨k, o, h1, h2, h3, hQ⟩ := lw_walk l b xs p e ha hc hk s m args below hf ((Spec.applies_iff_loose hf).mp happ).1 hP trivial
  exact ⟨k, o, h1, h2, h3, hQ⟩
theorem lw_frame {s t : State} {o : Outcome} {args : Array Value} (h : Framed s o t [] 12 2668) :
    Framed s o t (fieldLocs frame_1_writes args s ++ arrayLocs frame_1_arrays args s ++ staticLocs frame_1_statics s) 12 2668 := h
theorem lw_limb (L : Cond) (hL : ∀ (args : Array Value) (s t : State), L.after args s (.returned (some (.int 1))) t = true) :
    ArmFor flags0 classFile x code maxLocals ret World_1 tables_1 room_1 Calls_1 rest_1 Pre_1
      (fun tb e a s o t => postC L tb e a s o t ∧ Framed s o t (fieldLocs frame_1_writes a s ++ arrayLocs frame_1_arrays a s ++ staticLocs frame_1_statics s) 12 2668) := by
  intro l _ _ _ p e ha hc hk s m args below hf hfit hheap happ hpre
  obtain ⟨k, o, h1, h2, h3, rfl, hF⟩ := lw_comes l p e ha hc hk s m args below hf hfit hheap happ hpre
  exact ⟨k, _, h1, h2, h3, hL args s _, lw_frame hF⟩
theorem i_vc : Claimed_1_1 ∧ Claimed_1_2 := ⟨lw_limb limb_1_1 (fun args s t => by simp [limb_1_1, Cond.after, Cond.holds, Cond.value]), lw_limb limb_1_2 (fun args s t => Cond.after_iff.mpr (by
  first | (rw [show limb_1_2 = Cond.eq .result (.int 1) from rfl, Cond.eq_ints (x := 1) (y := 1) rfl rfl]; simp; done) | (simp [limb_1_2, Cond.value, Term.eval]; done)))⟩
end
