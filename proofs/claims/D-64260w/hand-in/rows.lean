section
/-- a private method of a class that the tables say can be made, by its rows of tables_1 -/
def lw_okq (q : MethodName × Nat) : Prop := (q.1.cls ≠ "java/lang/invoke/MethodHandle" ∧ q.1.cls ≠ "java/lang/invoke/VarHandle") ∧ Cond.instantiable q.1.cls q.2 ∈ tables_1 ∧ Cond.privateMethod q.1 ∈ tables_1 ∧ Cond.instanceMethod q.1 ∈ tables_1
theorem lw_p0 : lw_okq (⟨"HashedStore", "make", "()V"⟩, 10) := ⟨⟨by decide +kernel, by decide +kernel⟩, List.mem_of_getElem? (i := 6) (by decide +kernel), List.mem_of_getElem? (i := 20) (by decide +kernel), List.mem_of_getElem? (i := 21) (by decide +kernel)⟩
theorem lw_p1 : lw_okq (⟨"HashedStore", "nodeAt", "(II)I"⟩, 10) := ⟨⟨by decide +kernel, by decide +kernel⟩, List.mem_of_getElem? (i := 6) (by decide +kernel), List.mem_of_getElem? (i := 24) (by decide +kernel), List.mem_of_getElem? (i := 25) (by decide +kernel)⟩
theorem lw_p2 : lw_okq (⟨"HashedStore", "leaf", "(III)I"⟩, 10) := ⟨⟨by decide +kernel, by decide +kernel⟩, List.mem_of_getElem? (i := 6) (by decide +kernel), List.mem_of_getElem? (i := 28) (by decide +kernel), List.mem_of_getElem? (i := 29) (by decide +kernel)⟩
theorem lw_p3 : lw_okq (⟨"HashedStore", "wordAt", "(III)I"⟩, 10) := ⟨⟨by decide +kernel, by decide +kernel⟩, List.mem_of_getElem? (i := 6) (by decide +kernel), List.mem_of_getElem? (i := 32) (by decide +kernel), List.mem_of_getElem? (i := 33) (by decide +kernel)⟩
theorem lw_p4 : lw_okq (⟨"HashedStore", "isWord", "(II)Z"⟩, 10) := ⟨⟨by decide +kernel, by decide +kernel⟩, List.mem_of_getElem? (i := 6) (by decide +kernel), List.mem_of_getElem? (i := 84) (by decide +kernel), List.mem_of_getElem? (i := 85) (by decide +kernel)⟩
theorem lw_p5 : lw_okq (⟨"HashedStore", "isRight", "(I)Z"⟩, 10) := ⟨⟨by decide +kernel, by decide +kernel⟩, List.mem_of_getElem? (i := 6) (by decide +kernel), List.mem_of_getElem? (i := 88) (by decide +kernel), List.mem_of_getElem? (i := 89) (by decide +kernel)⟩
theorem lw_p6 : lw_okq (⟨"HashedStore", "climb", "(II)I"⟩, 10) := ⟨⟨by decide +kernel, by decide +kernel⟩, List.mem_of_getElem? (i := 6) (by decide +kernel), List.mem_of_getElem? (i := 92) (by decide +kernel), List.mem_of_getElem? (i := 93) (by decide +kernel)⟩
theorem lw_p7 : lw_okq (⟨"HashedStore", "put", "(II)Z"⟩, 10) := ⟨⟨by decide +kernel, by decide +kernel⟩, List.mem_of_getElem? (i := 6) (by decide +kernel), List.mem_of_getElem? (i := 96) (by decide +kernel), List.mem_of_getElem? (i := 97) (by decide +kernel)⟩
theorem lw_p8 : lw_okq (⟨"HashedStoreModel", "node", "(I)I"⟩, 11) := ⟨⟨by decide +kernel, by decide +kernel⟩, List.mem_of_getElem? (i := 154) (by decide +kernel), List.mem_of_getElem? (i := 164) (by decide +kernel), List.mem_of_getElem? (i := 165) (by decide +kernel)⟩
theorem lw_p9 : lw_okq (⟨"HashedStoreModel", "hash", "(I)I"⟩, 11) := ⟨⟨by decide +kernel, by decide +kernel⟩, List.mem_of_getElem? (i := 154) (by decide +kernel), List.mem_of_getElem? (i := 168) (by decide +kernel), List.mem_of_getElem? (i := 169) (by decide +kernel)⟩
theorem lw_p10 : lw_okq (⟨"HashedStoreModel", "isBlock", "(I)Z"⟩, 11) := ⟨⟨by decide +kernel, by decide +kernel⟩, List.mem_of_getElem? (i := 154) (by decide +kernel), List.mem_of_getElem? (i := 216) (by decide +kernel), List.mem_of_getElem? (i := 217) (by decide +kernel)⟩
theorem lw_p11 : lw_okq (⟨"HashedStoreModel", "isRight", "(I)Z"⟩, 11) := ⟨⟨by decide +kernel, by decide +kernel⟩, List.mem_of_getElem? (i := 154) (by decide +kernel), List.mem_of_getElem? (i := 220) (by decide +kernel), List.mem_of_getElem? (i := 221) (by decide +kernel)⟩
theorem lw_p12 : lw_okq (⟨"HashedStoreModel", "toGoal", "()V"⟩, 11) := ⟨⟨by decide +kernel, by decide +kernel⟩, List.mem_of_getElem? (i := 154) (by decide +kernel), List.mem_of_getElem? (i := 224) (by decide +kernel), List.mem_of_getElem? (i := 225) (by decide +kernel)⟩
theorem lw_p13 : lw_okq (⟨"HashedStoreModel", "way", "(IZ)I"⟩, 11) := ⟨⟨by decide +kernel, by decide +kernel⟩, List.mem_of_getElem? (i := 154) (by decide +kernel), List.mem_of_getElem? (i := 228) (by decide +kernel), List.mem_of_getElem? (i := 229) (by decide +kernel)⟩
theorem lw_p14 : lw_okq (⟨"HashedStoreModel", "put", "(I)Z"⟩, 11) := ⟨⟨by decide +kernel, by decide +kernel⟩, List.mem_of_getElem? (i := 154) (by decide +kernel), List.mem_of_getElem? (i := 232) (by decide +kernel), List.mem_of_getElem? (i := 233) (by decide +kernel)⟩
def lw_privs_1 : List (MethodName × Nat) := [(⟨"HashedStore", "make", "()V"⟩, 10), (⟨"HashedStore", "nodeAt", "(II)I"⟩, 10), (⟨"HashedStore", "leaf", "(III)I"⟩, 10), (⟨"HashedStore", "wordAt", "(III)I"⟩, 10), (⟨"HashedStore", "isWord", "(II)Z"⟩, 10), (⟨"HashedStore", "isRight", "(I)Z"⟩, 10), (⟨"HashedStore", "climb", "(II)I"⟩, 10), (⟨"HashedStore", "put", "(II)Z"⟩, 10), (⟨"HashedStoreModel", "node", "(I)I"⟩, 11), (⟨"HashedStoreModel", "hash", "(I)I"⟩, 11), (⟨"HashedStoreModel", "isBlock", "(I)Z"⟩, 11), (⟨"HashedStoreModel", "isRight", "(I)Z"⟩, 11), (⟨"HashedStoreModel", "toGoal", "()V"⟩, 11), (⟨"HashedStoreModel", "way", "(IZ)I"⟩, 11), (⟨"HashedStoreModel", "put", "(I)Z"⟩, 11)]
theorem lw_r1 : ∀ q ∈ lw_privs_1, lw_okq q := List.forall_mem_cons.mpr ⟨lw_p0, List.forall_mem_cons.mpr ⟨lw_p1, List.forall_mem_cons.mpr ⟨lw_p2, List.forall_mem_cons.mpr ⟨lw_p3, List.forall_mem_cons.mpr ⟨lw_p4, List.forall_mem_cons.mpr ⟨lw_p5, List.forall_mem_cons.mpr ⟨lw_p6, List.forall_mem_cons.mpr ⟨lw_p7, List.forall_mem_cons.mpr ⟨lw_p8, List.forall_mem_cons.mpr ⟨lw_p9, List.forall_mem_cons.mpr ⟨lw_p10, List.forall_mem_cons.mpr ⟨lw_p11, List.forall_mem_cons.mpr ⟨lw_p12, List.forall_mem_cons.mpr ⟨lw_p13, List.forall_mem_cons.mpr ⟨lw_p14, fun _ h => absurd h List.not_mem_nil⟩⟩⟩⟩⟩⟩⟩⟩⟩⟩⟩⟩⟩⟩⟩
def lw_privs : List (MethodName × Nat) := lw_privs_1
def lw_tbl : List Cond := k2_sels lw_privs ++ tables_1
theorem lw_privs_ok : ∀ q ∈ lw_privs, lw_okq q := lw_r1
/-! THE CLAIM OUT OF ONE WALK OF THE LAW'S BODY. Your part is whole_start (and what it stands on); all else here is the same for every law, but numbers. -/
def R_law : String := "HashedStoreLaw"
def lw_P (b : Addr) (xs : List Int32) (args : Array Value) (s : State) : Prop := args = #[.ref b] ∧ s.IntsAt b xs ∧ xs.length ≤ 2050 ∧ (Jvm.Cond.and given_1 narrow_1).before args s = true
def lw_Q (_ : Array Value) (s : State) (o : Outcome) (t : State) : Prop := o = .returned (some (.int 1)) ∧ Framed s o t [] 600000 7302250
def lw_Z (below : List Frame) (a : Array Value) (s : State) : State → Prop := fun t => ∃ o, t.status = .running ∧ Ended t below o ∧ lw_Q a s o t
/-- the law's own end, with 1 on the stack, nothing written that was there before, its room as the claim has it -/
theorem lw_ret {p : Program} {l : Launch} {e : Env} {s : State} {m : MethodId} {below : List Frame} {meth : Method} {c : Code} {b : Nat} (hx : p.tables.exec = Jvm.exec) (hb : c.code = code) (hr : meth.sig.returnType = ret) (hlocks : meth.locks = false) {pc : Nat} {H : Heap} {ls : Array Slot} (hdg : decode code pc = .ok (.ireturn, 1)) : W p l e room_1 s m #[Value.ref b] below meth c H [] 600000 7302250 (lw_Z below #[Value.ref b] s) (F0 m pc ls [.int 1]) := by
  intro T hT X
  obtain ⟨fs, hret, hrun, hended, hW, hframe⟩ := X.leave (v := some (.int 1)) (hlocks := hlocks) (fun h => by rw [hr] at h; cases h)
  have hmeth' : T.vm.method? m = some meth := X.method'
  refine ⟨T.setFrames fs, ?_, .returned (some (.int 1)), hrun, hended, rfl, ⟨_, rfl⟩, hW, hframe⟩
  jvm_step X.here [X.here.top, hx, hb, hdg, hmeth', hr, ret, narrow_b1]
  (try refine ⟨rfl, ?_⟩); (try refine ⟨rfl, ?_⟩)
  first | (intro acts; rw [hret _ acts rfl rfl rfl]) | rw [hret _ _ rfl rfl rfl]
  exact Steps.refl _
/-- what holds at the law's entry: the machine, the code, the tables' words (any of lw_tbl by 'hts w (by decide +kernel)'), the script of L ints xs at the cell b, what the Statement gives of the start (any of its parts by flat_of_before) -/
def lw_At (p : Program) (s : State) (m : MethodId) (meth : Method) (c : Code) (b L : Nat) (xs : Nat → Int32) : Prop :=
  p.tables.exec = Jvm.exec ∧ c.code = code ∧ meth.sig.returnType = ret ∧ c.maxLocals = 4 ∧ s.vm.findClass R_law = some m.cls ∧ (∀ w ∈ lw_tbl, w.before #[Value.ref b] s = true) ∧ va_X b L xs s s.heap ∧ b < s.heap.size ∧ meth.locks = false ∧ (Jvm.Cond.and given_1 narrow_1).before #[Value.ref b] s = true
/-- the words that every state behind keeps -/
def gw : List Cond := lw_tbl.filter goodWord
def R_x : String := "HashedStore"
def F_x : u_T := fun k => match k with
  | 0 => ("HashedStore", "blocks", "I", true)
  | 1 => ("HashedStore", "words", "I", true)
  | 2 => ("HashedStore", "area", "I", true)
  | 3 => ("HashedStore", "disk", "[I", true)
  | 4 => ("HashedStore", "way", "[I", true)
  | 5 => ("HashedStore", "slot", "I", false)
  | 6 => ("HashedStore", "rootHash", "I", false)
  | 7 => ("HashedStore", "writesLeft", "I", false)
  | 8 => ("HashedStore", "written", "I", false)
  | _ => ("HashedStore", "isDown", "Z", false)
def t_x : Nat → FieldType := fun k => match k with
  | 0 => .int
  | 1 => .int
  | 2 => .int
  | 3 => .array .int
  | 4 => .array .int
  | 5 => .int
  | 6 => .int
  | 7 => .int
  | 8 => .int
  | _ => .boolean
theorem n_x : ∀ a, a < 10 → ∀ b, b < 10 → a ≠ b → (F_x a).2.1 ≠ (F_x b).2.1 := by decide +kernel
theorem t_x_ok : ∀ k, k < 10 → parseFieldDescriptor (F_x k).2.2.1 = some (t_x k) := by decide +kernel
theorem i_x : ∀ w ∈ u_ws R_x F_x 10, w ∈ gw := by decide +kernel
theorem lk_x_blocks : Cond.fieldLink R_x 22 R_x (F_x 0).2.1 (F_x 0).2.2.1 ∈ gw := by decide +kernel
theorem lk_x_words : Cond.fieldLink R_x 25 R_x (F_x 1).2.1 (F_x 1).2.2.1 ∈ gw := by decide +kernel
theorem lk_x_area : Cond.fieldLink R_x 28 R_x (F_x 2).2.1 (F_x 2).2.2.1 ∈ gw := by decide +kernel
theorem lk_x_disk : Cond.fieldLink R_x 31 R_x (F_x 3).2.1 (F_x 3).2.2.1 ∈ gw := by decide +kernel
theorem lk_x_way : Cond.fieldLink R_x 35 R_x (F_x 4).2.1 (F_x 4).2.2.1 ∈ gw := by decide +kernel
theorem lk_x_slot : Cond.fieldLink R_x 58 R_x (F_x 5).2.1 (F_x 5).2.2.1 ∈ gw := by decide +kernel
theorem lk_x_rootHash : Cond.fieldLink R_x 61 R_x (F_x 6).2.1 (F_x 6).2.2.1 ∈ gw := by decide +kernel
theorem lk_x_writesLeft : Cond.fieldLink R_x 9 R_x (F_x 7).2.1 (F_x 7).2.2.1 ∈ gw := by decide +kernel
theorem lk_x_written : Cond.fieldLink R_x 64 R_x (F_x 8).2.1 (F_x 8).2.2.1 ∈ gw := by decide +kernel
theorem lk_x_isDown : Cond.fieldLink R_x 67 R_x (F_x 9).2.1 (F_x 9).2.2.1 ∈ gw := by decide +kernel
def R_m : String := "HashedStoreModel"
def F_m : u_T := fun k => match k with
  | 0 => ("HashedStoreModel", "depth", "I", true)
  | 1 => ("HashedStoreModel", "blocks", "I", true)
  | 2 => ("HashedStoreModel", "words", "I", true)
  | 3 => ("HashedStoreModel", "size", "I", true)
  | 4 => ("HashedStoreModel", "disk", "[I", true)
  | 5 => ("HashedStoreModel", "goal", "[I", true)
  | 6 => ("HashedStoreModel", "used", "I", false)
  | 7 => ("HashedStoreModel", "kept", "I", false)
  | 8 => ("HashedStoreModel", "done", "I", false)
  | 9 => ("HashedStoreModel", "left", "I", false)
  | _ => ("HashedStoreModel", "isDown", "Z", false)
def t_m : Nat → FieldType := fun k => match k with
  | 0 => .int
  | 1 => .int
  | 2 => .int
  | 3 => .int
  | 4 => .array .int
  | 5 => .array .int
  | 6 => .int
  | 7 => .int
  | 8 => .int
  | 9 => .int
  | _ => .boolean
theorem n_m : ∀ a, a < 11 → ∀ b, b < 11 → a ≠ b → (F_m a).2.1 ≠ (F_m b).2.1 := by decide +kernel
theorem t_m_ok : ∀ k, k < 11 → parseFieldDescriptor (F_m k).2.2.1 = some (t_m k) := by decide +kernel
theorem i_m : ∀ w ∈ u_ws R_m F_m 11, w ∈ gw := by decide +kernel
theorem lk_m_depth : Cond.fieldLink R_m 20 R_m (F_m 0).2.1 (F_m 0).2.2.1 ∈ gw := by decide +kernel
theorem lk_m_blocks : Cond.fieldLink R_m 23 R_m (F_m 1).2.1 (F_m 1).2.2.1 ∈ gw := by decide +kernel
theorem lk_m_words : Cond.fieldLink R_m 26 R_m (F_m 2).2.1 (F_m 2).2.2.1 ∈ gw := by decide +kernel
theorem lk_m_size : Cond.fieldLink R_m 29 R_m (F_m 3).2.1 (F_m 3).2.2.1 ∈ gw := by decide +kernel
theorem lk_m_disk : Cond.fieldLink R_m 7 R_m (F_m 4).2.1 (F_m 4).2.2.1 ∈ gw := by decide +kernel
theorem lk_m_goal : Cond.fieldLink R_m 13 R_m (F_m 5).2.1 (F_m 5).2.2.1 ∈ gw := by decide +kernel
theorem lk_m_used : Cond.fieldLink R_m 42 R_m (F_m 6).2.1 (F_m 6).2.2.1 ∈ gw := by decide +kernel
theorem lk_m_kept : Cond.fieldLink R_m 52 R_m (F_m 7).2.1 (F_m 7).2.2.1 ∈ gw := by decide +kernel
theorem lk_m_done : Cond.fieldLink R_m 55 R_m (F_m 8).2.1 (F_m 8).2.2.1 ∈ gw := by decide +kernel
theorem lk_m_left : Cond.fieldLink R_m 16 R_m (F_m 9).2.1 (F_m 9).2.2.1 ∈ gw := by decide +kernel
theorem lk_m_isDown : Cond.fieldLink R_m 58 R_m (F_m 10).2.1 (F_m 10).2.2.1 ∈ gw := by decide +kernel
def R_I : String := "java/lang/Integer"
abbrev classes : List vw_C := [(R_x, F_x, 10), (R_m, F_m, 11)]
/-- the words of every method here: its own code, and all that the tables say -/
def tw (y : MethodName) (b : ByteArray) (n : Nat) (r : Option FieldType) : List Cond := Cond.code y b n r :: gw
theorem good_tw {y : MethodName} {b : ByteArray} {n : Nat} {r : Option FieldType} (h : Cond.code y b n r ∈ gw) : GoodIn gw (tw y b n r) := by
  intro w hw
  have hm : w ∈ gw := by
    rcases List.mem_cons.mp hw with rfl | h1
    · exact h
    · exact h1
  exact ⟨hm, good_of_word (List.mem_filter.mp hm).2⟩
abbrev b_I_rotateLeft : ByteArray := prog_4_method_50_code
def y_I_rotateLeft : MethodName := ⟨R_I, "rotateLeft", "(II)I"⟩
abbrev w_I_rotateLeft : List Cond := tw y_I_rotateLeft b_I_rotateLeft 2 (some .int)
set_option maxRecDepth 100000 in
theorem h_I_rotateLeft : Cond.code y_I_rotateLeft b_I_rotateLeft 2 (some .int) ∈ gw := List.mem_filter.mpr ⟨List.mem_of_getElem? (i := 55) rfl, rfl⟩
abbrev b_x_init : ByteArray := prog_1_method_1_code
def y_x_init : MethodName := ⟨R_x, "<init>", "(II)V"⟩
abbrev w_x_init : List Cond := tw y_x_init b_x_init 3 none
set_option maxRecDepth 100000 in
theorem h_x_init : Cond.code y_x_init b_x_init 3 none ∈ gw := List.mem_filter.mpr ⟨List.mem_of_getElem? (i := 24) rfl, rfl⟩
abbrev b_x_mix : ByteArray := prog_1_method_2_code
def y_x_mix : MethodName := ⟨R_x, "mix", "(II)I"⟩
abbrev w_x_mix : List Cond := tw y_x_mix b_x_mix 3 (some .int)
set_option maxRecDepth 100000 in
theorem h_x_mix : Cond.code y_x_mix b_x_mix 3 (some .int) ∈ gw := List.mem_filter.mpr ⟨List.mem_of_getElem? (i := 52) rfl, rfl⟩
abbrev b_x_wordAt : ByteArray := prog_1_method_3_code
def y_x_wordAt : MethodName := ⟨R_x, "wordAt", "(III)I"⟩
abbrev w_x_wordAt : List Cond := tw y_x_wordAt b_x_wordAt 4 (some .int)
set_option maxRecDepth 100000 in
theorem h_x_wordAt : Cond.code y_x_wordAt b_x_wordAt 4 (some .int) ∈ gw := List.mem_filter.mpr ⟨List.mem_of_getElem? (i := 49) rfl, rfl⟩
abbrev b_x_nodeAt : ByteArray := prog_1_method_4_code
def y_x_nodeAt : MethodName := ⟨R_x, "nodeAt", "(II)I"⟩
abbrev w_x_nodeAt : List Cond := tw y_x_nodeAt b_x_nodeAt 3 (some .int)
set_option maxRecDepth 100000 in
theorem h_x_nodeAt : Cond.code y_x_nodeAt b_x_nodeAt 3 (some .int) ∈ gw := List.mem_filter.mpr ⟨List.mem_of_getElem? (i := 41) rfl, rfl⟩
abbrev b_x_make : ByteArray := prog_1_method_5_code
def y_x_make : MethodName := ⟨R_x, "make", "()V"⟩
abbrev w_x_make : List Cond := tw y_x_make b_x_make 2 none
set_option maxRecDepth 100000 in
theorem h_x_make : Cond.code y_x_make b_x_make 2 none ∈ gw := List.mem_filter.mpr ⟨List.mem_of_getElem? (i := 37) rfl, rfl⟩
abbrev b_x_format : ByteArray := prog_1_method_6_code
def y_x_format : MethodName := ⟨R_x, "format", "()I"⟩
abbrev w_x_format : List Cond := tw y_x_format b_x_format 1 (some .int)
set_option maxRecDepth 100000 in
theorem h_x_format : Cond.code y_x_format b_x_format 1 (some .int) ∈ gw := List.mem_filter.mpr ⟨List.mem_of_getElem? (i := 93) rfl, rfl⟩
abbrev b_x_leaf : ByteArray := prog_1_method_7_code
def y_x_leaf : MethodName := ⟨R_x, "leaf", "(III)I"⟩
abbrev w_x_leaf : List Cond := tw y_x_leaf b_x_leaf 6 (some .int)
set_option maxRecDepth 100000 in
theorem h_x_leaf : Cond.code y_x_leaf b_x_leaf 6 (some .int) ∈ gw := List.mem_filter.mpr ⟨List.mem_of_getElem? (i := 45) rfl, rfl⟩
abbrev b_x_climb : ByteArray := prog_1_method_8_code
def y_x_climb : MethodName := ⟨R_x, "climb", "(II)I"⟩
abbrev w_x_climb : List Cond := tw y_x_climb b_x_climb 6 (some .int)
set_option maxRecDepth 100000 in
theorem h_x_climb : Cond.code y_x_climb b_x_climb 6 (some .int) ∈ gw := List.mem_filter.mpr ⟨List.mem_of_getElem? (i := 109) rfl, rfl⟩
abbrev b_x_isRight : ByteArray := prog_1_method_9_code
def y_x_isRight : MethodName := ⟨R_x, "isRight", "(I)Z"⟩
abbrev w_x_isRight : List Cond := tw y_x_isRight b_x_isRight 3 (some .boolean)
set_option maxRecDepth 100000 in
theorem h_x_isRight : Cond.code y_x_isRight b_x_isRight 3 (some .boolean) ∈ gw := List.mem_filter.mpr ⟨List.mem_of_getElem? (i := 105) rfl, rfl⟩
abbrev b_x_isWord : ByteArray := prog_1_method_10_code
def y_x_isWord : MethodName := ⟨R_x, "isWord", "(II)Z"⟩
abbrev w_x_isWord : List Cond := tw y_x_isWord b_x_isWord 3 (some .boolean)
set_option maxRecDepth 100000 in
theorem h_x_isWord : Cond.code y_x_isWord b_x_isWord 3 (some .boolean) ∈ gw := List.mem_filter.mpr ⟨List.mem_of_getElem? (i := 101) rfl, rfl⟩
abbrev b_x_put : ByteArray := prog_1_method_11_code
def y_x_put : MethodName := ⟨R_x, "put", "(II)Z"⟩
abbrev w_x_put : List Cond := tw y_x_put b_x_put 3 (some .boolean)
set_option maxRecDepth 100000 in
theorem h_x_put : Cond.code y_x_put b_x_put 3 (some .boolean) ∈ gw := List.mem_filter.mpr ⟨List.mem_of_getElem? (i := 113) rfl, rfl⟩
abbrev b_x_write : ByteArray := prog_1_method_12_code
def y_x_write : MethodName := ⟨R_x, "write", "(III)I"⟩
abbrev w_x_write : List Cond := tw y_x_write b_x_write 10 (some .int)
set_option maxRecDepth 100000 in
theorem h_x_write : Cond.code y_x_write b_x_write 10 (some .int) ∈ gw := List.mem_filter.mpr ⟨List.mem_of_getElem? (i := 97) rfl, rfl⟩
abbrev b_x_isOnWay : ByteArray := prog_1_method_13_code
def y_x_isOnWay : MethodName := ⟨R_x, "isOnWay", "(II)Z"⟩
abbrev w_x_isOnWay : List Cond := tw y_x_isOnWay b_x_isOnWay 3 (some .boolean)
set_option maxRecDepth 100000 in
theorem h_x_isOnWay : Cond.code y_x_isOnWay b_x_isOnWay 3 (some .boolean) ∈ gw := List.mem_filter.mpr ⟨List.mem_of_getElem? (i := 116) rfl, rfl⟩
abbrev b_x_read : ByteArray := prog_1_method_14_code
def y_x_read : MethodName := ⟨R_x, "read", "(II)I"⟩
abbrev w_x_read : List Cond := tw y_x_read b_x_read 3 (some .int)
set_option maxRecDepth 100000 in
theorem h_x_read : Cond.code y_x_read b_x_read 3 (some .int) ∈ gw := List.mem_filter.mpr ⟨List.mem_of_getElem? (i := 120) rfl, rfl⟩
abbrev b_x_verify : ByteArray := prog_1_method_15_code
def y_x_verify : MethodName := ⟨R_x, "verify", "(I)Z"⟩
abbrev w_x_verify : List Cond := tw y_x_verify b_x_verify 2 (some .boolean)
set_option maxRecDepth 100000 in
theorem h_x_verify : Cond.code y_x_verify b_x_verify 2 (some .boolean) ∈ gw := List.mem_filter.mpr ⟨List.mem_of_getElem? (i := 124) rfl, rfl⟩
abbrev b_x_root : ByteArray := prog_1_method_16_code
def y_x_root : MethodName := ⟨R_x, "root", "()I"⟩
abbrev w_x_root : List Cond := tw y_x_root b_x_root 1 (some .int)
set_option maxRecDepth 100000 in
theorem h_x_root : Cond.code y_x_root b_x_root 1 (some .int) ∈ gw := List.mem_filter.mpr ⟨List.mem_of_getElem? (i := 128) rfl, rfl⟩
abbrev b_x_audit : ByteArray := prog_1_method_17_code
def y_x_audit : MethodName := ⟨R_x, "audit", "()I"⟩
abbrev w_x_audit : List Cond := tw y_x_audit b_x_audit 2 (some .int)
set_option maxRecDepth 100000 in
theorem h_x_audit : Cond.code y_x_audit b_x_audit 2 (some .int) ∈ gw := List.mem_filter.mpr ⟨List.mem_of_getElem? (i := 132) rfl, rfl⟩
abbrev b_x_tamper : ByteArray := prog_1_method_18_code
def y_x_tamper : MethodName := ⟨R_x, "tamper", "(II)V"⟩
abbrev w_x_tamper : List Cond := tw y_x_tamper b_x_tamper 3 none
set_option maxRecDepth 100000 in
theorem h_x_tamper : Cond.code y_x_tamper b_x_tamper 3 none ∈ gw := List.mem_filter.mpr ⟨List.mem_of_getElem? (i := 136) rfl, rfl⟩
abbrev b_x_crashAfter : ByteArray := prog_1_method_19_code
def y_x_crashAfter : MethodName := ⟨R_x, "crashAfter", "(I)V"⟩
abbrev w_x_crashAfter : List Cond := tw y_x_crashAfter b_x_crashAfter 2 none
set_option maxRecDepth 100000 in
theorem h_x_crashAfter : Cond.code y_x_crashAfter b_x_crashAfter 2 none ∈ gw := List.mem_filter.mpr ⟨List.mem_of_getElem? (i := 140) rfl, rfl⟩
abbrev b_x_recover : ByteArray := prog_1_method_20_code
def y_x_recover : MethodName := ⟨R_x, "recover", "(I)I"⟩
abbrev w_x_recover : List Cond := tw y_x_recover b_x_recover 3 (some .int)
set_option maxRecDepth 100000 in
theorem h_x_recover : Cond.code y_x_recover b_x_recover 3 (some .int) ∈ gw := List.mem_filter.mpr ⟨List.mem_of_getElem? (i := 144) rfl, rfl⟩
abbrev b_x_cells : ByteArray := prog_1_method_21_code
def y_x_cells : MethodName := ⟨R_x, "cells", "()I"⟩
abbrev w_x_cells : List Cond := tw y_x_cells b_x_cells 1 (some .int)
set_option maxRecDepth 100000 in
theorem h_x_cells : Cond.code y_x_cells b_x_cells 1 (some .int) ∈ gw := List.mem_filter.mpr ⟨List.mem_of_getElem? (i := 148) rfl, rfl⟩
abbrev b_x_peek : ByteArray := prog_1_method_22_code
def y_x_peek : MethodName := ⟨R_x, "peek", "(I)I"⟩
abbrev w_x_peek : List Cond := tw y_x_peek b_x_peek 2 (some .int)
set_option maxRecDepth 100000 in
theorem h_x_peek : Cond.code y_x_peek b_x_peek 2 (some .int) ∈ gw := List.mem_filter.mpr ⟨List.mem_of_getElem? (i := 152) rfl, rfl⟩
abbrev b_x_writes : ByteArray := prog_1_method_23_code
def y_x_writes : MethodName := ⟨R_x, "writes", "()I"⟩
abbrev w_x_writes : List Cond := tw y_x_writes b_x_writes 1 (some .int)
set_option maxRecDepth 100000 in
theorem h_x_writes : Cond.code y_x_writes b_x_writes 1 (some .int) ∈ gw := List.mem_filter.mpr ⟨List.mem_of_getElem? (i := 156) rfl, rfl⟩
abbrev b_x_slot : ByteArray := prog_1_method_24_code
def y_x_slot : MethodName := ⟨R_x, "slot", "()I"⟩
abbrev w_x_slot : List Cond := tw y_x_slot b_x_slot 1 (some .int)
set_option maxRecDepth 100000 in
theorem h_x_slot : Cond.code y_x_slot b_x_slot 1 (some .int) ∈ gw := List.mem_filter.mpr ⟨List.mem_of_getElem? (i := 160) rfl, rfl⟩
abbrev b_x_down : ByteArray := prog_1_method_25_code
def y_x_down : MethodName := ⟨R_x, "down", "()Z"⟩
abbrev w_x_down : List Cond := tw y_x_down b_x_down 1 (some .boolean)
set_option maxRecDepth 100000 in
theorem h_x_down : Cond.code y_x_down b_x_down 1 (some .boolean) ∈ gw := List.mem_filter.mpr ⟨List.mem_of_getElem? (i := 164) rfl, rfl⟩
abbrev b_m_init : ByteArray := prog_3_method_1_code
def y_m_init : MethodName := ⟨R_m, "<init>", "(II)V"⟩
abbrev w_m_init : List Cond := tw y_m_init b_m_init 4 none
set_option maxRecDepth 100000 in
theorem h_m_init : Cond.code y_m_init b_m_init 4 none ∈ gw := List.mem_filter.mpr ⟨List.mem_of_getElem? (i := 172) rfl, rfl⟩
abbrev b_m_mix : ByteArray := prog_3_method_2_code
def y_m_mix : MethodName := ⟨R_m, "mix", "(II)I"⟩
abbrev w_m_mix : List Cond := tw y_m_mix b_m_mix 3 (some .int)
set_option maxRecDepth 100000 in
theorem h_m_mix : Cond.code y_m_mix b_m_mix 3 (some .int) ∈ gw := List.mem_filter.mpr ⟨List.mem_of_getElem? (i := 188) rfl, rfl⟩
abbrev b_m_node : ByteArray := prog_3_method_3_code
def y_m_node : MethodName := ⟨R_m, "node", "(I)I"⟩
abbrev w_m_node : List Cond := tw y_m_node b_m_node 2 (some .int)
set_option maxRecDepth 100000 in
theorem h_m_node : Cond.code y_m_node b_m_node 2 (some .int) ∈ gw := List.mem_filter.mpr ⟨List.mem_of_getElem? (i := 181) rfl, rfl⟩
abbrev b_m_hash : ByteArray := prog_3_method_4_code
def y_m_hash : MethodName := ⟨R_m, "hash", "(I)I"⟩
abbrev w_m_hash : List Cond := tw y_m_hash b_m_hash 4 (some .int)
set_option maxRecDepth 100000 in
theorem h_m_hash : Cond.code y_m_hash b_m_hash 4 (some .int) ∈ gw := List.mem_filter.mpr ⟨List.mem_of_getElem? (i := 185) rfl, rfl⟩
abbrev b_m_toGoal : ByteArray := prog_3_method_5_code
def y_m_toGoal : MethodName := ⟨R_m, "toGoal", "()V"⟩
abbrev w_m_toGoal : List Cond := tw y_m_toGoal b_m_toGoal 2 none
set_option maxRecDepth 100000 in
theorem h_m_toGoal : Cond.code y_m_toGoal b_m_toGoal 2 none ∈ gw := List.mem_filter.mpr ⟨List.mem_of_getElem? (i := 241) rfl, rfl⟩
abbrev b_m_format : ByteArray := prog_3_method_6_code
def y_m_format : MethodName := ⟨R_m, "format", "()I"⟩
abbrev w_m_format : List Cond := tw y_m_format b_m_format 2 (some .int)
set_option maxRecDepth 100000 in
theorem h_m_format : Cond.code y_m_format b_m_format 2 (some .int) ∈ gw := List.mem_filter.mpr ⟨List.mem_of_getElem? (i := 177) rfl, rfl⟩
abbrev b_m_isBlock : ByteArray := prog_3_method_7_code
def y_m_isBlock : MethodName := ⟨R_m, "isBlock", "(I)Z"⟩
abbrev w_m_isBlock : List Cond := tw y_m_isBlock b_m_isBlock 2 (some .boolean)
set_option maxRecDepth 100000 in
theorem h_m_isBlock : Cond.code y_m_isBlock b_m_isBlock 2 (some .boolean) ∈ gw := List.mem_filter.mpr ⟨List.mem_of_getElem? (i := 233) rfl, rfl⟩
abbrev b_m_way : ByteArray := prog_3_method_8_code
def y_m_way : MethodName := ⟨R_m, "way", "(IZ)I"⟩
abbrev w_m_way : List Cond := tw y_m_way b_m_way 6 (some .int)
set_option maxRecDepth 100000 in
theorem h_m_way : Cond.code y_m_way b_m_way 6 (some .int) ∈ gw := List.mem_filter.mpr ⟨List.mem_of_getElem? (i := 245) rfl, rfl⟩
abbrev b_m_isRight : ByteArray := prog_3_method_9_code
def y_m_isRight : MethodName := ⟨R_m, "isRight", "(I)Z"⟩
abbrev w_m_isRight : List Cond := tw y_m_isRight b_m_isRight 3 (some .boolean)
set_option maxRecDepth 100000 in
theorem h_m_isRight : Cond.code y_m_isRight b_m_isRight 3 (some .boolean) ∈ gw := List.mem_filter.mpr ⟨List.mem_of_getElem? (i := 237) rfl, rfl⟩
abbrev b_m_put : ByteArray := prog_3_method_10_code
def y_m_put : MethodName := ⟨R_m, "put", "(I)Z"⟩
abbrev w_m_put : List Cond := tw y_m_put b_m_put 3 (some .boolean)
set_option maxRecDepth 100000 in
theorem h_m_put : Cond.code y_m_put b_m_put 3 (some .boolean) ∈ gw := List.mem_filter.mpr ⟨List.mem_of_getElem? (i := 249) rfl, rfl⟩
abbrev b_m_write : ByteArray := prog_3_method_11_code
def y_m_write : MethodName := ⟨R_m, "write", "(III)I"⟩
abbrev w_m_write : List Cond := tw y_m_write b_m_write 6 (some .int)
set_option maxRecDepth 100000 in
theorem h_m_write : Cond.code y_m_write b_m_write 6 (some .int) ∈ gw := List.mem_filter.mpr ⟨List.mem_of_getElem? (i := 229) rfl, rfl⟩
abbrev b_m_read : ByteArray := prog_3_method_12_code
def y_m_read : MethodName := ⟨R_m, "read", "(II)I"⟩
abbrev w_m_read : List Cond := tw y_m_read b_m_read 3 (some .int)
set_option maxRecDepth 100000 in
theorem h_m_read : Cond.code y_m_read b_m_read 3 (some .int) ∈ gw := List.mem_filter.mpr ⟨List.mem_of_getElem? (i := 253) rfl, rfl⟩
abbrev b_m_verify : ByteArray := prog_3_method_13_code
def y_m_verify : MethodName := ⟨R_m, "verify", "(I)Z"⟩
abbrev w_m_verify : List Cond := tw y_m_verify b_m_verify 2 (some .boolean)
set_option maxRecDepth 100000 in
theorem h_m_verify : Cond.code y_m_verify b_m_verify 2 (some .boolean) ∈ gw := List.mem_filter.mpr ⟨List.mem_of_getElem? (i := 257) rfl, rfl⟩
abbrev b_m_root : ByteArray := prog_3_method_14_code
def y_m_root : MethodName := ⟨R_m, "root", "()I"⟩
abbrev w_m_root : List Cond := tw y_m_root b_m_root 1 (some .int)
set_option maxRecDepth 100000 in
theorem h_m_root : Cond.code y_m_root b_m_root 1 (some .int) ∈ gw := List.mem_filter.mpr ⟨List.mem_of_getElem? (i := 261) rfl, rfl⟩
abbrev b_m_audit : ByteArray := prog_3_method_15_code
def y_m_audit : MethodName := ⟨R_m, "audit", "()I"⟩
abbrev w_m_audit : List Cond := tw y_m_audit b_m_audit 2 (some .int)
set_option maxRecDepth 100000 in
theorem h_m_audit : Cond.code y_m_audit b_m_audit 2 (some .int) ∈ gw := List.mem_filter.mpr ⟨List.mem_of_getElem? (i := 265) rfl, rfl⟩
abbrev b_m_tamper : ByteArray := prog_3_method_16_code
def y_m_tamper : MethodName := ⟨R_m, "tamper", "(II)V"⟩
abbrev w_m_tamper : List Cond := tw y_m_tamper b_m_tamper 3 none
set_option maxRecDepth 100000 in
theorem h_m_tamper : Cond.code y_m_tamper b_m_tamper 3 none ∈ gw := List.mem_filter.mpr ⟨List.mem_of_getElem? (i := 269) rfl, rfl⟩
abbrev b_m_crashAfter : ByteArray := prog_3_method_17_code
def y_m_crashAfter : MethodName := ⟨R_m, "crashAfter", "(I)V"⟩
abbrev w_m_crashAfter : List Cond := tw y_m_crashAfter b_m_crashAfter 2 none
set_option maxRecDepth 100000 in
theorem h_m_crashAfter : Cond.code y_m_crashAfter b_m_crashAfter 2 none ∈ gw := List.mem_filter.mpr ⟨List.mem_of_getElem? (i := 273) rfl, rfl⟩
abbrev b_m_recover : ByteArray := prog_3_method_18_code
def y_m_recover : MethodName := ⟨R_m, "recover", "(I)I"⟩
abbrev w_m_recover : List Cond := tw y_m_recover b_m_recover 3 (some .int)
set_option maxRecDepth 100000 in
theorem h_m_recover : Cond.code y_m_recover b_m_recover 3 (some .int) ∈ gw := List.mem_filter.mpr ⟨List.mem_of_getElem? (i := 277) rfl, rfl⟩
abbrev b_m_cells : ByteArray := prog_3_method_19_code
def y_m_cells : MethodName := ⟨R_m, "cells", "()I"⟩
abbrev w_m_cells : List Cond := tw y_m_cells b_m_cells 1 (some .int)
set_option maxRecDepth 100000 in
theorem h_m_cells : Cond.code y_m_cells b_m_cells 1 (some .int) ∈ gw := List.mem_filter.mpr ⟨List.mem_of_getElem? (i := 281) rfl, rfl⟩
abbrev b_m_peek : ByteArray := prog_3_method_20_code
def y_m_peek : MethodName := ⟨R_m, "peek", "(I)I"⟩
abbrev w_m_peek : List Cond := tw y_m_peek b_m_peek 2 (some .int)
set_option maxRecDepth 100000 in
theorem h_m_peek : Cond.code y_m_peek b_m_peek 2 (some .int) ∈ gw := List.mem_filter.mpr ⟨List.mem_of_getElem? (i := 285) rfl, rfl⟩
abbrev b_m_writes : ByteArray := prog_3_method_21_code
def y_m_writes : MethodName := ⟨R_m, "writes", "()I"⟩
abbrev w_m_writes : List Cond := tw y_m_writes b_m_writes 1 (some .int)
set_option maxRecDepth 100000 in
theorem h_m_writes : Cond.code y_m_writes b_m_writes 1 (some .int) ∈ gw := List.mem_filter.mpr ⟨List.mem_of_getElem? (i := 289) rfl, rfl⟩
abbrev b_m_slot : ByteArray := prog_3_method_22_code
def y_m_slot : MethodName := ⟨R_m, "slot", "()I"⟩
abbrev w_m_slot : List Cond := tw y_m_slot b_m_slot 1 (some .int)
set_option maxRecDepth 100000 in
theorem h_m_slot : Cond.code y_m_slot b_m_slot 1 (some .int) ∈ gw := List.mem_filter.mpr ⟨List.mem_of_getElem? (i := 293) rfl, rfl⟩
abbrev b_m_down : ByteArray := prog_3_method_23_code
def y_m_down : MethodName := ⟨R_m, "down", "()Z"⟩
abbrev w_m_down : List Cond := tw y_m_down b_m_down 1 (some .boolean)
set_option maxRecDepth 100000 in
theorem h_m_down : Cond.code y_m_down b_m_down 1 (some .boolean) ∈ gw := List.mem_filter.mpr ⟨List.mem_of_getElem? (i := 297) rfl, rfl⟩
abbrev b_L_cell : ByteArray := method_2_code
def y_L_cell : MethodName := ⟨R_law, "cell", "([II)I"⟩
abbrev w_L_cell : List Cond := tw y_L_cell b_L_cell 2 (some .int)
set_option maxRecDepth 100000 in
theorem h_L_cell : Cond.code y_L_cell b_L_cell 2 (some .int) ∈ gw := List.mem_filter.mpr ⟨List.mem_of_getElem? (i := 167) rfl, rfl⟩
/-- a call by (own class, place in the pool) of an instance method: what the tables say of it -/
def okV (own : String) (idx : Nat) (y : MethodName) (n : Nat) : Prop := (y.cls ≠ "java/lang/invoke/MethodHandle" ∧ y.cls ≠ "java/lang/invoke/VarHandle" ∧ (parseMethodDescriptor y.desc).map (fun d => d.parameters.length) = some n) ∧ Cond.initialized y.cls ∈ gw ∧ Cond.methodLink own idx y ∈ gw ∧ Cond.instanceMethod y ∈ gw ∧ Cond.selects y.cls y y ∈ gw
def okI (own : String) (idx : Nat) (y : MethodName) (n : Nat) : Prop := (y.cls ≠ "java/lang/invoke/MethodHandle" ∧ y.cls ≠ "java/lang/invoke/VarHandle" ∧ (parseMethodDescriptor y.desc).map (fun d => d.parameters.length) = some n) ∧ Cond.initialized y.cls ∈ gw ∧ Cond.methodLink own idx y ∈ gw ∧ Cond.instanceMethod y ∈ gw ∧ y.name = "<init>"
def okS (own : String) (idx : Nat) (y : MethodName) (n : Nat) : Prop := (y.cls ≠ "java/lang/invoke/MethodHandle" ∧ y.cls ≠ "java/lang/invoke/VarHandle" ∧ (parseMethodDescriptor y.desc).map (fun d => d.parameters.length) = some n) ∧ Cond.initialized y.cls ∈ gw ∧ Cond.methodLink own idx y ∈ gw ∧ Cond.static y ∈ gw
theorem k_L_x_init : okI R_law 15 y_x_init 2 := ⟨by decide +kernel, by decide +kernel, by decide +kernel, by decide +kernel, rfl⟩
theorem k_x_x_make : okV R_x 38 y_x_make 0 := ⟨by decide +kernel, by decide +kernel, by decide +kernel, by decide +kernel, by decide +kernel⟩
theorem k_x_x_nodeAt : okV R_x 48 y_x_nodeAt 2 := ⟨by decide +kernel, by decide +kernel, by decide +kernel, by decide +kernel, by decide +kernel⟩
theorem k_x_x_leaf : okV R_x 51 y_x_leaf 3 := ⟨by decide +kernel, by decide +kernel, by decide +kernel, by decide +kernel, by decide +kernel⟩
theorem k_x_x_wordAt : okV R_x 71 y_x_wordAt 3 := ⟨by decide +kernel, by decide +kernel, by decide +kernel, by decide +kernel, by decide +kernel⟩
theorem k_x_x_mix : okS R_x 55 y_x_mix 2 := ⟨by decide +kernel, by decide +kernel, by decide +kernel, by decide +kernel⟩
theorem k_x_I_rotateLeft : okS R_x 41 y_I_rotateLeft 2 := ⟨by decide +kernel, by decide +kernel, by decide +kernel, by decide +kernel⟩
theorem k_L_x_format : okV R_law 21 y_x_format 0 := ⟨by decide +kernel, by decide +kernel, by decide +kernel, by decide +kernel, by decide +kernel⟩
theorem k_L_x_write : okV R_law 26 y_x_write 3 := ⟨by decide +kernel, by decide +kernel, by decide +kernel, by decide +kernel, by decide +kernel⟩
theorem k_x_x_isWord : okV R_x 77 y_x_isWord 2 := ⟨by decide +kernel, by decide +kernel, by decide +kernel, by decide +kernel, by decide +kernel⟩
theorem k_x_x_isRight : okV R_x 81 y_x_isRight 1 := ⟨by decide +kernel, by decide +kernel, by decide +kernel, by decide +kernel, by decide +kernel⟩
theorem k_x_x_climb : okV R_x 74 y_x_climb 2 := ⟨by decide +kernel, by decide +kernel, by decide +kernel, by decide +kernel, by decide +kernel⟩
theorem k_x_x_put : okV R_x 85 y_x_put 2 := ⟨by decide +kernel, by decide +kernel, by decide +kernel, by decide +kernel, by decide +kernel⟩
theorem k_x_x_isOnWay : okS R_x 88 y_x_isOnWay 2 := ⟨by decide +kernel, by decide +kernel, by decide +kernel, by decide +kernel⟩
theorem k_L_x_read : okV R_law 31 y_x_read 2 := ⟨by decide +kernel, by decide +kernel, by decide +kernel, by decide +kernel, by decide +kernel⟩
theorem k_L_x_verify : okV R_law 36 y_x_verify 1 := ⟨by decide +kernel, by decide +kernel, by decide +kernel, by decide +kernel, by decide +kernel⟩
theorem k_L_x_root : okV R_law 41 y_x_root 0 := ⟨by decide +kernel, by decide +kernel, by decide +kernel, by decide +kernel, by decide +kernel⟩
theorem k_L_x_audit : okV R_law 45 y_x_audit 0 := ⟨by decide +kernel, by decide +kernel, by decide +kernel, by decide +kernel, by decide +kernel⟩
theorem k_L_x_tamper : okV R_law 49 y_x_tamper 2 := ⟨by decide +kernel, by decide +kernel, by decide +kernel, by decide +kernel, by decide +kernel⟩
theorem k_L_x_crashAfter : okV R_law 53 y_x_crashAfter 1 := ⟨by decide +kernel, by decide +kernel, by decide +kernel, by decide +kernel, by decide +kernel⟩
theorem k_L_x_recover : okV R_law 58 y_x_recover 1 := ⟨by decide +kernel, by decide +kernel, by decide +kernel, by decide +kernel, by decide +kernel⟩
theorem k_L_x_cells : okV R_law 63 y_x_cells 0 := ⟨by decide +kernel, by decide +kernel, by decide +kernel, by decide +kernel, by decide +kernel⟩
theorem k_L_x_peek : okV R_law 67 y_x_peek 1 := ⟨by decide +kernel, by decide +kernel, by decide +kernel, by decide +kernel, by decide +kernel⟩
theorem k_L_x_writes : okV R_law 71 y_x_writes 0 := ⟨by decide +kernel, by decide +kernel, by decide +kernel, by decide +kernel, by decide +kernel⟩
theorem k_L_x_slot : okV R_law 75 y_x_slot 0 := ⟨by decide +kernel, by decide +kernel, by decide +kernel, by decide +kernel, by decide +kernel⟩
theorem k_L_x_down : okV R_law 79 y_x_down 0 := ⟨by decide +kernel, by decide +kernel, by decide +kernel, by decide +kernel, by decide +kernel⟩
theorem k_L_L_cell : okS R_law 9 y_L_cell 2 := ⟨by decide +kernel, by decide +kernel, by decide +kernel, by decide +kernel⟩
theorem k_L_m_init : okI R_law 20 y_m_init 2 := ⟨by decide +kernel, by decide +kernel, by decide +kernel, by decide +kernel, rfl⟩
theorem k_m_m_format : okV R_m 32 y_m_format 0 := ⟨by decide +kernel, by decide +kernel, by decide +kernel, by decide +kernel, by decide +kernel⟩
theorem k_m_m_node : okV R_m 45 y_m_node 1 := ⟨by decide +kernel, by decide +kernel, by decide +kernel, by decide +kernel, by decide +kernel⟩
theorem k_m_m_hash : okV R_m 49 y_m_hash 1 := ⟨by decide +kernel, by decide +kernel, by decide +kernel, by decide +kernel, by decide +kernel⟩
theorem k_m_m_mix : okS R_m 38 y_m_mix 2 := ⟨by decide +kernel, by decide +kernel, by decide +kernel, by decide +kernel⟩
theorem k_L_m_format : okV R_law 25 y_m_format 0 := ⟨by decide +kernel, by decide +kernel, by decide +kernel, by decide +kernel, by decide +kernel⟩
theorem k_L_m_write : okV R_law 30 y_m_write 3 := ⟨by decide +kernel, by decide +kernel, by decide +kernel, by decide +kernel, by decide +kernel⟩
theorem k_m_m_isBlock : okV R_m 69 y_m_isBlock 1 := ⟨by decide +kernel, by decide +kernel, by decide +kernel, by decide +kernel, by decide +kernel⟩
theorem k_m_m_isRight : okV R_m 73 y_m_isRight 1 := ⟨by decide +kernel, by decide +kernel, by decide +kernel, by decide +kernel, by decide +kernel⟩
theorem k_m_m_toGoal : okV R_m 62 y_m_toGoal 0 := ⟨by decide +kernel, by decide +kernel, by decide +kernel, by decide +kernel, by decide +kernel⟩
theorem k_m_m_way : okV R_m 65 y_m_way 2 := ⟨by decide +kernel, by decide +kernel, by decide +kernel, by decide +kernel, by decide +kernel⟩
theorem k_m_m_put : okV R_m 76 y_m_put 1 := ⟨by decide +kernel, by decide +kernel, by decide +kernel, by decide +kernel, by decide +kernel⟩
theorem k_L_m_read : okV R_law 35 y_m_read 2 := ⟨by decide +kernel, by decide +kernel, by decide +kernel, by decide +kernel, by decide +kernel⟩
theorem k_L_m_verify : okV R_law 40 y_m_verify 1 := ⟨by decide +kernel, by decide +kernel, by decide +kernel, by decide +kernel, by decide +kernel⟩
theorem k_L_m_root : okV R_law 44 y_m_root 0 := ⟨by decide +kernel, by decide +kernel, by decide +kernel, by decide +kernel, by decide +kernel⟩
theorem k_L_m_audit : okV R_law 48 y_m_audit 0 := ⟨by decide +kernel, by decide +kernel, by decide +kernel, by decide +kernel, by decide +kernel⟩
theorem k_L_m_tamper : okV R_law 52 y_m_tamper 2 := ⟨by decide +kernel, by decide +kernel, by decide +kernel, by decide +kernel, by decide +kernel⟩
theorem k_L_m_crashAfter : okV R_law 57 y_m_crashAfter 1 := ⟨by decide +kernel, by decide +kernel, by decide +kernel, by decide +kernel, by decide +kernel⟩
theorem k_L_m_recover : okV R_law 62 y_m_recover 1 := ⟨by decide +kernel, by decide +kernel, by decide +kernel, by decide +kernel, by decide +kernel⟩
theorem k_L_m_cells : okV R_law 66 y_m_cells 0 := ⟨by decide +kernel, by decide +kernel, by decide +kernel, by decide +kernel, by decide +kernel⟩
theorem k_L_m_peek : okV R_law 70 y_m_peek 1 := ⟨by decide +kernel, by decide +kernel, by decide +kernel, by decide +kernel, by decide +kernel⟩
theorem k_L_m_writes : okV R_law 74 y_m_writes 0 := ⟨by decide +kernel, by decide +kernel, by decide +kernel, by decide +kernel, by decide +kernel⟩
theorem k_L_m_slot : okV R_law 78 y_m_slot 0 := ⟨by decide +kernel, by decide +kernel, by decide +kernel, by decide +kernel, by decide +kernel⟩
theorem k_L_m_down : okV R_law 83 y_m_down 0 := ⟨by decide +kernel, by decide +kernel, by decide +kernel, by decide +kernel, by decide +kernel⟩
end
section
theorem d_I_rotateLeft_0 : decode b_I_rotateLeft 0 = .ok (.iload_n 0, 1) := by decide +kernel
theorem d_I_rotateLeft_1 : decode b_I_rotateLeft 1 = .ok (.iload_n 1, 1) := by decide +kernel
theorem d_I_rotateLeft_2 : decode b_I_rotateLeft 2 = .ok (.ishl, 1) := by decide +kernel
theorem d_I_rotateLeft_3 : decode b_I_rotateLeft 3 = .ok (.iload_n 0, 1) := by decide +kernel
theorem d_I_rotateLeft_4 : decode b_I_rotateLeft 4 = .ok (.iload_n 1, 1) := by decide +kernel
theorem d_I_rotateLeft_5 : decode b_I_rotateLeft 5 = .ok (.ineg, 1) := by decide +kernel
theorem d_I_rotateLeft_6 : decode b_I_rotateLeft 6 = .ok (.iushr, 1) := by decide +kernel
theorem d_I_rotateLeft_7 : decode b_I_rotateLeft 7 = .ok (.ior, 1) := by decide +kernel
theorem d_I_rotateLeft_8 : decode b_I_rotateLeft 8 = .ok (.ireturn, 1) := by decide +kernel
theorem d_x_init_0 : decode b_x_init 0 = .ok (.aload_n 0, 1) := by decide +kernel
theorem d_x_init_1 : decode b_x_init 1 = .ok (.invokespecial 1, 3) := by decide +kernel
theorem d_x_init_4 : decode b_x_init 4 = .ok (.aload_n 0, 1) := by decide +kernel
theorem d_x_init_5 : decode b_x_init 5 = .ok (.iconst (-1), 1) := by decide +kernel
theorem d_x_init_6 : decode b_x_init 6 = .ok (.putfield 9, 3) := by decide +kernel
theorem d_x_init_9 : decode b_x_init 9 = .ok (.aload_n 0, 1) := by decide +kernel
theorem d_x_init_10 : decode b_x_init 10 = .ok (.iconst 1, 1) := by decide +kernel
theorem d_x_init_11 : decode b_x_init 11 = .ok (.iconst 0, 1) := by decide +kernel
theorem d_x_init_12 : decode b_x_init 12 = .ok (.iconst 5, 1) := by decide +kernel
theorem d_x_init_13 : decode b_x_init 13 = .ok (.iload_n 1, 1) := by decide +kernel
theorem d_x_init_14 : decode b_x_init 14 = .ok (.invokestatic 13, 3) := by decide +kernel
theorem d_x_init_17 : decode b_x_init 17 = .ok (.invokestatic 19, 3) := by decide +kernel
theorem d_x_init_20 : decode b_x_init 20 = .ok (.ishl, 1) := by decide +kernel
theorem d_x_init_21 : decode b_x_init 21 = .ok (.putfield 22, 3) := by decide +kernel
theorem d_x_init_24 : decode b_x_init 24 = .ok (.aload_n 0, 1) := by decide +kernel
theorem d_x_init_25 : decode b_x_init 25 = .ok (.iconst 1, 1) := by decide +kernel
theorem d_x_init_26 : decode b_x_init 26 = .ok (.bipush 6, 2) := by decide +kernel
theorem d_x_init_28 : decode b_x_init 28 = .ok (.iload_n 2, 1) := by decide +kernel
theorem d_x_init_29 : decode b_x_init 29 = .ok (.invokestatic 13, 3) := by decide +kernel
theorem d_x_init_32 : decode b_x_init 32 = .ok (.invokestatic 19, 3) := by decide +kernel
theorem d_x_init_35 : decode b_x_init 35 = .ok (.putfield 25, 3) := by decide +kernel
theorem d_x_init_38 : decode b_x_init 38 = .ok (.aload_n 0, 1) := by decide +kernel
theorem d_x_init_39 : decode b_x_init 39 = .ok (.aload_n 0, 1) := by decide +kernel
theorem d_x_init_40 : decode b_x_init 40 = .ok (.getfield 22, 3) := by decide +kernel
theorem d_x_init_43 : decode b_x_init 43 = .ok (.aload_n 0, 1) := by decide +kernel
theorem d_x_init_44 : decode b_x_init 44 = .ok (.getfield 25, 3) := by decide +kernel
theorem d_x_init_47 : decode b_x_init 47 = .ok (.imul, 1) := by decide +kernel
theorem d_x_init_48 : decode b_x_init 48 = .ok (.iconst 2, 1) := by decide +kernel
theorem d_x_init_49 : decode b_x_init 49 = .ok (.aload_n 0, 1) := by decide +kernel
theorem d_x_init_50 : decode b_x_init 50 = .ok (.getfield 22, 3) := by decide +kernel
theorem d_x_init_53 : decode b_x_init 53 = .ok (.imul, 1) := by decide +kernel
theorem d_x_init_54 : decode b_x_init 54 = .ok (.iadd, 1) := by decide +kernel
theorem d_x_init_55 : decode b_x_init 55 = .ok (.iconst 1, 1) := by decide +kernel
theorem d_x_init_56 : decode b_x_init 56 = .ok (.isub, 1) := by decide +kernel
theorem d_x_init_57 : decode b_x_init 57 = .ok (.putfield 28, 3) := by decide +kernel
theorem d_x_init_60 : decode b_x_init 60 = .ok (.aload_n 0, 1) := by decide +kernel
theorem d_x_init_61 : decode b_x_init 61 = .ok (.iconst 2, 1) := by decide +kernel
theorem d_x_init_62 : decode b_x_init 62 = .ok (.aload_n 0, 1) := by decide +kernel
theorem d_x_init_63 : decode b_x_init 63 = .ok (.getfield 28, 3) := by decide +kernel
theorem d_x_init_66 : decode b_x_init 66 = .ok (.imul, 1) := by decide +kernel
theorem d_x_init_67 : decode b_x_init 67 = .ok (.newarray .int, 2) := by decide +kernel
theorem d_x_init_69 : decode b_x_init 69 = .ok (.putfield 31, 3) := by decide +kernel
theorem d_x_init_72 : decode b_x_init 72 = .ok (.aload_n 0, 1) := by decide +kernel
theorem d_x_init_73 : decode b_x_init 73 = .ok (.iconst 2, 1) := by decide +kernel
theorem d_x_init_74 : decode b_x_init 74 = .ok (.aload_n 0, 1) := by decide +kernel
theorem d_x_init_75 : decode b_x_init 75 = .ok (.getfield 22, 3) := by decide +kernel
theorem d_x_init_78 : decode b_x_init 78 = .ok (.imul, 1) := by decide +kernel
theorem d_x_init_79 : decode b_x_init 79 = .ok (.newarray .int, 2) := by decide +kernel
theorem d_x_init_81 : decode b_x_init 81 = .ok (.putfield 35, 3) := by decide +kernel
theorem d_x_init_84 : decode b_x_init 84 = .ok (.aload_n 0, 1) := by decide +kernel
theorem d_x_init_85 : decode b_x_init 85 = .ok (.invokevirtual 38, 3) := by decide +kernel
theorem d_x_init_88 : decode b_x_init 88 = .ok (.return_, 1) := by decide +kernel
theorem d_x_mix_0 : decode b_x_mix 0 = .ok (.iload_n 0, 1) := by decide +kernel
theorem d_x_mix_1 : decode b_x_mix 1 = .ok (.iload_n 1, 1) := by decide +kernel
theorem d_x_mix_2 : decode b_x_mix 2 = .ok (.bipush 13, 2) := by decide +kernel
theorem d_x_mix_4 : decode b_x_mix 4 = .ok (.invokestatic 41, 3) := by decide +kernel
theorem d_x_mix_7 : decode b_x_mix 7 = .ok (.ixor, 1) := by decide +kernel
theorem d_x_mix_8 : decode b_x_mix 8 = .ok (.ldc 46, 2) := by decide +kernel
theorem d_x_mix_10 : decode b_x_mix 10 = .ok (.imul, 1) := by decide +kernel
theorem d_x_mix_11 : decode b_x_mix 11 = .ok (.istore_n 2, 1) := by decide +kernel
theorem d_x_mix_12 : decode b_x_mix 12 = .ok (.iload_n 2, 1) := by decide +kernel
theorem d_x_mix_13 : decode b_x_mix 13 = .ok (.iload_n 2, 1) := by decide +kernel
theorem d_x_mix_14 : decode b_x_mix 14 = .ok (.bipush 15, 2) := by decide +kernel
theorem d_x_mix_16 : decode b_x_mix 16 = .ok (.iushr, 1) := by decide +kernel
theorem d_x_mix_17 : decode b_x_mix 17 = .ok (.ixor, 1) := by decide +kernel
theorem d_x_mix_18 : decode b_x_mix 18 = .ok (.istore_n 2, 1) := by decide +kernel
theorem d_x_mix_19 : decode b_x_mix 19 = .ok (.iload_n 2, 1) := by decide +kernel
theorem d_x_mix_20 : decode b_x_mix 20 = .ok (.iload_n 1, 1) := by decide +kernel
theorem d_x_mix_21 : decode b_x_mix 21 = .ok (.iadd, 1) := by decide +kernel
theorem d_x_mix_22 : decode b_x_mix 22 = .ok (.ldc 47, 2) := by decide +kernel
theorem d_x_mix_24 : decode b_x_mix 24 = .ok (.imul, 1) := by decide +kernel
theorem d_x_mix_25 : decode b_x_mix 25 = .ok (.istore_n 2, 1) := by decide +kernel
theorem d_x_mix_26 : decode b_x_mix 26 = .ok (.iload_n 2, 1) := by decide +kernel
theorem d_x_mix_27 : decode b_x_mix 27 = .ok (.iload_n 2, 1) := by decide +kernel
theorem d_x_mix_28 : decode b_x_mix 28 = .ok (.bipush 14, 2) := by decide +kernel
theorem d_x_mix_30 : decode b_x_mix 30 = .ok (.iushr, 1) := by decide +kernel
theorem d_x_mix_31 : decode b_x_mix 31 = .ok (.ixor, 1) := by decide +kernel
theorem d_x_mix_32 : decode b_x_mix 32 = .ok (.ireturn, 1) := by decide +kernel
theorem d_x_wordAt_0 : decode b_x_wordAt 0 = .ok (.aload_n 0, 1) := by decide +kernel
theorem d_x_wordAt_1 : decode b_x_wordAt 1 = .ok (.getfield 28, 3) := by decide +kernel
theorem d_x_wordAt_4 : decode b_x_wordAt 4 = .ok (.iload_n 1, 1) := by decide +kernel
theorem d_x_wordAt_5 : decode b_x_wordAt 5 = .ok (.imul, 1) := by decide +kernel
theorem d_x_wordAt_6 : decode b_x_wordAt 6 = .ok (.aload_n 0, 1) := by decide +kernel
theorem d_x_wordAt_7 : decode b_x_wordAt 7 = .ok (.getfield 25, 3) := by decide +kernel
theorem d_x_wordAt_10 : decode b_x_wordAt 10 = .ok (.iload_n 2, 1) := by decide +kernel
theorem d_x_wordAt_11 : decode b_x_wordAt 11 = .ok (.imul, 1) := by decide +kernel
theorem d_x_wordAt_12 : decode b_x_wordAt 12 = .ok (.iadd, 1) := by decide +kernel
theorem d_x_wordAt_13 : decode b_x_wordAt 13 = .ok (.iload_n 3, 1) := by decide +kernel
theorem d_x_wordAt_14 : decode b_x_wordAt 14 = .ok (.iadd, 1) := by decide +kernel
theorem d_x_wordAt_15 : decode b_x_wordAt 15 = .ok (.ireturn, 1) := by decide +kernel
theorem d_x_nodeAt_0 : decode b_x_nodeAt 0 = .ok (.aload_n 0, 1) := by decide +kernel
theorem d_x_nodeAt_1 : decode b_x_nodeAt 1 = .ok (.getfield 28, 3) := by decide +kernel
theorem d_x_nodeAt_4 : decode b_x_nodeAt 4 = .ok (.iload_n 1, 1) := by decide +kernel
theorem d_x_nodeAt_5 : decode b_x_nodeAt 5 = .ok (.imul, 1) := by decide +kernel
theorem d_x_nodeAt_6 : decode b_x_nodeAt 6 = .ok (.aload_n 0, 1) := by decide +kernel
theorem d_x_nodeAt_7 : decode b_x_nodeAt 7 = .ok (.getfield 22, 3) := by decide +kernel
theorem d_x_nodeAt_10 : decode b_x_nodeAt 10 = .ok (.aload_n 0, 1) := by decide +kernel
theorem d_x_nodeAt_11 : decode b_x_nodeAt 11 = .ok (.getfield 25, 3) := by decide +kernel
theorem d_x_nodeAt_14 : decode b_x_nodeAt 14 = .ok (.imul, 1) := by decide +kernel
theorem d_x_nodeAt_15 : decode b_x_nodeAt 15 = .ok (.iadd, 1) := by decide +kernel
theorem d_x_nodeAt_16 : decode b_x_nodeAt 16 = .ok (.iload_n 2, 1) := by decide +kernel
theorem d_x_nodeAt_17 : decode b_x_nodeAt 17 = .ok (.iadd, 1) := by decide +kernel
theorem d_x_nodeAt_18 : decode b_x_nodeAt 18 = .ok (.iconst 1, 1) := by decide +kernel
theorem d_x_nodeAt_19 : decode b_x_nodeAt 19 = .ok (.isub, 1) := by decide +kernel
theorem d_x_nodeAt_20 : decode b_x_nodeAt 20 = .ok (.ireturn, 1) := by decide +kernel
theorem d_x_make_0 : decode b_x_make 0 = .ok (.iconst 0, 1) := by decide +kernel
theorem d_x_make_1 : decode b_x_make 1 = .ok (.istore_n 1, 1) := by decide +kernel
theorem d_x_make_2 : decode b_x_make 2 = .ok (.iload_n 1, 1) := by decide +kernel
theorem d_x_make_3 : decode b_x_make 3 = .ok (.aload_n 0, 1) := by decide +kernel
theorem d_x_make_4 : decode b_x_make 4 = .ok (.getfield 31, 3) := by decide +kernel
theorem d_x_make_7 : decode b_x_make 7 = .ok (.arraylength, 1) := by decide +kernel
theorem d_x_make_8 : decode b_x_make 8 = .ok (.if_icmp .ge 16, 3) := by decide +kernel
theorem d_x_make_11 : decode b_x_make 11 = .ok (.aload_n 0, 1) := by decide +kernel
theorem d_x_make_12 : decode b_x_make 12 = .ok (.getfield 31, 3) := by decide +kernel
theorem d_x_make_15 : decode b_x_make 15 = .ok (.iload_n 1, 1) := by decide +kernel
theorem d_x_make_16 : decode b_x_make 16 = .ok (.iconst 0, 1) := by decide +kernel
theorem d_x_make_17 : decode b_x_make 17 = .ok (.iastore, 1) := by decide +kernel
theorem d_x_make_18 : decode b_x_make 18 = .ok (.iinc 1 1, 3) := by decide +kernel
theorem d_x_make_21 : decode b_x_make 21 = .ok (.goto (-19), 3) := by decide +kernel
theorem d_x_make_24 : decode b_x_make 24 = .ok (.iconst 2, 1) := by decide +kernel
theorem d_x_make_25 : decode b_x_make 25 = .ok (.aload_n 0, 1) := by decide +kernel
theorem d_x_make_26 : decode b_x_make 26 = .ok (.getfield 22, 3) := by decide +kernel
theorem d_x_make_29 : decode b_x_make 29 = .ok (.imul, 1) := by decide +kernel
theorem d_x_make_30 : decode b_x_make 30 = .ok (.iconst 1, 1) := by decide +kernel
theorem d_x_make_31 : decode b_x_make 31 = .ok (.isub, 1) := by decide +kernel
theorem d_x_make_32 : decode b_x_make 32 = .ok (.istore_n 1, 1) := by decide +kernel
theorem d_x_make_33 : decode b_x_make 33 = .ok (.iload_n 1, 1) := by decide +kernel
theorem d_x_make_34 : decode b_x_make 34 = .ok (.ifCond .le 74, 3) := by decide +kernel
theorem d_x_make_37 : decode b_x_make 37 = .ok (.aload_n 0, 1) := by decide +kernel
theorem d_x_make_38 : decode b_x_make 38 = .ok (.getfield 31, 3) := by decide +kernel
theorem d_x_make_41 : decode b_x_make 41 = .ok (.aload_n 0, 1) := by decide +kernel
theorem d_x_make_42 : decode b_x_make 42 = .ok (.iconst 0, 1) := by decide +kernel
theorem d_x_make_43 : decode b_x_make 43 = .ok (.iload_n 1, 1) := by decide +kernel
theorem d_x_make_44 : decode b_x_make 44 = .ok (.invokevirtual 48, 3) := by decide +kernel
theorem d_x_make_47 : decode b_x_make 47 = .ok (.iload_n 1, 1) := by decide +kernel
theorem d_x_make_48 : decode b_x_make 48 = .ok (.aload_n 0, 1) := by decide +kernel
theorem d_x_make_49 : decode b_x_make 49 = .ok (.getfield 22, 3) := by decide +kernel
theorem d_x_make_52 : decode b_x_make 52 = .ok (.if_icmp .lt 18, 3) := by decide +kernel
theorem d_x_make_55 : decode b_x_make 55 = .ok (.aload_n 0, 1) := by decide +kernel
theorem d_x_make_56 : decode b_x_make 56 = .ok (.iload_n 1, 1) := by decide +kernel
theorem d_x_make_57 : decode b_x_make 57 = .ok (.aload_n 0, 1) := by decide +kernel
theorem d_x_make_58 : decode b_x_make 58 = .ok (.getfield 22, 3) := by decide +kernel
theorem d_x_make_61 : decode b_x_make 61 = .ok (.isub, 1) := by decide +kernel
theorem d_x_make_62 : decode b_x_make 62 = .ok (.iconst (-1), 1) := by decide +kernel
theorem d_x_make_63 : decode b_x_make 63 = .ok (.iconst 0, 1) := by decide +kernel
theorem d_x_make_64 : decode b_x_make 64 = .ok (.invokevirtual 51, 3) := by decide +kernel
theorem d_x_make_67 : decode b_x_make 67 = .ok (.goto 34, 3) := by decide +kernel
theorem d_x_make_70 : decode b_x_make 70 = .ok (.aload_n 0, 1) := by decide +kernel
theorem d_x_make_71 : decode b_x_make 71 = .ok (.getfield 31, 3) := by decide +kernel
theorem d_x_make_74 : decode b_x_make 74 = .ok (.aload_n 0, 1) := by decide +kernel
theorem d_x_make_75 : decode b_x_make 75 = .ok (.iconst 0, 1) := by decide +kernel
theorem d_x_make_76 : decode b_x_make 76 = .ok (.iconst 2, 1) := by decide +kernel
theorem d_x_make_77 : decode b_x_make 77 = .ok (.iload_n 1, 1) := by decide +kernel
theorem d_x_make_78 : decode b_x_make 78 = .ok (.imul, 1) := by decide +kernel
theorem d_x_make_79 : decode b_x_make 79 = .ok (.invokevirtual 48, 3) := by decide +kernel
theorem d_x_make_82 : decode b_x_make 82 = .ok (.iaload, 1) := by decide +kernel
theorem d_x_make_83 : decode b_x_make 83 = .ok (.aload_n 0, 1) := by decide +kernel
theorem d_x_make_84 : decode b_x_make 84 = .ok (.getfield 31, 3) := by decide +kernel
theorem d_x_make_87 : decode b_x_make 87 = .ok (.aload_n 0, 1) := by decide +kernel
theorem d_x_make_88 : decode b_x_make 88 = .ok (.iconst 0, 1) := by decide +kernel
theorem d_x_make_89 : decode b_x_make 89 = .ok (.iconst 2, 1) := by decide +kernel
theorem d_x_make_90 : decode b_x_make 90 = .ok (.iload_n 1, 1) := by decide +kernel
theorem d_x_make_91 : decode b_x_make 91 = .ok (.imul, 1) := by decide +kernel
theorem d_x_make_92 : decode b_x_make 92 = .ok (.iconst 1, 1) := by decide +kernel
theorem d_x_make_93 : decode b_x_make 93 = .ok (.iadd, 1) := by decide +kernel
theorem d_x_make_94 : decode b_x_make 94 = .ok (.invokevirtual 48, 3) := by decide +kernel
theorem d_x_make_97 : decode b_x_make 97 = .ok (.iaload, 1) := by decide +kernel
theorem d_x_make_98 : decode b_x_make 98 = .ok (.invokestatic 55, 3) := by decide +kernel
theorem d_x_make_101 : decode b_x_make 101 = .ok (.iastore, 1) := by decide +kernel
theorem d_x_make_102 : decode b_x_make 102 = .ok (.iinc 1 (-1), 3) := by decide +kernel
theorem d_x_make_105 : decode b_x_make 105 = .ok (.goto (-72), 3) := by decide +kernel
theorem d_x_make_108 : decode b_x_make 108 = .ok (.aload_n 0, 1) := by decide +kernel
theorem d_x_make_109 : decode b_x_make 109 = .ok (.iconst 0, 1) := by decide +kernel
theorem d_x_make_110 : decode b_x_make 110 = .ok (.putfield 58, 3) := by decide +kernel
theorem d_x_make_113 : decode b_x_make 113 = .ok (.aload_n 0, 1) := by decide +kernel
theorem d_x_make_114 : decode b_x_make 114 = .ok (.aload_n 0, 1) := by decide +kernel
theorem d_x_make_115 : decode b_x_make 115 = .ok (.getfield 31, 3) := by decide +kernel
theorem d_x_make_118 : decode b_x_make 118 = .ok (.aload_n 0, 1) := by decide +kernel
theorem d_x_make_119 : decode b_x_make 119 = .ok (.iconst 0, 1) := by decide +kernel
theorem d_x_make_120 : decode b_x_make 120 = .ok (.iconst 1, 1) := by decide +kernel
theorem d_x_make_121 : decode b_x_make 121 = .ok (.invokevirtual 48, 3) := by decide +kernel
theorem d_x_make_124 : decode b_x_make 124 = .ok (.iaload, 1) := by decide +kernel
theorem d_x_make_125 : decode b_x_make 125 = .ok (.putfield 61, 3) := by decide +kernel
theorem d_x_make_128 : decode b_x_make 128 = .ok (.aload_n 0, 1) := by decide +kernel
theorem d_x_make_129 : decode b_x_make 129 = .ok (.iconst (-1), 1) := by decide +kernel
theorem d_x_make_130 : decode b_x_make 130 = .ok (.putfield 9, 3) := by decide +kernel
theorem d_x_make_133 : decode b_x_make 133 = .ok (.aload_n 0, 1) := by decide +kernel
theorem d_x_make_134 : decode b_x_make 134 = .ok (.iconst 0, 1) := by decide +kernel
theorem d_x_make_135 : decode b_x_make 135 = .ok (.putfield 64, 3) := by decide +kernel
theorem d_x_make_138 : decode b_x_make 138 = .ok (.aload_n 0, 1) := by decide +kernel
theorem d_x_make_139 : decode b_x_make 139 = .ok (.iconst 0, 1) := by decide +kernel
theorem d_x_make_140 : decode b_x_make 140 = .ok (.putfield 67, 3) := by decide +kernel
theorem d_x_make_143 : decode b_x_make 143 = .ok (.return_, 1) := by decide +kernel
theorem d_x_format_0 : decode b_x_format 0 = .ok (.aload_n 0, 1) := by decide +kernel
theorem d_x_format_1 : decode b_x_format 1 = .ok (.invokevirtual 38, 3) := by decide +kernel
theorem d_x_format_4 : decode b_x_format 4 = .ok (.iconst 0, 1) := by decide +kernel
theorem d_x_format_5 : decode b_x_format 5 = .ok (.ireturn, 1) := by decide +kernel
theorem d_x_leaf_0 : decode b_x_leaf 0 = .ok (.iload_n 1, 1) := by decide +kernel
theorem d_x_leaf_1 : decode b_x_leaf 1 = .ok (.istore 4, 2) := by decide +kernel
theorem d_x_leaf_3 : decode b_x_leaf 3 = .ok (.iconst 0, 1) := by decide +kernel
theorem d_x_leaf_4 : decode b_x_leaf 4 = .ok (.istore 5, 2) := by decide +kernel
theorem d_x_leaf_6 : decode b_x_leaf 6 = .ok (.iload 5, 2) := by decide +kernel
theorem d_x_leaf_8 : decode b_x_leaf 8 = .ok (.aload_n 0, 1) := by decide +kernel
theorem d_x_leaf_9 : decode b_x_leaf 9 = .ok (.getfield 25, 3) := by decide +kernel
theorem d_x_leaf_12 : decode b_x_leaf 12 = .ok (.if_icmp .ge 42, 3) := by decide +kernel
theorem d_x_leaf_15 : decode b_x_leaf 15 = .ok (.iload 4, 2) := by decide +kernel
theorem d_x_leaf_17 : decode b_x_leaf 17 = .ok (.iload 5, 2) := by decide +kernel
theorem d_x_leaf_19 : decode b_x_leaf 19 = .ok (.iload_n 2, 1) := by decide +kernel
theorem d_x_leaf_20 : decode b_x_leaf 20 = .ok (.if_icmp .ne 7, 3) := by decide +kernel
theorem d_x_leaf_23 : decode b_x_leaf 23 = .ok (.iload_n 3, 1) := by decide +kernel
theorem d_x_leaf_24 : decode b_x_leaf 24 = .ok (.goto 19, 3) := by decide +kernel
theorem d_x_leaf_27 : decode b_x_leaf 27 = .ok (.aload_n 0, 1) := by decide +kernel
theorem d_x_leaf_28 : decode b_x_leaf 28 = .ok (.getfield 31, 3) := by decide +kernel
theorem d_x_leaf_31 : decode b_x_leaf 31 = .ok (.aload_n 0, 1) := by decide +kernel
theorem d_x_leaf_32 : decode b_x_leaf 32 = .ok (.aload_n 0, 1) := by decide +kernel
theorem d_x_leaf_33 : decode b_x_leaf 33 = .ok (.getfield 58, 3) := by decide +kernel
theorem d_x_leaf_36 : decode b_x_leaf 36 = .ok (.iload_n 1, 1) := by decide +kernel
theorem d_x_leaf_37 : decode b_x_leaf 37 = .ok (.iload 5, 2) := by decide +kernel
theorem d_x_leaf_39 : decode b_x_leaf 39 = .ok (.invokevirtual 71, 3) := by decide +kernel
theorem d_x_leaf_42 : decode b_x_leaf 42 = .ok (.iaload, 1) := by decide +kernel
theorem d_x_leaf_43 : decode b_x_leaf 43 = .ok (.invokestatic 55, 3) := by decide +kernel
theorem d_x_leaf_46 : decode b_x_leaf 46 = .ok (.istore 4, 2) := by decide +kernel
theorem d_x_leaf_48 : decode b_x_leaf 48 = .ok (.iinc 5 1, 3) := by decide +kernel
theorem d_x_leaf_51 : decode b_x_leaf 51 = .ok (.goto (-45), 3) := by decide +kernel
theorem d_x_leaf_54 : decode b_x_leaf 54 = .ok (.iload 4, 2) := by decide +kernel
theorem d_x_leaf_56 : decode b_x_leaf 56 = .ok (.ireturn, 1) := by decide +kernel
theorem d_x_climb_0 : decode b_x_climb 0 = .ok (.iload_n 2, 1) := by decide +kernel
theorem d_x_climb_1 : decode b_x_climb 1 = .ok (.istore_n 3, 1) := by decide +kernel
theorem d_x_climb_2 : decode b_x_climb 2 = .ok (.aload_n 0, 1) := by decide +kernel
theorem d_x_climb_3 : decode b_x_climb 3 = .ok (.getfield 22, 3) := by decide +kernel
theorem d_x_climb_6 : decode b_x_climb 6 = .ok (.iload_n 1, 1) := by decide +kernel
theorem d_x_climb_7 : decode b_x_climb 7 = .ok (.iadd, 1) := by decide +kernel
theorem d_x_climb_8 : decode b_x_climb 8 = .ok (.istore 4, 2) := by decide +kernel
theorem d_x_climb_10 : decode b_x_climb 10 = .ok (.aload_n 0, 1) := by decide +kernel
theorem d_x_climb_11 : decode b_x_climb 11 = .ok (.getfield 35, 3) := by decide +kernel
theorem d_x_climb_14 : decode b_x_climb 14 = .ok (.iload 4, 2) := by decide +kernel
theorem d_x_climb_16 : decode b_x_climb 16 = .ok (.iload_n 3, 1) := by decide +kernel
theorem d_x_climb_17 : decode b_x_climb 17 = .ok (.iastore, 1) := by decide +kernel
theorem d_x_climb_18 : decode b_x_climb 18 = .ok (.iload 4, 2) := by decide +kernel
theorem d_x_climb_20 : decode b_x_climb 20 = .ok (.iconst 1, 1) := by decide +kernel
theorem d_x_climb_21 : decode b_x_climb 21 = .ok (.if_icmp .le 62, 3) := by decide +kernel
theorem d_x_climb_24 : decode b_x_climb 24 = .ok (.aload_n 0, 1) := by decide +kernel
theorem d_x_climb_25 : decode b_x_climb 25 = .ok (.getfield 31, 3) := by decide +kernel
theorem d_x_climb_28 : decode b_x_climb 28 = .ok (.aload_n 0, 1) := by decide +kernel
theorem d_x_climb_29 : decode b_x_climb 29 = .ok (.aload_n 0, 1) := by decide +kernel
theorem d_x_climb_30 : decode b_x_climb 30 = .ok (.getfield 58, 3) := by decide +kernel
theorem d_x_climb_33 : decode b_x_climb 33 = .ok (.iload 4, 2) := by decide +kernel
theorem d_x_climb_35 : decode b_x_climb 35 = .ok (.iconst 1, 1) := by decide +kernel
theorem d_x_climb_36 : decode b_x_climb 36 = .ok (.ixor, 1) := by decide +kernel
theorem d_x_climb_37 : decode b_x_climb 37 = .ok (.invokevirtual 48, 3) := by decide +kernel
theorem d_x_climb_40 : decode b_x_climb 40 = .ok (.iaload, 1) := by decide +kernel
theorem d_x_climb_41 : decode b_x_climb 41 = .ok (.istore 5, 2) := by decide +kernel
theorem d_x_climb_43 : decode b_x_climb 43 = .ok (.iload 4, 2) := by decide +kernel
theorem d_x_climb_45 : decode b_x_climb 45 = .ok (.iconst 1, 1) := by decide +kernel
theorem d_x_climb_46 : decode b_x_climb 46 = .ok (.iand, 1) := by decide +kernel
theorem d_x_climb_47 : decode b_x_climb 47 = .ok (.ifCond .ne 12, 3) := by decide +kernel
theorem d_x_climb_50 : decode b_x_climb 50 = .ok (.iload_n 3, 1) := by decide +kernel
theorem d_x_climb_51 : decode b_x_climb 51 = .ok (.iload 5, 2) := by decide +kernel
theorem d_x_climb_53 : decode b_x_climb 53 = .ok (.invokestatic 55, 3) := by decide +kernel
theorem d_x_climb_56 : decode b_x_climb 56 = .ok (.goto 9, 3) := by decide +kernel
theorem d_x_climb_59 : decode b_x_climb 59 = .ok (.iload 5, 2) := by decide +kernel
theorem d_x_climb_61 : decode b_x_climb 61 = .ok (.iload_n 3, 1) := by decide +kernel
theorem d_x_climb_62 : decode b_x_climb 62 = .ok (.invokestatic 55, 3) := by decide +kernel
theorem d_x_climb_65 : decode b_x_climb 65 = .ok (.istore_n 3, 1) := by decide +kernel
theorem d_x_climb_66 : decode b_x_climb 66 = .ok (.iload 4, 2) := by decide +kernel
theorem d_x_climb_68 : decode b_x_climb 68 = .ok (.iconst 1, 1) := by decide +kernel
theorem d_x_climb_69 : decode b_x_climb 69 = .ok (.ishr, 1) := by decide +kernel
theorem d_x_climb_70 : decode b_x_climb 70 = .ok (.istore 4, 2) := by decide +kernel
theorem d_x_climb_72 : decode b_x_climb 72 = .ok (.aload_n 0, 1) := by decide +kernel
theorem d_x_climb_73 : decode b_x_climb 73 = .ok (.getfield 35, 3) := by decide +kernel
theorem d_x_climb_76 : decode b_x_climb 76 = .ok (.iload 4, 2) := by decide +kernel
theorem d_x_climb_78 : decode b_x_climb 78 = .ok (.iload_n 3, 1) := by decide +kernel
theorem d_x_climb_79 : decode b_x_climb 79 = .ok (.iastore, 1) := by decide +kernel
theorem d_x_climb_80 : decode b_x_climb 80 = .ok (.goto (-62), 3) := by decide +kernel
theorem d_x_climb_83 : decode b_x_climb 83 = .ok (.iload_n 3, 1) := by decide +kernel
theorem d_x_climb_84 : decode b_x_climb 84 = .ok (.ireturn, 1) := by decide +kernel
theorem d_x_isRight_0 : decode b_x_isRight 0 = .ok (.iconst 0, 1) := by decide +kernel
theorem d_x_isRight_1 : decode b_x_isRight 1 = .ok (.istore_n 2, 1) := by decide +kernel
theorem d_x_isRight_2 : decode b_x_isRight 2 = .ok (.iload_n 2, 1) := by decide +kernel
theorem d_x_isRight_3 : decode b_x_isRight 3 = .ok (.aload_n 0, 1) := by decide +kernel
theorem d_x_isRight_4 : decode b_x_isRight 4 = .ok (.getfield 25, 3) := by decide +kernel
theorem d_x_isRight_7 : decode b_x_isRight 7 = .ok (.if_icmp .ge 29, 3) := by decide +kernel
theorem d_x_isRight_10 : decode b_x_isRight 10 = .ok (.aload_n 0, 1) := by decide +kernel
theorem d_x_isRight_11 : decode b_x_isRight 11 = .ok (.getfield 31, 3) := by decide +kernel
theorem d_x_isRight_14 : decode b_x_isRight 14 = .ok (.aload_n 0, 1) := by decide +kernel
theorem d_x_isRight_15 : decode b_x_isRight 15 = .ok (.aload_n 0, 1) := by decide +kernel
theorem d_x_isRight_16 : decode b_x_isRight 16 = .ok (.getfield 58, 3) := by decide +kernel
theorem d_x_isRight_19 : decode b_x_isRight 19 = .ok (.iload_n 1, 1) := by decide +kernel
theorem d_x_isRight_20 : decode b_x_isRight 20 = .ok (.iload_n 2, 1) := by decide +kernel
theorem d_x_isRight_21 : decode b_x_isRight 21 = .ok (.invokevirtual 71, 3) := by decide +kernel
theorem d_x_isRight_24 : decode b_x_isRight 24 = .ok (.iaload, 1) := by decide +kernel
theorem d_x_isRight_25 : decode b_x_isRight 25 = .ok (.ifCond .ge 5, 3) := by decide +kernel
theorem d_x_isRight_28 : decode b_x_isRight 28 = .ok (.iconst 0, 1) := by decide +kernel
theorem d_x_isRight_29 : decode b_x_isRight 29 = .ok (.ireturn, 1) := by decide +kernel
theorem d_x_isRight_30 : decode b_x_isRight 30 = .ok (.iinc 2 1, 3) := by decide +kernel
theorem d_x_isRight_33 : decode b_x_isRight 33 = .ok (.goto (-31), 3) := by decide +kernel
theorem d_x_isRight_36 : decode b_x_isRight 36 = .ok (.aload_n 0, 1) := by decide +kernel
theorem d_x_isRight_37 : decode b_x_isRight 37 = .ok (.iload_n 1, 1) := by decide +kernel
theorem d_x_isRight_38 : decode b_x_isRight 38 = .ok (.aload_n 0, 1) := by decide +kernel
theorem d_x_isRight_39 : decode b_x_isRight 39 = .ok (.iload_n 1, 1) := by decide +kernel
theorem d_x_isRight_40 : decode b_x_isRight 40 = .ok (.iconst (-1), 1) := by decide +kernel
theorem d_x_isRight_41 : decode b_x_isRight 41 = .ok (.iconst 0, 1) := by decide +kernel
theorem d_x_isRight_42 : decode b_x_isRight 42 = .ok (.invokevirtual 51, 3) := by decide +kernel
theorem d_x_isRight_45 : decode b_x_isRight 45 = .ok (.invokevirtual 74, 3) := by decide +kernel
theorem d_x_isRight_48 : decode b_x_isRight 48 = .ok (.aload_n 0, 1) := by decide +kernel
theorem d_x_isRight_49 : decode b_x_isRight 49 = .ok (.getfield 61, 3) := by decide +kernel
theorem d_x_isRight_52 : decode b_x_isRight 52 = .ok (.if_icmp .ne 7, 3) := by decide +kernel
theorem d_x_isRight_55 : decode b_x_isRight 55 = .ok (.iconst 1, 1) := by decide +kernel
theorem d_x_isRight_56 : decode b_x_isRight 56 = .ok (.goto 4, 3) := by decide +kernel
theorem d_x_isRight_59 : decode b_x_isRight 59 = .ok (.iconst 0, 1) := by decide +kernel
theorem d_x_isRight_60 : decode b_x_isRight 60 = .ok (.ireturn, 1) := by decide +kernel
theorem d_x_isWord_0 : decode b_x_isWord 0 = .ok (.iload_n 1, 1) := by decide +kernel
theorem d_x_isWord_1 : decode b_x_isWord 1 = .ok (.ifCond .lt 27, 3) := by decide +kernel
theorem d_x_isWord_4 : decode b_x_isWord 4 = .ok (.iload_n 1, 1) := by decide +kernel
theorem d_x_isWord_5 : decode b_x_isWord 5 = .ok (.aload_n 0, 1) := by decide +kernel
theorem d_x_isWord_6 : decode b_x_isWord 6 = .ok (.getfield 22, 3) := by decide +kernel
theorem d_x_isWord_9 : decode b_x_isWord 9 = .ok (.if_icmp .ge 19, 3) := by decide +kernel
theorem d_x_isWord_12 : decode b_x_isWord 12 = .ok (.iload_n 2, 1) := by decide +kernel
theorem d_x_isWord_13 : decode b_x_isWord 13 = .ok (.ifCond .lt 15, 3) := by decide +kernel
theorem d_x_isWord_16 : decode b_x_isWord 16 = .ok (.iload_n 2, 1) := by decide +kernel
theorem d_x_isWord_17 : decode b_x_isWord 17 = .ok (.aload_n 0, 1) := by decide +kernel
theorem d_x_isWord_18 : decode b_x_isWord 18 = .ok (.getfield 25, 3) := by decide +kernel
theorem d_x_isWord_21 : decode b_x_isWord 21 = .ok (.if_icmp .ge 7, 3) := by decide +kernel
theorem d_x_isWord_24 : decode b_x_isWord 24 = .ok (.iconst 1, 1) := by decide +kernel
theorem d_x_isWord_25 : decode b_x_isWord 25 = .ok (.goto 4, 3) := by decide +kernel
theorem d_x_isWord_28 : decode b_x_isWord 28 = .ok (.iconst 0, 1) := by decide +kernel
theorem d_x_isWord_29 : decode b_x_isWord 29 = .ok (.ireturn, 1) := by decide +kernel
theorem d_x_put_0 : decode b_x_put 0 = .ok (.aload_n 0, 1) := by decide +kernel
theorem d_x_put_1 : decode b_x_put 1 = .ok (.getfield 31, 3) := by decide +kernel
theorem d_x_put_4 : decode b_x_put 4 = .ok (.iload_n 1, 1) := by decide +kernel
theorem d_x_put_5 : decode b_x_put 5 = .ok (.iaload, 1) := by decide +kernel
theorem d_x_put_6 : decode b_x_put 6 = .ok (.iload_n 2, 1) := by decide +kernel
theorem d_x_put_7 : decode b_x_put 7 = .ok (.if_icmp .ne 5, 3) := by decide +kernel
theorem d_x_put_10 : decode b_x_put 10 = .ok (.iconst 1, 1) := by decide +kernel
theorem d_x_put_11 : decode b_x_put 11 = .ok (.ireturn, 1) := by decide +kernel
theorem d_x_put_12 : decode b_x_put 12 = .ok (.aload_n 0, 1) := by decide +kernel
theorem d_x_put_13 : decode b_x_put 13 = .ok (.getfield 9, 3) := by decide +kernel
theorem d_x_put_16 : decode b_x_put 16 = .ok (.ifCond .ne 10, 3) := by decide +kernel
theorem d_x_put_19 : decode b_x_put 19 = .ok (.aload_n 0, 1) := by decide +kernel
theorem d_x_put_20 : decode b_x_put 20 = .ok (.iconst 1, 1) := by decide +kernel
theorem d_x_put_21 : decode b_x_put 21 = .ok (.putfield 67, 3) := by decide +kernel
theorem d_x_put_24 : decode b_x_put 24 = .ok (.iconst 0, 1) := by decide +kernel
theorem d_x_put_25 : decode b_x_put 25 = .ok (.ireturn, 1) := by decide +kernel
theorem d_x_put_26 : decode b_x_put 26 = .ok (.aload_n 0, 1) := by decide +kernel
theorem d_x_put_27 : decode b_x_put 27 = .ok (.dup, 1) := by decide +kernel
theorem d_x_put_28 : decode b_x_put 28 = .ok (.getfield 9, 3) := by decide +kernel
theorem d_x_put_31 : decode b_x_put 31 = .ok (.aload_n 0, 1) := by decide +kernel
theorem d_x_put_32 : decode b_x_put 32 = .ok (.getfield 9, 3) := by decide +kernel
theorem d_x_put_35 : decode b_x_put 35 = .ok (.ifCond .le 7, 3) := by decide +kernel
theorem d_x_put_38 : decode b_x_put 38 = .ok (.iconst 1, 1) := by decide +kernel
theorem d_x_put_39 : decode b_x_put 39 = .ok (.goto 4, 3) := by decide +kernel
theorem d_x_put_42 : decode b_x_put 42 = .ok (.iconst 0, 1) := by decide +kernel
theorem d_x_put_43 : decode b_x_put 43 = .ok (.isub, 1) := by decide +kernel
theorem d_x_put_44 : decode b_x_put 44 = .ok (.putfield 9, 3) := by decide +kernel
theorem d_x_put_47 : decode b_x_put 47 = .ok (.aload_n 0, 1) := by decide +kernel
theorem d_x_put_48 : decode b_x_put 48 = .ok (.getfield 31, 3) := by decide +kernel
theorem d_x_put_51 : decode b_x_put 51 = .ok (.iload_n 1, 1) := by decide +kernel
theorem d_x_put_52 : decode b_x_put 52 = .ok (.iload_n 2, 1) := by decide +kernel
theorem d_x_put_53 : decode b_x_put 53 = .ok (.iastore, 1) := by decide +kernel
theorem d_x_put_54 : decode b_x_put 54 = .ok (.aload_n 0, 1) := by decide +kernel
theorem d_x_put_55 : decode b_x_put 55 = .ok (.dup, 1) := by decide +kernel
theorem d_x_put_56 : decode b_x_put 56 = .ok (.getfield 64, 3) := by decide +kernel
theorem d_x_put_59 : decode b_x_put 59 = .ok (.iconst 1, 1) := by decide +kernel
theorem d_x_put_60 : decode b_x_put 60 = .ok (.iadd, 1) := by decide +kernel
theorem d_x_put_61 : decode b_x_put 61 = .ok (.putfield 64, 3) := by decide +kernel
theorem d_x_put_64 : decode b_x_put 64 = .ok (.iconst 1, 1) := by decide +kernel
theorem d_x_put_65 : decode b_x_put 65 = .ok (.ireturn, 1) := by decide +kernel
theorem d_x_write_0 : decode b_x_write 0 = .ok (.aload_n 0, 1) := by decide +kernel
theorem d_x_write_1 : decode b_x_write 1 = .ok (.iload_n 1, 1) := by decide +kernel
theorem d_x_write_2 : decode b_x_write 2 = .ok (.iload_n 2, 1) := by decide +kernel
theorem d_x_write_3 : decode b_x_write 3 = .ok (.invokevirtual 77, 3) := by decide +kernel
theorem d_x_write_6 : decode b_x_write 6 = .ok (.ifCond .eq 7, 3) := by decide +kernel
theorem d_x_write_9 : decode b_x_write 9 = .ok (.iload_n 3, 1) := by decide +kernel
theorem d_x_write_10 : decode b_x_write 10 = .ok (.ifCond .ge 6, 3) := by decide +kernel
theorem d_x_write_13 : decode b_x_write 13 = .ok (.bipush (-2), 2) := by decide +kernel
theorem d_x_write_15 : decode b_x_write 15 = .ok (.ireturn, 1) := by decide +kernel
theorem d_x_write_16 : decode b_x_write 16 = .ok (.aload_n 0, 1) := by decide +kernel
theorem d_x_write_17 : decode b_x_write 17 = .ok (.getfield 67, 3) := by decide +kernel
theorem d_x_write_20 : decode b_x_write 20 = .ok (.ifCond .eq 6, 3) := by decide +kernel
theorem d_x_write_23 : decode b_x_write 23 = .ok (.bipush (-4), 2) := by decide +kernel
theorem d_x_write_25 : decode b_x_write 25 = .ok (.ireturn, 1) := by decide +kernel
theorem d_x_write_26 : decode b_x_write 26 = .ok (.aload_n 0, 1) := by decide +kernel
theorem d_x_write_27 : decode b_x_write 27 = .ok (.iload_n 1, 1) := by decide +kernel
theorem d_x_write_28 : decode b_x_write 28 = .ok (.invokevirtual 81, 3) := by decide +kernel
theorem d_x_write_31 : decode b_x_write 31 = .ok (.ifCond .ne 6, 3) := by decide +kernel
theorem d_x_write_34 : decode b_x_write 34 = .ok (.bipush (-3), 2) := by decide +kernel
theorem d_x_write_36 : decode b_x_write 36 = .ok (.ireturn, 1) := by decide +kernel
theorem d_x_write_37 : decode b_x_write 37 = .ok (.aload_n 0, 1) := by decide +kernel
theorem d_x_write_38 : decode b_x_write 38 = .ok (.iload_n 1, 1) := by decide +kernel
theorem d_x_write_39 : decode b_x_write 39 = .ok (.aload_n 0, 1) := by decide +kernel
theorem d_x_write_40 : decode b_x_write 40 = .ok (.iload_n 1, 1) := by decide +kernel
theorem d_x_write_41 : decode b_x_write 41 = .ok (.iload_n 2, 1) := by decide +kernel
theorem d_x_write_42 : decode b_x_write 42 = .ok (.iload_n 3, 1) := by decide +kernel
theorem d_x_write_43 : decode b_x_write 43 = .ok (.invokevirtual 51, 3) := by decide +kernel
theorem d_x_write_46 : decode b_x_write 46 = .ok (.invokevirtual 74, 3) := by decide +kernel
theorem d_x_write_49 : decode b_x_write 49 = .ok (.istore 4, 2) := by decide +kernel
theorem d_x_write_51 : decode b_x_write 51 = .ok (.iconst 1, 1) := by decide +kernel
theorem d_x_write_52 : decode b_x_write 52 = .ok (.aload_n 0, 1) := by decide +kernel
theorem d_x_write_53 : decode b_x_write 53 = .ok (.getfield 58, 3) := by decide +kernel
theorem d_x_write_56 : decode b_x_write 56 = .ok (.isub, 1) := by decide +kernel
theorem d_x_write_57 : decode b_x_write 57 = .ok (.istore 5, 2) := by decide +kernel
theorem d_x_write_59 : decode b_x_write 59 = .ok (.aload_n 0, 1) := by decide +kernel
theorem d_x_write_60 : decode b_x_write 60 = .ok (.aload_n 0, 1) := by decide +kernel
theorem d_x_write_61 : decode b_x_write 61 = .ok (.getfield 58, 3) := by decide +kernel
theorem d_x_write_64 : decode b_x_write 64 = .ok (.iload_n 1, 1) := by decide +kernel
theorem d_x_write_65 : decode b_x_write 65 = .ok (.iload_n 2, 1) := by decide +kernel
theorem d_x_write_66 : decode b_x_write 66 = .ok (.invokevirtual 71, 3) := by decide +kernel
theorem d_x_write_69 : decode b_x_write 69 = .ok (.istore 6, 2) := by decide +kernel
theorem d_x_write_71 : decode b_x_write 71 = .ok (.iconst 1, 1) := by decide +kernel
theorem d_x_write_72 : decode b_x_write 72 = .ok (.istore 7, 2) := by decide +kernel
theorem d_x_write_74 : decode b_x_write 74 = .ok (.iconst 0, 1) := by decide +kernel
theorem d_x_write_75 : decode b_x_write 75 = .ok (.istore 8, 2) := by decide +kernel
theorem d_x_write_77 : decode b_x_write 77 = .ok (.iload 8, 2) := by decide +kernel
theorem d_x_write_79 : decode b_x_write 79 = .ok (.aload_n 0, 1) := by decide +kernel
theorem d_x_write_80 : decode b_x_write 80 = .ok (.getfield 22, 3) := by decide +kernel
theorem d_x_write_83 : decode b_x_write 83 = .ok (.aload_n 0, 1) := by decide +kernel
theorem d_x_write_84 : decode b_x_write 84 = .ok (.getfield 25, 3) := by decide +kernel
theorem d_x_write_87 : decode b_x_write 87 = .ok (.imul, 1) := by decide +kernel
theorem d_x_write_88 : decode b_x_write 88 = .ok (.if_icmp .ge 62, 3) := by decide +kernel
theorem d_x_write_91 : decode b_x_write 91 = .ok (.iload 7, 2) := by decide +kernel
theorem d_x_write_93 : decode b_x_write 93 = .ok (.ifCond .eq 57, 3) := by decide +kernel
theorem d_x_write_96 : decode b_x_write 96 = .ok (.aload_n 0, 1) := by decide +kernel
theorem d_x_write_97 : decode b_x_write 97 = .ok (.getfield 28, 3) := by decide +kernel
theorem d_x_write_100 : decode b_x_write 100 = .ok (.aload_n 0, 1) := by decide +kernel
theorem d_x_write_101 : decode b_x_write 101 = .ok (.getfield 58, 3) := by decide +kernel
theorem d_x_write_104 : decode b_x_write 104 = .ok (.imul, 1) := by decide +kernel
theorem d_x_write_105 : decode b_x_write 105 = .ok (.iload 8, 2) := by decide +kernel
theorem d_x_write_107 : decode b_x_write 107 = .ok (.iadd, 1) := by decide +kernel
theorem d_x_write_108 : decode b_x_write 108 = .ok (.istore 9, 2) := by decide +kernel
theorem d_x_write_110 : decode b_x_write 110 = .ok (.aload_n 0, 1) := by decide +kernel
theorem d_x_write_111 : decode b_x_write 111 = .ok (.aload_n 0, 1) := by decide +kernel
theorem d_x_write_112 : decode b_x_write 112 = .ok (.getfield 28, 3) := by decide +kernel
theorem d_x_write_115 : decode b_x_write 115 = .ok (.iload 5, 2) := by decide +kernel
theorem d_x_write_117 : decode b_x_write 117 = .ok (.imul, 1) := by decide +kernel
theorem d_x_write_118 : decode b_x_write 118 = .ok (.iload 8, 2) := by decide +kernel
theorem d_x_write_120 : decode b_x_write 120 = .ok (.iadd, 1) := by decide +kernel
theorem d_x_write_121 : decode b_x_write 121 = .ok (.iload 9, 2) := by decide +kernel
theorem d_x_write_123 : decode b_x_write 123 = .ok (.iload 6, 2) := by decide +kernel
theorem d_x_write_125 : decode b_x_write 125 = .ok (.if_icmp .ne 7, 3) := by decide +kernel
theorem d_x_write_128 : decode b_x_write 128 = .ok (.iload_n 3, 1) := by decide +kernel
theorem d_x_write_129 : decode b_x_write 129 = .ok (.goto 10, 3) := by decide +kernel
theorem d_x_write_132 : decode b_x_write 132 = .ok (.aload_n 0, 1) := by decide +kernel
theorem d_x_write_133 : decode b_x_write 133 = .ok (.getfield 31, 3) := by decide +kernel
theorem d_x_write_136 : decode b_x_write 136 = .ok (.iload 9, 2) := by decide +kernel
theorem d_x_write_138 : decode b_x_write 138 = .ok (.iaload, 1) := by decide +kernel
theorem d_x_write_139 : decode b_x_write 139 = .ok (.invokevirtual 85, 3) := by decide +kernel
theorem d_x_write_142 : decode b_x_write 142 = .ok (.istore 7, 2) := by decide +kernel
theorem d_x_write_144 : decode b_x_write 144 = .ok (.iinc 8 1, 3) := by decide +kernel
theorem d_x_write_147 : decode b_x_write 147 = .ok (.goto (-70), 3) := by decide +kernel
theorem d_x_write_150 : decode b_x_write 150 = .ok (.iconst 2, 1) := by decide +kernel
theorem d_x_write_151 : decode b_x_write 151 = .ok (.aload_n 0, 1) := by decide +kernel
theorem d_x_write_152 : decode b_x_write 152 = .ok (.getfield 22, 3) := by decide +kernel
theorem d_x_write_155 : decode b_x_write 155 = .ok (.imul, 1) := by decide +kernel
theorem d_x_write_156 : decode b_x_write 156 = .ok (.iconst 1, 1) := by decide +kernel
theorem d_x_write_157 : decode b_x_write 157 = .ok (.isub, 1) := by decide +kernel
theorem d_x_write_158 : decode b_x_write 158 = .ok (.istore 8, 2) := by decide +kernel
theorem d_x_write_160 : decode b_x_write 160 = .ok (.iload 8, 2) := by decide +kernel
theorem d_x_write_162 : decode b_x_write 162 = .ok (.ifCond .le 67, 3) := by decide +kernel
theorem d_x_write_165 : decode b_x_write 165 = .ok (.iload 7, 2) := by decide +kernel
theorem d_x_write_167 : decode b_x_write 167 = .ok (.ifCond .eq 62, 3) := by decide +kernel
theorem d_x_write_170 : decode b_x_write 170 = .ok (.aload_n 0, 1) := by decide +kernel
theorem d_x_write_171 : decode b_x_write 171 = .ok (.aload_n 0, 1) := by decide +kernel
theorem d_x_write_172 : decode b_x_write 172 = .ok (.iload 5, 2) := by decide +kernel
theorem d_x_write_174 : decode b_x_write 174 = .ok (.iload 8, 2) := by decide +kernel
theorem d_x_write_176 : decode b_x_write 176 = .ok (.invokevirtual 48, 3) := by decide +kernel
theorem d_x_write_179 : decode b_x_write 179 = .ok (.iload 8, 2) := by decide +kernel
theorem d_x_write_181 : decode b_x_write 181 = .ok (.aload_n 0, 1) := by decide +kernel
theorem d_x_write_182 : decode b_x_write 182 = .ok (.getfield 22, 3) := by decide +kernel
theorem d_x_write_185 : decode b_x_write 185 = .ok (.iload_n 1, 1) := by decide +kernel
theorem d_x_write_186 : decode b_x_write 186 = .ok (.iadd, 1) := by decide +kernel
theorem d_x_write_187 : decode b_x_write 187 = .ok (.invokestatic 88, 3) := by decide +kernel
theorem d_x_write_190 : decode b_x_write 190 = .ok (.ifCond .eq 13, 3) := by decide +kernel
theorem d_x_write_193 : decode b_x_write 193 = .ok (.aload_n 0, 1) := by decide +kernel
theorem d_x_write_194 : decode b_x_write 194 = .ok (.getfield 35, 3) := by decide +kernel
theorem d_x_write_197 : decode b_x_write 197 = .ok (.iload 8, 2) := by decide +kernel
theorem d_x_write_199 : decode b_x_write 199 = .ok (.iaload, 1) := by decide +kernel
theorem d_x_write_200 : decode b_x_write 200 = .ok (.goto 18, 3) := by decide +kernel
theorem d_x_write_203 : decode b_x_write 203 = .ok (.aload_n 0, 1) := by decide +kernel
theorem d_x_write_204 : decode b_x_write 204 = .ok (.getfield 31, 3) := by decide +kernel
theorem d_x_write_207 : decode b_x_write 207 = .ok (.aload_n 0, 1) := by decide +kernel
theorem d_x_write_208 : decode b_x_write 208 = .ok (.aload_n 0, 1) := by decide +kernel
theorem d_x_write_209 : decode b_x_write 209 = .ok (.getfield 58, 3) := by decide +kernel
theorem d_x_write_212 : decode b_x_write 212 = .ok (.iload 8, 2) := by decide +kernel
theorem d_x_write_214 : decode b_x_write 214 = .ok (.invokevirtual 48, 3) := by decide +kernel
theorem d_x_write_217 : decode b_x_write 217 = .ok (.iaload, 1) := by decide +kernel
theorem d_x_write_218 : decode b_x_write 218 = .ok (.invokevirtual 85, 3) := by decide +kernel
theorem d_x_write_221 : decode b_x_write 221 = .ok (.istore 7, 2) := by decide +kernel
theorem d_x_write_223 : decode b_x_write 223 = .ok (.iinc 8 (-1), 3) := by decide +kernel
theorem d_x_write_226 : decode b_x_write 226 = .ok (.goto (-66), 3) := by decide +kernel
theorem d_x_write_229 : decode b_x_write 229 = .ok (.iload 7, 2) := by decide +kernel
theorem d_x_write_231 : decode b_x_write 231 = .ok (.ifCond .ne 6, 3) := by decide +kernel
theorem d_x_write_234 : decode b_x_write 234 = .ok (.bipush (-4), 2) := by decide +kernel
theorem d_x_write_236 : decode b_x_write 236 = .ok (.ireturn, 1) := by decide +kernel
theorem d_x_write_237 : decode b_x_write 237 = .ok (.aload_n 0, 1) := by decide +kernel
theorem d_x_write_238 : decode b_x_write 238 = .ok (.iload 5, 2) := by decide +kernel
theorem d_x_write_240 : decode b_x_write 240 = .ok (.putfield 58, 3) := by decide +kernel
theorem d_x_write_243 : decode b_x_write 243 = .ok (.aload_n 0, 1) := by decide +kernel
theorem d_x_write_244 : decode b_x_write 244 = .ok (.iload 4, 2) := by decide +kernel
theorem d_x_write_246 : decode b_x_write 246 = .ok (.putfield 61, 3) := by decide +kernel
theorem d_x_write_249 : decode b_x_write 249 = .ok (.iconst 0, 1) := by decide +kernel
theorem d_x_write_250 : decode b_x_write 250 = .ok (.ireturn, 1) := by decide +kernel
theorem d_x_isOnWay_0 : decode b_x_isOnWay 0 = .ok (.iload_n 1, 1) := by decide +kernel
theorem d_x_isOnWay_1 : decode b_x_isOnWay 1 = .ok (.istore_n 2, 1) := by decide +kernel
theorem d_x_isOnWay_2 : decode b_x_isOnWay 2 = .ok (.iload_n 2, 1) := by decide +kernel
theorem d_x_isOnWay_3 : decode b_x_isOnWay 3 = .ok (.iload_n 0, 1) := by decide +kernel
theorem d_x_isOnWay_4 : decode b_x_isOnWay 4 = .ok (.if_icmp .le 10, 3) := by decide +kernel
theorem d_x_isOnWay_7 : decode b_x_isOnWay 7 = .ok (.iload_n 2, 1) := by decide +kernel
theorem d_x_isOnWay_8 : decode b_x_isOnWay 8 = .ok (.iconst 1, 1) := by decide +kernel
theorem d_x_isOnWay_9 : decode b_x_isOnWay 9 = .ok (.ishr, 1) := by decide +kernel
theorem d_x_isOnWay_10 : decode b_x_isOnWay 10 = .ok (.istore_n 2, 1) := by decide +kernel
theorem d_x_isOnWay_11 : decode b_x_isOnWay 11 = .ok (.goto (-9), 3) := by decide +kernel
theorem d_x_isOnWay_14 : decode b_x_isOnWay 14 = .ok (.iload_n 2, 1) := by decide +kernel
theorem d_x_isOnWay_15 : decode b_x_isOnWay 15 = .ok (.iload_n 0, 1) := by decide +kernel
theorem d_x_isOnWay_16 : decode b_x_isOnWay 16 = .ok (.if_icmp .ne 7, 3) := by decide +kernel
theorem d_x_isOnWay_19 : decode b_x_isOnWay 19 = .ok (.iconst 1, 1) := by decide +kernel
theorem d_x_isOnWay_20 : decode b_x_isOnWay 20 = .ok (.goto 4, 3) := by decide +kernel
theorem d_x_isOnWay_23 : decode b_x_isOnWay 23 = .ok (.iconst 0, 1) := by decide +kernel
theorem d_x_isOnWay_24 : decode b_x_isOnWay 24 = .ok (.ireturn, 1) := by decide +kernel
theorem d_x_read_0 : decode b_x_read 0 = .ok (.aload_n 0, 1) := by decide +kernel
theorem d_x_read_1 : decode b_x_read 1 = .ok (.iload_n 1, 1) := by decide +kernel
theorem d_x_read_2 : decode b_x_read 2 = .ok (.iload_n 2, 1) := by decide +kernel
theorem d_x_read_3 : decode b_x_read 3 = .ok (.invokevirtual 77, 3) := by decide +kernel
theorem d_x_read_6 : decode b_x_read 6 = .ok (.ifCond .ne 6, 3) := by decide +kernel
theorem d_x_read_9 : decode b_x_read 9 = .ok (.bipush (-2), 2) := by decide +kernel
theorem d_x_read_11 : decode b_x_read 11 = .ok (.ireturn, 1) := by decide +kernel
theorem d_x_read_12 : decode b_x_read 12 = .ok (.aload_n 0, 1) := by decide +kernel
theorem d_x_read_13 : decode b_x_read 13 = .ok (.getfield 67, 3) := by decide +kernel
theorem d_x_read_16 : decode b_x_read 16 = .ok (.ifCond .eq 8, 3) := by decide +kernel
theorem d_x_read_19 : decode b_x_read 19 = .ok (.bipush (-4), 2) := by decide +kernel
theorem d_x_read_21 : decode b_x_read 21 = .ok (.goto 31, 3) := by decide +kernel
theorem d_x_read_24 : decode b_x_read 24 = .ok (.aload_n 0, 1) := by decide +kernel
theorem d_x_read_25 : decode b_x_read 25 = .ok (.iload_n 1, 1) := by decide +kernel
theorem d_x_read_26 : decode b_x_read 26 = .ok (.invokevirtual 81, 3) := by decide +kernel
theorem d_x_read_29 : decode b_x_read 29 = .ok (.ifCond .eq 21, 3) := by decide +kernel
theorem d_x_read_32 : decode b_x_read 32 = .ok (.aload_n 0, 1) := by decide +kernel
theorem d_x_read_33 : decode b_x_read 33 = .ok (.getfield 31, 3) := by decide +kernel
theorem d_x_read_36 : decode b_x_read 36 = .ok (.aload_n 0, 1) := by decide +kernel
theorem d_x_read_37 : decode b_x_read 37 = .ok (.aload_n 0, 1) := by decide +kernel
theorem d_x_read_38 : decode b_x_read 38 = .ok (.getfield 58, 3) := by decide +kernel
theorem d_x_read_41 : decode b_x_read 41 = .ok (.iload_n 1, 1) := by decide +kernel
theorem d_x_read_42 : decode b_x_read 42 = .ok (.iload_n 2, 1) := by decide +kernel
theorem d_x_read_43 : decode b_x_read 43 = .ok (.invokevirtual 71, 3) := by decide +kernel
theorem d_x_read_46 : decode b_x_read 46 = .ok (.iaload, 1) := by decide +kernel
theorem d_x_read_47 : decode b_x_read 47 = .ok (.goto 5, 3) := by decide +kernel
theorem d_x_read_50 : decode b_x_read 50 = .ok (.bipush (-3), 2) := by decide +kernel
theorem d_x_read_52 : decode b_x_read 52 = .ok (.ireturn, 1) := by decide +kernel
theorem d_x_verify_0 : decode b_x_verify 0 = .ok (.iload_n 1, 1) := by decide +kernel
theorem d_x_verify_1 : decode b_x_verify 1 = .ok (.ifCond .lt 30, 3) := by decide +kernel
theorem d_x_verify_4 : decode b_x_verify 4 = .ok (.iload_n 1, 1) := by decide +kernel
theorem d_x_verify_5 : decode b_x_verify 5 = .ok (.aload_n 0, 1) := by decide +kernel
theorem d_x_verify_6 : decode b_x_verify 6 = .ok (.getfield 22, 3) := by decide +kernel
theorem d_x_verify_9 : decode b_x_verify 9 = .ok (.if_icmp .ge 22, 3) := by decide +kernel
theorem d_x_verify_12 : decode b_x_verify 12 = .ok (.aload_n 0, 1) := by decide +kernel
theorem d_x_verify_13 : decode b_x_verify 13 = .ok (.getfield 67, 3) := by decide +kernel
theorem d_x_verify_16 : decode b_x_verify 16 = .ok (.ifCond .ne 15, 3) := by decide +kernel
theorem d_x_verify_19 : decode b_x_verify 19 = .ok (.aload_n 0, 1) := by decide +kernel
theorem d_x_verify_20 : decode b_x_verify 20 = .ok (.iload_n 1, 1) := by decide +kernel
theorem d_x_verify_21 : decode b_x_verify 21 = .ok (.invokevirtual 81, 3) := by decide +kernel
theorem d_x_verify_24 : decode b_x_verify 24 = .ok (.ifCond .eq 7, 3) := by decide +kernel
theorem d_x_verify_27 : decode b_x_verify 27 = .ok (.iconst 1, 1) := by decide +kernel
theorem d_x_verify_28 : decode b_x_verify 28 = .ok (.goto 4, 3) := by decide +kernel
theorem d_x_verify_31 : decode b_x_verify 31 = .ok (.iconst 0, 1) := by decide +kernel
theorem d_x_verify_32 : decode b_x_verify 32 = .ok (.ireturn, 1) := by decide +kernel
theorem d_x_root_0 : decode b_x_root 0 = .ok (.aload_n 0, 1) := by decide +kernel
theorem d_x_root_1 : decode b_x_root 1 = .ok (.getfield 61, 3) := by decide +kernel
theorem d_x_root_4 : decode b_x_root 4 = .ok (.ireturn, 1) := by decide +kernel
theorem d_x_audit_0 : decode b_x_audit 0 = .ok (.aload_n 0, 1) := by decide +kernel
theorem d_x_audit_1 : decode b_x_audit 1 = .ok (.getfield 67, 3) := by decide +kernel
theorem d_x_audit_4 : decode b_x_audit 4 = .ok (.ifCond .eq 6, 3) := by decide +kernel
theorem d_x_audit_7 : decode b_x_audit 7 = .ok (.bipush (-4), 2) := by decide +kernel
theorem d_x_audit_9 : decode b_x_audit 9 = .ok (.ireturn, 1) := by decide +kernel
theorem d_x_audit_10 : decode b_x_audit 10 = .ok (.iconst 0, 1) := by decide +kernel
theorem d_x_audit_11 : decode b_x_audit 11 = .ok (.istore_n 1, 1) := by decide +kernel
theorem d_x_audit_12 : decode b_x_audit 12 = .ok (.iload_n 1, 1) := by decide +kernel
theorem d_x_audit_13 : decode b_x_audit 13 = .ok (.aload_n 0, 1) := by decide +kernel
theorem d_x_audit_14 : decode b_x_audit 14 = .ok (.getfield 22, 3) := by decide +kernel
theorem d_x_audit_17 : decode b_x_audit 17 = .ok (.if_icmp .ge 17, 3) := by decide +kernel
theorem d_x_audit_20 : decode b_x_audit 20 = .ok (.aload_n 0, 1) := by decide +kernel
theorem d_x_audit_21 : decode b_x_audit 21 = .ok (.iload_n 1, 1) := by decide +kernel
theorem d_x_audit_22 : decode b_x_audit 22 = .ok (.invokevirtual 81, 3) := by decide +kernel
theorem d_x_audit_25 : decode b_x_audit 25 = .ok (.ifCond .eq 9, 3) := by decide +kernel
theorem d_x_audit_28 : decode b_x_audit 28 = .ok (.iinc 1 1, 3) := by decide +kernel
theorem d_x_audit_31 : decode b_x_audit 31 = .ok (.goto (-19), 3) := by decide +kernel
theorem d_x_audit_34 : decode b_x_audit 34 = .ok (.iload_n 1, 1) := by decide +kernel
theorem d_x_audit_35 : decode b_x_audit 35 = .ok (.aload_n 0, 1) := by decide +kernel
theorem d_x_audit_36 : decode b_x_audit 36 = .ok (.getfield 22, 3) := by decide +kernel
theorem d_x_audit_39 : decode b_x_audit 39 = .ok (.if_icmp .ge 7, 3) := by decide +kernel
theorem d_x_audit_42 : decode b_x_audit 42 = .ok (.iload_n 1, 1) := by decide +kernel
theorem d_x_audit_43 : decode b_x_audit 43 = .ok (.goto 4, 3) := by decide +kernel
theorem d_x_audit_46 : decode b_x_audit 46 = .ok (.iconst (-1), 1) := by decide +kernel
theorem d_x_audit_47 : decode b_x_audit 47 = .ok (.ireturn, 1) := by decide +kernel
theorem d_x_tamper_0 : decode b_x_tamper 0 = .ok (.iload_n 1, 1) := by decide +kernel
theorem d_x_tamper_1 : decode b_x_tamper 1 = .ok (.ifCond .lt 19, 3) := by decide +kernel
theorem d_x_tamper_4 : decode b_x_tamper 4 = .ok (.iload_n 1, 1) := by decide +kernel
theorem d_x_tamper_5 : decode b_x_tamper 5 = .ok (.aload_n 0, 1) := by decide +kernel
theorem d_x_tamper_6 : decode b_x_tamper 6 = .ok (.getfield 31, 3) := by decide +kernel
theorem d_x_tamper_9 : decode b_x_tamper 9 = .ok (.arraylength, 1) := by decide +kernel
theorem d_x_tamper_10 : decode b_x_tamper 10 = .ok (.if_icmp .ge 10, 3) := by decide +kernel
theorem d_x_tamper_13 : decode b_x_tamper 13 = .ok (.aload_n 0, 1) := by decide +kernel
theorem d_x_tamper_14 : decode b_x_tamper 14 = .ok (.getfield 31, 3) := by decide +kernel
theorem d_x_tamper_17 : decode b_x_tamper 17 = .ok (.iload_n 1, 1) := by decide +kernel
theorem d_x_tamper_18 : decode b_x_tamper 18 = .ok (.iload_n 2, 1) := by decide +kernel
theorem d_x_tamper_19 : decode b_x_tamper 19 = .ok (.iastore, 1) := by decide +kernel
theorem d_x_tamper_20 : decode b_x_tamper 20 = .ok (.return_, 1) := by decide +kernel
theorem d_x_crashAfter_0 : decode b_x_crashAfter 0 = .ok (.iload_n 1, 1) := by decide +kernel
theorem d_x_crashAfter_1 : decode b_x_crashAfter 1 = .ok (.ifCond .lt 15, 3) := by decide +kernel
theorem d_x_crashAfter_4 : decode b_x_crashAfter 4 = .ok (.aload_n 0, 1) := by decide +kernel
theorem d_x_crashAfter_5 : decode b_x_crashAfter 5 = .ok (.getfield 67, 3) := by decide +kernel
theorem d_x_crashAfter_8 : decode b_x_crashAfter 8 = .ok (.ifCond .ne 8, 3) := by decide +kernel
theorem d_x_crashAfter_11 : decode b_x_crashAfter 11 = .ok (.aload_n 0, 1) := by decide +kernel
theorem d_x_crashAfter_12 : decode b_x_crashAfter 12 = .ok (.iload_n 1, 1) := by decide +kernel
theorem d_x_crashAfter_13 : decode b_x_crashAfter 13 = .ok (.putfield 9, 3) := by decide +kernel
theorem d_x_crashAfter_16 : decode b_x_crashAfter 16 = .ok (.return_, 1) := by decide +kernel
theorem d_x_recover_0 : decode b_x_recover 0 = .ok (.aload_n 0, 1) := by decide +kernel
theorem d_x_recover_1 : decode b_x_recover 1 = .ok (.getfield 67, 3) := by decide +kernel
theorem d_x_recover_4 : decode b_x_recover 4 = .ok (.ifCond .ne 6, 3) := by decide +kernel
theorem d_x_recover_7 : decode b_x_recover 7 = .ok (.bipush (-2), 2) := by decide +kernel
theorem d_x_recover_9 : decode b_x_recover 9 = .ok (.ireturn, 1) := by decide +kernel
theorem d_x_recover_10 : decode b_x_recover 10 = .ok (.aload_n 0, 1) := by decide +kernel
theorem d_x_recover_11 : decode b_x_recover 11 = .ok (.getfield 31, 3) := by decide +kernel
theorem d_x_recover_14 : decode b_x_recover 14 = .ok (.aload_n 0, 1) := by decide +kernel
theorem d_x_recover_15 : decode b_x_recover 15 = .ok (.iconst 0, 1) := by decide +kernel
theorem d_x_recover_16 : decode b_x_recover 16 = .ok (.iconst 1, 1) := by decide +kernel
theorem d_x_recover_17 : decode b_x_recover 17 = .ok (.invokevirtual 48, 3) := by decide +kernel
theorem d_x_recover_20 : decode b_x_recover 20 = .ok (.iaload, 1) := by decide +kernel
theorem d_x_recover_21 : decode b_x_recover 21 = .ok (.iload_n 1, 1) := by decide +kernel
theorem d_x_recover_22 : decode b_x_recover 22 = .ok (.if_icmp .ne 7, 3) := by decide +kernel
theorem d_x_recover_25 : decode b_x_recover 25 = .ok (.iconst 0, 1) := by decide +kernel
theorem d_x_recover_26 : decode b_x_recover 26 = .ok (.goto 23, 3) := by decide +kernel
theorem d_x_recover_29 : decode b_x_recover 29 = .ok (.aload_n 0, 1) := by decide +kernel
theorem d_x_recover_30 : decode b_x_recover 30 = .ok (.getfield 31, 3) := by decide +kernel
theorem d_x_recover_33 : decode b_x_recover 33 = .ok (.aload_n 0, 1) := by decide +kernel
theorem d_x_recover_34 : decode b_x_recover 34 = .ok (.iconst 1, 1) := by decide +kernel
theorem d_x_recover_35 : decode b_x_recover 35 = .ok (.iconst 1, 1) := by decide +kernel
theorem d_x_recover_36 : decode b_x_recover 36 = .ok (.invokevirtual 48, 3) := by decide +kernel
theorem d_x_recover_39 : decode b_x_recover 39 = .ok (.iaload, 1) := by decide +kernel
theorem d_x_recover_40 : decode b_x_recover 40 = .ok (.iload_n 1, 1) := by decide +kernel
theorem d_x_recover_41 : decode b_x_recover 41 = .ok (.if_icmp .ne 7, 3) := by decide +kernel
theorem d_x_recover_44 : decode b_x_recover 44 = .ok (.iconst 1, 1) := by decide +kernel
theorem d_x_recover_45 : decode b_x_recover 45 = .ok (.goto 4, 3) := by decide +kernel
theorem d_x_recover_48 : decode b_x_recover 48 = .ok (.iconst (-1), 1) := by decide +kernel
theorem d_x_recover_49 : decode b_x_recover 49 = .ok (.istore_n 2, 1) := by decide +kernel
theorem d_x_recover_50 : decode b_x_recover 50 = .ok (.iload_n 2, 1) := by decide +kernel
theorem d_x_recover_51 : decode b_x_recover 51 = .ok (.iconst (-1), 1) := by decide +kernel
theorem d_x_recover_52 : decode b_x_recover 52 = .ok (.if_icmp .ne 6, 3) := by decide +kernel
theorem d_x_recover_55 : decode b_x_recover 55 = .ok (.bipush (-5), 2) := by decide +kernel
theorem d_x_recover_57 : decode b_x_recover 57 = .ok (.ireturn, 1) := by decide +kernel
theorem d_x_recover_58 : decode b_x_recover 58 = .ok (.aload_n 0, 1) := by decide +kernel
theorem d_x_recover_59 : decode b_x_recover 59 = .ok (.iload_n 2, 1) := by decide +kernel
theorem d_x_recover_60 : decode b_x_recover 60 = .ok (.putfield 58, 3) := by decide +kernel
theorem d_x_recover_63 : decode b_x_recover 63 = .ok (.aload_n 0, 1) := by decide +kernel
theorem d_x_recover_64 : decode b_x_recover 64 = .ok (.iload_n 1, 1) := by decide +kernel
theorem d_x_recover_65 : decode b_x_recover 65 = .ok (.putfield 61, 3) := by decide +kernel
theorem d_x_recover_68 : decode b_x_recover 68 = .ok (.aload_n 0, 1) := by decide +kernel
theorem d_x_recover_69 : decode b_x_recover 69 = .ok (.iconst 0, 1) := by decide +kernel
theorem d_x_recover_70 : decode b_x_recover 70 = .ok (.putfield 67, 3) := by decide +kernel
theorem d_x_recover_73 : decode b_x_recover 73 = .ok (.aload_n 0, 1) := by decide +kernel
theorem d_x_recover_74 : decode b_x_recover 74 = .ok (.iconst (-1), 1) := by decide +kernel
theorem d_x_recover_75 : decode b_x_recover 75 = .ok (.putfield 9, 3) := by decide +kernel
theorem d_x_recover_78 : decode b_x_recover 78 = .ok (.iconst 0, 1) := by decide +kernel
theorem d_x_recover_79 : decode b_x_recover 79 = .ok (.ireturn, 1) := by decide +kernel
theorem d_x_cells_0 : decode b_x_cells 0 = .ok (.aload_n 0, 1) := by decide +kernel
theorem d_x_cells_1 : decode b_x_cells 1 = .ok (.getfield 31, 3) := by decide +kernel
theorem d_x_cells_4 : decode b_x_cells 4 = .ok (.arraylength, 1) := by decide +kernel
theorem d_x_cells_5 : decode b_x_cells 5 = .ok (.ireturn, 1) := by decide +kernel
theorem d_x_peek_0 : decode b_x_peek 0 = .ok (.iload_n 1, 1) := by decide +kernel
theorem d_x_peek_1 : decode b_x_peek 1 = .ok (.ifCond .lt 21, 3) := by decide +kernel
theorem d_x_peek_4 : decode b_x_peek 4 = .ok (.iload_n 1, 1) := by decide +kernel
theorem d_x_peek_5 : decode b_x_peek 5 = .ok (.aload_n 0, 1) := by decide +kernel
theorem d_x_peek_6 : decode b_x_peek 6 = .ok (.getfield 31, 3) := by decide +kernel
theorem d_x_peek_9 : decode b_x_peek 9 = .ok (.arraylength, 1) := by decide +kernel
theorem d_x_peek_10 : decode b_x_peek 10 = .ok (.if_icmp .ge 12, 3) := by decide +kernel
theorem d_x_peek_13 : decode b_x_peek 13 = .ok (.aload_n 0, 1) := by decide +kernel
theorem d_x_peek_14 : decode b_x_peek 14 = .ok (.getfield 31, 3) := by decide +kernel
theorem d_x_peek_17 : decode b_x_peek 17 = .ok (.iload_n 1, 1) := by decide +kernel
theorem d_x_peek_18 : decode b_x_peek 18 = .ok (.iaload, 1) := by decide +kernel
theorem d_x_peek_19 : decode b_x_peek 19 = .ok (.goto 4, 3) := by decide +kernel
theorem d_x_peek_22 : decode b_x_peek 22 = .ok (.iconst 0, 1) := by decide +kernel
theorem d_x_peek_23 : decode b_x_peek 23 = .ok (.ireturn, 1) := by decide +kernel
theorem d_x_writes_0 : decode b_x_writes 0 = .ok (.aload_n 0, 1) := by decide +kernel
theorem d_x_writes_1 : decode b_x_writes 1 = .ok (.getfield 64, 3) := by decide +kernel
theorem d_x_writes_4 : decode b_x_writes 4 = .ok (.ireturn, 1) := by decide +kernel
theorem d_x_slot_0 : decode b_x_slot 0 = .ok (.aload_n 0, 1) := by decide +kernel
theorem d_x_slot_1 : decode b_x_slot 1 = .ok (.getfield 58, 3) := by decide +kernel
theorem d_x_slot_4 : decode b_x_slot 4 = .ok (.ireturn, 1) := by decide +kernel
theorem d_x_down_0 : decode b_x_down 0 = .ok (.aload_n 0, 1) := by decide +kernel
theorem d_x_down_1 : decode b_x_down 1 = .ok (.getfield 67, 3) := by decide +kernel
theorem d_x_down_4 : decode b_x_down 4 = .ok (.ireturn, 1) := by decide +kernel
end
section
theorem d_m_init_0 : decode b_m_init 0 = .ok (.aload_n 0, 1) := by decide +kernel
theorem d_m_init_1 : decode b_m_init 1 = .ok (.invokespecial 1, 3) := by decide +kernel
theorem d_m_init_4 : decode b_m_init 4 = .ok (.aload_n 0, 1) := by decide +kernel
theorem d_m_init_5 : decode b_m_init 5 = .ok (.sipush 600, 3) := by decide +kernel
theorem d_m_init_8 : decode b_m_init 8 = .ok (.newarray .int, 2) := by decide +kernel
theorem d_m_init_10 : decode b_m_init 10 = .ok (.putfield 7, 3) := by decide +kernel
theorem d_m_init_13 : decode b_m_init 13 = .ok (.aload_n 0, 1) := by decide +kernel
theorem d_m_init_14 : decode b_m_init 14 = .ok (.sipush 300, 3) := by decide +kernel
theorem d_m_init_17 : decode b_m_init 17 = .ok (.newarray .int, 2) := by decide +kernel
theorem d_m_init_19 : decode b_m_init 19 = .ok (.putfield 13, 3) := by decide +kernel
theorem d_m_init_22 : decode b_m_init 22 = .ok (.aload_n 0, 1) := by decide +kernel
theorem d_m_init_23 : decode b_m_init 23 = .ok (.iconst (-1), 1) := by decide +kernel
theorem d_m_init_24 : decode b_m_init 24 = .ok (.putfield 16, 3) := by decide +kernel
theorem d_m_init_27 : decode b_m_init 27 = .ok (.aload_n 0, 1) := by decide +kernel
theorem d_m_init_28 : decode b_m_init 28 = .ok (.iload_n 1, 1) := by decide +kernel
theorem d_m_init_29 : decode b_m_init 29 = .ok (.ifCond .ge 7, 3) := by decide +kernel
theorem d_m_init_32 : decode b_m_init 32 = .ok (.iconst 0, 1) := by decide +kernel
theorem d_m_init_33 : decode b_m_init 33 = .ok (.goto 13, 3) := by decide +kernel
theorem d_m_init_36 : decode b_m_init 36 = .ok (.iload_n 1, 1) := by decide +kernel
theorem d_m_init_37 : decode b_m_init 37 = .ok (.iconst 5, 1) := by decide +kernel
theorem d_m_init_38 : decode b_m_init 38 = .ok (.if_icmp .le 7, 3) := by decide +kernel
theorem d_m_init_41 : decode b_m_init 41 = .ok (.iconst 5, 1) := by decide +kernel
theorem d_m_init_42 : decode b_m_init 42 = .ok (.goto 4, 3) := by decide +kernel
theorem d_m_init_45 : decode b_m_init 45 = .ok (.iload_n 1, 1) := by decide +kernel
theorem d_m_init_46 : decode b_m_init 46 = .ok (.putfield 20, 3) := by decide +kernel
theorem d_m_init_49 : decode b_m_init 49 = .ok (.aload_n 0, 1) := by decide +kernel
theorem d_m_init_50 : decode b_m_init 50 = .ok (.iconst 1, 1) := by decide +kernel
theorem d_m_init_51 : decode b_m_init 51 = .ok (.aload_n 0, 1) := by decide +kernel
theorem d_m_init_52 : decode b_m_init 52 = .ok (.getfield 20, 3) := by decide +kernel
theorem d_m_init_55 : decode b_m_init 55 = .ok (.ishl, 1) := by decide +kernel
theorem d_m_init_56 : decode b_m_init 56 = .ok (.putfield 23, 3) := by decide +kernel
theorem d_m_init_59 : decode b_m_init 59 = .ok (.aload_n 0, 1) := by decide +kernel
theorem d_m_init_60 : decode b_m_init 60 = .ok (.iload_n 2, 1) := by decide +kernel
theorem d_m_init_61 : decode b_m_init 61 = .ok (.iconst 1, 1) := by decide +kernel
theorem d_m_init_62 : decode b_m_init 62 = .ok (.if_icmp .ge 7, 3) := by decide +kernel
theorem d_m_init_65 : decode b_m_init 65 = .ok (.iconst 1, 1) := by decide +kernel
theorem d_m_init_66 : decode b_m_init 66 = .ok (.goto 15, 3) := by decide +kernel
theorem d_m_init_69 : decode b_m_init 69 = .ok (.iload_n 2, 1) := by decide +kernel
theorem d_m_init_70 : decode b_m_init 70 = .ok (.bipush 6, 2) := by decide +kernel
theorem d_m_init_72 : decode b_m_init 72 = .ok (.if_icmp .le 8, 3) := by decide +kernel
theorem d_m_init_75 : decode b_m_init 75 = .ok (.bipush 6, 2) := by decide +kernel
theorem d_m_init_77 : decode b_m_init 77 = .ok (.goto 4, 3) := by decide +kernel
theorem d_m_init_80 : decode b_m_init 80 = .ok (.iload_n 2, 1) := by decide +kernel
theorem d_m_init_81 : decode b_m_init 81 = .ok (.putfield 26, 3) := by decide +kernel
theorem d_m_init_84 : decode b_m_init 84 = .ok (.aload_n 0, 1) := by decide +kernel
theorem d_m_init_85 : decode b_m_init 85 = .ok (.aload_n 0, 1) := by decide +kernel
theorem d_m_init_86 : decode b_m_init 86 = .ok (.getfield 23, 3) := by decide +kernel
theorem d_m_init_89 : decode b_m_init 89 = .ok (.aload_n 0, 1) := by decide +kernel
theorem d_m_init_90 : decode b_m_init 90 = .ok (.getfield 26, 3) := by decide +kernel
theorem d_m_init_93 : decode b_m_init 93 = .ok (.imul, 1) := by decide +kernel
theorem d_m_init_94 : decode b_m_init 94 = .ok (.iconst 2, 1) := by decide +kernel
theorem d_m_init_95 : decode b_m_init 95 = .ok (.aload_n 0, 1) := by decide +kernel
theorem d_m_init_96 : decode b_m_init 96 = .ok (.getfield 23, 3) := by decide +kernel
theorem d_m_init_99 : decode b_m_init 99 = .ok (.imul, 1) := by decide +kernel
theorem d_m_init_100 : decode b_m_init 100 = .ok (.iadd, 1) := by decide +kernel
theorem d_m_init_101 : decode b_m_init 101 = .ok (.iconst 1, 1) := by decide +kernel
theorem d_m_init_102 : decode b_m_init 102 = .ok (.isub, 1) := by decide +kernel
theorem d_m_init_103 : decode b_m_init 103 = .ok (.putfield 29, 3) := by decide +kernel
theorem d_m_init_106 : decode b_m_init 106 = .ok (.aload_n 0, 1) := by decide +kernel
theorem d_m_init_107 : decode b_m_init 107 = .ok (.invokevirtual 32, 3) := by decide +kernel
theorem d_m_init_110 : decode b_m_init 110 = .ok (.istore_n 3, 1) := by decide +kernel
theorem d_m_init_111 : decode b_m_init 111 = .ok (.return_, 1) := by decide +kernel
theorem d_m_mix_0 : decode b_m_mix 0 = .ok (.iload_n 0, 1) := by decide +kernel
theorem d_m_mix_1 : decode b_m_mix 1 = .ok (.iload_n 1, 1) := by decide +kernel
theorem d_m_mix_2 : decode b_m_mix 2 = .ok (.bipush 13, 2) := by decide +kernel
theorem d_m_mix_4 : decode b_m_mix 4 = .ok (.ishl, 1) := by decide +kernel
theorem d_m_mix_5 : decode b_m_mix 5 = .ok (.iload_n 1, 1) := by decide +kernel
theorem d_m_mix_6 : decode b_m_mix 6 = .ok (.bipush 19, 2) := by decide +kernel
theorem d_m_mix_8 : decode b_m_mix 8 = .ok (.iushr, 1) := by decide +kernel
theorem d_m_mix_9 : decode b_m_mix 9 = .ok (.ior, 1) := by decide +kernel
theorem d_m_mix_10 : decode b_m_mix 10 = .ok (.ixor, 1) := by decide +kernel
theorem d_m_mix_11 : decode b_m_mix 11 = .ok (.ldc 36, 2) := by decide +kernel
theorem d_m_mix_13 : decode b_m_mix 13 = .ok (.imul, 1) := by decide +kernel
theorem d_m_mix_14 : decode b_m_mix 14 = .ok (.istore_n 2, 1) := by decide +kernel
theorem d_m_mix_15 : decode b_m_mix 15 = .ok (.iload_n 2, 1) := by decide +kernel
theorem d_m_mix_16 : decode b_m_mix 16 = .ok (.iload_n 2, 1) := by decide +kernel
theorem d_m_mix_17 : decode b_m_mix 17 = .ok (.bipush 15, 2) := by decide +kernel
theorem d_m_mix_19 : decode b_m_mix 19 = .ok (.iushr, 1) := by decide +kernel
theorem d_m_mix_20 : decode b_m_mix 20 = .ok (.ixor, 1) := by decide +kernel
theorem d_m_mix_21 : decode b_m_mix 21 = .ok (.istore_n 2, 1) := by decide +kernel
theorem d_m_mix_22 : decode b_m_mix 22 = .ok (.iload_n 2, 1) := by decide +kernel
theorem d_m_mix_23 : decode b_m_mix 23 = .ok (.iload_n 1, 1) := by decide +kernel
theorem d_m_mix_24 : decode b_m_mix 24 = .ok (.iadd, 1) := by decide +kernel
theorem d_m_mix_25 : decode b_m_mix 25 = .ok (.ldc 37, 2) := by decide +kernel
theorem d_m_mix_27 : decode b_m_mix 27 = .ok (.imul, 1) := by decide +kernel
theorem d_m_mix_28 : decode b_m_mix 28 = .ok (.istore_n 2, 1) := by decide +kernel
theorem d_m_mix_29 : decode b_m_mix 29 = .ok (.iload_n 2, 1) := by decide +kernel
theorem d_m_mix_30 : decode b_m_mix 30 = .ok (.iload_n 2, 1) := by decide +kernel
theorem d_m_mix_31 : decode b_m_mix 31 = .ok (.bipush 14, 2) := by decide +kernel
theorem d_m_mix_33 : decode b_m_mix 33 = .ok (.iushr, 1) := by decide +kernel
theorem d_m_mix_34 : decode b_m_mix 34 = .ok (.ixor, 1) := by decide +kernel
theorem d_m_mix_35 : decode b_m_mix 35 = .ok (.ireturn, 1) := by decide +kernel
theorem d_m_node_0 : decode b_m_node 0 = .ok (.aload_n 0, 1) := by decide +kernel
theorem d_m_node_1 : decode b_m_node 1 = .ok (.getfield 23, 3) := by decide +kernel
theorem d_m_node_4 : decode b_m_node 4 = .ok (.aload_n 0, 1) := by decide +kernel
theorem d_m_node_5 : decode b_m_node 5 = .ok (.getfield 26, 3) := by decide +kernel
theorem d_m_node_8 : decode b_m_node 8 = .ok (.imul, 1) := by decide +kernel
theorem d_m_node_9 : decode b_m_node 9 = .ok (.iload_n 1, 1) := by decide +kernel
theorem d_m_node_10 : decode b_m_node 10 = .ok (.iadd, 1) := by decide +kernel
theorem d_m_node_11 : decode b_m_node 11 = .ok (.iconst 1, 1) := by decide +kernel
theorem d_m_node_12 : decode b_m_node 12 = .ok (.isub, 1) := by decide +kernel
theorem d_m_node_13 : decode b_m_node 13 = .ok (.ireturn, 1) := by decide +kernel
theorem d_m_hash_0 : decode b_m_hash 0 = .ok (.iload_n 1, 1) := by decide +kernel
theorem d_m_hash_1 : decode b_m_hash 1 = .ok (.istore_n 2, 1) := by decide +kernel
theorem d_m_hash_2 : decode b_m_hash 2 = .ok (.iconst 0, 1) := by decide +kernel
theorem d_m_hash_3 : decode b_m_hash 3 = .ok (.istore_n 3, 1) := by decide +kernel
theorem d_m_hash_4 : decode b_m_hash 4 = .ok (.iload_n 3, 1) := by decide +kernel
theorem d_m_hash_5 : decode b_m_hash 5 = .ok (.aload_n 0, 1) := by decide +kernel
theorem d_m_hash_6 : decode b_m_hash 6 = .ok (.getfield 26, 3) := by decide +kernel
theorem d_m_hash_9 : decode b_m_hash 9 = .ok (.if_icmp .ge 27, 3) := by decide +kernel
theorem d_m_hash_12 : decode b_m_hash 12 = .ok (.iload_n 2, 1) := by decide +kernel
theorem d_m_hash_13 : decode b_m_hash 13 = .ok (.aload_n 0, 1) := by decide +kernel
theorem d_m_hash_14 : decode b_m_hash 14 = .ok (.getfield 13, 3) := by decide +kernel
theorem d_m_hash_17 : decode b_m_hash 17 = .ok (.iload_n 1, 1) := by decide +kernel
theorem d_m_hash_18 : decode b_m_hash 18 = .ok (.aload_n 0, 1) := by decide +kernel
theorem d_m_hash_19 : decode b_m_hash 19 = .ok (.getfield 26, 3) := by decide +kernel
theorem d_m_hash_22 : decode b_m_hash 22 = .ok (.imul, 1) := by decide +kernel
theorem d_m_hash_23 : decode b_m_hash 23 = .ok (.iload_n 3, 1) := by decide +kernel
theorem d_m_hash_24 : decode b_m_hash 24 = .ok (.iadd, 1) := by decide +kernel
theorem d_m_hash_25 : decode b_m_hash 25 = .ok (.iaload, 1) := by decide +kernel
theorem d_m_hash_26 : decode b_m_hash 26 = .ok (.invokestatic 38, 3) := by decide +kernel
theorem d_m_hash_29 : decode b_m_hash 29 = .ok (.istore_n 2, 1) := by decide +kernel
theorem d_m_hash_30 : decode b_m_hash 30 = .ok (.iinc 3 1, 3) := by decide +kernel
theorem d_m_hash_33 : decode b_m_hash 33 = .ok (.goto (-29), 3) := by decide +kernel
theorem d_m_hash_36 : decode b_m_hash 36 = .ok (.iload_n 2, 1) := by decide +kernel
theorem d_m_hash_37 : decode b_m_hash 37 = .ok (.ireturn, 1) := by decide +kernel
theorem d_m_toGoal_0 : decode b_m_toGoal 0 = .ok (.iconst 0, 1) := by decide +kernel
theorem d_m_toGoal_1 : decode b_m_toGoal 1 = .ok (.istore_n 1, 1) := by decide +kernel
theorem d_m_toGoal_2 : decode b_m_toGoal 2 = .ok (.iload_n 1, 1) := by decide +kernel
theorem d_m_toGoal_3 : decode b_m_toGoal 3 = .ok (.aload_n 0, 1) := by decide +kernel
theorem d_m_toGoal_4 : decode b_m_toGoal 4 = .ok (.getfield 29, 3) := by decide +kernel
theorem d_m_toGoal_7 : decode b_m_toGoal 7 = .ok (.if_icmp .ge 31, 3) := by decide +kernel
theorem d_m_toGoal_10 : decode b_m_toGoal 10 = .ok (.aload_n 0, 1) := by decide +kernel
theorem d_m_toGoal_11 : decode b_m_toGoal 11 = .ok (.getfield 13, 3) := by decide +kernel
theorem d_m_toGoal_14 : decode b_m_toGoal 14 = .ok (.iload_n 1, 1) := by decide +kernel
theorem d_m_toGoal_15 : decode b_m_toGoal 15 = .ok (.aload_n 0, 1) := by decide +kernel
theorem d_m_toGoal_16 : decode b_m_toGoal 16 = .ok (.getfield 7, 3) := by decide +kernel
theorem d_m_toGoal_19 : decode b_m_toGoal 19 = .ok (.aload_n 0, 1) := by decide +kernel
theorem d_m_toGoal_20 : decode b_m_toGoal 20 = .ok (.getfield 29, 3) := by decide +kernel
theorem d_m_toGoal_23 : decode b_m_toGoal 23 = .ok (.aload_n 0, 1) := by decide +kernel
theorem d_m_toGoal_24 : decode b_m_toGoal 24 = .ok (.getfield 42, 3) := by decide +kernel
theorem d_m_toGoal_27 : decode b_m_toGoal 27 = .ok (.imul, 1) := by decide +kernel
theorem d_m_toGoal_28 : decode b_m_toGoal 28 = .ok (.iload_n 1, 1) := by decide +kernel
theorem d_m_toGoal_29 : decode b_m_toGoal 29 = .ok (.iadd, 1) := by decide +kernel
theorem d_m_toGoal_30 : decode b_m_toGoal 30 = .ok (.iaload, 1) := by decide +kernel
theorem d_m_toGoal_31 : decode b_m_toGoal 31 = .ok (.iastore, 1) := by decide +kernel
theorem d_m_toGoal_32 : decode b_m_toGoal 32 = .ok (.iinc 1 1, 3) := by decide +kernel
theorem d_m_toGoal_35 : decode b_m_toGoal 35 = .ok (.goto (-33), 3) := by decide +kernel
theorem d_m_toGoal_38 : decode b_m_toGoal 38 = .ok (.return_, 1) := by decide +kernel
theorem d_m_format_0 : decode b_m_format 0 = .ok (.iconst 0, 1) := by decide +kernel
theorem d_m_format_1 : decode b_m_format 1 = .ok (.istore_n 1, 1) := by decide +kernel
theorem d_m_format_2 : decode b_m_format 2 = .ok (.iload_n 1, 1) := by decide +kernel
theorem d_m_format_3 : decode b_m_format 3 = .ok (.sipush 600, 3) := by decide +kernel
theorem d_m_format_6 : decode b_m_format 6 = .ok (.if_icmp .ge 16, 3) := by decide +kernel
theorem d_m_format_9 : decode b_m_format 9 = .ok (.aload_n 0, 1) := by decide +kernel
theorem d_m_format_10 : decode b_m_format 10 = .ok (.getfield 7, 3) := by decide +kernel
theorem d_m_format_13 : decode b_m_format 13 = .ok (.iload_n 1, 1) := by decide +kernel
theorem d_m_format_14 : decode b_m_format 14 = .ok (.iconst 0, 1) := by decide +kernel
theorem d_m_format_15 : decode b_m_format 15 = .ok (.iastore, 1) := by decide +kernel
theorem d_m_format_16 : decode b_m_format 16 = .ok (.iinc 1 1, 3) := by decide +kernel
theorem d_m_format_19 : decode b_m_format 19 = .ok (.goto (-17), 3) := by decide +kernel
theorem d_m_format_22 : decode b_m_format 22 = .ok (.iconst 0, 1) := by decide +kernel
theorem d_m_format_23 : decode b_m_format 23 = .ok (.istore_n 1, 1) := by decide +kernel
theorem d_m_format_24 : decode b_m_format 24 = .ok (.iload_n 1, 1) := by decide +kernel
theorem d_m_format_25 : decode b_m_format 25 = .ok (.aload_n 0, 1) := by decide +kernel
theorem d_m_format_26 : decode b_m_format 26 = .ok (.getfield 29, 3) := by decide +kernel
theorem d_m_format_29 : decode b_m_format 29 = .ok (.if_icmp .ge 16, 3) := by decide +kernel
theorem d_m_format_32 : decode b_m_format 32 = .ok (.aload_n 0, 1) := by decide +kernel
theorem d_m_format_33 : decode b_m_format 33 = .ok (.getfield 13, 3) := by decide +kernel
theorem d_m_format_36 : decode b_m_format 36 = .ok (.iload_n 1, 1) := by decide +kernel
theorem d_m_format_37 : decode b_m_format 37 = .ok (.iconst 0, 1) := by decide +kernel
theorem d_m_format_38 : decode b_m_format 38 = .ok (.iastore, 1) := by decide +kernel
theorem d_m_format_39 : decode b_m_format 39 = .ok (.iinc 1 1, 3) := by decide +kernel
theorem d_m_format_42 : decode b_m_format 42 = .ok (.goto (-18), 3) := by decide +kernel
theorem d_m_format_45 : decode b_m_format 45 = .ok (.iconst 2, 1) := by decide +kernel
theorem d_m_format_46 : decode b_m_format 46 = .ok (.aload_n 0, 1) := by decide +kernel
theorem d_m_format_47 : decode b_m_format 47 = .ok (.getfield 23, 3) := by decide +kernel
theorem d_m_format_50 : decode b_m_format 50 = .ok (.imul, 1) := by decide +kernel
theorem d_m_format_51 : decode b_m_format 51 = .ok (.iconst 1, 1) := by decide +kernel
theorem d_m_format_52 : decode b_m_format 52 = .ok (.isub, 1) := by decide +kernel
theorem d_m_format_53 : decode b_m_format 53 = .ok (.istore_n 1, 1) := by decide +kernel
theorem d_m_format_54 : decode b_m_format 54 = .ok (.iload_n 1, 1) := by decide +kernel
theorem d_m_format_55 : decode b_m_format 55 = .ok (.ifCond .le 69, 3) := by decide +kernel
theorem d_m_format_58 : decode b_m_format 58 = .ok (.aload_n 0, 1) := by decide +kernel
theorem d_m_format_59 : decode b_m_format 59 = .ok (.getfield 13, 3) := by decide +kernel
theorem d_m_format_62 : decode b_m_format 62 = .ok (.aload_n 0, 1) := by decide +kernel
theorem d_m_format_63 : decode b_m_format 63 = .ok (.iload_n 1, 1) := by decide +kernel
theorem d_m_format_64 : decode b_m_format 64 = .ok (.invokevirtual 45, 3) := by decide +kernel
theorem d_m_format_67 : decode b_m_format 67 = .ok (.iload_n 1, 1) := by decide +kernel
theorem d_m_format_68 : decode b_m_format 68 = .ok (.aload_n 0, 1) := by decide +kernel
theorem d_m_format_69 : decode b_m_format 69 = .ok (.getfield 23, 3) := by decide +kernel
theorem d_m_format_72 : decode b_m_format 72 = .ok (.if_icmp .lt 16, 3) := by decide +kernel
theorem d_m_format_75 : decode b_m_format 75 = .ok (.aload_n 0, 1) := by decide +kernel
theorem d_m_format_76 : decode b_m_format 76 = .ok (.iload_n 1, 1) := by decide +kernel
theorem d_m_format_77 : decode b_m_format 77 = .ok (.aload_n 0, 1) := by decide +kernel
theorem d_m_format_78 : decode b_m_format 78 = .ok (.getfield 23, 3) := by decide +kernel
theorem d_m_format_81 : decode b_m_format 81 = .ok (.isub, 1) := by decide +kernel
theorem d_m_format_82 : decode b_m_format 82 = .ok (.invokevirtual 49, 3) := by decide +kernel
theorem d_m_format_85 : decode b_m_format 85 = .ok (.goto 32, 3) := by decide +kernel
theorem d_m_format_88 : decode b_m_format 88 = .ok (.aload_n 0, 1) := by decide +kernel
theorem d_m_format_89 : decode b_m_format 89 = .ok (.getfield 13, 3) := by decide +kernel
theorem d_m_format_92 : decode b_m_format 92 = .ok (.aload_n 0, 1) := by decide +kernel
theorem d_m_format_93 : decode b_m_format 93 = .ok (.iconst 2, 1) := by decide +kernel
theorem d_m_format_94 : decode b_m_format 94 = .ok (.iload_n 1, 1) := by decide +kernel
theorem d_m_format_95 : decode b_m_format 95 = .ok (.imul, 1) := by decide +kernel
theorem d_m_format_96 : decode b_m_format 96 = .ok (.invokevirtual 45, 3) := by decide +kernel
theorem d_m_format_99 : decode b_m_format 99 = .ok (.iaload, 1) := by decide +kernel
theorem d_m_format_100 : decode b_m_format 100 = .ok (.aload_n 0, 1) := by decide +kernel
theorem d_m_format_101 : decode b_m_format 101 = .ok (.getfield 13, 3) := by decide +kernel
theorem d_m_format_104 : decode b_m_format 104 = .ok (.aload_n 0, 1) := by decide +kernel
theorem d_m_format_105 : decode b_m_format 105 = .ok (.iconst 2, 1) := by decide +kernel
theorem d_m_format_106 : decode b_m_format 106 = .ok (.iload_n 1, 1) := by decide +kernel
theorem d_m_format_107 : decode b_m_format 107 = .ok (.imul, 1) := by decide +kernel
theorem d_m_format_108 : decode b_m_format 108 = .ok (.iconst 1, 1) := by decide +kernel
theorem d_m_format_109 : decode b_m_format 109 = .ok (.iadd, 1) := by decide +kernel
theorem d_m_format_110 : decode b_m_format 110 = .ok (.invokevirtual 45, 3) := by decide +kernel
theorem d_m_format_113 : decode b_m_format 113 = .ok (.iaload, 1) := by decide +kernel
theorem d_m_format_114 : decode b_m_format 114 = .ok (.invokestatic 38, 3) := by decide +kernel
theorem d_m_format_117 : decode b_m_format 117 = .ok (.iastore, 1) := by decide +kernel
theorem d_m_format_118 : decode b_m_format 118 = .ok (.iinc 1 (-1), 3) := by decide +kernel
theorem d_m_format_121 : decode b_m_format 121 = .ok (.goto (-67), 3) := by decide +kernel
theorem d_m_format_124 : decode b_m_format 124 = .ok (.iconst 0, 1) := by decide +kernel
theorem d_m_format_125 : decode b_m_format 125 = .ok (.istore_n 1, 1) := by decide +kernel
theorem d_m_format_126 : decode b_m_format 126 = .ok (.iload_n 1, 1) := by decide +kernel
theorem d_m_format_127 : decode b_m_format 127 = .ok (.aload_n 0, 1) := by decide +kernel
theorem d_m_format_128 : decode b_m_format 128 = .ok (.getfield 29, 3) := by decide +kernel
theorem d_m_format_131 : decode b_m_format 131 = .ok (.if_icmp .ge 21, 3) := by decide +kernel
theorem d_m_format_134 : decode b_m_format 134 = .ok (.aload_n 0, 1) := by decide +kernel
theorem d_m_format_135 : decode b_m_format 135 = .ok (.getfield 7, 3) := by decide +kernel
theorem d_m_format_138 : decode b_m_format 138 = .ok (.iload_n 1, 1) := by decide +kernel
theorem d_m_format_139 : decode b_m_format 139 = .ok (.aload_n 0, 1) := by decide +kernel
theorem d_m_format_140 : decode b_m_format 140 = .ok (.getfield 13, 3) := by decide +kernel
theorem d_m_format_143 : decode b_m_format 143 = .ok (.iload_n 1, 1) := by decide +kernel
theorem d_m_format_144 : decode b_m_format 144 = .ok (.iaload, 1) := by decide +kernel
theorem d_m_format_145 : decode b_m_format 145 = .ok (.iastore, 1) := by decide +kernel
theorem d_m_format_146 : decode b_m_format 146 = .ok (.iinc 1 1, 3) := by decide +kernel
theorem d_m_format_149 : decode b_m_format 149 = .ok (.goto (-23), 3) := by decide +kernel
theorem d_m_format_152 : decode b_m_format 152 = .ok (.aload_n 0, 1) := by decide +kernel
theorem d_m_format_153 : decode b_m_format 153 = .ok (.iconst 0, 1) := by decide +kernel
theorem d_m_format_154 : decode b_m_format 154 = .ok (.putfield 42, 3) := by decide +kernel
theorem d_m_format_157 : decode b_m_format 157 = .ok (.aload_n 0, 1) := by decide +kernel
theorem d_m_format_158 : decode b_m_format 158 = .ok (.aload_n 0, 1) := by decide +kernel
theorem d_m_format_159 : decode b_m_format 159 = .ok (.getfield 13, 3) := by decide +kernel
theorem d_m_format_162 : decode b_m_format 162 = .ok (.aload_n 0, 1) := by decide +kernel
theorem d_m_format_163 : decode b_m_format 163 = .ok (.iconst 1, 1) := by decide +kernel
theorem d_m_format_164 : decode b_m_format 164 = .ok (.invokevirtual 45, 3) := by decide +kernel
theorem d_m_format_167 : decode b_m_format 167 = .ok (.iaload, 1) := by decide +kernel
theorem d_m_format_168 : decode b_m_format 168 = .ok (.putfield 52, 3) := by decide +kernel
theorem d_m_format_171 : decode b_m_format 171 = .ok (.aload_n 0, 1) := by decide +kernel
theorem d_m_format_172 : decode b_m_format 172 = .ok (.iconst 0, 1) := by decide +kernel
theorem d_m_format_173 : decode b_m_format 173 = .ok (.putfield 55, 3) := by decide +kernel
theorem d_m_format_176 : decode b_m_format 176 = .ok (.aload_n 0, 1) := by decide +kernel
theorem d_m_format_177 : decode b_m_format 177 = .ok (.iconst (-1), 1) := by decide +kernel
theorem d_m_format_178 : decode b_m_format 178 = .ok (.putfield 16, 3) := by decide +kernel
theorem d_m_format_181 : decode b_m_format 181 = .ok (.aload_n 0, 1) := by decide +kernel
theorem d_m_format_182 : decode b_m_format 182 = .ok (.iconst 0, 1) := by decide +kernel
theorem d_m_format_183 : decode b_m_format 183 = .ok (.putfield 58, 3) := by decide +kernel
theorem d_m_format_186 : decode b_m_format 186 = .ok (.iconst 0, 1) := by decide +kernel
theorem d_m_format_187 : decode b_m_format 187 = .ok (.ireturn, 1) := by decide +kernel
theorem d_m_isBlock_0 : decode b_m_isBlock 0 = .ok (.iload_n 1, 1) := by decide +kernel
theorem d_m_isBlock_1 : decode b_m_isBlock 1 = .ok (.ifCond .lt 15, 3) := by decide +kernel
theorem d_m_isBlock_4 : decode b_m_isBlock 4 = .ok (.iload_n 1, 1) := by decide +kernel
theorem d_m_isBlock_5 : decode b_m_isBlock 5 = .ok (.aload_n 0, 1) := by decide +kernel
theorem d_m_isBlock_6 : decode b_m_isBlock 6 = .ok (.getfield 23, 3) := by decide +kernel
theorem d_m_isBlock_9 : decode b_m_isBlock 9 = .ok (.if_icmp .ge 7, 3) := by decide +kernel
theorem d_m_isBlock_12 : decode b_m_isBlock 12 = .ok (.iconst 1, 1) := by decide +kernel
theorem d_m_isBlock_13 : decode b_m_isBlock 13 = .ok (.goto 4, 3) := by decide +kernel
theorem d_m_isBlock_16 : decode b_m_isBlock 16 = .ok (.iconst 0, 1) := by decide +kernel
theorem d_m_isBlock_17 : decode b_m_isBlock 17 = .ok (.ireturn, 1) := by decide +kernel
theorem d_m_way_0 : decode b_m_way 0 = .ok (.aload_n 0, 1) := by decide +kernel
theorem d_m_way_1 : decode b_m_way 1 = .ok (.iload_n 1, 1) := by decide +kernel
theorem d_m_way_2 : decode b_m_way 2 = .ok (.invokevirtual 49, 3) := by decide +kernel
theorem d_m_way_5 : decode b_m_way 5 = .ok (.istore_n 3, 1) := by decide +kernel
theorem d_m_way_6 : decode b_m_way 6 = .ok (.aload_n 0, 1) := by decide +kernel
theorem d_m_way_7 : decode b_m_way 7 = .ok (.getfield 23, 3) := by decide +kernel
theorem d_m_way_10 : decode b_m_way 10 = .ok (.iload_n 1, 1) := by decide +kernel
theorem d_m_way_11 : decode b_m_way 11 = .ok (.iadd, 1) := by decide +kernel
theorem d_m_way_12 : decode b_m_way 12 = .ok (.istore 4, 2) := by decide +kernel
theorem d_m_way_14 : decode b_m_way 14 = .ok (.iload 4, 2) := by decide +kernel
theorem d_m_way_16 : decode b_m_way 16 = .ok (.ifCond .le 86, 3) := by decide +kernel
theorem d_m_way_19 : decode b_m_way 19 = .ok (.iload_n 2, 1) := by decide +kernel
theorem d_m_way_20 : decode b_m_way 20 = .ok (.ifCond .eq 15, 3) := by decide +kernel
theorem d_m_way_23 : decode b_m_way 23 = .ok (.aload_n 0, 1) := by decide +kernel
theorem d_m_way_24 : decode b_m_way 24 = .ok (.getfield 13, 3) := by decide +kernel
theorem d_m_way_27 : decode b_m_way 27 = .ok (.aload_n 0, 1) := by decide +kernel
theorem d_m_way_28 : decode b_m_way 28 = .ok (.iload 4, 2) := by decide +kernel
theorem d_m_way_30 : decode b_m_way 30 = .ok (.invokevirtual 45, 3) := by decide +kernel
theorem d_m_way_33 : decode b_m_way 33 = .ok (.iload_n 3, 1) := by decide +kernel
theorem d_m_way_34 : decode b_m_way 34 = .ok (.iastore, 1) := by decide +kernel
theorem d_m_way_35 : decode b_m_way 35 = .ok (.iload 4, 2) := by decide +kernel
theorem d_m_way_37 : decode b_m_way 37 = .ok (.iconst 1, 1) := by decide +kernel
theorem d_m_way_38 : decode b_m_way 38 = .ok (.if_icmp .le 55, 3) := by decide +kernel
theorem d_m_way_41 : decode b_m_way 41 = .ok (.aload_n 0, 1) := by decide +kernel
theorem d_m_way_42 : decode b_m_way 42 = .ok (.getfield 13, 3) := by decide +kernel
theorem d_m_way_45 : decode b_m_way 45 = .ok (.aload_n 0, 1) := by decide +kernel
theorem d_m_way_46 : decode b_m_way 46 = .ok (.iload 4, 2) := by decide +kernel
theorem d_m_way_48 : decode b_m_way 48 = .ok (.iconst 2, 1) := by decide +kernel
theorem d_m_way_49 : decode b_m_way 49 = .ok (.irem, 1) := by decide +kernel
theorem d_m_way_50 : decode b_m_way 50 = .ok (.ifCond .ne 10, 3) := by decide +kernel
theorem d_m_way_53 : decode b_m_way 53 = .ok (.iload 4, 2) := by decide +kernel
theorem d_m_way_55 : decode b_m_way 55 = .ok (.iconst 1, 1) := by decide +kernel
theorem d_m_way_56 : decode b_m_way 56 = .ok (.iadd, 1) := by decide +kernel
theorem d_m_way_57 : decode b_m_way 57 = .ok (.goto 7, 3) := by decide +kernel
theorem d_m_way_60 : decode b_m_way 60 = .ok (.iload 4, 2) := by decide +kernel
theorem d_m_way_62 : decode b_m_way 62 = .ok (.iconst 1, 1) := by decide +kernel
theorem d_m_way_63 : decode b_m_way 63 = .ok (.isub, 1) := by decide +kernel
theorem d_m_way_64 : decode b_m_way 64 = .ok (.invokevirtual 45, 3) := by decide +kernel
theorem d_m_way_67 : decode b_m_way 67 = .ok (.iaload, 1) := by decide +kernel
theorem d_m_way_68 : decode b_m_way 68 = .ok (.istore 5, 2) := by decide +kernel
theorem d_m_way_70 : decode b_m_way 70 = .ok (.iload 4, 2) := by decide +kernel
theorem d_m_way_72 : decode b_m_way 72 = .ok (.iconst 2, 1) := by decide +kernel
theorem d_m_way_73 : decode b_m_way 73 = .ok (.irem, 1) := by decide +kernel
theorem d_m_way_74 : decode b_m_way 74 = .ok (.ifCond .ne 12, 3) := by decide +kernel
theorem d_m_way_77 : decode b_m_way 77 = .ok (.iload_n 3, 1) := by decide +kernel
theorem d_m_way_78 : decode b_m_way 78 = .ok (.iload 5, 2) := by decide +kernel
theorem d_m_way_80 : decode b_m_way 80 = .ok (.invokestatic 38, 3) := by decide +kernel
theorem d_m_way_83 : decode b_m_way 83 = .ok (.goto 9, 3) := by decide +kernel
theorem d_m_way_86 : decode b_m_way 86 = .ok (.iload 5, 2) := by decide +kernel
theorem d_m_way_88 : decode b_m_way 88 = .ok (.iload_n 3, 1) := by decide +kernel
theorem d_m_way_89 : decode b_m_way 89 = .ok (.invokestatic 38, 3) := by decide +kernel
theorem d_m_way_92 : decode b_m_way 92 = .ok (.istore_n 3, 1) := by decide +kernel
theorem d_m_way_93 : decode b_m_way 93 = .ok (.iload 4, 2) := by decide +kernel
theorem d_m_way_95 : decode b_m_way 95 = .ok (.iconst 2, 1) := by decide +kernel
theorem d_m_way_96 : decode b_m_way 96 = .ok (.idiv, 1) := by decide +kernel
theorem d_m_way_97 : decode b_m_way 97 = .ok (.istore 4, 2) := by decide +kernel
theorem d_m_way_99 : decode b_m_way 99 = .ok (.goto (-85), 3) := by decide +kernel
theorem d_m_way_102 : decode b_m_way 102 = .ok (.iload_n 3, 1) := by decide +kernel
theorem d_m_way_103 : decode b_m_way 103 = .ok (.ireturn, 1) := by decide +kernel
theorem d_m_isRight_0 : decode b_m_isRight 0 = .ok (.aload_n 0, 1) := by decide +kernel
theorem d_m_isRight_1 : decode b_m_isRight 1 = .ok (.invokevirtual 62, 3) := by decide +kernel
theorem d_m_isRight_4 : decode b_m_isRight 4 = .ok (.iconst 0, 1) := by decide +kernel
theorem d_m_isRight_5 : decode b_m_isRight 5 = .ok (.istore_n 2, 1) := by decide +kernel
theorem d_m_isRight_6 : decode b_m_isRight 6 = .ok (.iload_n 2, 1) := by decide +kernel
theorem d_m_isRight_7 : decode b_m_isRight 7 = .ok (.aload_n 0, 1) := by decide +kernel
theorem d_m_isRight_8 : decode b_m_isRight 8 = .ok (.getfield 26, 3) := by decide +kernel
theorem d_m_isRight_11 : decode b_m_isRight 11 = .ok (.if_icmp .ge 27, 3) := by decide +kernel
theorem d_m_isRight_14 : decode b_m_isRight 14 = .ok (.aload_n 0, 1) := by decide +kernel
theorem d_m_isRight_15 : decode b_m_isRight 15 = .ok (.getfield 13, 3) := by decide +kernel
theorem d_m_isRight_18 : decode b_m_isRight 18 = .ok (.iload_n 1, 1) := by decide +kernel
theorem d_m_isRight_19 : decode b_m_isRight 19 = .ok (.aload_n 0, 1) := by decide +kernel
theorem d_m_isRight_20 : decode b_m_isRight 20 = .ok (.getfield 26, 3) := by decide +kernel
theorem d_m_isRight_23 : decode b_m_isRight 23 = .ok (.imul, 1) := by decide +kernel
theorem d_m_isRight_24 : decode b_m_isRight 24 = .ok (.iload_n 2, 1) := by decide +kernel
theorem d_m_isRight_25 : decode b_m_isRight 25 = .ok (.iadd, 1) := by decide +kernel
theorem d_m_isRight_26 : decode b_m_isRight 26 = .ok (.iaload, 1) := by decide +kernel
theorem d_m_isRight_27 : decode b_m_isRight 27 = .ok (.ifCond .ge 5, 3) := by decide +kernel
theorem d_m_isRight_30 : decode b_m_isRight 30 = .ok (.iconst 0, 1) := by decide +kernel
theorem d_m_isRight_31 : decode b_m_isRight 31 = .ok (.ireturn, 1) := by decide +kernel
theorem d_m_isRight_32 : decode b_m_isRight 32 = .ok (.iinc 2 1, 3) := by decide +kernel
theorem d_m_isRight_35 : decode b_m_isRight 35 = .ok (.goto (-29), 3) := by decide +kernel
theorem d_m_isRight_38 : decode b_m_isRight 38 = .ok (.aload_n 0, 1) := by decide +kernel
theorem d_m_isRight_39 : decode b_m_isRight 39 = .ok (.iload_n 1, 1) := by decide +kernel
theorem d_m_isRight_40 : decode b_m_isRight 40 = .ok (.iconst 0, 1) := by decide +kernel
theorem d_m_isRight_41 : decode b_m_isRight 41 = .ok (.invokevirtual 65, 3) := by decide +kernel
theorem d_m_isRight_44 : decode b_m_isRight 44 = .ok (.aload_n 0, 1) := by decide +kernel
theorem d_m_isRight_45 : decode b_m_isRight 45 = .ok (.getfield 52, 3) := by decide +kernel
theorem d_m_isRight_48 : decode b_m_isRight 48 = .ok (.if_icmp .ne 7, 3) := by decide +kernel
theorem d_m_isRight_51 : decode b_m_isRight 51 = .ok (.iconst 1, 1) := by decide +kernel
theorem d_m_isRight_52 : decode b_m_isRight 52 = .ok (.goto 4, 3) := by decide +kernel
theorem d_m_isRight_55 : decode b_m_isRight 55 = .ok (.iconst 0, 1) := by decide +kernel
theorem d_m_isRight_56 : decode b_m_isRight 56 = .ok (.ireturn, 1) := by decide +kernel
theorem d_m_put_0 : decode b_m_put 0 = .ok (.aload_n 0, 1) := by decide +kernel
theorem d_m_put_1 : decode b_m_put 1 = .ok (.getfield 29, 3) := by decide +kernel
theorem d_m_put_4 : decode b_m_put 4 = .ok (.iconst 1, 1) := by decide +kernel
theorem d_m_put_5 : decode b_m_put 5 = .ok (.aload_n 0, 1) := by decide +kernel
theorem d_m_put_6 : decode b_m_put 6 = .ok (.getfield 42, 3) := by decide +kernel
theorem d_m_put_9 : decode b_m_put 9 = .ok (.isub, 1) := by decide +kernel
theorem d_m_put_10 : decode b_m_put 10 = .ok (.imul, 1) := by decide +kernel
theorem d_m_put_11 : decode b_m_put 11 = .ok (.iload_n 1, 1) := by decide +kernel
theorem d_m_put_12 : decode b_m_put 12 = .ok (.iadd, 1) := by decide +kernel
theorem d_m_put_13 : decode b_m_put 13 = .ok (.istore_n 2, 1) := by decide +kernel
theorem d_m_put_14 : decode b_m_put 14 = .ok (.aload_n 0, 1) := by decide +kernel
theorem d_m_put_15 : decode b_m_put 15 = .ok (.getfield 7, 3) := by decide +kernel
theorem d_m_put_18 : decode b_m_put 18 = .ok (.iload_n 2, 1) := by decide +kernel
theorem d_m_put_19 : decode b_m_put 19 = .ok (.iaload, 1) := by decide +kernel
theorem d_m_put_20 : decode b_m_put 20 = .ok (.aload_n 0, 1) := by decide +kernel
theorem d_m_put_21 : decode b_m_put 21 = .ok (.getfield 13, 3) := by decide +kernel
theorem d_m_put_24 : decode b_m_put 24 = .ok (.iload_n 1, 1) := by decide +kernel
theorem d_m_put_25 : decode b_m_put 25 = .ok (.iaload, 1) := by decide +kernel
theorem d_m_put_26 : decode b_m_put 26 = .ok (.if_icmp .ne 5, 3) := by decide +kernel
theorem d_m_put_29 : decode b_m_put 29 = .ok (.iconst 1, 1) := by decide +kernel
theorem d_m_put_30 : decode b_m_put 30 = .ok (.ireturn, 1) := by decide +kernel
theorem d_m_put_31 : decode b_m_put 31 = .ok (.aload_n 0, 1) := by decide +kernel
theorem d_m_put_32 : decode b_m_put 32 = .ok (.getfield 16, 3) := by decide +kernel
theorem d_m_put_35 : decode b_m_put 35 = .ok (.ifCond .ne 10, 3) := by decide +kernel
theorem d_m_put_38 : decode b_m_put 38 = .ok (.aload_n 0, 1) := by decide +kernel
theorem d_m_put_39 : decode b_m_put 39 = .ok (.iconst 1, 1) := by decide +kernel
theorem d_m_put_40 : decode b_m_put 40 = .ok (.putfield 58, 3) := by decide +kernel
theorem d_m_put_43 : decode b_m_put 43 = .ok (.iconst 0, 1) := by decide +kernel
theorem d_m_put_44 : decode b_m_put 44 = .ok (.ireturn, 1) := by decide +kernel
theorem d_m_put_45 : decode b_m_put 45 = .ok (.aload_n 0, 1) := by decide +kernel
theorem d_m_put_46 : decode b_m_put 46 = .ok (.aload_n 0, 1) := by decide +kernel
theorem d_m_put_47 : decode b_m_put 47 = .ok (.getfield 16, 3) := by decide +kernel
theorem d_m_put_50 : decode b_m_put 50 = .ok (.ifCond .le 12, 3) := by decide +kernel
theorem d_m_put_53 : decode b_m_put 53 = .ok (.aload_n 0, 1) := by decide +kernel
theorem d_m_put_54 : decode b_m_put 54 = .ok (.getfield 16, 3) := by decide +kernel
theorem d_m_put_57 : decode b_m_put 57 = .ok (.iconst 1, 1) := by decide +kernel
theorem d_m_put_58 : decode b_m_put 58 = .ok (.isub, 1) := by decide +kernel
theorem d_m_put_59 : decode b_m_put 59 = .ok (.goto 7, 3) := by decide +kernel
theorem d_m_put_62 : decode b_m_put 62 = .ok (.aload_n 0, 1) := by decide +kernel
theorem d_m_put_63 : decode b_m_put 63 = .ok (.getfield 16, 3) := by decide +kernel
theorem d_m_put_66 : decode b_m_put 66 = .ok (.putfield 16, 3) := by decide +kernel
theorem d_m_put_69 : decode b_m_put 69 = .ok (.aload_n 0, 1) := by decide +kernel
theorem d_m_put_70 : decode b_m_put 70 = .ok (.getfield 7, 3) := by decide +kernel
theorem d_m_put_73 : decode b_m_put 73 = .ok (.iload_n 2, 1) := by decide +kernel
theorem d_m_put_74 : decode b_m_put 74 = .ok (.aload_n 0, 1) := by decide +kernel
theorem d_m_put_75 : decode b_m_put 75 = .ok (.getfield 13, 3) := by decide +kernel
theorem d_m_put_78 : decode b_m_put 78 = .ok (.iload_n 1, 1) := by decide +kernel
theorem d_m_put_79 : decode b_m_put 79 = .ok (.iaload, 1) := by decide +kernel
theorem d_m_put_80 : decode b_m_put 80 = .ok (.iastore, 1) := by decide +kernel
theorem d_m_put_81 : decode b_m_put 81 = .ok (.aload_n 0, 1) := by decide +kernel
theorem d_m_put_82 : decode b_m_put 82 = .ok (.dup, 1) := by decide +kernel
theorem d_m_put_83 : decode b_m_put 83 = .ok (.getfield 55, 3) := by decide +kernel
theorem d_m_put_86 : decode b_m_put 86 = .ok (.iconst 1, 1) := by decide +kernel
theorem d_m_put_87 : decode b_m_put 87 = .ok (.iadd, 1) := by decide +kernel
theorem d_m_put_88 : decode b_m_put 88 = .ok (.putfield 55, 3) := by decide +kernel
theorem d_m_put_91 : decode b_m_put 91 = .ok (.iconst 1, 1) := by decide +kernel
theorem d_m_put_92 : decode b_m_put 92 = .ok (.ireturn, 1) := by decide +kernel
theorem d_m_write_0 : decode b_m_write 0 = .ok (.aload_n 0, 1) := by decide +kernel
theorem d_m_write_1 : decode b_m_write 1 = .ok (.iload_n 1, 1) := by decide +kernel
theorem d_m_write_2 : decode b_m_write 2 = .ok (.invokevirtual 69, 3) := by decide +kernel
theorem d_m_write_5 : decode b_m_write 5 = .ok (.ifCond .eq 19, 3) := by decide +kernel
theorem d_m_write_8 : decode b_m_write 8 = .ok (.iload_n 2, 1) := by decide +kernel
theorem d_m_write_9 : decode b_m_write 9 = .ok (.ifCond .lt 15, 3) := by decide +kernel
theorem d_m_write_12 : decode b_m_write 12 = .ok (.iload_n 2, 1) := by decide +kernel
theorem d_m_write_13 : decode b_m_write 13 = .ok (.aload_n 0, 1) := by decide +kernel
theorem d_m_write_14 : decode b_m_write 14 = .ok (.getfield 26, 3) := by decide +kernel
theorem d_m_write_17 : decode b_m_write 17 = .ok (.if_icmp .ge 7, 3) := by decide +kernel
theorem d_m_write_20 : decode b_m_write 20 = .ok (.iload_n 3, 1) := by decide +kernel
theorem d_m_write_21 : decode b_m_write 21 = .ok (.ifCond .ge 6, 3) := by decide +kernel
theorem d_m_write_24 : decode b_m_write 24 = .ok (.bipush (-2), 2) := by decide +kernel
theorem d_m_write_26 : decode b_m_write 26 = .ok (.ireturn, 1) := by decide +kernel
theorem d_m_write_27 : decode b_m_write 27 = .ok (.aload_n 0, 1) := by decide +kernel
theorem d_m_write_28 : decode b_m_write 28 = .ok (.getfield 58, 3) := by decide +kernel
theorem d_m_write_31 : decode b_m_write 31 = .ok (.ifCond .eq 6, 3) := by decide +kernel
theorem d_m_write_34 : decode b_m_write 34 = .ok (.bipush (-4), 2) := by decide +kernel
theorem d_m_write_36 : decode b_m_write 36 = .ok (.ireturn, 1) := by decide +kernel
theorem d_m_write_37 : decode b_m_write 37 = .ok (.aload_n 0, 1) := by decide +kernel
theorem d_m_write_38 : decode b_m_write 38 = .ok (.iload_n 1, 1) := by decide +kernel
theorem d_m_write_39 : decode b_m_write 39 = .ok (.invokevirtual 73, 3) := by decide +kernel
theorem d_m_write_42 : decode b_m_write 42 = .ok (.ifCond .ne 6, 3) := by decide +kernel
theorem d_m_write_45 : decode b_m_write 45 = .ok (.bipush (-3), 2) := by decide +kernel
theorem d_m_write_47 : decode b_m_write 47 = .ok (.ireturn, 1) := by decide +kernel
theorem d_m_write_48 : decode b_m_write 48 = .ok (.aload_n 0, 1) := by decide +kernel
theorem d_m_write_49 : decode b_m_write 49 = .ok (.getfield 13, 3) := by decide +kernel
theorem d_m_write_52 : decode b_m_write 52 = .ok (.iload_n 1, 1) := by decide +kernel
theorem d_m_write_53 : decode b_m_write 53 = .ok (.aload_n 0, 1) := by decide +kernel
theorem d_m_write_54 : decode b_m_write 54 = .ok (.getfield 26, 3) := by decide +kernel
theorem d_m_write_57 : decode b_m_write 57 = .ok (.imul, 1) := by decide +kernel
theorem d_m_write_58 : decode b_m_write 58 = .ok (.iload_n 2, 1) := by decide +kernel
theorem d_m_write_59 : decode b_m_write 59 = .ok (.iadd, 1) := by decide +kernel
theorem d_m_write_60 : decode b_m_write 60 = .ok (.iload_n 3, 1) := by decide +kernel
theorem d_m_write_61 : decode b_m_write 61 = .ok (.iastore, 1) := by decide +kernel
theorem d_m_write_62 : decode b_m_write 62 = .ok (.aload_n 0, 1) := by decide +kernel
theorem d_m_write_63 : decode b_m_write 63 = .ok (.iload_n 1, 1) := by decide +kernel
theorem d_m_write_64 : decode b_m_write 64 = .ok (.iconst 1, 1) := by decide +kernel
theorem d_m_write_65 : decode b_m_write 65 = .ok (.invokevirtual 65, 3) := by decide +kernel
theorem d_m_write_68 : decode b_m_write 68 = .ok (.istore 4, 2) := by decide +kernel
theorem d_m_write_70 : decode b_m_write 70 = .ok (.iconst 0, 1) := by decide +kernel
theorem d_m_write_71 : decode b_m_write 71 = .ok (.istore 5, 2) := by decide +kernel
theorem d_m_write_73 : decode b_m_write 73 = .ok (.iload 5, 2) := by decide +kernel
theorem d_m_write_75 : decode b_m_write 75 = .ok (.aload_n 0, 1) := by decide +kernel
theorem d_m_write_76 : decode b_m_write 76 = .ok (.getfield 23, 3) := by decide +kernel
theorem d_m_write_79 : decode b_m_write 79 = .ok (.aload_n 0, 1) := by decide +kernel
theorem d_m_write_80 : decode b_m_write 80 = .ok (.getfield 26, 3) := by decide +kernel
theorem d_m_write_83 : decode b_m_write 83 = .ok (.imul, 1) := by decide +kernel
theorem d_m_write_84 : decode b_m_write 84 = .ok (.if_icmp .ge 21, 3) := by decide +kernel
theorem d_m_write_87 : decode b_m_write 87 = .ok (.aload_n 0, 1) := by decide +kernel
theorem d_m_write_88 : decode b_m_write 88 = .ok (.iload 5, 2) := by decide +kernel
theorem d_m_write_90 : decode b_m_write 90 = .ok (.invokevirtual 76, 3) := by decide +kernel
theorem d_m_write_93 : decode b_m_write 93 = .ok (.ifCond .ne 6, 3) := by decide +kernel
theorem d_m_write_96 : decode b_m_write 96 = .ok (.bipush (-4), 2) := by decide +kernel
theorem d_m_write_98 : decode b_m_write 98 = .ok (.ireturn, 1) := by decide +kernel
theorem d_m_write_99 : decode b_m_write 99 = .ok (.iinc 5 1, 3) := by decide +kernel
theorem d_m_write_102 : decode b_m_write 102 = .ok (.goto (-29), 3) := by decide +kernel
theorem d_m_write_105 : decode b_m_write 105 = .ok (.iconst 2, 1) := by decide +kernel
theorem d_m_write_106 : decode b_m_write 106 = .ok (.aload_n 0, 1) := by decide +kernel
theorem d_m_write_107 : decode b_m_write 107 = .ok (.getfield 23, 3) := by decide +kernel
theorem d_m_write_110 : decode b_m_write 110 = .ok (.imul, 1) := by decide +kernel
theorem d_m_write_111 : decode b_m_write 111 = .ok (.iconst 1, 1) := by decide +kernel
theorem d_m_write_112 : decode b_m_write 112 = .ok (.isub, 1) := by decide +kernel
theorem d_m_write_113 : decode b_m_write 113 = .ok (.istore 5, 2) := by decide +kernel
theorem d_m_write_115 : decode b_m_write 115 = .ok (.iload 5, 2) := by decide +kernel
theorem d_m_write_117 : decode b_m_write 117 = .ok (.ifCond .le 25, 3) := by decide +kernel
theorem d_m_write_120 : decode b_m_write 120 = .ok (.aload_n 0, 1) := by decide +kernel
theorem d_m_write_121 : decode b_m_write 121 = .ok (.aload_n 0, 1) := by decide +kernel
theorem d_m_write_122 : decode b_m_write 122 = .ok (.iload 5, 2) := by decide +kernel
theorem d_m_write_124 : decode b_m_write 124 = .ok (.invokevirtual 45, 3) := by decide +kernel
theorem d_m_write_127 : decode b_m_write 127 = .ok (.invokevirtual 76, 3) := by decide +kernel
theorem d_m_write_130 : decode b_m_write 130 = .ok (.ifCond .ne 6, 3) := by decide +kernel
theorem d_m_write_133 : decode b_m_write 133 = .ok (.bipush (-4), 2) := by decide +kernel
theorem d_m_write_135 : decode b_m_write 135 = .ok (.ireturn, 1) := by decide +kernel
theorem d_m_write_136 : decode b_m_write 136 = .ok (.iinc 5 (-1), 3) := by decide +kernel
theorem d_m_write_139 : decode b_m_write 139 = .ok (.goto (-24), 3) := by decide +kernel
theorem d_m_write_142 : decode b_m_write 142 = .ok (.aload_n 0, 1) := by decide +kernel
theorem d_m_write_143 : decode b_m_write 143 = .ok (.iconst 1, 1) := by decide +kernel
theorem d_m_write_144 : decode b_m_write 144 = .ok (.aload_n 0, 1) := by decide +kernel
theorem d_m_write_145 : decode b_m_write 145 = .ok (.getfield 42, 3) := by decide +kernel
theorem d_m_write_148 : decode b_m_write 148 = .ok (.isub, 1) := by decide +kernel
theorem d_m_write_149 : decode b_m_write 149 = .ok (.putfield 42, 3) := by decide +kernel
theorem d_m_write_152 : decode b_m_write 152 = .ok (.aload_n 0, 1) := by decide +kernel
theorem d_m_write_153 : decode b_m_write 153 = .ok (.iload 4, 2) := by decide +kernel
theorem d_m_write_155 : decode b_m_write 155 = .ok (.putfield 52, 3) := by decide +kernel
theorem d_m_write_158 : decode b_m_write 158 = .ok (.iconst 0, 1) := by decide +kernel
theorem d_m_write_159 : decode b_m_write 159 = .ok (.ireturn, 1) := by decide +kernel
theorem d_m_read_0 : decode b_m_read 0 = .ok (.aload_n 0, 1) := by decide +kernel
theorem d_m_read_1 : decode b_m_read 1 = .ok (.iload_n 1, 1) := by decide +kernel
theorem d_m_read_2 : decode b_m_read 2 = .ok (.invokevirtual 69, 3) := by decide +kernel
theorem d_m_read_5 : decode b_m_read 5 = .ok (.ifCond .eq 15, 3) := by decide +kernel
theorem d_m_read_8 : decode b_m_read 8 = .ok (.iload_n 2, 1) := by decide +kernel
theorem d_m_read_9 : decode b_m_read 9 = .ok (.ifCond .lt 11, 3) := by decide +kernel
theorem d_m_read_12 : decode b_m_read 12 = .ok (.iload_n 2, 1) := by decide +kernel
theorem d_m_read_13 : decode b_m_read 13 = .ok (.aload_n 0, 1) := by decide +kernel
theorem d_m_read_14 : decode b_m_read 14 = .ok (.getfield 26, 3) := by decide +kernel
theorem d_m_read_17 : decode b_m_read 17 = .ok (.if_icmp .lt 6, 3) := by decide +kernel
theorem d_m_read_20 : decode b_m_read 20 = .ok (.bipush (-2), 2) := by decide +kernel
theorem d_m_read_22 : decode b_m_read 22 = .ok (.ireturn, 1) := by decide +kernel
theorem d_m_read_23 : decode b_m_read 23 = .ok (.aload_n 0, 1) := by decide +kernel
theorem d_m_read_24 : decode b_m_read 24 = .ok (.getfield 58, 3) := by decide +kernel
theorem d_m_read_27 : decode b_m_read 27 = .ok (.ifCond .eq 8, 3) := by decide +kernel
theorem d_m_read_30 : decode b_m_read 30 = .ok (.bipush (-4), 2) := by decide +kernel
theorem d_m_read_32 : decode b_m_read 32 = .ok (.goto 29, 3) := by decide +kernel
theorem d_m_read_35 : decode b_m_read 35 = .ok (.aload_n 0, 1) := by decide +kernel
theorem d_m_read_36 : decode b_m_read 36 = .ok (.iload_n 1, 1) := by decide +kernel
theorem d_m_read_37 : decode b_m_read 37 = .ok (.invokevirtual 73, 3) := by decide +kernel
theorem d_m_read_40 : decode b_m_read 40 = .ok (.ifCond .eq 19, 3) := by decide +kernel
theorem d_m_read_43 : decode b_m_read 43 = .ok (.aload_n 0, 1) := by decide +kernel
theorem d_m_read_44 : decode b_m_read 44 = .ok (.getfield 13, 3) := by decide +kernel
theorem d_m_read_47 : decode b_m_read 47 = .ok (.iload_n 1, 1) := by decide +kernel
theorem d_m_read_48 : decode b_m_read 48 = .ok (.aload_n 0, 1) := by decide +kernel
theorem d_m_read_49 : decode b_m_read 49 = .ok (.getfield 26, 3) := by decide +kernel
theorem d_m_read_52 : decode b_m_read 52 = .ok (.imul, 1) := by decide +kernel
theorem d_m_read_53 : decode b_m_read 53 = .ok (.iload_n 2, 1) := by decide +kernel
theorem d_m_read_54 : decode b_m_read 54 = .ok (.iadd, 1) := by decide +kernel
theorem d_m_read_55 : decode b_m_read 55 = .ok (.iaload, 1) := by decide +kernel
theorem d_m_read_56 : decode b_m_read 56 = .ok (.goto 5, 3) := by decide +kernel
theorem d_m_read_59 : decode b_m_read 59 = .ok (.bipush (-3), 2) := by decide +kernel
theorem d_m_read_61 : decode b_m_read 61 = .ok (.ireturn, 1) := by decide +kernel
theorem d_m_verify_0 : decode b_m_verify 0 = .ok (.aload_n 0, 1) := by decide +kernel
theorem d_m_verify_1 : decode b_m_verify 1 = .ok (.iload_n 1, 1) := by decide +kernel
theorem d_m_verify_2 : decode b_m_verify 2 = .ok (.invokevirtual 69, 3) := by decide +kernel
theorem d_m_verify_5 : decode b_m_verify 5 = .ok (.ifCond .eq 22, 3) := by decide +kernel
theorem d_m_verify_8 : decode b_m_verify 8 = .ok (.aload_n 0, 1) := by decide +kernel
theorem d_m_verify_9 : decode b_m_verify 9 = .ok (.getfield 58, 3) := by decide +kernel
theorem d_m_verify_12 : decode b_m_verify 12 = .ok (.ifCond .ne 15, 3) := by decide +kernel
theorem d_m_verify_15 : decode b_m_verify 15 = .ok (.aload_n 0, 1) := by decide +kernel
theorem d_m_verify_16 : decode b_m_verify 16 = .ok (.iload_n 1, 1) := by decide +kernel
theorem d_m_verify_17 : decode b_m_verify 17 = .ok (.invokevirtual 73, 3) := by decide +kernel
theorem d_m_verify_20 : decode b_m_verify 20 = .ok (.ifCond .eq 7, 3) := by decide +kernel
theorem d_m_verify_23 : decode b_m_verify 23 = .ok (.iconst 1, 1) := by decide +kernel
theorem d_m_verify_24 : decode b_m_verify 24 = .ok (.goto 4, 3) := by decide +kernel
theorem d_m_verify_27 : decode b_m_verify 27 = .ok (.iconst 0, 1) := by decide +kernel
theorem d_m_verify_28 : decode b_m_verify 28 = .ok (.ireturn, 1) := by decide +kernel
theorem d_m_root_0 : decode b_m_root 0 = .ok (.aload_n 0, 1) := by decide +kernel
theorem d_m_root_1 : decode b_m_root 1 = .ok (.getfield 52, 3) := by decide +kernel
theorem d_m_root_4 : decode b_m_root 4 = .ok (.ireturn, 1) := by decide +kernel
theorem d_m_audit_0 : decode b_m_audit 0 = .ok (.aload_n 0, 1) := by decide +kernel
theorem d_m_audit_1 : decode b_m_audit 1 = .ok (.getfield 58, 3) := by decide +kernel
theorem d_m_audit_4 : decode b_m_audit 4 = .ok (.ifCond .eq 6, 3) := by decide +kernel
theorem d_m_audit_7 : decode b_m_audit 7 = .ok (.bipush (-4), 2) := by decide +kernel
theorem d_m_audit_9 : decode b_m_audit 9 = .ok (.ireturn, 1) := by decide +kernel
theorem d_m_audit_10 : decode b_m_audit 10 = .ok (.iconst 0, 1) := by decide +kernel
theorem d_m_audit_11 : decode b_m_audit 11 = .ok (.istore_n 1, 1) := by decide +kernel
theorem d_m_audit_12 : decode b_m_audit 12 = .ok (.iload_n 1, 1) := by decide +kernel
theorem d_m_audit_13 : decode b_m_audit 13 = .ok (.aload_n 0, 1) := by decide +kernel
theorem d_m_audit_14 : decode b_m_audit 14 = .ok (.getfield 23, 3) := by decide +kernel
theorem d_m_audit_17 : decode b_m_audit 17 = .ok (.if_icmp .ge 19, 3) := by decide +kernel
theorem d_m_audit_20 : decode b_m_audit 20 = .ok (.aload_n 0, 1) := by decide +kernel
theorem d_m_audit_21 : decode b_m_audit 21 = .ok (.iload_n 1, 1) := by decide +kernel
theorem d_m_audit_22 : decode b_m_audit 22 = .ok (.invokevirtual 73, 3) := by decide +kernel
theorem d_m_audit_25 : decode b_m_audit 25 = .ok (.ifCond .ne 5, 3) := by decide +kernel
theorem d_m_audit_28 : decode b_m_audit 28 = .ok (.iload_n 1, 1) := by decide +kernel
theorem d_m_audit_29 : decode b_m_audit 29 = .ok (.ireturn, 1) := by decide +kernel
theorem d_m_audit_30 : decode b_m_audit 30 = .ok (.iinc 1 1, 3) := by decide +kernel
theorem d_m_audit_33 : decode b_m_audit 33 = .ok (.goto (-21), 3) := by decide +kernel
theorem d_m_audit_36 : decode b_m_audit 36 = .ok (.iconst (-1), 1) := by decide +kernel
theorem d_m_audit_37 : decode b_m_audit 37 = .ok (.ireturn, 1) := by decide +kernel
theorem d_m_tamper_0 : decode b_m_tamper 0 = .ok (.iload_n 1, 1) := by decide +kernel
theorem d_m_tamper_1 : decode b_m_tamper 1 = .ok (.ifCond .lt 20, 3) := by decide +kernel
theorem d_m_tamper_4 : decode b_m_tamper 4 = .ok (.iload_n 1, 1) := by decide +kernel
theorem d_m_tamper_5 : decode b_m_tamper 5 = .ok (.iconst 2, 1) := by decide +kernel
theorem d_m_tamper_6 : decode b_m_tamper 6 = .ok (.aload_n 0, 1) := by decide +kernel
theorem d_m_tamper_7 : decode b_m_tamper 7 = .ok (.getfield 29, 3) := by decide +kernel
theorem d_m_tamper_10 : decode b_m_tamper 10 = .ok (.imul, 1) := by decide +kernel
theorem d_m_tamper_11 : decode b_m_tamper 11 = .ok (.if_icmp .ge 10, 3) := by decide +kernel
theorem d_m_tamper_14 : decode b_m_tamper 14 = .ok (.aload_n 0, 1) := by decide +kernel
theorem d_m_tamper_15 : decode b_m_tamper 15 = .ok (.getfield 7, 3) := by decide +kernel
theorem d_m_tamper_18 : decode b_m_tamper 18 = .ok (.iload_n 1, 1) := by decide +kernel
theorem d_m_tamper_19 : decode b_m_tamper 19 = .ok (.iload_n 2, 1) := by decide +kernel
theorem d_m_tamper_20 : decode b_m_tamper 20 = .ok (.iastore, 1) := by decide +kernel
theorem d_m_tamper_21 : decode b_m_tamper 21 = .ok (.return_, 1) := by decide +kernel
theorem d_m_crashAfter_0 : decode b_m_crashAfter 0 = .ok (.iload_n 1, 1) := by decide +kernel
theorem d_m_crashAfter_1 : decode b_m_crashAfter 1 = .ok (.ifCond .lt 15, 3) := by decide +kernel
theorem d_m_crashAfter_4 : decode b_m_crashAfter 4 = .ok (.aload_n 0, 1) := by decide +kernel
theorem d_m_crashAfter_5 : decode b_m_crashAfter 5 = .ok (.getfield 58, 3) := by decide +kernel
theorem d_m_crashAfter_8 : decode b_m_crashAfter 8 = .ok (.ifCond .ne 8, 3) := by decide +kernel
theorem d_m_crashAfter_11 : decode b_m_crashAfter 11 = .ok (.aload_n 0, 1) := by decide +kernel
theorem d_m_crashAfter_12 : decode b_m_crashAfter 12 = .ok (.iload_n 1, 1) := by decide +kernel
theorem d_m_crashAfter_13 : decode b_m_crashAfter 13 = .ok (.putfield 16, 3) := by decide +kernel
theorem d_m_crashAfter_16 : decode b_m_crashAfter 16 = .ok (.return_, 1) := by decide +kernel
theorem d_m_recover_0 : decode b_m_recover 0 = .ok (.aload_n 0, 1) := by decide +kernel
theorem d_m_recover_1 : decode b_m_recover 1 = .ok (.getfield 58, 3) := by decide +kernel
theorem d_m_recover_4 : decode b_m_recover 4 = .ok (.ifCond .ne 6, 3) := by decide +kernel
theorem d_m_recover_7 : decode b_m_recover 7 = .ok (.bipush (-2), 2) := by decide +kernel
theorem d_m_recover_9 : decode b_m_recover 9 = .ok (.ireturn, 1) := by decide +kernel
theorem d_m_recover_10 : decode b_m_recover 10 = .ok (.iconst 0, 1) := by decide +kernel
theorem d_m_recover_11 : decode b_m_recover 11 = .ok (.istore_n 2, 1) := by decide +kernel
theorem d_m_recover_12 : decode b_m_recover 12 = .ok (.iload_n 2, 1) := by decide +kernel
theorem d_m_recover_13 : decode b_m_recover 13 = .ok (.iconst 2, 1) := by decide +kernel
theorem d_m_recover_14 : decode b_m_recover 14 = .ok (.if_icmp .ge 52, 3) := by decide +kernel
theorem d_m_recover_17 : decode b_m_recover 17 = .ok (.aload_n 0, 1) := by decide +kernel
theorem d_m_recover_18 : decode b_m_recover 18 = .ok (.getfield 7, 3) := by decide +kernel
theorem d_m_recover_21 : decode b_m_recover 21 = .ok (.aload_n 0, 1) := by decide +kernel
theorem d_m_recover_22 : decode b_m_recover 22 = .ok (.getfield 29, 3) := by decide +kernel
theorem d_m_recover_25 : decode b_m_recover 25 = .ok (.iload_n 2, 1) := by decide +kernel
theorem d_m_recover_26 : decode b_m_recover 26 = .ok (.imul, 1) := by decide +kernel
theorem d_m_recover_27 : decode b_m_recover 27 = .ok (.aload_n 0, 1) := by decide +kernel
theorem d_m_recover_28 : decode b_m_recover 28 = .ok (.iconst 1, 1) := by decide +kernel
theorem d_m_recover_29 : decode b_m_recover 29 = .ok (.invokevirtual 45, 3) := by decide +kernel
theorem d_m_recover_32 : decode b_m_recover 32 = .ok (.iadd, 1) := by decide +kernel
theorem d_m_recover_33 : decode b_m_recover 33 = .ok (.iaload, 1) := by decide +kernel
theorem d_m_recover_34 : decode b_m_recover 34 = .ok (.iload_n 1, 1) := by decide +kernel
theorem d_m_recover_35 : decode b_m_recover 35 = .ok (.if_icmp .ne 25, 3) := by decide +kernel
theorem d_m_recover_38 : decode b_m_recover 38 = .ok (.aload_n 0, 1) := by decide +kernel
theorem d_m_recover_39 : decode b_m_recover 39 = .ok (.iload_n 2, 1) := by decide +kernel
theorem d_m_recover_40 : decode b_m_recover 40 = .ok (.putfield 42, 3) := by decide +kernel
theorem d_m_recover_43 : decode b_m_recover 43 = .ok (.aload_n 0, 1) := by decide +kernel
theorem d_m_recover_44 : decode b_m_recover 44 = .ok (.iload_n 1, 1) := by decide +kernel
theorem d_m_recover_45 : decode b_m_recover 45 = .ok (.putfield 52, 3) := by decide +kernel
theorem d_m_recover_48 : decode b_m_recover 48 = .ok (.aload_n 0, 1) := by decide +kernel
theorem d_m_recover_49 : decode b_m_recover 49 = .ok (.iconst 0, 1) := by decide +kernel
theorem d_m_recover_50 : decode b_m_recover 50 = .ok (.putfield 58, 3) := by decide +kernel
theorem d_m_recover_53 : decode b_m_recover 53 = .ok (.aload_n 0, 1) := by decide +kernel
theorem d_m_recover_54 : decode b_m_recover 54 = .ok (.iconst (-1), 1) := by decide +kernel
theorem d_m_recover_55 : decode b_m_recover 55 = .ok (.putfield 16, 3) := by decide +kernel
theorem d_m_recover_58 : decode b_m_recover 58 = .ok (.iconst 0, 1) := by decide +kernel
theorem d_m_recover_59 : decode b_m_recover 59 = .ok (.ireturn, 1) := by decide +kernel
theorem d_m_recover_60 : decode b_m_recover 60 = .ok (.iinc 2 1, 3) := by decide +kernel
theorem d_m_recover_63 : decode b_m_recover 63 = .ok (.goto (-51), 3) := by decide +kernel
theorem d_m_recover_66 : decode b_m_recover 66 = .ok (.bipush (-5), 2) := by decide +kernel
theorem d_m_recover_68 : decode b_m_recover 68 = .ok (.ireturn, 1) := by decide +kernel
theorem d_m_cells_0 : decode b_m_cells 0 = .ok (.iconst 2, 1) := by decide +kernel
theorem d_m_cells_1 : decode b_m_cells 1 = .ok (.aload_n 0, 1) := by decide +kernel
theorem d_m_cells_2 : decode b_m_cells 2 = .ok (.getfield 29, 3) := by decide +kernel
theorem d_m_cells_5 : decode b_m_cells 5 = .ok (.imul, 1) := by decide +kernel
theorem d_m_cells_6 : decode b_m_cells 6 = .ok (.ireturn, 1) := by decide +kernel
theorem d_m_peek_0 : decode b_m_peek 0 = .ok (.iload_n 1, 1) := by decide +kernel
theorem d_m_peek_1 : decode b_m_peek 1 = .ok (.ifCond .lt 13, 3) := by decide +kernel
theorem d_m_peek_4 : decode b_m_peek 4 = .ok (.iload_n 1, 1) := by decide +kernel
theorem d_m_peek_5 : decode b_m_peek 5 = .ok (.iconst 2, 1) := by decide +kernel
theorem d_m_peek_6 : decode b_m_peek 6 = .ok (.aload_n 0, 1) := by decide +kernel
theorem d_m_peek_7 : decode b_m_peek 7 = .ok (.getfield 29, 3) := by decide +kernel
theorem d_m_peek_10 : decode b_m_peek 10 = .ok (.imul, 1) := by decide +kernel
theorem d_m_peek_11 : decode b_m_peek 11 = .ok (.if_icmp .lt 7, 3) := by decide +kernel
theorem d_m_peek_14 : decode b_m_peek 14 = .ok (.iconst 0, 1) := by decide +kernel
theorem d_m_peek_15 : decode b_m_peek 15 = .ok (.goto 9, 3) := by decide +kernel
theorem d_m_peek_18 : decode b_m_peek 18 = .ok (.aload_n 0, 1) := by decide +kernel
theorem d_m_peek_19 : decode b_m_peek 19 = .ok (.getfield 7, 3) := by decide +kernel
theorem d_m_peek_22 : decode b_m_peek 22 = .ok (.iload_n 1, 1) := by decide +kernel
theorem d_m_peek_23 : decode b_m_peek 23 = .ok (.iaload, 1) := by decide +kernel
theorem d_m_peek_24 : decode b_m_peek 24 = .ok (.ireturn, 1) := by decide +kernel
theorem d_m_writes_0 : decode b_m_writes 0 = .ok (.aload_n 0, 1) := by decide +kernel
theorem d_m_writes_1 : decode b_m_writes 1 = .ok (.getfield 55, 3) := by decide +kernel
theorem d_m_writes_4 : decode b_m_writes 4 = .ok (.ireturn, 1) := by decide +kernel
theorem d_m_slot_0 : decode b_m_slot 0 = .ok (.aload_n 0, 1) := by decide +kernel
theorem d_m_slot_1 : decode b_m_slot 1 = .ok (.getfield 42, 3) := by decide +kernel
theorem d_m_slot_4 : decode b_m_slot 4 = .ok (.ireturn, 1) := by decide +kernel
theorem d_m_down_0 : decode b_m_down 0 = .ok (.aload_n 0, 1) := by decide +kernel
theorem d_m_down_1 : decode b_m_down 1 = .ok (.getfield 58, 3) := by decide +kernel
theorem d_m_down_4 : decode b_m_down 4 = .ok (.ireturn, 1) := by decide +kernel
theorem d_L_cell_0 : decode b_L_cell 0 = .ok (.iload_n 1, 1) := by decide +kernel
theorem d_L_cell_1 : decode b_L_cell 1 = .ok (.aload_n 0, 1) := by decide +kernel
theorem d_L_cell_2 : decode b_L_cell 2 = .ok (.arraylength, 1) := by decide +kernel
theorem d_L_cell_3 : decode b_L_cell 3 = .ok (.if_icmp .ge 9, 3) := by decide +kernel
theorem d_L_cell_6 : decode b_L_cell 6 = .ok (.aload_n 0, 1) := by decide +kernel
theorem d_L_cell_7 : decode b_L_cell 7 = .ok (.iload_n 1, 1) := by decide +kernel
theorem d_L_cell_8 : decode b_L_cell 8 = .ok (.iaload, 1) := by decide +kernel
theorem d_L_cell_9 : decode b_L_cell 9 = .ok (.goto 4, 3) := by decide +kernel
theorem d_L_cell_12 : decode b_L_cell 12 = .ok (.iconst 0, 1) := by decide +kernel
theorem d_L_cell_13 : decode b_L_cell 13 = .ok (.ireturn, 1) := by decide +kernel
end
section
theorem d_L_law_0 : decode code 0 = .ok (.new 7, 3) := by decide +kernel
theorem d_L_law_3 : decode code 3 = .ok (.dup, 1) := by decide +kernel
theorem d_L_law_4 : decode code 4 = .ok (.aload_n 0, 1) := by decide +kernel
theorem d_L_law_5 : decode code 5 = .ok (.iconst 0, 1) := by decide +kernel
theorem d_L_law_6 : decode code 6 = .ok (.invokestatic 9, 3) := by decide +kernel
theorem d_L_law_9 : decode code 9 = .ok (.aload_n 0, 1) := by decide +kernel
theorem d_L_law_10 : decode code 10 = .ok (.iconst 1, 1) := by decide +kernel
theorem d_L_law_11 : decode code 11 = .ok (.invokestatic 9, 3) := by decide +kernel
theorem d_L_law_14 : decode code 14 = .ok (.invokespecial 15, 3) := by decide +kernel
theorem d_L_law_17 : decode code 17 = .ok (.astore_n 1, 1) := by decide +kernel
theorem d_L_law_18 : decode code 18 = .ok (.new 18, 3) := by decide +kernel
theorem d_L_law_21 : decode code 21 = .ok (.dup, 1) := by decide +kernel
theorem d_L_law_22 : decode code 22 = .ok (.aload_n 0, 1) := by decide +kernel
theorem d_L_law_23 : decode code 23 = .ok (.iconst 0, 1) := by decide +kernel
theorem d_L_law_24 : decode code 24 = .ok (.invokestatic 9, 3) := by decide +kernel
theorem d_L_law_27 : decode code 27 = .ok (.aload_n 0, 1) := by decide +kernel
theorem d_L_law_28 : decode code 28 = .ok (.iconst 1, 1) := by decide +kernel
theorem d_L_law_29 : decode code 29 = .ok (.invokestatic 9, 3) := by decide +kernel
theorem d_L_law_32 : decode code 32 = .ok (.invokespecial 20, 3) := by decide +kernel
theorem d_L_law_35 : decode code 35 = .ok (.astore_n 2, 1) := by decide +kernel
theorem d_L_law_36 : decode code 36 = .ok (.iconst 2, 1) := by decide +kernel
theorem d_L_law_37 : decode code 37 = .ok (.istore_n 3, 1) := by decide +kernel
theorem d_L_law_38 : decode code 38 = .ok (.iload_n 3, 1) := by decide +kernel
theorem d_L_law_39 : decode code 39 = .ok (.aload_n 0, 1) := by decide +kernel
theorem d_L_law_40 : decode code 40 = .ok (.arraylength, 1) := by decide +kernel
theorem d_L_law_41 : decode code 41 = .ok (.iconst 4, 1) := by decide +kernel
theorem d_L_law_42 : decode code 42 = .ok (.isub, 1) := by decide +kernel
theorem d_L_law_43 : decode code 43 = .ok (.if_icmp .gt 375, 3) := by decide +kernel
theorem d_L_law_46 : decode code 46 = .ok (.aload_n 0, 1) := by decide +kernel
theorem d_L_law_47 : decode code 47 = .ok (.iload_n 3, 1) := by decide +kernel
theorem d_L_law_48 : decode code 48 = .ok (.iaload, 1) := by decide +kernel
theorem d_L_law_49 : decode code 49 = .ok (.bipush 15, 2) := by decide +kernel
theorem d_L_law_51 : decode code 51 = .ok (.iand, 1) := by decide +kernel
theorem d_L_law_52 : decode code 52 = .ok (.tableswitch 360 0 13 #[72, 85, 128, 161, 184, 197, 210, 241, 262, 285, 298, 321, 334, 347], 72) := by decide +kernel
theorem d_L_law_124 : decode code 124 = .ok (.aload_n 1, 1) := by decide +kernel
theorem d_L_law_125 : decode code 125 = .ok (.invokevirtual 21, 3) := by decide +kernel
theorem d_L_law_128 : decode code 128 = .ok (.aload_n 2, 1) := by decide +kernel
theorem d_L_law_129 : decode code 129 = .ok (.invokevirtual 25, 3) := by decide +kernel
theorem d_L_law_132 : decode code 132 = .ok (.if_icmp .eq 280, 3) := by decide +kernel
theorem d_L_law_135 : decode code 135 = .ok (.iconst 0, 1) := by decide +kernel
theorem d_L_law_136 : decode code 136 = .ok (.ireturn, 1) := by decide +kernel
theorem d_L_law_137 : decode code 137 = .ok (.aload_n 1, 1) := by decide +kernel
theorem d_L_law_138 : decode code 138 = .ok (.aload_n 0, 1) := by decide +kernel
theorem d_L_law_139 : decode code 139 = .ok (.iload_n 3, 1) := by decide +kernel
theorem d_L_law_140 : decode code 140 = .ok (.iconst 1, 1) := by decide +kernel
theorem d_L_law_141 : decode code 141 = .ok (.iadd, 1) := by decide +kernel
theorem d_L_law_142 : decode code 142 = .ok (.iaload, 1) := by decide +kernel
theorem d_L_law_143 : decode code 143 = .ok (.aload_n 0, 1) := by decide +kernel
theorem d_L_law_144 : decode code 144 = .ok (.iload_n 3, 1) := by decide +kernel
theorem d_L_law_145 : decode code 145 = .ok (.iconst 2, 1) := by decide +kernel
theorem d_L_law_146 : decode code 146 = .ok (.iadd, 1) := by decide +kernel
theorem d_L_law_147 : decode code 147 = .ok (.iaload, 1) := by decide +kernel
theorem d_L_law_148 : decode code 148 = .ok (.aload_n 0, 1) := by decide +kernel
theorem d_L_law_149 : decode code 149 = .ok (.iload_n 3, 1) := by decide +kernel
theorem d_L_law_150 : decode code 150 = .ok (.iconst 3, 1) := by decide +kernel
theorem d_L_law_151 : decode code 151 = .ok (.iadd, 1) := by decide +kernel
theorem d_L_law_152 : decode code 152 = .ok (.iaload, 1) := by decide +kernel
theorem d_L_law_153 : decode code 153 = .ok (.invokevirtual 26, 3) := by decide +kernel
theorem d_L_law_156 : decode code 156 = .ok (.aload_n 2, 1) := by decide +kernel
theorem d_L_law_157 : decode code 157 = .ok (.aload_n 0, 1) := by decide +kernel
theorem d_L_law_158 : decode code 158 = .ok (.iload_n 3, 1) := by decide +kernel
theorem d_L_law_159 : decode code 159 = .ok (.iconst 1, 1) := by decide +kernel
theorem d_L_law_160 : decode code 160 = .ok (.iadd, 1) := by decide +kernel
theorem d_L_law_161 : decode code 161 = .ok (.iaload, 1) := by decide +kernel
theorem d_L_law_162 : decode code 162 = .ok (.aload_n 0, 1) := by decide +kernel
theorem d_L_law_163 : decode code 163 = .ok (.iload_n 3, 1) := by decide +kernel
theorem d_L_law_164 : decode code 164 = .ok (.iconst 2, 1) := by decide +kernel
theorem d_L_law_165 : decode code 165 = .ok (.iadd, 1) := by decide +kernel
theorem d_L_law_166 : decode code 166 = .ok (.iaload, 1) := by decide +kernel
theorem d_L_law_167 : decode code 167 = .ok (.aload_n 0, 1) := by decide +kernel
theorem d_L_law_168 : decode code 168 = .ok (.iload_n 3, 1) := by decide +kernel
theorem d_L_law_169 : decode code 169 = .ok (.iconst 3, 1) := by decide +kernel
theorem d_L_law_170 : decode code 170 = .ok (.iadd, 1) := by decide +kernel
theorem d_L_law_171 : decode code 171 = .ok (.iaload, 1) := by decide +kernel
theorem d_L_law_172 : decode code 172 = .ok (.invokevirtual 30, 3) := by decide +kernel
theorem d_L_law_175 : decode code 175 = .ok (.if_icmp .eq 237, 3) := by decide +kernel
theorem d_L_law_178 : decode code 178 = .ok (.iconst 0, 1) := by decide +kernel
theorem d_L_law_179 : decode code 179 = .ok (.ireturn, 1) := by decide +kernel
theorem d_L_law_180 : decode code 180 = .ok (.aload_n 1, 1) := by decide +kernel
theorem d_L_law_181 : decode code 181 = .ok (.aload_n 0, 1) := by decide +kernel
theorem d_L_law_182 : decode code 182 = .ok (.iload_n 3, 1) := by decide +kernel
theorem d_L_law_183 : decode code 183 = .ok (.iconst 1, 1) := by decide +kernel
theorem d_L_law_184 : decode code 184 = .ok (.iadd, 1) := by decide +kernel
theorem d_L_law_185 : decode code 185 = .ok (.iaload, 1) := by decide +kernel
theorem d_L_law_186 : decode code 186 = .ok (.aload_n 0, 1) := by decide +kernel
theorem d_L_law_187 : decode code 187 = .ok (.iload_n 3, 1) := by decide +kernel
theorem d_L_law_188 : decode code 188 = .ok (.iconst 2, 1) := by decide +kernel
theorem d_L_law_189 : decode code 189 = .ok (.iadd, 1) := by decide +kernel
theorem d_L_law_190 : decode code 190 = .ok (.iaload, 1) := by decide +kernel
theorem d_L_law_191 : decode code 191 = .ok (.invokevirtual 31, 3) := by decide +kernel
theorem d_L_law_194 : decode code 194 = .ok (.aload_n 2, 1) := by decide +kernel
theorem d_L_law_195 : decode code 195 = .ok (.aload_n 0, 1) := by decide +kernel
theorem d_L_law_196 : decode code 196 = .ok (.iload_n 3, 1) := by decide +kernel
theorem d_L_law_197 : decode code 197 = .ok (.iconst 1, 1) := by decide +kernel
theorem d_L_law_198 : decode code 198 = .ok (.iadd, 1) := by decide +kernel
theorem d_L_law_199 : decode code 199 = .ok (.iaload, 1) := by decide +kernel
theorem d_L_law_200 : decode code 200 = .ok (.aload_n 0, 1) := by decide +kernel
theorem d_L_law_201 : decode code 201 = .ok (.iload_n 3, 1) := by decide +kernel
theorem d_L_law_202 : decode code 202 = .ok (.iconst 2, 1) := by decide +kernel
theorem d_L_law_203 : decode code 203 = .ok (.iadd, 1) := by decide +kernel
theorem d_L_law_204 : decode code 204 = .ok (.iaload, 1) := by decide +kernel
theorem d_L_law_205 : decode code 205 = .ok (.invokevirtual 35, 3) := by decide +kernel
theorem d_L_law_208 : decode code 208 = .ok (.if_icmp .eq 204, 3) := by decide +kernel
theorem d_L_law_211 : decode code 211 = .ok (.iconst 0, 1) := by decide +kernel
theorem d_L_law_212 : decode code 212 = .ok (.ireturn, 1) := by decide +kernel
theorem d_L_law_213 : decode code 213 = .ok (.aload_n 1, 1) := by decide +kernel
theorem d_L_law_214 : decode code 214 = .ok (.aload_n 0, 1) := by decide +kernel
theorem d_L_law_215 : decode code 215 = .ok (.iload_n 3, 1) := by decide +kernel
theorem d_L_law_216 : decode code 216 = .ok (.iconst 1, 1) := by decide +kernel
theorem d_L_law_217 : decode code 217 = .ok (.iadd, 1) := by decide +kernel
theorem d_L_law_218 : decode code 218 = .ok (.iaload, 1) := by decide +kernel
theorem d_L_law_219 : decode code 219 = .ok (.invokevirtual 36, 3) := by decide +kernel
theorem d_L_law_222 : decode code 222 = .ok (.aload_n 2, 1) := by decide +kernel
theorem d_L_law_223 : decode code 223 = .ok (.aload_n 0, 1) := by decide +kernel
theorem d_L_law_224 : decode code 224 = .ok (.iload_n 3, 1) := by decide +kernel
theorem d_L_law_225 : decode code 225 = .ok (.iconst 1, 1) := by decide +kernel
theorem d_L_law_226 : decode code 226 = .ok (.iadd, 1) := by decide +kernel
theorem d_L_law_227 : decode code 227 = .ok (.iaload, 1) := by decide +kernel
theorem d_L_law_228 : decode code 228 = .ok (.invokevirtual 40, 3) := by decide +kernel
theorem d_L_law_231 : decode code 231 = .ok (.if_icmp .eq 181, 3) := by decide +kernel
theorem d_L_law_234 : decode code 234 = .ok (.iconst 0, 1) := by decide +kernel
theorem d_L_law_235 : decode code 235 = .ok (.ireturn, 1) := by decide +kernel
theorem d_L_law_236 : decode code 236 = .ok (.aload_n 1, 1) := by decide +kernel
theorem d_L_law_237 : decode code 237 = .ok (.invokevirtual 41, 3) := by decide +kernel
theorem d_L_law_240 : decode code 240 = .ok (.aload_n 2, 1) := by decide +kernel
theorem d_L_law_241 : decode code 241 = .ok (.invokevirtual 44, 3) := by decide +kernel
theorem d_L_law_244 : decode code 244 = .ok (.if_icmp .eq 168, 3) := by decide +kernel
theorem d_L_law_247 : decode code 247 = .ok (.iconst 0, 1) := by decide +kernel
theorem d_L_law_248 : decode code 248 = .ok (.ireturn, 1) := by decide +kernel
theorem d_L_law_249 : decode code 249 = .ok (.aload_n 1, 1) := by decide +kernel
theorem d_L_law_250 : decode code 250 = .ok (.invokevirtual 45, 3) := by decide +kernel
theorem d_L_law_253 : decode code 253 = .ok (.aload_n 2, 1) := by decide +kernel
theorem d_L_law_254 : decode code 254 = .ok (.invokevirtual 48, 3) := by decide +kernel
theorem d_L_law_257 : decode code 257 = .ok (.if_icmp .eq 155, 3) := by decide +kernel
theorem d_L_law_260 : decode code 260 = .ok (.iconst 0, 1) := by decide +kernel
theorem d_L_law_261 : decode code 261 = .ok (.ireturn, 1) := by decide +kernel
theorem d_L_law_262 : decode code 262 = .ok (.aload_n 1, 1) := by decide +kernel
theorem d_L_law_263 : decode code 263 = .ok (.aload_n 0, 1) := by decide +kernel
theorem d_L_law_264 : decode code 264 = .ok (.iload_n 3, 1) := by decide +kernel
theorem d_L_law_265 : decode code 265 = .ok (.iconst 1, 1) := by decide +kernel
theorem d_L_law_266 : decode code 266 = .ok (.iadd, 1) := by decide +kernel
theorem d_L_law_267 : decode code 267 = .ok (.iaload, 1) := by decide +kernel
theorem d_L_law_268 : decode code 268 = .ok (.aload_n 0, 1) := by decide +kernel
theorem d_L_law_269 : decode code 269 = .ok (.iload_n 3, 1) := by decide +kernel
theorem d_L_law_270 : decode code 270 = .ok (.iconst 2, 1) := by decide +kernel
theorem d_L_law_271 : decode code 271 = .ok (.iadd, 1) := by decide +kernel
theorem d_L_law_272 : decode code 272 = .ok (.iaload, 1) := by decide +kernel
theorem d_L_law_273 : decode code 273 = .ok (.invokevirtual 49, 3) := by decide +kernel
theorem d_L_law_276 : decode code 276 = .ok (.aload_n 2, 1) := by decide +kernel
theorem d_L_law_277 : decode code 277 = .ok (.aload_n 0, 1) := by decide +kernel
theorem d_L_law_278 : decode code 278 = .ok (.iload_n 3, 1) := by decide +kernel
theorem d_L_law_279 : decode code 279 = .ok (.iconst 1, 1) := by decide +kernel
theorem d_L_law_280 : decode code 280 = .ok (.iadd, 1) := by decide +kernel
theorem d_L_law_281 : decode code 281 = .ok (.iaload, 1) := by decide +kernel
theorem d_L_law_282 : decode code 282 = .ok (.aload_n 0, 1) := by decide +kernel
theorem d_L_law_283 : decode code 283 = .ok (.iload_n 3, 1) := by decide +kernel
theorem d_L_law_284 : decode code 284 = .ok (.iconst 2, 1) := by decide +kernel
theorem d_L_law_285 : decode code 285 = .ok (.iadd, 1) := by decide +kernel
theorem d_L_law_286 : decode code 286 = .ok (.iaload, 1) := by decide +kernel
theorem d_L_law_287 : decode code 287 = .ok (.invokevirtual 52, 3) := by decide +kernel
theorem d_L_law_290 : decode code 290 = .ok (.goto 122, 3) := by decide +kernel
theorem d_L_law_293 : decode code 293 = .ok (.aload_n 1, 1) := by decide +kernel
theorem d_L_law_294 : decode code 294 = .ok (.aload_n 0, 1) := by decide +kernel
theorem d_L_law_295 : decode code 295 = .ok (.iload_n 3, 1) := by decide +kernel
theorem d_L_law_296 : decode code 296 = .ok (.iconst 1, 1) := by decide +kernel
theorem d_L_law_297 : decode code 297 = .ok (.iadd, 1) := by decide +kernel
theorem d_L_law_298 : decode code 298 = .ok (.iaload, 1) := by decide +kernel
theorem d_L_law_299 : decode code 299 = .ok (.invokevirtual 53, 3) := by decide +kernel
theorem d_L_law_302 : decode code 302 = .ok (.aload_n 2, 1) := by decide +kernel
theorem d_L_law_303 : decode code 303 = .ok (.aload_n 0, 1) := by decide +kernel
theorem d_L_law_304 : decode code 304 = .ok (.iload_n 3, 1) := by decide +kernel
theorem d_L_law_305 : decode code 305 = .ok (.iconst 1, 1) := by decide +kernel
theorem d_L_law_306 : decode code 306 = .ok (.iadd, 1) := by decide +kernel
theorem d_L_law_307 : decode code 307 = .ok (.iaload, 1) := by decide +kernel
theorem d_L_law_308 : decode code 308 = .ok (.invokevirtual 57, 3) := by decide +kernel
theorem d_L_law_311 : decode code 311 = .ok (.goto 101, 3) := by decide +kernel
theorem d_L_law_314 : decode code 314 = .ok (.aload_n 1, 1) := by decide +kernel
theorem d_L_law_315 : decode code 315 = .ok (.aload_n 0, 1) := by decide +kernel
theorem d_L_law_316 : decode code 316 = .ok (.iload_n 3, 1) := by decide +kernel
theorem d_L_law_317 : decode code 317 = .ok (.iconst 1, 1) := by decide +kernel
theorem d_L_law_318 : decode code 318 = .ok (.iadd, 1) := by decide +kernel
theorem d_L_law_319 : decode code 319 = .ok (.iaload, 1) := by decide +kernel
theorem d_L_law_320 : decode code 320 = .ok (.invokevirtual 58, 3) := by decide +kernel
theorem d_L_law_323 : decode code 323 = .ok (.aload_n 2, 1) := by decide +kernel
theorem d_L_law_324 : decode code 324 = .ok (.aload_n 0, 1) := by decide +kernel
theorem d_L_law_325 : decode code 325 = .ok (.iload_n 3, 1) := by decide +kernel
theorem d_L_law_326 : decode code 326 = .ok (.iconst 1, 1) := by decide +kernel
theorem d_L_law_327 : decode code 327 = .ok (.iadd, 1) := by decide +kernel
theorem d_L_law_328 : decode code 328 = .ok (.iaload, 1) := by decide +kernel
theorem d_L_law_329 : decode code 329 = .ok (.invokevirtual 62, 3) := by decide +kernel
theorem d_L_law_332 : decode code 332 = .ok (.if_icmp .eq 80, 3) := by decide +kernel
theorem d_L_law_335 : decode code 335 = .ok (.iconst 0, 1) := by decide +kernel
theorem d_L_law_336 : decode code 336 = .ok (.ireturn, 1) := by decide +kernel
theorem d_L_law_337 : decode code 337 = .ok (.aload_n 1, 1) := by decide +kernel
theorem d_L_law_338 : decode code 338 = .ok (.invokevirtual 63, 3) := by decide +kernel
theorem d_L_law_341 : decode code 341 = .ok (.aload_n 2, 1) := by decide +kernel
theorem d_L_law_342 : decode code 342 = .ok (.invokevirtual 66, 3) := by decide +kernel
theorem d_L_law_345 : decode code 345 = .ok (.if_icmp .eq 67, 3) := by decide +kernel
theorem d_L_law_348 : decode code 348 = .ok (.iconst 0, 1) := by decide +kernel
theorem d_L_law_349 : decode code 349 = .ok (.ireturn, 1) := by decide +kernel
theorem d_L_law_350 : decode code 350 = .ok (.aload_n 1, 1) := by decide +kernel
theorem d_L_law_351 : decode code 351 = .ok (.aload_n 0, 1) := by decide +kernel
theorem d_L_law_352 : decode code 352 = .ok (.iload_n 3, 1) := by decide +kernel
theorem d_L_law_353 : decode code 353 = .ok (.iconst 1, 1) := by decide +kernel
theorem d_L_law_354 : decode code 354 = .ok (.iadd, 1) := by decide +kernel
theorem d_L_law_355 : decode code 355 = .ok (.iaload, 1) := by decide +kernel
theorem d_L_law_356 : decode code 356 = .ok (.invokevirtual 67, 3) := by decide +kernel
theorem d_L_law_359 : decode code 359 = .ok (.aload_n 2, 1) := by decide +kernel
theorem d_L_law_360 : decode code 360 = .ok (.aload_n 0, 1) := by decide +kernel
theorem d_L_law_361 : decode code 361 = .ok (.iload_n 3, 1) := by decide +kernel
theorem d_L_law_362 : decode code 362 = .ok (.iconst 1, 1) := by decide +kernel
theorem d_L_law_363 : decode code 363 = .ok (.iadd, 1) := by decide +kernel
theorem d_L_law_364 : decode code 364 = .ok (.iaload, 1) := by decide +kernel
theorem d_L_law_365 : decode code 365 = .ok (.invokevirtual 70, 3) := by decide +kernel
theorem d_L_law_368 : decode code 368 = .ok (.if_icmp .eq 44, 3) := by decide +kernel
theorem d_L_law_371 : decode code 371 = .ok (.iconst 0, 1) := by decide +kernel
theorem d_L_law_372 : decode code 372 = .ok (.ireturn, 1) := by decide +kernel
theorem d_L_law_373 : decode code 373 = .ok (.aload_n 1, 1) := by decide +kernel
theorem d_L_law_374 : decode code 374 = .ok (.invokevirtual 71, 3) := by decide +kernel
theorem d_L_law_377 : decode code 377 = .ok (.aload_n 2, 1) := by decide +kernel
theorem d_L_law_378 : decode code 378 = .ok (.invokevirtual 74, 3) := by decide +kernel
theorem d_L_law_381 : decode code 381 = .ok (.if_icmp .eq 31, 3) := by decide +kernel
theorem d_L_law_384 : decode code 384 = .ok (.iconst 0, 1) := by decide +kernel
theorem d_L_law_385 : decode code 385 = .ok (.ireturn, 1) := by decide +kernel
theorem d_L_law_386 : decode code 386 = .ok (.aload_n 1, 1) := by decide +kernel
theorem d_L_law_387 : decode code 387 = .ok (.invokevirtual 75, 3) := by decide +kernel
theorem d_L_law_390 : decode code 390 = .ok (.aload_n 2, 1) := by decide +kernel
theorem d_L_law_391 : decode code 391 = .ok (.invokevirtual 78, 3) := by decide +kernel
theorem d_L_law_394 : decode code 394 = .ok (.if_icmp .eq 18, 3) := by decide +kernel
theorem d_L_law_397 : decode code 397 = .ok (.iconst 0, 1) := by decide +kernel
theorem d_L_law_398 : decode code 398 = .ok (.ireturn, 1) := by decide +kernel
theorem d_L_law_399 : decode code 399 = .ok (.aload_n 1, 1) := by decide +kernel
theorem d_L_law_400 : decode code 400 = .ok (.invokevirtual 79, 3) := by decide +kernel
theorem d_L_law_403 : decode code 403 = .ok (.aload_n 2, 1) := by decide +kernel
theorem d_L_law_404 : decode code 404 = .ok (.invokevirtual 83, 3) := by decide +kernel
theorem d_L_law_407 : decode code 407 = .ok (.if_icmp .eq 5, 3) := by decide +kernel
theorem d_L_law_410 : decode code 410 = .ok (.iconst 0, 1) := by decide +kernel
theorem d_L_law_411 : decode code 411 = .ok (.ireturn, 1) := by decide +kernel
theorem d_L_law_412 : decode code 412 = .ok (.iinc 3 4, 3) := by decide +kernel
theorem d_L_law_415 : decode code 415 = .ok (.goto (-377), 3) := by decide +kernel
theorem d_L_law_418 : decode code 418 = .ok (.iconst 1, 1) := by decide +kernel
theorem d_L_law_419 : decode code 419 = .ok (.ireturn, 1) := by decide +kernel
end
section
/-! own rows over the kit: numbers as Nat (nI) and Bool (bI), fields and arrays of the two worlds, calls -/
def bI (b : Bool) : Int32 := if b then 1 else 0
theorem bI_0 {b : Bool} : bI b = 0 ↔ b = false := by cases b <;> decide
theorem bI_n (b : Bool) : narrow .boolean (.int (bI b)) = .int (bI b) := by cases b <;> decide
theorem bI_f (b : Bool) : fits .boolean (.int (bI b)) = true := by cases b <;> decide
theorem bI_t : nI 1 = bI true := by decide
theorem bI_ff : nI 0 = bI false := by decide
theorem bI_inj {a b : Bool} : bI a = bI b ↔ a = b := by cases a <;> cases b <;> decide
theorem nI_le0 {a : Nat} (h : a < 2 ^ 31) : nI a ≤ 0 ↔ a = 0 := by
  rw [← nI_0, nI_leI h (by decide)]; omega
theorem nI_eq0 {a : Nat} (h : a < 2 ^ 31) : nI a = 0 ↔ a = 0 := by
  rw [← nI_0, nI_eq h (by decide)]
/-- a reading method's start: a world, and nothing of it changes -/
def PcR (D : va_G) (tys : List (ClassId × FieldType)) (ws : va_W) (av : List Value) : Array Value → State → Prop := va_Pc av (fun U => va_P D classes ws U.heap ∧ va_K D classes tys U)
def PcS (av : List Value) : Array Value → State → Prop := va_Pc av (fun _ => True)
/-- a writing method's start and end -/
def PcW (D : va_G) (tys : List (ClassId × FieldType)) (ws : va_W) (sz : Nat) (av : List Value) : Array Value → State → Prop := va_Pc av (fun U => U.heap.size = sz ∧ va_P D classes ws U.heap ∧ va_K D classes tys U ∧ va_D (fun _ => True) ws)
def QcW {S : Type} (D : va_G) (A : Nat → Prop) (post : S → Prop) (ov : S → Option Value) (wf : S → va_W) : Array Value → State → Outcome → State → Prop := fun _ st oc t => (∃ u : S, post u ∧ oc = .returned (ov u) ∧ va_P D classes (wf u) t.heap ∧ va_D A (wf u)) ∧ va_F A st t
theorem PcR.blind {D : va_G} {tys : List (ClassId × FieldType)} {ws : va_W} {av : List Value} : FrameBlind (PcR D tys ws av) := fun a U g mk q => ⟨q.1, q.2.1, va_K.moved (u := U) (U := U.calling g mk a) (Vm.Alike.refl U.vm) q.2.2⟩
theorem PcS.blind {av : List Value} : FrameBlind (PcS av) := fun _ _ _ _ q => ⟨q.1, trivial⟩
theorem PcW.blind {D : va_G} {tys : List (ClassId × FieldType)} {ws : va_W} {sz : Nat} {av : List Value} : FrameBlind (PcW D tys ws sz av) := fun a U g mk q => ⟨q.1, q.2.1, q.2.2.1, va_K.moved (u := U) (U := U.calling g mk a) (Vm.Alike.refl U.vm) q.2.2.2.1, q.2.2.2.2⟩
theorem F_x_cls (k : Nat) : (F_x k).1 = R_x := by unfold F_x; split <;> rfl
theorem F_m_cls (k : Nat) : (F_m k).1 = R_m := by unfold F_m; split <;> rfl
section HSW
variable {p : Program} {l : Launch} {e : Env} {R : Room} {s : State} {m : MethodId} {args : Array Value} {below : List Frame} {meth : Method} {c : Code} {H : Heap} {locs : List Loc} {cells slots : Nat} {Q : State → Prop}
variable {cc : ByteArray} {pc : Nat} {ls : Array Slot} {rest : List Value}
theorem hs_to {x y : Int32} (h : x = y) (k : W p l e R s m args below meth c H locs cells slots Q (F0 m pc ls (.int y :: rest))) : W p l e R s m args below meth c H locs cells slots Q (F0 m pc ls (.int x :: rest)) := h ▸ k
theorem hs_iadd (hx : p.tables.exec = Jvm.exec) (hb : c.code = cc) {a b : Nat} (hdg : decode cc pc = .ok (.iadd, 1)) (k : W p l e R s m args below meth c H locs cells slots Q (F0 m (pc + 1) ls (.int (nI (a + b)) :: rest))) : W p l e R s m args below meth c H locs cells slots Q (F0 m pc ls (.int (nI b) :: .int (nI a) :: rest)) := lv_iadd hx hb hdg (hs_to (nI_add a b) k)
theorem hs_imul (hx : p.tables.exec = Jvm.exec) (hb : c.code = cc) {a b : Nat} (hdg : decode cc pc = .ok (.imul, 1)) (k : W p l e R s m args below meth c H locs cells slots Q (F0 m (pc + 1) ls (.int (nI (a * b)) :: rest))) : W p l e R s m args below meth c H locs cells slots Q (F0 m pc ls (.int (nI b) :: .int (nI a) :: rest)) := lv_imul hx hb hdg (hs_to (pk_mul a b) k)
theorem hs_isub (hx : p.tables.exec = Jvm.exec) (hb : c.code = cc) {a b : Nat} (h : b ≤ a) (hdg : decode cc pc = .ok (.isub, 1)) (k : W p l e R s m args below meth c H locs cells slots Q (F0 m (pc + 1) ls (.int (nI (a - b)) :: rest))) : W p l e R s m args below meth c H locs cells slots Q (F0 m pc ls (.int (nI b) :: .int (nI a) :: rest)) := lv_isub hx hb hdg (hs_to (pk_sub h) k)
theorem hs_ge (hx : p.tables.exec = Jvm.exec) (hb : c.code = cc) {a b : Nat} {off : Int} {tgt : Nat} (hdg : decode cc pc = .ok (.if_icmp .ge off, 3)) (ht : (pc : Int) + off = (tgt : Int)) (ha : a < 2 ^ 31) (hb' : b < 2 ^ 31) (kt : b ≤ a → W p l e R s m args below meth c H locs cells slots Q (F0 m tgt ls rest)) (kf : a < b → W p l e R s m args below meth c H locs cells slots Q (F0 m (pc + 3) ls rest)) : W p l e R s m args below meth c H locs cells slots Q (F0 m pc ls (.int (nI b) :: .int (nI a) :: rest)) :=
  lv_icmp_ge hx hb hdg ht (fun h => kt ((nI_leI hb' ha).mp h)) (fun h => kf (Nat.lt_of_not_le (fun q => h ((nI_leI hb' ha).mpr q))))
theorem hs_lt (hx : p.tables.exec = Jvm.exec) (hb : c.code = cc) {a b : Nat} {off : Int} {tgt : Nat} (hdg : decode cc pc = .ok (.if_icmp .lt off, 3)) (ht : (pc : Int) + off = (tgt : Int)) (ha : a < 2 ^ 31) (hb' : b < 2 ^ 31) (kt : a < b → W p l e R s m args below meth c H locs cells slots Q (F0 m tgt ls rest)) (kf : b ≤ a → W p l e R s m args below meth c H locs cells slots Q (F0 m (pc + 3) ls rest)) : W p l e R s m args below meth c H locs cells slots Q (F0 m pc ls (.int (nI b) :: .int (nI a) :: rest)) :=
  lv_icmp_lt hx hb hdg ht (fun h => kt ((nI_ltI ha hb').mp h)) (fun h => kf (Nat.le_of_not_lt (fun q => h ((nI_ltI ha hb').mpr q))))
theorem hs_gt (hx : p.tables.exec = Jvm.exec) (hb : c.code = cc) {a b : Nat} {off : Int} {tgt : Nat} (hdg : decode cc pc = .ok (.if_icmp .gt off, 3)) (ht : (pc : Int) + off = (tgt : Int)) (ha : a < 2 ^ 31) (hb' : b < 2 ^ 31) (kt : b < a → W p l e R s m args below meth c H locs cells slots Q (F0 m tgt ls rest)) (kf : a ≤ b → W p l e R s m args below meth c H locs cells slots Q (F0 m (pc + 3) ls rest)) : W p l e R s m args below meth c H locs cells slots Q (F0 m pc ls (.int (nI b) :: .int (nI a) :: rest)) :=
  lv_icmp_gt hx hb hdg ht (fun h => kt ((nI_ltI hb' ha).mp h)) (fun h => kf (Nat.le_of_not_lt (fun q => h ((nI_ltI hb' ha).mpr q))))
theorem hs_le (hx : p.tables.exec = Jvm.exec) (hb : c.code = cc) {a b : Nat} {off : Int} {tgt : Nat} (hdg : decode cc pc = .ok (.if_icmp .le off, 3)) (ht : (pc : Int) + off = (tgt : Int)) (ha : a < 2 ^ 31) (hb' : b < 2 ^ 31) (kt : a ≤ b → W p l e R s m args below meth c H locs cells slots Q (F0 m tgt ls rest)) (kf : b < a → W p l e R s m args below meth c H locs cells slots Q (F0 m (pc + 3) ls rest)) : W p l e R s m args below meth c H locs cells slots Q (F0 m pc ls (.int (nI b) :: .int (nI a) :: rest)) :=
  lv_icmp_le hx hb hdg ht (fun h => kt ((nI_leI ha hb').mp h)) (fun h => kf (Nat.lt_of_not_le (fun q => h ((nI_leI ha hb').mpr q))))
theorem hs_ne (hx : p.tables.exec = Jvm.exec) (hb : c.code = cc) {a b : Nat} {off : Int} {tgt : Nat} (hdg : decode cc pc = .ok (.if_icmp .ne off, 3)) (ht : (pc : Int) + off = (tgt : Int)) (ha : a < 2 ^ 31) (hb' : b < 2 ^ 31) (kt : ¬ a = b → W p l e R s m args below meth c H locs cells slots Q (F0 m tgt ls rest)) (kf : a = b → W p l e R s m args below meth c H locs cells slots Q (F0 m (pc + 3) ls rest)) : W p l e R s m args below meth c H locs cells slots Q (F0 m pc ls (.int (nI b) :: .int (nI a) :: rest)) :=
  lv_icmp_ne hx hb hdg ht (fun h => kt (fun q => h ((nI_eq ha hb').mpr q))) (fun h => kf ((nI_eq ha hb').mp h))
theorem hs_ifle (hx : p.tables.exec = Jvm.exec) (hb : c.code = cc) {a : Nat} {off : Int} {tgt : Nat} (hdg : decode cc pc = .ok (.ifCond .le off, 3)) (ht : (pc : Int) + off = (tgt : Int)) (ha : a < 2 ^ 31) (kt : a = 0 → W p l e R s m args below meth c H locs cells slots Q (F0 m tgt ls rest)) (kf : ¬ a = 0 → W p l e R s m args below meth c H locs cells slots Q (F0 m (pc + 3) ls rest)) : W p l e R s m args below meth c H locs cells slots Q (F0 m pc ls (.int (nI a) :: rest)) :=
  lv_if_le hx hb hdg ht (fun h => kt ((nI_le0 ha).mp h)) (fun h => kf (fun q => h ((nI_le0 ha).mpr q)))
theorem hs_ifneN (hx : p.tables.exec = Jvm.exec) (hb : c.code = cc) {a : Nat} {off : Int} {tgt : Nat} (hdg : decode cc pc = .ok (.ifCond .ne off, 3)) (ht : (pc : Int) + off = (tgt : Int)) (ha : a < 2 ^ 31) (kt : ¬ a = 0 → W p l e R s m args below meth c H locs cells slots Q (F0 m tgt ls rest)) (kf : a = 0 → W p l e R s m args below meth c H locs cells slots Q (F0 m (pc + 3) ls rest)) : W p l e R s m args below meth c H locs cells slots Q (F0 m pc ls (.int (nI a) :: rest)) :=
  lv_if_ne hx hb hdg ht (fun h => kt (fun q => h ((nI_eq0 ha).mpr q))) (fun h => kf ((nI_eq0 ha).mp h))
theorem hs_ifeqB (hx : p.tables.exec = Jvm.exec) (hb : c.code = cc) {a : Bool} {off : Int} {tgt : Nat} (hdg : decode cc pc = .ok (.ifCond .eq off, 3)) (ht : (pc : Int) + off = (tgt : Int)) (kt : a = false → W p l e R s m args below meth c H locs cells slots Q (F0 m tgt ls rest)) (kf : a = true → W p l e R s m args below meth c H locs cells slots Q (F0 m (pc + 3) ls rest)) : W p l e R s m args below meth c H locs cells slots Q (F0 m pc ls (.int (bI a) :: rest)) :=
  lv_if_eq hx hb hdg ht (fun h => kt (bI_0.mp h)) (fun h => kf (by cases a with | false => exact absurd rfl h | true => rfl))
theorem hs_ifneB (hx : p.tables.exec = Jvm.exec) (hb : c.code = cc) {a : Bool} {off : Int} {tgt : Nat} (hdg : decode cc pc = .ok (.ifCond .ne off, 3)) (ht : (pc : Int) + off = (tgt : Int)) (kt : a = true → W p l e R s m args below meth c H locs cells slots Q (F0 m tgt ls rest)) (kf : a = false → W p l e R s m args below meth c H locs cells slots Q (F0 m (pc + 3) ls rest)) : W p l e R s m args below meth c H locs cells slots Q (F0 m pc ls (.int (bI a) :: rest)) :=
  lv_if_ne hx hb hdg ht (fun h => kt (by cases a with | false => exact absurd rfl h | true => rfl)) (fun h => kf (bI_0.mp h))
theorem hs_iald {D : va_G} {tys : List (ClassId × FieldType)} {ws : va_W} (hx : p.tables.exec = Jvm.exec) (hb : c.code = cc) (hK : va_K D classes tys s) (hP : va_P D classes ws H) (q0 t0 : Nat) {cA : ClassId} {n a : Nat} {f : Nat → Int32} (ha : ws[q0]? = some (a, .inl (cA, n, .inl f))) (ht : tys[t0]? = some (cA, .int)) {i : Nat} (hi : i < n) (hn : n < 2 ^ 31) (hdg : decode cc pc = .ok (.iaload, 1))
    (kk : W p l e R s m args below meth c H locs cells slots Q (F0 m (pc + 1) ls (.int (f i) :: rest))) : W p l e R s m args below meth c H locs cells slots Q (F0 m pc ls (.int (nI i) :: .ref a :: rest)) :=
  va_iald hx hb hK hP q0 t0 ha ht (vp_in_nI hi hn) hdg (hs_to (by rw [nI_clamp (Nat.lt_trans hi hn)]) kk)
theorem hs_iast {D : va_G} {tys : List (ClassId × FieldType)} {ws : va_W} {A : Nat → Prop} {H0 : Heap} (hx : p.tables.exec = Jvm.exec) (hb : c.code = cc) (hK : va_K D classes tys s) (hP : va_P D classes ws H) (hD : va_D A ws) (hS : va_S A H0 H locs) (q0 t0 : Nat) {cA : ClassId} {n a : Nat} {f : Nat → Int32} (ha : ws[q0]? = some (a, .inl (cA, n, .inl f))) (ht : tys[t0]? = some (cA, .int)) {i : Nat} {x : Int32} (hi : i < n) (hn : n < 2 ^ 31) (hdg : decode cc pc = .ok (.iastore, 1))
    (kk : ∀ (H1 : Heap) (locs1 : List Loc), va_P D classes (ws.set q0 (a, .inl (cA, n, .inl (upd f i x)))) H1 → va_D A (ws.set q0 (a, .inl (cA, n, .inl (upd f i x)))) → va_S A H0 H1 locs1 → W p l e R s m args below meth c H1 locs1 cells slots Q (F0 m (pc + 1) ls rest)) : W p l e R s m args below meth c H locs cells slots Q (F0 m pc ls (.int x :: .int (nI i) :: .ref a :: rest)) := by
  have e := nI_clamp (Nat.lt_trans hi hn)
  refine va_iast hx hb hK hP hD hS q0 t0 ha ht (vp_in_nI hi hn) hdg (fun H1 l1 h1 h2 h3 => ?_)
  rw [e] at h1 h2
  exact kk H1 l1 h1 h2 h3
theorem gx (hx : p.tables.exec = Jvm.exec) (hb : c.code = cc) (hts : ∀ w ∈ gw, w.before args s = true) (hown : s.vm.findClass R_x = some m.cls) {D : va_G} {tys : List (ClassId × FieldType)} {ws : va_W} (hK : va_K D classes tys s) (hP : va_P D classes ws H) {a : Nat} {fs : List Value} (he : ws[0]? = some (a, .inr (0, fs))) (k index : Nat) (hk : k < 10) (hl : Cond.fieldLink R_x index R_x (F_x k).2.1 (F_x k).2.2.1 ∈ gw) {v : Value} (hv : fs[k]? = some v) (hdg : decode cc pc = .ok (.getfield index, 3))
    (kk : W p l e R s m args below meth c H locs cells slots Q (F0 m (pc + 3) ls (v :: rest))) : W p l e R s m args below meth c H locs cells slots Q (F0 m pc ls (.ref a :: rest)) :=
  va_get (C := R_x) (T := F_x) (N := 10) hx hb hts i_x hown hK hP 0 he rfl k hk (hts _ hl) (fun _ h => by rw [F_x_cls] at h; exact h) hv hdg kk
theorem gm (hx : p.tables.exec = Jvm.exec) (hb : c.code = cc) (hts : ∀ w ∈ gw, w.before args s = true) (hown : s.vm.findClass R_m = some m.cls) {D : va_G} {tys : List (ClassId × FieldType)} {ws : va_W} (hK : va_K D classes tys s) (hP : va_P D classes ws H) {a : Nat} {fs : List Value} (he : ws[0]? = some (a, .inr (1, fs))) (k index : Nat) (hk : k < 11) (hl : Cond.fieldLink R_m index R_m (F_m k).2.1 (F_m k).2.2.1 ∈ gw) {v : Value} (hv : fs[k]? = some v) (hdg : decode cc pc = .ok (.getfield index, 3))
    (kk : W p l e R s m args below meth c H locs cells slots Q (F0 m (pc + 3) ls (v :: rest))) : W p l e R s m args below meth c H locs cells slots Q (F0 m pc ls (.ref a :: rest)) :=
  va_get (C := R_m) (T := F_m) (N := 11) hx hb hts i_m hown hK hP 0 he rfl k hk (hts _ hl) (fun _ h => by rw [F_m_cls] at h; exact h) hv hdg kk
theorem px (hx : p.tables.exec = Jvm.exec) (hb : c.code = cc) (hts : ∀ w ∈ gw, w.before args s = true) (hown : s.vm.findClass R_x = some m.cls) {D : va_G} {tys : List (ClassId × FieldType)} {ws : va_W} {A : Nat → Prop} {H0 : Heap} (hK : va_K D classes tys s) (hP : va_P D classes ws H) (hD : va_D A ws) (hS : va_S A H0 H locs) {a : Nat} {fs : List Value} (he : ws[0]? = some (a, .inr (0, fs))) (k index : Nat) (hk : k < 10) (hl : Cond.fieldLink R_x index R_x (F_x k).2.1 (F_x k).2.2.1 ∈ gw) (hfin : (F_x k).2.2.2 = false) {ty : FieldType} {v : Value} (hd : t_x k = ty) (hn : narrow ty v = v) (hfit : fits ty v = true) (hlen : k < fs.length) (hdg : decode cc pc = .ok (.putfield index, 3))
    (kk : ∀ (H1 : Heap) (locs1 : List Loc), va_P D classes (ws.set 0 (a, .inr (0, fs.set k v))) H1 → va_D A (ws.set 0 (a, .inr (0, fs.set k v))) → va_S A H0 H1 locs1 → W p l e R s m args below meth c H1 locs1 cells slots Q (F0 m (pc + 3) ls rest)) : W p l e R s m args below meth c H locs cells slots Q (F0 m pc ls (v :: .ref a :: rest)) :=
  va_put (C := R_x) (T := F_x) (N := 10) hx hb hts i_x t_x t_x_ok n_x hown hK hP hD hS 0 he rfl k hk (hts _ hl) (fun _ h => by rw [F_x_cls] at h; exact h) hfin (hd ▸ t_x_ok k hk) hn hfit hlen hdg kk
theorem pm (hx : p.tables.exec = Jvm.exec) (hb : c.code = cc) (hts : ∀ w ∈ gw, w.before args s = true) (hown : s.vm.findClass R_m = some m.cls) {D : va_G} {tys : List (ClassId × FieldType)} {ws : va_W} {A : Nat → Prop} {H0 : Heap} (hK : va_K D classes tys s) (hP : va_P D classes ws H) (hD : va_D A ws) (hS : va_S A H0 H locs) {a : Nat} {fs : List Value} (he : ws[0]? = some (a, .inr (1, fs))) (k index : Nat) (hk : k < 11) (hl : Cond.fieldLink R_m index R_m (F_m k).2.1 (F_m k).2.2.1 ∈ gw) (hfin : (F_m k).2.2.2 = false) {ty : FieldType} {v : Value} (hd : t_m k = ty) (hn : narrow ty v = v) (hfit : fits ty v = true) (hlen : k < fs.length) (hdg : decode cc pc = .ok (.putfield index, 3))
    (kk : ∀ (H1 : Heap) (locs1 : List Loc), va_P D classes (ws.set 0 (a, .inr (1, fs.set k v))) H1 → va_D A (ws.set 0 (a, .inr (1, fs.set k v))) → va_S A H0 H1 locs1 → W p l e R s m args below meth c H1 locs1 cells slots Q (F0 m (pc + 3) ls rest)) : W p l e R s m args below meth c H locs cells slots Q (F0 m pc ls (v :: .ref a :: rest)) :=
  va_put (C := R_m) (T := F_m) (N := 11) hx hb hts i_m t_m t_m_ok n_m hown hK hP hD hS 0 he rfl k hk (hts _ hl) (fun _ h => by rw [F_m_cls] at h; exact h) hfin (hd ▸ t_m_ok k hk) hn hfit hlen hdg kk
/-- the room of a call -/
def okR (R rm : Room) (maxL : Nat) : Prop := rm.frames + 1 ≤ R.frames ∧ 8 + (maxL + 11) + rm.locals ≤ R.locals
/-- a call of a reading instance method -/
theorem hs_rv {y : MethodName} {bytes : ByteArray} {maxL nL n index : Nat} {ret : Option FieldType} {rm : Room} {D : va_G} {tys : List (ClassId × FieldType)} {wc : va_W} {own : String} {b ci : Nat} {T : u_T} {N : Nat} {fs As : List Value} {r : Int32} {st0 : List Value}
    (S : CallFix p m c cc nL s args gw own) (hM : Met l y (tw y bytes maxL ret) rm (PcR D tys wc (.ref b :: As)) (QcRead r) 0 0 (fun _ => False)) (hG : okV own index y n) (hcd : Cond.code y bytes maxL ret ∈ gw) (hrc : rm.cells = 0) (hrs : rm.slots = 0) (hR : okR R rm maxL)
    (hK : va_K D classes tys s) (hP : va_P D classes wc H) (he : wc[0]? = some (b, .inr (ci, fs))) (hc : classes[ci]? = some (y.cls, T, N)) (hn : As.length = n) (hsize : ls.size = nL) (hst : st0 = As.reverse ++ .ref b :: rest) (hW : (rest.map fun v => v.category).sum ≤ 8) (hdg : decode cc pc = .ok (.invokevirtual index, 3)) (hf : cells ≤ R.cells ∧ slots ≤ R.slots)
    (kk : W p l e R s m args below meth c H locs cells slots Q (F0 m (pc + 3) ls (.int r :: rest))) : W p l e R s m args below meth c H locs cells slots Q (F0 m pc ls st0) := by
  obtain ⟨hd, h1, h2, h3, h4⟩ := hG
  have hts := S.2.2.2.2
  exact W.callR (g := F0 m pc ls st0) (W.runV (C := y.cls) (As := As) (rest := rest) S hM ⟨callB_of n hts (good_tw hcd) rfl hrc hrs (hts _ h1) (hts _ h2) hd hR, hts _ h3, hts _ h4⟩
    ⟨PcR.blind, va_recv hK hP hc he, fun U hU hW => ⟨rfl, by rw [hU]; exact hP, va_K.moved hW.alike hK⟩⟩ rfl hn hsize hst (lv_room hW) hdg hf) kk
/-- a call of a static method that reads nothing -/
theorem hs_rs {y : MethodName} {bytes : ByteArray} {maxL nL n index : Nat} {ret : Option FieldType} {rm : Room} {own : String} {As : List Value} {r : Int32} {st0 : List Value}
    (S : CallFix p m c cc nL s args gw own) (hM : Met l y (tw y bytes maxL ret) rm (PcS As) (QcRead r) 0 0 (fun _ => False)) (hG : okS own index y n) (hcd : Cond.code y bytes maxL ret ∈ gw) (hrc : rm.cells = 0) (hrs : rm.slots = 0) (hR : okR R rm maxL)
    (hn : As.length = n) (hsize : ls.size = nL) (hst : st0 = As.reverse ++ rest) (hW : (rest.map fun v => v.category).sum ≤ 8) (hdg : decode cc pc = .ok (.invokestatic index, 3)) (hf : cells ≤ R.cells ∧ slots ≤ R.slots)
    (kk : W p l e R s m args below meth c H locs cells slots Q (F0 m (pc + 3) ls (.int r :: rest))) : W p l e R s m args below meth c H locs cells slots Q (F0 m pc ls st0) := by
  obtain ⟨hd, h1, h2, h3⟩ := hG
  have hts := S.2.2.2.2
  exact W.callR (g := F0 m pc ls st0) (W.runS (As := As) (rest := rest) S hM ⟨callB_of n hts (good_tw hcd) rfl hrc hrs (hts _ h1) (hts _ h2) hd hR, hts _ h3⟩
    ⟨PcS.blind, fun U hU hW => ⟨rfl, trivial⟩⟩ rfl hn hsize hst (lv_room hW) hdg hf) kk
/-- behind any call of a writing method -/
theorem hs_wk {S : Type} {mc ms : Nat} {post : S → Prop} {ov : S → Option Value} {wf : S → va_W} {D : va_G} {A A1 : Nat → Prop} {H0 : Heap} {a : Array Value} {st0 : List Value}
    (hr : va_Run p l e R s m args below meth c H locs cells slots mc ms (F0 m pc ls st0) rest (QcW D A1 post ov wf a) A1) (hS : va_S A H0 H locs) (hf : ∀ q, A1 q → A q)
    (kk : ∀ (u : S) (H1 : Heap) (locs1 : List Loc), post u → va_P D classes (wf u) H1 → va_D A1 (wf u) → (∀ q : Nat, q < H.size → ¬ A1 q → H1[q]? = H[q]?) → va_S A H0 H1 locs1 → W p l e R s m args below meth c H1 locs1 (cells + mc) (slots + ms) Q (F0 m (pc + 3) ls ((ov u).toList ++ rest))) : W p l e R s m args below meth c H locs cells slots Q (F0 m pc ls st0) := by
  intro T hT X
  obtain ⟨v, st₀, t, T', L, h0, X', hL, e1, e2, ⟨⟨u, hp, hv, hP1, hD1⟩, hz, hk⟩, st⟩ := hr T hT X
  cases hv
  rw [h0] at hz hk
  obtain ⟨t2, a1, b1⟩ := kk u T'.heap (locs ++ L) hp (by rw [e1]; exact hP1) hD1 (fun q h1 h2 => by rw [e1]; exact hk q h1 h2)
    ⟨Nat.le_trans hS.1 (by rw [e1]; exact hz), fun q h1 h2 => by rw [e1, hk q (Nat.lt_of_lt_of_le h1 hS.1) (fun z => h2 (hf q z))]; exact hS.2.1 q h1 h2, fun q hq => by
      rcases List.mem_append.mp hq with h | h
      · exact hS.2.2 q h
      · exact hf _ (hL q h)⟩ T' rfl X'
  exact ⟨t2, st t2 a1, b1⟩
/-- a call of a writing instance method: its cells are those at the places isC of the caller's world, the rest (isR) stays -/
theorem hs_wv {S : Type} {post : S → Prop} {ov : S → Option Value} {wf : S → va_W} {y : MethodName} {bytes : ByteArray} {maxL nL n index : Nat} {ret : Option FieldType} {rm : Room} {D : va_G} {tys : List (ClassId × FieldType)} {ws wc wr : va_W} {A : Nat → Prop} {H0 : Heap} {own : String} {b ci : Nat} {T : u_T} {N : Nat} {fs As : List Value} {st0 : List Value} (isC isR : List Nat)
    (F : CallFix p m c cc nL s args gw own) (hM : Met l y (tw y bytes maxL ret) rm (PcW D tys wc H.size (.ref b :: As)) (QcW D (va_A wc H.size) post ov wf) 0 0 (va_A wc H.size)) (hG : okV own index y n) (hcd : Cond.code y bytes maxL ret ∈ gw) (hrc : rm.cells = 0) (hrs : rm.slots = 0) (hR : okR R rm maxL)
    (hK : va_K D classes tys s) (hP : va_P D classes ws H) (hD : va_D A ws) (hS : va_S A H0 H locs) (hA : ∀ q, H0.size ≤ q → A q) (hC : isC.map (fun i => ws[i]?) = wc.map some) (hRs : isR.map (fun i => ws[i]?) = wr.map some) (hnC : va_nd isC = true) (hn9 : va_nd isR = true) (hdis : ∀ i ∈ isR, i ∉ isC) (hPs : isC.filterMap (fun i => ws[i]?) = wc)
    (he : wc[0]? = some (b, .inr (ci, fs))) (hc : classes[ci]? = some (y.cls, T, N)) (hn : As.length = n) (hsize : ls.size = nL) (hst : st0 = As.reverse ++ .ref b :: rest) (hW : (rest.map fun v => v.category).sum ≤ 8) (hdg : decode cc pc = .ok (.invokevirtual index, 3)) (hf : cells ≤ R.cells ∧ slots ≤ R.slots)
    (kk : ∀ (u : S) (H1 : Heap) (locs1 : List Loc), post u → va_P D classes (wr ++ wf u) H1 → va_D A (wr ++ wf u) → va_S A H0 H1 locs1 → W p l e R s m args below meth c H1 locs1 cells slots Q (F0 m (pc + 3) ls ((ov u).toList ++ rest))) : W p l e R s m args below meth c H locs cells slots Q (F0 m pc ls st0) := by
  obtain ⟨hd, h1, h2, h3, h4⟩ := hG
  have hts := F.2.2.2.2
  have hPc := hP.sub (ws' := wc) isC hPs
  have hDc := hD.sub (ws' := wc) isC hnC hC
  have hFc := va_free (wc := wc) hD hS hA isC hC
  refine hs_wk (va_runV (C := y.cls) (As := As) (rest := rest) F hM ⟨callB_of n hts (good_tw hcd) rfl hrc hrs (hts _ h1) (hts _ h2) hd hR, hts _ h3, hts _ h4⟩
    ⟨PcW.blind, va_recv hK hPc hc he, fun U hU hW => ⟨rfl, by rw [hU], by rw [hU]; exact hPc, va_K.moved hW.alike hK, hDc.weaken (fun _ _ _ _ => trivial)⟩⟩ rfl hn hsize hst (lv_room hW) hdg hf) hS hFc (fun u H1 locs1 hp hP1 hD1 hk hS1 => ?_)
  obtain ⟨hP2, hD2⟩ := va_join hP hD isC isR hC hRs hn9 hdis hk hFc hP1 hD1
  exact kk u H1 locs1 hp hP2 hD2 hS1
end HSW
/-- the two worlds -/
abbrev xo (B W A d w : Nat) (sl : Nat) (rt lf wr : Int32) (dn : Bool) : List Value := [.int (nI B), .int (nI W), .int (nI A), .ref d, .ref w, .int (nI sl), .int rt, .int lf, .int wr, .int (bI dn)]
abbrev xw (cA : ClassId) (h d w B W A : Nat) (f g : Nat → Int32) (sl : Nat) (rt lf wr : Int32) (dn : Bool) : va_W := [(h, .inr (0, xo B W A d w sl rt lf wr dn)), (d, .inl (cA, 2 * A, .inl f)), (w, .inl (cA, 2 * B, .inl g))]
abbrev mo (dp B W A d w : Nat) (us : Nat) (kp de lf : Int32) (dw : Bool) : List Value := [.int (nI dp), .int (nI B), .int (nI W), .int (nI A), .ref d, .ref w, .int (nI us), .int kp, .int de, .int lf, .int (bI dw)]
abbrev mw (cA : ClassId) (h d w dp B W A : Nat) (f g : Nat → Int32) (us : Nat) (kp de lf : Int32) (dw : Bool) : va_W := [(h, .inr (1, mo dp B W A d w us kp de lf dw)), (d, .inl (cA, 600, .inl f)), (w, .inl (cA, 300, .inl g))]
/-- the sizes -/
def hsG (dp B W A : Nat) : Prop := dp ≤ 5 ∧ B = 2 ^ dp ∧ 1 ≤ W ∧ W ≤ 6 ∧ A + 1 = B * W + 2 * B
theorem hsG.fits {dp B W A : Nat} (h : hsG dp B W A) : 1 ≤ B ∧ B ≤ 32 ∧ 1 ≤ W ∧ W ≤ 6 ∧ B * W ≤ 192 ∧ B ≤ B * W ∧ A + 1 = B * W + 2 * B ∧ A ≤ 255 ∧ 2 ≤ A := by
  obtain ⟨h1, h2, h3, h4, h5⟩ := h
  have hB : 1 ≤ B ∧ B ≤ 32 := by
    rw [h2]
    match dp, h1 with
    | 0, _ => decide
    | 1, _ => decide
    | 2, _ => decide
    | 3, _ => decide
    | 4, _ => decide
    | 5, _ => decide
  have h6 : B * W ≤ 32 * 6 := Nat.mul_le_mul hB.2 h4
  have h7 : B * 1 ≤ B * W := Nat.mul_le_mul_left B h3
  omega
end
section
/-! what the two classes compute, in plain words -/
abbrev rq0 : Room := { frames := 0, cells := 0, slots := 0, locals := 0 }
abbrev rq1 : Room := { frames := 1, cells := 0, slots := 0, locals := 30 }
abbrev rq2 : Room := { frames := 2, cells := 0, slots := 0, locals := 60 }
abbrev rq3 : Room := { frames := 3, cells := 0, slots := 0, locals := 90 }
abbrev rq4 : Room := { frames := 4, cells := 0, slots := 0, locals := 120 }
abbrev rq5 : Room := { frames := 5, cells := 0, slots := 0, locals := 150 }
def us (x : Int32) (n : Nat) : Int32 := (x.toUInt32 >>> ((nI n).toUInt32 &&& Int32.toUInt32 31)).toInt32
def mx0 (a b : Int32) : Int32 := (a ^^^ ((b <<< (nI 13 &&& 31)) ||| us b 19)) * 739982445
def mx1 (x : Int32) : Int32 := x ^^^ us x 15
def mx2 (x b : Int32) : Int32 := (x + b) * 695872825
def mx3 (x : Int32) : Int32 := x ^^^ us x 14
/-- mix -/
def mx (a b : Int32) : Int32 := mx3 (mx2 (mx1 (mx0 a b)) b)
/-- the hash of n words on h -/
def fo (wd : Nat → Int32) (h : Int32) : Nat → Int32
  | 0 => h
  | n + 1 => mx (fo wd h n) (wd n)
/-- the first n words aren't negative -/
def nng (wd : Nat → Int32) : Nat → Bool
  | 0 => true
  | n + 1 => nng wd n && !decide (wd n < 0)
/-- one step up from node k with the hash h -/
def stp (nd : Nat → Int32) (k : Nat) (h : Int32) : Int32 := if k % 2 = 0 then mx h (nd (k + 1)) else mx (nd (k - 1)) h
/-- the hash t steps above node k -/
def up (nd : Nat → Int32) (k : Nat) (h : Int32) : Nat → Int32
  | 0 => h
  | t + 1 => stp nd (k / 2 ^ t) (up nd k h t)
/-- an area's words, its nodes -/
def ar (f : Nat → Int32) (na sl : Nat) : Nat → Int32 := fun j => f (na * sl + j)
def wdA (a : Nat → Int32) (nw b : Nat) : Nat → Int32 := fun i => a (nw * b + i)
def ndA (a : Nat → Int32) (bw : Nat) : Nat → Int32 := fun k => a (bw + k - 1)
def rtA (a : Nat → Int32) (dp nb nw b : Nat) : Int32 := up (ndA a (nb * nw)) (nb + b) (fo (wdA a nw b) (nI b) nw) dp
def okA (a : Nat → Int32) (dp nb nw b : Nat) (rt : Int32) : Bool := nng (wdA a nw b) nw && decide (rtA a dp nb nw b = rt)
theorem fo_congr {u v : Nat → Int32} {h : Int32} : ∀ n : Nat, (∀ i, i < n → u i = v i) → fo u h n = fo v h n
  | 0, _ => rfl
  | n + 1, hh => by
    show mx (fo u h n) (u n) = mx (fo v h n) (v n)
    rw [fo_congr n (fun i hi => hh i (by omega)), hh n (by omega)]
theorem nng_congr {u v : Nat → Int32} : ∀ n : Nat, (∀ i, i < n → u i = v i) → nng u n = nng v n
  | 0, _ => rfl
  | n + 1, hh => by
    show (nng u n && !decide (u n < 0)) = (nng v n && !decide (v n < 0))
    rw [nng_congr n (fun i hi => hh i (by omega)), hh n (by omega)]
theorem nng_false {u : Nat → Int32} {i : Nat} (hi : u i < 0) : ∀ n : Nat, i < n → nng u n = false
  | 0, h => absurd h (by omega)
  | n + 1, h => by
    show (nng u n && !decide (u n < 0)) = false
    rcases Nat.lt_or_ge i n with q | q
    · rw [nng_false hi n q]; rfl
    · have e : i = n := by omega
      subst e
      rw [decide_eq_true hi]; cases nng u i <;> rfl
theorem nng_step {u : Nat → Int32} {i : Nat} (h : nng u i = true) (hi : ¬ u i < 0) : nng u (i + 1) = true := by
  show (nng u i && !decide (u i < 0)) = true
  rw [h, decide_eq_false hi]; rfl
theorem up_congr {u v : Nat → Int32} {k : Nat} {h : Int32} : ∀ t : Nat, (∀ j, j < t → ∀ q, q < 2 * (k / 2 ^ j) + 2 → q + 1 ≥ k / 2 ^ j → 1 ≤ q → u q = v q) → (∀ j, j < t → 2 ≤ k / 2 ^ j) → up u k h t = up v k h t
  | 0, _, _ => rfl
  | t + 1, hh, h2 => by
    show stp u (k / 2 ^ t) (up u k h t) = stp v (k / 2 ^ t) (up v k h t)
    rw [up_congr t (fun j hj => hh j (by omega)) (fun j hj => h2 j (by omega))]
    have := h2 t (by omega)
    unfold stp
    split
    · rw [hh t (by omega) _ (by omega) (by omega) (by omega)]
    · rw [hh t (by omega) _ (by omega) (by omega) (by omega)]
/-- small numbers, by cases -/
theorem x1_xor : ∀ k, k < 64 → nI k ^^^ nI 1 = nI (if k % 2 = 0 then k + 1 else k - 1) := by decide +kernel
theorem x1_and : ∀ k, k < 64 → nI k &&& nI 1 = nI (k % 2) := by decide +kernel
theorem x1_shr : ∀ k, k < 64 → nI k >>> (nI 1 &&& 31) = nI (k / 2) := by decide +kernel
theorem x2_div : ∀ k, k < 64 → nI k / nI 2 = nI (k / 2) := by decide +kernel
theorem x2_rem : ∀ k, k < 64 → nI k - nI k / nI 2 * nI 2 = nI (k % 2) := by decide +kernel
theorem rot_u : (-(nI 13)).toUInt32 &&& Int32.toUInt32 31 = (nI 19).toUInt32 &&& Int32.toUInt32 31 := by decide +kernel
/-- places -/
theorem at_word {dp nb nw na b i sl : Nat} (hG : hsG dp nb nw na) (hs : sl ≤ 1) (hb : b < nb) (hi : i < nw) : nw * b + i < nb * nw ∧ na * sl + (nw * b + i) < 2 * na := by
  have h9 := hG.fits
  have h1 : nw * (b + 1) ≤ nw * nb := Nat.mul_le_mul_left nw hb
  have h2 : nw * (b + 1) = nw * b + nw := Nat.mul_succ nw b
  have h3 : nw * nb = nb * nw := Nat.mul_comm nw nb
  have h4 : na * sl ≤ na * 1 := Nat.mul_le_mul_left na hs
  omega
theorem at_node {dp nb nw na k sl : Nat} (hG : hsG dp nb nw na) (hs : sl ≤ 1) (h1 : 1 ≤ k) (hk : k < 2 * nb) : nb * nw + k - 1 < na ∧ na * sl + (nb * nw + k - 1) < 2 * na := by
  have h9 := hG.fits
  have h4 : na * sl ≤ na * 1 := Nat.mul_le_mul_left na hs
  omega
theorem at_cell {dp nb nw na k sl : Nat} (hG : hsG dp nb nw na) (hs : sl ≤ 1) (hk : k < na) : na * sl + k < 2 * na := by
  have h4 : na * sl ≤ na * 1 := Nat.mul_le_mul_left na hs
  omega
theorem half_lt {k : Nat} (h : 2 ≤ k) : k / 2 < k ∧ 1 ≤ k / 2 := by omega
theorem pow_half (k t : Nat) : k / 2 ^ (t + 1) = k / 2 ^ t / 2 := by
  rw [Nat.pow_succ, Nat.div_div_eq_div_mul]
end
section
theorem nI_m1 {i : Nat} (h : i < 2 ^ 31) : ¬ nI i = -1 := by
  intro q
  have h1 := nI_toInt h
  rw [q] at h1
  have h2 : (-1 : Int32).toInt = -1 := by decide
  omega
/-- node k lies on the way from x to the root -/
noncomputable def onW (k x : Nat) : Bool := @decide (∃ t, x / 2 ^ t = k) (Classical.propDecidable _)
theorem onW_iff {k x : Nat} : onW k x = true ↔ ∃ t, x / 2 ^ t = k := by unfold onW; exact @decide_eq_true_iff _ (Classical.propDecidable _)
theorem onW_half {k x : Nat} (h : k < x) : onW k x = onW k (x / 2) := by
  rw [Bool.eq_iff_iff, onW_iff, onW_iff]
  constructor
  · rintro ⟨t, ht⟩
    cases t with
    | zero => simp at ht; omega
    | succ t => exact ⟨t, by rw [← ht, Nat.pow_succ, Nat.mul_comm, Nat.div_div_eq_div_mul]⟩
  · rintro ⟨t, ht⟩
    exact ⟨t + 1, by rw [← ht, Nat.pow_succ, Nat.mul_comm, Nat.div_div_eq_div_mul]⟩
theorem onW_end {k x : Nat} (h : x ≤ k) : onW k x = decide (x = k) := by
  rw [Bool.eq_iff_iff, onW_iff, decide_eq_true_iff]
  constructor
  · rintro ⟨t, ht⟩
    have := Nat.div_le_self x (2 ^ t)
    omega
  · intro e
    exact ⟨0, by simpa using e⟩
/-- the way from a leaf -/
theorem wk_eq {dp b t : Nat} (ht : t ≤ dp) (hb : b < 2 ^ dp) : (2 ^ dp + b) / 2 ^ t = 2 ^ (dp - t) + b / 2 ^ t ∧ b / 2 ^ t < 2 ^ (dp - t) := by
  have e : 2 ^ dp = 2 ^ t * 2 ^ (dp - t) := by rw [← Nat.pow_add]; congr 1; omega
  refine ⟨?_, ?_⟩
  · rw [e, Nat.mul_add_div (Nat.two_pow_pos t)]
  · exact Nat.div_lt_of_lt_mul (by rw [← e]; exact hb)
theorem wk_at {dp nb b t : Nat} (hn : nb = 2 ^ dp) (hb : b < nb) (ht : t ≤ dp) : 1 ≤ (nb + b) / 2 ^ t ∧ (nb + b) / 2 ^ t < 2 * nb ∧ ((nb + b) / 2 ^ t ≤ 1 ↔ t = dp) := by
  subst hn
  obtain ⟨h1, h2⟩ := wk_eq ht hb
  have h3 : 0 < 2 ^ (dp - t) := Nat.two_pow_pos _
  have h4 : (2 ^ dp + b) / 2 ^ t ≤ 2 ^ dp + b := Nat.div_le_self _ _
  have h5 : t = dp → 2 ^ (dp - t) = 1 := fun e => by rw [e, Nat.sub_self, Nat.pow_zero]
  have h6 : ¬ t = dp → 2 ^ 1 ≤ 2 ^ (dp - t) := fun e => Nat.pow_le_pow_right (by decide) (by omega)
  generalize (2 ^ dp + b) / 2 ^ t = k at *
  generalize b / 2 ^ t = r at *
  generalize 2 ^ (dp - t) = z at *
  refine ⟨by omega, by omega, ?_⟩
  by_cases e : t = dp
  · have := h5 e
    exact ⟨fun _ => e, fun _ => by omega⟩
  · have := h6 e
    exact ⟨fun _ => by omega, fun q => absurd q e⟩
/-- one cell written (or kept, or lost): whether it went well, the cells, the writes left, the writes done, whether it's down -/
abbrev PS : Type := Bool × (Nat → Int32) × Int32 × Int32 × Bool
def dcl (lf : Int32) : Int32 := if 0 < lf then lf - 1 else lf
def pt (a : Nat) (v : Int32) (f : Nat → Int32) (lf wr : Int32) (dn : Bool) : PS :=
  if f a = v then (true, f, lf, wr, dn) else if lf = 0 then (false, f, lf, wr, true) else (true, upd f a v, dcl lf, wr + 1, dn)
end
section
/-- an int within a bound is a small number -/
theorem ix_of {x : Int32} {n : Nat} (hn : n < 2 ^ 31) (h0 : 0 ≤ x) (h1 : x < nI n) : ∃ j : Nat, j < n ∧ x = nI j := by
  rcases pk_ix x hn with h | h | h
  · exact absurd h0 (Int32.not_le.mpr h)
  · exact absurd h1 (Int32.not_lt.mpr h)
  · exact h
theorem ix_to {j n : Nat} (hn : n < 2 ^ 31) (h : j < n) : 0 ≤ nI j ∧ nI j < nI n := ⟨nI_pos' (by omega), nI_lt h hn⟩
abbrev vld (nb nw : Nat) (b i : Int32) : Prop := 0 ≤ b ∧ b < nI nb ∧ 0 ≤ i ∧ i < nI nw
theorem vld_of {nb nw : Nat} {b i : Int32} (h1 : nb < 2 ^ 31) (h2 : nw < 2 ^ 31) (h : vld nb nw b i) : ∃ b9 i9 : Nat, b9 < nb ∧ i9 < nw ∧ b = nI b9 ∧ i = nI i9 := by
  obtain ⟨a1, a2, a3, a4⟩ := h
  obtain ⟨b9, q1, q2⟩ := ix_of h1 a1 a2
  obtain ⟨i9, q3, q4⟩ := ix_of h2 a3 a4
  exact ⟨b9, i9, q1, q3, q2, q4⟩
theorem vld_to {nb nw b i : Nat} (h1 : nb < 2 ^ 31) (h2 : nw < 2 ^ 31) (hb : b < nb) (hi : i < nw) : vld nb nw (nI b) (nI i) := ⟨(ix_to h1 hb).1, (ix_to h1 hb).2, (ix_to h2 hi).1, (ix_to h2 hi).2⟩
/-- read -/
noncomputable def rdV (a : Nat → Int32) (dp nb nw : Nat) (rt : Int32) (dn : Bool) (b i : Int32) : Int32 :=
  @ite _ (vld nb nw b i) (Classical.propDecidable _) (if dn = true then -4 else if okA a dp nb nw b.toNatClampNeg rt = true then a (nw * b.toNatClampNeg + i.toNatClampNeg) else -3) (-2)
theorem rdV_bad {a : Nat → Int32} {dp nb nw : Nat} {rt : Int32} {dn : Bool} {b i : Int32} (h : ¬ vld nb nw b i) : rdV a dp nb nw rt dn b i = -2 := by
  unfold rdV; rw [if_neg h]
theorem rdV_dn {a : Nat → Int32} {dp nb nw : Nat} {rt : Int32} {dn : Bool} {b i : Int32} (h : vld nb nw b i) (hd : dn = true) : rdV a dp nb nw rt dn b i = -4 := by
  unfold rdV; rw [if_pos h, if_pos hd]
theorem rdV_ok {a : Nat → Int32} {dp nb nw : Nat} {rt : Int32} {dn : Bool} {b i : Nat} (h1 : nb < 2 ^ 31) (h2 : nw < 2 ^ 31) (hb : b < nb) (hi : i < nw) (hd : dn = false) (hk : okA a dp nb nw b rt = true) : rdV a dp nb nw rt dn (nI b) (nI i) = a (nw * b + i) := by
  unfold rdV; rw [if_pos (vld_to h1 h2 hb hi), hd, if_neg (by decide), nI_clamp (by omega), nI_clamp (by omega), if_pos hk]
theorem rdV_no {a : Nat → Int32} {dp nb nw : Nat} {rt : Int32} {dn : Bool} {b i : Nat} (h1 : nb < 2 ^ 31) (h2 : nw < 2 ^ 31) (hb : b < nb) (hi : i < nw) (hd : dn = false) (hk : okA a dp nb nw b rt = false) : rdV a dp nb nw rt dn (nI b) (nI i) = -3 := by
  unfold rdV; rw [if_pos (vld_to h1 h2 hb hi), hd, if_neg (by decide), nI_clamp (by omega), hk]; rfl
/-- verify -/
def vfV (a : Nat → Int32) (dp nb nw : Nat) (rt : Int32) (dn : Bool) (b : Int32) : Bool := decide (0 ≤ b ∧ b < nI nb) && (!dn && okA a dp nb nw b.toNatClampNeg rt)
/-- audit -/
def auF (ok : Nat → Bool) : Nat → Nat → Int32
  | 0, _ => -1
  | n + 1, b => if ok b = true then auF ok n (b + 1) else nI b
def auV (a : Nat → Int32) (dp nb nw : Nat) (rt : Int32) (dn : Bool) : Int32 := if dn = true then -4 else auF (fun b => okA a dp nb nw b rt) nb 0
/-- tamper, crashAfter, peek -/
def tmV (f : Nat → Int32) (na : Nat) (ad wo : Int32) : Nat → Int32 := if 0 ≤ ad ∧ ad < nI (2 * na) then upd f ad.toNatClampNeg wo else f
def crV (lf : Int32) (dn : Bool) (n : Int32) : Int32 := if 0 ≤ n ∧ dn = false then n else lf
def pkV (f : Nat → Int32) (na : Nat) (ad : Int32) : Int32 := if 0 ≤ ad ∧ ad < nI (2 * na) then f ad.toNatClampNeg else 0
/-- recover: the answer, the slot, the root, the writes left, down -/
abbrev RS : Type := Int32 × Nat × Int32 × Int32 × Bool
def rcV (f : Nat → Int32) (na bw sl : Nat) (rt lf : Int32) (dn : Bool) (tr : Int32) : RS :=
  if dn = false then (-2, sl, rt, lf, dn) else if f (na * 0 + (bw + 1 - 1)) = tr then (0, 0, tr, -1, false) else if f (na * 1 + (bw + 1 - 1)) = tr then (0, 1, tr, -1, false) else (-5, sl, rt, lf, dn)
end
section
def ptS (a : Nat) (v : Int32) (st : PS) : PS := pt a v st.2.1 st.2.2.1 st.2.2.2.1 st.2.2.2.2
theorem pt_keep {a x : Nat} {v : Int32} {f : Nat → Int32} {lf wr : Int32} {dn : Bool} (h : x ≠ a) : (pt a v f lf wr dn).2.1 x = f x := by
  unfold pt
  split
  · rfl
  · split
    · rfl
    · exact pk_un h
/-- the words of the other area, n of them from k on -/
def rW (o : Nat) (G : Nat → Int32) : Nat → Nat → PS → PS
  | 0, _, st => st
  | n + 1, k, st => if (ptS (o + k) (G k) st).1 = true then rW o G n (k + 1) (ptS (o + k) (G k) st) else ptS (o + k) (G k) st
/-- its nodes, from k down -/
def rD (o bw : Nat) (G : Nat → Int32) : Nat → PS → PS
  | 0, st => st
  | k + 1, st => if (ptS (o + (bw + (k + 1) - 1)) (G (bw + (k + 1) - 1)) st).1 = true then rD o bw G k (ptS (o + (bw + (k + 1) - 1)) (G (bw + (k + 1) - 1)) st) else ptS (o + (bw + (k + 1) - 1)) (G (bw + (k + 1) - 1)) st
/-- an area with n nodes of a way anew -/
def gU (a : Nat → Int32) (bw k0 : Nat) (u : Nat → Int32) : Nat → Nat → Int32
  | 0 => a
  | t + 1 => upd (gU a bw k0 u t) (bw + k0 / 2 ^ t - 1) (u t)
theorem gU_word {a : Nat → Int32} {bw k0 : Nat} {u : Nat → Int32} {j : Nat} (hj : j < bw) : ∀ n : Nat, (∀ t, t < n → 1 ≤ k0 / 2 ^ t) → gU a bw k0 u n j = a j
  | 0, _ => rfl
  | n + 1, h => by
    have h1 := h n (by omega)
    show upd (gU a bw k0 u n) (bw + k0 / 2 ^ n - 1) (u n) j = a j
    rw [pk_un (by omega)]
    exact gU_word hj n (fun t ht => h t (by omega))
theorem gU_off {a : Nat → Int32} {bw k0 : Nat} {u : Nat → Int32} {k : Nat} (hk : 1 ≤ k) : ∀ n : Nat, (∀ t, t < n → 1 ≤ k0 / 2 ^ t ∧ k0 / 2 ^ t ≠ k) → gU a bw k0 u n (bw + k - 1) = a (bw + k - 1)
  | 0, _ => rfl
  | n + 1, h => by
    have h1 := h n (by omega)
    show upd (gU a bw k0 u n) (bw + k0 / 2 ^ n - 1) (u n) (bw + k - 1) = a (bw + k - 1)
    rw [pk_un (by omega)]
    exact gU_off hk n (fun t ht => h t (by omega))
theorem gU_on {a : Nat → Int32} {bw k0 : Nat} {u : Nat → Int32} {t : Nat} : ∀ n : Nat, t < n → (∀ j, j < n → 1 ≤ k0 / 2 ^ j) → gU a bw k0 u n (bw + k0 / 2 ^ t - 1) = u t
  | 0, h, _ => absurd h (by omega)
  | n + 1, h, h1 => by
    show upd (gU a bw k0 u n) (bw + k0 / 2 ^ n - 1) (u n) (bw + k0 / 2 ^ t - 1) = u t
    rcases Nat.lt_or_ge t n with q | q
    · have h2 := h1 n (by omega)
      have h3 : k0 / 2 ^ n ≤ k0 / 2 ^ (t + 1) := Nat.div_le_div_left (Nat.pow_le_pow_right (by decide) q) (Nat.two_pow_pos _)
      rw [pow_half] at h3
      rw [pk_un (by omega)]
      exact gU_on n q (fun j hj => h1 j (by omega))
    · have e : t = n := by omega
      subst e
      exact pk_us
/-- an area's hashes on the way of block b -/
def uN (a : Nat → Int32) (nb nw b : Nat) (t : Nat) : Int32 := up (ndA a (nb * nw)) (nb + b) (fo (wdA a nw b) (nI b) nw) t
/-- the area with a word anew; what it is to become -/
def nwA (f : Nat → Int32) (na sl nw b i : Nat) (wo : Int32) : Nat → Int32 := upd (ar f na sl) (nw * b + i) wo
def gA (a : Nat → Int32) (dp nb nw b : Nat) : Nat → Int32 := gU a (nb * nw) (nb + b) (uN a nb nw b) (dp + 1)
def wrR (dp nb nw na : Nat) (f : Nat → Int32) (sl : Nat) (lf wr : Int32) (G : Nat → Int32) : PS :=
  if (rW (na * (1 - sl)) G (nb * nw) 0 (true, f, lf, wr, false)).1 = true then rD (na * (1 - sl)) (nb * nw) G (2 * nb - 1) (rW (na * (1 - sl)) G (nb * nw) 0 (true, f, lf, wr, false)) else rW (na * (1 - sl)) G (nb * nw) 0 (true, f, lf, wr, false)
/-- write: the answer, the cells, the slot, the root, the writes left, the writes done, down -/
abbrev WS : Type := Int32 × (Nat → Int32) × Nat × Int32 × Int32 × Int32 × Bool
def wrE (r : PS) (sl : Nat) (rt nrt : Int32) : WS := if r.1 = true then (0, r.2.1, 1 - sl, nrt, r.2.2.1, r.2.2.2.1, r.2.2.2.2) else (-4, r.2.1, sl, rt, r.2.2.1, r.2.2.2.1, r.2.2.2.2)
noncomputable def wrV (dp nb nw na : Nat) (f : Nat → Int32) (sl : Nat) (rt lf wr : Int32) (dn : Bool) (b i wo : Int32) : WS :=
  @ite _ (vld nb nw b i ∧ 0 ≤ wo) (Classical.propDecidable _) (if dn = true then (-4, f, sl, rt, lf, wr, dn) else if okA (ar f na sl) dp nb nw b.toNatClampNeg rt = true then wrE (wrR dp nb nw na f sl lf wr (gA (nwA f na sl nw b.toNatClampNeg i.toNatClampNeg wo) dp nb nw b.toNatClampNeg)) sl rt (uN (nwA f na sl nw b.toNatClampNeg i.toNatClampNeg wo) nb nw b.toNatClampNeg dp) else (-3, f, sl, rt, lf, wr, dn)) (-2, f, sl, rt, lf, wr, dn)
section WRV
variable {dp nb nw na : Nat} {f : Nat → Int32} {sl : Nat} {rt lf wr : Int32} {dn : Bool}
theorem wrV_bad {b i wo : Int32} (h : ¬ (vld nb nw b i ∧ 0 ≤ wo)) : wrV dp nb nw na f sl rt lf wr dn b i wo = (-2, f, sl, rt, lf, wr, dn) := by
  unfold wrV; rw [if_neg h]
theorem wrV_dn {b i wo : Int32} (h : vld nb nw b i ∧ 0 ≤ wo) (hd : dn = true) : wrV dp nb nw na f sl rt lf wr dn b i wo = (-4, f, sl, rt, lf, wr, dn) := by
  unfold wrV; rw [if_pos h, if_pos hd]
theorem wrV_no {b i : Nat} {wo : Int32} (h1 : nb < 2 ^ 31) (h2 : nw < 2 ^ 31) (hb : b < nb) (hi : i < nw) (hw : 0 ≤ wo) (hd : dn = false) (hk : okA (ar f na sl) dp nb nw b rt = false) : wrV dp nb nw na f sl rt lf wr dn (nI b) (nI i) wo = (-3, f, sl, rt, lf, wr, dn) := by
  unfold wrV; rw [if_pos ⟨vld_to h1 h2 hb hi, hw⟩, if_neg (by rw [hd]; decide), nI_clamp (by omega), if_neg (by rw [hk]; decide)]
theorem wrV_ok {b i : Nat} {wo : Int32} (h1 : nb < 2 ^ 31) (h2 : nw < 2 ^ 31) (hb : b < nb) (hi : i < nw) (hw : 0 ≤ wo) (hd : dn = false) (hk : okA (ar f na sl) dp nb nw b rt = true) : wrV dp nb nw na f sl rt lf wr dn (nI b) (nI i) wo = wrE (wrR dp nb nw na f sl lf wr (gA (nwA f na sl nw b i wo) dp nb nw b)) sl rt (uN (nwA f na sl nw b i wo) nb nw b dp) := by
  unfold wrV; rw [if_pos ⟨vld_to h1 h2 hb hi, hw⟩, if_neg (by rw [hd]; decide), nI_clamp (by omega), nI_clamp (by omega), if_pos hk]
end WRV
theorem ne_area {na sl j k : Nat} (hs : sl ≤ 1) (hj : j < na) (hk : k < na) : na * sl + j ≠ na * (1 - sl) + k := by
  rcases (show sl = 0 ∨ sl = 1 by omega) with rfl | rfl
  · simp; omega
  · simp; omega
/-- what the hashes need of an area -/
theorem lf_new {f : Nat → Int32} {na sl nw b i : Nat} {wo : Int32} (hw : nw < 2 ^ 31) (hi : i < nw) : fo (fun j => if nI j = nI i then wo else f (na * sl + (nw * b + j))) (nI b) nw = fo (wdA (nwA f na sl nw b i wo) nw b) (nI b) nw := by
  refine fo_congr _ (fun j hj => ?_)
  show _ = upd (ar f na sl) (nw * b + i) wo (nw * b + j)
  by_cases e : j = i
  · subst e
    rw [if_pos rfl, pk_us]
  · rw [if_neg (fun q => e ((nI_eq (by omega) (by omega)).mp q)), pk_un (by omega)]; rfl
theorem nd_new {f : Nat → Int32} {na sl nb nw b i q : Nat} {wo : Int32} (h : nw * b + i < nb * nw) (hq : 1 ≤ q) : ndA (nwA f na sl nw b i wo) (nb * nw) q = ndA (ar f na sl) (nb * nw) q := by
  show upd (ar f na sl) (nw * b + i) wo (nb * nw + q - 1) = _
  rw [pk_un (by omega)]; rfl
theorem up_same {u v : Nat → Int32} {k : Nat} {h : Int32} (huv : ∀ q, 1 ≤ q → u q = v q) : ∀ t : Nat, (∀ j, j < t → 2 ≤ k / 2 ^ j) → up u k h t = up v k h t
  | 0, _ => rfl
  | t + 1, h2 => by
    show stp u (k / 2 ^ t) (up u k h t) = stp v (k / 2 ^ t) (up v k h t)
    have := h2 t (by omega)
    rw [up_same huv t (fun j hj => h2 j (by omega)), stp, stp, huv (k / 2 ^ t + 1) (by omega), huv (k / 2 ^ t - 1) (by omega)]
theorem wk_two {dp nb b j t : Nat} (hn : nb = 2 ^ dp) (hb : b < nb) (ht : t ≤ dp) (hj : j < t) : 2 ≤ (nb + b) / 2 ^ j := by
  have h := wk_at (t := j) hn hb (by omega)
  rcases Nat.lt_or_ge ((nb + b) / 2 ^ j) 2 with q | q
  · have := h.2.2.mp (by omega); omega
  · exact q
/-- the way of the new leaf, by the old nodes -/
theorem up_new {f : Nat → Int32} {dp na sl nb nw b i t : Nat} {wo : Int32} (hn : nb = 2 ^ dp) (hb : b < nb) (h : nw * b + i < nb * nw) (ht : t ≤ dp) : up (ndA (ar f na sl) (nb * nw)) (nb + b) (fo (wdA (nwA f na sl nw b i wo) nw b) (nI b) nw) t = uN (nwA f na sl nw b i wo) nb nw b t :=
  up_same (fun q hq => (nd_new h hq).symm) t (fun j hj => wk_two hn hb ht hj)
/-- what the area becomes, place by place -/
theorem gA_word {a : Nat → Int32} {dp nb nw b j : Nat} (hn : nb = 2 ^ dp) (hb : b < nb) (hj : j < nb * nw) : gA a dp nb nw b j = a j :=
  gU_word hj _ (fun t ht => (wk_at hn hb (by omega)).1)
theorem gA_on {a : Nat → Int32} {dp nb nw b t : Nat} (hn : nb = 2 ^ dp) (hb : b < nb) (ht : t ≤ dp) : gA a dp nb nw b (nb * nw + (nb + b) / 2 ^ t - 1) = uN a nb nw b t :=
  gU_on _ (by omega) (fun t ht => (wk_at hn hb (by omega)).1)
theorem gA_off {a : Nat → Int32} {dp nb nw b k : Nat} (hn : nb = 2 ^ dp) (hb : b < nb) (hk : 1 ≤ k) (ho : onW k (nb + b) = false) : gA a dp nb nw b (nb * nw + k - 1) = a (nb * nw + k - 1) :=
  gU_off hk _ (fun t ht => ⟨(wk_at hn hb (by omega)).1, fun e => by rw [onW_iff.mpr ⟨t, e⟩] at ho; exact absurd ho (by decide)⟩)
theorem onW_t {dp nb b k : Nat} (hn : nb = 2 ^ dp) (hb : b < nb) (hk : 1 ≤ k) (ho : onW k (nb + b) = true) : ∃ t, t ≤ dp ∧ (nb + b) / 2 ^ t = k := by
  obtain ⟨t, ht⟩ := onW_iff.mp ho
  refine ⟨t, ?_, ht⟩
  rcases Nat.lt_or_ge dp t with q | q
  · have h1 : (nb + b) / 2 ^ t ≤ (nb + b) / 2 ^ (dp + 1) := Nat.div_le_div_left (Nat.pow_le_pow_right (by decide) q) (Nat.two_pow_pos _)
    have h2 : (nb + b) / 2 ^ (dp + 1) = 0 := Nat.div_eq_of_lt (by rw [Nat.pow_succ, ← hn]; omega)
    omega
  · exact q
end
section
set_option maxHeartbeats 4000000 in
set_option maxRecDepth 100000 in
/-- Integer.rotateLeft -/
theorem c_I_rotateLeft (l : Launch) (a k : Int32)  : Met l y_I_rotateLeft w_I_rotateLeft rq0 (PcS [.int a, .int k]) (QcRead ((a <<< (k &&& 31)) ||| (a.toUInt32 >>> ((-k).toUInt32 &&& Int32.toUInt32 31)).toInt32)) 0 0 (fun _ => False) := by
  refine Met.ofW (cc := b_I_rotateLeft) (maxL := 2) (ret := (some .int)) (by decide) rfl ?_
  intro p e s m args below meth c s₁ B9 hml hv
  obtain ⟨rfl, -⟩ := hv
  have hx := B9.exec
  have hb := B9.bytes
  have hr := B9.returns
  have hts0 := atoms_spec (ws := w_I_rotateLeft) B9.pre
  have hts : ∀ w ∈ gw, w.before _ s = true := fun w hw => hts0 w (List.mem_cons_of_mem _ hw)
  have hown : s.vm.findClass R_I = some m.cls := findClass_of_methodNamed B9.named
  have hlocks := B9.notSynchronized
  have S9 : CallFix p m c b_I_rotateLeft 2 s _ gw R_I := ⟨hx, hb, hml, hown, hts⟩
  have hl := lv_entry ([.int a, .int k]) (n := 2) (Nat.le_of_ble_eq_true rfl)
  rw [lg_entry_eq]
  generalize (lg_sl ([.int a, .int k]) ++ List.replicate (2 - (lg_sl ([.int a, .int k])).length) Slot.unset).toArray = ls at hl ⊢
  have hl : lv_has ls 2 [(0, .int a), (1, .int k)] := hl
  refine lv_iload_n hx hb d_I_rotateLeft_0 rfl (lv_at hl 0 rfl) ?_
  refine lv_iload_n hx hb d_I_rotateLeft_1 rfl (lv_at hl 1 rfl) ?_
  refine lv_ishl hx hb d_I_rotateLeft_2 ?_
  refine lv_iload_n hx hb d_I_rotateLeft_3 rfl (lv_at hl 0 rfl) ?_
  refine lv_iload_n hx hb d_I_rotateLeft_4 rfl (lv_at hl 1 rfl) ?_
  refine lv_ineg hx hb d_I_rotateLeft_5 ?_
  refine lv_iushr hx hb d_I_rotateLeft_6 rfl ?_
  refine lv_ior hx hb d_I_rotateLeft_7 ?_
  exact W.iret (v := ((a <<< (k &&& 31)) ||| ((a).toUInt32 >>> (((-(k))).toUInt32 &&& Int32.toUInt32 31)).toInt32)) hx hb hr (fun t ht _ => ⟨rfl, ht⟩) (fun _ h => by cases h) d_I_rotateLeft_8
set_option maxHeartbeats 4000000 in
set_option maxRecDepth 100000 in
/-- mix -/
theorem c_x_mix (l : Launch) (a k : Int32)  : Met l y_x_mix w_x_mix rq1 (PcS [.int a, .int k]) (QcRead (mx a k)) 0 0 (fun _ => False) := by
  refine Met.ofW (cc := b_x_mix) (maxL := 3) (ret := (some .int)) (by decide) rfl ?_
  intro p e s m args below meth c s₁ B9 hml hv
  obtain ⟨rfl, -⟩ := hv
  have hx := B9.exec
  have hb := B9.bytes
  have hr := B9.returns
  have hts0 := atoms_spec (ws := w_x_mix) B9.pre
  have hts : ∀ w ∈ gw, w.before _ s = true := fun w hw => hts0 w (List.mem_cons_of_mem _ hw)
  have hown : s.vm.findClass R_x = some m.cls := findClass_of_methodNamed B9.named
  have hlocks := B9.notSynchronized
  have S9 : CallFix p m c b_x_mix 3 s _ gw R_x := ⟨hx, hb, hml, hown, hts⟩
  have hl := lv_entry ([.int a, .int k]) (n := 3) (Nat.le_of_ble_eq_true rfl)
  rw [lg_entry_eq]
  generalize (lg_sl ([.int a, .int k]) ++ List.replicate (3 - (lg_sl ([.int a, .int k])).length) Slot.unset).toArray = ls at hl ⊢
  have hl : lv_has ls 3 [(0, .int a), (1, .int k)] := hl
  refine lv_iload_n hx hb d_x_mix_0 rfl (lv_at hl 0 rfl) ?_
  refine lv_iload_n hx hb d_x_mix_1 rfl (lv_at hl 1 rfl) ?_
  refine lv_bipush (v := nI 13) hx hb d_x_mix_2 (by decide) ?_
  refine hs_rs (As := [.int k, .int (nI 13)]) (rest := [.int a]) S9 (c_I_rotateLeft l k (nI 13)) k_x_I_rotateLeft h_I_rotateLeft rfl rfl ⟨Nat.le_of_ble_eq_true rfl, Nat.le_of_ble_eq_true rfl⟩ rfl hl.1 rfl (Nat.le_of_ble_eq_true rfl) d_x_mix_4 ⟨Nat.zero_le _, Nat.zero_le _⟩ ?_
  refine hs_to (y := ((k <<< (nI 13 &&& 31)) ||| us k 19)) (by rw [rot_u]; rfl) ?_
  refine lv_ixor hx hb d_x_mix_7 ?_
  refine lv_ldc (v := 739982445) hx hb hown (hts (.constant R_x 46 739982445) (by decide +kernel)) d_x_mix_8 ?_
  refine lv_imul hx hb d_x_mix_10 ?_
  refine hs_to (y := mx0 a k) rfl ?_
  refine lv_istore_n (lv' := [(2, .int (mx0 a k)), (0, .int a), (1, .int k)]) hx hb d_x_mix_11 rfl hl (by decide) rfl (fun ls hl => ?_)
  refine lv_iload_n hx hb d_x_mix_12 rfl (lv_at hl 0 rfl) ?_
  refine lv_iload_n hx hb d_x_mix_13 rfl (lv_at hl 0 rfl) ?_
  refine lv_bipush (v := nI 15) hx hb d_x_mix_14 (by decide) ?_
  refine lv_iushr hx hb d_x_mix_16 rfl ?_
  refine lv_ixor hx hb d_x_mix_17 ?_
  refine hs_to (y := mx1 (mx0 a k)) rfl ?_
  refine lv_istore_n (lv' := [(2, .int (mx1 (mx0 a k))), (0, .int a), (1, .int k)]) hx hb d_x_mix_18 rfl hl (by decide) rfl (fun ls hl => ?_)
  refine lv_iload_n hx hb d_x_mix_19 rfl (lv_at hl 0 rfl) ?_
  refine lv_iload_n hx hb d_x_mix_20 rfl (lv_at hl 2 rfl) ?_
  refine lv_iadd hx hb d_x_mix_21 ?_
  refine lv_ldc (v := 695872825) hx hb hown (hts (.constant R_x 47 695872825) (by decide +kernel)) d_x_mix_22 ?_
  refine lv_imul hx hb d_x_mix_24 ?_
  refine hs_to (y := mx2 (mx1 (mx0 a k)) k) rfl ?_
  refine lv_istore_n (lv' := [(2, .int (mx2 (mx1 (mx0 a k)) k)), (0, .int a), (1, .int k)]) hx hb d_x_mix_25 rfl hl (by decide) rfl (fun ls hl => ?_)
  refine lv_iload_n hx hb d_x_mix_26 rfl (lv_at hl 0 rfl) ?_
  refine lv_iload_n hx hb d_x_mix_27 rfl (lv_at hl 0 rfl) ?_
  refine lv_bipush (v := nI 14) hx hb d_x_mix_28 (by decide) ?_
  refine lv_iushr hx hb d_x_mix_30 rfl ?_
  refine lv_ixor hx hb d_x_mix_31 ?_
  refine hs_to (y := mx a k) rfl ?_
  exact W.iret (v := mx a k) hx hb hr (fun t ht _ => ⟨rfl, ht⟩) (fun _ h => by cases h) d_x_mix_32
set_option maxHeartbeats 4000000 in
set_option maxRecDepth 100000 in
/-- wordAt -/
theorem c_x_wordAt (l : Launch) (D : va_G) (cA : ClassId) (h d w nb nw na : Nat) (f g : Nat → Int32) (sl : Nat) (rt lf wr : Int32) (dn : Bool) (z b i : Nat)  : Met l y_x_wordAt w_x_wordAt rq0 (PcR D [(cA, .int)] (xw cA h d w nb nw na f g sl rt lf wr dn) [.ref h, .int (nI z), .int (nI b), .int (nI i)]) (QcRead (nI (na * z + (nw * b + i)))) 0 0 (fun _ => False) := by
  refine Met.ofW (cc := b_x_wordAt) (maxL := 4) (ret := (some .int)) (by decide) rfl ?_
  intro p e s m args below meth c s₁ B9 hml hv
  obtain ⟨rfl, hP, hK⟩ := hv
  have hx := B9.exec
  have hb := B9.bytes
  have hr := B9.returns
  have hts0 := atoms_spec (ws := w_x_wordAt) B9.pre
  have hts : ∀ w ∈ gw, w.before _ s = true := fun w hw => hts0 w (List.mem_cons_of_mem _ hw)
  have hown : s.vm.findClass R_x = some m.cls := findClass_of_methodNamed B9.named
  have hlocks := B9.notSynchronized
  have S9 : CallFix p m c b_x_wordAt 4 s _ gw R_x := ⟨hx, hb, hml, hown, hts⟩
  have hl := lv_entry ([.ref h, .int (nI z), .int (nI b), .int (nI i)]) (n := 4) (Nat.le_of_ble_eq_true rfl)
  rw [lg_entry_eq]
  generalize (lg_sl ([.ref h, .int (nI z), .int (nI b), .int (nI i)]) ++ List.replicate (4 - (lg_sl ([.ref h, .int (nI z), .int (nI b), .int (nI i)])).length) Slot.unset).toArray = ls at hl ⊢
  have hl : lv_has ls 4 [(0, .ref h), (1, .int (nI z)), (2, .int (nI b)), (3, .int (nI i))] := hl
  refine lv_aload_n hx hb d_x_wordAt_0 rfl (lv_at hl 0 rfl) ?_
  refine gx hx hb hts hown hK hP rfl 2 28 (by decide) lk_x_area (v := .int (nI na)) rfl d_x_wordAt_1 ?_
  refine lv_iload_n hx hb d_x_wordAt_4 rfl (lv_at hl 1 rfl) ?_
  refine hs_imul hx hb d_x_wordAt_5 ?_
  refine lv_aload_n hx hb d_x_wordAt_6 rfl (lv_at hl 0 rfl) ?_
  refine gx hx hb hts hown hK hP rfl 1 25 (by decide) lk_x_words (v := .int (nI nw)) rfl d_x_wordAt_7 ?_
  refine lv_iload_n hx hb d_x_wordAt_10 rfl (lv_at hl 2 rfl) ?_
  refine hs_imul hx hb d_x_wordAt_11 ?_
  refine hs_iadd hx hb d_x_wordAt_12 ?_
  refine lv_iload_n hx hb d_x_wordAt_13 rfl (lv_at hl 3 rfl) ?_
  refine hs_iadd hx hb d_x_wordAt_14 ?_
  refine hs_to (y := nI (na * z + (nw * b + i))) (by rw [Nat.add_assoc]) ?_
  exact W.iret (v := nI (na * z + (nw * b + i))) hx hb hr (fun t ht _ => ⟨rfl, ht⟩) (fun _ h => by cases h) d_x_wordAt_15
set_option maxHeartbeats 4000000 in
set_option maxRecDepth 100000 in
/-- nodeAt -/
theorem c_x_nodeAt (l : Launch) (D : va_G) (cA : ClassId) (h d w nb nw na : Nat) (f g : Nat → Int32) (sl : Nat) (rt lf wr : Int32) (dn : Bool) (z k : Nat) (hk : 1 ≤ k) : Met l y_x_nodeAt w_x_nodeAt rq0 (PcR D [(cA, .int)] (xw cA h d w nb nw na f g sl rt lf wr dn) [.ref h, .int (nI z), .int (nI k)]) (QcRead (nI (na * z + (nb * nw + k - 1)))) 0 0 (fun _ => False) := by
  refine Met.ofW (cc := b_x_nodeAt) (maxL := 3) (ret := (some .int)) (by decide) rfl ?_
  intro p e s m args below meth c s₁ B9 hml hv
  obtain ⟨rfl, hP, hK⟩ := hv
  have hx := B9.exec
  have hb := B9.bytes
  have hr := B9.returns
  have hts0 := atoms_spec (ws := w_x_nodeAt) B9.pre
  have hts : ∀ w ∈ gw, w.before _ s = true := fun w hw => hts0 w (List.mem_cons_of_mem _ hw)
  have hown : s.vm.findClass R_x = some m.cls := findClass_of_methodNamed B9.named
  have hlocks := B9.notSynchronized
  have S9 : CallFix p m c b_x_nodeAt 3 s _ gw R_x := ⟨hx, hb, hml, hown, hts⟩
  have hl := lv_entry ([.ref h, .int (nI z), .int (nI k)]) (n := 3) (Nat.le_of_ble_eq_true rfl)
  rw [lg_entry_eq]
  generalize (lg_sl ([.ref h, .int (nI z), .int (nI k)]) ++ List.replicate (3 - (lg_sl ([.ref h, .int (nI z), .int (nI k)])).length) Slot.unset).toArray = ls at hl ⊢
  have hl : lv_has ls 3 [(0, .ref h), (1, .int (nI z)), (2, .int (nI k))] := hl
  refine lv_aload_n hx hb d_x_nodeAt_0 rfl (lv_at hl 0 rfl) ?_
  refine gx hx hb hts hown hK hP rfl 2 28 (by decide) lk_x_area (v := .int (nI na)) rfl d_x_nodeAt_1 ?_
  refine lv_iload_n hx hb d_x_nodeAt_4 rfl (lv_at hl 1 rfl) ?_
  refine hs_imul hx hb d_x_nodeAt_5 ?_
  refine lv_aload_n hx hb d_x_nodeAt_6 rfl (lv_at hl 0 rfl) ?_
  refine gx hx hb hts hown hK hP rfl 0 22 (by decide) lk_x_blocks (v := .int (nI nb)) rfl d_x_nodeAt_7 ?_
  refine lv_aload_n hx hb d_x_nodeAt_10 rfl (lv_at hl 0 rfl) ?_
  refine gx hx hb hts hown hK hP rfl 1 25 (by decide) lk_x_words (v := .int (nI nw)) rfl d_x_nodeAt_11 ?_
  refine hs_imul hx hb d_x_nodeAt_14 ?_
  refine hs_iadd hx hb d_x_nodeAt_15 ?_
  refine lv_iload_n hx hb d_x_nodeAt_16 rfl (lv_at hl 2 rfl) ?_
  refine hs_iadd hx hb d_x_nodeAt_17 ?_
  refine lv_iconst (v := nI 1) hx hb d_x_nodeAt_18 (by decide) ?_
  refine hs_isub hx hb (by omega) d_x_nodeAt_19 ?_
  refine hs_to (y := nI (na * z + (nb * nw + k - 1))) (congrArg nI (by omega)) ?_
  exact W.iret (v := nI (na * z + (nb * nw + k - 1))) hx hb hr (fun t ht _ => ⟨rfl, ht⟩) (fun _ h => by cases h) d_x_nodeAt_20
set_option maxHeartbeats 4000000 in
set_option maxRecDepth 100000 in
/-- isWord -/
theorem c_x_isWord (l : Launch) (D : va_G) (cA : ClassId) (h d w nb nw na : Nat) (f g : Nat → Int32) (sl : Nat) (rt lf wr : Int32) (dn : Bool) (b i : Int32)  : Met l y_x_isWord w_x_isWord rq0 (PcR D [(cA, .int)] (xw cA h d w nb nw na f g sl rt lf wr dn) [.ref h, .int b, .int i]) (QcRead (bI (decide (0 ≤ b ∧ b < nI nb ∧ 0 ≤ i ∧ i < nI nw)))) 0 0 (fun _ => False) := by
  refine Met.ofW (cc := b_x_isWord) (maxL := 3) (ret := (some .boolean)) (by decide) rfl ?_
  intro p e s m args below meth c s₁ B9 hml hv
  obtain ⟨rfl, hP, hK⟩ := hv
  have hx := B9.exec
  have hb := B9.bytes
  have hr := B9.returns
  have hts0 := atoms_spec (ws := w_x_isWord) B9.pre
  have hts : ∀ w ∈ gw, w.before _ s = true := fun w hw => hts0 w (List.mem_cons_of_mem _ hw)
  have hown : s.vm.findClass R_x = some m.cls := findClass_of_methodNamed B9.named
  have hlocks := B9.notSynchronized
  have S9 : CallFix p m c b_x_isWord 3 s _ gw R_x := ⟨hx, hb, hml, hown, hts⟩
  have hl := lv_entry ([.ref h, .int b, .int i]) (n := 3) (Nat.le_of_ble_eq_true rfl)
  rw [lg_entry_eq]
  generalize (lg_sl ([.ref h, .int b, .int i]) ++ List.replicate (3 - (lg_sl ([.ref h, .int b, .int i])).length) Slot.unset).toArray = ls at hl ⊢
  have hl : lv_has ls 3 [(0, .ref h), (1, .int b), (2, .int i)] := hl
  refine lv_iload_n hx hb d_x_isWord_0 rfl (lv_at hl 1 rfl) ?_
  refine lv_if_lt (tgt := 28) hx hb d_x_isWord_1 (by decide) (fun h1 => ?_) (fun h1 => ?_)
  · skip
    refine lv_iconst (v := nI 0) hx hb d_x_isWord_28 (by decide) ?_
    refine hs_to (y := bI (decide (0 ≤ b ∧ b < nI nb ∧ 0 ≤ i ∧ i < nI nw))) (by rw [decide_eq_false (fun q => Int32.not_le.mpr h1 q.1)]; rfl) ?_
    exact W.zret (v := bI (decide (0 ≤ b ∧ b < nI nb ∧ 0 ≤ i ∧ i < nI nw))) hx hb hr (bI_n _) (fun t ht _ => ⟨rfl, ht⟩) (fun _ h => by cases h) d_x_isWord_29
  · skip
    refine lv_iload_n hx hb d_x_isWord_4 rfl (lv_at hl 1 rfl) ?_
    refine lv_aload_n hx hb d_x_isWord_5 rfl (lv_at hl 0 rfl) ?_
    refine gx hx hb hts hown hK hP rfl 0 22 (by decide) lk_x_blocks (v := .int (nI nb)) rfl d_x_isWord_6 ?_
    refine lv_icmp_ge (tgt := 28) hx hb d_x_isWord_9 (by decide) (fun h2 => ?_) (fun h2 => ?_)
    · skip
      refine lv_iconst (v := nI 0) hx hb d_x_isWord_28 (by decide) ?_
      refine hs_to (y := bI (decide (0 ≤ b ∧ b < nI nb ∧ 0 ≤ i ∧ i < nI nw))) (by rw [decide_eq_false (fun q => Int32.not_lt.mpr h2 q.2.1)]; rfl) ?_
      exact W.zret (v := bI (decide (0 ≤ b ∧ b < nI nb ∧ 0 ≤ i ∧ i < nI nw))) hx hb hr (bI_n _) (fun t ht _ => ⟨rfl, ht⟩) (fun _ h => by cases h) d_x_isWord_29
    · skip
      refine lv_iload_n hx hb d_x_isWord_12 rfl (lv_at hl 2 rfl) ?_
      refine lv_if_lt (tgt := 28) hx hb d_x_isWord_13 (by decide) (fun h3 => ?_) (fun h3 => ?_)
      · skip
        refine lv_iconst (v := nI 0) hx hb d_x_isWord_28 (by decide) ?_
        refine hs_to (y := bI (decide (0 ≤ b ∧ b < nI nb ∧ 0 ≤ i ∧ i < nI nw))) (by rw [decide_eq_false (fun q => Int32.not_le.mpr h3 q.2.2.1)]; rfl) ?_
        exact W.zret (v := bI (decide (0 ≤ b ∧ b < nI nb ∧ 0 ≤ i ∧ i < nI nw))) hx hb hr (bI_n _) (fun t ht _ => ⟨rfl, ht⟩) (fun _ h => by cases h) d_x_isWord_29
      · skip
        refine lv_iload_n hx hb d_x_isWord_16 rfl (lv_at hl 2 rfl) ?_
        refine lv_aload_n hx hb d_x_isWord_17 rfl (lv_at hl 0 rfl) ?_
        refine gx hx hb hts hown hK hP rfl 1 25 (by decide) lk_x_words (v := .int (nI nw)) rfl d_x_isWord_18 ?_
        refine lv_icmp_ge (tgt := 28) hx hb d_x_isWord_21 (by decide) (fun h4 => ?_) (fun h4 => ?_)
        · skip
          refine lv_iconst (v := nI 0) hx hb d_x_isWord_28 (by decide) ?_
          refine hs_to (y := bI (decide (0 ≤ b ∧ b < nI nb ∧ 0 ≤ i ∧ i < nI nw))) (by rw [decide_eq_false (fun q => Int32.not_lt.mpr h4 q.2.2.2)]; rfl) ?_
          exact W.zret (v := bI (decide (0 ≤ b ∧ b < nI nb ∧ 0 ≤ i ∧ i < nI nw))) hx hb hr (bI_n _) (fun t ht _ => ⟨rfl, ht⟩) (fun _ h => by cases h) d_x_isWord_29
        · skip
          refine lv_iconst (v := nI 1) hx hb d_x_isWord_24 (by decide) ?_
          refine lv_goto (tgt := 29) hx hb d_x_isWord_25 (by decide) ?_
          refine hs_to (y := bI (decide (0 ≤ b ∧ b < nI nb ∧ 0 ≤ i ∧ i < nI nw))) (by rw [decide_eq_true ⟨Int32.not_lt.mp h1, Int32.not_le.mp h2, Int32.not_lt.mp h3, Int32.not_le.mp h4⟩]; rfl) ?_
          exact W.zret (v := bI (decide (0 ≤ b ∧ b < nI nb ∧ 0 ≤ i ∧ i < nI nw))) hx hb hr (bI_n _) (fun t ht _ => ⟨rfl, ht⟩) (fun _ h => by cases h) d_x_isWord_29
end
section
set_option maxHeartbeats 4000000 in
set_option maxRecDepth 100000 in
/-- isOnWay -/
theorem c_x_isOnWay (l : Launch) (k x0 : Nat) (hk : k < 2 ^ 31) (hx0 : x0 < 64) : Met l y_x_isOnWay w_x_isOnWay rq0 (PcS [.int (nI k), .int (nI x0)]) (QcRead (bI (onW k x0))) 0 0 (fun _ => False) := by
  refine Met.ofW (cc := b_x_isOnWay) (maxL := 3) (ret := (some .boolean)) (by decide) rfl ?_
  intro p e s m args below meth c s₁ B9 hml hv
  obtain ⟨rfl, -⟩ := hv
  have hx := B9.exec
  have hb := B9.bytes
  have hr := B9.returns
  have hts0 := atoms_spec (ws := w_x_isOnWay) B9.pre
  have hts : ∀ w ∈ gw, w.before _ s = true := fun w hw => hts0 w (List.mem_cons_of_mem _ hw)
  have hown : s.vm.findClass R_x = some m.cls := findClass_of_methodNamed B9.named
  have hlocks := B9.notSynchronized
  have S9 : CallFix p m c b_x_isOnWay 3 s _ gw R_x := ⟨hx, hb, hml, hown, hts⟩
  have hl := lv_entry ([.int (nI k), .int (nI x0)]) (n := 3) (Nat.le_of_ble_eq_true rfl)
  rw [lg_entry_eq]
  generalize (lg_sl ([.int (nI k), .int (nI x0)]) ++ List.replicate (3 - (lg_sl ([.int (nI k), .int (nI x0)])).length) Slot.unset).toArray = ls at hl ⊢
  have hl : lv_has ls 3 [(0, .int (nI k)), (1, .int (nI x0))] := hl
  refine lv_iload_n hx hb d_x_isOnWay_0 rfl (lv_at hl 1 rfl) ?_
  refine lv_istore_n (lv' := [(2, .int (nI x0)), (0, .int (nI k)), (1, .int (nI x0))]) hx hb d_x_isOnWay_1 rfl hl (by decide) rfl (fun ls hl => ?_)
  have loop : ∀ (n : Nat) (x : Nat), x < 64 → onW k x = onW k x0 → x < n → ∀ (ls : Array Slot), lv_has ls 3 [(2, .int (nI x)), (0, .int (nI k)), (1, .int (nI x0))] → W p l e (headSpec w_x_isOnWay rq0).room s m ([.int (nI k), .int (nI x0)] : List Value).toArray below meth c s.heap [] 0 0 (MQ below (QcRead (bI (onW k x0))) ([.int (nI k), .int (nI x0)] : List Value).toArray s 0 0 (fun _ => False)) (F0 m 2 ls []) := by
    intro n
    induction n with
    | zero =>
      intro x hx9 hi hmu
      exact absurd hmu (Nat.not_lt_zero _)
    | succ n ih =>
      intro x hx9 hi hmu ls hl
      refine lv_iload_n hx hb d_x_isOnWay_2 rfl (lv_at hl 0 rfl) ?_
      refine lv_iload_n hx hb d_x_isOnWay_3 rfl (lv_at hl 1 rfl) ?_
      refine hs_le (tgt := 14) hx hb d_x_isOnWay_4 (by decide) (by omega) (by omega) (fun h1 => ?_) (fun h1 => ?_)
      · skip
        refine lv_iload_n hx hb d_x_isOnWay_14 rfl (lv_at hl 0 rfl) ?_
        refine lv_iload_n hx hb d_x_isOnWay_15 rfl (lv_at hl 1 rfl) ?_
        refine hs_ne (tgt := 23) hx hb d_x_isOnWay_16 (by decide) (by omega) (by omega) (fun h2 => ?_) (fun h2 => ?_)
        · skip
          refine lv_iconst (v := nI 0) hx hb d_x_isOnWay_23 (by decide) ?_
          refine hs_to (y := bI (onW k x0)) (by rw [← hi, onW_end h1, decide_eq_false h2]; rfl) ?_
          exact W.zret (v := bI (onW k x0)) hx hb hr (bI_n _) (fun t ht _ => ⟨rfl, ht⟩) (fun _ h => by cases h) d_x_isOnWay_24
        · skip
          refine lv_iconst (v := nI 1) hx hb d_x_isOnWay_19 (by decide) ?_
          refine lv_goto (tgt := 24) hx hb d_x_isOnWay_20 (by decide) ?_
          refine hs_to (y := bI (onW k x0)) (by rw [← hi, onW_end h1, decide_eq_true h2]; rfl) ?_
          exact W.zret (v := bI (onW k x0)) hx hb hr (bI_n _) (fun t ht _ => ⟨rfl, ht⟩) (fun _ h => by cases h) d_x_isOnWay_24
      · skip
        refine lv_iload_n hx hb d_x_isOnWay_7 rfl (lv_at hl 0 rfl) ?_
        refine lv_iconst (v := nI 1) hx hb d_x_isOnWay_8 (by decide) ?_
        refine lv_ishr hx hb d_x_isOnWay_9 ?_
        refine hs_to (y := nI (x / 2)) (x1_shr x (by omega)) ?_
        refine lv_istore_n (lv' := [(2, .int (nI (x / 2))), (0, .int (nI k)), (1, .int (nI x0))]) hx hb d_x_isOnWay_10 rfl hl (by decide) rfl (fun ls hl => ?_)
        refine lv_goto (tgt := 2) hx hb d_x_isOnWay_11 (by decide) ?_
        exact ih (x / 2) (by omega) (by rw [← onW_half h1]; exact hi) (by omega) ls (lv_sub hl [0, 1, 2] rfl)
  exact loop (x0 + 1) x0 hx0 rfl (Nat.lt_succ_self _) ls (lv_sub hl [0, 1, 2] rfl)
set_option maxHeartbeats 4000000 in
set_option maxRecDepth 100000 in
/-- leaf -/
theorem c_x_leaf (l : Launch) (D : va_G) (cA : ClassId) (h d w nb nw na : Nat) (f g : Nat → Int32) (sl : Nat) (rt lf wr : Int32) (dn : Bool) (dp b : Nat) (aw wo : Int32) (hG : hsG dp nb nw na) (hsl : sl ≤ 1) (hb9 : b < nb) : Met l y_x_leaf w_x_leaf rq2 (PcR D [(cA, .int)] (xw cA h d w nb nw na f g sl rt lf wr dn) [.ref h, .int (nI b), .int aw, .int wo]) (QcRead (fo (fun i => if nI i = aw then wo else f (na * sl + (nw * b + i))) (nI b) nw)) 0 0 (fun _ => False) := by
  refine Met.ofW (cc := b_x_leaf) (maxL := 6) (ret := (some .int)) (by decide) rfl ?_
  intro p e s m args below meth c s₁ B9 hml hv
  obtain ⟨rfl, hP, hK⟩ := hv
  have hx := B9.exec
  have hb := B9.bytes
  have hr := B9.returns
  have hts0 := atoms_spec (ws := w_x_leaf) B9.pre
  have hts : ∀ w ∈ gw, w.before _ s = true := fun w hw => hts0 w (List.mem_cons_of_mem _ hw)
  have hown : s.vm.findClass R_x = some m.cls := findClass_of_methodNamed B9.named
  have hlocks := B9.notSynchronized
  have S9 : CallFix p m c b_x_leaf 6 s _ gw R_x := ⟨hx, hb, hml, hown, hts⟩
  have hl := lv_entry ([.ref h, .int (nI b), .int aw, .int wo]) (n := 6) (Nat.le_of_ble_eq_true rfl)
  rw [lg_entry_eq]
  generalize (lg_sl ([.ref h, .int (nI b), .int aw, .int wo]) ++ List.replicate (6 - (lg_sl ([.ref h, .int (nI b), .int aw, .int wo])).length) Slot.unset).toArray = ls at hl ⊢
  have hl : lv_has ls 6 [(0, .ref h), (1, .int (nI b)), (2, .int aw), (3, .int wo)] := hl
  have h9 := hG.fits
  refine lv_iload_n hx hb d_x_leaf_0 rfl (lv_at hl 1 rfl) ?_
  refine lv_istore (lv' := [(4, .int (nI b)), (0, .ref h), (1, .int (nI b)), (2, .int aw), (3, .int wo)]) hx hb d_x_leaf_1 hl (by decide) rfl (fun ls hl => ?_)
  refine lv_iconst (v := nI 0) hx hb d_x_leaf_3 (by decide) ?_
  refine lv_istore (lv' := [(5, .int (nI 0)), (4, .int (nI b)), (0, .ref h), (1, .int (nI b)), (2, .int aw), (3, .int wo)]) hx hb d_x_leaf_4 hl (by decide) rfl (fun ls hl => ?_)
  have loop : ∀ (n : Nat) (i : Nat), i ≤ nw → (nw - i) < n → ∀ (ls : Array Slot), lv_has ls 6 [(5, .int (nI i)), (4, .int (fo (fun i => if nI i = aw then wo else f (na * sl + (nw * b + i))) (nI b) i)), (0, .ref h), (1, .int (nI b)), (2, .int aw), (3, .int wo)] → W p l e (headSpec w_x_leaf rq2).room s m ([.ref h, .int (nI b), .int aw, .int wo] : List Value).toArray below meth c s.heap [] 0 0 (MQ below (QcRead (fo (fun i => if nI i = aw then wo else f (na * sl + (nw * b + i))) (nI b) nw)) ([.ref h, .int (nI b), .int aw, .int wo] : List Value).toArray s 0 0 (fun _ => False)) (F0 m 6 ls []) := by
    intro n
    induction n with
    | zero =>
      intro i hi hmu
      exact absurd hmu (Nat.not_lt_zero _)
    | succ n ih =>
      intro i hi hmu ls hl
      refine lv_iload hx hb d_x_leaf_6 (lv_at hl 0 rfl) ?_
      refine lv_aload_n hx hb d_x_leaf_8 rfl (lv_at hl 2 rfl) ?_
      refine gx hx hb hts hown hK hP rfl 1 25 (by decide) lk_x_words (v := .int (nI nw)) rfl d_x_leaf_9 ?_
      refine hs_ge (tgt := 54) hx hb d_x_leaf_12 (by decide) (by omega) (by omega) (fun h1 => ?_) (fun h1 => ?_)
      · skip
        refine lv_iload hx hb d_x_leaf_54 (lv_at hl 1 rfl) ?_
        refine hs_to (y := fo (fun i => if nI i = aw then wo else f (na * sl + (nw * b + i))) (nI b) nw) (by rw [Nat.le_antisymm hi h1]) ?_
        exact W.iret (v := fo (fun i => if nI i = aw then wo else f (na * sl + (nw * b + i))) (nI b) nw) hx hb hr (fun t ht _ => ⟨rfl, ht⟩) (fun _ h => by cases h) d_x_leaf_56
      · skip
        refine lv_iload hx hb d_x_leaf_15 (lv_at hl 1 rfl) ?_
        refine lv_iload hx hb d_x_leaf_17 (lv_at hl 0 rfl) ?_
        refine lv_iload_n hx hb d_x_leaf_19 rfl (lv_at hl 4 rfl) ?_
        refine lv_icmp_ne (tgt := 27) hx hb d_x_leaf_20 (by decide) (fun hc => ?_) (fun hc => ?_)
        · skip
          refine lv_aload_n hx hb d_x_leaf_27 rfl (lv_at hl 2 rfl) ?_
          refine gx hx hb hts hown hK hP rfl 3 31 (by decide) lk_x_disk (v := .ref d) rfl d_x_leaf_28 ?_
          refine lv_aload_n hx hb d_x_leaf_31 rfl (lv_at hl 2 rfl) ?_
          refine lv_aload_n hx hb d_x_leaf_32 rfl (lv_at hl 2 rfl) ?_
          refine gx hx hb hts hown hK hP rfl 5 58 (by decide) lk_x_slot (v := .int (nI sl)) rfl d_x_leaf_33 ?_
          refine lv_iload_n hx hb d_x_leaf_36 rfl (lv_at hl 3 rfl) ?_
          refine lv_iload hx hb d_x_leaf_37 (lv_at hl 0 rfl) ?_
          refine hs_rv (As := [.int (nI sl), .int (nI b), .int (nI i)]) (rest := [.ref d, .int (fo (fun i => if nI i = aw then wo else f (na * sl + (nw * b + i))) (nI b) i)]) S9 (c_x_wordAt l D cA h d w nb nw na f g sl rt lf wr dn sl b i) k_x_x_wordAt h_x_wordAt rfl rfl ⟨Nat.le_of_ble_eq_true rfl, Nat.le_of_ble_eq_true rfl⟩ hK hP rfl rfl rfl hl.1 rfl (Nat.le_of_ble_eq_true rfl) d_x_leaf_39 ⟨Nat.zero_le _, Nat.zero_le _⟩ ?_
          refine hs_iald hx hb hK hP 1 0 rfl rfl (i := na * sl + (nw * b + i)) (at_word hG hsl hb9 h1).2 (by omega) d_x_leaf_42 ?_
          refine hs_rs (As := [.int (fo (fun i => if nI i = aw then wo else f (na * sl + (nw * b + i))) (nI b) i), .int (f (na * sl + (nw * b + i)))]) (rest := []) S9 (c_x_mix l (fo (fun i => if nI i = aw then wo else f (na * sl + (nw * b + i))) (nI b) i) (f (na * sl + (nw * b + i)))) k_x_x_mix h_x_mix rfl rfl ⟨Nat.le_of_ble_eq_true rfl, Nat.le_of_ble_eq_true rfl⟩ rfl hl.1 rfl (Nat.le_of_ble_eq_true rfl) d_x_leaf_43 ⟨Nat.zero_le _, Nat.zero_le _⟩ ?_
          refine hs_to (y := fo (fun i => if nI i = aw then wo else f (na * sl + (nw * b + i))) (nI b) (i + 1)) (by show _ = mx _ (if nI i = aw then wo else f (na * sl + (nw * b + i))); rw [if_neg hc]) ?_
          refine lv_istore (lv' := [(4, .int (fo (fun i => if nI i = aw then wo else f (na * sl + (nw * b + i))) (nI b) (i + 1))), (5, .int (nI i)), (0, .ref h), (1, .int (nI b)), (2, .int aw), (3, .int wo)]) hx hb d_x_leaf_46 hl (by decide) rfl (fun ls hl => ?_)
          refine lv_iinc (v := nI (i + 1)) (lv' := [(5, .int (nI (i + 1))), (4, .int (fo (fun i => if nI i = aw then wo else f (na * sl + (nw * b + i))) (nI b) (i + 1))), (0, .ref h), (1, .int (nI b)), (2, .int aw), (3, .int wo)]) hx hb d_x_leaf_48 hl (k := 1) rfl (nI_add _ _) (by decide) rfl (fun ls hl => ?_)
          refine lv_goto (tgt := 6) hx hb d_x_leaf_51 (by decide) ?_
          exact ih (i + 1) h1 (by omega) ls (lv_sub hl [0, 1, 2, 3, 4, 5] rfl)
        · skip
          refine lv_iload_n hx hb d_x_leaf_23 rfl (lv_at hl 5 rfl) ?_
          refine lv_goto (tgt := 43) hx hb d_x_leaf_24 (by decide) ?_
          refine hs_rs (As := [.int (fo (fun i => if nI i = aw then wo else f (na * sl + (nw * b + i))) (nI b) i), .int wo]) (rest := []) S9 (c_x_mix l (fo (fun i => if nI i = aw then wo else f (na * sl + (nw * b + i))) (nI b) i) wo) k_x_x_mix h_x_mix rfl rfl ⟨Nat.le_of_ble_eq_true rfl, Nat.le_of_ble_eq_true rfl⟩ rfl hl.1 rfl (Nat.le_of_ble_eq_true rfl) d_x_leaf_43 ⟨Nat.zero_le _, Nat.zero_le _⟩ ?_
          refine hs_to (y := fo (fun i => if nI i = aw then wo else f (na * sl + (nw * b + i))) (nI b) (i + 1)) (by show _ = mx _ (if nI i = aw then wo else f (na * sl + (nw * b + i))); rw [if_pos hc]) ?_
          refine lv_istore (lv' := [(4, .int (fo (fun i => if nI i = aw then wo else f (na * sl + (nw * b + i))) (nI b) (i + 1))), (5, .int (nI i)), (0, .ref h), (1, .int (nI b)), (2, .int aw), (3, .int wo)]) hx hb d_x_leaf_46 hl (by decide) rfl (fun ls hl => ?_)
          refine lv_iinc (v := nI (i + 1)) (lv' := [(5, .int (nI (i + 1))), (4, .int (fo (fun i => if nI i = aw then wo else f (na * sl + (nw * b + i))) (nI b) (i + 1))), (0, .ref h), (1, .int (nI b)), (2, .int aw), (3, .int wo)]) hx hb d_x_leaf_48 hl (k := 1) rfl (nI_add _ _) (by decide) rfl (fun ls hl => ?_)
          refine lv_goto (tgt := 6) hx hb d_x_leaf_51 (by decide) ?_
          exact ih (i + 1) h1 (by omega) ls (lv_sub hl [0, 1, 2, 3, 4, 5] rfl)
  exact loop (nw + 1) 0 (Nat.zero_le _) (by omega) ls (lv_sub hl [0, 1, 2, 3, 4, 5] rfl)
set_option maxHeartbeats 4000000 in
set_option maxRecDepth 100000 in
/-- climb -/
theorem c_x_climb (l : Launch) (D : va_G) (cA : ClassId) (h d w nb nw na : Nat) (f g : Nat → Int32) (sl : Nat) (rt lf wr : Int32) (dn : Bool) (sz : Nat) (dp b : Nat) (hs : Int32) (hG : hsG dp nb nw na) (hsl : sl ≤ 1) (hb9 : b < nb) : Met l y_x_climb w_x_climb rq2 (PcW D [(cA, .int)] (xw cA h d w nb nw na f g sl rt lf wr dn) sz [.ref h, .int (nI b), .int hs]) (QcW D (va_A (xw cA h d w nb nw na f g sl rt lf wr dn) sz) (fun u : Nat → Int32 => ∀ t, t ≤ dp → u ((nb + b) / 2 ^ t) = up (ndA (ar f na sl) (nb * nw)) (nb + b) hs t) (fun _ => some (.int (up (ndA (ar f na sl) (nb * nw)) (nb + b) hs dp))) (fun u => xw cA h d w nb nw na f u sl rt lf wr dn)) 0 0 (va_A (xw cA h d w nb nw na f g sl rt lf wr dn) sz) := by
  refine Met.ofW (cc := b_x_climb) (maxL := 6) (ret := (some .int)) (by decide) rfl ?_
  intro p e s m args below meth c s₁ B9 hml hv
  obtain ⟨rfl, hsz, hP, hK, hD0⟩ := hv
  have hx := B9.exec
  have hb := B9.bytes
  have hr := B9.returns
  have hts0 := atoms_spec (ws := w_x_climb) B9.pre
  have hts : ∀ w ∈ gw, w.before _ s = true := fun w hw => hts0 w (List.mem_cons_of_mem _ hw)
  have hown : s.vm.findClass R_x = some m.cls := findClass_of_methodNamed B9.named
  have hlocks := B9.notSynchronized
  have S9 : CallFix p m c b_x_climb 6 s _ gw R_x := ⟨hx, hb, hml, hown, hts⟩
  subst hsz
  have hD := hD0.self (sz := s.heap.size)
  generalize hAe : va_A (xw cA h d w nb nw na f g sl rt lf wr dn) s.heap.size = Z at hD ⊢
  have hA : ∀ q : Nat, s.heap.size ≤ q → Z q := fun q h => by rw [← hAe]; exact Or.inr h
  have hS : va_S Z s.heap s.heap [] := va_S.rf
  have hl := lv_entry ([.ref h, .int (nI b), .int hs]) (n := 6) (Nat.le_of_ble_eq_true rfl)
  rw [lg_entry_eq]
  generalize (lg_sl ([.ref h, .int (nI b), .int hs]) ++ List.replicate (6 - (lg_sl ([.ref h, .int (nI b), .int hs])).length) Slot.unset).toArray = ls at hl ⊢
  have hl : lv_has ls 6 [(0, .ref h), (1, .int (nI b)), (2, .int hs)] := hl
  have h9 := hG.fits
  have hnb := hG.2.1
  refine lv_iload_n hx hb d_x_climb_0 rfl (lv_at hl 2 rfl) ?_
  refine lv_istore_n (lv' := [(3, .int hs), (0, .ref h), (1, .int (nI b)), (2, .int hs)]) hx hb d_x_climb_1 rfl hl (by decide) rfl (fun ls hl => ?_)
  refine lv_aload_n hx hb d_x_climb_2 rfl (lv_at hl 1 rfl) ?_
  refine gx hx hb hts hown hK hP rfl 0 22 (by decide) lk_x_blocks (v := .int (nI nb)) rfl d_x_climb_3 ?_
  refine lv_iload_n hx hb d_x_climb_6 rfl (lv_at hl 2 rfl) ?_
  refine hs_iadd hx hb d_x_climb_7 ?_
  refine lv_istore (lv' := [(4, .int (nI (nb + b))), (3, .int hs), (0, .ref h), (1, .int (nI b)), (2, .int hs)]) hx hb d_x_climb_8 hl (by decide) rfl (fun ls hl => ?_)
  refine lv_aload_n hx hb d_x_climb_10 rfl (lv_at hl 2 rfl) ?_
  refine gx hx hb hts hown hK hP rfl 4 35 (by decide) lk_x_way (v := .ref w) rfl d_x_climb_11 ?_
  refine lv_iload hx hb d_x_climb_14 (lv_at hl 0 rfl) ?_
  refine lv_iload_n hx hb d_x_climb_16 rfl (lv_at hl 1 rfl) ?_
  refine hs_iast hx hb hK hP hD hS 2 0 rfl rfl (i := nb + b) (x := hs) (by omega) (by omega) d_x_climb_17 (fun H locs hP hD hS => ?_)
  have hP : va_P D classes (xw cA h d w nb nw na f (upd g (nb + b) hs) sl rt lf wr dn) H := hP
  have hD : va_D Z (xw cA h d w nb nw na f (upd g (nb + b) hs) sl rt lf wr dn) := hD
  have loop : ∀ (n : Nat) (t k : Nat) (g9 : Nat → Int32), t ≤ dp → k = (nb + b) / 2 ^ t → 1 ≤ k → k < 2 * nb → (∀ j, j ≤ t → g9 ((nb + b) / 2 ^ j) = up (ndA (ar f na sl) (nb * nw)) (nb + b) hs j) → (dp - t) < n → ∀ (H : Heap) (locs : List Loc), va_P D classes (xw cA h d w nb nw na f g9 sl rt lf wr dn) H → va_D Z (xw cA h d w nb nw na f g9 sl rt lf wr dn) → va_S Z s.heap H locs → ∀ (ls : Array Slot), lv_has ls 6 [(4, .int (nI k)), (3, .int (up (ndA (ar f na sl) (nb * nw)) (nb + b) hs t)), (0, .ref h), (1, .int (nI b)), (2, .int hs)] → W p l e (headSpec w_x_climb rq2).room s m ([.ref h, .int (nI b), .int hs] : List Value).toArray below meth c H locs 0 0 (MQ below (QcW D Z (fun u : Nat → Int32 => ∀ t, t ≤ dp → u ((nb + b) / 2 ^ t) = up (ndA (ar f na sl) (nb * nw)) (nb + b) hs t) (fun _ => some (.int (up (ndA (ar f na sl) (nb * nw)) (nb + b) hs dp))) (fun u => xw cA h d w nb nw na f u sl rt lf wr dn)) ([.ref h, .int (nI b), .int hs] : List Value).toArray s 0 0 Z) (F0 m 18 ls []) := by
    intro n
    induction n with
    | zero =>
      intro t k g9 ht hk hk1 hk2 hg hmu
      exact absurd hmu (Nat.not_lt_zero _)
    | succ n ih =>
      intro t k g9 ht hk hk1 hk2 hg hmu H locs hP hD hS ls hl
      refine lv_iload hx hb d_x_climb_18 (lv_at hl 0 rfl) ?_
      refine lv_iconst (v := nI 1) hx hb d_x_climb_20 (by decide) ?_
      refine hs_le (tgt := 83) hx hb d_x_climb_21 (by decide) (by omega) (by omega) (fun h1 => ?_) (fun h1 => ?_)
      · skip
        have et : t = dp := (wk_at hnb hb9 ht).2.2.mp (by omega)
        subst et
        refine lv_iload_n hx hb d_x_climb_83 rfl (lv_at hl 1 rfl) ?_
        exact W.iret (v := up (ndA (ar f na sl) (nb * nw)) (nb + b) hs t) hx hb hr (fun t ht hW => ⟨⟨g9, hg, rfl, by rw [ht]; exact hP, hD⟩, hS.F ht⟩) hS.2.2 d_x_climb_84
      · skip
        have ht1 : t < dp := by
          rcases Nat.lt_or_ge t dp with q | q
          · exact q
          · have := (wk_at hnb hb9 ht).2.2.mpr (by omega); omega
        obtain ⟨q, hq⟩ : ∃ q, q = (if k % 2 = 0 then k + 1 else k - 1) := ⟨_, rfl⟩
        have hq2 : 1 ≤ q ∧ q < 2 * nb := by
          rw [hq]; split <;> omega
        refine lv_aload_n hx hb d_x_climb_24 rfl (lv_at hl 2 rfl) ?_
        refine gx hx hb hts hown hK hP rfl 3 31 (by decide) lk_x_disk (v := .ref d) rfl d_x_climb_25 ?_
        refine lv_aload_n hx hb d_x_climb_28 rfl (lv_at hl 2 rfl) ?_
        refine lv_aload_n hx hb d_x_climb_29 rfl (lv_at hl 2 rfl) ?_
        refine gx hx hb hts hown hK hP rfl 5 58 (by decide) lk_x_slot (v := .int (nI sl)) rfl d_x_climb_30 ?_
        refine lv_iload hx hb d_x_climb_33 (lv_at hl 0 rfl) ?_
        refine lv_iconst (v := nI 1) hx hb d_x_climb_35 (by decide) ?_
        refine lv_ixor hx hb d_x_climb_36 ?_
        refine hs_to (y := nI q) (by rw [x1_xor k (by omega), hq]) ?_
        refine hs_rv (As := [.int (nI sl), .int (nI q)]) (rest := [.ref d]) S9 (c_x_nodeAt l D cA h d w nb nw na f g9 sl rt lf wr dn sl q hq2.1) k_x_x_nodeAt h_x_nodeAt rfl rfl ⟨Nat.le_of_ble_eq_true rfl, Nat.le_of_ble_eq_true rfl⟩ hK hP rfl rfl rfl hl.1 rfl (Nat.le_of_ble_eq_true rfl) d_x_climb_37 ⟨Nat.zero_le _, Nat.zero_le _⟩ ?_
        refine hs_iald hx hb hK hP 1 0 rfl rfl (i := na * sl + (nb * nw + q - 1)) (at_node hG hsl hq2.1 hq2.2).2 (by omega) d_x_climb_40 ?_
        refine lv_istore (lv' := [(5, .int (f (na * sl + (nb * nw + q - 1)))), (4, .int (nI k)), (3, .int (up (ndA (ar f na sl) (nb * nw)) (nb + b) hs t)), (0, .ref h), (1, .int (nI b)), (2, .int hs)]) hx hb d_x_climb_41 hl (by decide) rfl (fun ls hl => ?_)
        refine lv_iload hx hb d_x_climb_43 (lv_at hl 1 rfl) ?_
        refine lv_iconst (v := nI 1) hx hb d_x_climb_45 (by decide) ?_
        refine lv_iand hx hb d_x_climb_46 ?_
        refine hs_to (y := nI (k % 2)) (x1_and k (by omega)) ?_
        refine hs_ifneN (tgt := 59) hx hb d_x_climb_47 (by decide) (by omega) (fun hc => ?_) (fun hc => ?_)
        · skip
          refine lv_iload hx hb d_x_climb_59 (lv_at hl 0 rfl) ?_
          refine lv_iload_n hx hb d_x_climb_61 rfl (lv_at hl 2 rfl) ?_
          refine hs_rs (As := [.int (f (na * sl + (nb * nw + q - 1))), .int (up (ndA (ar f na sl) (nb * nw)) (nb + b) hs t)]) (rest := []) S9 (c_x_mix l (f (na * sl + (nb * nw + q - 1))) (up (ndA (ar f na sl) (nb * nw)) (nb + b) hs t)) k_x_x_mix h_x_mix rfl rfl ⟨Nat.le_of_ble_eq_true rfl, Nat.le_of_ble_eq_true rfl⟩ rfl hl.1 rfl (Nat.le_of_ble_eq_true rfl) d_x_climb_62 ⟨Nat.zero_le _, Nat.zero_le _⟩ ?_
          refine hs_to (y := up (ndA (ar f na sl) (nb * nw)) (nb + b) hs (t + 1)) (by show _ = stp _ ((nb + b) / 2 ^ t) _; rw [← hk, stp, if_neg hc, hq, if_neg hc]; rfl) ?_
          refine lv_istore_n (lv' := [(3, .int (up (ndA (ar f na sl) (nb * nw)) (nb + b) hs (t + 1))), (5, .int (f (na * sl + (nb * nw + q - 1)))), (4, .int (nI k)), (0, .ref h), (1, .int (nI b)), (2, .int hs)]) hx hb d_x_climb_65 rfl hl (by decide) rfl (fun ls hl => ?_)
          refine lv_iload hx hb d_x_climb_66 (lv_at hl 2 rfl) ?_
          refine lv_iconst (v := nI 1) hx hb d_x_climb_68 (by decide) ?_
          refine lv_ishr hx hb d_x_climb_69 ?_
          refine hs_to (y := nI (k / 2)) (x1_shr k (by omega)) ?_
          refine lv_istore (lv' := [(4, .int (nI (k / 2))), (3, .int (up (ndA (ar f na sl) (nb * nw)) (nb + b) hs (t + 1))), (5, .int (f (na * sl + (nb * nw + q - 1)))), (0, .ref h), (1, .int (nI b)), (2, .int hs)]) hx hb d_x_climb_70 hl (by decide) rfl (fun ls hl => ?_)
          refine lv_aload_n hx hb d_x_climb_72 rfl (lv_at hl 3 rfl) ?_
          refine gx hx hb hts hown hK hP rfl 4 35 (by decide) lk_x_way (v := .ref w) rfl d_x_climb_73 ?_
          refine lv_iload hx hb d_x_climb_76 (lv_at hl 0 rfl) ?_
          refine lv_iload_n hx hb d_x_climb_78 rfl (lv_at hl 1 rfl) ?_
          refine hs_iast hx hb hK hP hD hS 2 0 rfl rfl (i := k / 2) (x := up (ndA (ar f na sl) (nb * nw)) (nb + b) hs (t + 1)) (by omega) (by omega) d_x_climb_79 (fun H locs hP hD hS => ?_)
          have hP : va_P D classes (xw cA h d w nb nw na f (upd g9 (k / 2) (up (ndA (ar f na sl) (nb * nw)) (nb + b) hs (t + 1))) sl rt lf wr dn) H := hP
          have hD : va_D Z (xw cA h d w nb nw na f (upd g9 (k / 2) (up (ndA (ar f na sl) (nb * nw)) (nb + b) hs (t + 1))) sl rt lf wr dn) := hD
          refine lv_goto (tgt := 18) hx hb d_x_climb_80 (by decide) ?_
          have hk2 : k / 2 = (nb + b) / 2 ^ (t + 1) := by rw [pow_half, ← hk]
          refine ih (t + 1) (k / 2) (upd g9 (k / 2) (up (ndA (ar f na sl) (nb * nw)) (nb + b) hs (t + 1))) ht1 hk2 (by omega) (by omega) (fun j hj => ?_) (by omega) _ _ hP hD hS ls (lv_sub hl [0, 1, 3, 4, 5] rfl)
          rcases Nat.lt_or_ge t j with q1 | q1
          · have ej : j = t + 1 := by omega
            subst ej
            rw [← hk2]; exact pk_us
          · have h5 : (nb + b) / 2 ^ t ≤ (nb + b) / 2 ^ j := Nat.div_le_div_left (Nat.pow_le_pow_right (by decide) q1) (Nat.two_pow_pos j)
            rw [pk_un (by omega)]; exact hg j q1
        · skip
          refine lv_iload_n hx hb d_x_climb_50 rfl (lv_at hl 2 rfl) ?_
          refine lv_iload hx hb d_x_climb_51 (lv_at hl 0 rfl) ?_
          refine hs_rs (As := [.int (up (ndA (ar f na sl) (nb * nw)) (nb + b) hs t), .int (f (na * sl + (nb * nw + q - 1)))]) (rest := []) S9 (c_x_mix l (up (ndA (ar f na sl) (nb * nw)) (nb + b) hs t) (f (na * sl + (nb * nw + q - 1)))) k_x_x_mix h_x_mix rfl rfl ⟨Nat.le_of_ble_eq_true rfl, Nat.le_of_ble_eq_true rfl⟩ rfl hl.1 rfl (Nat.le_of_ble_eq_true rfl) d_x_climb_53 ⟨Nat.zero_le _, Nat.zero_le _⟩ ?_
          refine hs_to (y := up (ndA (ar f na sl) (nb * nw)) (nb + b) hs (t + 1)) (by show _ = stp _ ((nb + b) / 2 ^ t) _; rw [← hk, stp, if_pos hc, hq, if_pos hc]; rfl) ?_
          refine lv_goto (tgt := 65) hx hb d_x_climb_56 (by decide) ?_
          refine lv_istore_n (lv' := [(3, .int (up (ndA (ar f na sl) (nb * nw)) (nb + b) hs (t + 1))), (5, .int (f (na * sl + (nb * nw + q - 1)))), (4, .int (nI k)), (0, .ref h), (1, .int (nI b)), (2, .int hs)]) hx hb d_x_climb_65 rfl hl (by decide) rfl (fun ls hl => ?_)
          refine lv_iload hx hb d_x_climb_66 (lv_at hl 2 rfl) ?_
          refine lv_iconst (v := nI 1) hx hb d_x_climb_68 (by decide) ?_
          refine lv_ishr hx hb d_x_climb_69 ?_
          refine hs_to (y := nI (k / 2)) (x1_shr k (by omega)) ?_
          refine lv_istore (lv' := [(4, .int (nI (k / 2))), (3, .int (up (ndA (ar f na sl) (nb * nw)) (nb + b) hs (t + 1))), (5, .int (f (na * sl + (nb * nw + q - 1)))), (0, .ref h), (1, .int (nI b)), (2, .int hs)]) hx hb d_x_climb_70 hl (by decide) rfl (fun ls hl => ?_)
          refine lv_aload_n hx hb d_x_climb_72 rfl (lv_at hl 3 rfl) ?_
          refine gx hx hb hts hown hK hP rfl 4 35 (by decide) lk_x_way (v := .ref w) rfl d_x_climb_73 ?_
          refine lv_iload hx hb d_x_climb_76 (lv_at hl 0 rfl) ?_
          refine lv_iload_n hx hb d_x_climb_78 rfl (lv_at hl 1 rfl) ?_
          refine hs_iast hx hb hK hP hD hS 2 0 rfl rfl (i := k / 2) (x := up (ndA (ar f na sl) (nb * nw)) (nb + b) hs (t + 1)) (by omega) (by omega) d_x_climb_79 (fun H locs hP hD hS => ?_)
          have hP : va_P D classes (xw cA h d w nb nw na f (upd g9 (k / 2) (up (ndA (ar f na sl) (nb * nw)) (nb + b) hs (t + 1))) sl rt lf wr dn) H := hP
          have hD : va_D Z (xw cA h d w nb nw na f (upd g9 (k / 2) (up (ndA (ar f na sl) (nb * nw)) (nb + b) hs (t + 1))) sl rt lf wr dn) := hD
          refine lv_goto (tgt := 18) hx hb d_x_climb_80 (by decide) ?_
          have hk2 : k / 2 = (nb + b) / 2 ^ (t + 1) := by rw [pow_half, ← hk]
          refine ih (t + 1) (k / 2) (upd g9 (k / 2) (up (ndA (ar f na sl) (nb * nw)) (nb + b) hs (t + 1))) ht1 hk2 (by omega) (by omega) (fun j hj => ?_) (by omega) _ _ hP hD hS ls (lv_sub hl [0, 1, 3, 4, 5] rfl)
          rcases Nat.lt_or_ge t j with q1 | q1
          · have ej : j = t + 1 := by omega
            subst ej
            rw [← hk2]; exact pk_us
          · have h5 : (nb + b) / 2 ^ t ≤ (nb + b) / 2 ^ j := Nat.div_le_div_left (Nat.pow_le_pow_right (by decide) q1) (Nat.two_pow_pos j)
            rw [pk_un (by omega)]; exact hg j q1
  exact loop (dp + 1) 0 (nb + b) (upd g (nb + b) hs) (Nat.zero_le _) (by simp) (by omega) (by omega) (fun j hj => by rw [Nat.le_zero.mp hj, Nat.pow_zero, Nat.div_one]; exact pk_us) (by omega) _ _ hP hD hS ls (lv_sub hl [0, 1, 2, 3, 4] rfl)
end
section
set_option maxHeartbeats 4000000 in
set_option maxRecDepth 100000 in
/-- isRight -/
theorem c_x_isRight (l : Launch) (D : va_G) (cA : ClassId) (h d w nb nw na : Nat) (f g : Nat → Int32) (sl : Nat) (rt lf wr : Int32) (dn : Bool) (sz : Nat) (dp b : Nat) (hG : hsG dp nb nw na) (hsl : sl ≤ 1) (hb9 : b < nb) : Met l y_x_isRight w_x_isRight rq3 (PcW D [(cA, .int)] (xw cA h d w nb nw na f g sl rt lf wr dn) sz [.ref h, .int (nI b)]) (QcW D (va_A (xw cA h d w nb nw na f g sl rt lf wr dn) sz) (fun _ : Nat → Int32 => True) (fun _ => some (.int (bI (okA (ar f na sl) dp nb nw b rt)))) (fun u => xw cA h d w nb nw na f u sl rt lf wr dn)) 0 0 (va_A (xw cA h d w nb nw na f g sl rt lf wr dn) sz) := by
  refine Met.ofW (cc := b_x_isRight) (maxL := 3) (ret := (some .boolean)) (by decide) rfl ?_
  intro p e s m args below meth c s₁ B9 hml hv
  obtain ⟨rfl, hsz, hP, hK, hD0⟩ := hv
  have hx := B9.exec
  have hb := B9.bytes
  have hr := B9.returns
  have hts0 := atoms_spec (ws := w_x_isRight) B9.pre
  have hts : ∀ w ∈ gw, w.before _ s = true := fun w hw => hts0 w (List.mem_cons_of_mem _ hw)
  have hown : s.vm.findClass R_x = some m.cls := findClass_of_methodNamed B9.named
  have hlocks := B9.notSynchronized
  have S9 : CallFix p m c b_x_isRight 3 s _ gw R_x := ⟨hx, hb, hml, hown, hts⟩
  subst hsz
  have hD := hD0.self (sz := s.heap.size)
  generalize hAe : va_A (xw cA h d w nb nw na f g sl rt lf wr dn) s.heap.size = Z at hD ⊢
  have hA : ∀ q : Nat, s.heap.size ≤ q → Z q := fun q h => by rw [← hAe]; exact Or.inr h
  have hS : va_S Z s.heap s.heap [] := va_S.rf
  have hl := lv_entry ([.ref h, .int (nI b)]) (n := 3) (Nat.le_of_ble_eq_true rfl)
  rw [lg_entry_eq]
  generalize (lg_sl ([.ref h, .int (nI b)]) ++ List.replicate (3 - (lg_sl ([.ref h, .int (nI b)])).length) Slot.unset).toArray = ls at hl ⊢
  have hl : lv_has ls 3 [(0, .ref h), (1, .int (nI b))] := hl
  have h9 := hG.fits
  refine lv_iconst (v := nI 0) hx hb d_x_isRight_0 (by decide) ?_
  refine lv_istore_n (lv' := [(2, .int (nI 0)), (0, .ref h), (1, .int (nI b))]) hx hb d_x_isRight_1 rfl hl (by decide) rfl (fun ls hl => ?_)
  have loop : ∀ (n : Nat) (i : Nat), i ≤ nw → nng (wdA (ar f na sl) nw b) i = true → (nw - i) < n → ∀ (ls : Array Slot), lv_has ls 3 [(2, .int (nI i)), (0, .ref h), (1, .int (nI b))] → W p l e (headSpec w_x_isRight rq3).room s m ([.ref h, .int (nI b)] : List Value).toArray below meth c s.heap [] 0 0 (MQ below (QcW D Z (fun _ : Nat → Int32 => True) (fun _ => some (.int (bI (okA (ar f na sl) dp nb nw b rt)))) (fun u => xw cA h d w nb nw na f u sl rt lf wr dn)) ([.ref h, .int (nI b)] : List Value).toArray s 0 0 Z) (F0 m 2 ls []) := by
    intro n
    induction n with
    | zero =>
      intro i hi hn hmu
      exact absurd hmu (Nat.not_lt_zero _)
    | succ n ih =>
      intro i hi hn hmu ls hl
      refine lv_iload_n hx hb d_x_isRight_2 rfl (lv_at hl 0 rfl) ?_
      refine lv_aload_n hx hb d_x_isRight_3 rfl (lv_at hl 1 rfl) ?_
      refine gx hx hb hts hown hK hP rfl 1 25 (by decide) lk_x_words (v := .int (nI nw)) rfl d_x_isRight_4 ?_
      refine hs_ge (tgt := 36) hx hb d_x_isRight_7 (by decide) (by omega) (by omega) (fun h1 => ?_) (fun h1 => ?_)
      · skip
        have e9 : i = nw := Nat.le_antisymm hi h1
        rw [e9] at hn
        refine lv_aload_n hx hb d_x_isRight_36 rfl (lv_at hl 1 rfl) ?_
        refine lv_iload_n hx hb d_x_isRight_37 rfl (lv_at hl 2 rfl) ?_
        refine lv_aload_n hx hb d_x_isRight_38 rfl (lv_at hl 1 rfl) ?_
        refine lv_iload_n hx hb d_x_isRight_39 rfl (lv_at hl 2 rfl) ?_
        refine lv_iconst (v := -1) hx hb d_x_isRight_40 (by decide) ?_
        refine lv_iconst (v := nI 0) hx hb d_x_isRight_41 (by decide) ?_
        refine hs_rv (As := [.int (nI b), .int (-1), .int (nI 0)]) (rest := [.int (nI b), .ref h]) S9 (c_x_leaf l D cA h d w nb nw na f g sl rt lf wr dn dp b (-1) (nI 0) hG hsl hb9) k_x_x_leaf h_x_leaf rfl rfl ⟨Nat.le_of_ble_eq_true rfl, Nat.le_of_ble_eq_true rfl⟩ hK hP rfl rfl rfl hl.1 rfl (Nat.le_of_ble_eq_true rfl) d_x_isRight_42 ⟨Nat.zero_le _, Nat.zero_le _⟩ ?_
        refine hs_to (y := fo (wdA (ar f na sl) nw b) (nI b) nw) (fo_congr _ (fun j hj => if_neg (nI_m1 (by omega)))) ?_
        refine hs_wv (As := [.int (nI b), .int (fo (wdA (ar f na sl) nw b) (nI b) nw)]) (rest := []) (wr := []) [0, 1, 2] [] S9 (c_x_climb l D cA h d w nb nw na f g sl rt lf wr dn s.heap.size dp b (fo (wdA (ar f na sl) nw b) (nI b) nw) hG hsl hb9) k_x_x_climb h_x_climb rfl rfl ⟨Nat.le_of_ble_eq_true rfl, Nat.le_of_ble_eq_true rfl⟩ hK hP hD hS hA rfl rfl rfl rfl (by decide) rfl rfl rfl rfl hl.1 rfl (Nat.le_of_ble_eq_true rfl) d_x_isRight_45 ⟨Nat.zero_le _, Nat.zero_le _⟩ (fun u H locs hp hP hD hS => ?_)
        have hP : va_P D classes (xw cA h d w nb nw na f u sl rt lf wr dn) H := hP
        have hD : va_D Z (xw cA h d w nb nw na f u sl rt lf wr dn) := hD
        refine W.eq (g2 := F0 m 48 ls [.int (rtA (ar f na sl) dp nb nw b)]) rfl ?_
        refine lv_aload_n hx hb d_x_isRight_48 rfl (lv_at hl 1 rfl) ?_
        refine gx hx hb hts hown hK hP rfl 6 61 (by decide) lk_x_rootHash (v := .int rt) rfl d_x_isRight_49 ?_
        refine lv_icmp_ne (tgt := 59) hx hb d_x_isRight_52 (by decide) (fun h2 => ?_) (fun h2 => ?_)
        · skip
          refine lv_iconst (v := nI 0) hx hb d_x_isRight_59 (by decide) ?_
          refine hs_to (y := bI (okA (ar f na sl) dp nb nw b rt)) (by rw [okA, decide_eq_false h2, Bool.and_false]; rfl) ?_
          exact W.zret (v := bI (okA (ar f na sl) dp nb nw b rt)) hx hb hr (bI_n _) (fun t ht hW => ⟨⟨u, trivial, rfl, by rw [ht]; exact hP, hD⟩, hS.F ht⟩) hS.2.2 d_x_isRight_60
        · skip
          refine lv_iconst (v := nI 1) hx hb d_x_isRight_55 (by decide) ?_
          refine lv_goto (tgt := 60) hx hb d_x_isRight_56 (by decide) ?_
          refine hs_to (y := bI (okA (ar f na sl) dp nb nw b rt)) (by rw [okA, decide_eq_true h2, hn]; rfl) ?_
          exact W.zret (v := bI (okA (ar f na sl) dp nb nw b rt)) hx hb hr (bI_n _) (fun t ht hW => ⟨⟨u, trivial, rfl, by rw [ht]; exact hP, hD⟩, hS.F ht⟩) hS.2.2 d_x_isRight_60
      · skip
        refine lv_aload_n hx hb d_x_isRight_10 rfl (lv_at hl 1 rfl) ?_
        refine gx hx hb hts hown hK hP rfl 3 31 (by decide) lk_x_disk (v := .ref d) rfl d_x_isRight_11 ?_
        refine lv_aload_n hx hb d_x_isRight_14 rfl (lv_at hl 1 rfl) ?_
        refine lv_aload_n hx hb d_x_isRight_15 rfl (lv_at hl 1 rfl) ?_
        refine gx hx hb hts hown hK hP rfl 5 58 (by decide) lk_x_slot (v := .int (nI sl)) rfl d_x_isRight_16 ?_
        refine lv_iload_n hx hb d_x_isRight_19 rfl (lv_at hl 2 rfl) ?_
        refine lv_iload_n hx hb d_x_isRight_20 rfl (lv_at hl 0 rfl) ?_
        refine hs_rv (As := [.int (nI sl), .int (nI b), .int (nI i)]) (rest := [.ref d]) S9 (c_x_wordAt l D cA h d w nb nw na f g sl rt lf wr dn sl b i) k_x_x_wordAt h_x_wordAt rfl rfl ⟨Nat.le_of_ble_eq_true rfl, Nat.le_of_ble_eq_true rfl⟩ hK hP rfl rfl rfl hl.1 rfl (Nat.le_of_ble_eq_true rfl) d_x_isRight_21 ⟨Nat.zero_le _, Nat.zero_le _⟩ ?_
        refine hs_iald hx hb hK hP 1 0 rfl rfl (i := na * sl + (nw * b + i)) (at_word hG hsl hb9 h1).2 (by omega) d_x_isRight_24 ?_
        refine lv_if_ge (tgt := 30) hx hb d_x_isRight_25 (by decide) (fun h2 => ?_) (fun h2 => ?_)
        · skip
          refine lv_iinc (v := nI (i + 1)) (lv' := [(2, .int (nI (i + 1))), (0, .ref h), (1, .int (nI b))]) hx hb d_x_isRight_30 hl (k := 0) rfl (nI_add _ _) (by decide) rfl (fun ls hl => ?_)
          refine lv_goto (tgt := 2) hx hb d_x_isRight_33 (by decide) ?_
          exact ih (i + 1) h1 (nng_step hn (Int32.not_lt.mpr h2)) (by omega) ls (lv_sub hl [0, 1, 2] rfl)
        · skip
          refine lv_iconst (v := nI 0) hx hb d_x_isRight_28 (by decide) ?_
          refine hs_to (y := bI (okA (ar f na sl) dp nb nw b rt)) (by rw [okA, nng_false (i := i) (Int32.not_le.mp h2) nw h1]; rfl) ?_
          exact W.zret (v := bI (okA (ar f na sl) dp nb nw b rt)) hx hb hr (bI_n _) (fun t ht hW => ⟨⟨g, trivial, rfl, by rw [ht]; exact hP, hD⟩, hS.F ht⟩) hS.2.2 d_x_isRight_29
  exact loop (nw + 1) 0 (Nat.zero_le _) rfl (by omega) ls (lv_sub hl [0, 1, 2] rfl)
set_option maxHeartbeats 4000000 in
set_option maxRecDepth 100000 in
/-- put -/
theorem c_x_put (l : Launch) (D : va_G) (cA : ClassId) (h d w nb nw na : Nat) (f g : Nat → Int32) (sl : Nat) (rt lf wr : Int32) (dn : Bool) (sz : Nat) (a : Nat) (v : Int32) (hna : 2 * na < 2 ^ 31) (ha9 : a < 2 * na) : Met l y_x_put w_x_put rq0 (PcW D [(cA, .int)] (xw cA h d w nb nw na f g sl rt lf wr dn) sz [.ref h, .int (nI a), .int v]) (QcW D (va_A (xw cA h d w nb nw na f g sl rt lf wr dn) sz) (fun u : PS => u = pt a v f lf wr dn) (fun u => some (.int (bI u.1))) (fun u => xw cA h d w nb nw na u.2.1 g sl rt u.2.2.1 u.2.2.2.1 u.2.2.2.2)) 0 0 (va_A (xw cA h d w nb nw na f g sl rt lf wr dn) sz) := by
  refine Met.ofW (cc := b_x_put) (maxL := 3) (ret := (some .boolean)) (by decide) rfl ?_
  intro p e s m args below meth c s₁ B9 hml hv
  obtain ⟨rfl, hsz, hP, hK, hD0⟩ := hv
  have hx := B9.exec
  have hb := B9.bytes
  have hr := B9.returns
  have hts0 := atoms_spec (ws := w_x_put) B9.pre
  have hts : ∀ w ∈ gw, w.before _ s = true := fun w hw => hts0 w (List.mem_cons_of_mem _ hw)
  have hown : s.vm.findClass R_x = some m.cls := findClass_of_methodNamed B9.named
  have hlocks := B9.notSynchronized
  have S9 : CallFix p m c b_x_put 3 s _ gw R_x := ⟨hx, hb, hml, hown, hts⟩
  subst hsz
  have hD := hD0.self (sz := s.heap.size)
  generalize hAe : va_A (xw cA h d w nb nw na f g sl rt lf wr dn) s.heap.size = Z at hD ⊢
  have hA : ∀ q : Nat, s.heap.size ≤ q → Z q := fun q h => by rw [← hAe]; exact Or.inr h
  have hS : va_S Z s.heap s.heap [] := va_S.rf
  have hl := lv_entry ([.ref h, .int (nI a), .int v]) (n := 3) (Nat.le_of_ble_eq_true rfl)
  rw [lg_entry_eq]
  generalize (lg_sl ([.ref h, .int (nI a), .int v]) ++ List.replicate (3 - (lg_sl ([.ref h, .int (nI a), .int v])).length) Slot.unset).toArray = ls at hl ⊢
  have hl : lv_has ls 3 [(0, .ref h), (1, .int (nI a)), (2, .int v)] := hl
  refine lv_aload_n hx hb d_x_put_0 rfl (lv_at hl 0 rfl) ?_
  refine gx hx hb hts hown hK hP rfl 3 31 (by decide) lk_x_disk (v := .ref d) rfl d_x_put_1 ?_
  refine lv_iload_n hx hb d_x_put_4 rfl (lv_at hl 1 rfl) ?_
  refine hs_iald hx hb hK hP 1 0 rfl rfl (i := a) (by omega) (by omega) d_x_put_5 ?_
  refine lv_iload_n hx hb d_x_put_6 rfl (lv_at hl 2 rfl) ?_
  refine lv_icmp_ne (tgt := 12) hx hb d_x_put_7 (by decide) (fun h1 => ?_) (fun h1 => ?_)
  · skip
    refine lv_aload_n hx hb d_x_put_12 rfl (lv_at hl 0 rfl) ?_
    refine gx hx hb hts hown hK hP rfl 7 9 (by decide) lk_x_writesLeft (v := .int lf) rfl d_x_put_13 ?_
    refine lv_if_ne (tgt := 26) hx hb d_x_put_16 (by decide) (fun h2 => ?_) (fun h2 => ?_)
    · skip
      refine lv_aload_n hx hb d_x_put_26 rfl (lv_at hl 0 rfl) ?_
      refine lv_dup hx hb d_x_put_27 rfl ?_
      refine gx hx hb hts hown hK hP rfl 7 9 (by decide) lk_x_writesLeft (v := .int lf) rfl d_x_put_28 ?_
      refine lv_aload_n hx hb d_x_put_31 rfl (lv_at hl 0 rfl) ?_
      refine gx hx hb hts hown hK hP rfl 7 9 (by decide) lk_x_writesLeft (v := .int lf) rfl d_x_put_32 ?_
      refine lv_if_le (tgt := 42) hx hb d_x_put_35 (by decide) (fun h3 => ?_) (fun h3 => ?_)
      · skip
        refine lv_iconst (v := nI 0) hx hb d_x_put_42 (by decide) ?_
        refine lv_isub hx hb d_x_put_43 ?_
        refine hs_to (y := dcl lf) (by rw [dcl, if_neg (Int32.not_lt.mpr h3), nI_0, Int32.sub_zero]) ?_
        refine px hx hb hts hown hK hP hD hS rfl 7 9 (by decide) lk_x_writesLeft rfl (ty := .int) (v := .int (dcl lf)) rfl rfl rfl (Nat.le_of_ble_eq_true rfl) d_x_put_44 (fun H locs hP hD hS => ?_)
        have hP : va_P D classes (xw cA h d w nb nw na f g sl rt (dcl lf) wr dn) H := hP
        have hD : va_D Z (xw cA h d w nb nw na f g sl rt (dcl lf) wr dn) := hD
        refine lv_aload_n hx hb d_x_put_47 rfl (lv_at hl 0 rfl) ?_
        refine gx hx hb hts hown hK hP rfl 3 31 (by decide) lk_x_disk (v := .ref d) rfl d_x_put_48 ?_
        refine lv_iload_n hx hb d_x_put_51 rfl (lv_at hl 1 rfl) ?_
        refine lv_iload_n hx hb d_x_put_52 rfl (lv_at hl 2 rfl) ?_
        refine hs_iast hx hb hK hP hD hS 1 0 rfl rfl (i := a) (x := v) (by omega) (by omega) d_x_put_53 (fun H locs hP hD hS => ?_)
        have hP : va_P D classes (xw cA h d w nb nw na (upd f a v) g sl rt (dcl lf) wr dn) H := hP
        have hD : va_D Z (xw cA h d w nb nw na (upd f a v) g sl rt (dcl lf) wr dn) := hD
        refine lv_aload_n hx hb d_x_put_54 rfl (lv_at hl 0 rfl) ?_
        refine lv_dup hx hb d_x_put_55 rfl ?_
        refine gx hx hb hts hown hK hP rfl 8 64 (by decide) lk_x_written (v := .int wr) rfl d_x_put_56 ?_
        refine lv_iconst (v := nI 1) hx hb d_x_put_59 (by decide) ?_
        refine lv_iadd hx hb d_x_put_60 ?_
        refine hs_to (y := wr + 1) rfl ?_
        refine px hx hb hts hown hK hP hD hS rfl 8 64 (by decide) lk_x_written rfl (ty := .int) (v := .int (wr + 1)) rfl rfl rfl (Nat.le_of_ble_eq_true rfl) d_x_put_61 (fun H locs hP hD hS => ?_)
        have hP : va_P D classes (xw cA h d w nb nw na (upd f a v) g sl rt (dcl lf) (wr + 1) dn) H := hP
        have hD : va_D Z (xw cA h d w nb nw na (upd f a v) g sl rt (dcl lf) (wr + 1) dn) := hD
        refine lv_iconst (v := nI 1) hx hb d_x_put_64 (by decide) ?_
        refine hs_to (y := bI true) bI_t ?_
        exact W.zret (v := bI true) hx hb hr (bI_n _) (fun t ht hW => ⟨⟨(true, upd f a v, dcl lf, wr + 1, dn), (by rw [pt, if_neg h1, if_neg h2]), rfl, by rw [ht]; exact hP, hD⟩, hS.F ht⟩) hS.2.2 d_x_put_65
      · skip
        refine lv_iconst (v := nI 1) hx hb d_x_put_38 (by decide) ?_
        refine lv_goto (tgt := 43) hx hb d_x_put_39 (by decide) ?_
        refine lv_isub hx hb d_x_put_43 ?_
        refine hs_to (y := dcl lf) (by rw [dcl, if_pos (Int32.not_le.mp h3)]; rfl) ?_
        refine px hx hb hts hown hK hP hD hS rfl 7 9 (by decide) lk_x_writesLeft rfl (ty := .int) (v := .int (dcl lf)) rfl rfl rfl (Nat.le_of_ble_eq_true rfl) d_x_put_44 (fun H locs hP hD hS => ?_)
        have hP : va_P D classes (xw cA h d w nb nw na f g sl rt (dcl lf) wr dn) H := hP
        have hD : va_D Z (xw cA h d w nb nw na f g sl rt (dcl lf) wr dn) := hD
        refine lv_aload_n hx hb d_x_put_47 rfl (lv_at hl 0 rfl) ?_
        refine gx hx hb hts hown hK hP rfl 3 31 (by decide) lk_x_disk (v := .ref d) rfl d_x_put_48 ?_
        refine lv_iload_n hx hb d_x_put_51 rfl (lv_at hl 1 rfl) ?_
        refine lv_iload_n hx hb d_x_put_52 rfl (lv_at hl 2 rfl) ?_
        refine hs_iast hx hb hK hP hD hS 1 0 rfl rfl (i := a) (x := v) (by omega) (by omega) d_x_put_53 (fun H locs hP hD hS => ?_)
        have hP : va_P D classes (xw cA h d w nb nw na (upd f a v) g sl rt (dcl lf) wr dn) H := hP
        have hD : va_D Z (xw cA h d w nb nw na (upd f a v) g sl rt (dcl lf) wr dn) := hD
        refine lv_aload_n hx hb d_x_put_54 rfl (lv_at hl 0 rfl) ?_
        refine lv_dup hx hb d_x_put_55 rfl ?_
        refine gx hx hb hts hown hK hP rfl 8 64 (by decide) lk_x_written (v := .int wr) rfl d_x_put_56 ?_
        refine lv_iconst (v := nI 1) hx hb d_x_put_59 (by decide) ?_
        refine lv_iadd hx hb d_x_put_60 ?_
        refine hs_to (y := wr + 1) rfl ?_
        refine px hx hb hts hown hK hP hD hS rfl 8 64 (by decide) lk_x_written rfl (ty := .int) (v := .int (wr + 1)) rfl rfl rfl (Nat.le_of_ble_eq_true rfl) d_x_put_61 (fun H locs hP hD hS => ?_)
        have hP : va_P D classes (xw cA h d w nb nw na (upd f a v) g sl rt (dcl lf) (wr + 1) dn) H := hP
        have hD : va_D Z (xw cA h d w nb nw na (upd f a v) g sl rt (dcl lf) (wr + 1) dn) := hD
        refine lv_iconst (v := nI 1) hx hb d_x_put_64 (by decide) ?_
        refine hs_to (y := bI true) bI_t ?_
        exact W.zret (v := bI true) hx hb hr (bI_n _) (fun t ht hW => ⟨⟨(true, upd f a v, dcl lf, wr + 1, dn), (by rw [pt, if_neg h1, if_neg h2]), rfl, by rw [ht]; exact hP, hD⟩, hS.F ht⟩) hS.2.2 d_x_put_65
    · skip
      refine lv_aload_n hx hb d_x_put_19 rfl (lv_at hl 0 rfl) ?_
      refine lv_iconst (v := nI 1) hx hb d_x_put_20 (by decide) ?_
      refine hs_to (y := bI true) bI_t ?_
      refine px hx hb hts hown hK hP hD hS rfl 9 67 (by decide) lk_x_isDown rfl (ty := .boolean) (v := .int (bI true)) rfl (bI_n _) (bI_f _) (Nat.le_of_ble_eq_true rfl) d_x_put_21 (fun H locs hP hD hS => ?_)
      have hP : va_P D classes (xw cA h d w nb nw na f g sl rt lf wr true) H := hP
      have hD : va_D Z (xw cA h d w nb nw na f g sl rt lf wr true) := hD
      refine lv_iconst (v := nI 0) hx hb d_x_put_24 (by decide) ?_
      refine hs_to (y := bI false) bI_ff ?_
      exact W.zret (v := bI false) hx hb hr (bI_n _) (fun t ht hW => ⟨⟨(false, f, lf, wr, true), (by rw [pt, if_neg h1, if_pos h2]), rfl, by rw [ht]; exact hP, hD⟩, hS.F ht⟩) hS.2.2 d_x_put_25
  · skip
    refine lv_iconst (v := nI 1) hx hb d_x_put_10 (by decide) ?_
    refine hs_to (y := bI true) bI_t ?_
    exact W.zret (v := bI true) hx hb hr (bI_n _) (fun t ht hW => ⟨⟨(true, f, lf, wr, dn), (by rw [pt, if_pos h1]), rfl, by rw [ht]; exact hP, hD⟩, hS.F ht⟩) hS.2.2 d_x_put_11
set_option maxHeartbeats 4000000 in
set_option maxRecDepth 100000 in
/-- read -/
theorem c_x_read (l : Launch) (D : va_G) (cA : ClassId) (h d w nb nw na : Nat) (f g : Nat → Int32) (sl : Nat) (rt lf wr : Int32) (dn : Bool) (sz : Nat) (dp : Nat) (b i : Int32) (hG : hsG dp nb nw na) (hsl : sl ≤ 1) : Met l y_x_read w_x_read rq4 (PcW D [(cA, .int)] (xw cA h d w nb nw na f g sl rt lf wr dn) sz [.ref h, .int b, .int i]) (QcW D (va_A (xw cA h d w nb nw na f g sl rt lf wr dn) sz) (fun _ : Nat → Int32 => True) (fun _ => some (.int (rdV (ar f na sl) dp nb nw rt dn b i))) (fun u => xw cA h d w nb nw na f u sl rt lf wr dn)) 0 0 (va_A (xw cA h d w nb nw na f g sl rt lf wr dn) sz) := by
  refine Met.ofW (cc := b_x_read) (maxL := 3) (ret := (some .int)) (by decide) rfl ?_
  intro p e s m args below meth c s₁ B9 hml hv
  obtain ⟨rfl, hsz, hP, hK, hD0⟩ := hv
  have hx := B9.exec
  have hb := B9.bytes
  have hr := B9.returns
  have hts0 := atoms_spec (ws := w_x_read) B9.pre
  have hts : ∀ w ∈ gw, w.before _ s = true := fun w hw => hts0 w (List.mem_cons_of_mem _ hw)
  have hown : s.vm.findClass R_x = some m.cls := findClass_of_methodNamed B9.named
  have hlocks := B9.notSynchronized
  have S9 : CallFix p m c b_x_read 3 s _ gw R_x := ⟨hx, hb, hml, hown, hts⟩
  subst hsz
  have hD := hD0.self (sz := s.heap.size)
  generalize hAe : va_A (xw cA h d w nb nw na f g sl rt lf wr dn) s.heap.size = Z at hD ⊢
  have hA : ∀ q : Nat, s.heap.size ≤ q → Z q := fun q h => by rw [← hAe]; exact Or.inr h
  have hS : va_S Z s.heap s.heap [] := va_S.rf
  have hl := lv_entry ([.ref h, .int b, .int i]) (n := 3) (Nat.le_of_ble_eq_true rfl)
  rw [lg_entry_eq]
  generalize (lg_sl ([.ref h, .int b, .int i]) ++ List.replicate (3 - (lg_sl ([.ref h, .int b, .int i])).length) Slot.unset).toArray = ls at hl ⊢
  have hl : lv_has ls 3 [(0, .ref h), (1, .int b), (2, .int i)] := hl
  have h9 := hG.fits
  refine lv_aload_n hx hb d_x_read_0 rfl (lv_at hl 0 rfl) ?_
  refine lv_iload_n hx hb d_x_read_1 rfl (lv_at hl 1 rfl) ?_
  refine lv_iload_n hx hb d_x_read_2 rfl (lv_at hl 2 rfl) ?_
  refine hs_rv (As := [.int b, .int i]) (rest := []) S9 (c_x_isWord l D cA h d w nb nw na f g sl rt lf wr dn b i) k_x_x_isWord h_x_isWord rfl rfl ⟨Nat.le_of_ble_eq_true rfl, Nat.le_of_ble_eq_true rfl⟩ hK hP rfl rfl rfl hl.1 rfl (Nat.le_of_ble_eq_true rfl) d_x_read_3 ⟨Nat.zero_le _, Nat.zero_le _⟩ ?_
  refine hs_ifneB (tgt := 12) hx hb d_x_read_6 (by decide) (fun h1 => ?_) (fun h1 => ?_)
  · skip
    have hv9 : vld nb nw b i := of_decide_eq_true h1
    obtain ⟨b9, i9, hb9, hi9, rfl, rfl⟩ := vld_of (by omega) (by omega) hv9
    refine lv_aload_n hx hb d_x_read_12 rfl (lv_at hl 0 rfl) ?_
    refine gx hx hb hts hown hK hP rfl 9 67 (by decide) lk_x_isDown (v := .int (bI dn)) rfl d_x_read_13 ?_
    refine hs_ifeqB (tgt := 24) hx hb d_x_read_16 (by decide) (fun h2 => ?_) (fun h2 => ?_)
    · skip
      refine lv_aload_n hx hb d_x_read_24 rfl (lv_at hl 0 rfl) ?_
      refine lv_iload_n hx hb d_x_read_25 rfl (lv_at hl 1 rfl) ?_
      refine hs_wv (As := [.int (nI b9)]) (rest := []) (wr := []) [0, 1, 2] [] S9 (c_x_isRight l D cA h d w nb nw na f g sl rt lf wr dn s.heap.size dp b9 hG hsl hb9) k_x_x_isRight h_x_isRight rfl rfl ⟨Nat.le_of_ble_eq_true rfl, Nat.le_of_ble_eq_true rfl⟩ hK hP hD hS hA rfl rfl rfl rfl (by decide) rfl rfl rfl rfl hl.1 rfl (Nat.le_of_ble_eq_true rfl) d_x_read_26 ⟨Nat.zero_le _, Nat.zero_le _⟩ (fun u H locs hp hP hD hS => ?_)
      have hP : va_P D classes (xw cA h d w nb nw na f u sl rt lf wr dn) H := hP
      have hD : va_D Z (xw cA h d w nb nw na f u sl rt lf wr dn) := hD
      refine W.eq (g2 := F0 m 29 ls [.int (bI (okA (ar f na sl) dp nb nw b9 rt))]) rfl ?_
      refine hs_ifeqB (tgt := 50) hx hb d_x_read_29 (by decide) (fun h3 => ?_) (fun h3 => ?_)
      · skip
        refine lv_bipush (v := -3) hx hb d_x_read_50 (by decide) ?_
        refine hs_to (y := rdV (ar f na sl) dp nb nw rt dn (nI b9) (nI i9)) (by rw [rdV_no (by omega) (by omega) hb9 hi9 h2 h3]) ?_
        exact W.iret (v := rdV (ar f na sl) dp nb nw rt dn (nI b9) (nI i9)) hx hb hr (fun t ht hW => ⟨⟨u, trivial, rfl, by rw [ht]; exact hP, hD⟩, hS.F ht⟩) hS.2.2 d_x_read_52
      · skip
        refine lv_aload_n hx hb d_x_read_32 rfl (lv_at hl 0 rfl) ?_
        refine gx hx hb hts hown hK hP rfl 3 31 (by decide) lk_x_disk (v := .ref d) rfl d_x_read_33 ?_
        refine lv_aload_n hx hb d_x_read_36 rfl (lv_at hl 0 rfl) ?_
        refine lv_aload_n hx hb d_x_read_37 rfl (lv_at hl 0 rfl) ?_
        refine gx hx hb hts hown hK hP rfl 5 58 (by decide) lk_x_slot (v := .int (nI sl)) rfl d_x_read_38 ?_
        refine lv_iload_n hx hb d_x_read_41 rfl (lv_at hl 1 rfl) ?_
        refine lv_iload_n hx hb d_x_read_42 rfl (lv_at hl 2 rfl) ?_
        refine hs_rv (As := [.int (nI sl), .int (nI b9), .int (nI i9)]) (rest := [.ref d]) S9 (c_x_wordAt l D cA h d w nb nw na f u sl rt lf wr dn sl b9 i9) k_x_x_wordAt h_x_wordAt rfl rfl ⟨Nat.le_of_ble_eq_true rfl, Nat.le_of_ble_eq_true rfl⟩ hK hP rfl rfl rfl hl.1 rfl (Nat.le_of_ble_eq_true rfl) d_x_read_43 ⟨Nat.zero_le _, Nat.zero_le _⟩ ?_
        refine hs_iald hx hb hK hP 1 0 rfl rfl (i := na * sl + (nw * b9 + i9)) (at_word hG hsl hb9 hi9).2 (by omega) d_x_read_46 ?_
        refine lv_goto (tgt := 52) hx hb d_x_read_47 (by decide) ?_
        refine hs_to (y := rdV (ar f na sl) dp nb nw rt dn (nI b9) (nI i9)) (by rw [rdV_ok (by omega) (by omega) hb9 hi9 h2 h3]; rfl) ?_
        exact W.iret (v := rdV (ar f na sl) dp nb nw rt dn (nI b9) (nI i9)) hx hb hr (fun t ht hW => ⟨⟨u, trivial, rfl, by rw [ht]; exact hP, hD⟩, hS.F ht⟩) hS.2.2 d_x_read_52
    · skip
      refine lv_bipush (v := -4) hx hb d_x_read_19 (by decide) ?_
      refine lv_goto (tgt := 52) hx hb d_x_read_21 (by decide) ?_
      refine hs_to (y := rdV (ar f na sl) dp nb nw rt dn (nI b9) (nI i9)) (by rw [rdV_dn hv9 h2]) ?_
      exact W.iret (v := rdV (ar f na sl) dp nb nw rt dn (nI b9) (nI i9)) hx hb hr (fun t ht hW => ⟨⟨g, trivial, rfl, by rw [ht]; exact hP, hD⟩, hS.F ht⟩) hS.2.2 d_x_read_52
  · skip
    refine lv_bipush (v := -2) hx hb d_x_read_9 (by decide) ?_
    refine hs_to (y := rdV (ar f na sl) dp nb nw rt dn b i) (by rw [rdV_bad (of_decide_eq_false h1)]) ?_
    exact W.iret (v := rdV (ar f na sl) dp nb nw rt dn b i) hx hb hr (fun t ht hW => ⟨⟨g, trivial, rfl, by rw [ht]; exact hP, hD⟩, hS.F ht⟩) hS.2.2 d_x_read_11
set_option maxHeartbeats 4000000 in
set_option maxRecDepth 100000 in
/-- verify -/
theorem c_x_verify (l : Launch) (D : va_G) (cA : ClassId) (h d w nb nw na : Nat) (f g : Nat → Int32) (sl : Nat) (rt lf wr : Int32) (dn : Bool) (sz : Nat) (dp : Nat) (b : Int32) (hG : hsG dp nb nw na) (hsl : sl ≤ 1) : Met l y_x_verify w_x_verify rq4 (PcW D [(cA, .int)] (xw cA h d w nb nw na f g sl rt lf wr dn) sz [.ref h, .int b]) (QcW D (va_A (xw cA h d w nb nw na f g sl rt lf wr dn) sz) (fun _ : Nat → Int32 => True) (fun _ => some (.int (bI (vfV (ar f na sl) dp nb nw rt dn b)))) (fun u => xw cA h d w nb nw na f u sl rt lf wr dn)) 0 0 (va_A (xw cA h d w nb nw na f g sl rt lf wr dn) sz) := by
  refine Met.ofW (cc := b_x_verify) (maxL := 2) (ret := (some .boolean)) (by decide) rfl ?_
  intro p e s m args below meth c s₁ B9 hml hv
  obtain ⟨rfl, hsz, hP, hK, hD0⟩ := hv
  have hx := B9.exec
  have hb := B9.bytes
  have hr := B9.returns
  have hts0 := atoms_spec (ws := w_x_verify) B9.pre
  have hts : ∀ w ∈ gw, w.before _ s = true := fun w hw => hts0 w (List.mem_cons_of_mem _ hw)
  have hown : s.vm.findClass R_x = some m.cls := findClass_of_methodNamed B9.named
  have hlocks := B9.notSynchronized
  have S9 : CallFix p m c b_x_verify 2 s _ gw R_x := ⟨hx, hb, hml, hown, hts⟩
  subst hsz
  have hD := hD0.self (sz := s.heap.size)
  generalize hAe : va_A (xw cA h d w nb nw na f g sl rt lf wr dn) s.heap.size = Z at hD ⊢
  have hA : ∀ q : Nat, s.heap.size ≤ q → Z q := fun q h => by rw [← hAe]; exact Or.inr h
  have hS : va_S Z s.heap s.heap [] := va_S.rf
  have hl := lv_entry ([.ref h, .int b]) (n := 2) (Nat.le_of_ble_eq_true rfl)
  rw [lg_entry_eq]
  generalize (lg_sl ([.ref h, .int b]) ++ List.replicate (2 - (lg_sl ([.ref h, .int b])).length) Slot.unset).toArray = ls at hl ⊢
  have hl : lv_has ls 2 [(0, .ref h), (1, .int b)] := hl
  have h9 := hG.fits
  refine lv_iload_n hx hb d_x_verify_0 rfl (lv_at hl 1 rfl) ?_
  refine lv_if_lt (tgt := 31) hx hb d_x_verify_1 (by decide) (fun h1 => ?_) (fun h1 => ?_)
  · skip
    refine lv_iconst (v := nI 0) hx hb d_x_verify_31 (by decide) ?_
    refine hs_to (y := bI (vfV (ar f na sl) dp nb nw rt dn b)) (by rw [vfV, decide_eq_false (fun q => Int32.not_le.mpr h1 q.1)]; rfl) ?_
    exact W.zret (v := bI (vfV (ar f na sl) dp nb nw rt dn b)) hx hb hr (bI_n _) (fun t ht hW => ⟨⟨g, trivial, rfl, by rw [ht]; exact hP, hD⟩, hS.F ht⟩) hS.2.2 d_x_verify_32
  · skip
    refine lv_iload_n hx hb d_x_verify_4 rfl (lv_at hl 1 rfl) ?_
    refine lv_aload_n hx hb d_x_verify_5 rfl (lv_at hl 0 rfl) ?_
    refine gx hx hb hts hown hK hP rfl 0 22 (by decide) lk_x_blocks (v := .int (nI nb)) rfl d_x_verify_6 ?_
    refine lv_icmp_ge (tgt := 31) hx hb d_x_verify_9 (by decide) (fun h2 => ?_) (fun h2 => ?_)
    · skip
      refine lv_iconst (v := nI 0) hx hb d_x_verify_31 (by decide) ?_
      refine hs_to (y := bI (vfV (ar f na sl) dp nb nw rt dn b)) (by rw [vfV, decide_eq_false (fun q => Int32.not_lt.mpr h2 q.2)]; rfl) ?_
      exact W.zret (v := bI (vfV (ar f na sl) dp nb nw rt dn b)) hx hb hr (bI_n _) (fun t ht hW => ⟨⟨g, trivial, rfl, by rw [ht]; exact hP, hD⟩, hS.F ht⟩) hS.2.2 d_x_verify_32
    · skip
      refine lv_aload_n hx hb d_x_verify_12 rfl (lv_at hl 0 rfl) ?_
      refine gx hx hb hts hown hK hP rfl 9 67 (by decide) lk_x_isDown (v := .int (bI dn)) rfl d_x_verify_13 ?_
      refine hs_ifneB (tgt := 31) hx hb d_x_verify_16 (by decide) (fun h3 => ?_) (fun h3 => ?_)
      · skip
        refine lv_iconst (v := nI 0) hx hb d_x_verify_31 (by decide) ?_
        refine hs_to (y := bI (vfV (ar f na sl) dp nb nw rt dn b)) (by rw [vfV, h3]; simp; rfl) ?_
        exact W.zret (v := bI (vfV (ar f na sl) dp nb nw rt dn b)) hx hb hr (bI_n _) (fun t ht hW => ⟨⟨g, trivial, rfl, by rw [ht]; exact hP, hD⟩, hS.F ht⟩) hS.2.2 d_x_verify_32
      · skip
        obtain ⟨b9, hb9, rfl⟩ := ix_of (by omega) (Int32.not_lt.mp h1) (Int32.not_le.mp h2)
        refine lv_aload_n hx hb d_x_verify_19 rfl (lv_at hl 0 rfl) ?_
        refine lv_iload_n hx hb d_x_verify_20 rfl (lv_at hl 1 rfl) ?_
        refine hs_wv (As := [.int (nI b9)]) (rest := []) (wr := []) [0, 1, 2] [] S9 (c_x_isRight l D cA h d w nb nw na f g sl rt lf wr dn s.heap.size dp b9 hG hsl hb9) k_x_x_isRight h_x_isRight rfl rfl ⟨Nat.le_of_ble_eq_true rfl, Nat.le_of_ble_eq_true rfl⟩ hK hP hD hS hA rfl rfl rfl rfl (by decide) rfl rfl rfl rfl hl.1 rfl (Nat.le_of_ble_eq_true rfl) d_x_verify_21 ⟨Nat.zero_le _, Nat.zero_le _⟩ (fun u H locs hp hP hD hS => ?_)
        have hP : va_P D classes (xw cA h d w nb nw na f u sl rt lf wr dn) H := hP
        have hD : va_D Z (xw cA h d w nb nw na f u sl rt lf wr dn) := hD
        refine W.eq (g2 := F0 m 24 ls [.int (bI (okA (ar f na sl) dp nb nw b9 rt))]) rfl ?_
        refine hs_ifeqB (tgt := 31) hx hb d_x_verify_24 (by decide) (fun h4 => ?_) (fun h4 => ?_)
        · skip
          refine lv_iconst (v := nI 0) hx hb d_x_verify_31 (by decide) ?_
          refine hs_to (y := bI (vfV (ar f na sl) dp nb nw rt dn (nI b9))) (by rw [vfV, nI_clamp (by omega), h4]; simp; rfl) ?_
          exact W.zret (v := bI (vfV (ar f na sl) dp nb nw rt dn (nI b9))) hx hb hr (bI_n _) (fun t ht hW => ⟨⟨u, trivial, rfl, by rw [ht]; exact hP, hD⟩, hS.F ht⟩) hS.2.2 d_x_verify_32
        · skip
          refine lv_iconst (v := nI 1) hx hb d_x_verify_27 (by decide) ?_
          refine lv_goto (tgt := 32) hx hb d_x_verify_28 (by decide) ?_
          refine hs_to (y := bI (vfV (ar f na sl) dp nb nw rt dn (nI b9))) (by rw [vfV, nI_clamp (by omega), h4, h3, decide_eq_true ⟨Int32.not_lt.mp h1, Int32.not_le.mp h2⟩]; rfl) ?_
          exact W.zret (v := bI (vfV (ar f na sl) dp nb nw rt dn (nI b9))) hx hb hr (bI_n _) (fun t ht hW => ⟨⟨u, trivial, rfl, by rw [ht]; exact hP, hD⟩, hS.F ht⟩) hS.2.2 d_x_verify_32
set_option maxHeartbeats 4000000 in
set_option maxRecDepth 100000 in
/-- audit -/
theorem c_x_audit (l : Launch) (D : va_G) (cA : ClassId) (h d w nb nw na : Nat) (f g : Nat → Int32) (sl : Nat) (rt lf wr : Int32) (dn : Bool) (sz : Nat) (dp : Nat) (hG : hsG dp nb nw na) (hsl : sl ≤ 1) : Met l y_x_audit w_x_audit rq4 (PcW D [(cA, .int)] (xw cA h d w nb nw na f g sl rt lf wr dn) sz [.ref h]) (QcW D (va_A (xw cA h d w nb nw na f g sl rt lf wr dn) sz) (fun _ : Nat → Int32 => True) (fun _ => some (.int (auV (ar f na sl) dp nb nw rt dn))) (fun u => xw cA h d w nb nw na f u sl rt lf wr dn)) 0 0 (va_A (xw cA h d w nb nw na f g sl rt lf wr dn) sz) := by
  refine Met.ofW (cc := b_x_audit) (maxL := 2) (ret := (some .int)) (by decide) rfl ?_
  intro p e s m args below meth c s₁ B9 hml hv
  obtain ⟨rfl, hsz, hP, hK, hD0⟩ := hv
  have hx := B9.exec
  have hb := B9.bytes
  have hr := B9.returns
  have hts0 := atoms_spec (ws := w_x_audit) B9.pre
  have hts : ∀ w ∈ gw, w.before _ s = true := fun w hw => hts0 w (List.mem_cons_of_mem _ hw)
  have hown : s.vm.findClass R_x = some m.cls := findClass_of_methodNamed B9.named
  have hlocks := B9.notSynchronized
  have S9 : CallFix p m c b_x_audit 2 s _ gw R_x := ⟨hx, hb, hml, hown, hts⟩
  subst hsz
  have hD := hD0.self (sz := s.heap.size)
  generalize hAe : va_A (xw cA h d w nb nw na f g sl rt lf wr dn) s.heap.size = Z at hD ⊢
  have hA : ∀ q : Nat, s.heap.size ≤ q → Z q := fun q h => by rw [← hAe]; exact Or.inr h
  have hS : va_S Z s.heap s.heap [] := va_S.rf
  have hl := lv_entry ([.ref h]) (n := 2) (Nat.le_of_ble_eq_true rfl)
  rw [lg_entry_eq]
  generalize (lg_sl ([.ref h]) ++ List.replicate (2 - (lg_sl ([.ref h])).length) Slot.unset).toArray = ls at hl ⊢
  have hl : lv_has ls 2 [(0, .ref h)] := hl
  have h9 := hG.fits
  refine lv_aload_n hx hb d_x_audit_0 rfl (lv_at hl 0 rfl) ?_
  refine gx hx hb hts hown hK hP rfl 9 67 (by decide) lk_x_isDown (v := .int (bI dn)) rfl d_x_audit_1 ?_
  refine hs_ifeqB (tgt := 10) hx hb d_x_audit_4 (by decide) (fun h2 => ?_) (fun h2 => ?_)
  · skip
    refine lv_iconst (v := nI 0) hx hb d_x_audit_10 (by decide) ?_
    refine lv_istore_n (lv' := [(1, .int (nI 0)), (0, .ref h)]) hx hb d_x_audit_11 rfl hl (by decide) rfl (fun ls hl => ?_)
    have loop : ∀ (n : Nat) (b j : Nat) (g9 : Nat → Int32), b + j = nb → auF (fun b => okA (ar f na sl) dp nb nw b rt) j b = auV (ar f na sl) dp nb nw rt dn → j < n → ∀ (H : Heap) (locs : List Loc), va_P D classes (xw cA h d w nb nw na f g9 sl rt lf wr dn) H → va_D Z (xw cA h d w nb nw na f g9 sl rt lf wr dn) → va_S Z s.heap H locs → ∀ (ls : Array Slot), lv_has ls 2 [(1, .int (nI b)), (0, .ref h)] → W p l e (headSpec w_x_audit rq4).room s m ([.ref h] : List Value).toArray below meth c H locs 0 0 (MQ below (QcW D Z (fun _ : Nat → Int32 => True) (fun _ => some (.int (auV (ar f na sl) dp nb nw rt dn))) (fun u => xw cA h d w nb nw na f u sl rt lf wr dn)) ([.ref h] : List Value).toArray s 0 0 Z) (F0 m 12 ls []) := by
      intro n
      induction n with
      | zero =>
        intro b j g9 hbj hau hmu
        exact absurd hmu (Nat.not_lt_zero _)
      | succ n ih =>
        intro b j g9 hbj hau hmu H locs hP hD hS ls hl
        refine lv_iload_n hx hb d_x_audit_12 rfl (lv_at hl 0 rfl) ?_
        refine lv_aload_n hx hb d_x_audit_13 rfl (lv_at hl 1 rfl) ?_
        refine gx hx hb hts hown hK hP rfl 0 22 (by decide) lk_x_blocks (v := .int (nI nb)) rfl d_x_audit_14 ?_
        refine hs_ge (tgt := 34) hx hb d_x_audit_17 (by decide) (by omega) (by omega) (fun h1 => ?_) (fun h1 => ?_)
        · skip
          have e9 : j = 0 := by omega
          subst e9
          refine lv_iload_n hx hb d_x_audit_34 rfl (lv_at hl 0 rfl) ?_
          refine lv_aload_n hx hb d_x_audit_35 rfl (lv_at hl 1 rfl) ?_
          refine gx hx hb hts hown hK hP rfl 0 22 (by decide) lk_x_blocks (v := .int (nI nb)) rfl d_x_audit_36 ?_
          refine hs_ge (tgt := 46) hx hb d_x_audit_39 (by decide) (by omega) (by omega) (fun h4 => ?_) (fun h4 => ?_)
          · skip
            refine lv_iconst (v := -1) hx hb d_x_audit_46 (by decide) ?_
            refine hs_to (y := auV (ar f na sl) dp nb nw rt dn) (hau) ?_
            exact W.iret (v := auV (ar f na sl) dp nb nw rt dn) hx hb hr (fun t ht hW => ⟨⟨g9, trivial, rfl, by rw [ht]; exact hP, hD⟩, hS.F ht⟩) hS.2.2 d_x_audit_47
          · skip
            refine lv_iload_n hx hb d_x_audit_42 rfl (lv_at hl 0 rfl) ?_
            refine lv_goto (tgt := 47) hx hb d_x_audit_43 (by decide) ?_
            refine hs_to (y := auV (ar f na sl) dp nb nw rt dn) (absurd h1 (by omega)) ?_
            exact W.iret (v := auV (ar f na sl) dp nb nw rt dn) hx hb hr (fun t ht hW => ⟨⟨g9, trivial, rfl, by rw [ht]; exact hP, hD⟩, hS.F ht⟩) hS.2.2 d_x_audit_47
        · skip
          obtain ⟨j, rfl⟩ : ∃ z, j = z + 1 := ⟨j - 1, by omega⟩
          refine lv_aload_n hx hb d_x_audit_20 rfl (lv_at hl 1 rfl) ?_
          refine lv_iload_n hx hb d_x_audit_21 rfl (lv_at hl 0 rfl) ?_
          refine hs_wv (As := [.int (nI b)]) (rest := []) (wr := []) [0, 1, 2] [] S9 (c_x_isRight l D cA h d w nb nw na f g9 sl rt lf wr dn H.size dp b hG hsl h1) k_x_x_isRight h_x_isRight rfl rfl ⟨Nat.le_of_ble_eq_true rfl, Nat.le_of_ble_eq_true rfl⟩ hK hP hD hS hA rfl rfl rfl rfl (by decide) rfl rfl rfl rfl hl.1 rfl (Nat.le_of_ble_eq_true rfl) d_x_audit_22 ⟨Nat.zero_le _, Nat.zero_le _⟩ (fun u H locs hp hP hD hS => ?_)
          have hP : va_P D classes (xw cA h d w nb nw na f u sl rt lf wr dn) H := hP
          have hD : va_D Z (xw cA h d w nb nw na f u sl rt lf wr dn) := hD
          refine W.eq (g2 := F0 m 25 ls [.int (bI (okA (ar f na sl) dp nb nw b rt))]) rfl ?_
          refine hs_ifeqB (tgt := 34) hx hb d_x_audit_25 (by decide) (fun h3 => ?_) (fun h3 => ?_)
          · skip
            refine lv_iload_n hx hb d_x_audit_34 rfl (lv_at hl 0 rfl) ?_
            refine lv_aload_n hx hb d_x_audit_35 rfl (lv_at hl 1 rfl) ?_
            refine gx hx hb hts hown hK hP rfl 0 22 (by decide) lk_x_blocks (v := .int (nI nb)) rfl d_x_audit_36 ?_
            refine hs_ge (tgt := 46) hx hb d_x_audit_39 (by decide) (by omega) (by omega) (fun h4 => ?_) (fun h4 => ?_)
            · skip
              refine lv_iconst (v := -1) hx hb d_x_audit_46 (by decide) ?_
              refine hs_to (y := auV (ar f na sl) dp nb nw rt dn) (absurd h1 (by omega)) ?_
              exact W.iret (v := auV (ar f na sl) dp nb nw rt dn) hx hb hr (fun t ht hW => ⟨⟨u, trivial, rfl, by rw [ht]; exact hP, hD⟩, hS.F ht⟩) hS.2.2 d_x_audit_47
            · skip
              refine lv_iload_n hx hb d_x_audit_42 rfl (lv_at hl 0 rfl) ?_
              refine lv_goto (tgt := 47) hx hb d_x_audit_43 (by decide) ?_
              refine hs_to (y := auV (ar f na sl) dp nb nw rt dn) (by rw [← hau, auF, if_neg (by rw [h3]; decide)]) ?_
              exact W.iret (v := auV (ar f na sl) dp nb nw rt dn) hx hb hr (fun t ht hW => ⟨⟨u, trivial, rfl, by rw [ht]; exact hP, hD⟩, hS.F ht⟩) hS.2.2 d_x_audit_47
          · skip
            refine lv_iinc (v := nI (b + 1)) (lv' := [(1, .int (nI (b + 1))), (0, .ref h)]) hx hb d_x_audit_28 hl (k := 0) rfl (nI_add _ _) (by decide) rfl (fun ls hl => ?_)
            refine lv_goto (tgt := 12) hx hb d_x_audit_31 (by decide) ?_
            exact ih (b + 1) j u (by omega) (by rw [auF, if_pos h3] at hau; exact hau) (by omega) _ _ hP hD hS ls (lv_sub hl [0, 1] rfl)
    exact loop (nb + 1) 0 nb g (by omega) (by rw [auV, h2]; rfl) (Nat.lt_succ_self _) _ _ hP hD hS ls (lv_sub hl [0, 1] rfl)
  · skip
    refine lv_bipush (v := -4) hx hb d_x_audit_7 (by decide) ?_
    refine hs_to (y := auV (ar f na sl) dp nb nw rt dn) (by rw [auV, if_pos h2]) ?_
    exact W.iret (v := auV (ar f na sl) dp nb nw rt dn) hx hb hr (fun t ht hW => ⟨⟨g, trivial, rfl, by rw [ht]; exact hP, hD⟩, hS.F ht⟩) hS.2.2 d_x_audit_9
end
section
set_option maxHeartbeats 4000000 in
set_option maxRecDepth 100000 in
/-- root -/
theorem c_x_root (l : Launch) (D : va_G) (cA : ClassId) (h d w nb nw na : Nat) (f g : Nat → Int32) (sl : Nat) (rt lf wr : Int32) (dn : Bool)  : Met l y_x_root w_x_root rq0 (PcR D [(cA, .int)] (xw cA h d w nb nw na f g sl rt lf wr dn) [.ref h]) (QcRead (rt)) 0 0 (fun _ => False) := by
  refine Met.ofW (cc := b_x_root) (maxL := 1) (ret := (some .int)) (by decide) rfl ?_
  intro p e s m args below meth c s₁ B9 hml hv
  obtain ⟨rfl, hP, hK⟩ := hv
  have hx := B9.exec
  have hb := B9.bytes
  have hr := B9.returns
  have hts0 := atoms_spec (ws := w_x_root) B9.pre
  have hts : ∀ w ∈ gw, w.before _ s = true := fun w hw => hts0 w (List.mem_cons_of_mem _ hw)
  have hown : s.vm.findClass R_x = some m.cls := findClass_of_methodNamed B9.named
  have hlocks := B9.notSynchronized
  have S9 : CallFix p m c b_x_root 1 s _ gw R_x := ⟨hx, hb, hml, hown, hts⟩
  have hl := lv_entry ([.ref h]) (n := 1) (Nat.le_of_ble_eq_true rfl)
  rw [lg_entry_eq]
  generalize (lg_sl ([.ref h]) ++ List.replicate (1 - (lg_sl ([.ref h])).length) Slot.unset).toArray = ls at hl ⊢
  have hl : lv_has ls 1 [(0, .ref h)] := hl
  refine lv_aload_n hx hb d_x_root_0 rfl (lv_at hl 0 rfl) ?_
  refine gx hx hb hts hown hK hP rfl 6 61 (by decide) lk_x_rootHash (v := .int rt) rfl d_x_root_1 ?_
  exact W.iret (v := rt) hx hb hr (fun t ht _ => ⟨rfl, ht⟩) (fun _ h => by cases h) d_x_root_4
set_option maxHeartbeats 4000000 in
set_option maxRecDepth 100000 in
/-- writes -/
theorem c_x_writes (l : Launch) (D : va_G) (cA : ClassId) (h d w nb nw na : Nat) (f g : Nat → Int32) (sl : Nat) (rt lf wr : Int32) (dn : Bool)  : Met l y_x_writes w_x_writes rq0 (PcR D [(cA, .int)] (xw cA h d w nb nw na f g sl rt lf wr dn) [.ref h]) (QcRead (wr)) 0 0 (fun _ => False) := by
  refine Met.ofW (cc := b_x_writes) (maxL := 1) (ret := (some .int)) (by decide) rfl ?_
  intro p e s m args below meth c s₁ B9 hml hv
  obtain ⟨rfl, hP, hK⟩ := hv
  have hx := B9.exec
  have hb := B9.bytes
  have hr := B9.returns
  have hts0 := atoms_spec (ws := w_x_writes) B9.pre
  have hts : ∀ w ∈ gw, w.before _ s = true := fun w hw => hts0 w (List.mem_cons_of_mem _ hw)
  have hown : s.vm.findClass R_x = some m.cls := findClass_of_methodNamed B9.named
  have hlocks := B9.notSynchronized
  have S9 : CallFix p m c b_x_writes 1 s _ gw R_x := ⟨hx, hb, hml, hown, hts⟩
  have hl := lv_entry ([.ref h]) (n := 1) (Nat.le_of_ble_eq_true rfl)
  rw [lg_entry_eq]
  generalize (lg_sl ([.ref h]) ++ List.replicate (1 - (lg_sl ([.ref h])).length) Slot.unset).toArray = ls at hl ⊢
  have hl : lv_has ls 1 [(0, .ref h)] := hl
  refine lv_aload_n hx hb d_x_writes_0 rfl (lv_at hl 0 rfl) ?_
  refine gx hx hb hts hown hK hP rfl 8 64 (by decide) lk_x_written (v := .int wr) rfl d_x_writes_1 ?_
  exact W.iret (v := wr) hx hb hr (fun t ht _ => ⟨rfl, ht⟩) (fun _ h => by cases h) d_x_writes_4
set_option maxHeartbeats 4000000 in
set_option maxRecDepth 100000 in
/-- slot -/
theorem c_x_slot (l : Launch) (D : va_G) (cA : ClassId) (h d w nb nw na : Nat) (f g : Nat → Int32) (sl : Nat) (rt lf wr : Int32) (dn : Bool)  : Met l y_x_slot w_x_slot rq0 (PcR D [(cA, .int)] (xw cA h d w nb nw na f g sl rt lf wr dn) [.ref h]) (QcRead (nI sl)) 0 0 (fun _ => False) := by
  refine Met.ofW (cc := b_x_slot) (maxL := 1) (ret := (some .int)) (by decide) rfl ?_
  intro p e s m args below meth c s₁ B9 hml hv
  obtain ⟨rfl, hP, hK⟩ := hv
  have hx := B9.exec
  have hb := B9.bytes
  have hr := B9.returns
  have hts0 := atoms_spec (ws := w_x_slot) B9.pre
  have hts : ∀ w ∈ gw, w.before _ s = true := fun w hw => hts0 w (List.mem_cons_of_mem _ hw)
  have hown : s.vm.findClass R_x = some m.cls := findClass_of_methodNamed B9.named
  have hlocks := B9.notSynchronized
  have S9 : CallFix p m c b_x_slot 1 s _ gw R_x := ⟨hx, hb, hml, hown, hts⟩
  have hl := lv_entry ([.ref h]) (n := 1) (Nat.le_of_ble_eq_true rfl)
  rw [lg_entry_eq]
  generalize (lg_sl ([.ref h]) ++ List.replicate (1 - (lg_sl ([.ref h])).length) Slot.unset).toArray = ls at hl ⊢
  have hl : lv_has ls 1 [(0, .ref h)] := hl
  refine lv_aload_n hx hb d_x_slot_0 rfl (lv_at hl 0 rfl) ?_
  refine gx hx hb hts hown hK hP rfl 5 58 (by decide) lk_x_slot (v := .int (nI sl)) rfl d_x_slot_1 ?_
  exact W.iret (v := nI sl) hx hb hr (fun t ht _ => ⟨rfl, ht⟩) (fun _ h => by cases h) d_x_slot_4
set_option maxHeartbeats 4000000 in
set_option maxRecDepth 100000 in
/-- down -/
theorem c_x_down (l : Launch) (D : va_G) (cA : ClassId) (h d w nb nw na : Nat) (f g : Nat → Int32) (sl : Nat) (rt lf wr : Int32) (dn : Bool)  : Met l y_x_down w_x_down rq0 (PcR D [(cA, .int)] (xw cA h d w nb nw na f g sl rt lf wr dn) [.ref h]) (QcRead (bI dn)) 0 0 (fun _ => False) := by
  refine Met.ofW (cc := b_x_down) (maxL := 1) (ret := (some .boolean)) (by decide) rfl ?_
  intro p e s m args below meth c s₁ B9 hml hv
  obtain ⟨rfl, hP, hK⟩ := hv
  have hx := B9.exec
  have hb := B9.bytes
  have hr := B9.returns
  have hts0 := atoms_spec (ws := w_x_down) B9.pre
  have hts : ∀ w ∈ gw, w.before _ s = true := fun w hw => hts0 w (List.mem_cons_of_mem _ hw)
  have hown : s.vm.findClass R_x = some m.cls := findClass_of_methodNamed B9.named
  have hlocks := B9.notSynchronized
  have S9 : CallFix p m c b_x_down 1 s _ gw R_x := ⟨hx, hb, hml, hown, hts⟩
  have hl := lv_entry ([.ref h]) (n := 1) (Nat.le_of_ble_eq_true rfl)
  rw [lg_entry_eq]
  generalize (lg_sl ([.ref h]) ++ List.replicate (1 - (lg_sl ([.ref h])).length) Slot.unset).toArray = ls at hl ⊢
  have hl : lv_has ls 1 [(0, .ref h)] := hl
  refine lv_aload_n hx hb d_x_down_0 rfl (lv_at hl 0 rfl) ?_
  refine gx hx hb hts hown hK hP rfl 9 67 (by decide) lk_x_isDown (v := .int (bI dn)) rfl d_x_down_1 ?_
  exact W.zret (v := bI dn) hx hb hr (bI_n _) (fun t ht _ => ⟨rfl, ht⟩) (fun _ h => by cases h) d_x_down_4
set_option maxHeartbeats 4000000 in
set_option maxRecDepth 100000 in
/-- cells -/
theorem c_x_cells (l : Launch) (D : va_G) (cA : ClassId) (h d w nb nw na : Nat) (f g : Nat → Int32) (sl : Nat) (rt lf wr : Int32) (dn : Bool)  : Met l y_x_cells w_x_cells rq0 (PcR D [(cA, .int)] (xw cA h d w nb nw na f g sl rt lf wr dn) [.ref h]) (QcRead (nI (2 * na))) 0 0 (fun _ => False) := by
  refine Met.ofW (cc := b_x_cells) (maxL := 1) (ret := (some .int)) (by decide) rfl ?_
  intro p e s m args below meth c s₁ B9 hml hv
  obtain ⟨rfl, hP, hK⟩ := hv
  have hx := B9.exec
  have hb := B9.bytes
  have hr := B9.returns
  have hts0 := atoms_spec (ws := w_x_cells) B9.pre
  have hts : ∀ w ∈ gw, w.before _ s = true := fun w hw => hts0 w (List.mem_cons_of_mem _ hw)
  have hown : s.vm.findClass R_x = some m.cls := findClass_of_methodNamed B9.named
  have hlocks := B9.notSynchronized
  have S9 : CallFix p m c b_x_cells 1 s _ gw R_x := ⟨hx, hb, hml, hown, hts⟩
  have hl := lv_entry ([.ref h]) (n := 1) (Nat.le_of_ble_eq_true rfl)
  rw [lg_entry_eq]
  generalize (lg_sl ([.ref h]) ++ List.replicate (1 - (lg_sl ([.ref h])).length) Slot.unset).toArray = ls at hl ⊢
  have hl : lv_has ls 1 [(0, .ref h)] := hl
  refine lv_aload_n hx hb d_x_cells_0 rfl (lv_at hl 0 rfl) ?_
  refine gx hx hb hts hown hK hP rfl 3 31 (by decide) lk_x_disk (v := .ref d) rfl d_x_cells_1 ?_
  refine va_alen hx hb hK hP 1 0 rfl rfl (v := nI (2 * na)) rfl d_x_cells_4 ?_
  exact W.iret (v := nI (2 * na)) hx hb hr (fun t ht _ => ⟨rfl, ht⟩) (fun _ h => by cases h) d_x_cells_5
set_option maxHeartbeats 4000000 in
set_option maxRecDepth 100000 in
/-- peek -/
theorem c_x_peek (l : Launch) (D : va_G) (cA : ClassId) (h d w nb nw na : Nat) (f g : Nat → Int32) (sl : Nat) (rt lf wr : Int32) (dn : Bool) (ad : Int32) (hna : 2 * na < 2 ^ 31) : Met l y_x_peek w_x_peek rq0 (PcR D [(cA, .int)] (xw cA h d w nb nw na f g sl rt lf wr dn) [.ref h, .int ad]) (QcRead (pkV f na ad)) 0 0 (fun _ => False) := by
  refine Met.ofW (cc := b_x_peek) (maxL := 2) (ret := (some .int)) (by decide) rfl ?_
  intro p e s m args below meth c s₁ B9 hml hv
  obtain ⟨rfl, hP, hK⟩ := hv
  have hx := B9.exec
  have hb := B9.bytes
  have hr := B9.returns
  have hts0 := atoms_spec (ws := w_x_peek) B9.pre
  have hts : ∀ w ∈ gw, w.before _ s = true := fun w hw => hts0 w (List.mem_cons_of_mem _ hw)
  have hown : s.vm.findClass R_x = some m.cls := findClass_of_methodNamed B9.named
  have hlocks := B9.notSynchronized
  have S9 : CallFix p m c b_x_peek 2 s _ gw R_x := ⟨hx, hb, hml, hown, hts⟩
  have hl := lv_entry ([.ref h, .int ad]) (n := 2) (Nat.le_of_ble_eq_true rfl)
  rw [lg_entry_eq]
  generalize (lg_sl ([.ref h, .int ad]) ++ List.replicate (2 - (lg_sl ([.ref h, .int ad])).length) Slot.unset).toArray = ls at hl ⊢
  have hl : lv_has ls 2 [(0, .ref h), (1, .int ad)] := hl
  refine lv_iload_n hx hb d_x_peek_0 rfl (lv_at hl 1 rfl) ?_
  refine lv_if_lt (tgt := 22) hx hb d_x_peek_1 (by decide) (fun h1 => ?_) (fun h1 => ?_)
  · skip
    refine lv_iconst (v := nI 0) hx hb d_x_peek_22 (by decide) ?_
    refine hs_to (y := pkV f na ad) (by rw [pkV, if_neg (fun q => Int32.not_le.mpr h1 q.1)]; rfl) ?_
    exact W.iret (v := pkV f na ad) hx hb hr (fun t ht _ => ⟨rfl, ht⟩) (fun _ h => by cases h) d_x_peek_23
  · skip
    refine lv_iload_n hx hb d_x_peek_4 rfl (lv_at hl 1 rfl) ?_
    refine lv_aload_n hx hb d_x_peek_5 rfl (lv_at hl 0 rfl) ?_
    refine gx hx hb hts hown hK hP rfl 3 31 (by decide) lk_x_disk (v := .ref d) rfl d_x_peek_6 ?_
    refine va_alen hx hb hK hP 1 0 rfl rfl (v := nI (2 * na)) rfl d_x_peek_9 ?_
    refine lv_icmp_ge (tgt := 22) hx hb d_x_peek_10 (by decide) (fun h2 => ?_) (fun h2 => ?_)
    · skip
      refine lv_iconst (v := nI 0) hx hb d_x_peek_22 (by decide) ?_
      refine hs_to (y := pkV f na ad) (by rw [pkV, if_neg (fun q => Int32.not_lt.mpr h2 q.2)]; rfl) ?_
      exact W.iret (v := pkV f na ad) hx hb hr (fun t ht _ => ⟨rfl, ht⟩) (fun _ h => by cases h) d_x_peek_23
    · skip
      obtain ⟨j9, hj9, rfl⟩ := ix_of (by omega) (Int32.not_lt.mp h1) (Int32.not_le.mp h2)
      refine lv_aload_n hx hb d_x_peek_13 rfl (lv_at hl 0 rfl) ?_
      refine gx hx hb hts hown hK hP rfl 3 31 (by decide) lk_x_disk (v := .ref d) rfl d_x_peek_14 ?_
      refine lv_iload_n hx hb d_x_peek_17 rfl (lv_at hl 1 rfl) ?_
      refine hs_iald hx hb hK hP 1 0 rfl rfl (i := j9) (by omega) (by omega) d_x_peek_18 ?_
      refine lv_goto (tgt := 23) hx hb d_x_peek_19 (by decide) ?_
      refine hs_to (y := pkV f na (nI j9)) (by rw [pkV, if_pos ⟨Int32.not_lt.mp h1, Int32.not_le.mp h2⟩, nI_clamp (by omega)]) ?_
      exact W.iret (v := pkV f na (nI j9)) hx hb hr (fun t ht _ => ⟨rfl, ht⟩) (fun _ h => by cases h) d_x_peek_23
set_option maxHeartbeats 4000000 in
set_option maxRecDepth 100000 in
/-- tamper -/
theorem c_x_tamper (l : Launch) (D : va_G) (cA : ClassId) (h d w nb nw na : Nat) (f g : Nat → Int32) (sl : Nat) (rt lf wr : Int32) (dn : Bool) (sz : Nat) (ad wo : Int32) (hna : 2 * na < 2 ^ 31) : Met l y_x_tamper w_x_tamper rq0 (PcW D [(cA, .int)] (xw cA h d w nb nw na f g sl rt lf wr dn) sz [.ref h, .int ad, .int wo]) (QcW D (va_A (xw cA h d w nb nw na f g sl rt lf wr dn) sz) (fun u : Nat → Int32 => u = tmV f na ad wo) (fun _ => none) (fun u => xw cA h d w nb nw na u g sl rt lf wr dn)) 0 0 (va_A (xw cA h d w nb nw na f g sl rt lf wr dn) sz) := by
  refine Met.ofW (cc := b_x_tamper) (maxL := 3) (ret := none) (by decide) rfl ?_
  intro p e s m args below meth c s₁ B9 hml hv
  obtain ⟨rfl, hsz, hP, hK, hD0⟩ := hv
  have hx := B9.exec
  have hb := B9.bytes
  have hr := B9.returns
  have hts0 := atoms_spec (ws := w_x_tamper) B9.pre
  have hts : ∀ w ∈ gw, w.before _ s = true := fun w hw => hts0 w (List.mem_cons_of_mem _ hw)
  have hown : s.vm.findClass R_x = some m.cls := findClass_of_methodNamed B9.named
  have hlocks := B9.notSynchronized
  have S9 : CallFix p m c b_x_tamper 3 s _ gw R_x := ⟨hx, hb, hml, hown, hts⟩
  subst hsz
  have hD := hD0.self (sz := s.heap.size)
  generalize hAe : va_A (xw cA h d w nb nw na f g sl rt lf wr dn) s.heap.size = Z at hD ⊢
  have hA : ∀ q : Nat, s.heap.size ≤ q → Z q := fun q h => by rw [← hAe]; exact Or.inr h
  have hS : va_S Z s.heap s.heap [] := va_S.rf
  have hl := lv_entry ([.ref h, .int ad, .int wo]) (n := 3) (Nat.le_of_ble_eq_true rfl)
  rw [lg_entry_eq]
  generalize (lg_sl ([.ref h, .int ad, .int wo]) ++ List.replicate (3 - (lg_sl ([.ref h, .int ad, .int wo])).length) Slot.unset).toArray = ls at hl ⊢
  have hl : lv_has ls 3 [(0, .ref h), (1, .int ad), (2, .int wo)] := hl
  refine lv_iload_n hx hb d_x_tamper_0 rfl (lv_at hl 1 rfl) ?_
  refine lv_if_lt (tgt := 20) hx hb d_x_tamper_1 (by decide) (fun h1 => ?_) (fun h1 => ?_)
  · skip
    exact W.vret hx hb hr (fun t ht hW => ⟨⟨f, (by rw [tmV, if_neg (fun q => Int32.not_le.mpr h1 q.1)]), rfl, by rw [ht]; exact hP, hD⟩, hS.F ht⟩) hS.2.2 d_x_tamper_20
  · skip
    refine lv_iload_n hx hb d_x_tamper_4 rfl (lv_at hl 1 rfl) ?_
    refine lv_aload_n hx hb d_x_tamper_5 rfl (lv_at hl 0 rfl) ?_
    refine gx hx hb hts hown hK hP rfl 3 31 (by decide) lk_x_disk (v := .ref d) rfl d_x_tamper_6 ?_
    refine va_alen hx hb hK hP 1 0 rfl rfl (v := nI (2 * na)) rfl d_x_tamper_9 ?_
    refine lv_icmp_ge (tgt := 20) hx hb d_x_tamper_10 (by decide) (fun h2 => ?_) (fun h2 => ?_)
    · skip
      exact W.vret hx hb hr (fun t ht hW => ⟨⟨f, (by rw [tmV, if_neg (fun q => Int32.not_lt.mpr h2 q.2)]), rfl, by rw [ht]; exact hP, hD⟩, hS.F ht⟩) hS.2.2 d_x_tamper_20
    · skip
      obtain ⟨j9, hj9, rfl⟩ := ix_of (by omega) (Int32.not_lt.mp h1) (Int32.not_le.mp h2)
      refine lv_aload_n hx hb d_x_tamper_13 rfl (lv_at hl 0 rfl) ?_
      refine gx hx hb hts hown hK hP rfl 3 31 (by decide) lk_x_disk (v := .ref d) rfl d_x_tamper_14 ?_
      refine lv_iload_n hx hb d_x_tamper_17 rfl (lv_at hl 1 rfl) ?_
      refine lv_iload_n hx hb d_x_tamper_18 rfl (lv_at hl 2 rfl) ?_
      refine hs_iast hx hb hK hP hD hS 1 0 rfl rfl (i := j9) (x := wo) (by omega) (by omega) d_x_tamper_19 (fun H locs hP hD hS => ?_)
      have hP : va_P D classes (xw cA h d w nb nw na (upd f j9 wo) g sl rt lf wr dn) H := hP
      have hD : va_D Z (xw cA h d w nb nw na (upd f j9 wo) g sl rt lf wr dn) := hD
      exact W.vret hx hb hr (fun t ht hW => ⟨⟨(upd f j9 wo), (by rw [tmV, if_pos ⟨Int32.not_lt.mp h1, Int32.not_le.mp h2⟩, nI_clamp (by omega)]), rfl, by rw [ht]; exact hP, hD⟩, hS.F ht⟩) hS.2.2 d_x_tamper_20
set_option maxHeartbeats 4000000 in
set_option maxRecDepth 100000 in
/-- crashAfter -/
theorem c_x_crashAfter (l : Launch) (D : va_G) (cA : ClassId) (h d w nb nw na : Nat) (f g : Nat → Int32) (sl : Nat) (rt lf wr : Int32) (dn : Bool) (sz : Nat) (n9 : Int32)  : Met l y_x_crashAfter w_x_crashAfter rq0 (PcW D [(cA, .int)] (xw cA h d w nb nw na f g sl rt lf wr dn) sz [.ref h, .int n9]) (QcW D (va_A (xw cA h d w nb nw na f g sl rt lf wr dn) sz) (fun u : Int32 => u = crV lf dn n9) (fun _ => none) (fun u => xw cA h d w nb nw na f g sl rt u wr dn)) 0 0 (va_A (xw cA h d w nb nw na f g sl rt lf wr dn) sz) := by
  refine Met.ofW (cc := b_x_crashAfter) (maxL := 2) (ret := none) (by decide) rfl ?_
  intro p e s m args below meth c s₁ B9 hml hv
  obtain ⟨rfl, hsz, hP, hK, hD0⟩ := hv
  have hx := B9.exec
  have hb := B9.bytes
  have hr := B9.returns
  have hts0 := atoms_spec (ws := w_x_crashAfter) B9.pre
  have hts : ∀ w ∈ gw, w.before _ s = true := fun w hw => hts0 w (List.mem_cons_of_mem _ hw)
  have hown : s.vm.findClass R_x = some m.cls := findClass_of_methodNamed B9.named
  have hlocks := B9.notSynchronized
  have S9 : CallFix p m c b_x_crashAfter 2 s _ gw R_x := ⟨hx, hb, hml, hown, hts⟩
  subst hsz
  have hD := hD0.self (sz := s.heap.size)
  generalize hAe : va_A (xw cA h d w nb nw na f g sl rt lf wr dn) s.heap.size = Z at hD ⊢
  have hA : ∀ q : Nat, s.heap.size ≤ q → Z q := fun q h => by rw [← hAe]; exact Or.inr h
  have hS : va_S Z s.heap s.heap [] := va_S.rf
  have hl := lv_entry ([.ref h, .int n9]) (n := 2) (Nat.le_of_ble_eq_true rfl)
  rw [lg_entry_eq]
  generalize (lg_sl ([.ref h, .int n9]) ++ List.replicate (2 - (lg_sl ([.ref h, .int n9])).length) Slot.unset).toArray = ls at hl ⊢
  have hl : lv_has ls 2 [(0, .ref h), (1, .int n9)] := hl
  refine lv_iload_n hx hb d_x_crashAfter_0 rfl (lv_at hl 1 rfl) ?_
  refine lv_if_lt (tgt := 16) hx hb d_x_crashAfter_1 (by decide) (fun h1 => ?_) (fun h1 => ?_)
  · skip
    exact W.vret hx hb hr (fun t ht hW => ⟨⟨lf, (by rw [crV, if_neg (fun q => Int32.not_le.mpr h1 q.1)]), rfl, by rw [ht]; exact hP, hD⟩, hS.F ht⟩) hS.2.2 d_x_crashAfter_16
  · skip
    refine lv_aload_n hx hb d_x_crashAfter_4 rfl (lv_at hl 0 rfl) ?_
    refine gx hx hb hts hown hK hP rfl 9 67 (by decide) lk_x_isDown (v := .int (bI dn)) rfl d_x_crashAfter_5 ?_
    refine hs_ifneB (tgt := 16) hx hb d_x_crashAfter_8 (by decide) (fun h2 => ?_) (fun h2 => ?_)
    · skip
      exact W.vret hx hb hr (fun t ht hW => ⟨⟨lf, (by rw [crV, if_neg (fun q => by rw [h2] at q; exact absurd q.2 (by decide))]), rfl, by rw [ht]; exact hP, hD⟩, hS.F ht⟩) hS.2.2 d_x_crashAfter_16
    · skip
      refine lv_aload_n hx hb d_x_crashAfter_11 rfl (lv_at hl 0 rfl) ?_
      refine lv_iload_n hx hb d_x_crashAfter_12 rfl (lv_at hl 1 rfl) ?_
      refine px hx hb hts hown hK hP hD hS rfl 7 9 (by decide) lk_x_writesLeft rfl (ty := .int) (v := .int n9) rfl rfl rfl (Nat.le_of_ble_eq_true rfl) d_x_crashAfter_13 (fun H locs hP hD hS => ?_)
      have hP : va_P D classes (xw cA h d w nb nw na f g sl rt n9 wr dn) H := hP
      have hD : va_D Z (xw cA h d w nb nw na f g sl rt n9 wr dn) := hD
      exact W.vret hx hb hr (fun t ht hW => ⟨⟨n9, (by rw [crV, if_pos ⟨Int32.not_lt.mp h1, h2⟩]), rfl, by rw [ht]; exact hP, hD⟩, hS.F ht⟩) hS.2.2 d_x_crashAfter_16
set_option maxHeartbeats 4000000 in
set_option maxRecDepth 100000 in
/-- recover -/
theorem c_x_recover (l : Launch) (D : va_G) (cA : ClassId) (h d w nb nw na : Nat) (f g : Nat → Int32) (sl : Nat) (rt lf wr : Int32) (dn : Bool) (sz : Nat) (dp : Nat) (tr : Int32) (hG : hsG dp nb nw na) : Met l y_x_recover w_x_recover rq1 (PcW D [(cA, .int)] (xw cA h d w nb nw na f g sl rt lf wr dn) sz [.ref h, .int tr]) (QcW D (va_A (xw cA h d w nb nw na f g sl rt lf wr dn) sz) (fun u : RS => u = rcV f na (nb * nw) sl rt lf dn tr) (fun u => some (.int u.1)) (fun u => xw cA h d w nb nw na f g u.2.1 u.2.2.1 u.2.2.2.1 wr u.2.2.2.2)) 0 0 (va_A (xw cA h d w nb nw na f g sl rt lf wr dn) sz) := by
  refine Met.ofW (cc := b_x_recover) (maxL := 3) (ret := (some .int)) (by decide) rfl ?_
  intro p e s m args below meth c s₁ B9 hml hv
  obtain ⟨rfl, hsz, hP, hK, hD0⟩ := hv
  have hx := B9.exec
  have hb := B9.bytes
  have hr := B9.returns
  have hts0 := atoms_spec (ws := w_x_recover) B9.pre
  have hts : ∀ w ∈ gw, w.before _ s = true := fun w hw => hts0 w (List.mem_cons_of_mem _ hw)
  have hown : s.vm.findClass R_x = some m.cls := findClass_of_methodNamed B9.named
  have hlocks := B9.notSynchronized
  have S9 : CallFix p m c b_x_recover 3 s _ gw R_x := ⟨hx, hb, hml, hown, hts⟩
  subst hsz
  have hD := hD0.self (sz := s.heap.size)
  generalize hAe : va_A (xw cA h d w nb nw na f g sl rt lf wr dn) s.heap.size = Z at hD ⊢
  have hA : ∀ q : Nat, s.heap.size ≤ q → Z q := fun q h => by rw [← hAe]; exact Or.inr h
  have hS : va_S Z s.heap s.heap [] := va_S.rf
  have hl := lv_entry ([.ref h, .int tr]) (n := 3) (Nat.le_of_ble_eq_true rfl)
  rw [lg_entry_eq]
  generalize (lg_sl ([.ref h, .int tr]) ++ List.replicate (3 - (lg_sl ([.ref h, .int tr])).length) Slot.unset).toArray = ls at hl ⊢
  have hl : lv_has ls 3 [(0, .ref h), (1, .int tr)] := hl
  have h9 := hG.fits
  refine lv_aload_n hx hb d_x_recover_0 rfl (lv_at hl 0 rfl) ?_
  refine gx hx hb hts hown hK hP rfl 9 67 (by decide) lk_x_isDown (v := .int (bI dn)) rfl d_x_recover_1 ?_
  refine hs_ifneB (tgt := 10) hx hb d_x_recover_4 (by decide) (fun h1 => ?_) (fun h1 => ?_)
  · skip
    refine lv_aload_n hx hb d_x_recover_10 rfl (lv_at hl 0 rfl) ?_
    refine gx hx hb hts hown hK hP rfl 3 31 (by decide) lk_x_disk (v := .ref d) rfl d_x_recover_11 ?_
    refine lv_aload_n hx hb d_x_recover_14 rfl (lv_at hl 0 rfl) ?_
    refine lv_iconst (v := nI 0) hx hb d_x_recover_15 (by decide) ?_
    refine lv_iconst (v := nI 1) hx hb d_x_recover_16 (by decide) ?_
    refine hs_rv (As := [.int (nI 0), .int (nI 1)]) (rest := [.ref d]) S9 (c_x_nodeAt l D cA h d w nb nw na f g sl rt lf wr dn 0 1 (Nat.le_refl 1)) k_x_x_nodeAt h_x_nodeAt rfl rfl ⟨Nat.le_of_ble_eq_true rfl, Nat.le_of_ble_eq_true rfl⟩ hK hP rfl rfl rfl hl.1 rfl (Nat.le_of_ble_eq_true rfl) d_x_recover_17 ⟨Nat.zero_le _, Nat.zero_le _⟩ ?_
    refine hs_iald hx hb hK hP 1 0 rfl rfl (i := na * 0 + (nb * nw + 1 - 1)) (at_node hG (Nat.zero_le 1) (Nat.le_refl 1) (by omega)).2 (by omega) d_x_recover_20 ?_
    refine lv_iload_n hx hb d_x_recover_21 rfl (lv_at hl 1 rfl) ?_
    refine lv_icmp_ne (tgt := 29) hx hb d_x_recover_22 (by decide) (fun h3 => ?_) (fun h3 => ?_)
    · skip
      refine lv_aload_n hx hb d_x_recover_29 rfl (lv_at hl 0 rfl) ?_
      refine gx hx hb hts hown hK hP rfl 3 31 (by decide) lk_x_disk (v := .ref d) rfl d_x_recover_30 ?_
      refine lv_aload_n hx hb d_x_recover_33 rfl (lv_at hl 0 rfl) ?_
      refine lv_iconst (v := nI 1) hx hb d_x_recover_34 (by decide) ?_
      refine lv_iconst (v := nI 1) hx hb d_x_recover_35 (by decide) ?_
      refine hs_rv (As := [.int (nI 1), .int (nI 1)]) (rest := [.ref d]) S9 (c_x_nodeAt l D cA h d w nb nw na f g sl rt lf wr dn 1 1 (Nat.le_refl 1)) k_x_x_nodeAt h_x_nodeAt rfl rfl ⟨Nat.le_of_ble_eq_true rfl, Nat.le_of_ble_eq_true rfl⟩ hK hP rfl rfl rfl hl.1 rfl (Nat.le_of_ble_eq_true rfl) d_x_recover_36 ⟨Nat.zero_le _, Nat.zero_le _⟩ ?_
      refine hs_iald hx hb hK hP 1 0 rfl rfl (i := na * 1 + (nb * nw + 1 - 1)) (at_node hG (Nat.le_refl 1) (Nat.le_refl 1) (by omega)).2 (by omega) d_x_recover_39 ?_
      refine lv_iload_n hx hb d_x_recover_40 rfl (lv_at hl 1 rfl) ?_
      refine lv_icmp_ne (tgt := 48) hx hb d_x_recover_41 (by decide) (fun h4 => ?_) (fun h4 => ?_)
      · skip
        refine lv_iconst (v := -1) hx hb d_x_recover_48 (by decide) ?_
        refine lv_istore_n (lv' := [(2, .int (-1)), (0, .ref h), (1, .int tr)]) hx hb d_x_recover_49 rfl hl (by decide) rfl (fun ls hl => ?_)
        refine lv_iload_n hx hb d_x_recover_50 rfl (lv_at hl 0 rfl) ?_
        refine lv_iconst (v := -1) hx hb d_x_recover_51 (by decide) ?_
        refine lv_icmp_ne (tgt := 58) hx hb d_x_recover_52 (by decide) (fun h5 => ?_) (fun h5 => ?_)
        · skip
          exact absurd rfl h5
        · skip
          refine lv_bipush (v := -5) hx hb d_x_recover_55 (by decide) ?_
          exact W.iret (v := (-5)) hx hb hr (fun t ht hW => ⟨⟨(-5, sl, rt, lf, dn), (by rw [rcV, if_neg (by rw [h1]; decide), if_neg h3, if_neg h4, h1]), rfl, by rw [ht]; exact hP, hD⟩, hS.F ht⟩) hS.2.2 d_x_recover_57
      · skip
        refine lv_iconst (v := nI 1) hx hb d_x_recover_44 (by decide) ?_
        refine lv_goto (tgt := 49) hx hb d_x_recover_45 (by decide) ?_
        refine lv_istore_n (lv' := [(2, .int (nI 1)), (0, .ref h), (1, .int tr)]) hx hb d_x_recover_49 rfl hl (by decide) rfl (fun ls hl => ?_)
        refine lv_iload_n hx hb d_x_recover_50 rfl (lv_at hl 0 rfl) ?_
        refine lv_iconst (v := -1) hx hb d_x_recover_51 (by decide) ?_
        refine lv_icmp_ne (tgt := 58) hx hb d_x_recover_52 (by decide) (fun h5 => ?_) (fun h5 => ?_)
        · skip
          refine lv_aload_n hx hb d_x_recover_58 rfl (lv_at hl 1 rfl) ?_
          refine lv_iload_n hx hb d_x_recover_59 rfl (lv_at hl 0 rfl) ?_
          refine px hx hb hts hown hK hP hD hS rfl 5 58 (by decide) lk_x_slot rfl (ty := .int) (v := .int (nI 1)) rfl rfl rfl (Nat.le_of_ble_eq_true rfl) d_x_recover_60 (fun H locs hP hD hS => ?_)
          have hP : va_P D classes (xw cA h d w nb nw na f g 1 rt lf wr dn) H := hP
          have hD : va_D Z (xw cA h d w nb nw na f g 1 rt lf wr dn) := hD
          refine lv_aload_n hx hb d_x_recover_63 rfl (lv_at hl 1 rfl) ?_
          refine lv_iload_n hx hb d_x_recover_64 rfl (lv_at hl 2 rfl) ?_
          refine px hx hb hts hown hK hP hD hS rfl 6 61 (by decide) lk_x_rootHash rfl (ty := .int) (v := .int tr) rfl rfl rfl (Nat.le_of_ble_eq_true rfl) d_x_recover_65 (fun H locs hP hD hS => ?_)
          have hP : va_P D classes (xw cA h d w nb nw na f g 1 tr lf wr dn) H := hP
          have hD : va_D Z (xw cA h d w nb nw na f g 1 tr lf wr dn) := hD
          refine lv_aload_n hx hb d_x_recover_68 rfl (lv_at hl 1 rfl) ?_
          refine lv_iconst (v := nI 0) hx hb d_x_recover_69 (by decide) ?_
          refine hs_to (y := bI false) bI_ff ?_
          refine px hx hb hts hown hK hP hD hS rfl 9 67 (by decide) lk_x_isDown rfl (ty := .boolean) (v := .int (bI false)) rfl (bI_n _) (bI_f _) (Nat.le_of_ble_eq_true rfl) d_x_recover_70 (fun H locs hP hD hS => ?_)
          have hP : va_P D classes (xw cA h d w nb nw na f g 1 tr lf wr false) H := hP
          have hD : va_D Z (xw cA h d w nb nw na f g 1 tr lf wr false) := hD
          refine lv_aload_n hx hb d_x_recover_73 rfl (lv_at hl 1 rfl) ?_
          refine lv_iconst (v := -1) hx hb d_x_recover_74 (by decide) ?_
          refine px hx hb hts hown hK hP hD hS rfl 7 9 (by decide) lk_x_writesLeft rfl (ty := .int) (v := .int (-1)) rfl rfl rfl (Nat.le_of_ble_eq_true rfl) d_x_recover_75 (fun H locs hP hD hS => ?_)
          have hP : va_P D classes (xw cA h d w nb nw na f g 1 tr (-1) wr false) H := hP
          have hD : va_D Z (xw cA h d w nb nw na f g 1 tr (-1) wr false) := hD
          refine lv_iconst (v := nI 0) hx hb d_x_recover_78 (by decide) ?_
          refine hs_to (y := 0) nI_0 ?_
          exact W.iret (v := 0) hx hb hr (fun t ht hW => ⟨⟨(0, 1, tr, -1, false), (by rw [rcV, if_neg (by rw [h1]; decide), if_neg h3, if_pos h4]), rfl, by rw [ht]; exact hP, hD⟩, hS.F ht⟩) hS.2.2 d_x_recover_79
        · skip
          exact absurd h5 (by decide)
    · skip
      refine lv_iconst (v := nI 0) hx hb d_x_recover_25 (by decide) ?_
      refine lv_goto (tgt := 49) hx hb d_x_recover_26 (by decide) ?_
      refine lv_istore_n (lv' := [(2, .int (nI 0)), (0, .ref h), (1, .int tr)]) hx hb d_x_recover_49 rfl hl (by decide) rfl (fun ls hl => ?_)
      refine lv_iload_n hx hb d_x_recover_50 rfl (lv_at hl 0 rfl) ?_
      refine lv_iconst (v := -1) hx hb d_x_recover_51 (by decide) ?_
      refine lv_icmp_ne (tgt := 58) hx hb d_x_recover_52 (by decide) (fun h5 => ?_) (fun h5 => ?_)
      · skip
        refine lv_aload_n hx hb d_x_recover_58 rfl (lv_at hl 1 rfl) ?_
        refine lv_iload_n hx hb d_x_recover_59 rfl (lv_at hl 0 rfl) ?_
        refine px hx hb hts hown hK hP hD hS rfl 5 58 (by decide) lk_x_slot rfl (ty := .int) (v := .int (nI 0)) rfl rfl rfl (Nat.le_of_ble_eq_true rfl) d_x_recover_60 (fun H locs hP hD hS => ?_)
        have hP : va_P D classes (xw cA h d w nb nw na f g 0 rt lf wr dn) H := hP
        have hD : va_D Z (xw cA h d w nb nw na f g 0 rt lf wr dn) := hD
        refine lv_aload_n hx hb d_x_recover_63 rfl (lv_at hl 1 rfl) ?_
        refine lv_iload_n hx hb d_x_recover_64 rfl (lv_at hl 2 rfl) ?_
        refine px hx hb hts hown hK hP hD hS rfl 6 61 (by decide) lk_x_rootHash rfl (ty := .int) (v := .int tr) rfl rfl rfl (Nat.le_of_ble_eq_true rfl) d_x_recover_65 (fun H locs hP hD hS => ?_)
        have hP : va_P D classes (xw cA h d w nb nw na f g 0 tr lf wr dn) H := hP
        have hD : va_D Z (xw cA h d w nb nw na f g 0 tr lf wr dn) := hD
        refine lv_aload_n hx hb d_x_recover_68 rfl (lv_at hl 1 rfl) ?_
        refine lv_iconst (v := nI 0) hx hb d_x_recover_69 (by decide) ?_
        refine hs_to (y := bI false) bI_ff ?_
        refine px hx hb hts hown hK hP hD hS rfl 9 67 (by decide) lk_x_isDown rfl (ty := .boolean) (v := .int (bI false)) rfl (bI_n _) (bI_f _) (Nat.le_of_ble_eq_true rfl) d_x_recover_70 (fun H locs hP hD hS => ?_)
        have hP : va_P D classes (xw cA h d w nb nw na f g 0 tr lf wr false) H := hP
        have hD : va_D Z (xw cA h d w nb nw na f g 0 tr lf wr false) := hD
        refine lv_aload_n hx hb d_x_recover_73 rfl (lv_at hl 1 rfl) ?_
        refine lv_iconst (v := -1) hx hb d_x_recover_74 (by decide) ?_
        refine px hx hb hts hown hK hP hD hS rfl 7 9 (by decide) lk_x_writesLeft rfl (ty := .int) (v := .int (-1)) rfl rfl rfl (Nat.le_of_ble_eq_true rfl) d_x_recover_75 (fun H locs hP hD hS => ?_)
        have hP : va_P D classes (xw cA h d w nb nw na f g 0 tr (-1) wr false) H := hP
        have hD : va_D Z (xw cA h d w nb nw na f g 0 tr (-1) wr false) := hD
        refine lv_iconst (v := nI 0) hx hb d_x_recover_78 (by decide) ?_
        refine hs_to (y := 0) nI_0 ?_
        exact W.iret (v := 0) hx hb hr (fun t ht hW => ⟨⟨(0, 0, tr, -1, false), (by rw [rcV, if_neg (by rw [h1]; decide), if_pos h3]), rfl, by rw [ht]; exact hP, hD⟩, hS.F ht⟩) hS.2.2 d_x_recover_79
      · skip
        exact absurd h5 (by decide)
  · skip
    refine lv_bipush (v := -2) hx hb d_x_recover_7 (by decide) ?_
    exact W.iret (v := (-2)) hx hb hr (fun t ht hW => ⟨⟨(-2, sl, rt, lf, dn), (by rw [rcV, if_pos h1]), rfl, by rw [ht]; exact hP, hD⟩, hS.F ht⟩) hS.2.2 d_x_recover_9
end
section
set_option maxHeartbeats 4000000 in
set_option maxRecDepth 100000 in
/-- write -/
theorem c_x_write (l : Launch) (D : va_G) (cA : ClassId) (h d w nb nw na : Nat) (f g : Nat → Int32) (sl : Nat) (rt lf wr : Int32) (dn : Bool) (sz : Nat) (dp : Nat) (b i wo : Int32) (hG : hsG dp nb nw na) (hsl : sl ≤ 1) : Met l y_x_write w_x_write rq4 (PcW D [(cA, .int)] (xw cA h d w nb nw na f g sl rt lf wr dn) sz [.ref h, .int b, .int i, .int wo]) (QcW D (va_A (xw cA h d w nb nw na f g sl rt lf wr dn) sz) (fun u : WS × (Nat → Int32) => u.1 = wrV dp nb nw na f sl rt lf wr dn b i wo) (fun u => some (.int u.1.1)) (fun u => xw cA h d w nb nw na u.1.2.1 u.2 u.1.2.2.1 u.1.2.2.2.1 u.1.2.2.2.2.1 u.1.2.2.2.2.2.1 u.1.2.2.2.2.2.2)) 0 0 (va_A (xw cA h d w nb nw na f g sl rt lf wr dn) sz) := by
  refine Met.ofW (cc := b_x_write) (maxL := 10) (ret := (some .int)) (by decide) rfl ?_
  intro p e s m args below meth c s₁ B9 hml hv
  obtain ⟨rfl, hsz, hP, hK, hD0⟩ := hv
  have hx := B9.exec
  have hb := B9.bytes
  have hr := B9.returns
  have hts0 := atoms_spec (ws := w_x_write) B9.pre
  have hts : ∀ w ∈ gw, w.before _ s = true := fun w hw => hts0 w (List.mem_cons_of_mem _ hw)
  have hown : s.vm.findClass R_x = some m.cls := findClass_of_methodNamed B9.named
  have hlocks := B9.notSynchronized
  have S9 : CallFix p m c b_x_write 10 s _ gw R_x := ⟨hx, hb, hml, hown, hts⟩
  subst hsz
  have hD := hD0.self (sz := s.heap.size)
  generalize hAe : va_A (xw cA h d w nb nw na f g sl rt lf wr dn) s.heap.size = Z at hD ⊢
  have hA : ∀ q : Nat, s.heap.size ≤ q → Z q := fun q h => by rw [← hAe]; exact Or.inr h
  have hS : va_S Z s.heap s.heap [] := va_S.rf
  have hl := lv_entry ([.ref h, .int b, .int i, .int wo]) (n := 10) (Nat.le_of_ble_eq_true rfl)
  rw [lg_entry_eq]
  generalize (lg_sl ([.ref h, .int b, .int i, .int wo]) ++ List.replicate (10 - (lg_sl ([.ref h, .int b, .int i, .int wo])).length) Slot.unset).toArray = ls at hl ⊢
  have hl : lv_has ls 10 [(0, .ref h), (1, .int b), (2, .int i), (3, .int wo)] := hl
  have h9 := hG.fits
  have hnb := hG.2.1
  refine lv_aload_n hx hb d_x_write_0 rfl (lv_at hl 0 rfl) ?_
  refine lv_iload_n hx hb d_x_write_1 rfl (lv_at hl 1 rfl) ?_
  refine lv_iload_n hx hb d_x_write_2 rfl (lv_at hl 2 rfl) ?_
  refine hs_rv (As := [.int b, .int i]) (rest := []) S9 (c_x_isWord l D cA h d w nb nw na f g sl rt lf wr dn b i) k_x_x_isWord h_x_isWord rfl rfl ⟨Nat.le_of_ble_eq_true rfl, Nat.le_of_ble_eq_true rfl⟩ hK hP rfl rfl rfl hl.1 rfl (Nat.le_of_ble_eq_true rfl) d_x_write_3 ⟨Nat.zero_le _, Nat.zero_le _⟩ ?_
  refine hs_ifeqB (tgt := 13) hx hb d_x_write_6 (by decide) (fun h1 => ?_) (fun h1 => ?_)
  · skip
    refine lv_bipush (v := -2) hx hb d_x_write_13 (by decide) ?_
    exact W.iret (v := (-2)) hx hb hr (fun t ht hW => ⟨⟨((-2, f, sl, rt, lf, wr, dn), g), (by rw [wrV_bad (fun q => of_decide_eq_false h1 q.1)]), rfl, by rw [ht]; exact hP, hD⟩, hS.F ht⟩) hS.2.2 d_x_write_15
  · skip
    refine lv_iload_n hx hb d_x_write_9 rfl (lv_at hl 3 rfl) ?_
    refine lv_if_ge (tgt := 16) hx hb d_x_write_10 (by decide) (fun h2 => ?_) (fun h2 => ?_)
    · skip
      have hv9 : vld nb nw b i := of_decide_eq_true h1
      refine lv_aload_n hx hb d_x_write_16 rfl (lv_at hl 0 rfl) ?_
      refine gx hx hb hts hown hK hP rfl 9 67 (by decide) lk_x_isDown (v := .int (bI dn)) rfl d_x_write_17 ?_
      refine hs_ifeqB (tgt := 26) hx hb d_x_write_20 (by decide) (fun h3 => ?_) (fun h3 => ?_)
      · skip
        obtain ⟨b9, i9, hb9, hi9, rfl, rfl⟩ := vld_of (by omega) (by omega) hv9
        refine lv_aload_n hx hb d_x_write_26 rfl (lv_at hl 0 rfl) ?_
        refine lv_iload_n hx hb d_x_write_27 rfl (lv_at hl 1 rfl) ?_
        refine hs_wv (As := [.int (nI b9)]) (rest := []) (wr := []) [0, 1, 2] [] S9 (c_x_isRight l D cA h d w nb nw na f g sl rt lf wr dn s.heap.size dp b9 hG hsl hb9) k_x_x_isRight h_x_isRight rfl rfl ⟨Nat.le_of_ble_eq_true rfl, Nat.le_of_ble_eq_true rfl⟩ hK hP hD hS hA rfl rfl rfl rfl (by decide) rfl rfl rfl rfl hl.1 rfl (Nat.le_of_ble_eq_true rfl) d_x_write_28 ⟨Nat.zero_le _, Nat.zero_le _⟩ (fun u H locs hp hP hD hS => ?_)
        have hP : va_P D classes (xw cA h d w nb nw na f u sl rt lf wr dn) H := hP
        have hD : va_D Z (xw cA h d w nb nw na f u sl rt lf wr dn) := hD
        refine W.eq (g2 := F0 m 31 ls [.int (bI (okA (ar f na sl) dp nb nw b9 rt))]) rfl ?_
        refine hs_ifneB (tgt := 37) hx hb d_x_write_31 (by decide) (fun h4 => ?_) (fun h4 => ?_)
        · skip
          have hw9 := at_word hG hsl hb9 hi9
          refine lv_aload_n hx hb d_x_write_37 rfl (lv_at hl 0 rfl) ?_
          refine lv_iload_n hx hb d_x_write_38 rfl (lv_at hl 1 rfl) ?_
          refine lv_aload_n hx hb d_x_write_39 rfl (lv_at hl 0 rfl) ?_
          refine lv_iload_n hx hb d_x_write_40 rfl (lv_at hl 1 rfl) ?_
          refine lv_iload_n hx hb d_x_write_41 rfl (lv_at hl 2 rfl) ?_
          refine lv_iload_n hx hb d_x_write_42 rfl (lv_at hl 3 rfl) ?_
          refine hs_rv (As := [.int (nI b9), .int (nI i9), .int wo]) (rest := [.int (nI b9), .ref h]) S9 (c_x_leaf l D cA h d w nb nw na f u sl rt lf wr dn dp b9 (nI i9) wo hG hsl hb9) k_x_x_leaf h_x_leaf rfl rfl ⟨Nat.le_of_ble_eq_true rfl, Nat.le_of_ble_eq_true rfl⟩ hK hP rfl rfl rfl hl.1 rfl (Nat.le_of_ble_eq_true rfl) d_x_write_43 ⟨Nat.zero_le _, Nat.zero_le _⟩ ?_
          refine hs_to (y := fo (wdA (nwA f na sl nw b9 i9 wo) nw b9) (nI b9) nw) (lf_new (by omega) hi9) ?_
          refine hs_wv (As := [.int (nI b9), .int (fo (wdA (nwA f na sl nw b9 i9 wo) nw b9) (nI b9) nw)]) (rest := []) (wr := []) [0, 1, 2] [] S9 (c_x_climb l D cA h d w nb nw na f u sl rt lf wr dn H.size dp b9 (fo (wdA (nwA f na sl nw b9 i9 wo) nw b9) (nI b9) nw) hG hsl hb9) k_x_x_climb h_x_climb rfl rfl ⟨Nat.le_of_ble_eq_true rfl, Nat.le_of_ble_eq_true rfl⟩ hK hP hD hS hA rfl rfl rfl rfl (by decide) rfl rfl rfl rfl hl.1 rfl (Nat.le_of_ble_eq_true rfl) d_x_write_46 ⟨Nat.zero_le _, Nat.zero_le _⟩ (fun g8 H locs hp hP hD hS => ?_)
          have hg8 : ∀ t, t ≤ dp → g8 ((nb + b9) / 2 ^ t) = uN (nwA f na sl nw b9 i9 wo) nb nw b9 t := fun t ht => (hp t ht).trans (up_new hnb hb9 hw9.1 ht)
          have hP : va_P D classes (xw cA h d w nb nw na f g8 sl rt lf wr dn) H := hP
          have hD : va_D Z (xw cA h d w nb nw na f g8 sl rt lf wr dn) := hD
          refine W.eq (g2 := F0 m 49 ls [.int (up (ndA (ar f na sl) (nb * nw)) (nb + b9) (fo (wdA (nwA f na sl nw b9 i9 wo) nw b9) (nI b9) nw) dp)]) rfl ?_
          refine hs_to (y := uN (nwA f na sl nw b9 i9 wo) nb nw b9 dp) (up_new hnb hb9 hw9.1 (Nat.le_refl dp)) ?_
          refine lv_istore (lv' := [(4, .int (uN (nwA f na sl nw b9 i9 wo) nb nw b9 dp)), (0, .ref h), (1, .int (nI b9)), (2, .int (nI i9)), (3, .int wo)]) hx hb d_x_write_49 hl (by decide) rfl (fun ls hl => ?_)
          refine lv_iconst (v := nI 1) hx hb d_x_write_51 (by decide) ?_
          refine lv_aload_n hx hb d_x_write_52 rfl (lv_at hl 1 rfl) ?_
          refine gx hx hb hts hown hK hP rfl 5 58 (by decide) lk_x_slot (v := .int (nI sl)) rfl d_x_write_53 ?_
          refine hs_isub hx hb (by omega) d_x_write_56 ?_
          refine lv_istore (lv' := [(5, .int (nI (1 - sl))), (4, .int (uN (nwA f na sl nw b9 i9 wo) nb nw b9 dp)), (0, .ref h), (1, .int (nI b9)), (2, .int (nI i9)), (3, .int wo)]) hx hb d_x_write_57 hl (by decide) rfl (fun ls hl => ?_)
          refine lv_aload_n hx hb d_x_write_59 rfl (lv_at hl 2 rfl) ?_
          refine lv_aload_n hx hb d_x_write_60 rfl (lv_at hl 2 rfl) ?_
          refine gx hx hb hts hown hK hP rfl 5 58 (by decide) lk_x_slot (v := .int (nI sl)) rfl d_x_write_61 ?_
          refine lv_iload_n hx hb d_x_write_64 rfl (lv_at hl 3 rfl) ?_
          refine lv_iload_n hx hb d_x_write_65 rfl (lv_at hl 4 rfl) ?_
          refine hs_rv (As := [.int (nI sl), .int (nI b9), .int (nI i9)]) (rest := []) S9 (c_x_wordAt l D cA h d w nb nw na f g8 sl rt lf wr dn sl b9 i9) k_x_x_wordAt h_x_wordAt rfl rfl ⟨Nat.le_of_ble_eq_true rfl, Nat.le_of_ble_eq_true rfl⟩ hK hP rfl rfl rfl hl.1 rfl (Nat.le_of_ble_eq_true rfl) d_x_write_66 ⟨Nat.zero_le _, Nat.zero_le _⟩ ?_
          refine lv_istore (lv' := [(6, .int (nI (na * sl + (nw * b9 + i9)))), (5, .int (nI (1 - sl))), (4, .int (uN (nwA f na sl nw b9 i9 wo) nb nw b9 dp)), (0, .ref h), (1, .int (nI b9)), (2, .int (nI i9)), (3, .int wo)]) hx hb d_x_write_69 hl (by decide) rfl (fun ls hl => ?_)
          refine lv_iconst (v := nI 1) hx hb d_x_write_71 (by decide) ?_
          refine hs_to (y := bI true) bI_t ?_
          refine lv_istore (lv' := [(7, .int (bI true)), (6, .int (nI (na * sl + (nw * b9 + i9)))), (5, .int (nI (1 - sl))), (4, .int (uN (nwA f na sl nw b9 i9 wo) nb nw b9 dp)), (0, .ref h), (1, .int (nI b9)), (2, .int (nI i9)), (3, .int wo)]) hx hb d_x_write_72 hl (by decide) rfl (fun ls hl => ?_)
          refine lv_iconst (v := nI 0) hx hb d_x_write_74 (by decide) ?_
          refine lv_istore (lv' := [(8, .int (nI 0)), (7, .int (bI true)), (6, .int (nI (na * sl + (nw * b9 + i9)))), (5, .int (nI (1 - sl))), (4, .int (uN (nwA f na sl nw b9 i9 wo) nb nw b9 dp)), (0, .ref h), (1, .int (nI b9)), (2, .int (nI i9)), (3, .int wo)]) hx hb d_x_write_75 hl (by decide) rfl (fun ls hl => ?_)
          obtain ⟨R1, hR1⟩ : ∃ z, z = rW (na * (1 - sl)) (gA (nwA f na sl nw b9 i9 wo) dp nb nw b9) (nb * nw) 0 (true, f, lf, wr, dn) := ⟨_, rfl⟩
          obtain ⟨R2, hR2⟩ : ∃ z, z = (if R1.1 = true then rD (na * (1 - sl)) (nb * nw) (gA (nwA f na sl nw b9 i9 wo) dp nb nw b9) (2 * nb - 1) R1 else R1) := ⟨_, rfl⟩
          have hend : wrV dp nb nw na f sl rt lf wr dn (nI b9) (nI i9) wo = wrE R2 sl rt (uN (nwA f na sl nw b9 i9 wo) nb nw b9 dp) := by
            rw [wrV_ok (by omega) (by omega) hb9 hi9 h2 h3 h4, wrR, hR2, hR1, h3]
          have loopN : ∀ (n : Nat) (k : Nat) (st : PS), k < 2 * nb → (st.1 = true → rD (na * (1 - sl)) (nb * nw) (gA (nwA f na sl nw b9 i9 wo) dp nb nw b9) k st = R2) → (st.1 = false → st = R2) → (∀ x, x < na → st.2.1 (na * sl + x) = f (na * sl + x)) → k < n → ∀ (H : Heap) (locs : List Loc), va_P D classes (xw cA h d w nb nw na st.2.1 g8 sl rt st.2.2.1 st.2.2.2.1 st.2.2.2.2) H → va_D Z (xw cA h d w nb nw na st.2.1 g8 sl rt st.2.2.1 st.2.2.2.1 st.2.2.2.2) → va_S Z s.heap H locs → ∀ (ls : Array Slot), lv_has ls 10 [(8, .int (nI k)), (7, .int (bI st.1)), (0, .ref h), (1, .int (nI b9)), (2, .int (nI i9)), (3, .int wo), (4, .int (uN (nwA f na sl nw b9 i9 wo) nb nw b9 dp)), (5, .int (nI (1 - sl))), (6, .int (nI (na * sl + (nw * b9 + i9))))] → W p l e (headSpec w_x_write rq4).room s m ([.ref h, .int (nI b9), .int (nI i9), .int wo] : List Value).toArray below meth c H locs 0 0 (MQ below (QcW D Z (fun u : WS × (Nat → Int32) => u.1 = wrV dp nb nw na f sl rt lf wr dn (nI b9) (nI i9) wo) (fun u => some (.int u.1.1)) (fun u => xw cA h d w nb nw na u.1.2.1 u.2 u.1.2.2.1 u.1.2.2.2.1 u.1.2.2.2.2.1 u.1.2.2.2.2.2.1 u.1.2.2.2.2.2.2)) ([.ref h, .int (nI b9), .int (nI i9), .int wo] : List Value).toArray s 0 0 Z) (F0 m 160 ls []) := by
            intro n
            induction n with
            | zero =>
              intro k st hk9 ht9 hf9 ha9 hmu
              exact absurd hmu (Nat.not_lt_zero _)
            | succ n ih =>
              intro k st hk9 ht9 hf9 ha9 hmu H locs hP hD hS ls hl
              refine lv_iload hx hb d_x_write_160 (lv_at hl 0 rfl) ?_
              refine hs_ifle (tgt := 229) hx hb d_x_write_162 (by decide) (by omega) (fun h5 => ?_) (fun h5 => ?_)
              · skip
                subst h5
                have hst : st = R2 := by
                  rcases hb7 : st.1 with _ | _
                  · exact hf9 hb7
                  · exact ht9 hb7
                refine lv_iload hx hb d_x_write_229 (lv_at hl 1 rfl) ?_
                refine hs_ifneB (tgt := 237) hx hb d_x_write_231 (by decide) (fun h8 => ?_) (fun h8 => ?_)
                · skip
                  refine lv_aload_n hx hb d_x_write_237 rfl (lv_at hl 2 rfl) ?_
                  refine lv_iload hx hb d_x_write_238 (lv_at hl 7 rfl) ?_
                  refine px hx hb hts hown hK hP hD hS rfl 5 58 (by decide) lk_x_slot rfl (ty := .int) (v := .int (nI (1 - sl))) rfl rfl rfl (Nat.le_of_ble_eq_true rfl) d_x_write_240 (fun H locs hP hD hS => ?_)
                  have hP : va_P D classes (xw cA h d w nb nw na st.2.1 g8 (1 - sl) rt st.2.2.1 st.2.2.2.1 st.2.2.2.2) H := hP
                  have hD : va_D Z (xw cA h d w nb nw na st.2.1 g8 (1 - sl) rt st.2.2.1 st.2.2.2.1 st.2.2.2.2) := hD
                  refine lv_aload_n hx hb d_x_write_243 rfl (lv_at hl 2 rfl) ?_
                  refine lv_iload hx hb d_x_write_244 (lv_at hl 6 rfl) ?_
                  refine px hx hb hts hown hK hP hD hS rfl 6 61 (by decide) lk_x_rootHash rfl (ty := .int) (v := .int (uN (nwA f na sl nw b9 i9 wo) nb nw b9 dp)) rfl rfl rfl (Nat.le_of_ble_eq_true rfl) d_x_write_246 (fun H locs hP hD hS => ?_)
                  have hP : va_P D classes (xw cA h d w nb nw na st.2.1 g8 (1 - sl) (uN (nwA f na sl nw b9 i9 wo) nb nw b9 dp) st.2.2.1 st.2.2.2.1 st.2.2.2.2) H := hP
                  have hD : va_D Z (xw cA h d w nb nw na st.2.1 g8 (1 - sl) (uN (nwA f na sl nw b9 i9 wo) nb nw b9 dp) st.2.2.1 st.2.2.2.1 st.2.2.2.2) := hD
                  refine lv_iconst (v := nI 0) hx hb d_x_write_249 (by decide) ?_
                  refine hs_to (y := 0) nI_0 ?_
                  exact W.iret (v := 0) hx hb hr (fun t ht hW => ⟨⟨((0, st.2.1, 1 - sl, uN (nwA f na sl nw b9 i9 wo) nb nw b9 dp, st.2.2.1, st.2.2.2.1, st.2.2.2.2), g8), (by rw [hend, wrE, ← hst, if_pos h8]), rfl, by rw [ht]; exact hP, hD⟩, hS.F ht⟩) hS.2.2 d_x_write_250
                · skip
                  refine lv_bipush (v := -4) hx hb d_x_write_234 (by decide) ?_
                  exact W.iret (v := (-4)) hx hb hr (fun t ht hW => ⟨⟨((-4, st.2.1, sl, rt, st.2.2.1, st.2.2.2.1, st.2.2.2.2), g8), (by rw [hend, wrE, ← hst, if_neg (by rw [h8]; decide)]), rfl, by rw [ht]; exact hP, hD⟩, hS.F ht⟩) hS.2.2 d_x_write_236
              · skip
                refine lv_iload hx hb d_x_write_165 (lv_at hl 1 rfl) ?_
                refine hs_ifeqB (tgt := 229) hx hb d_x_write_167 (by decide) (fun h6 => ?_) (fun h6 => ?_)
                · skip
                  have hst : st = R2 := hf9 h6
                  refine lv_iload hx hb d_x_write_229 (lv_at hl 1 rfl) ?_
                  refine hs_ifneB (tgt := 237) hx hb d_x_write_231 (by decide) (fun h8 => ?_) (fun h8 => ?_)
                  · skip
                    refine lv_aload_n hx hb d_x_write_237 rfl (lv_at hl 2 rfl) ?_
                    refine lv_iload hx hb d_x_write_238 (lv_at hl 7 rfl) ?_
                    refine px hx hb hts hown hK hP hD hS rfl 5 58 (by decide) lk_x_slot rfl (ty := .int) (v := .int (nI (1 - sl))) rfl rfl rfl (Nat.le_of_ble_eq_true rfl) d_x_write_240 (fun H locs hP hD hS => ?_)
                    have hP : va_P D classes (xw cA h d w nb nw na st.2.1 g8 (1 - sl) rt st.2.2.1 st.2.2.2.1 st.2.2.2.2) H := hP
                    have hD : va_D Z (xw cA h d w nb nw na st.2.1 g8 (1 - sl) rt st.2.2.1 st.2.2.2.1 st.2.2.2.2) := hD
                    refine lv_aload_n hx hb d_x_write_243 rfl (lv_at hl 2 rfl) ?_
                    refine lv_iload hx hb d_x_write_244 (lv_at hl 6 rfl) ?_
                    refine px hx hb hts hown hK hP hD hS rfl 6 61 (by decide) lk_x_rootHash rfl (ty := .int) (v := .int (uN (nwA f na sl nw b9 i9 wo) nb nw b9 dp)) rfl rfl rfl (Nat.le_of_ble_eq_true rfl) d_x_write_246 (fun H locs hP hD hS => ?_)
                    have hP : va_P D classes (xw cA h d w nb nw na st.2.1 g8 (1 - sl) (uN (nwA f na sl nw b9 i9 wo) nb nw b9 dp) st.2.2.1 st.2.2.2.1 st.2.2.2.2) H := hP
                    have hD : va_D Z (xw cA h d w nb nw na st.2.1 g8 (1 - sl) (uN (nwA f na sl nw b9 i9 wo) nb nw b9 dp) st.2.2.1 st.2.2.2.1 st.2.2.2.2) := hD
                    refine lv_iconst (v := nI 0) hx hb d_x_write_249 (by decide) ?_
                    refine hs_to (y := 0) nI_0 ?_
                    exact W.iret (v := 0) hx hb hr (fun t ht hW => ⟨⟨((0, st.2.1, 1 - sl, uN (nwA f na sl nw b9 i9 wo) nb nw b9 dp, st.2.2.1, st.2.2.2.1, st.2.2.2.2), g8), (by rw [hend, wrE, ← hst, if_pos h8]), rfl, by rw [ht]; exact hP, hD⟩, hS.F ht⟩) hS.2.2 d_x_write_250
                  · skip
                    refine lv_bipush (v := -4) hx hb d_x_write_234 (by decide) ?_
                    exact W.iret (v := (-4)) hx hb hr (fun t ht hW => ⟨⟨((-4, st.2.1, sl, rt, st.2.2.1, st.2.2.2.1, st.2.2.2.2), g8), (by rw [hend, wrE, ← hst, if_neg (by rw [h8]; decide)]), rfl, by rw [ht]; exact hP, hD⟩, hS.F ht⟩) hS.2.2 d_x_write_236
                · skip
                  obtain ⟨j, rfl⟩ : ∃ j, k = j + 1 := ⟨k - 1, by omega⟩
                  have hR9 := ht9 h6
                  have hn9 := at_node (k := j + 1) (sl := 1 - sl) hG (by omega) (by omega) hk9
                  have hn8 := at_node (k := j + 1) (sl := sl) hG hsl (by omega) hk9
                  refine lv_aload_n hx hb d_x_write_170 rfl (lv_at hl 2 rfl) ?_
                  refine lv_aload_n hx hb d_x_write_171 rfl (lv_at hl 2 rfl) ?_
                  refine lv_iload hx hb d_x_write_172 (lv_at hl 7 rfl) ?_
                  refine lv_iload hx hb d_x_write_174 (lv_at hl 0 rfl) ?_
                  refine hs_rv (As := [.int (nI (1 - sl)), .int (nI (j + 1))]) (rest := [.ref h]) S9 (c_x_nodeAt l D cA h d w nb nw na st.2.1 g8 sl rt st.2.2.1 st.2.2.2.1 st.2.2.2.2 (1 - sl) (j + 1) (by omega)) k_x_x_nodeAt h_x_nodeAt rfl rfl ⟨Nat.le_of_ble_eq_true rfl, Nat.le_of_ble_eq_true rfl⟩ hK hP rfl rfl rfl hl.1 rfl (Nat.le_of_ble_eq_true rfl) d_x_write_176 ⟨Nat.zero_le _, Nat.zero_le _⟩ ?_
                  refine lv_iload hx hb d_x_write_179 (lv_at hl 0 rfl) ?_
                  refine lv_aload_n hx hb d_x_write_181 rfl (lv_at hl 2 rfl) ?_
                  refine gx hx hb hts hown hK hP rfl 0 22 (by decide) lk_x_blocks (v := .int (nI nb)) rfl d_x_write_182 ?_
                  refine lv_iload_n hx hb d_x_write_185 rfl (lv_at hl 3 rfl) ?_
                  refine hs_iadd hx hb d_x_write_186 ?_
                  refine hs_rs (As := [.int (nI (j + 1)), .int (nI (nb + b9))]) (rest := [.int (nI (na * (1 - sl) + (nb * nw + (j + 1) - 1))), .ref h]) S9 (c_x_isOnWay l (j + 1) (nb + b9) (by omega) (by omega)) k_x_x_isOnWay h_x_isOnWay rfl rfl ⟨Nat.le_of_ble_eq_true rfl, Nat.le_of_ble_eq_true rfl⟩ rfl hl.1 rfl (Nat.le_of_ble_eq_true rfl) d_x_write_187 ⟨Nat.zero_le _, Nat.zero_le _⟩ ?_
                  refine hs_ifeqB (tgt := 203) hx hb d_x_write_190 (by decide) (fun h7 => ?_) (fun h7 => ?_)
                  · skip
                    refine lv_aload_n hx hb d_x_write_203 rfl (lv_at hl 2 rfl) ?_
                    refine gx hx hb hts hown hK hP rfl 3 31 (by decide) lk_x_disk (v := .ref d) rfl d_x_write_204 ?_
                    refine lv_aload_n hx hb d_x_write_207 rfl (lv_at hl 2 rfl) ?_
                    refine lv_aload_n hx hb d_x_write_208 rfl (lv_at hl 2 rfl) ?_
                    refine gx hx hb hts hown hK hP rfl 5 58 (by decide) lk_x_slot (v := .int (nI sl)) rfl d_x_write_209 ?_
                    refine lv_iload hx hb d_x_write_212 (lv_at hl 0 rfl) ?_
                    refine hs_rv (As := [.int (nI sl), .int (nI (j + 1))]) (rest := [.ref d, .int (nI (na * (1 - sl) + (nb * nw + (j + 1) - 1))), .ref h]) S9 (c_x_nodeAt l D cA h d w nb nw na st.2.1 g8 sl rt st.2.2.1 st.2.2.2.1 st.2.2.2.2 sl (j + 1) (by omega)) k_x_x_nodeAt h_x_nodeAt rfl rfl ⟨Nat.le_of_ble_eq_true rfl, Nat.le_of_ble_eq_true rfl⟩ hK hP rfl rfl rfl hl.1 rfl (Nat.le_of_ble_eq_true rfl) d_x_write_214 ⟨Nat.zero_le _, Nat.zero_le _⟩ ?_
                    refine hs_iald hx hb hK hP 1 0 rfl rfl (i := na * sl + (nb * nw + (j + 1) - 1)) hn8.2 (by omega) d_x_write_217 ?_
                    refine hs_wv (As := [.int (nI (na * (1 - sl) + (nb * nw + (j + 1) - 1))), .int (st.2.1 (na * sl + (nb * nw + (j + 1) - 1)))]) (rest := []) (wr := []) [0, 1, 2] [] S9 (c_x_put l D cA h d w nb nw na st.2.1 g8 sl rt st.2.2.1 st.2.2.2.1 st.2.2.2.2 H.size (na * (1 - sl) + (nb * nw + (j + 1) - 1)) (st.2.1 (na * sl + (nb * nw + (j + 1) - 1))) (by omega) hn9.2) k_x_x_put h_x_put rfl rfl ⟨Nat.le_of_ble_eq_true rfl, Nat.le_of_ble_eq_true rfl⟩ hK hP hD hS hA rfl rfl rfl rfl (by decide) rfl rfl rfl rfl hl.1 rfl (Nat.le_of_ble_eq_true rfl) d_x_write_218 ⟨Nat.zero_le _, Nat.zero_le _⟩ (fun u H locs hp hP hD hS => ?_)
                    have hP : va_P D classes (xw cA h d w nb nw na u.2.1 g8 sl rt u.2.2.1 u.2.2.2.1 u.2.2.2.2) H := hP
                    have hD : va_D Z (xw cA h d w nb nw na u.2.1 g8 sl rt u.2.2.1 u.2.2.2.1 u.2.2.2.2) := hD
                    refine W.eq (g2 := F0 m 221 ls [.int (bI u.1)]) rfl ?_
                    refine lv_istore (lv' := [(7, .int (bI u.1)), (8, .int (nI (j + 1))), (0, .ref h), (1, .int (nI b9)), (2, .int (nI i9)), (3, .int wo), (4, .int (uN (nwA f na sl nw b9 i9 wo) nb nw b9 dp)), (5, .int (nI (1 - sl))), (6, .int (nI (na * sl + (nw * b9 + i9))))]) hx hb d_x_write_221 hl (by decide) rfl (fun ls hl => ?_)
                    refine lv_iinc (v := nI ((j + 1) - 1)) (lv' := [(8, .int (nI ((j + 1) - 1))), (7, .int (bI u.1)), (0, .ref h), (1, .int (nI b9)), (2, .int (nI i9)), (3, .int wo), (4, .int (uN (nwA f na sl nw b9 i9 wo) nb nw b9 dp)), (5, .int (nI (1 - sl))), (6, .int (nI (na * sl + (nw * b9 + i9))))]) hx hb d_x_write_223 hl (k := 1) rfl (sb_m1 (by omega)) (by decide) rfl (fun ls hl => ?_)
                    refine lv_goto (tgt := 160) hx hb d_x_write_226 (by decide) ?_
                    have hu : u = ptS (na * (1 - sl) + (nb * nw + (j + 1) - 1)) ((gA (nwA f na sl nw b9 i9 wo) dp nb nw b9) (nb * nw + (j + 1) - 1)) st := by rw [hp, gA_off hnb hb9 (by omega) h7, ha9 _ hn8.1, show (nwA f na sl nw b9 i9 wo) (nb * nw + (j + 1) - 1) = _ from nd_new (q := j + 1) hw9.1 (by omega)]; rfl
                    rw [rD, ← hu] at hR9
                    exact ih j u (by omega) (fun q => by rw [if_pos q] at hR9; exact hR9) (fun q => by rw [if_neg (by rw [q]; decide)] at hR9; exact hR9) (fun x hx => by rw [hu]; exact (pt_keep (ne_area hsl hx hn9.1)).trans (ha9 x hx)) (by omega) _ _ hP hD hS ls (lv_sub hl [0, 1, 2, 3, 4, 5, 6, 7, 8] rfl)
                  · skip
                    obtain ⟨t9, ht1, ht2⟩ := onW_t hnb hb9 (by omega) h7
                    refine lv_aload_n hx hb d_x_write_193 rfl (lv_at hl 2 rfl) ?_
                    refine gx hx hb hts hown hK hP rfl 4 35 (by decide) lk_x_way (v := .ref w) rfl d_x_write_194 ?_
                    refine lv_iload hx hb d_x_write_197 (lv_at hl 0 rfl) ?_
                    refine hs_iald hx hb hK hP 2 0 rfl rfl (i := j + 1) (by omega) (by omega) d_x_write_199 ?_
                    refine lv_goto (tgt := 218) hx hb d_x_write_200 (by decide) ?_
                    refine hs_wv (As := [.int (nI (na * (1 - sl) + (nb * nw + (j + 1) - 1))), .int (g8 (j + 1))]) (rest := []) (wr := []) [0, 1, 2] [] S9 (c_x_put l D cA h d w nb nw na st.2.1 g8 sl rt st.2.2.1 st.2.2.2.1 st.2.2.2.2 H.size (na * (1 - sl) + (nb * nw + (j + 1) - 1)) (g8 (j + 1)) (by omega) hn9.2) k_x_x_put h_x_put rfl rfl ⟨Nat.le_of_ble_eq_true rfl, Nat.le_of_ble_eq_true rfl⟩ hK hP hD hS hA rfl rfl rfl rfl (by decide) rfl rfl rfl rfl hl.1 rfl (Nat.le_of_ble_eq_true rfl) d_x_write_218 ⟨Nat.zero_le _, Nat.zero_le _⟩ (fun u H locs hp hP hD hS => ?_)
                    have hP : va_P D classes (xw cA h d w nb nw na u.2.1 g8 sl rt u.2.2.1 u.2.2.2.1 u.2.2.2.2) H := hP
                    have hD : va_D Z (xw cA h d w nb nw na u.2.1 g8 sl rt u.2.2.1 u.2.2.2.1 u.2.2.2.2) := hD
                    refine W.eq (g2 := F0 m 221 ls [.int (bI u.1)]) rfl ?_
                    refine lv_istore (lv' := [(7, .int (bI u.1)), (8, .int (nI (j + 1))), (0, .ref h), (1, .int (nI b9)), (2, .int (nI i9)), (3, .int wo), (4, .int (uN (nwA f na sl nw b9 i9 wo) nb nw b9 dp)), (5, .int (nI (1 - sl))), (6, .int (nI (na * sl + (nw * b9 + i9))))]) hx hb d_x_write_221 hl (by decide) rfl (fun ls hl => ?_)
                    refine lv_iinc (v := nI ((j + 1) - 1)) (lv' := [(8, .int (nI ((j + 1) - 1))), (7, .int (bI u.1)), (0, .ref h), (1, .int (nI b9)), (2, .int (nI i9)), (3, .int wo), (4, .int (uN (nwA f na sl nw b9 i9 wo) nb nw b9 dp)), (5, .int (nI (1 - sl))), (6, .int (nI (na * sl + (nw * b9 + i9))))]) hx hb d_x_write_223 hl (k := 1) rfl (sb_m1 (by omega)) (by decide) rfl (fun ls hl => ?_)
                    refine lv_goto (tgt := 160) hx hb d_x_write_226 (by decide) ?_
                    have hu : u = ptS (na * (1 - sl) + (nb * nw + (j + 1) - 1)) ((gA (nwA f na sl nw b9 i9 wo) dp nb nw b9) (nb * nw + (j + 1) - 1)) st := by rw [hp, ← ht2, hg8 t9 ht1, gA_on hnb hb9 ht1]; rfl
                    rw [rD, ← hu] at hR9
                    exact ih j u (by omega) (fun q => by rw [if_pos q] at hR9; exact hR9) (fun q => by rw [if_neg (by rw [q]; decide)] at hR9; exact hR9) (fun x hx => by rw [hu]; exact (pt_keep (ne_area hsl hx hn9.1)).trans (ha9 x hx)) (by omega) _ _ hP hD hS ls (lv_sub hl [0, 1, 2, 3, 4, 5, 6, 7, 8] rfl)
          have loopW : ∀ (n : Nat) (k n9 : Nat) (st : PS), k + n9 = nb * nw → (st.1 = true → rW (na * (1 - sl)) (gA (nwA f na sl nw b9 i9 wo) dp nb nw b9) n9 k st = R1) → (st.1 = false → st = R1) → (∀ x, x < na → st.2.1 (na * sl + x) = f (na * sl + x)) → n9 < n → ∀ (H : Heap) (locs : List Loc), va_P D classes (xw cA h d w nb nw na st.2.1 g8 sl rt st.2.2.1 st.2.2.2.1 st.2.2.2.2) H → va_D Z (xw cA h d w nb nw na st.2.1 g8 sl rt st.2.2.1 st.2.2.2.1 st.2.2.2.2) → va_S Z s.heap H locs → ∀ (ls : Array Slot), lv_has ls 10 [(8, .int (nI k)), (7, .int (bI st.1)), (0, .ref h), (1, .int (nI b9)), (2, .int (nI i9)), (3, .int wo), (4, .int (uN (nwA f na sl nw b9 i9 wo) nb nw b9 dp)), (5, .int (nI (1 - sl))), (6, .int (nI (na * sl + (nw * b9 + i9))))] → W p l e (headSpec w_x_write rq4).room s m ([.ref h, .int (nI b9), .int (nI i9), .int wo] : List Value).toArray below meth c H locs 0 0 (MQ below (QcW D Z (fun u : WS × (Nat → Int32) => u.1 = wrV dp nb nw na f sl rt lf wr dn (nI b9) (nI i9) wo) (fun u => some (.int u.1.1)) (fun u => xw cA h d w nb nw na u.1.2.1 u.2 u.1.2.2.1 u.1.2.2.2.1 u.1.2.2.2.2.1 u.1.2.2.2.2.2.1 u.1.2.2.2.2.2.2)) ([.ref h, .int (nI b9), .int (nI i9), .int wo] : List Value).toArray s 0 0 Z) (F0 m 77 ls []) := by
            intro n
            induction n with
            | zero =>
              intro k n9 st hk9 ht9 hf9 ha9 hmu
              exact absurd hmu (Nat.not_lt_zero _)
            | succ n ih =>
              intro k n9 st hk9 ht9 hf9 ha9 hmu H locs hP hD hS ls hl
              refine lv_iload hx hb d_x_write_77 (lv_at hl 0 rfl) ?_
              refine lv_aload_n hx hb d_x_write_79 rfl (lv_at hl 2 rfl) ?_
              refine gx hx hb hts hown hK hP rfl 0 22 (by decide) lk_x_blocks (v := .int (nI nb)) rfl d_x_write_80 ?_
              refine lv_aload_n hx hb d_x_write_83 rfl (lv_at hl 2 rfl) ?_
              refine gx hx hb hts hown hK hP rfl 1 25 (by decide) lk_x_words (v := .int (nI nw)) rfl d_x_write_84 ?_
              refine hs_imul hx hb d_x_write_87 ?_
              refine hs_ge (tgt := 150) hx hb d_x_write_88 (by decide) (by omega) (by omega) (fun h5 => ?_) (fun h5 => ?_)
              · skip
                have e9 : n9 = 0 := by omega
                subst e9
                have hst : st = R1 := by
                  rcases hb7 : st.1 with _ | _
                  · exact hf9 hb7
                  · exact ht9 hb7
                refine lv_iconst (v := nI 2) hx hb d_x_write_150 (by decide) ?_
                refine lv_aload_n hx hb d_x_write_151 rfl (lv_at hl 2 rfl) ?_
                refine gx hx hb hts hown hK hP rfl 0 22 (by decide) lk_x_blocks (v := .int (nI nb)) rfl d_x_write_152 ?_
                refine hs_imul hx hb d_x_write_155 ?_
                refine lv_iconst (v := nI 1) hx hb d_x_write_156 (by decide) ?_
                refine hs_isub hx hb (by omega) d_x_write_157 ?_
                refine lv_istore (lv' := [(8, .int (nI ((2 * nb) - 1))), (7, .int (bI st.1)), (0, .ref h), (1, .int (nI b9)), (2, .int (nI i9)), (3, .int wo), (4, .int (uN (nwA f na sl nw b9 i9 wo) nb nw b9 dp)), (5, .int (nI (1 - sl))), (6, .int (nI (na * sl + (nw * b9 + i9))))]) hx hb d_x_write_158 hl (by decide) rfl (fun ls hl => ?_)
                exact loopN (2 * nb - 1 + 1) (2 * nb - 1) st (by omega) (fun q => by rw [hR2, ← hst, if_pos q]) (fun q => by rw [hR2, ← hst, if_neg (by rw [q]; decide)]) ha9 (Nat.lt_succ_self _) _ _ hP hD hS ls (lv_sub hl [0, 1, 2, 3, 4, 5, 6, 7, 8] rfl)
              · skip
                refine lv_iload hx hb d_x_write_91 (lv_at hl 1 rfl) ?_
                refine hs_ifeqB (tgt := 150) hx hb d_x_write_93 (by decide) (fun h6 => ?_) (fun h6 => ?_)
                · skip
                  have hst : st = R1 := hf9 h6
                  refine lv_iconst (v := nI 2) hx hb d_x_write_150 (by decide) ?_
                  refine lv_aload_n hx hb d_x_write_151 rfl (lv_at hl 2 rfl) ?_
                  refine gx hx hb hts hown hK hP rfl 0 22 (by decide) lk_x_blocks (v := .int (nI nb)) rfl d_x_write_152 ?_
                  refine hs_imul hx hb d_x_write_155 ?_
                  refine lv_iconst (v := nI 1) hx hb d_x_write_156 (by decide) ?_
                  refine hs_isub hx hb (by omega) d_x_write_157 ?_
                  refine lv_istore (lv' := [(8, .int (nI ((2 * nb) - 1))), (7, .int (bI st.1)), (0, .ref h), (1, .int (nI b9)), (2, .int (nI i9)), (3, .int wo), (4, .int (uN (nwA f na sl nw b9 i9 wo) nb nw b9 dp)), (5, .int (nI (1 - sl))), (6, .int (nI (na * sl + (nw * b9 + i9))))]) hx hb d_x_write_158 hl (by decide) rfl (fun ls hl => ?_)
                  exact loopN (2 * nb - 1 + 1) (2 * nb - 1) st (by omega) (fun q => by rw [hR2, ← hst, if_pos q]) (fun q => by rw [hR2, ← hst, if_neg (by rw [q]; decide)]) ha9 (Nat.lt_succ_self _) _ _ hP hD hS ls (lv_sub hl [0, 1, 2, 3, 4, 5, 6, 7, 8] rfl)
                · skip
                  obtain ⟨n9, rfl⟩ : ∃ z, n9 = z + 1 := ⟨n9 - 1, by omega⟩
                  have hR9 := ht9 h6
                  have hka : k < na := by omega
                  have hc9 := at_cell (sl := 1 - sl) hG (by omega) hka
                  have hc8 := at_cell (sl := sl) hG hsl hka
                  refine lv_aload_n hx hb d_x_write_96 rfl (lv_at hl 2 rfl) ?_
                  refine gx hx hb hts hown hK hP rfl 2 28 (by decide) lk_x_area (v := .int (nI na)) rfl d_x_write_97 ?_
                  refine lv_aload_n hx hb d_x_write_100 rfl (lv_at hl 2 rfl) ?_
                  refine gx hx hb hts hown hK hP rfl 5 58 (by decide) lk_x_slot (v := .int (nI sl)) rfl d_x_write_101 ?_
                  refine hs_imul hx hb d_x_write_104 ?_
                  refine lv_iload hx hb d_x_write_105 (lv_at hl 0 rfl) ?_
                  refine hs_iadd hx hb d_x_write_107 ?_
                  refine lv_istore (lv' := [(9, .int (nI ((na * sl) + k))), (8, .int (nI k)), (7, .int (bI st.1)), (0, .ref h), (1, .int (nI b9)), (2, .int (nI i9)), (3, .int wo), (4, .int (uN (nwA f na sl nw b9 i9 wo) nb nw b9 dp)), (5, .int (nI (1 - sl))), (6, .int (nI (na * sl + (nw * b9 + i9))))]) hx hb d_x_write_108 hl (by decide) rfl (fun ls hl => ?_)
                  refine lv_aload_n hx hb d_x_write_110 rfl (lv_at hl 3 rfl) ?_
                  refine lv_aload_n hx hb d_x_write_111 rfl (lv_at hl 3 rfl) ?_
                  refine gx hx hb hts hown hK hP rfl 2 28 (by decide) lk_x_area (v := .int (nI na)) rfl d_x_write_112 ?_
                  refine lv_iload hx hb d_x_write_115 (lv_at hl 8 rfl) ?_
                  refine hs_imul hx hb d_x_write_117 ?_
                  refine lv_iload hx hb d_x_write_118 (lv_at hl 1 rfl) ?_
                  refine hs_iadd hx hb d_x_write_120 ?_
                  refine lv_iload hx hb d_x_write_121 (lv_at hl 0 rfl) ?_
                  refine lv_iload hx hb d_x_write_123 (lv_at hl 9 rfl) ?_
                  refine hs_ne (tgt := 132) hx hb d_x_write_125 (by decide) (by omega) (by omega) (fun h7 => ?_) (fun h7 => ?_)
                  · skip
                    refine lv_aload_n hx hb d_x_write_132 rfl (lv_at hl 3 rfl) ?_
                    refine gx hx hb hts hown hK hP rfl 3 31 (by decide) lk_x_disk (v := .ref d) rfl d_x_write_133 ?_
                    refine lv_iload hx hb d_x_write_136 (lv_at hl 0 rfl) ?_
                    refine hs_iald hx hb hK hP 1 0 rfl rfl (i := (na * sl) + k) hc8 (by omega) d_x_write_138 ?_
                    refine hs_wv (As := [.int (nI ((na * (1 - sl)) + k)), .int (st.2.1 ((na * sl) + k))]) (rest := []) (wr := []) [0, 1, 2] [] S9 (c_x_put l D cA h d w nb nw na st.2.1 g8 sl rt st.2.2.1 st.2.2.2.1 st.2.2.2.2 H.size (na * (1 - sl) + k) (st.2.1 (na * sl + k)) (by omega) hc9) k_x_x_put h_x_put rfl rfl ⟨Nat.le_of_ble_eq_true rfl, Nat.le_of_ble_eq_true rfl⟩ hK hP hD hS hA rfl rfl rfl rfl (by decide) rfl rfl rfl rfl hl.1 rfl (Nat.le_of_ble_eq_true rfl) d_x_write_139 ⟨Nat.zero_le _, Nat.zero_le _⟩ (fun u H locs hp hP hD hS => ?_)
                    have hP : va_P D classes (xw cA h d w nb nw na u.2.1 g8 sl rt u.2.2.1 u.2.2.2.1 u.2.2.2.2) H := hP
                    have hD : va_D Z (xw cA h d w nb nw na u.2.1 g8 sl rt u.2.2.1 u.2.2.2.1 u.2.2.2.2) := hD
                    refine W.eq (g2 := F0 m 142 ls [.int (bI u.1)]) rfl ?_
                    refine lv_istore (lv' := [(7, .int (bI u.1)), (9, .int (nI ((na * sl) + k))), (8, .int (nI k)), (0, .ref h), (1, .int (nI b9)), (2, .int (nI i9)), (3, .int wo), (4, .int (uN (nwA f na sl nw b9 i9 wo) nb nw b9 dp)), (5, .int (nI (1 - sl))), (6, .int (nI (na * sl + (nw * b9 + i9))))]) hx hb d_x_write_142 hl (by decide) rfl (fun ls hl => ?_)
                    refine lv_iinc (v := nI (k + 1)) (lv' := [(8, .int (nI (k + 1))), (7, .int (bI u.1)), (9, .int (nI ((na * sl) + k))), (0, .ref h), (1, .int (nI b9)), (2, .int (nI i9)), (3, .int wo), (4, .int (uN (nwA f na sl nw b9 i9 wo) nb nw b9 dp)), (5, .int (nI (1 - sl))), (6, .int (nI (na * sl + (nw * b9 + i9))))]) hx hb d_x_write_144 hl (k := 2) rfl (nI_add _ _) (by decide) rfl (fun ls hl => ?_)
                    refine lv_goto (tgt := 77) hx hb d_x_write_147 (by decide) ?_
                    have hu : u = ptS (na * (1 - sl) + k) ((gA (nwA f na sl nw b9 i9 wo) dp nb nw b9) k) st := by rw [hp, gA_word hnb hb9 h5, ha9 _ hka, show (nwA f na sl nw b9 i9 wo) k = f (na * sl + k) from pk_un (by omega)]; rfl
                    rw [rW, ← hu] at hR9
                    exact ih (k + 1) n9 u (by omega) (fun q => by rw [if_pos q] at hR9; exact hR9) (fun q => by rw [if_neg (by rw [q]; decide)] at hR9; exact hR9) (fun x hx => by rw [hu]; exact (pt_keep (ne_area hsl hx hka)).trans (ha9 x hx)) (by omega) _ _ hP hD hS ls (lv_sub hl [0, 1, 3, 4, 5, 6, 7, 8, 9] rfl)
                  · skip
                    refine lv_iload_n hx hb d_x_write_128 rfl (lv_at hl 6 rfl) ?_
                    refine lv_goto (tgt := 139) hx hb d_x_write_129 (by decide) ?_
                    refine hs_wv (As := [.int (nI ((na * (1 - sl)) + k)), .int wo]) (rest := []) (wr := []) [0, 1, 2] [] S9 (c_x_put l D cA h d w nb nw na st.2.1 g8 sl rt st.2.2.1 st.2.2.2.1 st.2.2.2.2 H.size (na * (1 - sl) + k) (wo) (by omega) hc9) k_x_x_put h_x_put rfl rfl ⟨Nat.le_of_ble_eq_true rfl, Nat.le_of_ble_eq_true rfl⟩ hK hP hD hS hA rfl rfl rfl rfl (by decide) rfl rfl rfl rfl hl.1 rfl (Nat.le_of_ble_eq_true rfl) d_x_write_139 ⟨Nat.zero_le _, Nat.zero_le _⟩ (fun u H locs hp hP hD hS => ?_)
                    have hP : va_P D classes (xw cA h d w nb nw na u.2.1 g8 sl rt u.2.2.1 u.2.2.2.1 u.2.2.2.2) H := hP
                    have hD : va_D Z (xw cA h d w nb nw na u.2.1 g8 sl rt u.2.2.1 u.2.2.2.1 u.2.2.2.2) := hD
                    refine W.eq (g2 := F0 m 142 ls [.int (bI u.1)]) rfl ?_
                    refine lv_istore (lv' := [(7, .int (bI u.1)), (9, .int (nI ((na * sl) + k))), (8, .int (nI k)), (0, .ref h), (1, .int (nI b9)), (2, .int (nI i9)), (3, .int wo), (4, .int (uN (nwA f na sl nw b9 i9 wo) nb nw b9 dp)), (5, .int (nI (1 - sl))), (6, .int (nI (na * sl + (nw * b9 + i9))))]) hx hb d_x_write_142 hl (by decide) rfl (fun ls hl => ?_)
                    refine lv_iinc (v := nI (k + 1)) (lv' := [(8, .int (nI (k + 1))), (7, .int (bI u.1)), (9, .int (nI ((na * sl) + k))), (0, .ref h), (1, .int (nI b9)), (2, .int (nI i9)), (3, .int wo), (4, .int (uN (nwA f na sl nw b9 i9 wo) nb nw b9 dp)), (5, .int (nI (1 - sl))), (6, .int (nI (na * sl + (nw * b9 + i9))))]) hx hb d_x_write_144 hl (k := 2) rfl (nI_add _ _) (by decide) rfl (fun ls hl => ?_)
                    refine lv_goto (tgt := 77) hx hb d_x_write_147 (by decide) ?_
                    have hu : u = ptS (na * (1 - sl) + k) ((gA (nwA f na sl nw b9 i9 wo) dp nb nw b9) k) st := by rw [hp, gA_word hnb hb9 h5, show (nwA f na sl nw b9 i9 wo) k = wo from by rw [show k = nw * b9 + i9 by omega]; exact pk_us]; rfl
                    rw [rW, ← hu] at hR9
                    exact ih (k + 1) n9 u (by omega) (fun q => by rw [if_pos q] at hR9; exact hR9) (fun q => by rw [if_neg (by rw [q]; decide)] at hR9; exact hR9) (fun x hx => by rw [hu]; exact (pt_keep (ne_area hsl hx hka)).trans (ha9 x hx)) (by omega) _ _ hP hD hS ls (lv_sub hl [0, 1, 3, 4, 5, 6, 7, 8, 9] rfl)
          exact loopW (nb * nw + 1) 0 (nb * nw) (true, f, lf, wr, dn) (by omega) (fun _ => hR1.symm) (fun q => absurd (show true = false from q) (by decide)) (fun _ _ => rfl) (Nat.lt_succ_self _) _ _ hP hD hS ls (lv_sub hl [0, 1, 5, 6, 7, 8, 4, 3, 2] rfl)
        · skip
          refine lv_bipush (v := -3) hx hb d_x_write_34 (by decide) ?_
          exact W.iret (v := (-3)) hx hb hr (fun t ht hW => ⟨⟨((-3, f, sl, rt, lf, wr, dn), u), (wrV_no (by omega) (by omega) hb9 hi9 h2 h3 h4).symm, rfl, by rw [ht]; exact hP, hD⟩, hS.F ht⟩) hS.2.2 d_x_write_36
      · skip
        refine lv_bipush (v := -4) hx hb d_x_write_23 (by decide) ?_
        exact W.iret (v := (-4)) hx hb hr (fun t ht hW => ⟨⟨((-4, f, sl, rt, lf, wr, dn), g), (by rw [wrV_dn ⟨hv9, h2⟩ h3]), rfl, by rw [ht]; exact hP, hD⟩, hS.F ht⟩) hS.2.2 d_x_write_25
    · skip
      refine lv_bipush (v := -2) hx hb d_x_write_13 (by decide) ?_
      exact W.iret (v := (-2)) hx hb hr (fun t ht hW => ⟨⟨((-2, f, sl, rt, lf, wr, dn), g), (by rw [wrV_bad (fun q => h2 q.2)]), rfl, by rw [ht]; exact hP, hD⟩, hS.F ht⟩) hS.2.2 d_x_write_15
end
section
/-- the fresh area: node k out of what lies above, n nodes from the top, all of them -/
def mkV (a : Nat → Int32) (nb nw k : Nat) : Int32 := if nb ≤ k then fo (fun _ => 0) (nI (k - nb)) nw else mx (a (nb * nw + 2 * k - 1)) (a (nb * nw + (2 * k + 1) - 1))
def mkA (nb nw : Nat) : Nat → Nat → Int32
  | 0 => fun _ => 0
  | n + 1 => upd (mkA nb nw n) (nb * nw + (2 * nb - 1 - n) - 1) (mkV (mkA nb nw n) nb nw (2 * nb - 1 - n))
def mkF (nb nw : Nat) : Nat → Int32 := mkA nb nw (2 * nb - 1)
theorem mkA_zero {nb nw x na : Nat} (hna : na + 1 = nb * nw + 2 * nb) (hx : x < nb * nw ∨ na ≤ x) : ∀ n : Nat, n ≤ 2 * nb - 1 → mkA nb nw n x = 0
  | 0, _ => rfl
  | n + 1, h => by
    show upd (mkA nb nw n) (nb * nw + (2 * nb - 1 - n) - 1) (mkV (mkA nb nw n) nb nw (2 * nb - 1 - n)) x = 0
    rw [pk_un (by omega)]
    exact mkA_zero hna hx n (by omega)
theorem mkA_step {nb nw n k : Nat} (hk : k + n = 2 * nb - 1) : mkA nb nw (n + 1) = upd (mkA nb nw n) (nb * nw + k - 1) (mkV (mkA nb nw n) nb nw k) := by
  show upd (mkA nb nw n) (nb * nw + (2 * nb - 1 - n) - 1) (mkV (mkA nb nw n) nb nw (2 * nb - 1 - n)) = _
  rw [show 2 * nb - 1 - n = k by omega]
theorem upd_congr {f g : Nat → Int32} {k N : Nat} {v w : Int32} (h : ∀ j, j < N → f j = g j) (hv : v = w) : ∀ j, j < N → upd f k v j = upd g k w j := by
  intro j hj
  by_cases e : j = k
  · subst e
    rw [pk_us, pk_us, hv]
  · rw [pk_un e, pk_un e]
    exact h j hj
theorem mk_leaf {f : Nat → Int32} {dp nb nw na sl b n : Nat} (hG : hsG dp nb nw na) (hs : sl ≤ 1) (hb : b < nb) (hn : n ≤ 2 * nb - 1) (hf : ∀ j, j < 2 * na → f j = mkA nb nw n j) : fo (fun i => if nI i = -1 then nI 0 else f (na * sl + (nw * b + i))) (nI b) nw = fo (fun _ => 0) (nI b) nw := by
  refine fo_congr _ (fun i hi => ?_)
  have h9 := hG.fits
  have hw := at_word hG hs hb hi
  rw [if_neg (nI_m1 (by omega)), hf _ hw.2]
  refine mkA_zero h9.2.2.2.2.2.2.1 ?_ n hn
  rcases (show sl = 0 ∨ sl = 1 by omega) with rfl | rfl
  · left; simp; omega
  · right; simp
end
section
set_option maxHeartbeats 4000000 in
set_option maxRecDepth 100000 in
/-- make -/
theorem c_x_make (l : Launch) (D : va_G) (cA : ClassId) (h d w nb nw na : Nat) (f g : Nat → Int32) (sl : Nat) (rt lf wr : Int32) (dn : Bool) (sz : Nat) (dp : Nat) (hG : hsG dp nb nw na) (hsl : sl ≤ 1) : Met l y_x_make w_x_make rq3 (PcW D [(cA, .int)] (xw cA h d w nb nw na f g sl rt lf wr dn) sz [.ref h]) (QcW D (va_A (xw cA h d w nb nw na f g sl rt lf wr dn) sz) (fun u : Nat → Int32 => ∀ j, j < 2 * na → u j = mkF nb nw j) (fun _ => none) (fun u => xw cA h d w nb nw na u g 0 (mkF nb nw (nb * nw)) (-1) 0 false)) 0 0 (va_A (xw cA h d w nb nw na f g sl rt lf wr dn) sz) := by
  refine Met.ofW (cc := b_x_make) (maxL := 2) (ret := none) (by decide) rfl ?_
  intro p e s m args below meth c s₁ B9 hml hv
  obtain ⟨rfl, hsz, hP, hK, hD0⟩ := hv
  have hx := B9.exec
  have hb := B9.bytes
  have hr := B9.returns
  have hts0 := atoms_spec (ws := w_x_make) B9.pre
  have hts : ∀ w ∈ gw, w.before _ s = true := fun w hw => hts0 w (List.mem_cons_of_mem _ hw)
  have hown : s.vm.findClass R_x = some m.cls := findClass_of_methodNamed B9.named
  have hlocks := B9.notSynchronized
  have S9 : CallFix p m c b_x_make 2 s _ gw R_x := ⟨hx, hb, hml, hown, hts⟩
  subst hsz
  have hD := hD0.self (sz := s.heap.size)
  generalize hAe : va_A (xw cA h d w nb nw na f g sl rt lf wr dn) s.heap.size = Z at hD ⊢
  have hA : ∀ q : Nat, s.heap.size ≤ q → Z q := fun q h => by rw [← hAe]; exact Or.inr h
  have hS : va_S Z s.heap s.heap [] := va_S.rf
  have hl := lv_entry ([.ref h]) (n := 2) (Nat.le_of_ble_eq_true rfl)
  rw [lg_entry_eq]
  generalize (lg_sl ([.ref h]) ++ List.replicate (2 - (lg_sl ([.ref h])).length) Slot.unset).toArray = ls at hl ⊢
  have hl : lv_has ls 2 [(0, .ref h)] := hl
  have h9 := hG.fits
  refine lv_iconst (v := nI 0) hx hb d_x_make_0 (by decide) ?_
  refine lv_istore_n (lv' := [(1, .int (nI 0)), (0, .ref h)]) hx hb d_x_make_1 rfl hl (by decide) rfl (fun ls hl => ?_)
  have loop2 : ∀ (n : Nat) (k n9 : Nat) (f9 : Nat → Int32), k + n9 = 2 * nb - 1 → (∀ j, j < 2 * na → f9 j = mkA nb nw n9 j) → k < n → ∀ (H : Heap) (locs : List Loc), va_P D classes (xw cA h d w nb nw na f9 g sl rt lf wr dn) H → va_D Z (xw cA h d w nb nw na f9 g sl rt lf wr dn) → va_S Z s.heap H locs → ∀ (ls : Array Slot), lv_has ls 2 [(1, .int (nI k)), (0, .ref h)] → W p l e (headSpec w_x_make rq3).room s m ([.ref h] : List Value).toArray below meth c H locs 0 0 (MQ below (QcW D Z (fun u : Nat → Int32 => ∀ j, j < 2 * na → u j = mkF nb nw j) (fun _ => none) (fun u => xw cA h d w nb nw na u g 0 (mkF nb nw (nb * nw)) (-1) 0 false)) ([.ref h] : List Value).toArray s 0 0 Z) (F0 m 33 ls []) := by
    intro n
    induction n with
    | zero =>
      intro k n9 f9 hk9 hf9 hmu
      exact absurd hmu (Nat.not_lt_zero _)
    | succ n ih =>
      intro k n9 f9 hk9 hf9 hmu H locs hP hD hS ls hl
      refine lv_iload_n hx hb d_x_make_33 rfl (lv_at hl 0 rfl) ?_
      refine hs_ifle (tgt := 108) hx hb d_x_make_34 (by decide) (by omega) (fun h1 => ?_) (fun h1 => ?_)
      · skip
        subst h1
        have e9 : n9 = 2 * nb - 1 := by omega
        subst e9
        refine lv_aload_n hx hb d_x_make_108 rfl (lv_at hl 1 rfl) ?_
        refine lv_iconst (v := nI 0) hx hb d_x_make_109 (by decide) ?_
        refine px hx hb hts hown hK hP hD hS rfl 5 58 (by decide) lk_x_slot rfl (ty := .int) (v := .int (nI 0)) rfl rfl rfl (Nat.le_of_ble_eq_true rfl) d_x_make_110 (fun H locs hP hD hS => ?_)
        have hP : va_P D classes (xw cA h d w nb nw na f9 g 0 rt lf wr dn) H := hP
        have hD : va_D Z (xw cA h d w nb nw na f9 g 0 rt lf wr dn) := hD
        refine lv_aload_n hx hb d_x_make_113 rfl (lv_at hl 1 rfl) ?_
        refine lv_aload_n hx hb d_x_make_114 rfl (lv_at hl 1 rfl) ?_
        refine gx hx hb hts hown hK hP rfl 3 31 (by decide) lk_x_disk (v := .ref d) rfl d_x_make_115 ?_
        refine lv_aload_n hx hb d_x_make_118 rfl (lv_at hl 1 rfl) ?_
        refine lv_iconst (v := nI 0) hx hb d_x_make_119 (by decide) ?_
        refine lv_iconst (v := nI 1) hx hb d_x_make_120 (by decide) ?_
        refine hs_rv (As := [.int (nI 0), .int (nI 1)]) (rest := [.ref d, .ref h]) S9 (c_x_nodeAt l D cA h d w nb nw na f9 g 0 rt lf wr dn 0 1 (Nat.le_refl 1)) k_x_x_nodeAt h_x_nodeAt rfl rfl ⟨Nat.le_of_ble_eq_true rfl, Nat.le_of_ble_eq_true rfl⟩ hK hP rfl rfl rfl hl.1 rfl (Nat.le_of_ble_eq_true rfl) d_x_make_121 ⟨Nat.zero_le _, Nat.zero_le _⟩ ?_
        refine hs_to (y := nI (nb * nw)) (congrArg nI (by omega)) ?_
        refine hs_iald hx hb hK hP 1 0 rfl rfl (i := nb * nw) (by omega) (by omega) d_x_make_124 ?_
        refine hs_to (y := mkF nb nw (nb * nw)) (hf9 _ (by omega)) ?_
        refine px hx hb hts hown hK hP hD hS rfl 6 61 (by decide) lk_x_rootHash rfl (ty := .int) (v := .int (mkF nb nw (nb * nw))) rfl rfl rfl (Nat.le_of_ble_eq_true rfl) d_x_make_125 (fun H locs hP hD hS => ?_)
        have hP : va_P D classes (xw cA h d w nb nw na f9 g 0 (mkF nb nw (nb * nw)) lf wr dn) H := hP
        have hD : va_D Z (xw cA h d w nb nw na f9 g 0 (mkF nb nw (nb * nw)) lf wr dn) := hD
        refine lv_aload_n hx hb d_x_make_128 rfl (lv_at hl 1 rfl) ?_
        refine lv_iconst (v := -1) hx hb d_x_make_129 (by decide) ?_
        refine px hx hb hts hown hK hP hD hS rfl 7 9 (by decide) lk_x_writesLeft rfl (ty := .int) (v := .int (-1)) rfl rfl rfl (Nat.le_of_ble_eq_true rfl) d_x_make_130 (fun H locs hP hD hS => ?_)
        have hP : va_P D classes (xw cA h d w nb nw na f9 g 0 (mkF nb nw (nb * nw)) (-1) wr dn) H := hP
        have hD : va_D Z (xw cA h d w nb nw na f9 g 0 (mkF nb nw (nb * nw)) (-1) wr dn) := hD
        refine lv_aload_n hx hb d_x_make_133 rfl (lv_at hl 1 rfl) ?_
        refine lv_iconst (v := nI 0) hx hb d_x_make_134 (by decide) ?_
        refine hs_to (y := 0) nI_0 ?_
        refine px hx hb hts hown hK hP hD hS rfl 8 64 (by decide) lk_x_written rfl (ty := .int) (v := .int 0) rfl rfl rfl (Nat.le_of_ble_eq_true rfl) d_x_make_135 (fun H locs hP hD hS => ?_)
        have hP : va_P D classes (xw cA h d w nb nw na f9 g 0 (mkF nb nw (nb * nw)) (-1) 0 dn) H := hP
        have hD : va_D Z (xw cA h d w nb nw na f9 g 0 (mkF nb nw (nb * nw)) (-1) 0 dn) := hD
        refine lv_aload_n hx hb d_x_make_138 rfl (lv_at hl 1 rfl) ?_
        refine lv_iconst (v := nI 0) hx hb d_x_make_139 (by decide) ?_
        refine hs_to (y := bI false) bI_ff ?_
        refine px hx hb hts hown hK hP hD hS rfl 9 67 (by decide) lk_x_isDown rfl (ty := .boolean) (v := .int (bI false)) rfl (bI_n _) (bI_f _) (Nat.le_of_ble_eq_true rfl) d_x_make_140 (fun H locs hP hD hS => ?_)
        have hP : va_P D classes (xw cA h d w nb nw na f9 g 0 (mkF nb nw (nb * nw)) (-1) 0 false) H := hP
        have hD : va_D Z (xw cA h d w nb nw na f9 g 0 (mkF nb nw (nb * nw)) (-1) 0 false) := hD
        exact W.vret hx hb hr (fun t ht hW => ⟨⟨f9, hf9, rfl, by rw [ht]; exact hP, hD⟩, hS.F ht⟩) hS.2.2 d_x_make_143
      · skip
        refine lv_aload_n hx hb d_x_make_37 rfl (lv_at hl 1 rfl) ?_
        refine gx hx hb hts hown hK hP rfl 3 31 (by decide) lk_x_disk (v := .ref d) rfl d_x_make_38 ?_
        refine lv_aload_n hx hb d_x_make_41 rfl (lv_at hl 1 rfl) ?_
        refine lv_iconst (v := nI 0) hx hb d_x_make_42 (by decide) ?_
        refine lv_iload_n hx hb d_x_make_43 rfl (lv_at hl 0 rfl) ?_
        refine hs_rv (As := [.int (nI 0), .int (nI k)]) (rest := [.ref d]) S9 (c_x_nodeAt l D cA h d w nb nw na f9 g sl rt lf wr dn 0 k (by omega)) k_x_x_nodeAt h_x_nodeAt rfl rfl ⟨Nat.le_of_ble_eq_true rfl, Nat.le_of_ble_eq_true rfl⟩ hK hP rfl rfl rfl hl.1 rfl (Nat.le_of_ble_eq_true rfl) d_x_make_44 ⟨Nat.zero_le _, Nat.zero_le _⟩ ?_
        refine hs_to (y := nI (nb * nw + k - 1)) (congrArg nI (by omega)) ?_
        refine lv_iload_n hx hb d_x_make_47 rfl (lv_at hl 0 rfl) ?_
        refine lv_aload_n hx hb d_x_make_48 rfl (lv_at hl 1 rfl) ?_
        refine gx hx hb hts hown hK hP rfl 0 22 (by decide) lk_x_blocks (v := .int (nI nb)) rfl d_x_make_49 ?_
        refine hs_lt (tgt := 70) hx hb d_x_make_52 (by decide) (by omega) (by omega) (fun h2 => ?_) (fun h2 => ?_)
        · skip
          refine lv_aload_n hx hb d_x_make_70 rfl (lv_at hl 1 rfl) ?_
          refine gx hx hb hts hown hK hP rfl 3 31 (by decide) lk_x_disk (v := .ref d) rfl d_x_make_71 ?_
          refine lv_aload_n hx hb d_x_make_74 rfl (lv_at hl 1 rfl) ?_
          refine lv_iconst (v := nI 0) hx hb d_x_make_75 (by decide) ?_
          refine lv_iconst (v := nI 2) hx hb d_x_make_76 (by decide) ?_
          refine lv_iload_n hx hb d_x_make_77 rfl (lv_at hl 0 rfl) ?_
          refine hs_imul hx hb d_x_make_78 ?_
          refine hs_rv (As := [.int (nI 0), .int (nI (2 * k))]) (rest := [.ref d, .int (nI (nb * nw + k - 1)), .ref d]) S9 (c_x_nodeAt l D cA h d w nb nw na f9 g sl rt lf wr dn 0 (2 * k) (by omega)) k_x_x_nodeAt h_x_nodeAt rfl rfl ⟨Nat.le_of_ble_eq_true rfl, Nat.le_of_ble_eq_true rfl⟩ hK hP rfl rfl rfl hl.1 rfl (Nat.le_of_ble_eq_true rfl) d_x_make_79 ⟨Nat.zero_le _, Nat.zero_le _⟩ ?_
          refine hs_to (y := nI (nb * nw + 2 * k - 1)) (congrArg nI (by omega)) ?_
          refine hs_iald hx hb hK hP 1 0 rfl rfl (i := nb * nw + 2 * k - 1) (by omega) (by omega) d_x_make_82 ?_
          refine hs_to (y := (mkA nb nw n9 (nb * nw + 2 * k - 1))) (hf9 _ (by omega)) ?_
          refine lv_aload_n hx hb d_x_make_83 rfl (lv_at hl 1 rfl) ?_
          refine gx hx hb hts hown hK hP rfl 3 31 (by decide) lk_x_disk (v := .ref d) rfl d_x_make_84 ?_
          refine lv_aload_n hx hb d_x_make_87 rfl (lv_at hl 1 rfl) ?_
          refine lv_iconst (v := nI 0) hx hb d_x_make_88 (by decide) ?_
          refine lv_iconst (v := nI 2) hx hb d_x_make_89 (by decide) ?_
          refine lv_iload_n hx hb d_x_make_90 rfl (lv_at hl 0 rfl) ?_
          refine hs_imul hx hb d_x_make_91 ?_
          refine lv_iconst (v := nI 1) hx hb d_x_make_92 (by decide) ?_
          refine hs_iadd hx hb d_x_make_93 ?_
          refine hs_rv (As := [.int (nI 0), .int (nI ((2 * k) + 1))]) (rest := [.ref d, .int (mkA nb nw n9 (nb * nw + 2 * k - 1)), .int (nI (nb * nw + k - 1)), .ref d]) S9 (c_x_nodeAt l D cA h d w nb nw na f9 g sl rt lf wr dn 0 (2 * k + 1) (by omega)) k_x_x_nodeAt h_x_nodeAt rfl rfl ⟨Nat.le_of_ble_eq_true rfl, Nat.le_of_ble_eq_true rfl⟩ hK hP rfl rfl rfl hl.1 rfl (Nat.le_of_ble_eq_true rfl) d_x_make_94 ⟨Nat.zero_le _, Nat.zero_le _⟩ ?_
          refine hs_to (y := nI (nb * nw + (2 * k + 1) - 1)) (congrArg nI (by omega)) ?_
          refine hs_iald hx hb hK hP 1 0 rfl rfl (i := nb * nw + (2 * k + 1) - 1) (by omega) (by omega) d_x_make_97 ?_
          refine hs_to (y := (mkA nb nw n9 (nb * nw + (2 * k + 1) - 1))) (hf9 _ (by omega)) ?_
          refine hs_rs (As := [.int (mkA nb nw n9 (nb * nw + 2 * k - 1)), .int (mkA nb nw n9 (nb * nw + (2 * k + 1) - 1))]) (rest := [.int (nI (nb * nw + k - 1)), .ref d]) S9 (c_x_mix l (mkA nb nw n9 (nb * nw + 2 * k - 1)) (mkA nb nw n9 (nb * nw + (2 * k + 1) - 1))) k_x_x_mix h_x_mix rfl rfl ⟨Nat.le_of_ble_eq_true rfl, Nat.le_of_ble_eq_true rfl⟩ rfl hl.1 rfl (Nat.le_of_ble_eq_true rfl) d_x_make_98 ⟨Nat.zero_le _, Nat.zero_le _⟩ ?_
          refine hs_to (y := mkV (mkA nb nw n9) nb nw k) (by rw [mkV, if_neg (by omega)]) ?_
          refine hs_iast hx hb hK hP hD hS 1 0 rfl rfl (i := nb * nw + k - 1) (x := mkV (mkA nb nw n9) nb nw k) (by omega) (by omega) d_x_make_101 (fun H locs hP hD hS => ?_)
          have hP : va_P D classes (xw cA h d w nb nw na (upd f9 (nb * nw + k - 1) (mkV (mkA nb nw n9) nb nw k)) g sl rt lf wr dn) H := hP
          have hD : va_D Z (xw cA h d w nb nw na (upd f9 (nb * nw + k - 1) (mkV (mkA nb nw n9) nb nw k)) g sl rt lf wr dn) := hD
          refine lv_iinc (v := nI (k - 1)) (lv' := [(1, .int (nI (k - 1))), (0, .ref h)]) hx hb d_x_make_102 hl (k := 0) rfl (sb_m1 (by omega)) (by decide) rfl (fun ls hl => ?_)
          refine lv_goto (tgt := 33) hx hb d_x_make_105 (by decide) ?_
          exact ih (k - 1) (n9 + 1) (upd f9 (nb * nw + k - 1) (mkV (mkA nb nw n9) nb nw k)) (by omega) (by rw [mkA_step hk9]; exact upd_congr hf9 rfl) (by omega) _ _ hP hD hS ls (lv_sub hl [0, 1] rfl)
        · skip
          refine lv_aload_n hx hb d_x_make_55 rfl (lv_at hl 1 rfl) ?_
          refine lv_iload_n hx hb d_x_make_56 rfl (lv_at hl 0 rfl) ?_
          refine lv_aload_n hx hb d_x_make_57 rfl (lv_at hl 1 rfl) ?_
          refine gx hx hb hts hown hK hP rfl 0 22 (by decide) lk_x_blocks (v := .int (nI nb)) rfl d_x_make_58 ?_
          refine hs_isub hx hb (by omega) d_x_make_61 ?_
          refine lv_iconst (v := -1) hx hb d_x_make_62 (by decide) ?_
          refine lv_iconst (v := nI 0) hx hb d_x_make_63 (by decide) ?_
          refine hs_rv (As := [.int (nI (k - nb)), .int (-1), .int (nI 0)]) (rest := [.int (nI (nb * nw + k - 1)), .ref d]) S9 (c_x_leaf l D cA h d w nb nw na f9 g sl rt lf wr dn dp (k - nb) (-1) (nI 0) hG hsl (by omega)) k_x_x_leaf h_x_leaf rfl rfl ⟨Nat.le_of_ble_eq_true rfl, Nat.le_of_ble_eq_true rfl⟩ hK hP rfl rfl rfl hl.1 rfl (Nat.le_of_ble_eq_true rfl) d_x_make_64 ⟨Nat.zero_le _, Nat.zero_le _⟩ ?_
          refine hs_to (y := mkV (mkA nb nw n9) nb nw k) (by rw [mkV, if_pos (by omega)]; exact mk_leaf hG hsl (by omega) (by omega) hf9) ?_
          refine lv_goto (tgt := 101) hx hb d_x_make_67 (by decide) ?_
          refine hs_iast hx hb hK hP hD hS 1 0 rfl rfl (i := nb * nw + k - 1) (x := mkV (mkA nb nw n9) nb nw k) (by omega) (by omega) d_x_make_101 (fun H locs hP hD hS => ?_)
          have hP : va_P D classes (xw cA h d w nb nw na (upd f9 (nb * nw + k - 1) (mkV (mkA nb nw n9) nb nw k)) g sl rt lf wr dn) H := hP
          have hD : va_D Z (xw cA h d w nb nw na (upd f9 (nb * nw + k - 1) (mkV (mkA nb nw n9) nb nw k)) g sl rt lf wr dn) := hD
          refine lv_iinc (v := nI (k - 1)) (lv' := [(1, .int (nI (k - 1))), (0, .ref h)]) hx hb d_x_make_102 hl (k := 0) rfl (sb_m1 (by omega)) (by decide) rfl (fun ls hl => ?_)
          refine lv_goto (tgt := 33) hx hb d_x_make_105 (by decide) ?_
          exact ih (k - 1) (n9 + 1) (upd f9 (nb * nw + k - 1) (mkV (mkA nb nw n9) nb nw k)) (by omega) (by rw [mkA_step hk9]; exact upd_congr hf9 rfl) (by omega) _ _ hP hD hS ls (lv_sub hl [0, 1] rfl)
  have loop1 : ∀ (n : Nat) (k : Nat) (f9 : Nat → Int32), k ≤ 2 * na → (∀ j, j < k → f9 j = 0) → (2 * na - k) < n → ∀ (H : Heap) (locs : List Loc), va_P D classes (xw cA h d w nb nw na f9 g sl rt lf wr dn) H → va_D Z (xw cA h d w nb nw na f9 g sl rt lf wr dn) → va_S Z s.heap H locs → ∀ (ls : Array Slot), lv_has ls 2 [(1, .int (nI k)), (0, .ref h)] → W p l e (headSpec w_x_make rq3).room s m ([.ref h] : List Value).toArray below meth c H locs 0 0 (MQ below (QcW D Z (fun u : Nat → Int32 => ∀ j, j < 2 * na → u j = mkF nb nw j) (fun _ => none) (fun u => xw cA h d w nb nw na u g 0 (mkF nb nw (nb * nw)) (-1) 0 false)) ([.ref h] : List Value).toArray s 0 0 Z) (F0 m 2 ls []) := by
    intro n
    induction n with
    | zero =>
      intro k f9 hk9 hf9 hmu
      exact absurd hmu (Nat.not_lt_zero _)
    | succ n ih =>
      intro k f9 hk9 hf9 hmu H locs hP hD hS ls hl
      refine lv_iload_n hx hb d_x_make_2 rfl (lv_at hl 0 rfl) ?_
      refine lv_aload_n hx hb d_x_make_3 rfl (lv_at hl 1 rfl) ?_
      refine gx hx hb hts hown hK hP rfl 3 31 (by decide) lk_x_disk (v := .ref d) rfl d_x_make_4 ?_
      refine va_alen hx hb hK hP 1 0 rfl rfl (v := nI (2 * na)) rfl d_x_make_7 ?_
      refine hs_ge (tgt := 24) hx hb d_x_make_8 (by decide) (by omega) (by omega) (fun h1 => ?_) (fun h1 => ?_)
      · skip
        refine lv_iconst (v := nI 2) hx hb d_x_make_24 (by decide) ?_
        refine lv_aload_n hx hb d_x_make_25 rfl (lv_at hl 1 rfl) ?_
        refine gx hx hb hts hown hK hP rfl 0 22 (by decide) lk_x_blocks (v := .int (nI nb)) rfl d_x_make_26 ?_
        refine hs_imul hx hb d_x_make_29 ?_
        refine lv_iconst (v := nI 1) hx hb d_x_make_30 (by decide) ?_
        refine hs_isub hx hb (by omega) d_x_make_31 ?_
        refine lv_istore_n (lv' := [(1, .int (nI ((2 * nb) - 1))), (0, .ref h)]) hx hb d_x_make_32 rfl hl (by decide) rfl (fun ls hl => ?_)
        exact loop2 (2 * nb - 1 + 1) (2 * nb - 1) 0 f9 (by omega) (fun j hj => hf9 j (by omega)) (Nat.lt_succ_self _) _ _ hP hD hS ls (lv_sub hl [0, 1] rfl)
      · skip
        refine lv_aload_n hx hb d_x_make_11 rfl (lv_at hl 1 rfl) ?_
        refine gx hx hb hts hown hK hP rfl 3 31 (by decide) lk_x_disk (v := .ref d) rfl d_x_make_12 ?_
        refine lv_iload_n hx hb d_x_make_15 rfl (lv_at hl 0 rfl) ?_
        refine lv_iconst (v := nI 0) hx hb d_x_make_16 (by decide) ?_
        refine hs_iast hx hb hK hP hD hS 1 0 rfl rfl (i := k) (x := nI 0) (by omega) (by omega) d_x_make_17 (fun H locs hP hD hS => ?_)
        have hP : va_P D classes (xw cA h d w nb nw na (upd f9 k (nI 0)) g sl rt lf wr dn) H := hP
        have hD : va_D Z (xw cA h d w nb nw na (upd f9 k (nI 0)) g sl rt lf wr dn) := hD
        refine lv_iinc (v := nI (k + 1)) (lv' := [(1, .int (nI (k + 1))), (0, .ref h)]) hx hb d_x_make_18 hl (k := 0) rfl (nI_add _ _) (by decide) rfl (fun ls hl => ?_)
        refine lv_goto (tgt := 2) hx hb d_x_make_21 (by decide) ?_
        exact ih (k + 1) (upd f9 k (nI 0)) (by omega) (fun j hj => by rcases Nat.lt_or_ge j k with q | q; (· rw [pk_un (by omega)]; exact hf9 j q); (· rw [show j = k by omega, pk_us, nI_0])) (by omega) _ _ hP hD hS ls (lv_sub hl [0, 1] rfl)
  exact loop1 (2 * na + 1) 0 f (Nat.zero_le _) (fun j hj => absurd hj (Nat.not_lt_zero j)) (by omega) _ _ hP hD hS ls (lv_sub hl [0, 1] rfl)
set_option maxHeartbeats 4000000 in
set_option maxRecDepth 100000 in
/-- format -/
theorem c_x_format (l : Launch) (D : va_G) (cA : ClassId) (h d w nb nw na : Nat) (f g : Nat → Int32) (sl : Nat) (rt lf wr : Int32) (dn : Bool) (sz : Nat) (dp : Nat) (hG : hsG dp nb nw na) (hsl : sl ≤ 1) : Met l y_x_format w_x_format rq4 (PcW D [(cA, .int)] (xw cA h d w nb nw na f g sl rt lf wr dn) sz [.ref h]) (QcW D (va_A (xw cA h d w nb nw na f g sl rt lf wr dn) sz) (fun u : Nat → Int32 => ∀ j, j < 2 * na → u j = mkF nb nw j) (fun _ => some (.int 0)) (fun u => xw cA h d w nb nw na u g 0 (mkF nb nw (nb * nw)) (-1) 0 false)) 0 0 (va_A (xw cA h d w nb nw na f g sl rt lf wr dn) sz) := by
  refine Met.ofW (cc := b_x_format) (maxL := 1) (ret := (some .int)) (by decide) rfl ?_
  intro p e s m args below meth c s₁ B9 hml hv
  obtain ⟨rfl, hsz, hP, hK, hD0⟩ := hv
  have hx := B9.exec
  have hb := B9.bytes
  have hr := B9.returns
  have hts0 := atoms_spec (ws := w_x_format) B9.pre
  have hts : ∀ w ∈ gw, w.before _ s = true := fun w hw => hts0 w (List.mem_cons_of_mem _ hw)
  have hown : s.vm.findClass R_x = some m.cls := findClass_of_methodNamed B9.named
  have hlocks := B9.notSynchronized
  have S9 : CallFix p m c b_x_format 1 s _ gw R_x := ⟨hx, hb, hml, hown, hts⟩
  subst hsz
  have hD := hD0.self (sz := s.heap.size)
  generalize hAe : va_A (xw cA h d w nb nw na f g sl rt lf wr dn) s.heap.size = Z at hD ⊢
  have hA : ∀ q : Nat, s.heap.size ≤ q → Z q := fun q h => by rw [← hAe]; exact Or.inr h
  have hS : va_S Z s.heap s.heap [] := va_S.rf
  have hl := lv_entry ([.ref h]) (n := 1) (Nat.le_of_ble_eq_true rfl)
  rw [lg_entry_eq]
  generalize (lg_sl ([.ref h]) ++ List.replicate (1 - (lg_sl ([.ref h])).length) Slot.unset).toArray = ls at hl ⊢
  have hl : lv_has ls 1 [(0, .ref h)] := hl
  refine lv_aload_n hx hb d_x_format_0 rfl (lv_at hl 0 rfl) ?_
  refine hs_wv (As := []) (rest := []) (wr := []) [0, 1, 2] [] S9 (c_x_make l D cA h d w nb nw na f g sl rt lf wr dn s.heap.size dp hG hsl) k_x_x_make h_x_make rfl rfl ⟨Nat.le_of_ble_eq_true rfl, Nat.le_of_ble_eq_true rfl⟩ hK hP hD hS hA rfl rfl rfl rfl (by decide) rfl rfl rfl rfl hl.1 rfl (Nat.le_of_ble_eq_true rfl) d_x_format_1 ⟨Nat.zero_le _, Nat.zero_le _⟩ (fun u H locs hp hP hD hS => ?_)
  have hP : va_P D classes (xw cA h d w nb nw na u g 0 (mkF nb nw (nb * nw)) (-1) 0 false) H := hP
  have hD : va_D Z (xw cA h d w nb nw na u g 0 (mkF nb nw (nb * nw)) (-1) 0 false) := hD
  refine W.eq (g2 := F0 m 4 ls []) rfl ?_
  refine lv_iconst (v := nI 0) hx hb d_x_format_4 (by decide) ?_
  refine hs_to (y := 0) nI_0 ?_
  exact W.iret (v := 0) hx hb hr (fun t ht hW => ⟨⟨u, hp, rfl, by rw [ht]; exact hP, hD⟩, hS.F ht⟩) hS.2.2 d_x_format_5
end
section
theorem up_cong3 {u v : Nat → Int32} {k N : Nat} {h : Int32} (huv : ∀ q, 1 ≤ q → q < 2 * N → u q = v q) : ∀ t : Nat, (∀ j, j < t → 2 ≤ k / 2 ^ j ∧ k / 2 ^ j < 2 * N) → up u k h t = up v k h t
  | 0, _ => rfl
  | t + 1, h2 => by
    show stp u (k / 2 ^ t) (up u k h t) = stp v (k / 2 ^ t) (up v k h t)
    have := h2 t (by omega)
    rw [up_cong3 huv t (fun j hj => h2 j (by omega)), stp, stp]
    by_cases e : k / 2 ^ t % 2 = 0
    · rw [if_pos e, if_pos e, huv _ (by omega) (by omega)]
    · rw [if_neg e, if_neg e, huv _ (by omega) (by omega)]
section CNG
variable {dp nb nw na b : Nat} {a a' : Nat → Int32}
theorem wd_cong (hG : hsG dp nb nw na) (hb : b < nb) (h : ∀ j, j < na → a j = a' j) : ∀ i, i < nw → wdA a nw b i = wdA a' nw b i := fun i hi => by
  have h9 := hG.fits
  have := (at_word (sl := 0) hG (Nat.zero_le 1) hb hi).1
  exact h _ (by omega)
theorem uN_congr (hG : hsG dp nb nw na) (hb : b < nb) (h : ∀ j, j < na → a j = a' j) {t : Nat} (ht : t ≤ dp) : uN a nb nw b t = uN a' nb nw b t := by
  have h9 := hG.fits
  unfold uN
  rw [fo_congr nw (wd_cong hG hb h)]
  exact up_cong3 (N := nb) (fun q h1 h2 => h _ (by omega)) t (fun j hj => ⟨wk_two hG.2.1 hb ht hj, (wk_at hG.2.1 hb (by omega)).2.1⟩)
theorem okA_congr (hG : hsG dp nb nw na) (hb : b < nb) (h : ∀ j, j < na → a j = a' j) {rt : Int32} : okA a dp nb nw b rt = okA a' dp nb nw b rt := by
  have e : rtA a dp nb nw b = rtA a' dp nb nw b := uN_congr hG hb h (Nat.le_refl dp)
  rw [okA, okA, e, nng_congr nw (wd_cong hG hb h)]
theorem gA_congr (hG : hsG dp nb nw na) (hb : b < nb) (h : ∀ j, j < na → a j = a' j) : ∀ j, j < na → gA a dp nb nw b j = gA a' dp nb nw b j := by
  have key : ∀ n, n ≤ dp + 1 → ∀ j, j < na → gU a (nb * nw) (nb + b) (uN a nb nw b) n j = gU a' (nb * nw) (nb + b) (uN a' nb nw b) n j := by
    intro n
    induction n with
    | zero => intro _ j hj; exact h j hj
    | succ n ih =>
      intro hn
      exact upd_congr (ih (by omega)) (uN_congr hG hb h (by omega))
  exact key (dp + 1) (Nat.le_refl _)
end CNG
/-- the node beside one of the way isn't on the way, so far -/
theorem sib_off {k0 t q j : Nat} (h2 : 2 ≤ k0 / 2 ^ t) (hq : q = if k0 / 2 ^ t % 2 = 0 then k0 / 2 ^ t + 1 else k0 / 2 ^ t - 1) (hj : j < t + 1) : 1 ≤ k0 / 2 ^ j ∧ k0 / 2 ^ j ≠ q := by
  have hq2 : q ≠ k0 / 2 ^ t ∧ q ≤ k0 / 2 ^ t + 1 := by
    rw [hq]; split <;> omega
  rcases Nat.lt_or_ge j t with c | c
  · have h3 : k0 / 2 ^ t ≤ k0 / 2 ^ (j + 1) := Nat.div_le_div_left (Nat.pow_le_pow_right (by decide) c) (Nat.two_pow_pos _)
    rw [pow_half] at h3
    omega
  · have e : j = t := by omega
    subst e
    omega
theorem wk_end {dp nb b : Nat} (hn : nb = 2 ^ dp) (hb : b < nb) : (nb + b) / 2 ^ (dp + 1) = 0 := Nat.div_eq_of_lt (by rw [Nat.pow_succ, ← hn]; omega)
end
section
set_option maxHeartbeats 4000000 in
set_option maxRecDepth 100000 in
/-- mix -/
theorem c_m_mix (l : Launch) (a k : Int32)  : Met l y_m_mix w_m_mix rq0 (PcS [.int a, .int k]) (QcRead (mx a k)) 0 0 (fun _ => False) := by
  refine Met.ofW (cc := b_m_mix) (maxL := 3) (ret := (some .int)) (by decide) rfl ?_
  intro p e s m args below meth c s₁ B9 hml hv
  obtain ⟨rfl, -⟩ := hv
  have hx := B9.exec
  have hb := B9.bytes
  have hr := B9.returns
  have hts0 := atoms_spec (ws := w_m_mix) B9.pre
  have hts : ∀ w ∈ gw, w.before _ s = true := fun w hw => hts0 w (List.mem_cons_of_mem _ hw)
  have hown : s.vm.findClass R_m = some m.cls := findClass_of_methodNamed B9.named
  have hlocks := B9.notSynchronized
  have S9 : CallFix p m c b_m_mix 3 s _ gw R_m := ⟨hx, hb, hml, hown, hts⟩
  have hl := lv_entry ([.int a, .int k]) (n := 3) (Nat.le_of_ble_eq_true rfl)
  rw [lg_entry_eq]
  generalize (lg_sl ([.int a, .int k]) ++ List.replicate (3 - (lg_sl ([.int a, .int k])).length) Slot.unset).toArray = ls at hl ⊢
  have hl : lv_has ls 3 [(0, .int a), (1, .int k)] := hl
  refine lv_iload_n hx hb d_m_mix_0 rfl (lv_at hl 0 rfl) ?_
  refine lv_iload_n hx hb d_m_mix_1 rfl (lv_at hl 1 rfl) ?_
  refine lv_bipush (v := nI 13) hx hb d_m_mix_2 (by decide) ?_
  refine lv_ishl hx hb d_m_mix_4 ?_
  refine lv_iload_n hx hb d_m_mix_5 rfl (lv_at hl 1 rfl) ?_
  refine lv_bipush (v := nI 19) hx hb d_m_mix_6 (by decide) ?_
  refine lv_iushr hx hb d_m_mix_8 rfl ?_
  refine hs_to (y := us k 19) rfl ?_
  refine lv_ior hx hb d_m_mix_9 ?_
  refine lv_ixor hx hb d_m_mix_10 ?_
  refine lv_ldc (v := 739982445) hx hb hown (hts (.constant R_m 36 739982445) (by decide +kernel)) d_m_mix_11 ?_
  refine lv_imul hx hb d_m_mix_13 ?_
  refine hs_to (y := mx0 a k) rfl ?_
  refine lv_istore_n (lv' := [(2, .int (mx0 a k)), (0, .int a), (1, .int k)]) hx hb d_m_mix_14 rfl hl (by decide) rfl (fun ls hl => ?_)
  refine lv_iload_n hx hb d_m_mix_15 rfl (lv_at hl 0 rfl) ?_
  refine lv_iload_n hx hb d_m_mix_16 rfl (lv_at hl 0 rfl) ?_
  refine lv_bipush (v := nI 15) hx hb d_m_mix_17 (by decide) ?_
  refine lv_iushr hx hb d_m_mix_19 rfl ?_
  refine lv_ixor hx hb d_m_mix_20 ?_
  refine hs_to (y := mx1 (mx0 a k)) rfl ?_
  refine lv_istore_n (lv' := [(2, .int (mx1 (mx0 a k))), (0, .int a), (1, .int k)]) hx hb d_m_mix_21 rfl hl (by decide) rfl (fun ls hl => ?_)
  refine lv_iload_n hx hb d_m_mix_22 rfl (lv_at hl 0 rfl) ?_
  refine lv_iload_n hx hb d_m_mix_23 rfl (lv_at hl 2 rfl) ?_
  refine lv_iadd hx hb d_m_mix_24 ?_
  refine lv_ldc (v := 695872825) hx hb hown (hts (.constant R_m 37 695872825) (by decide +kernel)) d_m_mix_25 ?_
  refine lv_imul hx hb d_m_mix_27 ?_
  refine hs_to (y := mx2 (mx1 (mx0 a k)) k) rfl ?_
  refine lv_istore_n (lv' := [(2, .int (mx2 (mx1 (mx0 a k)) k)), (0, .int a), (1, .int k)]) hx hb d_m_mix_28 rfl hl (by decide) rfl (fun ls hl => ?_)
  refine lv_iload_n hx hb d_m_mix_29 rfl (lv_at hl 0 rfl) ?_
  refine lv_iload_n hx hb d_m_mix_30 rfl (lv_at hl 0 rfl) ?_
  refine lv_bipush (v := nI 14) hx hb d_m_mix_31 (by decide) ?_
  refine lv_iushr hx hb d_m_mix_33 rfl ?_
  refine lv_ixor hx hb d_m_mix_34 ?_
  refine hs_to (y := mx a k) rfl ?_
  exact W.iret (v := mx a k) hx hb hr (fun t ht _ => ⟨rfl, ht⟩) (fun _ h => by cases h) d_m_mix_35
set_option maxHeartbeats 4000000 in
set_option maxRecDepth 100000 in
/-- node -/
theorem c_m_node (l : Launch) (D : va_G) (cA : ClassId) (h d w dp nb nw na : Nat) (f g : Nat → Int32) (us : Nat) (kp de lf : Int32) (dw : Bool) (k : Nat) (hk : 1 ≤ k) : Met l y_m_node w_m_node rq0 (PcR D [(cA, .int)] (mw cA h d w dp nb nw na f g us kp de lf dw) [.ref h, .int (nI k)]) (QcRead (nI (nb * nw + k - 1))) 0 0 (fun _ => False) := by
  refine Met.ofW (cc := b_m_node) (maxL := 2) (ret := (some .int)) (by decide) rfl ?_
  intro p e s m args below meth c s₁ B9 hml hv
  obtain ⟨rfl, hP, hK⟩ := hv
  have hx := B9.exec
  have hb := B9.bytes
  have hr := B9.returns
  have hts0 := atoms_spec (ws := w_m_node) B9.pre
  have hts : ∀ w ∈ gw, w.before _ s = true := fun w hw => hts0 w (List.mem_cons_of_mem _ hw)
  have hown : s.vm.findClass R_m = some m.cls := findClass_of_methodNamed B9.named
  have hlocks := B9.notSynchronized
  have S9 : CallFix p m c b_m_node 2 s _ gw R_m := ⟨hx, hb, hml, hown, hts⟩
  have hl := lv_entry ([.ref h, .int (nI k)]) (n := 2) (Nat.le_of_ble_eq_true rfl)
  rw [lg_entry_eq]
  generalize (lg_sl ([.ref h, .int (nI k)]) ++ List.replicate (2 - (lg_sl ([.ref h, .int (nI k)])).length) Slot.unset).toArray = ls at hl ⊢
  have hl : lv_has ls 2 [(0, .ref h), (1, .int (nI k))] := hl
  refine lv_aload_n hx hb d_m_node_0 rfl (lv_at hl 0 rfl) ?_
  refine gm hx hb hts hown hK hP rfl 1 23 (by decide) lk_m_blocks (v := .int (nI nb)) rfl d_m_node_1 ?_
  refine lv_aload_n hx hb d_m_node_4 rfl (lv_at hl 0 rfl) ?_
  refine gm hx hb hts hown hK hP rfl 2 26 (by decide) lk_m_words (v := .int (nI nw)) rfl d_m_node_5 ?_
  refine hs_imul hx hb d_m_node_8 ?_
  refine lv_iload_n hx hb d_m_node_9 rfl (lv_at hl 1 rfl) ?_
  refine hs_iadd hx hb d_m_node_10 ?_
  refine lv_iconst (v := nI 1) hx hb d_m_node_11 (by decide) ?_
  refine hs_isub hx hb (by omega) d_m_node_12 ?_
  exact W.iret (v := nI (((nb * nw) + k) - 1)) hx hb hr (fun t ht _ => ⟨rfl, ht⟩) (fun _ h => by cases h) d_m_node_13
set_option maxHeartbeats 4000000 in
set_option maxRecDepth 100000 in
/-- isBlock -/
theorem c_m_isBlock (l : Launch) (D : va_G) (cA : ClassId) (h d w dp nb nw na : Nat) (f g : Nat → Int32) (us : Nat) (kp de lf : Int32) (dw : Bool) (b : Int32)  : Met l y_m_isBlock w_m_isBlock rq0 (PcR D [(cA, .int)] (mw cA h d w dp nb nw na f g us kp de lf dw) [.ref h, .int b]) (QcRead (bI (decide (0 ≤ b ∧ b < nI nb)))) 0 0 (fun _ => False) := by
  refine Met.ofW (cc := b_m_isBlock) (maxL := 2) (ret := (some .boolean)) (by decide) rfl ?_
  intro p e s m args below meth c s₁ B9 hml hv
  obtain ⟨rfl, hP, hK⟩ := hv
  have hx := B9.exec
  have hb := B9.bytes
  have hr := B9.returns
  have hts0 := atoms_spec (ws := w_m_isBlock) B9.pre
  have hts : ∀ w ∈ gw, w.before _ s = true := fun w hw => hts0 w (List.mem_cons_of_mem _ hw)
  have hown : s.vm.findClass R_m = some m.cls := findClass_of_methodNamed B9.named
  have hlocks := B9.notSynchronized
  have S9 : CallFix p m c b_m_isBlock 2 s _ gw R_m := ⟨hx, hb, hml, hown, hts⟩
  have hl := lv_entry ([.ref h, .int b]) (n := 2) (Nat.le_of_ble_eq_true rfl)
  rw [lg_entry_eq]
  generalize (lg_sl ([.ref h, .int b]) ++ List.replicate (2 - (lg_sl ([.ref h, .int b])).length) Slot.unset).toArray = ls at hl ⊢
  have hl : lv_has ls 2 [(0, .ref h), (1, .int b)] := hl
  refine lv_iload_n hx hb d_m_isBlock_0 rfl (lv_at hl 1 rfl) ?_
  refine lv_if_lt (tgt := 16) hx hb d_m_isBlock_1 (by decide) (fun h1 => ?_) (fun h1 => ?_)
  · skip
    refine lv_iconst (v := nI 0) hx hb d_m_isBlock_16 (by decide) ?_
    refine hs_to (y := bI (decide (0 ≤ b ∧ b < nI nb))) (by rw [decide_eq_false (fun q => Int32.not_le.mpr h1 q.1)]; rfl) ?_
    exact W.zret (v := bI (decide (0 ≤ b ∧ b < nI nb))) hx hb hr (bI_n _) (fun t ht _ => ⟨rfl, ht⟩) (fun _ h => by cases h) d_m_isBlock_17
  · skip
    refine lv_iload_n hx hb d_m_isBlock_4 rfl (lv_at hl 1 rfl) ?_
    refine lv_aload_n hx hb d_m_isBlock_5 rfl (lv_at hl 0 rfl) ?_
    refine gm hx hb hts hown hK hP rfl 1 23 (by decide) lk_m_blocks (v := .int (nI nb)) rfl d_m_isBlock_6 ?_
    refine lv_icmp_ge (tgt := 16) hx hb d_m_isBlock_9 (by decide) (fun h2 => ?_) (fun h2 => ?_)
    · skip
      refine lv_iconst (v := nI 0) hx hb d_m_isBlock_16 (by decide) ?_
      refine hs_to (y := bI (decide (0 ≤ b ∧ b < nI nb))) (by rw [decide_eq_false (fun q => Int32.not_lt.mpr h2 q.2)]; rfl) ?_
      exact W.zret (v := bI (decide (0 ≤ b ∧ b < nI nb))) hx hb hr (bI_n _) (fun t ht _ => ⟨rfl, ht⟩) (fun _ h => by cases h) d_m_isBlock_17
    · skip
      refine lv_iconst (v := nI 1) hx hb d_m_isBlock_12 (by decide) ?_
      refine lv_goto (tgt := 17) hx hb d_m_isBlock_13 (by decide) ?_
      refine hs_to (y := bI (decide (0 ≤ b ∧ b < nI nb))) (by rw [decide_eq_true ⟨Int32.not_lt.mp h1, Int32.not_le.mp h2⟩]; rfl) ?_
      exact W.zret (v := bI (decide (0 ≤ b ∧ b < nI nb))) hx hb hr (bI_n _) (fun t ht _ => ⟨rfl, ht⟩) (fun _ h => by cases h) d_m_isBlock_17
set_option maxHeartbeats 4000000 in
set_option maxRecDepth 100000 in
/-- hash -/
theorem c_m_hash (l : Launch) (D : va_G) (cA : ClassId) (h d w dp nb nw na : Nat) (f g : Nat → Int32) (us : Nat) (kp de lf : Int32) (dw : Bool) (b : Nat) (hG : hsG dp nb nw na) (hb9 : b < nb) : Met l y_m_hash w_m_hash rq1 (PcR D [(cA, .int)] (mw cA h d w dp nb nw na f g us kp de lf dw) [.ref h, .int (nI b)]) (QcRead (fo (wdA g nw b) (nI b) nw)) 0 0 (fun _ => False) := by
  refine Met.ofW (cc := b_m_hash) (maxL := 4) (ret := (some .int)) (by decide) rfl ?_
  intro p e s m args below meth c s₁ B9 hml hv
  obtain ⟨rfl, hP, hK⟩ := hv
  have hx := B9.exec
  have hb := B9.bytes
  have hr := B9.returns
  have hts0 := atoms_spec (ws := w_m_hash) B9.pre
  have hts : ∀ w ∈ gw, w.before _ s = true := fun w hw => hts0 w (List.mem_cons_of_mem _ hw)
  have hown : s.vm.findClass R_m = some m.cls := findClass_of_methodNamed B9.named
  have hlocks := B9.notSynchronized
  have S9 : CallFix p m c b_m_hash 4 s _ gw R_m := ⟨hx, hb, hml, hown, hts⟩
  have hl := lv_entry ([.ref h, .int (nI b)]) (n := 4) (Nat.le_of_ble_eq_true rfl)
  rw [lg_entry_eq]
  generalize (lg_sl ([.ref h, .int (nI b)]) ++ List.replicate (4 - (lg_sl ([.ref h, .int (nI b)])).length) Slot.unset).toArray = ls at hl ⊢
  have hl : lv_has ls 4 [(0, .ref h), (1, .int (nI b))] := hl
  have h9 := hG.fits
  refine lv_iload_n hx hb d_m_hash_0 rfl (lv_at hl 1 rfl) ?_
  refine lv_istore_n (lv' := [(2, .int (nI b)), (0, .ref h), (1, .int (nI b))]) hx hb d_m_hash_1 rfl hl (by decide) rfl (fun ls hl => ?_)
  refine lv_iconst (v := nI 0) hx hb d_m_hash_2 (by decide) ?_
  refine lv_istore_n (lv' := [(3, .int (nI 0)), (2, .int (nI b)), (0, .ref h), (1, .int (nI b))]) hx hb d_m_hash_3 rfl hl (by decide) rfl (fun ls hl => ?_)
  have loop : ∀ (n : Nat) (i : Nat), i ≤ nw → (nw - i) < n → ∀ (ls : Array Slot), lv_has ls 4 [(3, .int (nI i)), (2, .int (fo (wdA g nw b) (nI b) i)), (0, .ref h), (1, .int (nI b))] → W p l e (headSpec w_m_hash rq1).room s m ([.ref h, .int (nI b)] : List Value).toArray below meth c s.heap [] 0 0 (MQ below (QcRead (fo (wdA g nw b) (nI b) nw)) ([.ref h, .int (nI b)] : List Value).toArray s 0 0 (fun _ => False)) (F0 m 4 ls []) := by
    intro n
    induction n with
    | zero =>
      intro i hi hmu
      exact absurd hmu (Nat.not_lt_zero _)
    | succ n ih =>
      intro i hi hmu ls hl
      refine lv_iload_n hx hb d_m_hash_4 rfl (lv_at hl 0 rfl) ?_
      refine lv_aload_n hx hb d_m_hash_5 rfl (lv_at hl 2 rfl) ?_
      refine gm hx hb hts hown hK hP rfl 2 26 (by decide) lk_m_words (v := .int (nI nw)) rfl d_m_hash_6 ?_
      refine hs_ge (tgt := 36) hx hb d_m_hash_9 (by decide) (by omega) (by omega) (fun h1 => ?_) (fun h1 => ?_)
      · skip
        refine lv_iload_n hx hb d_m_hash_36 rfl (lv_at hl 1 rfl) ?_
        refine hs_to (y := fo (wdA g nw b) (nI b) nw) (by rw [Nat.le_antisymm hi h1]) ?_
        exact W.iret (v := fo (wdA g nw b) (nI b) nw) hx hb hr (fun t ht _ => ⟨rfl, ht⟩) (fun _ h => by cases h) d_m_hash_37
      · skip
        have hw9 := (at_word (sl := 0) hG (Nat.zero_le 1) hb9 h1).1
        refine lv_iload_n hx hb d_m_hash_12 rfl (lv_at hl 1 rfl) ?_
        refine lv_aload_n hx hb d_m_hash_13 rfl (lv_at hl 2 rfl) ?_
        refine gm hx hb hts hown hK hP rfl 5 13 (by decide) lk_m_goal (v := .ref w) rfl d_m_hash_14 ?_
        refine lv_iload_n hx hb d_m_hash_17 rfl (lv_at hl 3 rfl) ?_
        refine lv_aload_n hx hb d_m_hash_18 rfl (lv_at hl 2 rfl) ?_
        refine gm hx hb hts hown hK hP rfl 2 26 (by decide) lk_m_words (v := .int (nI nw)) rfl d_m_hash_19 ?_
        refine hs_imul hx hb d_m_hash_22 ?_
        refine lv_iload_n hx hb d_m_hash_23 rfl (lv_at hl 0 rfl) ?_
        refine hs_iadd hx hb d_m_hash_24 ?_
        refine hs_to (y := nI (nw * b + i)) (by rw [Nat.mul_comm]) ?_
        refine hs_iald hx hb hK hP 2 0 rfl rfl (i := nw * b + i) (by omega) (by decide) d_m_hash_25 ?_
        refine hs_rs (As := [.int (fo (wdA g nw b) (nI b) i), .int (g (nw * b + i))]) (rest := []) S9 (c_m_mix l (fo (wdA g nw b) (nI b) i) (g (nw * b + i))) k_m_m_mix h_m_mix rfl rfl ⟨Nat.le_of_ble_eq_true rfl, Nat.le_of_ble_eq_true rfl⟩ rfl hl.1 rfl (Nat.le_of_ble_eq_true rfl) d_m_hash_26 ⟨Nat.zero_le _, Nat.zero_le _⟩ ?_
        refine hs_to (y := fo (wdA g nw b) (nI b) (i + 1)) rfl ?_
        refine lv_istore_n (lv' := [(2, .int (fo (wdA g nw b) (nI b) (i + 1))), (3, .int (nI i)), (0, .ref h), (1, .int (nI b))]) hx hb d_m_hash_29 rfl hl (by decide) rfl (fun ls hl => ?_)
        refine lv_iinc (v := nI (i + 1)) (lv' := [(3, .int (nI (i + 1))), (2, .int (fo (wdA g nw b) (nI b) (i + 1))), (0, .ref h), (1, .int (nI b))]) hx hb d_m_hash_30 hl (k := 1) rfl (nI_add _ _) (by decide) rfl (fun ls hl => ?_)
        refine lv_goto (tgt := 4) hx hb d_m_hash_33 (by decide) ?_
        exact ih (i + 1) h1 (by omega) ls (lv_sub hl [0, 1, 2, 3] rfl)
  exact loop (nw + 1) 0 (Nat.zero_le _) (by omega) ls (lv_sub hl [0, 1, 2, 3] rfl)
set_option maxHeartbeats 4000000 in
set_option maxRecDepth 100000 in
/-- toGoal -/
theorem c_m_toGoal (l : Launch) (D : va_G) (cA : ClassId) (h d w dp nb nw na : Nat) (f g : Nat → Int32) (us : Nat) (kp de lf : Int32) (dw : Bool) (sz : Nat) (hG : hsG dp nb nw na) (hsl : us ≤ 1) : Met l y_m_toGoal w_m_toGoal rq0 (PcW D [(cA, .int)] (mw cA h d w dp nb nw na f g us kp de lf dw) sz [.ref h]) (QcW D (va_A (mw cA h d w dp nb nw na f g us kp de lf dw) sz) (fun u : Nat → Int32 => ∀ j, j < na → u j = ar f na us j) (fun _ => none) (fun u => mw cA h d w dp nb nw na f u us kp de lf dw)) 0 0 (va_A (mw cA h d w dp nb nw na f g us kp de lf dw) sz) := by
  refine Met.ofW (cc := b_m_toGoal) (maxL := 2) (ret := none) (by decide) rfl ?_
  intro p e s m args below meth c s₁ B9 hml hv
  obtain ⟨rfl, hsz, hP, hK, hD0⟩ := hv
  have hx := B9.exec
  have hb := B9.bytes
  have hr := B9.returns
  have hts0 := atoms_spec (ws := w_m_toGoal) B9.pre
  have hts : ∀ w ∈ gw, w.before _ s = true := fun w hw => hts0 w (List.mem_cons_of_mem _ hw)
  have hown : s.vm.findClass R_m = some m.cls := findClass_of_methodNamed B9.named
  have hlocks := B9.notSynchronized
  have S9 : CallFix p m c b_m_toGoal 2 s _ gw R_m := ⟨hx, hb, hml, hown, hts⟩
  subst hsz
  have hD := hD0.self (sz := s.heap.size)
  generalize hAe : va_A (mw cA h d w dp nb nw na f g us kp de lf dw) s.heap.size = Z at hD ⊢
  have hA : ∀ q : Nat, s.heap.size ≤ q → Z q := fun q h => by rw [← hAe]; exact Or.inr h
  have hS : va_S Z s.heap s.heap [] := va_S.rf
  have hl := lv_entry ([.ref h]) (n := 2) (Nat.le_of_ble_eq_true rfl)
  rw [lg_entry_eq]
  generalize (lg_sl ([.ref h]) ++ List.replicate (2 - (lg_sl ([.ref h])).length) Slot.unset).toArray = ls at hl ⊢
  have hl : lv_has ls 2 [(0, .ref h)] := hl
  have h9 := hG.fits
  refine lv_iconst (v := nI 0) hx hb d_m_toGoal_0 (by decide) ?_
  refine lv_istore_n (lv' := [(1, .int (nI 0)), (0, .ref h)]) hx hb d_m_toGoal_1 rfl hl (by decide) rfl (fun ls hl => ?_)
  have loop : ∀ (n : Nat) (k : Nat) (g9 : Nat → Int32), k ≤ na → (∀ j, j < k → g9 j = ar f na us j) → (na - k) < n → ∀ (H : Heap) (locs : List Loc), va_P D classes (mw cA h d w dp nb nw na f g9 us kp de lf dw) H → va_D Z (mw cA h d w dp nb nw na f g9 us kp de lf dw) → va_S Z s.heap H locs → ∀ (ls : Array Slot), lv_has ls 2 [(1, .int (nI k)), (0, .ref h)] → W p l e (headSpec w_m_toGoal rq0).room s m ([.ref h] : List Value).toArray below meth c H locs 0 0 (MQ below (QcW D Z (fun u : Nat → Int32 => ∀ j, j < na → u j = ar f na us j) (fun _ => none) (fun u => mw cA h d w dp nb nw na f u us kp de lf dw)) ([.ref h] : List Value).toArray s 0 0 Z) (F0 m 2 ls []) := by
    intro n
    induction n with
    | zero =>
      intro k g9 hk9 hg9 hmu
      exact absurd hmu (Nat.not_lt_zero _)
    | succ n ih =>
      intro k g9 hk9 hg9 hmu H locs hP hD hS ls hl
      refine lv_iload_n hx hb d_m_toGoal_2 rfl (lv_at hl 0 rfl) ?_
      refine lv_aload_n hx hb d_m_toGoal_3 rfl (lv_at hl 1 rfl) ?_
      refine gm hx hb hts hown hK hP rfl 3 29 (by decide) lk_m_size (v := .int (nI na)) rfl d_m_toGoal_4 ?_
      refine hs_ge (tgt := 38) hx hb d_m_toGoal_7 (by decide) (by omega) (by omega) (fun h1 => ?_) (fun h1 => ?_)
      · skip
        exact W.vret hx hb hr (fun t ht hW => ⟨⟨g9, (fun j hj => hg9 j (by omega)), rfl, by rw [ht]; exact hP, hD⟩, hS.F ht⟩) hS.2.2 d_m_toGoal_38
      · skip
        have hc9 := at_cell (sl := us) hG hsl h1
        refine lv_aload_n hx hb d_m_toGoal_10 rfl (lv_at hl 1 rfl) ?_
        refine gm hx hb hts hown hK hP rfl 5 13 (by decide) lk_m_goal (v := .ref w) rfl d_m_toGoal_11 ?_
        refine lv_iload_n hx hb d_m_toGoal_14 rfl (lv_at hl 0 rfl) ?_
        refine lv_aload_n hx hb d_m_toGoal_15 rfl (lv_at hl 1 rfl) ?_
        refine gm hx hb hts hown hK hP rfl 4 7 (by decide) lk_m_disk (v := .ref d) rfl d_m_toGoal_16 ?_
        refine lv_aload_n hx hb d_m_toGoal_19 rfl (lv_at hl 1 rfl) ?_
        refine gm hx hb hts hown hK hP rfl 3 29 (by decide) lk_m_size (v := .int (nI na)) rfl d_m_toGoal_20 ?_
        refine lv_aload_n hx hb d_m_toGoal_23 rfl (lv_at hl 1 rfl) ?_
        refine gm hx hb hts hown hK hP rfl 6 42 (by decide) lk_m_used (v := .int (nI us)) rfl d_m_toGoal_24 ?_
        refine hs_imul hx hb d_m_toGoal_27 ?_
        refine lv_iload_n hx hb d_m_toGoal_28 rfl (lv_at hl 0 rfl) ?_
        refine hs_iadd hx hb d_m_toGoal_29 ?_
        refine hs_iald hx hb hK hP 1 0 rfl rfl (i := (na * us) + k) (by omega) (by decide) d_m_toGoal_30 ?_
        refine hs_iast hx hb hK hP hD hS 2 0 rfl rfl (i := k) (x := (f ((na * us) + k))) (by omega) (by decide) d_m_toGoal_31 (fun H locs hP hD hS => ?_)
        have hP : va_P D classes (mw cA h d w dp nb nw na f (upd g9 k (f ((na * us) + k))) us kp de lf dw) H := hP
        have hD : va_D Z (mw cA h d w dp nb nw na f (upd g9 k (f ((na * us) + k))) us kp de lf dw) := hD
        refine lv_iinc (v := nI (k + 1)) (lv' := [(1, .int (nI (k + 1))), (0, .ref h)]) hx hb d_m_toGoal_32 hl (k := 0) rfl (nI_add _ _) (by decide) rfl (fun ls hl => ?_)
        refine lv_goto (tgt := 2) hx hb d_m_toGoal_35 (by decide) ?_
        exact ih (k + 1) (upd g9 k (f (na * us + k))) (by omega) (fun j hj => by rcases Nat.lt_or_ge j k with q | q; (· rw [pk_un (by omega)]; exact hg9 j q); (· rw [show j = k by omega, pk_us]; rfl)) (by omega) _ _ hP hD hS ls (lv_sub hl [0, 1] rfl)
  exact loop (na + 1) 0 g (Nat.zero_le _) (fun j hj => absurd hj (Nat.not_lt_zero j)) (by omega) _ _ hP hD hS ls (lv_sub hl [0, 1] rfl)
set_option maxHeartbeats 4000000 in
set_option maxRecDepth 100000 in
/-- way, not putting -/
theorem c_m_way0 (l : Launch) (D : va_G) (cA : ClassId) (h d w dp nb nw na : Nat) (f g : Nat → Int32) (us : Nat) (kp de lf : Int32) (dw : Bool) (b : Nat) (hG : hsG dp nb nw na) (hb9 : b < nb) : Met l y_m_way w_m_way rq2 (PcR D [(cA, .int)] (mw cA h d w dp nb nw na f g us kp de lf dw) [.ref h, .int (nI b), .int (bI false)]) (QcRead (uN g nb nw b dp)) 0 0 (fun _ => False) := by
  refine Met.ofW (cc := b_m_way) (maxL := 6) (ret := (some .int)) (by decide) rfl ?_
  intro p e s m args below meth c s₁ B9 hml hv
  obtain ⟨rfl, hP, hK⟩ := hv
  have hx := B9.exec
  have hb := B9.bytes
  have hr := B9.returns
  have hts0 := atoms_spec (ws := w_m_way) B9.pre
  have hts : ∀ w ∈ gw, w.before _ s = true := fun w hw => hts0 w (List.mem_cons_of_mem _ hw)
  have hown : s.vm.findClass R_m = some m.cls := findClass_of_methodNamed B9.named
  have hlocks := B9.notSynchronized
  have S9 : CallFix p m c b_m_way 6 s _ gw R_m := ⟨hx, hb, hml, hown, hts⟩
  have hl := lv_entry ([.ref h, .int (nI b), .int (bI false)]) (n := 6) (Nat.le_of_ble_eq_true rfl)
  rw [lg_entry_eq]
  generalize (lg_sl ([.ref h, .int (nI b), .int (bI false)]) ++ List.replicate (6 - (lg_sl ([.ref h, .int (nI b), .int (bI false)])).length) Slot.unset).toArray = ls at hl ⊢
  have hl : lv_has ls 6 [(0, .ref h), (1, .int (nI b)), (2, .int (bI false))] := hl
  have h9 := hG.fits
  have hnb := hG.2.1
  refine lv_aload_n hx hb d_m_way_0 rfl (lv_at hl 0 rfl) ?_
  refine lv_iload_n hx hb d_m_way_1 rfl (lv_at hl 1 rfl) ?_
  refine hs_rv (As := [.int (nI b)]) (rest := []) S9 (c_m_hash l D cA h d w dp nb nw na f g us kp de lf dw b hG hb9) k_m_m_hash h_m_hash rfl rfl ⟨Nat.le_of_ble_eq_true rfl, Nat.le_of_ble_eq_true rfl⟩ hK hP rfl rfl rfl hl.1 rfl (Nat.le_of_ble_eq_true rfl) d_m_way_2 ⟨Nat.zero_le _, Nat.zero_le _⟩ ?_
  refine lv_istore_n (lv' := [(3, .int (fo (wdA g nw b) (nI b) nw)), (0, .ref h), (1, .int (nI b)), (2, .int (bI false))]) hx hb d_m_way_5 rfl hl (by decide) rfl (fun ls hl => ?_)
  refine lv_aload_n hx hb d_m_way_6 rfl (lv_at hl 1 rfl) ?_
  refine gm hx hb hts hown hK hP rfl 1 23 (by decide) lk_m_blocks (v := .int (nI nb)) rfl d_m_way_7 ?_
  refine lv_iload_n hx hb d_m_way_10 rfl (lv_at hl 2 rfl) ?_
  refine hs_iadd hx hb d_m_way_11 ?_
  refine lv_istore (lv' := [(4, .int (nI (nb + b))), (3, .int (fo (wdA g nw b) (nI b) nw)), (0, .ref h), (1, .int (nI b)), (2, .int (bI false))]) hx hb d_m_way_12 hl (by decide) rfl (fun ls hl => ?_)
  have loop : ∀ (n : Nat) (t k : Nat), t ≤ dp + 1 → k = (nb + b) / 2 ^ t → (dp + 1 - t) < n → ∀ (ls : Array Slot), lv_has ls 6 [(4, .int (nI k)), (3, .int (uN g nb nw b (min t dp))), (0, .ref h), (1, .int (nI b)), (2, .int (bI false))] → W p l e (headSpec w_m_way rq2).room s m ([.ref h, .int (nI b), .int (bI false)] : List Value).toArray below meth c s.heap [] 0 0 (MQ below (QcRead (uN g nb nw b dp)) ([.ref h, .int (nI b), .int (bI false)] : List Value).toArray s 0 0 (fun _ => False)) (F0 m 14 ls []) := by
    intro n
    induction n with
    | zero =>
      intro t k ht hk hmu
      exact absurd hmu (Nat.not_lt_zero _)
    | succ n ih =>
      intro t k ht hk hmu ls hl
      have hk64 : k < 64 := by rw [hk]; exact Nat.lt_of_le_of_lt (Nat.div_le_self _ _) (by omega)
      refine lv_iload hx hb d_m_way_14 (lv_at hl 0 rfl) ?_
      refine hs_ifle (tgt := 102) hx hb d_m_way_16 (by decide) (by omega) (fun h1 => ?_) (fun h1 => ?_)
      · skip
        have et : t = dp + 1 := by
          rcases Nat.lt_or_ge t (dp + 1) with q | q
          · have := (wk_at (t := t) hnb hb9 (by omega)).1; omega
          · omega
        subst et
        refine lv_iload_n hx hb d_m_way_102 rfl (lv_at hl 1 rfl) ?_
        refine hs_to (y := uN g nb nw b dp) (by rw [Nat.min_eq_right (Nat.le_succ dp)]) ?_
        exact W.iret (v := uN g nb nw b dp) hx hb hr (fun t ht _ => ⟨rfl, ht⟩) (fun _ h => by cases h) d_m_way_103
      · skip
        have ht1 : t ≤ dp := by
          rcases Nat.lt_or_ge dp t with q | q
          · have et : t = dp + 1 := by omega
            rw [et, wk_end hnb hb9] at hk; exact absurd hk h1
          · exact q
        have hwk := wk_at (t := t) hnb hb9 ht1
        rw [← hk] at hwk
        refine lv_iload_n hx hb d_m_way_19 rfl (lv_at hl 4 rfl) ?_
        refine hs_ifeqB (tgt := 35) hx hb d_m_way_20 (by decide) (fun h2 => ?_) (fun h2 => ?_)
        · skip
          refine lv_iload hx hb d_m_way_35 (lv_at hl 0 rfl) ?_
          refine lv_iconst (v := nI 1) hx hb d_m_way_37 (by decide) ?_
          refine hs_le (tgt := 93) hx hb d_m_way_38 (by decide) (by omega) (by omega) (fun h3 => ?_) (fun h3 => ?_)
          · skip
            have et : t = dp := hwk.2.2.mp h3
            refine lv_iload hx hb d_m_way_93 (lv_at hl 0 rfl) ?_
            refine lv_iconst (v := nI 2) hx hb d_m_way_95 (by decide) ?_
            refine lv_idiv hx hb d_m_way_96 (by decide) ?_
            refine hs_to (y := nI (k / 2)) (x2_div k (by omega)) ?_
            refine lv_istore (lv' := [(4, .int (nI (k / 2))), (3, .int (uN g nb nw b (min t dp))), (0, .ref h), (1, .int (nI b)), (2, .int (bI false))]) hx hb d_m_way_97 hl (by decide) rfl (fun ls hl => ?_)
            refine lv_goto (tgt := 14) hx hb d_m_way_99 (by decide) ?_
            have hk2 : k / 2 = (nb + b) / 2 ^ (t + 1) := by rw [pow_half, ← hk]
            have hl : lv_has ls 6 [(4, .int (nI (k / 2))), (3, .int (uN g nb nw b (min (t + 1) dp))), (0, .ref h), (1, .int (nI b)), (2, .int (bI false))] := by rw [show min (t + 1) dp = min t dp by omega]; exact hl
            exact ih (t + 1) (k / 2) (by omega) hk2 (by omega) ls (lv_sub hl [0, 1, 2, 3, 4] rfl)
          · skip
            have ht2 : t < dp := by
              rcases Nat.lt_or_ge t dp with q | q
              · exact q
              · have := hwk.2.2.mpr (by omega); omega
            obtain ⟨q, hq⟩ : ∃ q, q = (if k % 2 = 0 then k + 1 else k - 1) := ⟨_, rfl⟩
            have hq2 : 1 ≤ q ∧ q < 2 * nb := by
              rw [hq]; split <;> omega
            refine lv_aload_n hx hb d_m_way_41 rfl (lv_at hl 2 rfl) ?_
            refine gm hx hb hts hown hK hP rfl 5 13 (by decide) lk_m_goal (v := .ref w) rfl d_m_way_42 ?_
            refine lv_aload_n hx hb d_m_way_45 rfl (lv_at hl 2 rfl) ?_
            refine lv_iload hx hb d_m_way_46 (lv_at hl 0 rfl) ?_
            refine lv_iconst (v := nI 2) hx hb d_m_way_48 (by decide) ?_
            refine lv_irem hx hb d_m_way_49 (by decide) ?_
            refine hs_to (y := nI (k % 2)) (x2_rem k (by omega)) ?_
            refine hs_ifneN (tgt := 60) hx hb d_m_way_50 (by decide) (by omega) (fun hc => ?_) (fun hc => ?_)
            · skip
              refine lv_iload hx hb d_m_way_60 (lv_at hl 0 rfl) ?_
              refine lv_iconst (v := nI 1) hx hb d_m_way_62 (by decide) ?_
              refine hs_isub hx hb (by omega) d_m_way_63 ?_
              refine hs_to (y := nI q) (by rw [hq, if_neg hc]) ?_
              refine hs_rv (As := [.int (nI q)]) (rest := [.ref w]) S9 (c_m_node l D cA h d w dp nb nw na f g us kp de lf dw q hq2.1) k_m_m_node h_m_node rfl rfl ⟨Nat.le_of_ble_eq_true rfl, Nat.le_of_ble_eq_true rfl⟩ hK hP rfl rfl rfl hl.1 rfl (Nat.le_of_ble_eq_true rfl) d_m_way_64 ⟨Nat.zero_le _, Nat.zero_le _⟩ ?_
              refine hs_iald hx hb hK hP 2 0 rfl rfl (i := nb * nw + q - 1) (by omega) (by decide) d_m_way_67 ?_
              refine hs_to (y := (g (nb * nw + q - 1))) rfl ?_
              refine lv_istore (lv' := [(5, .int (g (nb * nw + q - 1))), (4, .int (nI k)), (3, .int (uN g nb nw b (min t dp))), (0, .ref h), (1, .int (nI b)), (2, .int (bI false))]) hx hb d_m_way_68 hl (by decide) rfl (fun ls hl => ?_)
              refine lv_iload hx hb d_m_way_70 (lv_at hl 1 rfl) ?_
              refine lv_iconst (v := nI 2) hx hb d_m_way_72 (by decide) ?_
              refine lv_irem hx hb d_m_way_73 (by decide) ?_
              refine hs_to (y := nI (k % 2)) (x2_rem k (by omega)) ?_
              refine hs_ifneN (tgt := 86) hx hb d_m_way_74 (by decide) (by omega) (fun h5 => ?_) (fun h5 => ?_)
              · skip
                refine lv_iload hx hb d_m_way_86 (lv_at hl 0 rfl) ?_
                refine lv_iload_n hx hb d_m_way_88 rfl (lv_at hl 2 rfl) ?_
                refine hs_rs (As := [.int (g (nb * nw + q - 1)), .int (uN g nb nw b (min t dp))]) (rest := []) S9 (c_m_mix l (g (nb * nw + q - 1)) (uN g nb nw b (min t dp))) k_m_m_mix h_m_mix rfl rfl ⟨Nat.le_of_ble_eq_true rfl, Nat.le_of_ble_eq_true rfl⟩ rfl hl.1 rfl (Nat.le_of_ble_eq_true rfl) d_m_way_89 ⟨Nat.zero_le _, Nat.zero_le _⟩ ?_
                refine hs_to (y := uN g nb nw b (min (t + 1) dp)) (by rw [Nat.min_eq_left ht1, Nat.min_eq_left ht2]; show _ = stp _ ((nb + b) / 2 ^ t) _; rw [← hk, stp, if_neg hc, hq, if_neg hc]; rfl) ?_
                refine lv_istore_n (lv' := [(3, .int (uN g nb nw b (min (t + 1) dp))), (5, .int (g (nb * nw + q - 1))), (4, .int (nI k)), (0, .ref h), (1, .int (nI b)), (2, .int (bI false))]) hx hb d_m_way_92 rfl hl (by decide) rfl (fun ls hl => ?_)
                refine lv_iload hx hb d_m_way_93 (lv_at hl 2 rfl) ?_
                refine lv_iconst (v := nI 2) hx hb d_m_way_95 (by decide) ?_
                refine lv_idiv hx hb d_m_way_96 (by decide) ?_
                refine hs_to (y := nI (k / 2)) (x2_div k (by omega)) ?_
                refine lv_istore (lv' := [(4, .int (nI (k / 2))), (3, .int (uN g nb nw b (min (t + 1) dp))), (5, .int (g (nb * nw + q - 1))), (0, .ref h), (1, .int (nI b)), (2, .int (bI false))]) hx hb d_m_way_97 hl (by decide) rfl (fun ls hl => ?_)
                refine lv_goto (tgt := 14) hx hb d_m_way_99 (by decide) ?_
                have hk2 : k / 2 = (nb + b) / 2 ^ (t + 1) := by rw [pow_half, ← hk]
                exact ih (t + 1) (k / 2) (by omega) hk2 (by omega) ls (lv_sub hl [0, 1, 3, 4, 5] rfl)
              · skip
                exact absurd h5 hc
            · skip
              refine lv_iload hx hb d_m_way_53 (lv_at hl 0 rfl) ?_
              refine lv_iconst (v := nI 1) hx hb d_m_way_55 (by decide) ?_
              refine hs_iadd hx hb d_m_way_56 ?_
              refine lv_goto (tgt := 64) hx hb d_m_way_57 (by decide) ?_
              refine hs_to (y := nI q) (by rw [hq, if_pos hc]) ?_
              refine hs_rv (As := [.int (nI q)]) (rest := [.ref w]) S9 (c_m_node l D cA h d w dp nb nw na f g us kp de lf dw q hq2.1) k_m_m_node h_m_node rfl rfl ⟨Nat.le_of_ble_eq_true rfl, Nat.le_of_ble_eq_true rfl⟩ hK hP rfl rfl rfl hl.1 rfl (Nat.le_of_ble_eq_true rfl) d_m_way_64 ⟨Nat.zero_le _, Nat.zero_le _⟩ ?_
              refine hs_iald hx hb hK hP 2 0 rfl rfl (i := nb * nw + q - 1) (by omega) (by decide) d_m_way_67 ?_
              refine hs_to (y := (g (nb * nw + q - 1))) rfl ?_
              refine lv_istore (lv' := [(5, .int (g (nb * nw + q - 1))), (4, .int (nI k)), (3, .int (uN g nb nw b (min t dp))), (0, .ref h), (1, .int (nI b)), (2, .int (bI false))]) hx hb d_m_way_68 hl (by decide) rfl (fun ls hl => ?_)
              refine lv_iload hx hb d_m_way_70 (lv_at hl 1 rfl) ?_
              refine lv_iconst (v := nI 2) hx hb d_m_way_72 (by decide) ?_
              refine lv_irem hx hb d_m_way_73 (by decide) ?_
              refine hs_to (y := nI (k % 2)) (x2_rem k (by omega)) ?_
              refine hs_ifneN (tgt := 86) hx hb d_m_way_74 (by decide) (by omega) (fun h5 => ?_) (fun h5 => ?_)
              · skip
                exact absurd hc h5
              · skip
                refine lv_iload_n hx hb d_m_way_77 rfl (lv_at hl 2 rfl) ?_
                refine lv_iload hx hb d_m_way_78 (lv_at hl 0 rfl) ?_
                refine hs_rs (As := [.int (uN g nb nw b (min t dp)), .int (g (nb * nw + q - 1))]) (rest := []) S9 (c_m_mix l (uN g nb nw b (min t dp)) (g (nb * nw + q - 1))) k_m_m_mix h_m_mix rfl rfl ⟨Nat.le_of_ble_eq_true rfl, Nat.le_of_ble_eq_true rfl⟩ rfl hl.1 rfl (Nat.le_of_ble_eq_true rfl) d_m_way_80 ⟨Nat.zero_le _, Nat.zero_le _⟩ ?_
                refine hs_to (y := uN g nb nw b (min (t + 1) dp)) (by rw [Nat.min_eq_left ht1, Nat.min_eq_left ht2]; show _ = stp _ ((nb + b) / 2 ^ t) _; rw [← hk, stp, if_pos hc, hq, if_pos hc]; rfl) ?_
                refine lv_goto (tgt := 92) hx hb d_m_way_83 (by decide) ?_
                refine lv_istore_n (lv' := [(3, .int (uN g nb nw b (min (t + 1) dp))), (5, .int (g (nb * nw + q - 1))), (4, .int (nI k)), (0, .ref h), (1, .int (nI b)), (2, .int (bI false))]) hx hb d_m_way_92 rfl hl (by decide) rfl (fun ls hl => ?_)
                refine lv_iload hx hb d_m_way_93 (lv_at hl 2 rfl) ?_
                refine lv_iconst (v := nI 2) hx hb d_m_way_95 (by decide) ?_
                refine lv_idiv hx hb d_m_way_96 (by decide) ?_
                refine hs_to (y := nI (k / 2)) (x2_div k (by omega)) ?_
                refine lv_istore (lv' := [(4, .int (nI (k / 2))), (3, .int (uN g nb nw b (min (t + 1) dp))), (5, .int (g (nb * nw + q - 1))), (0, .ref h), (1, .int (nI b)), (2, .int (bI false))]) hx hb d_m_way_97 hl (by decide) rfl (fun ls hl => ?_)
                refine lv_goto (tgt := 14) hx hb d_m_way_99 (by decide) ?_
                have hk2 : k / 2 = (nb + b) / 2 ^ (t + 1) := by rw [pow_half, ← hk]
                exact ih (t + 1) (k / 2) (by omega) hk2 (by omega) ls (lv_sub hl [0, 1, 3, 4, 5] rfl)
        · skip
          exact absurd h2 (by decide)
  have hl : lv_has ls 6 [(4, .int (nI (nb + b))), (3, .int (uN g nb nw b (min 0 dp))), (0, .ref h), (1, .int (nI b)), (2, .int (bI false))] := by rw [Nat.zero_min]; exact hl
  exact loop (dp + 2) 0 (nb + b) (Nat.zero_le _) (by rw [Nat.pow_zero, Nat.div_one]) (by omega) ls (lv_sub hl [0, 1, 2, 3, 4] rfl)
set_option maxHeartbeats 4000000 in
set_option maxRecDepth 100000 in
/-- way, putting -/
theorem c_m_way1 (l : Launch) (D : va_G) (cA : ClassId) (h d w dp nb nw na : Nat) (f g : Nat → Int32) (us : Nat) (kp de lf : Int32) (dw : Bool) (sz : Nat) (b : Nat) (hG : hsG dp nb nw na) (hb9 : b < nb) : Met l y_m_way w_m_way rq2 (PcW D [(cA, .int)] (mw cA h d w dp nb nw na f g us kp de lf dw) sz [.ref h, .int (nI b), .int (bI true)]) (QcW D (va_A (mw cA h d w dp nb nw na f g us kp de lf dw) sz) (fun u : Nat → Int32 => u = gA g dp nb nw b) (fun _ => some (.int (uN g nb nw b dp))) (fun u => mw cA h d w dp nb nw na f u us kp de lf dw)) 0 0 (va_A (mw cA h d w dp nb nw na f g us kp de lf dw) sz) := by
  refine Met.ofW (cc := b_m_way) (maxL := 6) (ret := (some .int)) (by decide) rfl ?_
  intro p e s m args below meth c s₁ B9 hml hv
  obtain ⟨rfl, hsz, hP, hK, hD0⟩ := hv
  have hx := B9.exec
  have hb := B9.bytes
  have hr := B9.returns
  have hts0 := atoms_spec (ws := w_m_way) B9.pre
  have hts : ∀ w ∈ gw, w.before _ s = true := fun w hw => hts0 w (List.mem_cons_of_mem _ hw)
  have hown : s.vm.findClass R_m = some m.cls := findClass_of_methodNamed B9.named
  have hlocks := B9.notSynchronized
  have S9 : CallFix p m c b_m_way 6 s _ gw R_m := ⟨hx, hb, hml, hown, hts⟩
  subst hsz
  have hD := hD0.self (sz := s.heap.size)
  generalize hAe : va_A (mw cA h d w dp nb nw na f g us kp de lf dw) s.heap.size = Z at hD ⊢
  have hA : ∀ q : Nat, s.heap.size ≤ q → Z q := fun q h => by rw [← hAe]; exact Or.inr h
  have hS : va_S Z s.heap s.heap [] := va_S.rf
  have hl := lv_entry ([.ref h, .int (nI b), .int (bI true)]) (n := 6) (Nat.le_of_ble_eq_true rfl)
  rw [lg_entry_eq]
  generalize (lg_sl ([.ref h, .int (nI b), .int (bI true)]) ++ List.replicate (6 - (lg_sl ([.ref h, .int (nI b), .int (bI true)])).length) Slot.unset).toArray = ls at hl ⊢
  have hl : lv_has ls 6 [(0, .ref h), (1, .int (nI b)), (2, .int (bI true))] := hl
  have h9 := hG.fits
  have hnb := hG.2.1
  refine lv_aload_n hx hb d_m_way_0 rfl (lv_at hl 0 rfl) ?_
  refine lv_iload_n hx hb d_m_way_1 rfl (lv_at hl 1 rfl) ?_
  refine hs_rv (As := [.int (nI b)]) (rest := []) S9 (c_m_hash l D cA h d w dp nb nw na f g us kp de lf dw b hG hb9) k_m_m_hash h_m_hash rfl rfl ⟨Nat.le_of_ble_eq_true rfl, Nat.le_of_ble_eq_true rfl⟩ hK hP rfl rfl rfl hl.1 rfl (Nat.le_of_ble_eq_true rfl) d_m_way_2 ⟨Nat.zero_le _, Nat.zero_le _⟩ ?_
  refine lv_istore_n (lv' := [(3, .int (fo (wdA g nw b) (nI b) nw)), (0, .ref h), (1, .int (nI b)), (2, .int (bI true))]) hx hb d_m_way_5 rfl hl (by decide) rfl (fun ls hl => ?_)
  refine lv_aload_n hx hb d_m_way_6 rfl (lv_at hl 1 rfl) ?_
  refine gm hx hb hts hown hK hP rfl 1 23 (by decide) lk_m_blocks (v := .int (nI nb)) rfl d_m_way_7 ?_
  refine lv_iload_n hx hb d_m_way_10 rfl (lv_at hl 2 rfl) ?_
  refine hs_iadd hx hb d_m_way_11 ?_
  refine lv_istore (lv' := [(4, .int (nI (nb + b))), (3, .int (fo (wdA g nw b) (nI b) nw)), (0, .ref h), (1, .int (nI b)), (2, .int (bI true))]) hx hb d_m_way_12 hl (by decide) rfl (fun ls hl => ?_)
  have loop : ∀ (n : Nat) (t k : Nat), t ≤ dp + 1 → k = (nb + b) / 2 ^ t → (dp + 1 - t) < n → ∀ (H : Heap) (locs : List Loc), va_P D classes (mw cA h d w dp nb nw na f (gU g (nb * nw) (nb + b) (uN g nb nw b) t) us kp de lf dw) H → va_D Z (mw cA h d w dp nb nw na f (gU g (nb * nw) (nb + b) (uN g nb nw b) t) us kp de lf dw) → va_S Z s.heap H locs → ∀ (ls : Array Slot), lv_has ls 6 [(4, .int (nI k)), (3, .int (uN g nb nw b (min t dp))), (0, .ref h), (1, .int (nI b)), (2, .int (bI true))] → W p l e (headSpec w_m_way rq2).room s m ([.ref h, .int (nI b), .int (bI true)] : List Value).toArray below meth c H locs 0 0 (MQ below (QcW D Z (fun u : Nat → Int32 => u = gA g dp nb nw b) (fun _ => some (.int (uN g nb nw b dp))) (fun u => mw cA h d w dp nb nw na f u us kp de lf dw)) ([.ref h, .int (nI b), .int (bI true)] : List Value).toArray s 0 0 Z) (F0 m 14 ls []) := by
    intro n
    induction n with
    | zero =>
      intro t k ht hk hmu
      exact absurd hmu (Nat.not_lt_zero _)
    | succ n ih =>
      intro t k ht hk hmu H locs hP hD hS ls hl
      have hk64 : k < 64 := by rw [hk]; exact Nat.lt_of_le_of_lt (Nat.div_le_self _ _) (by omega)
      refine lv_iload hx hb d_m_way_14 (lv_at hl 0 rfl) ?_
      refine hs_ifle (tgt := 102) hx hb d_m_way_16 (by decide) (by omega) (fun h1 => ?_) (fun h1 => ?_)
      · skip
        have et : t = dp + 1 := by
          rcases Nat.lt_or_ge t (dp + 1) with q | q
          · have := (wk_at (t := t) hnb hb9 (by omega)).1; omega
          · omega
        subst et
        refine lv_iload_n hx hb d_m_way_102 rfl (lv_at hl 1 rfl) ?_
        refine hs_to (y := uN g nb nw b dp) (by rw [Nat.min_eq_right (Nat.le_succ dp)]) ?_
        exact W.iret (v := uN g nb nw b dp) hx hb hr (fun t ht hW => ⟨⟨(gU g (nb * nw) (nb + b) (uN g nb nw b) (dp + 1)), rfl, rfl, by rw [ht]; exact hP, hD⟩, hS.F ht⟩) hS.2.2 d_m_way_103
      · skip
        have ht1 : t ≤ dp := by
          rcases Nat.lt_or_ge dp t with q | q
          · have et : t = dp + 1 := by omega
            rw [et, wk_end hnb hb9] at hk; exact absurd hk h1
          · exact q
        have hwk := wk_at (t := t) hnb hb9 ht1
        rw [← hk] at hwk
        refine lv_iload_n hx hb d_m_way_19 rfl (lv_at hl 4 rfl) ?_
        refine hs_ifeqB (tgt := 35) hx hb d_m_way_20 (by decide) (fun h2 => ?_) (fun h2 => ?_)
        · skip
          exact absurd h2 (by decide)
        · skip
          refine lv_aload_n hx hb d_m_way_23 rfl (lv_at hl 2 rfl) ?_
          refine gm hx hb hts hown hK hP rfl 5 13 (by decide) lk_m_goal (v := .ref w) rfl d_m_way_24 ?_
          refine lv_aload_n hx hb d_m_way_27 rfl (lv_at hl 2 rfl) ?_
          refine lv_iload hx hb d_m_way_28 (lv_at hl 0 rfl) ?_
          refine hs_rv (As := [.int (nI k)]) (rest := [.ref w]) S9 (c_m_node l D cA h d w dp nb nw na f (gU g (nb * nw) (nb + b) (uN g nb nw b) t) us kp de lf dw k (by omega)) k_m_m_node h_m_node rfl rfl ⟨Nat.le_of_ble_eq_true rfl, Nat.le_of_ble_eq_true rfl⟩ hK hP rfl rfl rfl hl.1 rfl (Nat.le_of_ble_eq_true rfl) d_m_way_30 ⟨Nat.zero_le _, Nat.zero_le _⟩ ?_
          refine lv_iload_n hx hb d_m_way_33 rfl (lv_at hl 1 rfl) ?_
          refine hs_iast hx hb hK hP hD hS 2 0 rfl rfl (i := nb * nw + k - 1) (x := uN g nb nw b (min t dp)) (by omega) (by decide) d_m_way_34 (fun H locs hP hD hS => ?_)
          have hP : va_P D classes (mw cA h d w dp nb nw na f (upd (gU g (nb * nw) (nb + b) (uN g nb nw b) t) (nb * nw + k - 1) (uN g nb nw b (min t dp))) us kp de lf dw) H := hP
          have hD : va_D Z (mw cA h d w dp nb nw na f (upd (gU g (nb * nw) (nb + b) (uN g nb nw b) t) (nb * nw + k - 1) (uN g nb nw b (min t dp))) us kp de lf dw) := hD
          have hGt : upd (gU g (nb * nw) (nb + b) (uN g nb nw b) t) (nb * nw + k - 1) (uN g nb nw b (min t dp)) = gU g (nb * nw) (nb + b) (uN g nb nw b) (t + 1) := by rw [Nat.min_eq_left ht1, hk]; rfl
          rw [hGt] at hP hD
          refine lv_iload hx hb d_m_way_35 (lv_at hl 0 rfl) ?_
          refine lv_iconst (v := nI 1) hx hb d_m_way_37 (by decide) ?_
          refine hs_le (tgt := 93) hx hb d_m_way_38 (by decide) (by omega) (by omega) (fun h3 => ?_) (fun h3 => ?_)
          · skip
            have et : t = dp := hwk.2.2.mp h3
            refine lv_iload hx hb d_m_way_93 (lv_at hl 0 rfl) ?_
            refine lv_iconst (v := nI 2) hx hb d_m_way_95 (by decide) ?_
            refine lv_idiv hx hb d_m_way_96 (by decide) ?_
            refine hs_to (y := nI (k / 2)) (x2_div k (by omega)) ?_
            refine lv_istore (lv' := [(4, .int (nI (k / 2))), (3, .int (uN g nb nw b (min t dp))), (0, .ref h), (1, .int (nI b)), (2, .int (bI true))]) hx hb d_m_way_97 hl (by decide) rfl (fun ls hl => ?_)
            refine lv_goto (tgt := 14) hx hb d_m_way_99 (by decide) ?_
            have hk2 : k / 2 = (nb + b) / 2 ^ (t + 1) := by rw [pow_half, ← hk]
            have hl : lv_has ls 6 [(4, .int (nI (k / 2))), (3, .int (uN g nb nw b (min (t + 1) dp))), (0, .ref h), (1, .int (nI b)), (2, .int (bI true))] := by rw [show min (t + 1) dp = min t dp by omega]; exact hl
            exact ih (t + 1) (k / 2) (by omega) hk2 (by omega) _ _ hP hD hS ls (lv_sub hl [0, 1, 2, 3, 4] rfl)
          · skip
            have ht2 : t < dp := by
              rcases Nat.lt_or_ge t dp with q | q
              · exact q
              · have := hwk.2.2.mpr (by omega); omega
            obtain ⟨q, hq⟩ : ∃ q, q = (if k % 2 = 0 then k + 1 else k - 1) := ⟨_, rfl⟩
            have hq2 : 1 ≤ q ∧ q < 2 * nb := by
              rw [hq]; split <;> omega
            have hoff : (gU g (nb * nw) (nb + b) (uN g nb nw b) (t + 1)) (nb * nw + q - 1) = g (nb * nw + q - 1) := gU_off hq2.1 _ (fun j hj => sib_off (by rw [← hk]; omega) (by rw [← hk]; exact hq) hj)
            refine lv_aload_n hx hb d_m_way_41 rfl (lv_at hl 2 rfl) ?_
            refine gm hx hb hts hown hK hP rfl 5 13 (by decide) lk_m_goal (v := .ref w) rfl d_m_way_42 ?_
            refine lv_aload_n hx hb d_m_way_45 rfl (lv_at hl 2 rfl) ?_
            refine lv_iload hx hb d_m_way_46 (lv_at hl 0 rfl) ?_
            refine lv_iconst (v := nI 2) hx hb d_m_way_48 (by decide) ?_
            refine lv_irem hx hb d_m_way_49 (by decide) ?_
            refine hs_to (y := nI (k % 2)) (x2_rem k (by omega)) ?_
            refine hs_ifneN (tgt := 60) hx hb d_m_way_50 (by decide) (by omega) (fun hc => ?_) (fun hc => ?_)
            · skip
              refine lv_iload hx hb d_m_way_60 (lv_at hl 0 rfl) ?_
              refine lv_iconst (v := nI 1) hx hb d_m_way_62 (by decide) ?_
              refine hs_isub hx hb (by omega) d_m_way_63 ?_
              refine hs_to (y := nI q) (by rw [hq, if_neg hc]) ?_
              refine hs_rv (As := [.int (nI q)]) (rest := [.ref w]) S9 (c_m_node l D cA h d w dp nb nw na f (gU g (nb * nw) (nb + b) (uN g nb nw b) (t + 1)) us kp de lf dw q hq2.1) k_m_m_node h_m_node rfl rfl ⟨Nat.le_of_ble_eq_true rfl, Nat.le_of_ble_eq_true rfl⟩ hK hP rfl rfl rfl hl.1 rfl (Nat.le_of_ble_eq_true rfl) d_m_way_64 ⟨Nat.zero_le _, Nat.zero_le _⟩ ?_
              refine hs_iald hx hb hK hP 2 0 rfl rfl (i := nb * nw + q - 1) (by omega) (by decide) d_m_way_67 ?_
              refine hs_to (y := (g (nb * nw + q - 1))) hoff ?_
              refine lv_istore (lv' := [(5, .int (g (nb * nw + q - 1))), (4, .int (nI k)), (3, .int (uN g nb nw b (min t dp))), (0, .ref h), (1, .int (nI b)), (2, .int (bI true))]) hx hb d_m_way_68 hl (by decide) rfl (fun ls hl => ?_)
              refine lv_iload hx hb d_m_way_70 (lv_at hl 1 rfl) ?_
              refine lv_iconst (v := nI 2) hx hb d_m_way_72 (by decide) ?_
              refine lv_irem hx hb d_m_way_73 (by decide) ?_
              refine hs_to (y := nI (k % 2)) (x2_rem k (by omega)) ?_
              refine hs_ifneN (tgt := 86) hx hb d_m_way_74 (by decide) (by omega) (fun h5 => ?_) (fun h5 => ?_)
              · skip
                refine lv_iload hx hb d_m_way_86 (lv_at hl 0 rfl) ?_
                refine lv_iload_n hx hb d_m_way_88 rfl (lv_at hl 2 rfl) ?_
                refine hs_rs (As := [.int (g (nb * nw + q - 1)), .int (uN g nb nw b (min t dp))]) (rest := []) S9 (c_m_mix l (g (nb * nw + q - 1)) (uN g nb nw b (min t dp))) k_m_m_mix h_m_mix rfl rfl ⟨Nat.le_of_ble_eq_true rfl, Nat.le_of_ble_eq_true rfl⟩ rfl hl.1 rfl (Nat.le_of_ble_eq_true rfl) d_m_way_89 ⟨Nat.zero_le _, Nat.zero_le _⟩ ?_
                refine hs_to (y := uN g nb nw b (min (t + 1) dp)) (by rw [Nat.min_eq_left ht1, Nat.min_eq_left ht2]; show _ = stp _ ((nb + b) / 2 ^ t) _; rw [← hk, stp, if_neg hc, hq, if_neg hc]; rfl) ?_
                refine lv_istore_n (lv' := [(3, .int (uN g nb nw b (min (t + 1) dp))), (5, .int (g (nb * nw + q - 1))), (4, .int (nI k)), (0, .ref h), (1, .int (nI b)), (2, .int (bI true))]) hx hb d_m_way_92 rfl hl (by decide) rfl (fun ls hl => ?_)
                refine lv_iload hx hb d_m_way_93 (lv_at hl 2 rfl) ?_
                refine lv_iconst (v := nI 2) hx hb d_m_way_95 (by decide) ?_
                refine lv_idiv hx hb d_m_way_96 (by decide) ?_
                refine hs_to (y := nI (k / 2)) (x2_div k (by omega)) ?_
                refine lv_istore (lv' := [(4, .int (nI (k / 2))), (3, .int (uN g nb nw b (min (t + 1) dp))), (5, .int (g (nb * nw + q - 1))), (0, .ref h), (1, .int (nI b)), (2, .int (bI true))]) hx hb d_m_way_97 hl (by decide) rfl (fun ls hl => ?_)
                refine lv_goto (tgt := 14) hx hb d_m_way_99 (by decide) ?_
                have hk2 : k / 2 = (nb + b) / 2 ^ (t + 1) := by rw [pow_half, ← hk]
                exact ih (t + 1) (k / 2) (by omega) hk2 (by omega) _ _ hP hD hS ls (lv_sub hl [0, 1, 3, 4, 5] rfl)
              · skip
                exact absurd h5 hc
            · skip
              refine lv_iload hx hb d_m_way_53 (lv_at hl 0 rfl) ?_
              refine lv_iconst (v := nI 1) hx hb d_m_way_55 (by decide) ?_
              refine hs_iadd hx hb d_m_way_56 ?_
              refine lv_goto (tgt := 64) hx hb d_m_way_57 (by decide) ?_
              refine hs_to (y := nI q) (by rw [hq, if_pos hc]) ?_
              refine hs_rv (As := [.int (nI q)]) (rest := [.ref w]) S9 (c_m_node l D cA h d w dp nb nw na f (gU g (nb * nw) (nb + b) (uN g nb nw b) (t + 1)) us kp de lf dw q hq2.1) k_m_m_node h_m_node rfl rfl ⟨Nat.le_of_ble_eq_true rfl, Nat.le_of_ble_eq_true rfl⟩ hK hP rfl rfl rfl hl.1 rfl (Nat.le_of_ble_eq_true rfl) d_m_way_64 ⟨Nat.zero_le _, Nat.zero_le _⟩ ?_
              refine hs_iald hx hb hK hP 2 0 rfl rfl (i := nb * nw + q - 1) (by omega) (by decide) d_m_way_67 ?_
              refine hs_to (y := (g (nb * nw + q - 1))) hoff ?_
              refine lv_istore (lv' := [(5, .int (g (nb * nw + q - 1))), (4, .int (nI k)), (3, .int (uN g nb nw b (min t dp))), (0, .ref h), (1, .int (nI b)), (2, .int (bI true))]) hx hb d_m_way_68 hl (by decide) rfl (fun ls hl => ?_)
              refine lv_iload hx hb d_m_way_70 (lv_at hl 1 rfl) ?_
              refine lv_iconst (v := nI 2) hx hb d_m_way_72 (by decide) ?_
              refine lv_irem hx hb d_m_way_73 (by decide) ?_
              refine hs_to (y := nI (k % 2)) (x2_rem k (by omega)) ?_
              refine hs_ifneN (tgt := 86) hx hb d_m_way_74 (by decide) (by omega) (fun h5 => ?_) (fun h5 => ?_)
              · skip
                exact absurd hc h5
              · skip
                refine lv_iload_n hx hb d_m_way_77 rfl (lv_at hl 2 rfl) ?_
                refine lv_iload hx hb d_m_way_78 (lv_at hl 0 rfl) ?_
                refine hs_rs (As := [.int (uN g nb nw b (min t dp)), .int (g (nb * nw + q - 1))]) (rest := []) S9 (c_m_mix l (uN g nb nw b (min t dp)) (g (nb * nw + q - 1))) k_m_m_mix h_m_mix rfl rfl ⟨Nat.le_of_ble_eq_true rfl, Nat.le_of_ble_eq_true rfl⟩ rfl hl.1 rfl (Nat.le_of_ble_eq_true rfl) d_m_way_80 ⟨Nat.zero_le _, Nat.zero_le _⟩ ?_
                refine hs_to (y := uN g nb nw b (min (t + 1) dp)) (by rw [Nat.min_eq_left ht1, Nat.min_eq_left ht2]; show _ = stp _ ((nb + b) / 2 ^ t) _; rw [← hk, stp, if_pos hc, hq, if_pos hc]; rfl) ?_
                refine lv_goto (tgt := 92) hx hb d_m_way_83 (by decide) ?_
                refine lv_istore_n (lv' := [(3, .int (uN g nb nw b (min (t + 1) dp))), (5, .int (g (nb * nw + q - 1))), (4, .int (nI k)), (0, .ref h), (1, .int (nI b)), (2, .int (bI true))]) hx hb d_m_way_92 rfl hl (by decide) rfl (fun ls hl => ?_)
                refine lv_iload hx hb d_m_way_93 (lv_at hl 2 rfl) ?_
                refine lv_iconst (v := nI 2) hx hb d_m_way_95 (by decide) ?_
                refine lv_idiv hx hb d_m_way_96 (by decide) ?_
                refine hs_to (y := nI (k / 2)) (x2_div k (by omega)) ?_
                refine lv_istore (lv' := [(4, .int (nI (k / 2))), (3, .int (uN g nb nw b (min (t + 1) dp))), (5, .int (g (nb * nw + q - 1))), (0, .ref h), (1, .int (nI b)), (2, .int (bI true))]) hx hb d_m_way_97 hl (by decide) rfl (fun ls hl => ?_)
                refine lv_goto (tgt := 14) hx hb d_m_way_99 (by decide) ?_
                have hk2 : k / 2 = (nb + b) / 2 ^ (t + 1) := by rw [pow_half, ← hk]
                exact ih (t + 1) (k / 2) (by omega) hk2 (by omega) _ _ hP hD hS ls (lv_sub hl [0, 1, 3, 4, 5] rfl)
  have hl : lv_has ls 6 [(4, .int (nI (nb + b))), (3, .int (uN g nb nw b (min 0 dp))), (0, .ref h), (1, .int (nI b)), (2, .int (bI true))] := by rw [Nat.zero_min]; exact hl
  exact loop (dp + 2) 0 (nb + b) (Nat.zero_le _) (by rw [Nat.pow_zero, Nat.div_one]) (by omega) _ _ hP hD hS ls (lv_sub hl [0, 1, 2, 3, 4] rfl)
end
section
theorem mk_hash {g : Nat → Int32} {dp nb nw na b n : Nat} (hG : hsG dp nb nw na) (hb : b < nb) (hn : n ≤ 2 * nb - 1) (hg : ∀ j, j < na → g j = mkA nb nw n j) : fo (wdA g nw b) (nI b) nw = fo (fun _ => 0) (nI b) nw := by
  refine fo_congr _ (fun i hi => ?_)
  have h9 := hG.fits
  have hw := (at_word (sl := 0) hG (Nat.zero_le 1) hb hi).1
  show g (nw * b + i) = 0
  rw [hg _ (by omega)]
  exact mkA_zero h9.2.2.2.2.2.2.1 (Or.inl hw) n hn
end
section
set_option maxHeartbeats 4000000 in
set_option maxRecDepth 100000 in
/-- isRight -/
theorem c_m_isRight (l : Launch) (D : va_G) (cA : ClassId) (h d w dp nb nw na : Nat) (f g : Nat → Int32) (us : Nat) (kp de lf : Int32) (dw : Bool) (sz : Nat) (b : Nat) (hG : hsG dp nb nw na) (hsl : us ≤ 1) (hb9 : b < nb) : Met l y_m_isRight w_m_isRight rq3 (PcW D [(cA, .int)] (mw cA h d w dp nb nw na f g us kp de lf dw) sz [.ref h, .int (nI b)]) (QcW D (va_A (mw cA h d w dp nb nw na f g us kp de lf dw) sz) (fun u : Nat → Int32 => ∀ j, j < na → u j = ar f na us j) (fun _ => some (.int (bI (okA (ar f na us) dp nb nw b kp)))) (fun u => mw cA h d w dp nb nw na f u us kp de lf dw)) 0 0 (va_A (mw cA h d w dp nb nw na f g us kp de lf dw) sz) := by
  refine Met.ofW (cc := b_m_isRight) (maxL := 3) (ret := (some .boolean)) (by decide) rfl ?_
  intro p e s m args below meth c s₁ B9 hml hv
  obtain ⟨rfl, hsz, hP, hK, hD0⟩ := hv
  have hx := B9.exec
  have hb := B9.bytes
  have hr := B9.returns
  have hts0 := atoms_spec (ws := w_m_isRight) B9.pre
  have hts : ∀ w ∈ gw, w.before _ s = true := fun w hw => hts0 w (List.mem_cons_of_mem _ hw)
  have hown : s.vm.findClass R_m = some m.cls := findClass_of_methodNamed B9.named
  have hlocks := B9.notSynchronized
  have S9 : CallFix p m c b_m_isRight 3 s _ gw R_m := ⟨hx, hb, hml, hown, hts⟩
  subst hsz
  have hD := hD0.self (sz := s.heap.size)
  generalize hAe : va_A (mw cA h d w dp nb nw na f g us kp de lf dw) s.heap.size = Z at hD ⊢
  have hA : ∀ q : Nat, s.heap.size ≤ q → Z q := fun q h => by rw [← hAe]; exact Or.inr h
  have hS : va_S Z s.heap s.heap [] := va_S.rf
  have hl := lv_entry ([.ref h, .int (nI b)]) (n := 3) (Nat.le_of_ble_eq_true rfl)
  rw [lg_entry_eq]
  generalize (lg_sl ([.ref h, .int (nI b)]) ++ List.replicate (3 - (lg_sl ([.ref h, .int (nI b)])).length) Slot.unset).toArray = ls at hl ⊢
  have hl : lv_has ls 3 [(0, .ref h), (1, .int (nI b))] := hl
  have h9 := hG.fits
  refine lv_aload_n hx hb d_m_isRight_0 rfl (lv_at hl 0 rfl) ?_
  refine hs_wv (As := []) (rest := []) (wr := []) [0, 1, 2] [] S9 (c_m_toGoal l D cA h d w dp nb nw na f g us kp de lf dw s.heap.size hG hsl) k_m_m_toGoal h_m_toGoal rfl rfl ⟨Nat.le_of_ble_eq_true rfl, Nat.le_of_ble_eq_true rfl⟩ hK hP hD hS hA rfl rfl rfl rfl (by decide) rfl rfl rfl rfl hl.1 rfl (Nat.le_of_ble_eq_true rfl) d_m_isRight_1 ⟨Nat.zero_le _, Nat.zero_le _⟩ (fun u H locs hp hP hD hS => ?_)
  have hP : va_P D classes (mw cA h d w dp nb nw na f u us kp de lf dw) H := hP
  have hD : va_D Z (mw cA h d w dp nb nw na f u us kp de lf dw) := hD
  refine W.eq (g2 := F0 m 4 ls []) rfl ?_
  refine lv_iconst (v := nI 0) hx hb d_m_isRight_4 (by decide) ?_
  refine lv_istore_n (lv' := [(2, .int (nI 0)), (0, .ref h), (1, .int (nI b))]) hx hb d_m_isRight_5 rfl hl (by decide) rfl (fun ls hl => ?_)
  have loop : ∀ (n : Nat) (i : Nat), i ≤ nw → nng (wdA (ar f na us) nw b) i = true → (nw - i) < n → ∀ (ls : Array Slot), lv_has ls 3 [(2, .int (nI i)), (0, .ref h), (1, .int (nI b))] → W p l e (headSpec w_m_isRight rq3).room s m ([.ref h, .int (nI b)] : List Value).toArray below meth c H locs 0 0 (MQ below (QcW D Z (fun u : Nat → Int32 => ∀ j, j < na → u j = ar f na us j) (fun _ => some (.int (bI (okA (ar f na us) dp nb nw b kp)))) (fun u => mw cA h d w dp nb nw na f u us kp de lf dw)) ([.ref h, .int (nI b)] : List Value).toArray s 0 0 Z) (F0 m 6 ls []) := by
    intro n
    induction n with
    | zero =>
      intro i hi hn hmu
      exact absurd hmu (Nat.not_lt_zero _)
    | succ n ih =>
      intro i hi hn hmu ls hl
      refine lv_iload_n hx hb d_m_isRight_6 rfl (lv_at hl 0 rfl) ?_
      refine lv_aload_n hx hb d_m_isRight_7 rfl (lv_at hl 1 rfl) ?_
      refine gm hx hb hts hown hK hP rfl 2 26 (by decide) lk_m_words (v := .int (nI nw)) rfl d_m_isRight_8 ?_
      refine hs_ge (tgt := 38) hx hb d_m_isRight_11 (by decide) (by omega) (by omega) (fun h1 => ?_) (fun h1 => ?_)
      · skip
        have e9 : i = nw := Nat.le_antisymm hi h1
        rw [e9] at hn
        refine lv_aload_n hx hb d_m_isRight_38 rfl (lv_at hl 1 rfl) ?_
        refine lv_iload_n hx hb d_m_isRight_39 rfl (lv_at hl 2 rfl) ?_
        refine lv_iconst (v := nI 0) hx hb d_m_isRight_40 (by decide) ?_
        refine hs_to (y := bI false) bI_ff ?_
        refine hs_rv (As := [.int (nI b), .int (bI false)]) (rest := []) S9 (c_m_way0 l D cA h d w dp nb nw na f u us kp de lf dw b hG hb9) k_m_m_way h_m_way rfl rfl ⟨Nat.le_of_ble_eq_true rfl, Nat.le_of_ble_eq_true rfl⟩ hK hP rfl rfl rfl hl.1 rfl (Nat.le_of_ble_eq_true rfl) d_m_isRight_41 ⟨Nat.zero_le _, Nat.zero_le _⟩ ?_
        refine hs_to (y := rtA (ar f na us) dp nb nw b) (uN_congr hG hb9 hp (Nat.le_refl dp)) ?_
        refine lv_aload_n hx hb d_m_isRight_44 rfl (lv_at hl 1 rfl) ?_
        refine gm hx hb hts hown hK hP rfl 7 52 (by decide) lk_m_kept (v := .int kp) rfl d_m_isRight_45 ?_
        refine lv_icmp_ne (tgt := 55) hx hb d_m_isRight_48 (by decide) (fun h2 => ?_) (fun h2 => ?_)
        · skip
          refine lv_iconst (v := nI 0) hx hb d_m_isRight_55 (by decide) ?_
          refine hs_to (y := bI (okA (ar f na us) dp nb nw b kp)) (by rw [okA, decide_eq_false h2, Bool.and_false]; rfl) ?_
          exact W.zret (v := bI (okA (ar f na us) dp nb nw b kp)) hx hb hr (bI_n _) (fun t ht hW => ⟨⟨u, hp, rfl, by rw [ht]; exact hP, hD⟩, hS.F ht⟩) hS.2.2 d_m_isRight_56
        · skip
          refine lv_iconst (v := nI 1) hx hb d_m_isRight_51 (by decide) ?_
          refine lv_goto (tgt := 56) hx hb d_m_isRight_52 (by decide) ?_
          refine hs_to (y := bI (okA (ar f na us) dp nb nw b kp)) (by rw [okA, decide_eq_true h2, hn]; rfl) ?_
          exact W.zret (v := bI (okA (ar f na us) dp nb nw b kp)) hx hb hr (bI_n _) (fun t ht hW => ⟨⟨u, hp, rfl, by rw [ht]; exact hP, hD⟩, hS.F ht⟩) hS.2.2 d_m_isRight_56
      · skip
        have hw9 := (at_word (sl := 0) hG (Nat.zero_le 1) hb9 h1).1
        refine lv_aload_n hx hb d_m_isRight_14 rfl (lv_at hl 1 rfl) ?_
        refine gm hx hb hts hown hK hP rfl 5 13 (by decide) lk_m_goal (v := .ref w) rfl d_m_isRight_15 ?_
        refine lv_iload_n hx hb d_m_isRight_18 rfl (lv_at hl 2 rfl) ?_
        refine lv_aload_n hx hb d_m_isRight_19 rfl (lv_at hl 1 rfl) ?_
        refine gm hx hb hts hown hK hP rfl 2 26 (by decide) lk_m_words (v := .int (nI nw)) rfl d_m_isRight_20 ?_
        refine hs_imul hx hb d_m_isRight_23 ?_
        refine lv_iload_n hx hb d_m_isRight_24 rfl (lv_at hl 0 rfl) ?_
        refine hs_iadd hx hb d_m_isRight_25 ?_
        refine hs_to (y := nI (nw * b + i)) (by rw [Nat.mul_comm]) ?_
        refine hs_iald hx hb hK hP 2 0 rfl rfl (i := nw * b + i) (by omega) (by decide) d_m_isRight_26 ?_
        refine hs_to (y := ((wdA (ar f na us) nw b) i)) (hp _ (by omega)) ?_
        refine lv_if_ge (tgt := 32) hx hb d_m_isRight_27 (by decide) (fun h2 => ?_) (fun h2 => ?_)
        · skip
          refine lv_iinc (v := nI (i + 1)) (lv' := [(2, .int (nI (i + 1))), (0, .ref h), (1, .int (nI b))]) hx hb d_m_isRight_32 hl (k := 0) rfl (nI_add _ _) (by decide) rfl (fun ls hl => ?_)
          refine lv_goto (tgt := 6) hx hb d_m_isRight_35 (by decide) ?_
          exact ih (i + 1) h1 (nng_step hn (Int32.not_lt.mpr h2)) (by omega) ls (lv_sub hl [0, 1, 2] rfl)
        · skip
          refine lv_iconst (v := nI 0) hx hb d_m_isRight_30 (by decide) ?_
          refine hs_to (y := bI (okA (ar f na us) dp nb nw b kp)) (by rw [okA, nng_false (i := i) (Int32.not_le.mp h2) nw h1]; rfl) ?_
          exact W.zret (v := bI (okA (ar f na us) dp nb nw b kp)) hx hb hr (bI_n _) (fun t ht hW => ⟨⟨u, hp, rfl, by rw [ht]; exact hP, hD⟩, hS.F ht⟩) hS.2.2 d_m_isRight_31
  exact loop (nw + 1) 0 (Nat.zero_le _) rfl (by omega) ls (lv_sub hl [0, 1, 2] rfl)
set_option maxHeartbeats 4000000 in
set_option maxRecDepth 100000 in
/-- put -/
theorem c_m_put (l : Launch) (D : va_G) (cA : ClassId) (h d w dp nb nw na : Nat) (f g : Nat → Int32) (us : Nat) (kp de lf : Int32) (dw : Bool) (sz : Nat) (k : Nat) (hG : hsG dp nb nw na) (hsl : us ≤ 1) (hk9 : k < na) : Met l y_m_put w_m_put rq0 (PcW D [(cA, .int)] (mw cA h d w dp nb nw na f g us kp de lf dw) sz [.ref h, .int (nI k)]) (QcW D (va_A (mw cA h d w dp nb nw na f g us kp de lf dw) sz) (fun u : PS => u = pt (na * (1 - us) + k) (g k) f lf de dw) (fun u => some (.int (bI u.1))) (fun u => mw cA h d w dp nb nw na u.2.1 g us kp u.2.2.2.1 u.2.2.1 u.2.2.2.2)) 0 0 (va_A (mw cA h d w dp nb nw na f g us kp de lf dw) sz) := by
  refine Met.ofW (cc := b_m_put) (maxL := 3) (ret := (some .boolean)) (by decide) rfl ?_
  intro p e s m args below meth c s₁ B9 hml hv
  obtain ⟨rfl, hsz, hP, hK, hD0⟩ := hv
  have hx := B9.exec
  have hb := B9.bytes
  have hr := B9.returns
  have hts0 := atoms_spec (ws := w_m_put) B9.pre
  have hts : ∀ w ∈ gw, w.before _ s = true := fun w hw => hts0 w (List.mem_cons_of_mem _ hw)
  have hown : s.vm.findClass R_m = some m.cls := findClass_of_methodNamed B9.named
  have hlocks := B9.notSynchronized
  have S9 : CallFix p m c b_m_put 3 s _ gw R_m := ⟨hx, hb, hml, hown, hts⟩
  subst hsz
  have hD := hD0.self (sz := s.heap.size)
  generalize hAe : va_A (mw cA h d w dp nb nw na f g us kp de lf dw) s.heap.size = Z at hD ⊢
  have hA : ∀ q : Nat, s.heap.size ≤ q → Z q := fun q h => by rw [← hAe]; exact Or.inr h
  have hS : va_S Z s.heap s.heap [] := va_S.rf
  have hl := lv_entry ([.ref h, .int (nI k)]) (n := 3) (Nat.le_of_ble_eq_true rfl)
  rw [lg_entry_eq]
  generalize (lg_sl ([.ref h, .int (nI k)]) ++ List.replicate (3 - (lg_sl ([.ref h, .int (nI k)])).length) Slot.unset).toArray = ls at hl ⊢
  have hl : lv_has ls 3 [(0, .ref h), (1, .int (nI k))] := hl
  have h9 := hG.fits
  have hc9 := at_cell (sl := 1 - us) hG (by omega) hk9
  refine lv_aload_n hx hb d_m_put_0 rfl (lv_at hl 0 rfl) ?_
  refine gm hx hb hts hown hK hP rfl 3 29 (by decide) lk_m_size (v := .int (nI na)) rfl d_m_put_1 ?_
  refine lv_iconst (v := nI 1) hx hb d_m_put_4 (by decide) ?_
  refine lv_aload_n hx hb d_m_put_5 rfl (lv_at hl 0 rfl) ?_
  refine gm hx hb hts hown hK hP rfl 6 42 (by decide) lk_m_used (v := .int (nI us)) rfl d_m_put_6 ?_
  refine hs_isub hx hb (by omega) d_m_put_9 ?_
  refine hs_imul hx hb d_m_put_10 ?_
  refine lv_iload_n hx hb d_m_put_11 rfl (lv_at hl 1 rfl) ?_
  refine hs_iadd hx hb d_m_put_12 ?_
  refine lv_istore_n (lv' := [(2, .int (nI ((na * (1 - us)) + k))), (0, .ref h), (1, .int (nI k))]) hx hb d_m_put_13 rfl hl (by decide) rfl (fun ls hl => ?_)
  refine lv_aload_n hx hb d_m_put_14 rfl (lv_at hl 1 rfl) ?_
  refine gm hx hb hts hown hK hP rfl 4 7 (by decide) lk_m_disk (v := .ref d) rfl d_m_put_15 ?_
  refine lv_iload_n hx hb d_m_put_18 rfl (lv_at hl 0 rfl) ?_
  refine hs_iald hx hb hK hP 1 0 rfl rfl (i := (na * (1 - us)) + k) (by omega) (by decide) d_m_put_19 ?_
  refine lv_aload_n hx hb d_m_put_20 rfl (lv_at hl 1 rfl) ?_
  refine gm hx hb hts hown hK hP rfl 5 13 (by decide) lk_m_goal (v := .ref w) rfl d_m_put_21 ?_
  refine lv_iload_n hx hb d_m_put_24 rfl (lv_at hl 2 rfl) ?_
  refine hs_iald hx hb hK hP 2 0 rfl rfl (i := k) (by omega) (by decide) d_m_put_25 ?_
  refine lv_icmp_ne (tgt := 31) hx hb d_m_put_26 (by decide) (fun h1 => ?_) (fun h1 => ?_)
  · skip
    refine lv_aload_n hx hb d_m_put_31 rfl (lv_at hl 1 rfl) ?_
    refine gm hx hb hts hown hK hP rfl 9 16 (by decide) lk_m_left (v := .int lf) rfl d_m_put_32 ?_
    refine lv_if_ne (tgt := 45) hx hb d_m_put_35 (by decide) (fun h2 => ?_) (fun h2 => ?_)
    · skip
      refine lv_aload_n hx hb d_m_put_45 rfl (lv_at hl 1 rfl) ?_
      refine lv_aload_n hx hb d_m_put_46 rfl (lv_at hl 1 rfl) ?_
      refine gm hx hb hts hown hK hP rfl 9 16 (by decide) lk_m_left (v := .int lf) rfl d_m_put_47 ?_
      refine lv_if_le (tgt := 62) hx hb d_m_put_50 (by decide) (fun h3 => ?_) (fun h3 => ?_)
      · skip
        refine lv_aload_n hx hb d_m_put_62 rfl (lv_at hl 1 rfl) ?_
        refine gm hx hb hts hown hK hP rfl 9 16 (by decide) lk_m_left (v := .int lf) rfl d_m_put_63 ?_
        refine hs_to (y := dcl lf) (by rw [dcl, if_neg (Int32.not_lt.mpr h3)]) ?_
        refine pm hx hb hts hown hK hP hD hS rfl 9 16 (by decide) lk_m_left rfl (ty := .int) (v := .int (dcl lf)) rfl rfl rfl (Nat.le_of_ble_eq_true rfl) d_m_put_66 (fun H locs hP hD hS => ?_)
        have hP : va_P D classes (mw cA h d w dp nb nw na f g us kp de (dcl lf) dw) H := hP
        have hD : va_D Z (mw cA h d w dp nb nw na f g us kp de (dcl lf) dw) := hD
        refine lv_aload_n hx hb d_m_put_69 rfl (lv_at hl 1 rfl) ?_
        refine gm hx hb hts hown hK hP rfl 4 7 (by decide) lk_m_disk (v := .ref d) rfl d_m_put_70 ?_
        refine lv_iload_n hx hb d_m_put_73 rfl (lv_at hl 0 rfl) ?_
        refine lv_aload_n hx hb d_m_put_74 rfl (lv_at hl 1 rfl) ?_
        refine gm hx hb hts hown hK hP rfl 5 13 (by decide) lk_m_goal (v := .ref w) rfl d_m_put_75 ?_
        refine lv_iload_n hx hb d_m_put_78 rfl (lv_at hl 2 rfl) ?_
        refine hs_iald hx hb hK hP 2 0 rfl rfl (i := k) (by omega) (by decide) d_m_put_79 ?_
        refine hs_iast hx hb hK hP hD hS 1 0 rfl rfl (i := (na * (1 - us)) + k) (x := (g k)) (by omega) (by decide) d_m_put_80 (fun H locs hP hD hS => ?_)
        have hP : va_P D classes (mw cA h d w dp nb nw na (upd f ((na * (1 - us)) + k) (g k)) g us kp de (dcl lf) dw) H := hP
        have hD : va_D Z (mw cA h d w dp nb nw na (upd f ((na * (1 - us)) + k) (g k)) g us kp de (dcl lf) dw) := hD
        refine lv_aload_n hx hb d_m_put_81 rfl (lv_at hl 1 rfl) ?_
        refine lv_dup hx hb d_m_put_82 rfl ?_
        refine gm hx hb hts hown hK hP rfl 8 55 (by decide) lk_m_done (v := .int de) rfl d_m_put_83 ?_
        refine lv_iconst (v := nI 1) hx hb d_m_put_86 (by decide) ?_
        refine lv_iadd hx hb d_m_put_87 ?_
        refine hs_to (y := de + 1) rfl ?_
        refine pm hx hb hts hown hK hP hD hS rfl 8 55 (by decide) lk_m_done rfl (ty := .int) (v := .int (de + 1)) rfl rfl rfl (Nat.le_of_ble_eq_true rfl) d_m_put_88 (fun H locs hP hD hS => ?_)
        have hP : va_P D classes (mw cA h d w dp nb nw na (upd f ((na * (1 - us)) + k) (g k)) g us kp (de + 1) (dcl lf) dw) H := hP
        have hD : va_D Z (mw cA h d w dp nb nw na (upd f ((na * (1 - us)) + k) (g k)) g us kp (de + 1) (dcl lf) dw) := hD
        refine lv_iconst (v := nI 1) hx hb d_m_put_91 (by decide) ?_
        refine hs_to (y := bI true) bI_t ?_
        exact W.zret (v := bI true) hx hb hr (bI_n _) (fun t ht hW => ⟨⟨(true, upd f (na * (1 - us) + k) (g k), dcl lf, de + 1, dw), (by rw [pt, if_neg h1, if_neg h2]), rfl, by rw [ht]; exact hP, hD⟩, hS.F ht⟩) hS.2.2 d_m_put_92
      · skip
        refine lv_aload_n hx hb d_m_put_53 rfl (lv_at hl 1 rfl) ?_
        refine gm hx hb hts hown hK hP rfl 9 16 (by decide) lk_m_left (v := .int lf) rfl d_m_put_54 ?_
        refine lv_iconst (v := nI 1) hx hb d_m_put_57 (by decide) ?_
        refine lv_isub hx hb d_m_put_58 ?_
        refine hs_to (y := dcl lf) (by rw [dcl, if_pos (Int32.not_le.mp h3)]; rfl) ?_
        refine lv_goto (tgt := 66) hx hb d_m_put_59 (by decide) ?_
        refine pm hx hb hts hown hK hP hD hS rfl 9 16 (by decide) lk_m_left rfl (ty := .int) (v := .int (dcl lf)) rfl rfl rfl (Nat.le_of_ble_eq_true rfl) d_m_put_66 (fun H locs hP hD hS => ?_)
        have hP : va_P D classes (mw cA h d w dp nb nw na f g us kp de (dcl lf) dw) H := hP
        have hD : va_D Z (mw cA h d w dp nb nw na f g us kp de (dcl lf) dw) := hD
        refine lv_aload_n hx hb d_m_put_69 rfl (lv_at hl 1 rfl) ?_
        refine gm hx hb hts hown hK hP rfl 4 7 (by decide) lk_m_disk (v := .ref d) rfl d_m_put_70 ?_
        refine lv_iload_n hx hb d_m_put_73 rfl (lv_at hl 0 rfl) ?_
        refine lv_aload_n hx hb d_m_put_74 rfl (lv_at hl 1 rfl) ?_
        refine gm hx hb hts hown hK hP rfl 5 13 (by decide) lk_m_goal (v := .ref w) rfl d_m_put_75 ?_
        refine lv_iload_n hx hb d_m_put_78 rfl (lv_at hl 2 rfl) ?_
        refine hs_iald hx hb hK hP 2 0 rfl rfl (i := k) (by omega) (by decide) d_m_put_79 ?_
        refine hs_iast hx hb hK hP hD hS 1 0 rfl rfl (i := (na * (1 - us)) + k) (x := (g k)) (by omega) (by decide) d_m_put_80 (fun H locs hP hD hS => ?_)
        have hP : va_P D classes (mw cA h d w dp nb nw na (upd f ((na * (1 - us)) + k) (g k)) g us kp de (dcl lf) dw) H := hP
        have hD : va_D Z (mw cA h d w dp nb nw na (upd f ((na * (1 - us)) + k) (g k)) g us kp de (dcl lf) dw) := hD
        refine lv_aload_n hx hb d_m_put_81 rfl (lv_at hl 1 rfl) ?_
        refine lv_dup hx hb d_m_put_82 rfl ?_
        refine gm hx hb hts hown hK hP rfl 8 55 (by decide) lk_m_done (v := .int de) rfl d_m_put_83 ?_
        refine lv_iconst (v := nI 1) hx hb d_m_put_86 (by decide) ?_
        refine lv_iadd hx hb d_m_put_87 ?_
        refine hs_to (y := de + 1) rfl ?_
        refine pm hx hb hts hown hK hP hD hS rfl 8 55 (by decide) lk_m_done rfl (ty := .int) (v := .int (de + 1)) rfl rfl rfl (Nat.le_of_ble_eq_true rfl) d_m_put_88 (fun H locs hP hD hS => ?_)
        have hP : va_P D classes (mw cA h d w dp nb nw na (upd f ((na * (1 - us)) + k) (g k)) g us kp (de + 1) (dcl lf) dw) H := hP
        have hD : va_D Z (mw cA h d w dp nb nw na (upd f ((na * (1 - us)) + k) (g k)) g us kp (de + 1) (dcl lf) dw) := hD
        refine lv_iconst (v := nI 1) hx hb d_m_put_91 (by decide) ?_
        refine hs_to (y := bI true) bI_t ?_
        exact W.zret (v := bI true) hx hb hr (bI_n _) (fun t ht hW => ⟨⟨(true, upd f (na * (1 - us) + k) (g k), dcl lf, de + 1, dw), (by rw [pt, if_neg h1, if_neg h2]), rfl, by rw [ht]; exact hP, hD⟩, hS.F ht⟩) hS.2.2 d_m_put_92
    · skip
      refine lv_aload_n hx hb d_m_put_38 rfl (lv_at hl 1 rfl) ?_
      refine lv_iconst (v := nI 1) hx hb d_m_put_39 (by decide) ?_
      refine hs_to (y := bI true) bI_t ?_
      refine pm hx hb hts hown hK hP hD hS rfl 10 58 (by decide) lk_m_isDown rfl (ty := .boolean) (v := .int (bI true)) rfl (bI_n _) (bI_f _) (Nat.le_of_ble_eq_true rfl) d_m_put_40 (fun H locs hP hD hS => ?_)
      have hP : va_P D classes (mw cA h d w dp nb nw na f g us kp de lf true) H := hP
      have hD : va_D Z (mw cA h d w dp nb nw na f g us kp de lf true) := hD
      refine lv_iconst (v := nI 0) hx hb d_m_put_43 (by decide) ?_
      refine hs_to (y := bI false) bI_ff ?_
      exact W.zret (v := bI false) hx hb hr (bI_n _) (fun t ht hW => ⟨⟨(false, f, lf, de, true), (by rw [pt, if_neg h1, if_pos h2]), rfl, by rw [ht]; exact hP, hD⟩, hS.F ht⟩) hS.2.2 d_m_put_44
  · skip
    refine lv_iconst (v := nI 1) hx hb d_m_put_29 (by decide) ?_
    refine hs_to (y := bI true) bI_t ?_
    exact W.zret (v := bI true) hx hb hr (bI_n _) (fun t ht hW => ⟨⟨(true, f, lf, de, dw), (by rw [pt, if_pos h1]), rfl, by rw [ht]; exact hP, hD⟩, hS.F ht⟩) hS.2.2 d_m_put_30
set_option maxHeartbeats 4000000 in
set_option maxRecDepth 100000 in
/-- read -/
theorem c_m_read (l : Launch) (D : va_G) (cA : ClassId) (h d w dp nb nw na : Nat) (f g : Nat → Int32) (us : Nat) (kp de lf : Int32) (dw : Bool) (sz : Nat) (b i : Int32) (hG : hsG dp nb nw na) (hsl : us ≤ 1) : Met l y_m_read w_m_read rq4 (PcW D [(cA, .int)] (mw cA h d w dp nb nw na f g us kp de lf dw) sz [.ref h, .int b, .int i]) (QcW D (va_A (mw cA h d w dp nb nw na f g us kp de lf dw) sz) (fun u : Nat → Int32 => True) (fun _ => some (.int (rdV (ar f na us) dp nb nw kp dw b i))) (fun u => mw cA h d w dp nb nw na f u us kp de lf dw)) 0 0 (va_A (mw cA h d w dp nb nw na f g us kp de lf dw) sz) := by
  refine Met.ofW (cc := b_m_read) (maxL := 3) (ret := (some .int)) (by decide) rfl ?_
  intro p e s m args below meth c s₁ B9 hml hv
  obtain ⟨rfl, hsz, hP, hK, hD0⟩ := hv
  have hx := B9.exec
  have hb := B9.bytes
  have hr := B9.returns
  have hts0 := atoms_spec (ws := w_m_read) B9.pre
  have hts : ∀ w ∈ gw, w.before _ s = true := fun w hw => hts0 w (List.mem_cons_of_mem _ hw)
  have hown : s.vm.findClass R_m = some m.cls := findClass_of_methodNamed B9.named
  have hlocks := B9.notSynchronized
  have S9 : CallFix p m c b_m_read 3 s _ gw R_m := ⟨hx, hb, hml, hown, hts⟩
  subst hsz
  have hD := hD0.self (sz := s.heap.size)
  generalize hAe : va_A (mw cA h d w dp nb nw na f g us kp de lf dw) s.heap.size = Z at hD ⊢
  have hA : ∀ q : Nat, s.heap.size ≤ q → Z q := fun q h => by rw [← hAe]; exact Or.inr h
  have hS : va_S Z s.heap s.heap [] := va_S.rf
  have hl := lv_entry ([.ref h, .int b, .int i]) (n := 3) (Nat.le_of_ble_eq_true rfl)
  rw [lg_entry_eq]
  generalize (lg_sl ([.ref h, .int b, .int i]) ++ List.replicate (3 - (lg_sl ([.ref h, .int b, .int i])).length) Slot.unset).toArray = ls at hl ⊢
  have hl : lv_has ls 3 [(0, .ref h), (1, .int b), (2, .int i)] := hl
  have h9 := hG.fits
  refine lv_aload_n hx hb d_m_read_0 rfl (lv_at hl 0 rfl) ?_
  refine lv_iload_n hx hb d_m_read_1 rfl (lv_at hl 1 rfl) ?_
  refine hs_rv (As := [.int b]) (rest := []) S9 (c_m_isBlock l D cA h d w dp nb nw na f g us kp de lf dw b) k_m_m_isBlock h_m_isBlock rfl rfl ⟨Nat.le_of_ble_eq_true rfl, Nat.le_of_ble_eq_true rfl⟩ hK hP rfl rfl rfl hl.1 rfl (Nat.le_of_ble_eq_true rfl) d_m_read_2 ⟨Nat.zero_le _, Nat.zero_le _⟩ ?_
  refine hs_ifeqB (tgt := 20) hx hb d_m_read_5 (by decide) (fun h1 => ?_) (fun h1 => ?_)
  · skip
    refine lv_bipush (v := -2) hx hb d_m_read_20 (by decide) ?_
    refine hs_to (y := rdV (ar f na us) dp nb nw kp dw b i) (by rw [rdV_bad (fun q => of_decide_eq_false h1 ⟨q.1, q.2.1⟩)]) ?_
    exact W.iret (v := rdV (ar f na us) dp nb nw kp dw b i) hx hb hr (fun t ht hW => ⟨⟨g, trivial, rfl, by rw [ht]; exact hP, hD⟩, hS.F ht⟩) hS.2.2 d_m_read_22
  · skip
    refine lv_iload_n hx hb d_m_read_8 rfl (lv_at hl 2 rfl) ?_
    refine lv_if_lt (tgt := 20) hx hb d_m_read_9 (by decide) (fun h2 => ?_) (fun h2 => ?_)
    · skip
      refine lv_bipush (v := -2) hx hb d_m_read_20 (by decide) ?_
      refine hs_to (y := rdV (ar f na us) dp nb nw kp dw b i) (by rw [rdV_bad (fun q => Int32.not_le.mpr h2 q.2.2.1)]) ?_
      exact W.iret (v := rdV (ar f na us) dp nb nw kp dw b i) hx hb hr (fun t ht hW => ⟨⟨g, trivial, rfl, by rw [ht]; exact hP, hD⟩, hS.F ht⟩) hS.2.2 d_m_read_22
    · skip
      refine lv_iload_n hx hb d_m_read_12 rfl (lv_at hl 2 rfl) ?_
      refine lv_aload_n hx hb d_m_read_13 rfl (lv_at hl 0 rfl) ?_
      refine gm hx hb hts hown hK hP rfl 2 26 (by decide) lk_m_words (v := .int (nI nw)) rfl d_m_read_14 ?_
      refine lv_icmp_lt (tgt := 23) hx hb d_m_read_17 (by decide) (fun h3 => ?_) (fun h3 => ?_)
      · skip
        have hv9 : vld nb nw b i := ⟨(of_decide_eq_true h1).1, (of_decide_eq_true h1).2, Int32.not_lt.mp h2, h3⟩
        obtain ⟨b9, i9, hb9, hi9, rfl, rfl⟩ := vld_of (by omega) (by omega) hv9
        refine lv_aload_n hx hb d_m_read_23 rfl (lv_at hl 0 rfl) ?_
        refine gm hx hb hts hown hK hP rfl 10 58 (by decide) lk_m_isDown (v := .int (bI dw)) rfl d_m_read_24 ?_
        refine hs_ifeqB (tgt := 35) hx hb d_m_read_27 (by decide) (fun h4 => ?_) (fun h4 => ?_)
        · skip
          refine lv_aload_n hx hb d_m_read_35 rfl (lv_at hl 0 rfl) ?_
          refine lv_iload_n hx hb d_m_read_36 rfl (lv_at hl 1 rfl) ?_
          refine hs_wv (As := [.int (nI b9)]) (rest := []) (wr := []) [0, 1, 2] [] S9 (c_m_isRight l D cA h d w dp nb nw na f g us kp de lf dw s.heap.size b9 hG hsl hb9) k_m_m_isRight h_m_isRight rfl rfl ⟨Nat.le_of_ble_eq_true rfl, Nat.le_of_ble_eq_true rfl⟩ hK hP hD hS hA rfl rfl rfl rfl (by decide) rfl rfl rfl rfl hl.1 rfl (Nat.le_of_ble_eq_true rfl) d_m_read_37 ⟨Nat.zero_le _, Nat.zero_le _⟩ (fun u H locs hp hP hD hS => ?_)
          have hP : va_P D classes (mw cA h d w dp nb nw na f u us kp de lf dw) H := hP
          have hD : va_D Z (mw cA h d w dp nb nw na f u us kp de lf dw) := hD
          refine W.eq (g2 := F0 m 40 ls [.int (bI (okA (ar f na us) dp nb nw b9 kp))]) rfl ?_
          refine hs_ifeqB (tgt := 59) hx hb d_m_read_40 (by decide) (fun h5 => ?_) (fun h5 => ?_)
          · skip
            refine lv_bipush (v := -3) hx hb d_m_read_59 (by decide) ?_
            refine hs_to (y := rdV (ar f na us) dp nb nw kp dw (nI b9) (nI i9)) (by rw [rdV_no (by omega) (by omega) hb9 hi9 h4 h5]) ?_
            exact W.iret (v := rdV (ar f na us) dp nb nw kp dw (nI b9) (nI i9)) hx hb hr (fun t ht hW => ⟨⟨u, trivial, rfl, by rw [ht]; exact hP, hD⟩, hS.F ht⟩) hS.2.2 d_m_read_61
          · skip
            have hw9 := (at_word (sl := 0) hG (Nat.zero_le 1) hb9 hi9).1
            refine lv_aload_n hx hb d_m_read_43 rfl (lv_at hl 0 rfl) ?_
            refine gm hx hb hts hown hK hP rfl 5 13 (by decide) lk_m_goal (v := .ref w) rfl d_m_read_44 ?_
            refine lv_iload_n hx hb d_m_read_47 rfl (lv_at hl 1 rfl) ?_
            refine lv_aload_n hx hb d_m_read_48 rfl (lv_at hl 0 rfl) ?_
            refine gm hx hb hts hown hK hP rfl 2 26 (by decide) lk_m_words (v := .int (nI nw)) rfl d_m_read_49 ?_
            refine hs_imul hx hb d_m_read_52 ?_
            refine lv_iload_n hx hb d_m_read_53 rfl (lv_at hl 2 rfl) ?_
            refine hs_iadd hx hb d_m_read_54 ?_
            refine hs_to (y := nI (nw * b9 + i9)) (by rw [Nat.mul_comm]) ?_
            refine hs_iald hx hb hK hP 2 0 rfl rfl (i := nw * b9 + i9) (by omega) (by decide) d_m_read_55 ?_
            refine lv_goto (tgt := 61) hx hb d_m_read_56 (by decide) ?_
            refine hs_to (y := rdV (ar f na us) dp nb nw kp dw (nI b9) (nI i9)) (by rw [rdV_ok (by omega) (by omega) hb9 hi9 h4 h5]; exact hp _ (by omega)) ?_
            exact W.iret (v := rdV (ar f na us) dp nb nw kp dw (nI b9) (nI i9)) hx hb hr (fun t ht hW => ⟨⟨u, trivial, rfl, by rw [ht]; exact hP, hD⟩, hS.F ht⟩) hS.2.2 d_m_read_61
        · skip
          refine lv_bipush (v := -4) hx hb d_m_read_30 (by decide) ?_
          refine lv_goto (tgt := 61) hx hb d_m_read_32 (by decide) ?_
          refine hs_to (y := rdV (ar f na us) dp nb nw kp dw (nI b9) (nI i9)) (by rw [rdV_dn hv9 h4]) ?_
          exact W.iret (v := rdV (ar f na us) dp nb nw kp dw (nI b9) (nI i9)) hx hb hr (fun t ht hW => ⟨⟨g, trivial, rfl, by rw [ht]; exact hP, hD⟩, hS.F ht⟩) hS.2.2 d_m_read_61
      · skip
        refine lv_bipush (v := -2) hx hb d_m_read_20 (by decide) ?_
        refine hs_to (y := rdV (ar f na us) dp nb nw kp dw b i) (by rw [rdV_bad (fun q => h3 q.2.2.2)]) ?_
        exact W.iret (v := rdV (ar f na us) dp nb nw kp dw b i) hx hb hr (fun t ht hW => ⟨⟨g, trivial, rfl, by rw [ht]; exact hP, hD⟩, hS.F ht⟩) hS.2.2 d_m_read_22
set_option maxHeartbeats 4000000 in
set_option maxRecDepth 100000 in
/-- verify -/
theorem c_m_verify (l : Launch) (D : va_G) (cA : ClassId) (h d w dp nb nw na : Nat) (f g : Nat → Int32) (us : Nat) (kp de lf : Int32) (dw : Bool) (sz : Nat) (b : Int32) (hG : hsG dp nb nw na) (hsl : us ≤ 1) : Met l y_m_verify w_m_verify rq4 (PcW D [(cA, .int)] (mw cA h d w dp nb nw na f g us kp de lf dw) sz [.ref h, .int b]) (QcW D (va_A (mw cA h d w dp nb nw na f g us kp de lf dw) sz) (fun u : Nat → Int32 => True) (fun _ => some (.int (bI (vfV (ar f na us) dp nb nw kp dw b)))) (fun u => mw cA h d w dp nb nw na f u us kp de lf dw)) 0 0 (va_A (mw cA h d w dp nb nw na f g us kp de lf dw) sz) := by
  refine Met.ofW (cc := b_m_verify) (maxL := 2) (ret := (some .boolean)) (by decide) rfl ?_
  intro p e s m args below meth c s₁ B9 hml hv
  obtain ⟨rfl, hsz, hP, hK, hD0⟩ := hv
  have hx := B9.exec
  have hb := B9.bytes
  have hr := B9.returns
  have hts0 := atoms_spec (ws := w_m_verify) B9.pre
  have hts : ∀ w ∈ gw, w.before _ s = true := fun w hw => hts0 w (List.mem_cons_of_mem _ hw)
  have hown : s.vm.findClass R_m = some m.cls := findClass_of_methodNamed B9.named
  have hlocks := B9.notSynchronized
  have S9 : CallFix p m c b_m_verify 2 s _ gw R_m := ⟨hx, hb, hml, hown, hts⟩
  subst hsz
  have hD := hD0.self (sz := s.heap.size)
  generalize hAe : va_A (mw cA h d w dp nb nw na f g us kp de lf dw) s.heap.size = Z at hD ⊢
  have hA : ∀ q : Nat, s.heap.size ≤ q → Z q := fun q h => by rw [← hAe]; exact Or.inr h
  have hS : va_S Z s.heap s.heap [] := va_S.rf
  have hl := lv_entry ([.ref h, .int b]) (n := 2) (Nat.le_of_ble_eq_true rfl)
  rw [lg_entry_eq]
  generalize (lg_sl ([.ref h, .int b]) ++ List.replicate (2 - (lg_sl ([.ref h, .int b])).length) Slot.unset).toArray = ls at hl ⊢
  have hl : lv_has ls 2 [(0, .ref h), (1, .int b)] := hl
  have h9 := hG.fits
  refine lv_aload_n hx hb d_m_verify_0 rfl (lv_at hl 0 rfl) ?_
  refine lv_iload_n hx hb d_m_verify_1 rfl (lv_at hl 1 rfl) ?_
  refine hs_rv (As := [.int b]) (rest := []) S9 (c_m_isBlock l D cA h d w dp nb nw na f g us kp de lf dw b) k_m_m_isBlock h_m_isBlock rfl rfl ⟨Nat.le_of_ble_eq_true rfl, Nat.le_of_ble_eq_true rfl⟩ hK hP rfl rfl rfl hl.1 rfl (Nat.le_of_ble_eq_true rfl) d_m_verify_2 ⟨Nat.zero_le _, Nat.zero_le _⟩ ?_
  refine hs_ifeqB (tgt := 27) hx hb d_m_verify_5 (by decide) (fun h1 => ?_) (fun h1 => ?_)
  · skip
    refine lv_iconst (v := nI 0) hx hb d_m_verify_27 (by decide) ?_
    refine hs_to (y := bI (vfV (ar f na us) dp nb nw kp dw b)) (by rw [vfV, h1]; rfl) ?_
    exact W.zret (v := bI (vfV (ar f na us) dp nb nw kp dw b)) hx hb hr (bI_n _) (fun t ht hW => ⟨⟨g, trivial, rfl, by rw [ht]; exact hP, hD⟩, hS.F ht⟩) hS.2.2 d_m_verify_28
  · skip
    refine lv_aload_n hx hb d_m_verify_8 rfl (lv_at hl 0 rfl) ?_
    refine gm hx hb hts hown hK hP rfl 10 58 (by decide) lk_m_isDown (v := .int (bI dw)) rfl d_m_verify_9 ?_
    refine hs_ifneB (tgt := 27) hx hb d_m_verify_12 (by decide) (fun h3 => ?_) (fun h3 => ?_)
    · skip
      refine lv_iconst (v := nI 0) hx hb d_m_verify_27 (by decide) ?_
      refine hs_to (y := bI (vfV (ar f na us) dp nb nw kp dw b)) (by rw [vfV, h3]; simp; rfl) ?_
      exact W.zret (v := bI (vfV (ar f na us) dp nb nw kp dw b)) hx hb hr (bI_n _) (fun t ht hW => ⟨⟨g, trivial, rfl, by rw [ht]; exact hP, hD⟩, hS.F ht⟩) hS.2.2 d_m_verify_28
    · skip
      obtain ⟨b9, hb9, rfl⟩ := ix_of (by omega) (of_decide_eq_true h1).1 (of_decide_eq_true h1).2
      refine lv_aload_n hx hb d_m_verify_15 rfl (lv_at hl 0 rfl) ?_
      refine lv_iload_n hx hb d_m_verify_16 rfl (lv_at hl 1 rfl) ?_
      refine hs_wv (As := [.int (nI b9)]) (rest := []) (wr := []) [0, 1, 2] [] S9 (c_m_isRight l D cA h d w dp nb nw na f g us kp de lf dw s.heap.size b9 hG hsl hb9) k_m_m_isRight h_m_isRight rfl rfl ⟨Nat.le_of_ble_eq_true rfl, Nat.le_of_ble_eq_true rfl⟩ hK hP hD hS hA rfl rfl rfl rfl (by decide) rfl rfl rfl rfl hl.1 rfl (Nat.le_of_ble_eq_true rfl) d_m_verify_17 ⟨Nat.zero_le _, Nat.zero_le _⟩ (fun u H locs hp hP hD hS => ?_)
      have hP : va_P D classes (mw cA h d w dp nb nw na f u us kp de lf dw) H := hP
      have hD : va_D Z (mw cA h d w dp nb nw na f u us kp de lf dw) := hD
      refine W.eq (g2 := F0 m 20 ls [.int (bI (okA (ar f na us) dp nb nw b9 kp))]) rfl ?_
      refine hs_ifeqB (tgt := 27) hx hb d_m_verify_20 (by decide) (fun h4 => ?_) (fun h4 => ?_)
      · skip
        refine lv_iconst (v := nI 0) hx hb d_m_verify_27 (by decide) ?_
        refine hs_to (y := bI (vfV (ar f na us) dp nb nw kp dw (nI b9))) (by rw [vfV, nI_clamp (by omega), h4]; simp; rfl) ?_
        exact W.zret (v := bI (vfV (ar f na us) dp nb nw kp dw (nI b9))) hx hb hr (bI_n _) (fun t ht hW => ⟨⟨u, trivial, rfl, by rw [ht]; exact hP, hD⟩, hS.F ht⟩) hS.2.2 d_m_verify_28
      · skip
        refine lv_iconst (v := nI 1) hx hb d_m_verify_23 (by decide) ?_
        refine lv_goto (tgt := 28) hx hb d_m_verify_24 (by decide) ?_
        refine hs_to (y := bI (vfV (ar f na us) dp nb nw kp dw (nI b9))) (by rw [vfV, nI_clamp (by omega), h4, h3, h1]; rfl) ?_
        exact W.zret (v := bI (vfV (ar f na us) dp nb nw kp dw (nI b9))) hx hb hr (bI_n _) (fun t ht hW => ⟨⟨u, trivial, rfl, by rw [ht]; exact hP, hD⟩, hS.F ht⟩) hS.2.2 d_m_verify_28
set_option maxHeartbeats 4000000 in
set_option maxRecDepth 100000 in
/-- audit -/
theorem c_m_audit (l : Launch) (D : va_G) (cA : ClassId) (h d w dp nb nw na : Nat) (f g : Nat → Int32) (us : Nat) (kp de lf : Int32) (dw : Bool) (sz : Nat) (hG : hsG dp nb nw na) (hsl : us ≤ 1) : Met l y_m_audit w_m_audit rq4 (PcW D [(cA, .int)] (mw cA h d w dp nb nw na f g us kp de lf dw) sz [.ref h]) (QcW D (va_A (mw cA h d w dp nb nw na f g us kp de lf dw) sz) (fun u : Nat → Int32 => True) (fun _ => some (.int (auV (ar f na us) dp nb nw kp dw))) (fun u => mw cA h d w dp nb nw na f u us kp de lf dw)) 0 0 (va_A (mw cA h d w dp nb nw na f g us kp de lf dw) sz) := by
  refine Met.ofW (cc := b_m_audit) (maxL := 2) (ret := (some .int)) (by decide) rfl ?_
  intro p e s m args below meth c s₁ B9 hml hv
  obtain ⟨rfl, hsz, hP, hK, hD0⟩ := hv
  have hx := B9.exec
  have hb := B9.bytes
  have hr := B9.returns
  have hts0 := atoms_spec (ws := w_m_audit) B9.pre
  have hts : ∀ w ∈ gw, w.before _ s = true := fun w hw => hts0 w (List.mem_cons_of_mem _ hw)
  have hown : s.vm.findClass R_m = some m.cls := findClass_of_methodNamed B9.named
  have hlocks := B9.notSynchronized
  have S9 : CallFix p m c b_m_audit 2 s _ gw R_m := ⟨hx, hb, hml, hown, hts⟩
  subst hsz
  have hD := hD0.self (sz := s.heap.size)
  generalize hAe : va_A (mw cA h d w dp nb nw na f g us kp de lf dw) s.heap.size = Z at hD ⊢
  have hA : ∀ q : Nat, s.heap.size ≤ q → Z q := fun q h => by rw [← hAe]; exact Or.inr h
  have hS : va_S Z s.heap s.heap [] := va_S.rf
  have hl := lv_entry ([.ref h]) (n := 2) (Nat.le_of_ble_eq_true rfl)
  rw [lg_entry_eq]
  generalize (lg_sl ([.ref h]) ++ List.replicate (2 - (lg_sl ([.ref h])).length) Slot.unset).toArray = ls at hl ⊢
  have hl : lv_has ls 2 [(0, .ref h)] := hl
  have h9 := hG.fits
  refine lv_aload_n hx hb d_m_audit_0 rfl (lv_at hl 0 rfl) ?_
  refine gm hx hb hts hown hK hP rfl 10 58 (by decide) lk_m_isDown (v := .int (bI dw)) rfl d_m_audit_1 ?_
  refine hs_ifeqB (tgt := 10) hx hb d_m_audit_4 (by decide) (fun h2 => ?_) (fun h2 => ?_)
  · skip
    refine lv_iconst (v := nI 0) hx hb d_m_audit_10 (by decide) ?_
    refine lv_istore_n (lv' := [(1, .int (nI 0)), (0, .ref h)]) hx hb d_m_audit_11 rfl hl (by decide) rfl (fun ls hl => ?_)
    have loop : ∀ (n : Nat) (b j : Nat) (g9 : Nat → Int32), b + j = nb → auF (fun b => okA (ar f na us) dp nb nw b kp) j b = auV (ar f na us) dp nb nw kp dw → j < n → ∀ (H : Heap) (locs : List Loc), va_P D classes (mw cA h d w dp nb nw na f g9 us kp de lf dw) H → va_D Z (mw cA h d w dp nb nw na f g9 us kp de lf dw) → va_S Z s.heap H locs → ∀ (ls : Array Slot), lv_has ls 2 [(1, .int (nI b)), (0, .ref h)] → W p l e (headSpec w_m_audit rq4).room s m ([.ref h] : List Value).toArray below meth c H locs 0 0 (MQ below (QcW D Z (fun u : Nat → Int32 => True) (fun _ => some (.int (auV (ar f na us) dp nb nw kp dw))) (fun u => mw cA h d w dp nb nw na f u us kp de lf dw)) ([.ref h] : List Value).toArray s 0 0 Z) (F0 m 12 ls []) := by
      intro n
      induction n with
      | zero =>
        intro b j g9 hbj hau hmu
        exact absurd hmu (Nat.not_lt_zero _)
      | succ n ih =>
        intro b j g9 hbj hau hmu H locs hP hD hS ls hl
        refine lv_iload_n hx hb d_m_audit_12 rfl (lv_at hl 0 rfl) ?_
        refine lv_aload_n hx hb d_m_audit_13 rfl (lv_at hl 1 rfl) ?_
        refine gm hx hb hts hown hK hP rfl 1 23 (by decide) lk_m_blocks (v := .int (nI nb)) rfl d_m_audit_14 ?_
        refine hs_ge (tgt := 36) hx hb d_m_audit_17 (by decide) (by omega) (by omega) (fun h1 => ?_) (fun h1 => ?_)
        · skip
          have e9 : j = 0 := by omega
          subst e9
          refine lv_iconst (v := -1) hx hb d_m_audit_36 (by decide) ?_
          refine hs_to (y := auV (ar f na us) dp nb nw kp dw) hau ?_
          exact W.iret (v := auV (ar f na us) dp nb nw kp dw) hx hb hr (fun t ht hW => ⟨⟨g9, trivial, rfl, by rw [ht]; exact hP, hD⟩, hS.F ht⟩) hS.2.2 d_m_audit_37
        · skip
          obtain ⟨j, rfl⟩ : ∃ z, j = z + 1 := ⟨j - 1, by omega⟩
          refine lv_aload_n hx hb d_m_audit_20 rfl (lv_at hl 1 rfl) ?_
          refine lv_iload_n hx hb d_m_audit_21 rfl (lv_at hl 0 rfl) ?_
          refine hs_wv (As := [.int (nI b)]) (rest := []) (wr := []) [0, 1, 2] [] S9 (c_m_isRight l D cA h d w dp nb nw na f g9 us kp de lf dw H.size b hG hsl h1) k_m_m_isRight h_m_isRight rfl rfl ⟨Nat.le_of_ble_eq_true rfl, Nat.le_of_ble_eq_true rfl⟩ hK hP hD hS hA rfl rfl rfl rfl (by decide) rfl rfl rfl rfl hl.1 rfl (Nat.le_of_ble_eq_true rfl) d_m_audit_22 ⟨Nat.zero_le _, Nat.zero_le _⟩ (fun u H locs hp hP hD hS => ?_)
          have hP : va_P D classes (mw cA h d w dp nb nw na f u us kp de lf dw) H := hP
          have hD : va_D Z (mw cA h d w dp nb nw na f u us kp de lf dw) := hD
          refine W.eq (g2 := F0 m 25 ls [.int (bI (okA (ar f na us) dp nb nw b kp))]) rfl ?_
          refine hs_ifneB (tgt := 30) hx hb d_m_audit_25 (by decide) (fun h3 => ?_) (fun h3 => ?_)
          · skip
            refine lv_iinc (v := nI (b + 1)) (lv' := [(1, .int (nI (b + 1))), (0, .ref h)]) hx hb d_m_audit_30 hl (k := 0) rfl (nI_add _ _) (by decide) rfl (fun ls hl => ?_)
            refine lv_goto (tgt := 12) hx hb d_m_audit_33 (by decide) ?_
            exact ih (b + 1) j u (by omega) (by rw [auF, if_pos h3] at hau; exact hau) (by omega) _ _ hP hD hS ls (lv_sub hl [0, 1] rfl)
          · skip
            refine lv_iload_n hx hb d_m_audit_28 rfl (lv_at hl 0 rfl) ?_
            refine hs_to (y := auV (ar f na us) dp nb nw kp dw) (by rw [← hau, auF, if_neg (by rw [h3]; decide)]) ?_
            exact W.iret (v := auV (ar f na us) dp nb nw kp dw) hx hb hr (fun t ht hW => ⟨⟨u, trivial, rfl, by rw [ht]; exact hP, hD⟩, hS.F ht⟩) hS.2.2 d_m_audit_29
    exact loop (nb + 1) 0 nb g (by omega) (by rw [auV, h2]; rfl) (Nat.lt_succ_self _) _ _ hP hD hS ls (lv_sub hl [0, 1] rfl)
  · skip
    refine lv_bipush (v := -4) hx hb d_m_audit_7 (by decide) ?_
    refine hs_to (y := auV (ar f na us) dp nb nw kp dw) (by rw [auV, if_pos h2]) ?_
    exact W.iret (v := auV (ar f na us) dp nb nw kp dw) hx hb hr (fun t ht hW => ⟨⟨g, trivial, rfl, by rw [ht]; exact hP, hD⟩, hS.F ht⟩) hS.2.2 d_m_audit_9
end
section
set_option maxHeartbeats 4000000 in
set_option maxRecDepth 100000 in
/-- root -/
theorem c_m_root (l : Launch) (D : va_G) (cA : ClassId) (h d w dp nb nw na : Nat) (f g : Nat → Int32) (us : Nat) (kp de lf : Int32) (dw : Bool)  : Met l y_m_root w_m_root rq0 (PcR D [(cA, .int)] (mw cA h d w dp nb nw na f g us kp de lf dw) [.ref h]) (QcRead (kp)) 0 0 (fun _ => False) := by
  refine Met.ofW (cc := b_m_root) (maxL := 1) (ret := (some .int)) (by decide) rfl ?_
  intro p e s m args below meth c s₁ B9 hml hv
  obtain ⟨rfl, hP, hK⟩ := hv
  have hx := B9.exec
  have hb := B9.bytes
  have hr := B9.returns
  have hts0 := atoms_spec (ws := w_m_root) B9.pre
  have hts : ∀ w ∈ gw, w.before _ s = true := fun w hw => hts0 w (List.mem_cons_of_mem _ hw)
  have hown : s.vm.findClass R_m = some m.cls := findClass_of_methodNamed B9.named
  have hlocks := B9.notSynchronized
  have S9 : CallFix p m c b_m_root 1 s _ gw R_m := ⟨hx, hb, hml, hown, hts⟩
  have hl := lv_entry ([.ref h]) (n := 1) (Nat.le_of_ble_eq_true rfl)
  rw [lg_entry_eq]
  generalize (lg_sl ([.ref h]) ++ List.replicate (1 - (lg_sl ([.ref h])).length) Slot.unset).toArray = ls at hl ⊢
  have hl : lv_has ls 1 [(0, .ref h)] := hl
  refine lv_aload_n hx hb d_m_root_0 rfl (lv_at hl 0 rfl) ?_
  refine gm hx hb hts hown hK hP rfl 7 52 (by decide) lk_m_kept (v := .int kp) rfl d_m_root_1 ?_
  exact W.iret (v := kp) hx hb hr (fun t ht _ => ⟨rfl, ht⟩) (fun _ h => by cases h) d_m_root_4
set_option maxHeartbeats 4000000 in
set_option maxRecDepth 100000 in
/-- writes -/
theorem c_m_writes (l : Launch) (D : va_G) (cA : ClassId) (h d w dp nb nw na : Nat) (f g : Nat → Int32) (us : Nat) (kp de lf : Int32) (dw : Bool)  : Met l y_m_writes w_m_writes rq0 (PcR D [(cA, .int)] (mw cA h d w dp nb nw na f g us kp de lf dw) [.ref h]) (QcRead (de)) 0 0 (fun _ => False) := by
  refine Met.ofW (cc := b_m_writes) (maxL := 1) (ret := (some .int)) (by decide) rfl ?_
  intro p e s m args below meth c s₁ B9 hml hv
  obtain ⟨rfl, hP, hK⟩ := hv
  have hx := B9.exec
  have hb := B9.bytes
  have hr := B9.returns
  have hts0 := atoms_spec (ws := w_m_writes) B9.pre
  have hts : ∀ w ∈ gw, w.before _ s = true := fun w hw => hts0 w (List.mem_cons_of_mem _ hw)
  have hown : s.vm.findClass R_m = some m.cls := findClass_of_methodNamed B9.named
  have hlocks := B9.notSynchronized
  have S9 : CallFix p m c b_m_writes 1 s _ gw R_m := ⟨hx, hb, hml, hown, hts⟩
  have hl := lv_entry ([.ref h]) (n := 1) (Nat.le_of_ble_eq_true rfl)
  rw [lg_entry_eq]
  generalize (lg_sl ([.ref h]) ++ List.replicate (1 - (lg_sl ([.ref h])).length) Slot.unset).toArray = ls at hl ⊢
  have hl : lv_has ls 1 [(0, .ref h)] := hl
  refine lv_aload_n hx hb d_m_writes_0 rfl (lv_at hl 0 rfl) ?_
  refine gm hx hb hts hown hK hP rfl 8 55 (by decide) lk_m_done (v := .int de) rfl d_m_writes_1 ?_
  exact W.iret (v := de) hx hb hr (fun t ht _ => ⟨rfl, ht⟩) (fun _ h => by cases h) d_m_writes_4
set_option maxHeartbeats 4000000 in
set_option maxRecDepth 100000 in
/-- slot -/
theorem c_m_slot (l : Launch) (D : va_G) (cA : ClassId) (h d w dp nb nw na : Nat) (f g : Nat → Int32) (us : Nat) (kp de lf : Int32) (dw : Bool)  : Met l y_m_slot w_m_slot rq0 (PcR D [(cA, .int)] (mw cA h d w dp nb nw na f g us kp de lf dw) [.ref h]) (QcRead (nI us)) 0 0 (fun _ => False) := by
  refine Met.ofW (cc := b_m_slot) (maxL := 1) (ret := (some .int)) (by decide) rfl ?_
  intro p e s m args below meth c s₁ B9 hml hv
  obtain ⟨rfl, hP, hK⟩ := hv
  have hx := B9.exec
  have hb := B9.bytes
  have hr := B9.returns
  have hts0 := atoms_spec (ws := w_m_slot) B9.pre
  have hts : ∀ w ∈ gw, w.before _ s = true := fun w hw => hts0 w (List.mem_cons_of_mem _ hw)
  have hown : s.vm.findClass R_m = some m.cls := findClass_of_methodNamed B9.named
  have hlocks := B9.notSynchronized
  have S9 : CallFix p m c b_m_slot 1 s _ gw R_m := ⟨hx, hb, hml, hown, hts⟩
  have hl := lv_entry ([.ref h]) (n := 1) (Nat.le_of_ble_eq_true rfl)
  rw [lg_entry_eq]
  generalize (lg_sl ([.ref h]) ++ List.replicate (1 - (lg_sl ([.ref h])).length) Slot.unset).toArray = ls at hl ⊢
  have hl : lv_has ls 1 [(0, .ref h)] := hl
  refine lv_aload_n hx hb d_m_slot_0 rfl (lv_at hl 0 rfl) ?_
  refine gm hx hb hts hown hK hP rfl 6 42 (by decide) lk_m_used (v := .int (nI us)) rfl d_m_slot_1 ?_
  exact W.iret (v := nI us) hx hb hr (fun t ht _ => ⟨rfl, ht⟩) (fun _ h => by cases h) d_m_slot_4
set_option maxHeartbeats 4000000 in
set_option maxRecDepth 100000 in
/-- down -/
theorem c_m_down (l : Launch) (D : va_G) (cA : ClassId) (h d w dp nb nw na : Nat) (f g : Nat → Int32) (us : Nat) (kp de lf : Int32) (dw : Bool)  : Met l y_m_down w_m_down rq0 (PcR D [(cA, .int)] (mw cA h d w dp nb nw na f g us kp de lf dw) [.ref h]) (QcRead (bI dw)) 0 0 (fun _ => False) := by
  refine Met.ofW (cc := b_m_down) (maxL := 1) (ret := (some .boolean)) (by decide) rfl ?_
  intro p e s m args below meth c s₁ B9 hml hv
  obtain ⟨rfl, hP, hK⟩ := hv
  have hx := B9.exec
  have hb := B9.bytes
  have hr := B9.returns
  have hts0 := atoms_spec (ws := w_m_down) B9.pre
  have hts : ∀ w ∈ gw, w.before _ s = true := fun w hw => hts0 w (List.mem_cons_of_mem _ hw)
  have hown : s.vm.findClass R_m = some m.cls := findClass_of_methodNamed B9.named
  have hlocks := B9.notSynchronized
  have S9 : CallFix p m c b_m_down 1 s _ gw R_m := ⟨hx, hb, hml, hown, hts⟩
  have hl := lv_entry ([.ref h]) (n := 1) (Nat.le_of_ble_eq_true rfl)
  rw [lg_entry_eq]
  generalize (lg_sl ([.ref h]) ++ List.replicate (1 - (lg_sl ([.ref h])).length) Slot.unset).toArray = ls at hl ⊢
  have hl : lv_has ls 1 [(0, .ref h)] := hl
  refine lv_aload_n hx hb d_m_down_0 rfl (lv_at hl 0 rfl) ?_
  refine gm hx hb hts hown hK hP rfl 10 58 (by decide) lk_m_isDown (v := .int (bI dw)) rfl d_m_down_1 ?_
  exact W.zret (v := bI dw) hx hb hr (bI_n _) (fun t ht _ => ⟨rfl, ht⟩) (fun _ h => by cases h) d_m_down_4
set_option maxHeartbeats 4000000 in
set_option maxRecDepth 100000 in
/-- cells -/
theorem c_m_cells (l : Launch) (D : va_G) (cA : ClassId) (h d w dp nb nw na : Nat) (f g : Nat → Int32) (us : Nat) (kp de lf : Int32) (dw : Bool)  : Met l y_m_cells w_m_cells rq0 (PcR D [(cA, .int)] (mw cA h d w dp nb nw na f g us kp de lf dw) [.ref h]) (QcRead (nI (2 * na))) 0 0 (fun _ => False) := by
  refine Met.ofW (cc := b_m_cells) (maxL := 1) (ret := (some .int)) (by decide) rfl ?_
  intro p e s m args below meth c s₁ B9 hml hv
  obtain ⟨rfl, hP, hK⟩ := hv
  have hx := B9.exec
  have hb := B9.bytes
  have hr := B9.returns
  have hts0 := atoms_spec (ws := w_m_cells) B9.pre
  have hts : ∀ w ∈ gw, w.before _ s = true := fun w hw => hts0 w (List.mem_cons_of_mem _ hw)
  have hown : s.vm.findClass R_m = some m.cls := findClass_of_methodNamed B9.named
  have hlocks := B9.notSynchronized
  have S9 : CallFix p m c b_m_cells 1 s _ gw R_m := ⟨hx, hb, hml, hown, hts⟩
  have hl := lv_entry ([.ref h]) (n := 1) (Nat.le_of_ble_eq_true rfl)
  rw [lg_entry_eq]
  generalize (lg_sl ([.ref h]) ++ List.replicate (1 - (lg_sl ([.ref h])).length) Slot.unset).toArray = ls at hl ⊢
  have hl : lv_has ls 1 [(0, .ref h)] := hl
  refine lv_iconst (v := nI 2) hx hb d_m_cells_0 (by decide) ?_
  refine lv_aload_n hx hb d_m_cells_1 rfl (lv_at hl 0 rfl) ?_
  refine gm hx hb hts hown hK hP rfl 3 29 (by decide) lk_m_size (v := .int (nI na)) rfl d_m_cells_2 ?_
  refine hs_imul hx hb d_m_cells_5 ?_
  exact W.iret (v := nI (2 * na)) hx hb hr (fun t ht _ => ⟨rfl, ht⟩) (fun _ h => by cases h) d_m_cells_6
set_option maxHeartbeats 4000000 in
set_option maxRecDepth 100000 in
/-- peek -/
theorem c_m_peek (l : Launch) (D : va_G) (cA : ClassId) (h d w dp nb nw na : Nat) (f g : Nat → Int32) (us : Nat) (kp de lf : Int32) (dw : Bool) (ad : Int32) (hna : 2 * na < 600) : Met l y_m_peek w_m_peek rq0 (PcR D [(cA, .int)] (mw cA h d w dp nb nw na f g us kp de lf dw) [.ref h, .int ad]) (QcRead (pkV f na ad)) 0 0 (fun _ => False) := by
  refine Met.ofW (cc := b_m_peek) (maxL := 2) (ret := (some .int)) (by decide) rfl ?_
  intro p e s m args below meth c s₁ B9 hml hv
  obtain ⟨rfl, hP, hK⟩ := hv
  have hx := B9.exec
  have hb := B9.bytes
  have hr := B9.returns
  have hts0 := atoms_spec (ws := w_m_peek) B9.pre
  have hts : ∀ w ∈ gw, w.before _ s = true := fun w hw => hts0 w (List.mem_cons_of_mem _ hw)
  have hown : s.vm.findClass R_m = some m.cls := findClass_of_methodNamed B9.named
  have hlocks := B9.notSynchronized
  have S9 : CallFix p m c b_m_peek 2 s _ gw R_m := ⟨hx, hb, hml, hown, hts⟩
  have hl := lv_entry ([.ref h, .int ad]) (n := 2) (Nat.le_of_ble_eq_true rfl)
  rw [lg_entry_eq]
  generalize (lg_sl ([.ref h, .int ad]) ++ List.replicate (2 - (lg_sl ([.ref h, .int ad])).length) Slot.unset).toArray = ls at hl ⊢
  have hl : lv_has ls 2 [(0, .ref h), (1, .int ad)] := hl
  refine lv_iload_n hx hb d_m_peek_0 rfl (lv_at hl 1 rfl) ?_
  refine lv_if_lt (tgt := 14) hx hb d_m_peek_1 (by decide) (fun h1 => ?_) (fun h1 => ?_)
  · skip
    refine lv_iconst (v := nI 0) hx hb d_m_peek_14 (by decide) ?_
    refine lv_goto (tgt := 24) hx hb d_m_peek_15 (by decide) ?_
    refine hs_to (y := pkV f na ad) (by rw [pkV, if_neg (fun q => Int32.not_le.mpr h1 q.1)]; rfl) ?_
    exact W.iret (v := pkV f na ad) hx hb hr (fun t ht _ => ⟨rfl, ht⟩) (fun _ h => by cases h) d_m_peek_24
  · skip
    refine lv_iload_n hx hb d_m_peek_4 rfl (lv_at hl 1 rfl) ?_
    refine lv_iconst (v := nI 2) hx hb d_m_peek_5 (by decide) ?_
    refine lv_aload_n hx hb d_m_peek_6 rfl (lv_at hl 0 rfl) ?_
    refine gm hx hb hts hown hK hP rfl 3 29 (by decide) lk_m_size (v := .int (nI na)) rfl d_m_peek_7 ?_
    refine hs_imul hx hb d_m_peek_10 ?_
    refine lv_icmp_lt (tgt := 18) hx hb d_m_peek_11 (by decide) (fun h2 => ?_) (fun h2 => ?_)
    · skip
      obtain ⟨j9, hj9, rfl⟩ := ix_of (by omega) (Int32.not_lt.mp h1) h2
      refine lv_aload_n hx hb d_m_peek_18 rfl (lv_at hl 0 rfl) ?_
      refine gm hx hb hts hown hK hP rfl 4 7 (by decide) lk_m_disk (v := .ref d) rfl d_m_peek_19 ?_
      refine lv_iload_n hx hb d_m_peek_22 rfl (lv_at hl 1 rfl) ?_
      refine hs_iald hx hb hK hP 1 0 rfl rfl (i := j9) (by omega) (by decide) d_m_peek_23 ?_
      refine hs_to (y := pkV f na (nI j9)) (by rw [pkV, if_pos ⟨Int32.not_lt.mp h1, h2⟩, nI_clamp (by omega)]) ?_
      exact W.iret (v := pkV f na (nI j9)) hx hb hr (fun t ht _ => ⟨rfl, ht⟩) (fun _ h => by cases h) d_m_peek_24
    · skip
      refine lv_iconst (v := nI 0) hx hb d_m_peek_14 (by decide) ?_
      refine lv_goto (tgt := 24) hx hb d_m_peek_15 (by decide) ?_
      refine hs_to (y := pkV f na ad) (by rw [pkV, if_neg (fun q => h2 q.2)]; rfl) ?_
      exact W.iret (v := pkV f na ad) hx hb hr (fun t ht _ => ⟨rfl, ht⟩) (fun _ h => by cases h) d_m_peek_24
set_option maxHeartbeats 4000000 in
set_option maxRecDepth 100000 in
/-- tamper -/
theorem c_m_tamper (l : Launch) (D : va_G) (cA : ClassId) (h d w dp nb nw na : Nat) (f g : Nat → Int32) (us : Nat) (kp de lf : Int32) (dw : Bool) (sz : Nat) (ad wo : Int32) (hna : 2 * na < 600) : Met l y_m_tamper w_m_tamper rq0 (PcW D [(cA, .int)] (mw cA h d w dp nb nw na f g us kp de lf dw) sz [.ref h, .int ad, .int wo]) (QcW D (va_A (mw cA h d w dp nb nw na f g us kp de lf dw) sz) (fun u : Nat → Int32 => u = tmV f na ad wo) (fun _ => none) (fun u => mw cA h d w dp nb nw na u g us kp de lf dw)) 0 0 (va_A (mw cA h d w dp nb nw na f g us kp de lf dw) sz) := by
  refine Met.ofW (cc := b_m_tamper) (maxL := 3) (ret := none) (by decide) rfl ?_
  intro p e s m args below meth c s₁ B9 hml hv
  obtain ⟨rfl, hsz, hP, hK, hD0⟩ := hv
  have hx := B9.exec
  have hb := B9.bytes
  have hr := B9.returns
  have hts0 := atoms_spec (ws := w_m_tamper) B9.pre
  have hts : ∀ w ∈ gw, w.before _ s = true := fun w hw => hts0 w (List.mem_cons_of_mem _ hw)
  have hown : s.vm.findClass R_m = some m.cls := findClass_of_methodNamed B9.named
  have hlocks := B9.notSynchronized
  have S9 : CallFix p m c b_m_tamper 3 s _ gw R_m := ⟨hx, hb, hml, hown, hts⟩
  subst hsz
  have hD := hD0.self (sz := s.heap.size)
  generalize hAe : va_A (mw cA h d w dp nb nw na f g us kp de lf dw) s.heap.size = Z at hD ⊢
  have hA : ∀ q : Nat, s.heap.size ≤ q → Z q := fun q h => by rw [← hAe]; exact Or.inr h
  have hS : va_S Z s.heap s.heap [] := va_S.rf
  have hl := lv_entry ([.ref h, .int ad, .int wo]) (n := 3) (Nat.le_of_ble_eq_true rfl)
  rw [lg_entry_eq]
  generalize (lg_sl ([.ref h, .int ad, .int wo]) ++ List.replicate (3 - (lg_sl ([.ref h, .int ad, .int wo])).length) Slot.unset).toArray = ls at hl ⊢
  have hl : lv_has ls 3 [(0, .ref h), (1, .int ad), (2, .int wo)] := hl
  refine lv_iload_n hx hb d_m_tamper_0 rfl (lv_at hl 1 rfl) ?_
  refine lv_if_lt (tgt := 21) hx hb d_m_tamper_1 (by decide) (fun h1 => ?_) (fun h1 => ?_)
  · skip
    exact W.vret hx hb hr (fun t ht hW => ⟨⟨f, (by rw [tmV, if_neg (fun q => Int32.not_le.mpr h1 q.1)]), rfl, by rw [ht]; exact hP, hD⟩, hS.F ht⟩) hS.2.2 d_m_tamper_21
  · skip
    refine lv_iload_n hx hb d_m_tamper_4 rfl (lv_at hl 1 rfl) ?_
    refine lv_iconst (v := nI 2) hx hb d_m_tamper_5 (by decide) ?_
    refine lv_aload_n hx hb d_m_tamper_6 rfl (lv_at hl 0 rfl) ?_
    refine gm hx hb hts hown hK hP rfl 3 29 (by decide) lk_m_size (v := .int (nI na)) rfl d_m_tamper_7 ?_
    refine hs_imul hx hb d_m_tamper_10 ?_
    refine lv_icmp_ge (tgt := 21) hx hb d_m_tamper_11 (by decide) (fun h2 => ?_) (fun h2 => ?_)
    · skip
      exact W.vret hx hb hr (fun t ht hW => ⟨⟨f, (by rw [tmV, if_neg (fun q => Int32.not_lt.mpr h2 q.2)]), rfl, by rw [ht]; exact hP, hD⟩, hS.F ht⟩) hS.2.2 d_m_tamper_21
    · skip
      obtain ⟨j9, hj9, rfl⟩ := ix_of (by omega) (Int32.not_lt.mp h1) (Int32.not_le.mp h2)
      refine lv_aload_n hx hb d_m_tamper_14 rfl (lv_at hl 0 rfl) ?_
      refine gm hx hb hts hown hK hP rfl 4 7 (by decide) lk_m_disk (v := .ref d) rfl d_m_tamper_15 ?_
      refine lv_iload_n hx hb d_m_tamper_18 rfl (lv_at hl 1 rfl) ?_
      refine lv_iload_n hx hb d_m_tamper_19 rfl (lv_at hl 2 rfl) ?_
      refine hs_iast hx hb hK hP hD hS 1 0 rfl rfl (i := j9) (x := wo) (by omega) (by decide) d_m_tamper_20 (fun H locs hP hD hS => ?_)
      have hP : va_P D classes (mw cA h d w dp nb nw na (upd f j9 wo) g us kp de lf dw) H := hP
      have hD : va_D Z (mw cA h d w dp nb nw na (upd f j9 wo) g us kp de lf dw) := hD
      exact W.vret hx hb hr (fun t ht hW => ⟨⟨(upd f j9 wo), (by rw [tmV, if_pos ⟨Int32.not_lt.mp h1, Int32.not_le.mp h2⟩, nI_clamp (by omega)]), rfl, by rw [ht]; exact hP, hD⟩, hS.F ht⟩) hS.2.2 d_m_tamper_21
set_option maxHeartbeats 4000000 in
set_option maxRecDepth 100000 in
/-- crashAfter -/
theorem c_m_crashAfter (l : Launch) (D : va_G) (cA : ClassId) (h d w dp nb nw na : Nat) (f g : Nat → Int32) (us : Nat) (kp de lf : Int32) (dw : Bool) (sz : Nat) (n9 : Int32)  : Met l y_m_crashAfter w_m_crashAfter rq0 (PcW D [(cA, .int)] (mw cA h d w dp nb nw na f g us kp de lf dw) sz [.ref h, .int n9]) (QcW D (va_A (mw cA h d w dp nb nw na f g us kp de lf dw) sz) (fun u : Int32 => u = crV lf dw n9) (fun _ => none) (fun u => mw cA h d w dp nb nw na f g us kp de u dw)) 0 0 (va_A (mw cA h d w dp nb nw na f g us kp de lf dw) sz) := by
  refine Met.ofW (cc := b_m_crashAfter) (maxL := 2) (ret := none) (by decide) rfl ?_
  intro p e s m args below meth c s₁ B9 hml hv
  obtain ⟨rfl, hsz, hP, hK, hD0⟩ := hv
  have hx := B9.exec
  have hb := B9.bytes
  have hr := B9.returns
  have hts0 := atoms_spec (ws := w_m_crashAfter) B9.pre
  have hts : ∀ w ∈ gw, w.before _ s = true := fun w hw => hts0 w (List.mem_cons_of_mem _ hw)
  have hown : s.vm.findClass R_m = some m.cls := findClass_of_methodNamed B9.named
  have hlocks := B9.notSynchronized
  have S9 : CallFix p m c b_m_crashAfter 2 s _ gw R_m := ⟨hx, hb, hml, hown, hts⟩
  subst hsz
  have hD := hD0.self (sz := s.heap.size)
  generalize hAe : va_A (mw cA h d w dp nb nw na f g us kp de lf dw) s.heap.size = Z at hD ⊢
  have hA : ∀ q : Nat, s.heap.size ≤ q → Z q := fun q h => by rw [← hAe]; exact Or.inr h
  have hS : va_S Z s.heap s.heap [] := va_S.rf
  have hl := lv_entry ([.ref h, .int n9]) (n := 2) (Nat.le_of_ble_eq_true rfl)
  rw [lg_entry_eq]
  generalize (lg_sl ([.ref h, .int n9]) ++ List.replicate (2 - (lg_sl ([.ref h, .int n9])).length) Slot.unset).toArray = ls at hl ⊢
  have hl : lv_has ls 2 [(0, .ref h), (1, .int n9)] := hl
  refine lv_iload_n hx hb d_m_crashAfter_0 rfl (lv_at hl 1 rfl) ?_
  refine lv_if_lt (tgt := 16) hx hb d_m_crashAfter_1 (by decide) (fun h1 => ?_) (fun h1 => ?_)
  · skip
    exact W.vret hx hb hr (fun t ht hW => ⟨⟨lf, (by rw [crV, if_neg (fun q => Int32.not_le.mpr h1 q.1)]), rfl, by rw [ht]; exact hP, hD⟩, hS.F ht⟩) hS.2.2 d_m_crashAfter_16
  · skip
    refine lv_aload_n hx hb d_m_crashAfter_4 rfl (lv_at hl 0 rfl) ?_
    refine gm hx hb hts hown hK hP rfl 10 58 (by decide) lk_m_isDown (v := .int (bI dw)) rfl d_m_crashAfter_5 ?_
    refine hs_ifneB (tgt := 16) hx hb d_m_crashAfter_8 (by decide) (fun h2 => ?_) (fun h2 => ?_)
    · skip
      exact W.vret hx hb hr (fun t ht hW => ⟨⟨lf, (by rw [crV, if_neg (fun q => by rw [h2] at q; exact absurd q.2 (by decide))]), rfl, by rw [ht]; exact hP, hD⟩, hS.F ht⟩) hS.2.2 d_m_crashAfter_16
    · skip
      refine lv_aload_n hx hb d_m_crashAfter_11 rfl (lv_at hl 0 rfl) ?_
      refine lv_iload_n hx hb d_m_crashAfter_12 rfl (lv_at hl 1 rfl) ?_
      refine pm hx hb hts hown hK hP hD hS rfl 9 16 (by decide) lk_m_left rfl (ty := .int) (v := .int n9) rfl rfl rfl (Nat.le_of_ble_eq_true rfl) d_m_crashAfter_13 (fun H locs hP hD hS => ?_)
      have hP : va_P D classes (mw cA h d w dp nb nw na f g us kp de n9 dw) H := hP
      have hD : va_D Z (mw cA h d w dp nb nw na f g us kp de n9 dw) := hD
      exact W.vret hx hb hr (fun t ht hW => ⟨⟨n9, (by rw [crV, if_pos ⟨Int32.not_lt.mp h1, h2⟩]), rfl, by rw [ht]; exact hP, hD⟩, hS.F ht⟩) hS.2.2 d_m_crashAfter_16
set_option maxHeartbeats 4000000 in
set_option maxRecDepth 100000 in
/-- recover -/
theorem c_m_recover (l : Launch) (D : va_G) (cA : ClassId) (h d w dp nb nw na : Nat) (f g : Nat → Int32) (us : Nat) (kp de lf : Int32) (dw : Bool) (sz : Nat) (tr : Int32) (hG : hsG dp nb nw na) : Met l y_m_recover w_m_recover rq1 (PcW D [(cA, .int)] (mw cA h d w dp nb nw na f g us kp de lf dw) sz [.ref h, .int tr]) (QcW D (va_A (mw cA h d w dp nb nw na f g us kp de lf dw) sz) (fun u : RS => u = rcV f na (nb * nw) us kp lf dw tr) (fun u => some (.int u.1)) (fun u => mw cA h d w dp nb nw na f g u.2.1 u.2.2.1 de u.2.2.2.1 u.2.2.2.2)) 0 0 (va_A (mw cA h d w dp nb nw na f g us kp de lf dw) sz) := by
  refine Met.ofW (cc := b_m_recover) (maxL := 3) (ret := (some .int)) (by decide) rfl ?_
  intro p e s m args below meth c s₁ B9 hml hv
  obtain ⟨rfl, hsz, hP, hK, hD0⟩ := hv
  have hx := B9.exec
  have hb := B9.bytes
  have hr := B9.returns
  have hts0 := atoms_spec (ws := w_m_recover) B9.pre
  have hts : ∀ w ∈ gw, w.before _ s = true := fun w hw => hts0 w (List.mem_cons_of_mem _ hw)
  have hown : s.vm.findClass R_m = some m.cls := findClass_of_methodNamed B9.named
  have hlocks := B9.notSynchronized
  have S9 : CallFix p m c b_m_recover 3 s _ gw R_m := ⟨hx, hb, hml, hown, hts⟩
  subst hsz
  have hD := hD0.self (sz := s.heap.size)
  generalize hAe : va_A (mw cA h d w dp nb nw na f g us kp de lf dw) s.heap.size = Z at hD ⊢
  have hA : ∀ q : Nat, s.heap.size ≤ q → Z q := fun q h => by rw [← hAe]; exact Or.inr h
  have hS : va_S Z s.heap s.heap [] := va_S.rf
  have hl := lv_entry ([.ref h, .int tr]) (n := 3) (Nat.le_of_ble_eq_true rfl)
  rw [lg_entry_eq]
  generalize (lg_sl ([.ref h, .int tr]) ++ List.replicate (3 - (lg_sl ([.ref h, .int tr])).length) Slot.unset).toArray = ls at hl ⊢
  have hl : lv_has ls 3 [(0, .ref h), (1, .int tr)] := hl
  have h9 := hG.fits
  refine lv_aload_n hx hb d_m_recover_0 rfl (lv_at hl 0 rfl) ?_
  refine gm hx hb hts hown hK hP rfl 10 58 (by decide) lk_m_isDown (v := .int (bI dw)) rfl d_m_recover_1 ?_
  refine hs_ifneB (tgt := 10) hx hb d_m_recover_4 (by decide) (fun h1 => ?_) (fun h1 => ?_)
  · skip
    refine lv_iconst (v := nI 0) hx hb d_m_recover_10 (by decide) ?_
    refine lv_istore_n (lv' := [(2, .int (nI 0)), (0, .ref h), (1, .int tr)]) hx hb d_m_recover_11 rfl hl (by decide) rfl (fun ls hl => ?_)
    refine lv_iload_n hx hb d_m_recover_12 rfl (lv_at hl 0 rfl) ?_
    refine lv_iconst (v := nI 2) hx hb d_m_recover_13 (by decide) ?_
    refine hs_ge (tgt := 66) hx hb d_m_recover_14 (by decide) (by omega) (by omega) (fun h3 => ?_) (fun h3 => ?_)
    · skip
      exact absurd h3 (by omega)
    · skip
      refine lv_aload_n hx hb d_m_recover_17 rfl (lv_at hl 1 rfl) ?_
      refine gm hx hb hts hown hK hP rfl 4 7 (by decide) lk_m_disk (v := .ref d) rfl d_m_recover_18 ?_
      refine lv_aload_n hx hb d_m_recover_21 rfl (lv_at hl 1 rfl) ?_
      refine gm hx hb hts hown hK hP rfl 3 29 (by decide) lk_m_size (v := .int (nI na)) rfl d_m_recover_22 ?_
      refine lv_iload_n hx hb d_m_recover_25 rfl (lv_at hl 0 rfl) ?_
      refine hs_imul hx hb d_m_recover_26 ?_
      refine lv_aload_n hx hb d_m_recover_27 rfl (lv_at hl 1 rfl) ?_
      refine lv_iconst (v := nI 1) hx hb d_m_recover_28 (by decide) ?_
      refine hs_rv (As := [.int (nI 1)]) (rest := [.int (nI (na * 0)), .ref d]) S9 (c_m_node l D cA h d w dp nb nw na f g us kp de lf dw 1 (Nat.le_refl 1)) k_m_m_node h_m_node rfl rfl ⟨Nat.le_of_ble_eq_true rfl, Nat.le_of_ble_eq_true rfl⟩ hK hP rfl rfl rfl hl.1 rfl (Nat.le_of_ble_eq_true rfl) d_m_recover_29 ⟨Nat.zero_le _, Nat.zero_le _⟩ ?_
      refine hs_iadd hx hb d_m_recover_32 ?_
      refine hs_to (y := nI (na * 0 + (nb * nw + 1 - 1))) rfl ?_
      refine hs_iald hx hb hK hP 1 0 rfl rfl (i := na * 0 + (nb * nw + 1 - 1)) (by omega) (by decide) d_m_recover_33 ?_
      refine lv_iload_n hx hb d_m_recover_34 rfl (lv_at hl 2 rfl) ?_
      refine lv_icmp_ne (tgt := 60) hx hb d_m_recover_35 (by decide) (fun h4 => ?_) (fun h4 => ?_)
      · skip
        refine lv_iinc (v := nI (0 + 1)) (lv' := [(2, .int (nI (0 + 1))), (0, .ref h), (1, .int tr)]) hx hb d_m_recover_60 hl (k := 0) rfl (nI_add _ _) (by decide) rfl (fun ls hl => ?_)
        refine lv_goto (tgt := 12) hx hb d_m_recover_63 (by decide) ?_
        refine lv_iload_n hx hb d_m_recover_12 rfl (lv_at hl 0 rfl) ?_
        refine lv_iconst (v := nI 2) hx hb d_m_recover_13 (by decide) ?_
        refine hs_ge (tgt := 66) hx hb d_m_recover_14 (by decide) (by omega) (by omega) (fun h3 => ?_) (fun h3 => ?_)
        · skip
          exact absurd h3 (by omega)
        · skip
          refine lv_aload_n hx hb d_m_recover_17 rfl (lv_at hl 1 rfl) ?_
          refine gm hx hb hts hown hK hP rfl 4 7 (by decide) lk_m_disk (v := .ref d) rfl d_m_recover_18 ?_
          refine lv_aload_n hx hb d_m_recover_21 rfl (lv_at hl 1 rfl) ?_
          refine gm hx hb hts hown hK hP rfl 3 29 (by decide) lk_m_size (v := .int (nI na)) rfl d_m_recover_22 ?_
          refine lv_iload_n hx hb d_m_recover_25 rfl (lv_at hl 0 rfl) ?_
          refine hs_imul hx hb d_m_recover_26 ?_
          refine lv_aload_n hx hb d_m_recover_27 rfl (lv_at hl 1 rfl) ?_
          refine lv_iconst (v := nI 1) hx hb d_m_recover_28 (by decide) ?_
          refine hs_rv (As := [.int (nI 1)]) (rest := [.int (nI (na * (0 + 1))), .ref d]) S9 (c_m_node l D cA h d w dp nb nw na f g us kp de lf dw 1 (Nat.le_refl 1)) k_m_m_node h_m_node rfl rfl ⟨Nat.le_of_ble_eq_true rfl, Nat.le_of_ble_eq_true rfl⟩ hK hP rfl rfl rfl hl.1 rfl (Nat.le_of_ble_eq_true rfl) d_m_recover_29 ⟨Nat.zero_le _, Nat.zero_le _⟩ ?_
          refine hs_iadd hx hb d_m_recover_32 ?_
          refine hs_to (y := nI (na * 1 + (nb * nw + 1 - 1))) rfl ?_
          refine hs_iald hx hb hK hP 1 0 rfl rfl (i := na * 1 + (nb * nw + 1 - 1)) (by omega) (by decide) d_m_recover_33 ?_
          refine lv_iload_n hx hb d_m_recover_34 rfl (lv_at hl 2 rfl) ?_
          refine lv_icmp_ne (tgt := 60) hx hb d_m_recover_35 (by decide) (fun h5 => ?_) (fun h5 => ?_)
          · skip
            refine lv_iinc (v := nI ((0 + 1) + 1)) (lv' := [(2, .int (nI ((0 + 1) + 1))), (0, .ref h), (1, .int tr)]) hx hb d_m_recover_60 hl (k := 0) rfl (nI_add _ _) (by decide) rfl (fun ls hl => ?_)
            refine lv_goto (tgt := 12) hx hb d_m_recover_63 (by decide) ?_
            refine lv_iload_n hx hb d_m_recover_12 rfl (lv_at hl 0 rfl) ?_
            refine lv_iconst (v := nI 2) hx hb d_m_recover_13 (by decide) ?_
            refine hs_ge (tgt := 66) hx hb d_m_recover_14 (by decide) (by omega) (by omega) (fun h6 => ?_) (fun h6 => ?_)
            · skip
              refine lv_bipush (v := -5) hx hb d_m_recover_66 (by decide) ?_
              exact W.iret (v := (-5)) hx hb hr (fun t ht hW => ⟨⟨(-5, us, kp, lf, dw), (by rw [rcV, if_neg (by rw [h1]; decide), if_neg h4, if_neg h5, h1]), rfl, by rw [ht]; exact hP, hD⟩, hS.F ht⟩) hS.2.2 d_m_recover_68
            · skip
              exact absurd h6 (by omega)
          · skip
            refine lv_aload_n hx hb d_m_recover_38 rfl (lv_at hl 1 rfl) ?_
            refine lv_iload_n hx hb d_m_recover_39 rfl (lv_at hl 0 rfl) ?_
            refine pm hx hb hts hown hK hP hD hS rfl 6 42 (by decide) lk_m_used rfl (ty := .int) (v := .int (nI (0 + 1))) rfl rfl rfl (Nat.le_of_ble_eq_true rfl) d_m_recover_40 (fun H locs hP hD hS => ?_)
            have hP : va_P D classes (mw cA h d w dp nb nw na f g (0 + 1) kp de lf dw) H := hP
            have hD : va_D Z (mw cA h d w dp nb nw na f g (0 + 1) kp de lf dw) := hD
            refine lv_aload_n hx hb d_m_recover_43 rfl (lv_at hl 1 rfl) ?_
            refine lv_iload_n hx hb d_m_recover_44 rfl (lv_at hl 2 rfl) ?_
            refine pm hx hb hts hown hK hP hD hS rfl 7 52 (by decide) lk_m_kept rfl (ty := .int) (v := .int tr) rfl rfl rfl (Nat.le_of_ble_eq_true rfl) d_m_recover_45 (fun H locs hP hD hS => ?_)
            have hP : va_P D classes (mw cA h d w dp nb nw na f g (0 + 1) tr de lf dw) H := hP
            have hD : va_D Z (mw cA h d w dp nb nw na f g (0 + 1) tr de lf dw) := hD
            refine lv_aload_n hx hb d_m_recover_48 rfl (lv_at hl 1 rfl) ?_
            refine lv_iconst (v := nI 0) hx hb d_m_recover_49 (by decide) ?_
            refine hs_to (y := bI false) bI_ff ?_
            refine pm hx hb hts hown hK hP hD hS rfl 10 58 (by decide) lk_m_isDown rfl (ty := .boolean) (v := .int (bI false)) rfl (bI_n _) (bI_f _) (Nat.le_of_ble_eq_true rfl) d_m_recover_50 (fun H locs hP hD hS => ?_)
            have hP : va_P D classes (mw cA h d w dp nb nw na f g (0 + 1) tr de lf false) H := hP
            have hD : va_D Z (mw cA h d w dp nb nw na f g (0 + 1) tr de lf false) := hD
            refine lv_aload_n hx hb d_m_recover_53 rfl (lv_at hl 1 rfl) ?_
            refine lv_iconst (v := -1) hx hb d_m_recover_54 (by decide) ?_
            refine pm hx hb hts hown hK hP hD hS rfl 9 16 (by decide) lk_m_left rfl (ty := .int) (v := .int (-1)) rfl rfl rfl (Nat.le_of_ble_eq_true rfl) d_m_recover_55 (fun H locs hP hD hS => ?_)
            have hP : va_P D classes (mw cA h d w dp nb nw na f g (0 + 1) tr de (-1) false) H := hP
            have hD : va_D Z (mw cA h d w dp nb nw na f g (0 + 1) tr de (-1) false) := hD
            refine lv_iconst (v := nI 0) hx hb d_m_recover_58 (by decide) ?_
            refine hs_to (y := 0) nI_0 ?_
            exact W.iret (v := 0) hx hb hr (fun t ht hW => ⟨⟨(0, 1, tr, -1, false), (by rw [rcV, if_neg (by rw [h1]; decide), if_neg h4, if_pos h5]), rfl, by rw [ht]; exact hP, hD⟩, hS.F ht⟩) hS.2.2 d_m_recover_59
      · skip
        refine lv_aload_n hx hb d_m_recover_38 rfl (lv_at hl 1 rfl) ?_
        refine lv_iload_n hx hb d_m_recover_39 rfl (lv_at hl 0 rfl) ?_
        refine pm hx hb hts hown hK hP hD hS rfl 6 42 (by decide) lk_m_used rfl (ty := .int) (v := .int (nI 0)) rfl rfl rfl (Nat.le_of_ble_eq_true rfl) d_m_recover_40 (fun H locs hP hD hS => ?_)
        have hP : va_P D classes (mw cA h d w dp nb nw na f g 0 kp de lf dw) H := hP
        have hD : va_D Z (mw cA h d w dp nb nw na f g 0 kp de lf dw) := hD
        refine lv_aload_n hx hb d_m_recover_43 rfl (lv_at hl 1 rfl) ?_
        refine lv_iload_n hx hb d_m_recover_44 rfl (lv_at hl 2 rfl) ?_
        refine pm hx hb hts hown hK hP hD hS rfl 7 52 (by decide) lk_m_kept rfl (ty := .int) (v := .int tr) rfl rfl rfl (Nat.le_of_ble_eq_true rfl) d_m_recover_45 (fun H locs hP hD hS => ?_)
        have hP : va_P D classes (mw cA h d w dp nb nw na f g 0 tr de lf dw) H := hP
        have hD : va_D Z (mw cA h d w dp nb nw na f g 0 tr de lf dw) := hD
        refine lv_aload_n hx hb d_m_recover_48 rfl (lv_at hl 1 rfl) ?_
        refine lv_iconst (v := nI 0) hx hb d_m_recover_49 (by decide) ?_
        refine hs_to (y := bI false) bI_ff ?_
        refine pm hx hb hts hown hK hP hD hS rfl 10 58 (by decide) lk_m_isDown rfl (ty := .boolean) (v := .int (bI false)) rfl (bI_n _) (bI_f _) (Nat.le_of_ble_eq_true rfl) d_m_recover_50 (fun H locs hP hD hS => ?_)
        have hP : va_P D classes (mw cA h d w dp nb nw na f g 0 tr de lf false) H := hP
        have hD : va_D Z (mw cA h d w dp nb nw na f g 0 tr de lf false) := hD
        refine lv_aload_n hx hb d_m_recover_53 rfl (lv_at hl 1 rfl) ?_
        refine lv_iconst (v := -1) hx hb d_m_recover_54 (by decide) ?_
        refine pm hx hb hts hown hK hP hD hS rfl 9 16 (by decide) lk_m_left rfl (ty := .int) (v := .int (-1)) rfl rfl rfl (Nat.le_of_ble_eq_true rfl) d_m_recover_55 (fun H locs hP hD hS => ?_)
        have hP : va_P D classes (mw cA h d w dp nb nw na f g 0 tr de (-1) false) H := hP
        have hD : va_D Z (mw cA h d w dp nb nw na f g 0 tr de (-1) false) := hD
        refine lv_iconst (v := nI 0) hx hb d_m_recover_58 (by decide) ?_
        refine hs_to (y := 0) nI_0 ?_
        exact W.iret (v := 0) hx hb hr (fun t ht hW => ⟨⟨(0, 0, tr, -1, false), (by rw [rcV, if_neg (by rw [h1]; decide), if_pos h4]), rfl, by rw [ht]; exact hP, hD⟩, hS.F ht⟩) hS.2.2 d_m_recover_59
  · skip
    refine lv_bipush (v := -2) hx hb d_m_recover_7 (by decide) ?_
    exact W.iret (v := (-2)) hx hb hr (fun t ht hW => ⟨⟨(-2, us, kp, lf, dw), (by rw [rcV, if_pos h1]), rfl, by rw [ht]; exact hP, hD⟩, hS.F ht⟩) hS.2.2 d_m_recover_9
set_option maxHeartbeats 4000000 in
set_option maxRecDepth 100000 in
/-- format -/
theorem c_m_format (l : Launch) (D : va_G) (cA : ClassId) (h d w dp nb nw na : Nat) (f g : Nat → Int32) (us : Nat) (kp de lf : Int32) (dw : Bool) (sz : Nat) (hG : hsG dp nb nw na) : Met l y_m_format w_m_format rq2 (PcW D [(cA, .int)] (mw cA h d w dp nb nw na f g us kp de lf dw) sz [.ref h]) (QcW D (va_A (mw cA h d w dp nb nw na f g us kp de lf dw) sz) (fun u : (Nat → Int32) × (Nat → Int32) => ∀ j, j < 2 * na → u.1 j = mkF nb nw j) (fun _ => some (.int 0)) (fun u => mw cA h d w dp nb nw na u.1 u.2 0 (mkF nb nw (nb * nw)) 0 (-1) false)) 0 0 (va_A (mw cA h d w dp nb nw na f g us kp de lf dw) sz) := by
  refine Met.ofW (cc := b_m_format) (maxL := 2) (ret := (some .int)) (by decide) rfl ?_
  intro p e s m args below meth c s₁ B9 hml hv
  obtain ⟨rfl, hsz, hP, hK, hD0⟩ := hv
  have hx := B9.exec
  have hb := B9.bytes
  have hr := B9.returns
  have hts0 := atoms_spec (ws := w_m_format) B9.pre
  have hts : ∀ w ∈ gw, w.before _ s = true := fun w hw => hts0 w (List.mem_cons_of_mem _ hw)
  have hown : s.vm.findClass R_m = some m.cls := findClass_of_methodNamed B9.named
  have hlocks := B9.notSynchronized
  have S9 : CallFix p m c b_m_format 2 s _ gw R_m := ⟨hx, hb, hml, hown, hts⟩
  subst hsz
  have hD := hD0.self (sz := s.heap.size)
  generalize hAe : va_A (mw cA h d w dp nb nw na f g us kp de lf dw) s.heap.size = Z at hD ⊢
  have hA : ∀ q : Nat, s.heap.size ≤ q → Z q := fun q h => by rw [← hAe]; exact Or.inr h
  have hS : va_S Z s.heap s.heap [] := va_S.rf
  have hl := lv_entry ([.ref h]) (n := 2) (Nat.le_of_ble_eq_true rfl)
  rw [lg_entry_eq]
  generalize (lg_sl ([.ref h]) ++ List.replicate (2 - (lg_sl ([.ref h])).length) Slot.unset).toArray = ls at hl ⊢
  have hl : lv_has ls 2 [(0, .ref h)] := hl
  have h9 := hG.fits
  refine lv_iconst (v := nI 0) hx hb d_m_format_0 (by decide) ?_
  refine lv_istore_n (lv' := [(1, .int (nI 0)), (0, .ref h)]) hx hb d_m_format_1 rfl hl (by decide) rfl (fun ls hl => ?_)
  have loop4 : ∀ (n : Nat) (g9 : Nat → Int32) (hg9 : ∀ j, j < na → g9 j = mkF nb nw j) (k : Nat) (f9 : Nat → Int32), k ≤ na → (∀ j, j < k → f9 j = mkF nb nw j) → (∀ j, na ≤ j → j < 600 → f9 j = 0) → (na - k) < n → ∀ (H : Heap) (locs : List Loc), va_P D classes (mw cA h d w dp nb nw na f9 g9 us kp de lf dw) H → va_D Z (mw cA h d w dp nb nw na f9 g9 us kp de lf dw) → va_S Z s.heap H locs → ∀ (ls : Array Slot), lv_has ls 2 [(1, .int (nI k)), (0, .ref h)] → W p l e (headSpec w_m_format rq2).room s m ([.ref h] : List Value).toArray below meth c H locs 0 0 (MQ below (QcW D Z (fun u : (Nat → Int32) × (Nat → Int32) => ∀ j, j < 2 * na → u.1 j = mkF nb nw j) (fun _ => some (.int 0)) (fun u => mw cA h d w dp nb nw na u.1 u.2 0 (mkF nb nw (nb * nw)) 0 (-1) false)) ([.ref h] : List Value).toArray s 0 0 Z) (F0 m 126 ls []) := by
    intro n
    induction n with
    | zero =>
      intro g9 hg9 k f9 hk9 hf9 hz9 hmu
      exact absurd hmu (Nat.not_lt_zero _)
    | succ n ih =>
      intro g9 hg9 k f9 hk9 hf9 hz9 hmu H locs hP hD hS ls hl
      refine lv_iload_n hx hb d_m_format_126 rfl (lv_at hl 0 rfl) ?_
      refine lv_aload_n hx hb d_m_format_127 rfl (lv_at hl 1 rfl) ?_
      refine gm hx hb hts hown hK hP rfl 3 29 (by decide) lk_m_size (v := .int (nI na)) rfl d_m_format_128 ?_
      refine hs_ge (tgt := 152) hx hb d_m_format_131 (by decide) (by omega) (by omega) (fun h1 => ?_) (fun h1 => ?_)
      · skip
        refine lv_aload_n hx hb d_m_format_152 rfl (lv_at hl 1 rfl) ?_
        refine lv_iconst (v := nI 0) hx hb d_m_format_153 (by decide) ?_
        refine pm hx hb hts hown hK hP hD hS rfl 6 42 (by decide) lk_m_used rfl (ty := .int) (v := .int (nI 0)) rfl rfl rfl (Nat.le_of_ble_eq_true rfl) d_m_format_154 (fun H locs hP hD hS => ?_)
        have hP : va_P D classes (mw cA h d w dp nb nw na f9 g9 0 kp de lf dw) H := hP
        have hD : va_D Z (mw cA h d w dp nb nw na f9 g9 0 kp de lf dw) := hD
        refine lv_aload_n hx hb d_m_format_157 rfl (lv_at hl 1 rfl) ?_
        refine lv_aload_n hx hb d_m_format_158 rfl (lv_at hl 1 rfl) ?_
        refine gm hx hb hts hown hK hP rfl 5 13 (by decide) lk_m_goal (v := .ref w) rfl d_m_format_159 ?_
        refine lv_aload_n hx hb d_m_format_162 rfl (lv_at hl 1 rfl) ?_
        refine lv_iconst (v := nI 1) hx hb d_m_format_163 (by decide) ?_
        refine hs_rv (As := [.int (nI 1)]) (rest := [.ref w, .ref h]) S9 (c_m_node l D cA h d w dp nb nw na f9 g9 0 kp de lf dw 1 (Nat.le_refl 1)) k_m_m_node h_m_node rfl rfl ⟨Nat.le_of_ble_eq_true rfl, Nat.le_of_ble_eq_true rfl⟩ hK hP rfl rfl rfl hl.1 rfl (Nat.le_of_ble_eq_true rfl) d_m_format_164 ⟨Nat.zero_le _, Nat.zero_le _⟩ ?_
        refine hs_to (y := nI (nb * nw)) rfl ?_
        refine hs_iald hx hb hK hP 2 0 rfl rfl (i := nb * nw) (by omega) (by decide) d_m_format_167 ?_
        refine hs_to (y := mkF nb nw (nb * nw)) (hg9 _ (by omega)) ?_
        refine pm hx hb hts hown hK hP hD hS rfl 7 52 (by decide) lk_m_kept rfl (ty := .int) (v := .int (mkF nb nw (nb * nw))) rfl rfl rfl (Nat.le_of_ble_eq_true rfl) d_m_format_168 (fun H locs hP hD hS => ?_)
        have hP : va_P D classes (mw cA h d w dp nb nw na f9 g9 0 (mkF nb nw (nb * nw)) de lf dw) H := hP
        have hD : va_D Z (mw cA h d w dp nb nw na f9 g9 0 (mkF nb nw (nb * nw)) de lf dw) := hD
        refine lv_aload_n hx hb d_m_format_171 rfl (lv_at hl 1 rfl) ?_
        refine lv_iconst (v := nI 0) hx hb d_m_format_172 (by decide) ?_
        refine hs_to (y := 0) nI_0 ?_
        refine pm hx hb hts hown hK hP hD hS rfl 8 55 (by decide) lk_m_done rfl (ty := .int) (v := .int 0) rfl rfl rfl (Nat.le_of_ble_eq_true rfl) d_m_format_173 (fun H locs hP hD hS => ?_)
        have hP : va_P D classes (mw cA h d w dp nb nw na f9 g9 0 (mkF nb nw (nb * nw)) 0 lf dw) H := hP
        have hD : va_D Z (mw cA h d w dp nb nw na f9 g9 0 (mkF nb nw (nb * nw)) 0 lf dw) := hD
        refine lv_aload_n hx hb d_m_format_176 rfl (lv_at hl 1 rfl) ?_
        refine lv_iconst (v := -1) hx hb d_m_format_177 (by decide) ?_
        refine pm hx hb hts hown hK hP hD hS rfl 9 16 (by decide) lk_m_left rfl (ty := .int) (v := .int (-1)) rfl rfl rfl (Nat.le_of_ble_eq_true rfl) d_m_format_178 (fun H locs hP hD hS => ?_)
        have hP : va_P D classes (mw cA h d w dp nb nw na f9 g9 0 (mkF nb nw (nb * nw)) 0 (-1) dw) H := hP
        have hD : va_D Z (mw cA h d w dp nb nw na f9 g9 0 (mkF nb nw (nb * nw)) 0 (-1) dw) := hD
        refine lv_aload_n hx hb d_m_format_181 rfl (lv_at hl 1 rfl) ?_
        refine lv_iconst (v := nI 0) hx hb d_m_format_182 (by decide) ?_
        refine hs_to (y := bI false) bI_ff ?_
        refine pm hx hb hts hown hK hP hD hS rfl 10 58 (by decide) lk_m_isDown rfl (ty := .boolean) (v := .int (bI false)) rfl (bI_n _) (bI_f _) (Nat.le_of_ble_eq_true rfl) d_m_format_183 (fun H locs hP hD hS => ?_)
        have hP : va_P D classes (mw cA h d w dp nb nw na f9 g9 0 (mkF nb nw (nb * nw)) 0 (-1) false) H := hP
        have hD : va_D Z (mw cA h d w dp nb nw na f9 g9 0 (mkF nb nw (nb * nw)) 0 (-1) false) := hD
        refine lv_iconst (v := nI 0) hx hb d_m_format_186 (by decide) ?_
        refine hs_to (y := 0) nI_0 ?_
        exact W.iret (v := 0) hx hb hr (fun t ht hW => ⟨⟨(f9, g9), (fun j hj => by rcases Nat.lt_or_ge j na with q | q; (· exact hf9 j (by omega)); (· show f9 j = _; rw [hz9 j (by omega) (by omega)]; exact (mkA_zero h9.2.2.2.2.2.2.1 (Or.inr q) _ (Nat.le_refl _)).symm)), rfl, by rw [ht]; exact hP, hD⟩, hS.F ht⟩) hS.2.2 d_m_format_187
      · skip
        refine lv_aload_n hx hb d_m_format_134 rfl (lv_at hl 1 rfl) ?_
        refine gm hx hb hts hown hK hP rfl 4 7 (by decide) lk_m_disk (v := .ref d) rfl d_m_format_135 ?_
        refine lv_iload_n hx hb d_m_format_138 rfl (lv_at hl 0 rfl) ?_
        refine lv_aload_n hx hb d_m_format_139 rfl (lv_at hl 1 rfl) ?_
        refine gm hx hb hts hown hK hP rfl 5 13 (by decide) lk_m_goal (v := .ref w) rfl d_m_format_140 ?_
        refine lv_iload_n hx hb d_m_format_143 rfl (lv_at hl 0 rfl) ?_
        refine hs_iald hx hb hK hP 2 0 rfl rfl (i := k) (by omega) (by decide) d_m_format_144 ?_
        refine hs_iast hx hb hK hP hD hS 1 0 rfl rfl (i := k) (x := (g9 k)) (by omega) (by decide) d_m_format_145 (fun H locs hP hD hS => ?_)
        have hP : va_P D classes (mw cA h d w dp nb nw na (upd f9 k (g9 k)) g9 us kp de lf dw) H := hP
        have hD : va_D Z (mw cA h d w dp nb nw na (upd f9 k (g9 k)) g9 us kp de lf dw) := hD
        refine lv_iinc (v := nI (k + 1)) (lv' := [(1, .int (nI (k + 1))), (0, .ref h)]) hx hb d_m_format_146 hl (k := 0) rfl (nI_add _ _) (by decide) rfl (fun ls hl => ?_)
        refine lv_goto (tgt := 126) hx hb d_m_format_149 (by decide) ?_
        exact ih g9 hg9 (k + 1) (upd f9 k (g9 k)) (by omega) (fun j hj => by rcases Nat.lt_or_ge j k with q | q; (· rw [pk_un (by omega)]; exact hf9 j q); (· rw [show j = k by omega, pk_us]; exact hg9 k h1)) (fun j hj hj2 => by rw [pk_un (by omega)]; exact hz9 j hj hj2) (by omega) _ _ hP hD hS ls (lv_sub hl [0, 1] rfl)
  have loop3 : ∀ (n : Nat) (f8 : Nat → Int32) (hz8 : ∀ j, j < 600 → f8 j = 0) (k n9 : Nat) (g9 : Nat → Int32), k + n9 = 2 * nb - 1 → (∀ j, j < na → g9 j = mkA nb nw n9 j) → k < n → ∀ (H : Heap) (locs : List Loc), va_P D classes (mw cA h d w dp nb nw na f8 g9 us kp de lf dw) H → va_D Z (mw cA h d w dp nb nw na f8 g9 us kp de lf dw) → va_S Z s.heap H locs → ∀ (ls : Array Slot), lv_has ls 2 [(1, .int (nI k)), (0, .ref h)] → W p l e (headSpec w_m_format rq2).room s m ([.ref h] : List Value).toArray below meth c H locs 0 0 (MQ below (QcW D Z (fun u : (Nat → Int32) × (Nat → Int32) => ∀ j, j < 2 * na → u.1 j = mkF nb nw j) (fun _ => some (.int 0)) (fun u => mw cA h d w dp nb nw na u.1 u.2 0 (mkF nb nw (nb * nw)) 0 (-1) false)) ([.ref h] : List Value).toArray s 0 0 Z) (F0 m 54 ls []) := by
    intro n
    induction n with
    | zero =>
      intro f8 hz8 k n9 g9 hk9 hg9 hmu
      exact absurd hmu (Nat.not_lt_zero _)
    | succ n ih =>
      intro f8 hz8 k n9 g9 hk9 hg9 hmu H locs hP hD hS ls hl
      refine lv_iload_n hx hb d_m_format_54 rfl (lv_at hl 0 rfl) ?_
      refine hs_ifle (tgt := 124) hx hb d_m_format_55 (by decide) (by omega) (fun h1 => ?_) (fun h1 => ?_)
      · skip
        subst h1
        have e9 : n9 = 2 * nb - 1 := by omega
        subst e9
        refine lv_iconst (v := nI 0) hx hb d_m_format_124 (by decide) ?_
        refine lv_istore_n (lv' := [(1, .int (nI 0)), (0, .ref h)]) hx hb d_m_format_125 rfl hl (by decide) rfl (fun ls hl => ?_)
        exact loop4 (na + 1) g9 hg9 0 f8 (Nat.zero_le _) (fun j hj => absurd hj (Nat.not_lt_zero j)) (fun j _ hj2 => hz8 j hj2) (by omega) _ _ hP hD hS ls (lv_sub hl [0, 1] rfl)
      · skip
        refine lv_aload_n hx hb d_m_format_58 rfl (lv_at hl 1 rfl) ?_
        refine gm hx hb hts hown hK hP rfl 5 13 (by decide) lk_m_goal (v := .ref w) rfl d_m_format_59 ?_
        refine lv_aload_n hx hb d_m_format_62 rfl (lv_at hl 1 rfl) ?_
        refine lv_iload_n hx hb d_m_format_63 rfl (lv_at hl 0 rfl) ?_
        refine hs_rv (As := [.int (nI k)]) (rest := [.ref w]) S9 (c_m_node l D cA h d w dp nb nw na f8 g9 us kp de lf dw k (by omega)) k_m_m_node h_m_node rfl rfl ⟨Nat.le_of_ble_eq_true rfl, Nat.le_of_ble_eq_true rfl⟩ hK hP rfl rfl rfl hl.1 rfl (Nat.le_of_ble_eq_true rfl) d_m_format_64 ⟨Nat.zero_le _, Nat.zero_le _⟩ ?_
        refine lv_iload_n hx hb d_m_format_67 rfl (lv_at hl 0 rfl) ?_
        refine lv_aload_n hx hb d_m_format_68 rfl (lv_at hl 1 rfl) ?_
        refine gm hx hb hts hown hK hP rfl 1 23 (by decide) lk_m_blocks (v := .int (nI nb)) rfl d_m_format_69 ?_
        refine hs_lt (tgt := 88) hx hb d_m_format_72 (by decide) (by omega) (by omega) (fun h2 => ?_) (fun h2 => ?_)
        · skip
          refine lv_aload_n hx hb d_m_format_88 rfl (lv_at hl 1 rfl) ?_
          refine gm hx hb hts hown hK hP rfl 5 13 (by decide) lk_m_goal (v := .ref w) rfl d_m_format_89 ?_
          refine lv_aload_n hx hb d_m_format_92 rfl (lv_at hl 1 rfl) ?_
          refine lv_iconst (v := nI 2) hx hb d_m_format_93 (by decide) ?_
          refine lv_iload_n hx hb d_m_format_94 rfl (lv_at hl 0 rfl) ?_
          refine hs_imul hx hb d_m_format_95 ?_
          refine hs_rv (As := [.int (nI (2 * k))]) (rest := [.ref w, .int (nI (nb * nw + k - 1)), .ref w]) S9 (c_m_node l D cA h d w dp nb nw na f8 g9 us kp de lf dw (2 * k) (by omega)) k_m_m_node h_m_node rfl rfl ⟨Nat.le_of_ble_eq_true rfl, Nat.le_of_ble_eq_true rfl⟩ hK hP rfl rfl rfl hl.1 rfl (Nat.le_of_ble_eq_true rfl) d_m_format_96 ⟨Nat.zero_le _, Nat.zero_le _⟩ ?_
          refine hs_iald hx hb hK hP 2 0 rfl rfl (i := nb * nw + 2 * k - 1) (by omega) (by decide) d_m_format_99 ?_
          refine hs_to (y := (mkA nb nw n9 (nb * nw + 2 * k - 1))) (hg9 _ (by omega)) ?_
          refine lv_aload_n hx hb d_m_format_100 rfl (lv_at hl 1 rfl) ?_
          refine gm hx hb hts hown hK hP rfl 5 13 (by decide) lk_m_goal (v := .ref w) rfl d_m_format_101 ?_
          refine lv_aload_n hx hb d_m_format_104 rfl (lv_at hl 1 rfl) ?_
          refine lv_iconst (v := nI 2) hx hb d_m_format_105 (by decide) ?_
          refine lv_iload_n hx hb d_m_format_106 rfl (lv_at hl 0 rfl) ?_
          refine hs_imul hx hb d_m_format_107 ?_
          refine lv_iconst (v := nI 1) hx hb d_m_format_108 (by decide) ?_
          refine hs_iadd hx hb d_m_format_109 ?_
          refine hs_rv (As := [.int (nI ((2 * k) + 1))]) (rest := [.ref w, .int (mkA nb nw n9 (nb * nw + 2 * k - 1)), .int (nI (nb * nw + k - 1)), .ref w]) S9 (c_m_node l D cA h d w dp nb nw na f8 g9 us kp de lf dw (2 * k + 1) (by omega)) k_m_m_node h_m_node rfl rfl ⟨Nat.le_of_ble_eq_true rfl, Nat.le_of_ble_eq_true rfl⟩ hK hP rfl rfl rfl hl.1 rfl (Nat.le_of_ble_eq_true rfl) d_m_format_110 ⟨Nat.zero_le _, Nat.zero_le _⟩ ?_
          refine hs_iald hx hb hK hP 2 0 rfl rfl (i := nb * nw + (2 * k + 1) - 1) (by omega) (by decide) d_m_format_113 ?_
          refine hs_to (y := (mkA nb nw n9 (nb * nw + (2 * k + 1) - 1))) (hg9 _ (by omega)) ?_
          refine hs_rs (As := [.int (mkA nb nw n9 (nb * nw + 2 * k - 1)), .int (mkA nb nw n9 (nb * nw + (2 * k + 1) - 1))]) (rest := [.int (nI (nb * nw + k - 1)), .ref w]) S9 (c_m_mix l (mkA nb nw n9 (nb * nw + 2 * k - 1)) (mkA nb nw n9 (nb * nw + (2 * k + 1) - 1))) k_m_m_mix h_m_mix rfl rfl ⟨Nat.le_of_ble_eq_true rfl, Nat.le_of_ble_eq_true rfl⟩ rfl hl.1 rfl (Nat.le_of_ble_eq_true rfl) d_m_format_114 ⟨Nat.zero_le _, Nat.zero_le _⟩ ?_
          refine hs_to (y := mkV (mkA nb nw n9) nb nw k) (by rw [mkV, if_neg (by omega)]) ?_
          refine hs_iast hx hb hK hP hD hS 2 0 rfl rfl (i := nb * nw + k - 1) (x := mkV (mkA nb nw n9) nb nw k) (by omega) (by decide) d_m_format_117 (fun H locs hP hD hS => ?_)
          have hP : va_P D classes (mw cA h d w dp nb nw na f8 (upd g9 (nb * nw + k - 1) (mkV (mkA nb nw n9) nb nw k)) us kp de lf dw) H := hP
          have hD : va_D Z (mw cA h d w dp nb nw na f8 (upd g9 (nb * nw + k - 1) (mkV (mkA nb nw n9) nb nw k)) us kp de lf dw) := hD
          refine lv_iinc (v := nI (k - 1)) (lv' := [(1, .int (nI (k - 1))), (0, .ref h)]) hx hb d_m_format_118 hl (k := 0) rfl (sb_m1 (by omega)) (by decide) rfl (fun ls hl => ?_)
          refine lv_goto (tgt := 54) hx hb d_m_format_121 (by decide) ?_
          exact ih f8 hz8 (k - 1) (n9 + 1) (upd g9 (nb * nw + k - 1) (mkV (mkA nb nw n9) nb nw k)) (by omega) (by rw [mkA_step hk9]; exact upd_congr hg9 rfl) (by omega) _ _ hP hD hS ls (lv_sub hl [0, 1] rfl)
        · skip
          refine lv_aload_n hx hb d_m_format_75 rfl (lv_at hl 1 rfl) ?_
          refine lv_iload_n hx hb d_m_format_76 rfl (lv_at hl 0 rfl) ?_
          refine lv_aload_n hx hb d_m_format_77 rfl (lv_at hl 1 rfl) ?_
          refine gm hx hb hts hown hK hP rfl 1 23 (by decide) lk_m_blocks (v := .int (nI nb)) rfl d_m_format_78 ?_
          refine hs_isub hx hb (by omega) d_m_format_81 ?_
          refine hs_rv (As := [.int (nI (k - nb))]) (rest := [.int (nI (nb * nw + k - 1)), .ref w]) S9 (c_m_hash l D cA h d w dp nb nw na f8 g9 us kp de lf dw (k - nb) hG (by omega)) k_m_m_hash h_m_hash rfl rfl ⟨Nat.le_of_ble_eq_true rfl, Nat.le_of_ble_eq_true rfl⟩ hK hP rfl rfl rfl hl.1 rfl (Nat.le_of_ble_eq_true rfl) d_m_format_82 ⟨Nat.zero_le _, Nat.zero_le _⟩ ?_
          refine hs_to (y := mkV (mkA nb nw n9) nb nw k) (by rw [mkV, if_pos (by omega)]; exact mk_hash hG (by omega) (by omega) hg9) ?_
          refine lv_goto (tgt := 117) hx hb d_m_format_85 (by decide) ?_
          refine hs_iast hx hb hK hP hD hS 2 0 rfl rfl (i := nb * nw + k - 1) (x := mkV (mkA nb nw n9) nb nw k) (by omega) (by decide) d_m_format_117 (fun H locs hP hD hS => ?_)
          have hP : va_P D classes (mw cA h d w dp nb nw na f8 (upd g9 (nb * nw + k - 1) (mkV (mkA nb nw n9) nb nw k)) us kp de lf dw) H := hP
          have hD : va_D Z (mw cA h d w dp nb nw na f8 (upd g9 (nb * nw + k - 1) (mkV (mkA nb nw n9) nb nw k)) us kp de lf dw) := hD
          refine lv_iinc (v := nI (k - 1)) (lv' := [(1, .int (nI (k - 1))), (0, .ref h)]) hx hb d_m_format_118 hl (k := 0) rfl (sb_m1 (by omega)) (by decide) rfl (fun ls hl => ?_)
          refine lv_goto (tgt := 54) hx hb d_m_format_121 (by decide) ?_
          exact ih f8 hz8 (k - 1) (n9 + 1) (upd g9 (nb * nw + k - 1) (mkV (mkA nb nw n9) nb nw k)) (by omega) (by rw [mkA_step hk9]; exact upd_congr hg9 rfl) (by omega) _ _ hP hD hS ls (lv_sub hl [0, 1] rfl)
  have loop2 : ∀ (n : Nat) (f8 : Nat → Int32) (hz8 : ∀ j, j < 600 → f8 j = 0) (k : Nat) (g9 : Nat → Int32), k ≤ na → (∀ j, j < k → g9 j = 0) → (na - k) < n → ∀ (H : Heap) (locs : List Loc), va_P D classes (mw cA h d w dp nb nw na f8 g9 us kp de lf dw) H → va_D Z (mw cA h d w dp nb nw na f8 g9 us kp de lf dw) → va_S Z s.heap H locs → ∀ (ls : Array Slot), lv_has ls 2 [(1, .int (nI k)), (0, .ref h)] → W p l e (headSpec w_m_format rq2).room s m ([.ref h] : List Value).toArray below meth c H locs 0 0 (MQ below (QcW D Z (fun u : (Nat → Int32) × (Nat → Int32) => ∀ j, j < 2 * na → u.1 j = mkF nb nw j) (fun _ => some (.int 0)) (fun u => mw cA h d w dp nb nw na u.1 u.2 0 (mkF nb nw (nb * nw)) 0 (-1) false)) ([.ref h] : List Value).toArray s 0 0 Z) (F0 m 24 ls []) := by
    intro n
    induction n with
    | zero =>
      intro f8 hz8 k g9 hk9 hg9 hmu
      exact absurd hmu (Nat.not_lt_zero _)
    | succ n ih =>
      intro f8 hz8 k g9 hk9 hg9 hmu H locs hP hD hS ls hl
      refine lv_iload_n hx hb d_m_format_24 rfl (lv_at hl 0 rfl) ?_
      refine lv_aload_n hx hb d_m_format_25 rfl (lv_at hl 1 rfl) ?_
      refine gm hx hb hts hown hK hP rfl 3 29 (by decide) lk_m_size (v := .int (nI na)) rfl d_m_format_26 ?_
      refine hs_ge (tgt := 45) hx hb d_m_format_29 (by decide) (by omega) (by omega) (fun h1 => ?_) (fun h1 => ?_)
      · skip
        refine lv_iconst (v := nI 2) hx hb d_m_format_45 (by decide) ?_
        refine lv_aload_n hx hb d_m_format_46 rfl (lv_at hl 1 rfl) ?_
        refine gm hx hb hts hown hK hP rfl 1 23 (by decide) lk_m_blocks (v := .int (nI nb)) rfl d_m_format_47 ?_
        refine hs_imul hx hb d_m_format_50 ?_
        refine lv_iconst (v := nI 1) hx hb d_m_format_51 (by decide) ?_
        refine hs_isub hx hb (by omega) d_m_format_52 ?_
        refine lv_istore_n (lv' := [(1, .int (nI ((2 * nb) - 1))), (0, .ref h)]) hx hb d_m_format_53 rfl hl (by decide) rfl (fun ls hl => ?_)
        exact loop3 (2 * nb - 1 + 1) f8 hz8 (2 * nb - 1) 0 g9 (by omega) (fun j hj => hg9 j (by omega)) (Nat.lt_succ_self _) _ _ hP hD hS ls (lv_sub hl [0, 1] rfl)
      · skip
        refine lv_aload_n hx hb d_m_format_32 rfl (lv_at hl 1 rfl) ?_
        refine gm hx hb hts hown hK hP rfl 5 13 (by decide) lk_m_goal (v := .ref w) rfl d_m_format_33 ?_
        refine lv_iload_n hx hb d_m_format_36 rfl (lv_at hl 0 rfl) ?_
        refine lv_iconst (v := nI 0) hx hb d_m_format_37 (by decide) ?_
        refine hs_iast hx hb hK hP hD hS 2 0 rfl rfl (i := k) (x := nI 0) (by omega) (by decide) d_m_format_38 (fun H locs hP hD hS => ?_)
        have hP : va_P D classes (mw cA h d w dp nb nw na f8 (upd g9 k (nI 0)) us kp de lf dw) H := hP
        have hD : va_D Z (mw cA h d w dp nb nw na f8 (upd g9 k (nI 0)) us kp de lf dw) := hD
        refine lv_iinc (v := nI (k + 1)) (lv' := [(1, .int (nI (k + 1))), (0, .ref h)]) hx hb d_m_format_39 hl (k := 0) rfl (nI_add _ _) (by decide) rfl (fun ls hl => ?_)
        refine lv_goto (tgt := 24) hx hb d_m_format_42 (by decide) ?_
        exact ih f8 hz8 (k + 1) (upd g9 k (nI 0)) (by omega) (fun j hj => by rcases Nat.lt_or_ge j k with q | q; (· rw [pk_un (by omega)]; exact hg9 j q); (· rw [show j = k by omega, pk_us, nI_0])) (by omega) _ _ hP hD hS ls (lv_sub hl [0, 1] rfl)
  have loop1 : ∀ (n : Nat) (k : Nat) (f9 : Nat → Int32), k ≤ 600 → (∀ j, j < k → f9 j = 0) → (600 - k) < n → ∀ (H : Heap) (locs : List Loc), va_P D classes (mw cA h d w dp nb nw na f9 g us kp de lf dw) H → va_D Z (mw cA h d w dp nb nw na f9 g us kp de lf dw) → va_S Z s.heap H locs → ∀ (ls : Array Slot), lv_has ls 2 [(1, .int (nI k)), (0, .ref h)] → W p l e (headSpec w_m_format rq2).room s m ([.ref h] : List Value).toArray below meth c H locs 0 0 (MQ below (QcW D Z (fun u : (Nat → Int32) × (Nat → Int32) => ∀ j, j < 2 * na → u.1 j = mkF nb nw j) (fun _ => some (.int 0)) (fun u => mw cA h d w dp nb nw na u.1 u.2 0 (mkF nb nw (nb * nw)) 0 (-1) false)) ([.ref h] : List Value).toArray s 0 0 Z) (F0 m 2 ls []) := by
    intro n
    induction n with
    | zero =>
      intro k f9 hk9 hf9 hmu
      exact absurd hmu (Nat.not_lt_zero _)
    | succ n ih =>
      intro k f9 hk9 hf9 hmu H locs hP hD hS ls hl
      refine lv_iload_n hx hb d_m_format_2 rfl (lv_at hl 0 rfl) ?_
      refine lv_sipush (v := nI 600) hx hb d_m_format_3 (by decide) ?_
      refine hs_ge (tgt := 22) hx hb d_m_format_6 (by decide) (by omega) (by omega) (fun h1 => ?_) (fun h1 => ?_)
      · skip
        refine lv_iconst (v := nI 0) hx hb d_m_format_22 (by decide) ?_
        refine lv_istore_n (lv' := [(1, .int (nI 0)), (0, .ref h)]) hx hb d_m_format_23 rfl hl (by decide) rfl (fun ls hl => ?_)
        exact loop2 (na + 1) f9 (fun j hj => hf9 j (by omega)) 0 g (Nat.zero_le _) (fun j hj => absurd hj (Nat.not_lt_zero j)) (by omega) _ _ hP hD hS ls (lv_sub hl [0, 1] rfl)
      · skip
        refine lv_aload_n hx hb d_m_format_9 rfl (lv_at hl 1 rfl) ?_
        refine gm hx hb hts hown hK hP rfl 4 7 (by decide) lk_m_disk (v := .ref d) rfl d_m_format_10 ?_
        refine lv_iload_n hx hb d_m_format_13 rfl (lv_at hl 0 rfl) ?_
        refine lv_iconst (v := nI 0) hx hb d_m_format_14 (by decide) ?_
        refine hs_iast hx hb hK hP hD hS 1 0 rfl rfl (i := k) (x := nI 0) (by omega) (by decide) d_m_format_15 (fun H locs hP hD hS => ?_)
        have hP : va_P D classes (mw cA h d w dp nb nw na (upd f9 k (nI 0)) g us kp de lf dw) H := hP
        have hD : va_D Z (mw cA h d w dp nb nw na (upd f9 k (nI 0)) g us kp de lf dw) := hD
        refine lv_iinc (v := nI (k + 1)) (lv' := [(1, .int (nI (k + 1))), (0, .ref h)]) hx hb d_m_format_16 hl (k := 0) rfl (nI_add _ _) (by decide) rfl (fun ls hl => ?_)
        refine lv_goto (tgt := 2) hx hb d_m_format_19 (by decide) ?_
        exact ih (k + 1) (upd f9 k (nI 0)) (by omega) (fun j hj => by rcases Nat.lt_or_ge j k with q | q; (· rw [pk_un (by omega)]; exact hf9 j q); (· rw [show j = k by omega, pk_us, nI_0])) (by omega) _ _ hP hD hS ls (lv_sub hl [0, 1] rfl)
  exact loop1 601 0 f (Nat.zero_le _) (fun j hj => absurd hj (Nat.not_lt_zero j)) (by omega) _ _ hP hD hS ls (lv_sub hl [0, 1] rfl)
end
section
set_option maxHeartbeats 4000000 in
set_option maxRecDepth 100000 in
/-- write -/
theorem c_m_write (l : Launch) (D : va_G) (cA : ClassId) (h d w dp nb nw na : Nat) (f g : Nat → Int32) (us : Nat) (kp de lf : Int32) (dw : Bool) (sz : Nat) (b i wo : Int32) (hG : hsG dp nb nw na) (hsl : us ≤ 1) : Met l y_m_write w_m_write rq4 (PcW D [(cA, .int)] (mw cA h d w dp nb nw na f g us kp de lf dw) sz [.ref h, .int b, .int i, .int wo]) (QcW D (va_A (mw cA h d w dp nb nw na f g us kp de lf dw) sz) (fun u : WS × (Nat → Int32) => u.1 = wrV dp nb nw na f us kp lf de dw b i wo) (fun u => some (.int u.1.1)) (fun u => mw cA h d w dp nb nw na u.1.2.1 u.2 u.1.2.2.1 u.1.2.2.2.1 u.1.2.2.2.2.2.1 u.1.2.2.2.2.1 u.1.2.2.2.2.2.2)) 0 0 (va_A (mw cA h d w dp nb nw na f g us kp de lf dw) sz) := by
  refine Met.ofW (cc := b_m_write) (maxL := 6) (ret := (some .int)) (by decide) rfl ?_
  intro p e s m args below meth c s₁ B9 hml hv
  obtain ⟨rfl, hsz, hP, hK, hD0⟩ := hv
  have hx := B9.exec
  have hb := B9.bytes
  have hr := B9.returns
  have hts0 := atoms_spec (ws := w_m_write) B9.pre
  have hts : ∀ w ∈ gw, w.before _ s = true := fun w hw => hts0 w (List.mem_cons_of_mem _ hw)
  have hown : s.vm.findClass R_m = some m.cls := findClass_of_methodNamed B9.named
  have hlocks := B9.notSynchronized
  have S9 : CallFix p m c b_m_write 6 s _ gw R_m := ⟨hx, hb, hml, hown, hts⟩
  subst hsz
  have hD := hD0.self (sz := s.heap.size)
  generalize hAe : va_A (mw cA h d w dp nb nw na f g us kp de lf dw) s.heap.size = Z at hD ⊢
  have hA : ∀ q : Nat, s.heap.size ≤ q → Z q := fun q h => by rw [← hAe]; exact Or.inr h
  have hS : va_S Z s.heap s.heap [] := va_S.rf
  have hl := lv_entry ([.ref h, .int b, .int i, .int wo]) (n := 6) (Nat.le_of_ble_eq_true rfl)
  rw [lg_entry_eq]
  generalize (lg_sl ([.ref h, .int b, .int i, .int wo]) ++ List.replicate (6 - (lg_sl ([.ref h, .int b, .int i, .int wo])).length) Slot.unset).toArray = ls at hl ⊢
  have hl : lv_has ls 6 [(0, .ref h), (1, .int b), (2, .int i), (3, .int wo)] := hl
  have h9 := hG.fits
  have hnb := hG.2.1
  refine lv_aload_n hx hb d_m_write_0 rfl (lv_at hl 0 rfl) ?_
  refine lv_iload_n hx hb d_m_write_1 rfl (lv_at hl 1 rfl) ?_
  refine hs_rv (As := [.int b]) (rest := []) S9 (c_m_isBlock l D cA h d w dp nb nw na f g us kp de lf dw b) k_m_m_isBlock h_m_isBlock rfl rfl ⟨Nat.le_of_ble_eq_true rfl, Nat.le_of_ble_eq_true rfl⟩ hK hP rfl rfl rfl hl.1 rfl (Nat.le_of_ble_eq_true rfl) d_m_write_2 ⟨Nat.zero_le _, Nat.zero_le _⟩ ?_
  refine hs_ifeqB (tgt := 24) hx hb d_m_write_5 (by decide) (fun h1 => ?_) (fun h1 => ?_)
  · skip
    refine lv_bipush (v := -2) hx hb d_m_write_24 (by decide) ?_
    exact W.iret (v := (-2)) hx hb hr (fun t ht hW => ⟨⟨((-2, f, us, kp, lf, de, dw), g), (by rw [wrV_bad (fun q => of_decide_eq_false h1 ⟨q.1.1, q.1.2.1⟩)]), rfl, by rw [ht]; exact hP, hD⟩, hS.F ht⟩) hS.2.2 d_m_write_26
  · skip
    refine lv_iload_n hx hb d_m_write_8 rfl (lv_at hl 2 rfl) ?_
    refine lv_if_lt (tgt := 24) hx hb d_m_write_9 (by decide) (fun h2 => ?_) (fun h2 => ?_)
    · skip
      refine lv_bipush (v := -2) hx hb d_m_write_24 (by decide) ?_
      exact W.iret (v := (-2)) hx hb hr (fun t ht hW => ⟨⟨((-2, f, us, kp, lf, de, dw), g), (by rw [wrV_bad (fun q => Int32.not_le.mpr h2 q.1.2.2.1)]), rfl, by rw [ht]; exact hP, hD⟩, hS.F ht⟩) hS.2.2 d_m_write_26
    · skip
      refine lv_iload_n hx hb d_m_write_12 rfl (lv_at hl 2 rfl) ?_
      refine lv_aload_n hx hb d_m_write_13 rfl (lv_at hl 0 rfl) ?_
      refine gm hx hb hts hown hK hP rfl 2 26 (by decide) lk_m_words (v := .int (nI nw)) rfl d_m_write_14 ?_
      refine lv_icmp_ge (tgt := 24) hx hb d_m_write_17 (by decide) (fun h3 => ?_) (fun h3 => ?_)
      · skip
        refine lv_bipush (v := -2) hx hb d_m_write_24 (by decide) ?_
        exact W.iret (v := (-2)) hx hb hr (fun t ht hW => ⟨⟨((-2, f, us, kp, lf, de, dw), g), (by rw [wrV_bad (fun q => Int32.not_lt.mpr h3 q.1.2.2.2)]), rfl, by rw [ht]; exact hP, hD⟩, hS.F ht⟩) hS.2.2 d_m_write_26
      · skip
        refine lv_iload_n hx hb d_m_write_20 rfl (lv_at hl 3 rfl) ?_
        refine lv_if_ge (tgt := 27) hx hb d_m_write_21 (by decide) (fun h4 => ?_) (fun h4 => ?_)
        · skip
          have hv9 : vld nb nw b i := ⟨(of_decide_eq_true h1).1, (of_decide_eq_true h1).2, Int32.not_lt.mp h2, Int32.not_le.mp h3⟩
          refine lv_aload_n hx hb d_m_write_27 rfl (lv_at hl 0 rfl) ?_
          refine gm hx hb hts hown hK hP rfl 10 58 (by decide) lk_m_isDown (v := .int (bI dw)) rfl d_m_write_28 ?_
          refine hs_ifeqB (tgt := 37) hx hb d_m_write_31 (by decide) (fun h5 => ?_) (fun h5 => ?_)
          · skip
            obtain ⟨b9, i9, hb9, hi9, rfl, rfl⟩ := vld_of (by omega) (by omega) hv9
            refine lv_aload_n hx hb d_m_write_37 rfl (lv_at hl 0 rfl) ?_
            refine lv_iload_n hx hb d_m_write_38 rfl (lv_at hl 1 rfl) ?_
            refine hs_wv (As := [.int (nI b9)]) (rest := []) (wr := []) [0, 1, 2] [] S9 (c_m_isRight l D cA h d w dp nb nw na f g us kp de lf dw s.heap.size b9 hG hsl hb9) k_m_m_isRight h_m_isRight rfl rfl ⟨Nat.le_of_ble_eq_true rfl, Nat.le_of_ble_eq_true rfl⟩ hK hP hD hS hA rfl rfl rfl rfl (by decide) rfl rfl rfl rfl hl.1 rfl (Nat.le_of_ble_eq_true rfl) d_m_write_39 ⟨Nat.zero_le _, Nat.zero_le _⟩ (fun g7 H locs hp hP hD hS => ?_)
            have hP : va_P D classes (mw cA h d w dp nb nw na f g7 us kp de lf dw) H := hP
            have hD : va_D Z (mw cA h d w dp nb nw na f g7 us kp de lf dw) := hD
            refine W.eq (g2 := F0 m 42 ls [.int (bI (okA (ar f na us) dp nb nw b9 kp))]) rfl ?_
            refine hs_ifneB (tgt := 48) hx hb d_m_write_42 (by decide) (fun h6 => ?_) (fun h6 => ?_)
            · skip
              have hw9 := (at_word (sl := 0) hG (Nat.zero_le 1) hb9 hi9).1
              have hgn : ∀ j, j < na → upd g7 (nw * b9 + i9) wo j = (nwA f na us nw b9 i9 wo) j := upd_congr hp rfl
              refine lv_aload_n hx hb d_m_write_48 rfl (lv_at hl 0 rfl) ?_
              refine gm hx hb hts hown hK hP rfl 5 13 (by decide) lk_m_goal (v := .ref w) rfl d_m_write_49 ?_
              refine lv_iload_n hx hb d_m_write_52 rfl (lv_at hl 1 rfl) ?_
              refine lv_aload_n hx hb d_m_write_53 rfl (lv_at hl 0 rfl) ?_
              refine gm hx hb hts hown hK hP rfl 2 26 (by decide) lk_m_words (v := .int (nI nw)) rfl d_m_write_54 ?_
              refine hs_imul hx hb d_m_write_57 ?_
              refine lv_iload_n hx hb d_m_write_58 rfl (lv_at hl 2 rfl) ?_
              refine hs_iadd hx hb d_m_write_59 ?_
              refine hs_to (y := nI (nw * b9 + i9)) (by rw [Nat.mul_comm]) ?_
              refine lv_iload_n hx hb d_m_write_60 rfl (lv_at hl 3 rfl) ?_
              refine hs_iast hx hb hK hP hD hS 2 0 rfl rfl (i := nw * b9 + i9) (x := wo) (by omega) (by decide) d_m_write_61 (fun H locs hP hD hS => ?_)
              have hP : va_P D classes (mw cA h d w dp nb nw na f (upd g7 (nw * b9 + i9) wo) us kp de lf dw) H := hP
              have hD : va_D Z (mw cA h d w dp nb nw na f (upd g7 (nw * b9 + i9) wo) us kp de lf dw) := hD
              refine lv_aload_n hx hb d_m_write_62 rfl (lv_at hl 0 rfl) ?_
              refine lv_iload_n hx hb d_m_write_63 rfl (lv_at hl 1 rfl) ?_
              refine lv_iconst (v := nI 1) hx hb d_m_write_64 (by decide) ?_
              refine hs_to (y := bI true) bI_t ?_
              refine hs_wv (As := [.int (nI b9), .int (bI true)]) (rest := []) (wr := []) [0, 1, 2] [] S9 (c_m_way1 l D cA h d w dp nb nw na f (upd g7 (nw * b9 + i9) wo) us kp de lf dw H.size b9 hG hb9) k_m_m_way h_m_way rfl rfl ⟨Nat.le_of_ble_eq_true rfl, Nat.le_of_ble_eq_true rfl⟩ hK hP hD hS hA rfl rfl rfl rfl (by decide) rfl rfl rfl rfl hl.1 rfl (Nat.le_of_ble_eq_true rfl) d_m_write_65 ⟨Nat.zero_le _, Nat.zero_le _⟩ (fun g8 H locs hp hP hD hS => ?_)
              have hg8 : ∀ j, j < na → g8 j = (gA (nwA f na us nw b9 i9 wo) dp nb nw b9) j := by rw [hp]; exact gA_congr hG hb9 hgn
              have hP : va_P D classes (mw cA h d w dp nb nw na f g8 us kp de lf dw) H := hP
              have hD : va_D Z (mw cA h d w dp nb nw na f g8 us kp de lf dw) := hD
              refine W.eq (g2 := F0 m 68 ls [.int (uN (upd g7 (nw * b9 + i9) wo) nb nw b9 dp)]) rfl ?_
              refine hs_to (y := uN (nwA f na us nw b9 i9 wo) nb nw b9 dp) (uN_congr hG hb9 hgn (Nat.le_refl dp)) ?_
              refine lv_istore (lv' := [(4, .int (uN (nwA f na us nw b9 i9 wo) nb nw b9 dp)), (0, .ref h), (1, .int (nI b9)), (2, .int (nI i9)), (3, .int wo)]) hx hb d_m_write_68 hl (by decide) rfl (fun ls hl => ?_)
              refine lv_iconst (v := nI 0) hx hb d_m_write_70 (by decide) ?_
              refine lv_istore (lv' := [(5, .int (nI 0)), (4, .int (uN (nwA f na us nw b9 i9 wo) nb nw b9 dp)), (0, .ref h), (1, .int (nI b9)), (2, .int (nI i9)), (3, .int wo)]) hx hb d_m_write_71 hl (by decide) rfl (fun ls hl => ?_)
              obtain ⟨R1, hR1⟩ : ∃ z, z = rW (na * (1 - us)) (gA (nwA f na us nw b9 i9 wo) dp nb nw b9) (nb * nw) 0 (true, f, lf, de, dw) := ⟨_, rfl⟩
              obtain ⟨R2, hR2⟩ : ∃ z, z = (if R1.1 = true then rD (na * (1 - us)) (nb * nw) (gA (nwA f na us nw b9 i9 wo) dp nb nw b9) (2 * nb - 1) R1 else R1) := ⟨_, rfl⟩
              have hend : wrV dp nb nw na f us kp lf de dw (nI b9) (nI i9) wo = wrE R2 us kp (uN (nwA f na us nw b9 i9 wo) nb nw b9 dp) := by
                rw [wrV_ok (by omega) (by omega) hb9 hi9 h4 h5 h6, wrR, hR2, hR1, h5]
              have loopN : ∀ (n : Nat) (k : Nat) (st : PS), k < 2 * nb → st.1 = true → rD (na * (1 - us)) (nb * nw) (gA (nwA f na us nw b9 i9 wo) dp nb nw b9) k st = R2 → k < n → ∀ (H : Heap) (locs : List Loc), va_P D classes (mw cA h d w dp nb nw na st.2.1 g8 us kp st.2.2.2.1 st.2.2.1 st.2.2.2.2) H → va_D Z (mw cA h d w dp nb nw na st.2.1 g8 us kp st.2.2.2.1 st.2.2.1 st.2.2.2.2) → va_S Z s.heap H locs → ∀ (ls : Array Slot), lv_has ls 6 [(5, .int (nI k)), (0, .ref h), (1, .int (nI b9)), (2, .int (nI i9)), (3, .int wo), (4, .int (uN (nwA f na us nw b9 i9 wo) nb nw b9 dp))] → W p l e (headSpec w_m_write rq4).room s m ([.ref h, .int (nI b9), .int (nI i9), .int wo] : List Value).toArray below meth c H locs 0 0 (MQ below (QcW D Z (fun u : WS × (Nat → Int32) => u.1 = wrV dp nb nw na f us kp lf de dw (nI b9) (nI i9) wo) (fun u => some (.int u.1.1)) (fun u => mw cA h d w dp nb nw na u.1.2.1 u.2 u.1.2.2.1 u.1.2.2.2.1 u.1.2.2.2.2.2.1 u.1.2.2.2.2.1 u.1.2.2.2.2.2.2)) ([.ref h, .int (nI b9), .int (nI i9), .int wo] : List Value).toArray s 0 0 Z) (F0 m 115 ls []) := by
                intro n
                induction n with
                | zero =>
                  intro k st hk9 hs9 ht9 hmu
                  exact absurd hmu (Nat.not_lt_zero _)
                | succ n ih =>
                  intro k st hk9 hs9 ht9 hmu H locs hP hD hS ls hl
                  refine lv_iload hx hb d_m_write_115 (lv_at hl 0 rfl) ?_
                  refine hs_ifle (tgt := 142) hx hb d_m_write_117 (by decide) (by omega) (fun h7 => ?_) (fun h7 => ?_)
                  · skip
                    subst h7
                    have hst : st = R2 := ht9
                    refine lv_aload_n hx hb d_m_write_142 rfl (lv_at hl 1 rfl) ?_
                    refine lv_iconst (v := nI 1) hx hb d_m_write_143 (by decide) ?_
                    refine lv_aload_n hx hb d_m_write_144 rfl (lv_at hl 1 rfl) ?_
                    refine gm hx hb hts hown hK hP rfl 6 42 (by decide) lk_m_used (v := .int (nI us)) rfl d_m_write_145 ?_
                    refine hs_isub hx hb (by omega) d_m_write_148 ?_
                    refine pm hx hb hts hown hK hP hD hS rfl 6 42 (by decide) lk_m_used rfl (ty := .int) (v := .int (nI (1 - us))) rfl rfl rfl (Nat.le_of_ble_eq_true rfl) d_m_write_149 (fun H locs hP hD hS => ?_)
                    have hP : va_P D classes (mw cA h d w dp nb nw na st.2.1 g8 (1 - us) kp st.2.2.2.1 st.2.2.1 st.2.2.2.2) H := hP
                    have hD : va_D Z (mw cA h d w dp nb nw na st.2.1 g8 (1 - us) kp st.2.2.2.1 st.2.2.1 st.2.2.2.2) := hD
                    refine lv_aload_n hx hb d_m_write_152 rfl (lv_at hl 1 rfl) ?_
                    refine lv_iload hx hb d_m_write_153 (lv_at hl 5 rfl) ?_
                    refine pm hx hb hts hown hK hP hD hS rfl 7 52 (by decide) lk_m_kept rfl (ty := .int) (v := .int (uN (nwA f na us nw b9 i9 wo) nb nw b9 dp)) rfl rfl rfl (Nat.le_of_ble_eq_true rfl) d_m_write_155 (fun H locs hP hD hS => ?_)
                    have hP : va_P D classes (mw cA h d w dp nb nw na st.2.1 g8 (1 - us) (uN (nwA f na us nw b9 i9 wo) nb nw b9 dp) st.2.2.2.1 st.2.2.1 st.2.2.2.2) H := hP
                    have hD : va_D Z (mw cA h d w dp nb nw na st.2.1 g8 (1 - us) (uN (nwA f na us nw b9 i9 wo) nb nw b9 dp) st.2.2.2.1 st.2.2.1 st.2.2.2.2) := hD
                    refine lv_iconst (v := nI 0) hx hb d_m_write_158 (by decide) ?_
                    refine hs_to (y := 0) nI_0 ?_
                    exact W.iret (v := 0) hx hb hr (fun t ht hW => ⟨⟨((0, st.2.1, 1 - us, uN (nwA f na us nw b9 i9 wo) nb nw b9 dp, st.2.2.1, st.2.2.2.1, st.2.2.2.2), g8), (by rw [hend, wrE, ← hst, if_pos hs9]), rfl, by rw [ht]; exact hP, hD⟩, hS.F ht⟩) hS.2.2 d_m_write_159
                  · skip
                    obtain ⟨j, rfl⟩ : ∃ j, k = j + 1 := ⟨k - 1, by omega⟩
                    have hn9 := (at_node (k := j + 1) (sl := 0) hG (Nat.zero_le 1) (by omega) hk9).1
                    refine lv_aload_n hx hb d_m_write_120 rfl (lv_at hl 1 rfl) ?_
                    refine lv_aload_n hx hb d_m_write_121 rfl (lv_at hl 1 rfl) ?_
                    refine lv_iload hx hb d_m_write_122 (lv_at hl 0 rfl) ?_
                    refine hs_rv (As := [.int (nI (j + 1))]) (rest := [.ref h]) S9 (c_m_node l D cA h d w dp nb nw na st.2.1 g8 us kp st.2.2.2.1 st.2.2.1 st.2.2.2.2 (j + 1) (by omega)) k_m_m_node h_m_node rfl rfl ⟨Nat.le_of_ble_eq_true rfl, Nat.le_of_ble_eq_true rfl⟩ hK hP rfl rfl rfl hl.1 rfl (Nat.le_of_ble_eq_true rfl) d_m_write_124 ⟨Nat.zero_le _, Nat.zero_le _⟩ ?_
                    refine hs_wv (As := [.int (nI (nb * nw + (j + 1) - 1))]) (rest := []) (wr := []) [0, 1, 2] [] S9 (c_m_put l D cA h d w dp nb nw na st.2.1 g8 us kp st.2.2.2.1 st.2.2.1 st.2.2.2.2 H.size (nb * nw + (j + 1) - 1) hG hsl hn9) k_m_m_put h_m_put rfl rfl ⟨Nat.le_of_ble_eq_true rfl, Nat.le_of_ble_eq_true rfl⟩ hK hP hD hS hA rfl rfl rfl rfl (by decide) rfl rfl rfl rfl hl.1 rfl (Nat.le_of_ble_eq_true rfl) d_m_write_127 ⟨Nat.zero_le _, Nat.zero_le _⟩ (fun u H locs hp hP hD hS => ?_)
                    have hP : va_P D classes (mw cA h d w dp nb nw na u.2.1 g8 us kp u.2.2.2.1 u.2.2.1 u.2.2.2.2) H := hP
                    have hD : va_D Z (mw cA h d w dp nb nw na u.2.1 g8 us kp u.2.2.2.1 u.2.2.1 u.2.2.2.2) := hD
                    refine W.eq (g2 := F0 m 130 ls [.int (bI u.1)]) rfl ?_
                    refine hs_ifneB (tgt := 136) hx hb d_m_write_130 (by decide) (fun h8 => ?_) (fun h8 => ?_)
                    · skip
                      have hu : u = ptS (na * (1 - us) + (nb * nw + (j + 1) - 1)) ((gA (nwA f na us nw b9 i9 wo) dp nb nw b9) (nb * nw + (j + 1) - 1)) st := by rw [hp, hg8 _ hn9]; rfl
                      rw [rD, ← hu, if_pos h8] at ht9
                      refine lv_iinc (v := nI ((j + 1) - 1)) (lv' := [(5, .int (nI ((j + 1) - 1))), (0, .ref h), (1, .int (nI b9)), (2, .int (nI i9)), (3, .int wo), (4, .int (uN (nwA f na us nw b9 i9 wo) nb nw b9 dp))]) hx hb d_m_write_136 hl (k := 0) rfl (sb_m1 (by omega)) (by decide) rfl (fun ls hl => ?_)
                      refine lv_goto (tgt := 115) hx hb d_m_write_139 (by decide) ?_
                      exact ih j u (by omega) h8 ht9 (by omega) _ _ hP hD hS ls (lv_sub hl [0, 1, 2, 3, 4, 5] rfl)
                    · skip
                      have hu : u = ptS (na * (1 - us) + (nb * nw + (j + 1) - 1)) ((gA (nwA f na us nw b9 i9 wo) dp nb nw b9) (nb * nw + (j + 1) - 1)) st := by rw [hp, hg8 _ hn9]; rfl
                      rw [rD, ← hu, if_neg (by rw [h8]; decide)] at ht9
                      have hst : u = R2 := ht9
                      refine lv_bipush (v := -4) hx hb d_m_write_133 (by decide) ?_
                      exact W.iret (v := (-4)) hx hb hr (fun t ht hW => ⟨⟨((-4, u.2.1, us, kp, u.2.2.1, u.2.2.2.1, u.2.2.2.2), g8), (by rw [hend, wrE, ← hst, if_neg (by rw [h8]; decide)]), rfl, by rw [ht]; exact hP, hD⟩, hS.F ht⟩) hS.2.2 d_m_write_135
              have loopW : ∀ (n : Nat) (k n9 : Nat) (st : PS), k + n9 = nb * nw → st.1 = true → rW (na * (1 - us)) (gA (nwA f na us nw b9 i9 wo) dp nb nw b9) n9 k st = R1 → n9 < n → ∀ (H : Heap) (locs : List Loc), va_P D classes (mw cA h d w dp nb nw na st.2.1 g8 us kp st.2.2.2.1 st.2.2.1 st.2.2.2.2) H → va_D Z (mw cA h d w dp nb nw na st.2.1 g8 us kp st.2.2.2.1 st.2.2.1 st.2.2.2.2) → va_S Z s.heap H locs → ∀ (ls : Array Slot), lv_has ls 6 [(5, .int (nI k)), (0, .ref h), (1, .int (nI b9)), (2, .int (nI i9)), (3, .int wo), (4, .int (uN (nwA f na us nw b9 i9 wo) nb nw b9 dp))] → W p l e (headSpec w_m_write rq4).room s m ([.ref h, .int (nI b9), .int (nI i9), .int wo] : List Value).toArray below meth c H locs 0 0 (MQ below (QcW D Z (fun u : WS × (Nat → Int32) => u.1 = wrV dp nb nw na f us kp lf de dw (nI b9) (nI i9) wo) (fun u => some (.int u.1.1)) (fun u => mw cA h d w dp nb nw na u.1.2.1 u.2 u.1.2.2.1 u.1.2.2.2.1 u.1.2.2.2.2.2.1 u.1.2.2.2.2.1 u.1.2.2.2.2.2.2)) ([.ref h, .int (nI b9), .int (nI i9), .int wo] : List Value).toArray s 0 0 Z) (F0 m 73 ls []) := by
                intro n
                induction n with
                | zero =>
                  intro k n9 st hk9 hs9 ht9 hmu
                  exact absurd hmu (Nat.not_lt_zero _)
                | succ n ih =>
                  intro k n9 st hk9 hs9 ht9 hmu H locs hP hD hS ls hl
                  refine lv_iload hx hb d_m_write_73 (lv_at hl 0 rfl) ?_
                  refine lv_aload_n hx hb d_m_write_75 rfl (lv_at hl 1 rfl) ?_
                  refine gm hx hb hts hown hK hP rfl 1 23 (by decide) lk_m_blocks (v := .int (nI nb)) rfl d_m_write_76 ?_
                  refine lv_aload_n hx hb d_m_write_79 rfl (lv_at hl 1 rfl) ?_
                  refine gm hx hb hts hown hK hP rfl 2 26 (by decide) lk_m_words (v := .int (nI nw)) rfl d_m_write_80 ?_
                  refine hs_imul hx hb d_m_write_83 ?_
                  refine hs_ge (tgt := 105) hx hb d_m_write_84 (by decide) (by omega) (by omega) (fun h7 => ?_) (fun h7 => ?_)
                  · skip
                    have e9 : n9 = 0 := by omega
                    subst e9
                    have hst : st = R1 := ht9
                    refine lv_iconst (v := nI 2) hx hb d_m_write_105 (by decide) ?_
                    refine lv_aload_n hx hb d_m_write_106 rfl (lv_at hl 1 rfl) ?_
                    refine gm hx hb hts hown hK hP rfl 1 23 (by decide) lk_m_blocks (v := .int (nI nb)) rfl d_m_write_107 ?_
                    refine hs_imul hx hb d_m_write_110 ?_
                    refine lv_iconst (v := nI 1) hx hb d_m_write_111 (by decide) ?_
                    refine hs_isub hx hb (by omega) d_m_write_112 ?_
                    refine lv_istore (lv' := [(5, .int (nI ((2 * nb) - 1))), (0, .ref h), (1, .int (nI b9)), (2, .int (nI i9)), (3, .int wo), (4, .int (uN (nwA f na us nw b9 i9 wo) nb nw b9 dp))]) hx hb d_m_write_113 hl (by decide) rfl (fun ls hl => ?_)
                    exact loopN (2 * nb - 1 + 1) (2 * nb - 1) st (by omega) hs9 (by rw [hR2, ← hst, if_pos hs9]) (Nat.lt_succ_self _) _ _ hP hD hS ls (lv_sub hl [0, 1, 2, 3, 4, 5] rfl)
                  · skip
                    obtain ⟨n9, rfl⟩ : ∃ z, n9 = z + 1 := ⟨n9 - 1, by omega⟩
                    have hka : k < na := by omega
                    refine lv_aload_n hx hb d_m_write_87 rfl (lv_at hl 1 rfl) ?_
                    refine lv_iload hx hb d_m_write_88 (lv_at hl 0 rfl) ?_
                    refine hs_wv (As := [.int (nI k)]) (rest := []) (wr := []) [0, 1, 2] [] S9 (c_m_put l D cA h d w dp nb nw na st.2.1 g8 us kp st.2.2.2.1 st.2.2.1 st.2.2.2.2 H.size k hG hsl hka) k_m_m_put h_m_put rfl rfl ⟨Nat.le_of_ble_eq_true rfl, Nat.le_of_ble_eq_true rfl⟩ hK hP hD hS hA rfl rfl rfl rfl (by decide) rfl rfl rfl rfl hl.1 rfl (Nat.le_of_ble_eq_true rfl) d_m_write_90 ⟨Nat.zero_le _, Nat.zero_le _⟩ (fun u H locs hp hP hD hS => ?_)
                    have hP : va_P D classes (mw cA h d w dp nb nw na u.2.1 g8 us kp u.2.2.2.1 u.2.2.1 u.2.2.2.2) H := hP
                    have hD : va_D Z (mw cA h d w dp nb nw na u.2.1 g8 us kp u.2.2.2.1 u.2.2.1 u.2.2.2.2) := hD
                    refine W.eq (g2 := F0 m 93 ls [.int (bI u.1)]) rfl ?_
                    refine hs_ifneB (tgt := 99) hx hb d_m_write_93 (by decide) (fun h8 => ?_) (fun h8 => ?_)
                    · skip
                      have hu : u = ptS (na * (1 - us) + k) ((gA (nwA f na us nw b9 i9 wo) dp nb nw b9) k) st := by rw [hp, hg8 _ hka]; rfl
                      rw [rW, ← hu, if_pos h8] at ht9
                      refine lv_iinc (v := nI (k + 1)) (lv' := [(5, .int (nI (k + 1))), (0, .ref h), (1, .int (nI b9)), (2, .int (nI i9)), (3, .int wo), (4, .int (uN (nwA f na us nw b9 i9 wo) nb nw b9 dp))]) hx hb d_m_write_99 hl (k := 0) rfl (nI_add _ _) (by decide) rfl (fun ls hl => ?_)
                      refine lv_goto (tgt := 73) hx hb d_m_write_102 (by decide) ?_
                      exact ih (k + 1) n9 u (by omega) h8 ht9 (by omega) _ _ hP hD hS ls (lv_sub hl [0, 1, 2, 3, 4, 5] rfl)
                    · skip
                      have hu : u = ptS (na * (1 - us) + k) ((gA (nwA f na us nw b9 i9 wo) dp nb nw b9) k) st := by rw [hp, hg8 _ hka]; rfl
                      rw [rW, ← hu, if_neg (by rw [h8]; decide)] at ht9
                      have hst : u = R2 := by rw [hR2, ← ht9, if_neg (by rw [h8]; decide)]
                      refine lv_bipush (v := -4) hx hb d_m_write_96 (by decide) ?_
                      exact W.iret (v := (-4)) hx hb hr (fun t ht hW => ⟨⟨((-4, u.2.1, us, kp, u.2.2.1, u.2.2.2.1, u.2.2.2.2), g8), (by rw [hend, wrE, ← hst, if_neg (by rw [h8]; decide)]), rfl, by rw [ht]; exact hP, hD⟩, hS.F ht⟩) hS.2.2 d_m_write_98
              exact loopW (nb * nw + 1) 0 (nb * nw) (true, f, lf, de, dw) (by omega) rfl hR1.symm (Nat.lt_succ_self _) _ _ hP hD hS ls (lv_sub hl [0, 2, 3, 4, 5, 1] rfl)
            · skip
              refine lv_bipush (v := -3) hx hb d_m_write_45 (by decide) ?_
              exact W.iret (v := (-3)) hx hb hr (fun t ht hW => ⟨⟨((-3, f, us, kp, lf, de, dw), g7), (wrV_no (by omega) (by omega) hb9 hi9 h4 h5 h6).symm, rfl, by rw [ht]; exact hP, hD⟩, hS.F ht⟩) hS.2.2 d_m_write_47
          · skip
            refine lv_bipush (v := -4) hx hb d_m_write_34 (by decide) ?_
            exact W.iret (v := (-4)) hx hb hr (fun t ht hW => ⟨⟨((-4, f, us, kp, lf, de, dw), g), (by rw [wrV_dn ⟨hv9, h4⟩ h5]), rfl, by rw [ht]; exact hP, hD⟩, hS.F ht⟩) hS.2.2 d_m_write_36
        · skip
          refine lv_bipush (v := -2) hx hb d_m_write_24 (by decide) ?_
          exact W.iret (v := (-2)) hx hb hr (fun t ht hW => ⟨⟨((-2, f, us, kp, lf, de, dw), g), (by rw [wrV_bad (fun q => h4 q.2)]), rfl, by rw [ht]; exact hP, hD⟩, hS.F ht⟩) hS.2.2 d_m_write_26
end
section
abbrev rqi : Room := { frames := 4, cells := 2, slots := 600, locals := 120 }
abbrev rqj : Room := { frames := 3, cells := 2, slots := 900, locals := 90 }
set_option maxRecDepth 100000 in
theorem h_min : Cond.code Lib.Math.min.name Lib.Math.min.code 2 (some .int) ∈ gw := List.mem_filter.mpr ⟨List.mem_of_getElem? (i := 30) rfl, rfl⟩
set_option maxRecDepth 100000 in
theorem h_max : Cond.code Lib.Math.max.name Lib.Math.max.code 2 (some .int) ∈ gw := List.mem_filter.mpr ⟨List.mem_of_getElem? (i := 33) rfl, rfl⟩
set_option maxRecDepth 100000 in
theorem h_obj : Cond.code Lib.objectInit ⟨#[0xb1]⟩ 1 none ∈ gw := List.mem_filter.mpr ⟨List.mem_of_getElem? (i := 27) rfl, rfl⟩
/-- a number held between two -/
def clI (lo hi x : Int32) : Int32 := if x < lo then lo else if hi < x then hi else x
theorem cl_x {lo hi x : Int32} (h : lo.toInt ≤ hi.toInt) : (if lo < (if x < hi then x else hi) then (if x < hi then x else hi) else lo) = clI lo hi x := by
  unfold clI
  simp only [Int32.lt_iff_toInt_lt]
  repeat' split
  all_goals first | rfl | (apply Int32.toInt_inj.mp; omega) | omega
theorem cl_of {lo hi x : Int32} (h : lo.toInt ≤ hi.toInt) : lo.toInt ≤ (clI lo hi x).toInt ∧ (clI lo hi x).toInt ≤ hi.toInt := by
  unfold clI
  simp only [Int32.lt_iff_toInt_lt]
  repeat' split
  all_goals omega
theorem cl_dp (x : Int32) : ∃ j : Nat, j ≤ 5 ∧ clI 0 5 x = nI j := by
  have h := cl_of (lo := 0) (hi := 5) (x := x) (by decide)
  exact nI_of2 (M := 5) (n := 5) (by decide) (by rw [Int32.lt_iff_toInt_lt]; have h0 : (0 : Int32).toInt = 0 := by decide
                                                 omega) (by rw [Int32.le_iff_toInt_le]; exact h.2)
theorem cl_nw (x : Int32) : ∃ j : Nat, 1 ≤ j ∧ j ≤ 6 ∧ clI 1 6 x = nI j := by
  have h := cl_of (lo := 1) (hi := 6) (x := x) (by decide)
  have h1 : (1 : Int32).toInt = 1 := by decide
  have h0 : (0 : Int32).toInt = 0 := by decide
  obtain ⟨j, hj, e⟩ := nI_of2 (x := clI 1 6 x) (M := 6) (n := 6) (by decide) (by rw [Int32.lt_iff_toInt_lt]; omega) (by rw [Int32.le_iff_toInt_le]; exact h.2)
  refine ⟨j, ?_, hj, e⟩
  rw [e, nI_toInt (by omega)] at h
  omega
theorem sh1 : ∀ d, d < 6 → nI 1 <<< (nI d &&& 31) = nI (2 ^ d) := by decide +kernel
section HSI
variable {p : Program} {l : Launch} {e : Env} {R : Room} {s : State} {m : MethodId} {args : Array Value} {below : List Frame} {meth : Method} {c : Code} {H : Heap} {locs : List Loc} {cells slots : Nat} {Q : State → Prop}
variable {cc : ByteArray} {pc : Nat} {ls : Array Slot} {rest : List Value}
theorem pxF (hin : meth.name = "<init>") (hx : p.tables.exec = Jvm.exec) (hb : c.code = cc) (hts : ∀ w ∈ gw, w.before args s = true) (hown : s.vm.findClass R_x = some m.cls) {D : va_G} {tys : List (ClassId × FieldType)} {ws : va_W} {A : Nat → Prop} {H0 : Heap} (hK : va_K D classes tys s) (hP : va_P D classes ws H) (hD : va_D A ws) (hS : va_S A H0 H locs) {a : Nat} {fs : List Value} (he : ws[0]? = some (a, .inr (0, fs))) (k index : Nat) (hk : k < 10) (hl : Cond.fieldLink R_x index R_x (F_x k).2.1 (F_x k).2.2.1 ∈ gw) (hfin : (F_x k).2.2.2 = true) {ty : FieldType} {v : Value} (hd : t_x k = ty) (hn : narrow ty v = v) (hfit : fits ty v = true) (hlen : k < fs.length) (hdg : decode cc pc = .ok (.putfield index, 3))
    (kk : ∀ (H1 : Heap) (locs1 : List Loc), va_P D classes (ws.set 0 (a, .inr (0, fs.set k v))) H1 → va_D A (ws.set 0 (a, .inr (0, fs.set k v))) → va_S A H0 H1 locs1 → W p l e R s m args below meth c H1 locs1 cells slots Q (F0 m (pc + 3) ls rest)) : W p l e R s m args below meth c H locs cells slots Q (F0 m pc ls (v :: .ref a :: rest)) :=
  va_putF (C := R_x) (T := F_x) (N := 10) hx hb hts i_x t_x t_x_ok n_x hown hK hP hD hS 0 he rfl k hk (hts _ hl) (fun _ h => by rw [F_x_cls] at h; exact h) hfin hin (F_x_cls k) (hd ▸ t_x_ok k hk) hn hfit hlen hdg kk
theorem pmF (hin : meth.name = "<init>") (hx : p.tables.exec = Jvm.exec) (hb : c.code = cc) (hts : ∀ w ∈ gw, w.before args s = true) (hown : s.vm.findClass R_m = some m.cls) {D : va_G} {tys : List (ClassId × FieldType)} {ws : va_W} {A : Nat → Prop} {H0 : Heap} (hK : va_K D classes tys s) (hP : va_P D classes ws H) (hD : va_D A ws) (hS : va_S A H0 H locs) {a : Nat} {fs : List Value} (he : ws[0]? = some (a, .inr (1, fs))) (k index : Nat) (hk : k < 11) (hl : Cond.fieldLink R_m index R_m (F_m k).2.1 (F_m k).2.2.1 ∈ gw) (hfin : (F_m k).2.2.2 = true) {ty : FieldType} {v : Value} (hd : t_m k = ty) (hn : narrow ty v = v) (hfit : fits ty v = true) (hlen : k < fs.length) (hdg : decode cc pc = .ok (.putfield index, 3))
    (kk : ∀ (H1 : Heap) (locs1 : List Loc), va_P D classes (ws.set 0 (a, .inr (1, fs.set k v))) H1 → va_D A (ws.set 0 (a, .inr (1, fs.set k v))) → va_S A H0 H1 locs1 → W p l e R s m args below meth c H1 locs1 cells slots Q (F0 m (pc + 3) ls rest)) : W p l e R s m args below meth c H locs cells slots Q (F0 m pc ls (v :: .ref a :: rest)) :=
  va_putF (C := R_m) (T := F_m) (N := 11) hx hb hts i_m t_m t_m_ok n_m hown hK hP hD hS 0 he rfl k hk (hts _ hl) (fun _ h => by rw [F_m_cls] at h; exact h) hfin hin (F_m_cls k) (hd ▸ t_m_ok k hk) hn hfit hlen hdg kk
theorem arr_int : Cond.arrayClass (newarray.typeOf .int) ∈ gw := by decide +kernel
/-- a new int array, of the class that the int arrays have -/
theorem hs_newa (hx : p.tables.exec = Jvm.exec) (hb : c.code = cc) (hts : ∀ w ∈ gw, w.before args s = true) {D : va_G} {cA : ClassId} {ws : va_W} {A : Nat → Prop} {H0 : Heap} (hK : va_K D classes [(cA, .int)] s) (hP : va_P D classes ws H) (hD : va_D A ws) (hS : va_S A H0 H locs) (hA : ∀ q, H0.size ≤ q → A q) {n : Nat} (hn : n ≤ 1000) (hcells : cells + 1 ≤ R.cells) (hslots : slots + n ≤ R.slots) (hdg : decode cc pc = .ok (.newarray .int, 2))
    (kk : ∀ (q : Nat) (H1 : Heap), va_P D classes (ws ++ [(q, .inl (cA, n, .inl (fun _ => 0)))]) H1 → va_D A (ws ++ [(q, .inl (cA, n, .inl (fun _ => 0)))]) → va_S A H0 H1 locs → W p l e R s m args below meth c H1 locs (cells + 1) (slots + n) Q (F0 m (pc + 2) ls (.ref q :: rest))) : W p l e R s m args below meth c H locs cells slots Q (F0 m pc ls (.int (nI n) :: rest)) := by
  refine va_newa (a0 := (n, .inl (fun _ => 0))) hx hb (hts _ arr_int) (ty := .int) rfl hK hP hD hS hA (fun _ => rfl) (nI_pos (by omega)) (nI_clamp (by omega)) (show n * 4 ≤ _ by omega) hcells hslots hdg (fun q c1 H1 hK1 hP1 hD1 hS1 => ?_)
  have e1 : cA = c1 := by
    have a := (hK1.2 1 _ rfl).2
    have b := (hK1.2 0 _ rfl).2
    exact Option.some.inj (b.symm.trans a)
  subst e1
  exact kk q H1 hP1 hD1 hS1
/-- a call of a constructor -/
theorem hs_wi {S : Type} {post : S → Prop} {ov : S → Option Value} {wf : S → va_W} {y : MethodName} {bytes : ByteArray} {maxL nL n index mc ms : Nat} {rm : Room} {D : va_G} {tys : List (ClassId × FieldType)} {ws wc wr : va_W} {A : Nat → Prop} {H0 : Heap} {own : String} {b : Nat} {As : List Value} {st0 : List Value} (isC isR : List Nat)
    (F : CallFix p m c cc nL s args gw own) (hM : Met l y (tw y bytes maxL none) rm (PcW D tys wc H.size (.ref b :: As)) (QcW D (va_A wc H.size) post ov wf) mc ms (va_A wc H.size)) (hG : okI own index y n) (hcd : Cond.code y bytes maxL none ∈ gw) (hrc : rm.cells = mc) (hrs : rm.slots = ms) (hR : okR R rm maxL)
    (hK : va_K D classes tys s) (hP : va_P D classes ws H) (hD : va_D A ws) (hS : va_S A H0 H locs) (hA : ∀ q, H0.size ≤ q → A q) (hC : isC.map (fun i => ws[i]?) = wc.map some) (hRs : isR.map (fun i => ws[i]?) = wr.map some) (hnC : va_nd isC = true) (hn9 : va_nd isR = true) (hdis : ∀ i ∈ isR, i ∉ isC) (hPs : isC.filterMap (fun i => ws[i]?) = wc)
    (hn : As.length = n) (hsize : ls.size = nL) (hst : st0 = As.reverse ++ .ref b :: rest) (hW : (rest.map fun v => v.category).sum ≤ 8) (hdg : decode cc pc = .ok (.invokespecial index, 3)) (hf : cells + mc ≤ R.cells ∧ slots + ms ≤ R.slots)
    (kk : ∀ (u : S) (H1 : Heap) (locs1 : List Loc), post u → va_P D classes (wr ++ wf u) H1 → va_D A (wr ++ wf u) → va_S A H0 H1 locs1 → W p l e R s m args below meth c H1 locs1 (cells + mc) (slots + ms) Q (F0 m (pc + 3) ls ((ov u).toList ++ rest))) : W p l e R s m args below meth c H locs cells slots Q (F0 m pc ls st0) := by
  obtain ⟨hd, h1, h2, h3, h4⟩ := hG
  have hts := F.2.2.2.2
  have hPc := hP.sub (ws' := wc) isC hPs
  have hDc := hD.sub (ws' := wc) isC hnC hC
  have hFc := va_free (wc := wc) hD hS hA isC hC
  refine hs_wk (va_runI (As := As) (rest := rest) F hM ⟨callB_of n hts (good_tw hcd) rfl hrc hrs (hts _ h1) (hts _ h2) hd hR, h4, hts _ h3⟩
    ⟨PcW.blind, fun U hU hW => ⟨rfl, by rw [hU], by rw [hU]; exact hPc, va_K.moved hW.alike hK, hDc.weaken (fun _ _ _ _ => trivial)⟩⟩ rfl hn hsize hst (lv_room hW) hdg hf) hS hFc (fun u H1 locs1 hp hP1 hD1 hk hS1 => ?_)
  obtain ⟨hP2, hD2⟩ := va_join hP hD isC isR hC hRs hn9 hdis hk hFc hP1 hD1
  exact kk u H1 locs1 hp hP2 hD2 hS1
end HSI
abbrev xo0 : List Value := [.int (nI 0), .int (nI 0), .int (nI 0), .null, .null, .int (nI 0), .int 0, .int 0, .int 0, .int (bI false)]
abbrev mo0 : List Value := [.int (nI 0), .int (nI 0), .int (nI 0), .int (nI 0), .null, .null, .int (nI 0), .int 0, .int 0, .int 0, .int (bI false)]
end
section
set_option maxHeartbeats 4000000 in
set_option maxRecDepth 100000 in
theorem c_x_init (l : Launch) (D : va_G) (cA : ClassId) (h sz : Nat) (dd ww : Int32) (dp nb nw na : Nat) (hG : hsG dp nb nw na) (hdp : clI 0 5 dd = nI dp) (hnw : clI 1 6 ww = nI nw) : Met l y_x_init w_x_init rqi (PcW D [(cA, .int)] ([(h, .inr (0, xo0))]) sz [.ref h, .int dd, .int ww]) (QcW D (va_A ([(h, .inr (0, xo0))]) sz) (fun u : (Nat → Int32) × Nat × Nat => ∀ j, j < 2 * na → u.1 j = mkF nb nw j) (fun _ => none) (fun u => xw cA h u.2.1 u.2.2 nb nw na u.1 (fun _ => 0) 0 (mkF nb nw (nb * nw)) (-1) 0 false)) 2 600 (va_A ([(h, .inr (0, xo0))]) sz) := by
  refine Met.ofW (cc := b_x_init) (maxL := 3) (ret := none) (by decide) rfl ?_
  intro p e s m args below meth c s₁ B9 hml hv
  obtain ⟨rfl, hsz, hP, hK, hD0⟩ := hv
  have hx := B9.exec
  have hb := B9.bytes
  have hr := B9.returns
  have hts0 := atoms_spec (ws := w_x_init) B9.pre
  have hts : ∀ w ∈ gw, w.before _ s = true := fun w hw => hts0 w (List.mem_cons_of_mem _ hw)
  have hown : s.vm.findClass R_x = some m.cls := findClass_of_methodNamed B9.named
  have hlocks := B9.notSynchronized
  have hin : meth.name = "<init>" := (name_of_methodNamed B9.named B9.method).1
  have S9 : CallFix p m c b_x_init 3 s _ gw R_x := ⟨hx, hb, hml, hown, hts⟩
  subst hsz
  have hD := hD0.self (sz := s.heap.size)
  generalize hAe : va_A ([(h, .inr (0, xo0))]) s.heap.size = Z at hD ⊢
  have hA : ∀ q : Nat, s.heap.size ≤ q → Z q := fun q h => by rw [← hAe]; exact Or.inr h
  have hS : va_S Z s.heap s.heap [] := va_S.rf
  have hl := lv_entry ([.ref h, .int dd, .int ww]) (n := 3) (Nat.le_of_ble_eq_true rfl)
  rw [lg_entry_eq]
  generalize (lg_sl ([.ref h, .int dd, .int ww]) ++ List.replicate (3 - (lg_sl ([.ref h, .int dd, .int ww])).length) Slot.unset).toArray = ls at hl ⊢
  have hl : lv_has ls 3 [(0, .ref h), (1, .int dd), (2, .int ww)] := hl
  have h9 := hG.fits
  have hd5 := hG.1
  refine lv_aload_n hx hb d_x_init_0 rfl (lv_at hl 0 rfl) ?_
  refine W.objInit hx hb hown (hts (.methodLink R_x 1 Lib.objectInit) (by decide +kernel)) (hts (.instanceMethod Lib.objectInit) (by decide +kernel)) (hts _ h_obj) rfl (by rw [hml]; exact hl.1) rfl d_x_init_1 (Nat.le_of_ble_eq_true rfl) (Nat.le_of_ble_eq_true rfl) ?_
  refine W.eq (g2 := F0 m 4 ls []) rfl ?_
  refine lv_aload_n hx hb d_x_init_4 rfl (lv_at hl 0 rfl) ?_
  refine lv_iconst (v := -1) hx hb d_x_init_5 (by decide) ?_
  refine px hx hb hts hown hK hP hD hS rfl 7 9 (by decide) lk_x_writesLeft rfl (ty := .int) (v := .int (-1)) rfl rfl rfl (Nat.le_of_ble_eq_true rfl) d_x_init_6 (fun H locs hP hD hS => ?_)
  have hP : va_P D classes ([(h, .inr (0, [.int (nI 0), .int (nI 0), .int (nI 0), .null, .null, .int (nI 0), .int 0, .int (-1), .int 0, .int (bI false)]))]) H := hP
  have hD : va_D Z ([(h, .inr (0, [.int (nI 0), .int (nI 0), .int (nI 0), .null, .null, .int (nI 0), .int 0, .int (-1), .int 0, .int (bI false)]))]) := hD
  refine lv_aload_n hx hb d_x_init_9 rfl (lv_at hl 0 rfl) ?_
  refine lv_iconst (v := nI 1) hx hb d_x_init_10 (by decide) ?_
  refine lv_iconst (v := nI 0) hx hb d_x_init_11 (by decide) ?_
  refine lv_iconst (v := nI 5) hx hb d_x_init_12 (by decide) ?_
  refine lv_iload_n hx hb d_x_init_13 rfl (lv_at hl 1 rfl) ?_
  refine va_mmin hx hb (hml.trans hl.1.symm) hown (hts (.methodLink R_x 13 Lib.Math.min.name) (by decide +kernel)) (hts (.static Lib.Math.min.name) (by decide +kernel)) (hts (.initialized "java/lang/Math") (by decide +kernel)) (hts _ h_min) (Nat.le_of_ble_eq_true rfl) (Nat.le_of_ble_eq_true rfl) (Nat.zero_le _) (Nat.zero_le _) d_x_init_14 ?_
  refine va_mmax hx hb (hml.trans hl.1.symm) hown (hts (.methodLink R_x 19 Lib.Math.max.name) (by decide +kernel)) (hts (.static Lib.Math.max.name) (by decide +kernel)) (hts (.initialized "java/lang/Math") (by decide +kernel)) (hts _ h_max) (Nat.le_of_ble_eq_true rfl) (Nat.le_of_ble_eq_true rfl) (Nat.zero_le _) (Nat.zero_le _) d_x_init_17 ?_
  refine hs_to (y := nI dp) (by rw [show (nI 0) = 0 from nI_0, show nI 5 = 5 from rfl, cl_x (by decide), hdp]) ?_
  refine lv_ishl hx hb d_x_init_20 ?_
  refine hs_to (y := nI nb) (by rw [sh1 dp (by omega), hG.2.1]) ?_
  refine pxF hin hx hb hts hown hK hP hD hS rfl 0 22 (by decide) lk_x_blocks rfl (ty := .int) (v := .int (nI nb)) rfl rfl rfl (Nat.le_of_ble_eq_true rfl) d_x_init_21 (fun H locs hP hD hS => ?_)
  have hP : va_P D classes ([(h, .inr (0, [.int (nI nb), .int (nI 0), .int (nI 0), .null, .null, .int (nI 0), .int 0, .int (-1), .int 0, .int (bI false)]))]) H := hP
  have hD : va_D Z ([(h, .inr (0, [.int (nI nb), .int (nI 0), .int (nI 0), .null, .null, .int (nI 0), .int 0, .int (-1), .int 0, .int (bI false)]))]) := hD
  refine lv_aload_n hx hb d_x_init_24 rfl (lv_at hl 0 rfl) ?_
  refine lv_iconst (v := nI 1) hx hb d_x_init_25 (by decide) ?_
  refine lv_bipush (v := nI 6) hx hb d_x_init_26 (by decide) ?_
  refine lv_iload_n hx hb d_x_init_28 rfl (lv_at hl 2 rfl) ?_
  refine va_mmin hx hb (hml.trans hl.1.symm) hown (hts (.methodLink R_x 13 Lib.Math.min.name) (by decide +kernel)) (hts (.static Lib.Math.min.name) (by decide +kernel)) (hts (.initialized "java/lang/Math") (by decide +kernel)) (hts _ h_min) (Nat.le_of_ble_eq_true rfl) (Nat.le_of_ble_eq_true rfl) (Nat.zero_le _) (Nat.zero_le _) d_x_init_29 ?_
  refine va_mmax hx hb (hml.trans hl.1.symm) hown (hts (.methodLink R_x 19 Lib.Math.max.name) (by decide +kernel)) (hts (.static Lib.Math.max.name) (by decide +kernel)) (hts (.initialized "java/lang/Math") (by decide +kernel)) (hts _ h_max) (Nat.le_of_ble_eq_true rfl) (Nat.le_of_ble_eq_true rfl) (Nat.zero_le _) (Nat.zero_le _) d_x_init_32 ?_
  refine hs_to (y := nI nw) (by rw [show nI 1 = 1 from rfl, show nI 6 = 6 from rfl, cl_x (by decide), hnw]) ?_
  refine pxF hin hx hb hts hown hK hP hD hS rfl 1 25 (by decide) lk_x_words rfl (ty := .int) (v := .int (nI nw)) rfl rfl rfl (Nat.le_of_ble_eq_true rfl) d_x_init_35 (fun H locs hP hD hS => ?_)
  have hP : va_P D classes ([(h, .inr (0, [.int (nI nb), .int (nI nw), .int (nI 0), .null, .null, .int (nI 0), .int 0, .int (-1), .int 0, .int (bI false)]))]) H := hP
  have hD : va_D Z ([(h, .inr (0, [.int (nI nb), .int (nI nw), .int (nI 0), .null, .null, .int (nI 0), .int 0, .int (-1), .int 0, .int (bI false)]))]) := hD
  refine lv_aload_n hx hb d_x_init_38 rfl (lv_at hl 0 rfl) ?_
  refine lv_aload_n hx hb d_x_init_39 rfl (lv_at hl 0 rfl) ?_
  refine gx hx hb hts hown hK hP rfl 0 22 (by decide) lk_x_blocks (v := .int (nI nb)) rfl d_x_init_40 ?_
  refine lv_aload_n hx hb d_x_init_43 rfl (lv_at hl 0 rfl) ?_
  refine gx hx hb hts hown hK hP rfl 1 25 (by decide) lk_x_words (v := .int (nI nw)) rfl d_x_init_44 ?_
  refine hs_imul hx hb d_x_init_47 ?_
  refine lv_iconst (v := nI 2) hx hb d_x_init_48 (by decide) ?_
  refine lv_aload_n hx hb d_x_init_49 rfl (lv_at hl 0 rfl) ?_
  refine gx hx hb hts hown hK hP rfl 0 22 (by decide) lk_x_blocks (v := .int (nI nb)) rfl d_x_init_50 ?_
  refine hs_imul hx hb d_x_init_53 ?_
  refine hs_iadd hx hb d_x_init_54 ?_
  refine lv_iconst (v := nI 1) hx hb d_x_init_55 (by decide) ?_
  refine hs_isub hx hb (by omega) d_x_init_56 ?_
  refine hs_to (y := nI na) (congrArg nI (by omega)) ?_
  refine pxF hin hx hb hts hown hK hP hD hS rfl 2 28 (by decide) lk_x_area rfl (ty := .int) (v := .int (nI na)) rfl rfl rfl (Nat.le_of_ble_eq_true rfl) d_x_init_57 (fun H locs hP hD hS => ?_)
  have hP : va_P D classes ([(h, .inr (0, [.int (nI nb), .int (nI nw), .int (nI na), .null, .null, .int (nI 0), .int 0, .int (-1), .int 0, .int (bI false)]))]) H := hP
  have hD : va_D Z ([(h, .inr (0, [.int (nI nb), .int (nI nw), .int (nI na), .null, .null, .int (nI 0), .int 0, .int (-1), .int 0, .int (bI false)]))]) := hD
  refine lv_aload_n hx hb d_x_init_60 rfl (lv_at hl 0 rfl) ?_
  refine lv_iconst (v := nI 2) hx hb d_x_init_61 (by decide) ?_
  refine lv_aload_n hx hb d_x_init_62 rfl (lv_at hl 0 rfl) ?_
  refine gx hx hb hts hown hK hP rfl 2 28 (by decide) lk_x_area (v := .int (nI na)) rfl d_x_init_63 ?_
  refine hs_imul hx hb d_x_init_66 ?_
  refine hs_newa hx hb hts hK hP hD hS hA (n := 2 * na) (by omega) (show 0 + 1 ≤ 2 by decide) (show 0 + 2 * na ≤ 600 by omega) d_x_init_67 (fun q67 H hP hD hS => ?_)
  have hP : va_P D classes ([(h, .inr (0, [.int (nI nb), .int (nI nw), .int (nI na), .null, .null, .int (nI 0), .int 0, .int (-1), .int 0, .int (bI false)])), (q67, .inl (cA, 2 * na, .inl (fun _ => 0)))]) H := hP
  have hD : va_D Z ([(h, .inr (0, [.int (nI nb), .int (nI nw), .int (nI na), .null, .null, .int (nI 0), .int 0, .int (-1), .int 0, .int (bI false)])), (q67, .inl (cA, 2 * na, .inl (fun _ => 0)))]) := hD
  refine W.widen (k := 1) (n := 512) (by omega) (by omega) ?_
  refine pxF hin hx hb hts hown hK hP hD hS rfl 3 31 (by decide) lk_x_disk rfl (ty := (.array .int)) (v := .ref q67) rfl rfl rfl (Nat.le_of_ble_eq_true rfl) d_x_init_69 (fun H locs hP hD hS => ?_)
  have hP : va_P D classes ([(h, .inr (0, [.int (nI nb), .int (nI nw), .int (nI na), .ref q67, .null, .int (nI 0), .int 0, .int (-1), .int 0, .int (bI false)])), (q67, .inl (cA, 2 * na, .inl (fun _ => 0)))]) H := hP
  have hD : va_D Z ([(h, .inr (0, [.int (nI nb), .int (nI nw), .int (nI na), .ref q67, .null, .int (nI 0), .int 0, .int (-1), .int 0, .int (bI false)])), (q67, .inl (cA, 2 * na, .inl (fun _ => 0)))]) := hD
  refine lv_aload_n hx hb d_x_init_72 rfl (lv_at hl 0 rfl) ?_
  refine lv_iconst (v := nI 2) hx hb d_x_init_73 (by decide) ?_
  refine lv_aload_n hx hb d_x_init_74 rfl (lv_at hl 0 rfl) ?_
  refine gx hx hb hts hown hK hP rfl 0 22 (by decide) lk_x_blocks (v := .int (nI nb)) rfl d_x_init_75 ?_
  refine hs_imul hx hb d_x_init_78 ?_
  refine hs_newa hx hb hts hK hP hD hS hA (n := 2 * nb) (by omega) (show 1 + 1 ≤ 2 by decide) (show 512 + 2 * nb ≤ 600 by omega) d_x_init_79 (fun q79 H hP hD hS => ?_)
  have hP : va_P D classes ([(h, .inr (0, [.int (nI nb), .int (nI nw), .int (nI na), .ref q67, .null, .int (nI 0), .int 0, .int (-1), .int 0, .int (bI false)])), (q67, .inl (cA, 2 * na, .inl (fun _ => 0))), (q79, .inl (cA, 2 * nb, .inl (fun _ => 0)))]) H := hP
  have hD : va_D Z ([(h, .inr (0, [.int (nI nb), .int (nI nw), .int (nI na), .ref q67, .null, .int (nI 0), .int 0, .int (-1), .int 0, .int (bI false)])), (q67, .inl (cA, 2 * na, .inl (fun _ => 0))), (q79, .inl (cA, 2 * nb, .inl (fun _ => 0)))]) := hD
  refine W.widen (k := 2) (n := 600) (by omega) (by omega) ?_
  refine pxF hin hx hb hts hown hK hP hD hS rfl 4 35 (by decide) lk_x_way rfl (ty := (.array .int)) (v := .ref q79) rfl rfl rfl (Nat.le_of_ble_eq_true rfl) d_x_init_81 (fun H locs hP hD hS => ?_)
  have hP : va_P D classes ([(h, .inr (0, [.int (nI nb), .int (nI nw), .int (nI na), .ref q67, .ref q79, .int (nI 0), .int 0, .int (-1), .int 0, .int (bI false)])), (q67, .inl (cA, 2 * na, .inl (fun _ => 0))), (q79, .inl (cA, 2 * nb, .inl (fun _ => 0)))]) H := hP
  have hD : va_D Z ([(h, .inr (0, [.int (nI nb), .int (nI nw), .int (nI na), .ref q67, .ref q79, .int (nI 0), .int 0, .int (-1), .int 0, .int (bI false)])), (q67, .inl (cA, 2 * na, .inl (fun _ => 0))), (q79, .inl (cA, 2 * nb, .inl (fun _ => 0)))]) := hD
  have hP : va_P D classes (xw cA h q67 q79 nb nw na (fun _ => 0) (fun _ => 0) 0 0 (-1) 0 false) H := hP
  have hD : va_D Z (xw cA h q67 q79 nb nw na (fun _ => 0) (fun _ => 0) 0 0 (-1) 0 false) := hD
  refine lv_aload_n hx hb d_x_init_84 rfl (lv_at hl 0 rfl) ?_
  refine hs_wv (As := []) (rest := []) (wr := []) [0, 1, 2] [] S9 (c_x_make l D cA h q67 q79 nb nw na (fun _ => 0) (fun _ => 0) 0 0 (-1) 0 false H.size dp hG (Nat.zero_le 1)) k_x_x_make h_x_make rfl rfl ⟨Nat.le_of_ble_eq_true rfl, Nat.le_of_ble_eq_true rfl⟩ hK hP hD hS hA rfl rfl rfl rfl (by decide) rfl rfl rfl rfl hl.1 rfl (Nat.le_of_ble_eq_true rfl) d_x_init_85 ⟨Nat.le_refl _, Nat.le_refl _⟩ (fun u H locs hp hP hD hS => ?_)
  have hP : va_P D classes (xw cA h q67 q79 nb nw na u (fun _ => 0) 0 (mkF nb nw (nb * nw)) (-1) 0 false) H := hP
  have hD : va_D Z (xw cA h q67 q79 nb nw na u (fun _ => 0) 0 (mkF nb nw (nb * nw)) (-1) 0 false) := hD
  refine W.eq (g2 := F0 m 88 ls []) rfl ?_
  exact W.vret hx hb hr (fun t ht hW => ⟨⟨(u, q67, q79), hp, rfl, by rw [ht]; exact hP, hD⟩, hS.F ht⟩) hS.2.2 d_x_init_88
end
section
set_option maxHeartbeats 4000000 in
set_option maxRecDepth 100000 in
theorem c_m_init (l : Launch) (D : va_G) (cA : ClassId) (h sz : Nat) (dd ww : Int32) (dp nb nw na : Nat) (hG : hsG dp nb nw na) (hdp : clI 0 5 dd = nI dp) (hnw : clI 1 6 ww = nI nw) : Met l y_m_init w_m_init rqj (PcW D [(cA, .int)] ([(h, .inr (1, mo0))]) sz [.ref h, .int dd, .int ww]) (QcW D (va_A ([(h, .inr (1, mo0))]) sz) (fun u : (Nat → Int32) × (Nat → Int32) × Nat × Nat => ∀ j, j < 2 * na → u.1 j = mkF nb nw j) (fun _ => none) (fun u => mw cA h u.2.2.1 u.2.2.2 dp nb nw na u.1 u.2.1 0 (mkF nb nw (nb * nw)) 0 (-1) false)) 2 900 (va_A ([(h, .inr (1, mo0))]) sz) := by
  refine Met.ofW (cc := b_m_init) (maxL := 4) (ret := none) (by decide) rfl ?_
  intro p e s m args below meth c s₁ B9 hml hv
  obtain ⟨rfl, hsz, hP, hK, hD0⟩ := hv
  have hx := B9.exec
  have hb := B9.bytes
  have hr := B9.returns
  have hts0 := atoms_spec (ws := w_m_init) B9.pre
  have hts : ∀ w ∈ gw, w.before _ s = true := fun w hw => hts0 w (List.mem_cons_of_mem _ hw)
  have hown : s.vm.findClass R_m = some m.cls := findClass_of_methodNamed B9.named
  have hlocks := B9.notSynchronized
  have hin : meth.name = "<init>" := (name_of_methodNamed B9.named B9.method).1
  have S9 : CallFix p m c b_m_init 4 s _ gw R_m := ⟨hx, hb, hml, hown, hts⟩
  subst hsz
  have hD := hD0.self (sz := s.heap.size)
  generalize hAe : va_A ([(h, .inr (1, mo0))]) s.heap.size = Z at hD ⊢
  have hA : ∀ q : Nat, s.heap.size ≤ q → Z q := fun q h => by rw [← hAe]; exact Or.inr h
  have hS : va_S Z s.heap s.heap [] := va_S.rf
  have hl := lv_entry ([.ref h, .int dd, .int ww]) (n := 4) (Nat.le_of_ble_eq_true rfl)
  rw [lg_entry_eq]
  generalize (lg_sl ([.ref h, .int dd, .int ww]) ++ List.replicate (4 - (lg_sl ([.ref h, .int dd, .int ww])).length) Slot.unset).toArray = ls at hl ⊢
  have hl : lv_has ls 4 [(0, .ref h), (1, .int dd), (2, .int ww)] := hl
  have h9 := hG.fits
  have hd5 := hG.1
  refine lv_aload_n hx hb d_m_init_0 rfl (lv_at hl 0 rfl) ?_
  refine W.objInit hx hb hown (hts (.methodLink R_m 1 Lib.objectInit) (by decide +kernel)) (hts (.instanceMethod Lib.objectInit) (by decide +kernel)) (hts _ h_obj) rfl (by rw [hml]; exact hl.1) rfl d_m_init_1 (Nat.le_of_ble_eq_true rfl) (Nat.le_of_ble_eq_true rfl) ?_
  refine W.eq (g2 := F0 m 4 ls []) rfl ?_
  refine lv_aload_n hx hb d_m_init_4 rfl (lv_at hl 0 rfl) ?_
  refine lv_sipush (v := nI 600) hx hb d_m_init_5 (by decide) ?_
  refine hs_newa hx hb hts hK hP hD hS hA (n := 600) (by omega) (show 0 + 1 ≤ 2 by decide) (show 0 + 600 ≤ 900 by decide) d_m_init_8 (fun q8 H hP hD hS => ?_)
  have hP : va_P D classes ([(h, .inr (1, [.int (nI 0), .int (nI 0), .int (nI 0), .int (nI 0), .null, .null, .int (nI 0), .int 0, .int 0, .int 0, .int (bI false)])), (q8, .inl (cA, 600, .inl (fun _ => 0)))]) H := hP
  have hD : va_D Z ([(h, .inr (1, [.int (nI 0), .int (nI 0), .int (nI 0), .int (nI 0), .null, .null, .int (nI 0), .int 0, .int 0, .int 0, .int (bI false)])), (q8, .inl (cA, 600, .inl (fun _ => 0)))]) := hD
  refine W.widen (k := 1) (n := 600) (by omega) (by omega) ?_
  refine pmF hin hx hb hts hown hK hP hD hS rfl 4 7 (by decide) lk_m_disk rfl (ty := (.array .int)) (v := .ref q8) rfl rfl rfl (Nat.le_of_ble_eq_true rfl) d_m_init_10 (fun H locs hP hD hS => ?_)
  have hP : va_P D classes ([(h, .inr (1, [.int (nI 0), .int (nI 0), .int (nI 0), .int (nI 0), .ref q8, .null, .int (nI 0), .int 0, .int 0, .int 0, .int (bI false)])), (q8, .inl (cA, 600, .inl (fun _ => 0)))]) H := hP
  have hD : va_D Z ([(h, .inr (1, [.int (nI 0), .int (nI 0), .int (nI 0), .int (nI 0), .ref q8, .null, .int (nI 0), .int 0, .int 0, .int 0, .int (bI false)])), (q8, .inl (cA, 600, .inl (fun _ => 0)))]) := hD
  refine lv_aload_n hx hb d_m_init_13 rfl (lv_at hl 0 rfl) ?_
  refine lv_sipush (v := nI 300) hx hb d_m_init_14 (by decide) ?_
  refine hs_newa hx hb hts hK hP hD hS hA (n := 300) (by omega) (show 1 + 1 ≤ 2 by decide) (show 600 + 300 ≤ 900 by decide) d_m_init_17 (fun q17 H hP hD hS => ?_)
  have hP : va_P D classes ([(h, .inr (1, [.int (nI 0), .int (nI 0), .int (nI 0), .int (nI 0), .ref q8, .null, .int (nI 0), .int 0, .int 0, .int 0, .int (bI false)])), (q8, .inl (cA, 600, .inl (fun _ => 0))), (q17, .inl (cA, 300, .inl (fun _ => 0)))]) H := hP
  have hD : va_D Z ([(h, .inr (1, [.int (nI 0), .int (nI 0), .int (nI 0), .int (nI 0), .ref q8, .null, .int (nI 0), .int 0, .int 0, .int 0, .int (bI false)])), (q8, .inl (cA, 600, .inl (fun _ => 0))), (q17, .inl (cA, 300, .inl (fun _ => 0)))]) := hD
  refine W.widen (k := 2) (n := 900) (by omega) (by omega) ?_
  refine pmF hin hx hb hts hown hK hP hD hS rfl 5 13 (by decide) lk_m_goal rfl (ty := (.array .int)) (v := .ref q17) rfl rfl rfl (Nat.le_of_ble_eq_true rfl) d_m_init_19 (fun H locs hP hD hS => ?_)
  have hP : va_P D classes ([(h, .inr (1, [.int (nI 0), .int (nI 0), .int (nI 0), .int (nI 0), .ref q8, .ref q17, .int (nI 0), .int 0, .int 0, .int 0, .int (bI false)])), (q8, .inl (cA, 600, .inl (fun _ => 0))), (q17, .inl (cA, 300, .inl (fun _ => 0)))]) H := hP
  have hD : va_D Z ([(h, .inr (1, [.int (nI 0), .int (nI 0), .int (nI 0), .int (nI 0), .ref q8, .ref q17, .int (nI 0), .int 0, .int 0, .int 0, .int (bI false)])), (q8, .inl (cA, 600, .inl (fun _ => 0))), (q17, .inl (cA, 300, .inl (fun _ => 0)))]) := hD
  refine lv_aload_n hx hb d_m_init_22 rfl (lv_at hl 0 rfl) ?_
  refine lv_iconst (v := -1) hx hb d_m_init_23 (by decide) ?_
  refine pm hx hb hts hown hK hP hD hS rfl 9 16 (by decide) lk_m_left rfl (ty := .int) (v := .int (-1)) rfl rfl rfl (Nat.le_of_ble_eq_true rfl) d_m_init_24 (fun H locs hP hD hS => ?_)
  have hP : va_P D classes ([(h, .inr (1, [.int (nI 0), .int (nI 0), .int (nI 0), .int (nI 0), .ref q8, .ref q17, .int (nI 0), .int 0, .int 0, .int (-1), .int (bI false)])), (q8, .inl (cA, 600, .inl (fun _ => 0))), (q17, .inl (cA, 300, .inl (fun _ => 0)))]) H := hP
  have hD : va_D Z ([(h, .inr (1, [.int (nI 0), .int (nI 0), .int (nI 0), .int (nI 0), .ref q8, .ref q17, .int (nI 0), .int 0, .int 0, .int (-1), .int (bI false)])), (q8, .inl (cA, 600, .inl (fun _ => 0))), (q17, .inl (cA, 300, .inl (fun _ => 0)))]) := hD
  refine lv_aload_n hx hb d_m_init_27 rfl (lv_at hl 0 rfl) ?_
  refine lv_iload_n hx hb d_m_init_28 rfl (lv_at hl 1 rfl) ?_
  refine lv_if_ge (tgt := 36) hx hb d_m_init_29 (by decide) (fun h1 => ?_) (fun h1 => ?_)
  · skip
    refine lv_iload_n hx hb d_m_init_36 rfl (lv_at hl 1 rfl) ?_
    refine lv_iconst (v := nI 5) hx hb d_m_init_37 (by decide) ?_
    refine lv_icmp_le (tgt := 45) hx hb d_m_init_38 (by decide) (fun h2 => ?_) (fun h2 => ?_)
    · skip
      refine lv_iload_n hx hb d_m_init_45 rfl (lv_at hl 1 rfl) ?_
      refine hs_to (y := nI dp) (by rw [← hdp, clI, if_neg (Int32.not_lt.mpr h1), if_neg (Int32.not_lt.mpr (show dd ≤ (5 : Int32) from h2))]) ?_
      refine pmF hin hx hb hts hown hK hP hD hS rfl 0 20 (by decide) lk_m_depth rfl (ty := .int) (v := .int (nI dp)) rfl rfl rfl (Nat.le_of_ble_eq_true rfl) d_m_init_46 (fun H locs hP hD hS => ?_)
      have hP : va_P D classes ([(h, .inr (1, [.int (nI dp), .int (nI 0), .int (nI 0), .int (nI 0), .ref q8, .ref q17, .int (nI 0), .int 0, .int 0, .int (-1), .int (bI false)])), (q8, .inl (cA, 600, .inl (fun _ => 0))), (q17, .inl (cA, 300, .inl (fun _ => 0)))]) H := hP
      have hD : va_D Z ([(h, .inr (1, [.int (nI dp), .int (nI 0), .int (nI 0), .int (nI 0), .ref q8, .ref q17, .int (nI 0), .int 0, .int 0, .int (-1), .int (bI false)])), (q8, .inl (cA, 600, .inl (fun _ => 0))), (q17, .inl (cA, 300, .inl (fun _ => 0)))]) := hD
      refine lv_aload_n hx hb d_m_init_49 rfl (lv_at hl 0 rfl) ?_
      refine lv_iconst (v := nI 1) hx hb d_m_init_50 (by decide) ?_
      refine lv_aload_n hx hb d_m_init_51 rfl (lv_at hl 0 rfl) ?_
      refine gm hx hb hts hown hK hP rfl 0 20 (by decide) lk_m_depth (v := .int (nI dp)) rfl d_m_init_52 ?_
      refine lv_ishl hx hb d_m_init_55 ?_
      refine hs_to (y := nI nb) (by rw [sh1 dp (by omega), hG.2.1]) ?_
      refine pmF hin hx hb hts hown hK hP hD hS rfl 1 23 (by decide) lk_m_blocks rfl (ty := .int) (v := .int (nI nb)) rfl rfl rfl (Nat.le_of_ble_eq_true rfl) d_m_init_56 (fun H locs hP hD hS => ?_)
      have hP : va_P D classes ([(h, .inr (1, [.int (nI dp), .int (nI nb), .int (nI 0), .int (nI 0), .ref q8, .ref q17, .int (nI 0), .int 0, .int 0, .int (-1), .int (bI false)])), (q8, .inl (cA, 600, .inl (fun _ => 0))), (q17, .inl (cA, 300, .inl (fun _ => 0)))]) H := hP
      have hD : va_D Z ([(h, .inr (1, [.int (nI dp), .int (nI nb), .int (nI 0), .int (nI 0), .ref q8, .ref q17, .int (nI 0), .int 0, .int 0, .int (-1), .int (bI false)])), (q8, .inl (cA, 600, .inl (fun _ => 0))), (q17, .inl (cA, 300, .inl (fun _ => 0)))]) := hD
      refine lv_aload_n hx hb d_m_init_59 rfl (lv_at hl 0 rfl) ?_
      refine lv_iload_n hx hb d_m_init_60 rfl (lv_at hl 2 rfl) ?_
      refine lv_iconst (v := nI 1) hx hb d_m_init_61 (by decide) ?_
      refine lv_icmp_ge (tgt := 69) hx hb d_m_init_62 (by decide) (fun h3 => ?_) (fun h3 => ?_)
      · skip
        refine lv_iload_n hx hb d_m_init_69 rfl (lv_at hl 2 rfl) ?_
        refine lv_bipush (v := nI 6) hx hb d_m_init_70 (by decide) ?_
        refine lv_icmp_le (tgt := 80) hx hb d_m_init_72 (by decide) (fun h4 => ?_) (fun h4 => ?_)
        · skip
          refine lv_iload_n hx hb d_m_init_80 rfl (lv_at hl 2 rfl) ?_
          refine hs_to (y := nI nw) (by rw [← hnw, clI, if_neg (Int32.not_lt.mpr (show (1 : Int32) ≤ ww from h3)), if_neg (Int32.not_lt.mpr (show ww ≤ (6 : Int32) from h4))]) ?_
          refine pmF hin hx hb hts hown hK hP hD hS rfl 2 26 (by decide) lk_m_words rfl (ty := .int) (v := .int (nI nw)) rfl rfl rfl (Nat.le_of_ble_eq_true rfl) d_m_init_81 (fun H locs hP hD hS => ?_)
          have hP : va_P D classes ([(h, .inr (1, [.int (nI dp), .int (nI nb), .int (nI nw), .int (nI 0), .ref q8, .ref q17, .int (nI 0), .int 0, .int 0, .int (-1), .int (bI false)])), (q8, .inl (cA, 600, .inl (fun _ => 0))), (q17, .inl (cA, 300, .inl (fun _ => 0)))]) H := hP
          have hD : va_D Z ([(h, .inr (1, [.int (nI dp), .int (nI nb), .int (nI nw), .int (nI 0), .ref q8, .ref q17, .int (nI 0), .int 0, .int 0, .int (-1), .int (bI false)])), (q8, .inl (cA, 600, .inl (fun _ => 0))), (q17, .inl (cA, 300, .inl (fun _ => 0)))]) := hD
          refine lv_aload_n hx hb d_m_init_84 rfl (lv_at hl 0 rfl) ?_
          refine lv_aload_n hx hb d_m_init_85 rfl (lv_at hl 0 rfl) ?_
          refine gm hx hb hts hown hK hP rfl 1 23 (by decide) lk_m_blocks (v := .int (nI nb)) rfl d_m_init_86 ?_
          refine lv_aload_n hx hb d_m_init_89 rfl (lv_at hl 0 rfl) ?_
          refine gm hx hb hts hown hK hP rfl 2 26 (by decide) lk_m_words (v := .int (nI nw)) rfl d_m_init_90 ?_
          refine hs_imul hx hb d_m_init_93 ?_
          refine lv_iconst (v := nI 2) hx hb d_m_init_94 (by decide) ?_
          refine lv_aload_n hx hb d_m_init_95 rfl (lv_at hl 0 rfl) ?_
          refine gm hx hb hts hown hK hP rfl 1 23 (by decide) lk_m_blocks (v := .int (nI nb)) rfl d_m_init_96 ?_
          refine hs_imul hx hb d_m_init_99 ?_
          refine hs_iadd hx hb d_m_init_100 ?_
          refine lv_iconst (v := nI 1) hx hb d_m_init_101 (by decide) ?_
          refine hs_isub hx hb (by omega) d_m_init_102 ?_
          refine hs_to (y := nI na) (congrArg nI (by omega)) ?_
          refine pmF hin hx hb hts hown hK hP hD hS rfl 3 29 (by decide) lk_m_size rfl (ty := .int) (v := .int (nI na)) rfl rfl rfl (Nat.le_of_ble_eq_true rfl) d_m_init_103 (fun H locs hP hD hS => ?_)
          have hP : va_P D classes ([(h, .inr (1, [.int (nI dp), .int (nI nb), .int (nI nw), .int (nI na), .ref q8, .ref q17, .int (nI 0), .int 0, .int 0, .int (-1), .int (bI false)])), (q8, .inl (cA, 600, .inl (fun _ => 0))), (q17, .inl (cA, 300, .inl (fun _ => 0)))]) H := hP
          have hD : va_D Z ([(h, .inr (1, [.int (nI dp), .int (nI nb), .int (nI nw), .int (nI na), .ref q8, .ref q17, .int (nI 0), .int 0, .int 0, .int (-1), .int (bI false)])), (q8, .inl (cA, 600, .inl (fun _ => 0))), (q17, .inl (cA, 300, .inl (fun _ => 0)))]) := hD
          have hP : va_P D classes (mw cA h q8 q17 dp nb nw na (fun _ => 0) (fun _ => 0) 0 0 0 (-1) false) H := hP
          have hD : va_D Z (mw cA h q8 q17 dp nb nw na (fun _ => 0) (fun _ => 0) 0 0 0 (-1) false) := hD
          refine lv_aload_n hx hb d_m_init_106 rfl (lv_at hl 0 rfl) ?_
          refine hs_wv (As := []) (rest := []) (wr := []) [0, 1, 2] [] S9 (c_m_format l D cA h q8 q17 dp nb nw na (fun _ => 0) (fun _ => 0) 0 0 0 (-1) false H.size hG) k_m_m_format h_m_format rfl rfl ⟨Nat.le_of_ble_eq_true rfl, Nat.le_of_ble_eq_true rfl⟩ hK hP hD hS hA rfl rfl rfl rfl (by decide) rfl rfl rfl rfl hl.1 rfl (Nat.le_of_ble_eq_true rfl) d_m_init_107 ⟨Nat.le_refl _, Nat.le_refl _⟩ (fun u H locs hp hP hD hS => ?_)
          have hP : va_P D classes (mw cA h q8 q17 dp nb nw na u.1 u.2 0 (mkF nb nw (nb * nw)) 0 (-1) false) H := hP
          have hD : va_D Z (mw cA h q8 q17 dp nb nw na u.1 u.2 0 (mkF nb nw (nb * nw)) 0 (-1) false) := hD
          refine W.eq (g2 := F0 m 110 ls [.int 0]) rfl ?_
          refine lv_istore_n (lv' := [(3, .int 0), (0, .ref h), (1, .int dd), (2, .int ww)]) hx hb d_m_init_110 rfl hl (by decide) rfl (fun ls hl => ?_)
          exact W.vret hx hb hr (fun t ht hW => ⟨⟨(u.1, u.2, q8, q17), hp, rfl, by rw [ht]; exact hP, hD⟩, hS.F ht⟩) hS.2.2 d_m_init_111
        · skip
          refine lv_bipush (v := nI 6) hx hb d_m_init_75 (by decide) ?_
          refine lv_goto (tgt := 81) hx hb d_m_init_77 (by decide) ?_
          refine hs_to (y := nI nw) (by rw [← hnw, clI, if_neg (Int32.not_lt.mpr (show (1 : Int32) ≤ ww from h3)), if_pos (Int32.not_le.mp (show ¬ ww ≤ (6 : Int32) from h4))]; rfl) ?_
          refine pmF hin hx hb hts hown hK hP hD hS rfl 2 26 (by decide) lk_m_words rfl (ty := .int) (v := .int (nI nw)) rfl rfl rfl (Nat.le_of_ble_eq_true rfl) d_m_init_81 (fun H locs hP hD hS => ?_)
          have hP : va_P D classes ([(h, .inr (1, [.int (nI dp), .int (nI nb), .int (nI nw), .int (nI 0), .ref q8, .ref q17, .int (nI 0), .int 0, .int 0, .int (-1), .int (bI false)])), (q8, .inl (cA, 600, .inl (fun _ => 0))), (q17, .inl (cA, 300, .inl (fun _ => 0)))]) H := hP
          have hD : va_D Z ([(h, .inr (1, [.int (nI dp), .int (nI nb), .int (nI nw), .int (nI 0), .ref q8, .ref q17, .int (nI 0), .int 0, .int 0, .int (-1), .int (bI false)])), (q8, .inl (cA, 600, .inl (fun _ => 0))), (q17, .inl (cA, 300, .inl (fun _ => 0)))]) := hD
          refine lv_aload_n hx hb d_m_init_84 rfl (lv_at hl 0 rfl) ?_
          refine lv_aload_n hx hb d_m_init_85 rfl (lv_at hl 0 rfl) ?_
          refine gm hx hb hts hown hK hP rfl 1 23 (by decide) lk_m_blocks (v := .int (nI nb)) rfl d_m_init_86 ?_
          refine lv_aload_n hx hb d_m_init_89 rfl (lv_at hl 0 rfl) ?_
          refine gm hx hb hts hown hK hP rfl 2 26 (by decide) lk_m_words (v := .int (nI nw)) rfl d_m_init_90 ?_
          refine hs_imul hx hb d_m_init_93 ?_
          refine lv_iconst (v := nI 2) hx hb d_m_init_94 (by decide) ?_
          refine lv_aload_n hx hb d_m_init_95 rfl (lv_at hl 0 rfl) ?_
          refine gm hx hb hts hown hK hP rfl 1 23 (by decide) lk_m_blocks (v := .int (nI nb)) rfl d_m_init_96 ?_
          refine hs_imul hx hb d_m_init_99 ?_
          refine hs_iadd hx hb d_m_init_100 ?_
          refine lv_iconst (v := nI 1) hx hb d_m_init_101 (by decide) ?_
          refine hs_isub hx hb (by omega) d_m_init_102 ?_
          refine hs_to (y := nI na) (congrArg nI (by omega)) ?_
          refine pmF hin hx hb hts hown hK hP hD hS rfl 3 29 (by decide) lk_m_size rfl (ty := .int) (v := .int (nI na)) rfl rfl rfl (Nat.le_of_ble_eq_true rfl) d_m_init_103 (fun H locs hP hD hS => ?_)
          have hP : va_P D classes ([(h, .inr (1, [.int (nI dp), .int (nI nb), .int (nI nw), .int (nI na), .ref q8, .ref q17, .int (nI 0), .int 0, .int 0, .int (-1), .int (bI false)])), (q8, .inl (cA, 600, .inl (fun _ => 0))), (q17, .inl (cA, 300, .inl (fun _ => 0)))]) H := hP
          have hD : va_D Z ([(h, .inr (1, [.int (nI dp), .int (nI nb), .int (nI nw), .int (nI na), .ref q8, .ref q17, .int (nI 0), .int 0, .int 0, .int (-1), .int (bI false)])), (q8, .inl (cA, 600, .inl (fun _ => 0))), (q17, .inl (cA, 300, .inl (fun _ => 0)))]) := hD
          have hP : va_P D classes (mw cA h q8 q17 dp nb nw na (fun _ => 0) (fun _ => 0) 0 0 0 (-1) false) H := hP
          have hD : va_D Z (mw cA h q8 q17 dp nb nw na (fun _ => 0) (fun _ => 0) 0 0 0 (-1) false) := hD
          refine lv_aload_n hx hb d_m_init_106 rfl (lv_at hl 0 rfl) ?_
          refine hs_wv (As := []) (rest := []) (wr := []) [0, 1, 2] [] S9 (c_m_format l D cA h q8 q17 dp nb nw na (fun _ => 0) (fun _ => 0) 0 0 0 (-1) false H.size hG) k_m_m_format h_m_format rfl rfl ⟨Nat.le_of_ble_eq_true rfl, Nat.le_of_ble_eq_true rfl⟩ hK hP hD hS hA rfl rfl rfl rfl (by decide) rfl rfl rfl rfl hl.1 rfl (Nat.le_of_ble_eq_true rfl) d_m_init_107 ⟨Nat.le_refl _, Nat.le_refl _⟩ (fun u H locs hp hP hD hS => ?_)
          have hP : va_P D classes (mw cA h q8 q17 dp nb nw na u.1 u.2 0 (mkF nb nw (nb * nw)) 0 (-1) false) H := hP
          have hD : va_D Z (mw cA h q8 q17 dp nb nw na u.1 u.2 0 (mkF nb nw (nb * nw)) 0 (-1) false) := hD
          refine W.eq (g2 := F0 m 110 ls [.int 0]) rfl ?_
          refine lv_istore_n (lv' := [(3, .int 0), (0, .ref h), (1, .int dd), (2, .int ww)]) hx hb d_m_init_110 rfl hl (by decide) rfl (fun ls hl => ?_)
          exact W.vret hx hb hr (fun t ht hW => ⟨⟨(u.1, u.2, q8, q17), hp, rfl, by rw [ht]; exact hP, hD⟩, hS.F ht⟩) hS.2.2 d_m_init_111
      · skip
        refine lv_iconst (v := nI 1) hx hb d_m_init_65 (by decide) ?_
        refine lv_goto (tgt := 81) hx hb d_m_init_66 (by decide) ?_
        refine hs_to (y := nI nw) (by rw [← hnw, clI, if_pos (Int32.not_le.mp (show ¬ (1 : Int32) ≤ ww from h3))]; rfl) ?_
        refine pmF hin hx hb hts hown hK hP hD hS rfl 2 26 (by decide) lk_m_words rfl (ty := .int) (v := .int (nI nw)) rfl rfl rfl (Nat.le_of_ble_eq_true rfl) d_m_init_81 (fun H locs hP hD hS => ?_)
        have hP : va_P D classes ([(h, .inr (1, [.int (nI dp), .int (nI nb), .int (nI nw), .int (nI 0), .ref q8, .ref q17, .int (nI 0), .int 0, .int 0, .int (-1), .int (bI false)])), (q8, .inl (cA, 600, .inl (fun _ => 0))), (q17, .inl (cA, 300, .inl (fun _ => 0)))]) H := hP
        have hD : va_D Z ([(h, .inr (1, [.int (nI dp), .int (nI nb), .int (nI nw), .int (nI 0), .ref q8, .ref q17, .int (nI 0), .int 0, .int 0, .int (-1), .int (bI false)])), (q8, .inl (cA, 600, .inl (fun _ => 0))), (q17, .inl (cA, 300, .inl (fun _ => 0)))]) := hD
        refine lv_aload_n hx hb d_m_init_84 rfl (lv_at hl 0 rfl) ?_
        refine lv_aload_n hx hb d_m_init_85 rfl (lv_at hl 0 rfl) ?_
        refine gm hx hb hts hown hK hP rfl 1 23 (by decide) lk_m_blocks (v := .int (nI nb)) rfl d_m_init_86 ?_
        refine lv_aload_n hx hb d_m_init_89 rfl (lv_at hl 0 rfl) ?_
        refine gm hx hb hts hown hK hP rfl 2 26 (by decide) lk_m_words (v := .int (nI nw)) rfl d_m_init_90 ?_
        refine hs_imul hx hb d_m_init_93 ?_
        refine lv_iconst (v := nI 2) hx hb d_m_init_94 (by decide) ?_
        refine lv_aload_n hx hb d_m_init_95 rfl (lv_at hl 0 rfl) ?_
        refine gm hx hb hts hown hK hP rfl 1 23 (by decide) lk_m_blocks (v := .int (nI nb)) rfl d_m_init_96 ?_
        refine hs_imul hx hb d_m_init_99 ?_
        refine hs_iadd hx hb d_m_init_100 ?_
        refine lv_iconst (v := nI 1) hx hb d_m_init_101 (by decide) ?_
        refine hs_isub hx hb (by omega) d_m_init_102 ?_
        refine hs_to (y := nI na) (congrArg nI (by omega)) ?_
        refine pmF hin hx hb hts hown hK hP hD hS rfl 3 29 (by decide) lk_m_size rfl (ty := .int) (v := .int (nI na)) rfl rfl rfl (Nat.le_of_ble_eq_true rfl) d_m_init_103 (fun H locs hP hD hS => ?_)
        have hP : va_P D classes ([(h, .inr (1, [.int (nI dp), .int (nI nb), .int (nI nw), .int (nI na), .ref q8, .ref q17, .int (nI 0), .int 0, .int 0, .int (-1), .int (bI false)])), (q8, .inl (cA, 600, .inl (fun _ => 0))), (q17, .inl (cA, 300, .inl (fun _ => 0)))]) H := hP
        have hD : va_D Z ([(h, .inr (1, [.int (nI dp), .int (nI nb), .int (nI nw), .int (nI na), .ref q8, .ref q17, .int (nI 0), .int 0, .int 0, .int (-1), .int (bI false)])), (q8, .inl (cA, 600, .inl (fun _ => 0))), (q17, .inl (cA, 300, .inl (fun _ => 0)))]) := hD
        have hP : va_P D classes (mw cA h q8 q17 dp nb nw na (fun _ => 0) (fun _ => 0) 0 0 0 (-1) false) H := hP
        have hD : va_D Z (mw cA h q8 q17 dp nb nw na (fun _ => 0) (fun _ => 0) 0 0 0 (-1) false) := hD
        refine lv_aload_n hx hb d_m_init_106 rfl (lv_at hl 0 rfl) ?_
        refine hs_wv (As := []) (rest := []) (wr := []) [0, 1, 2] [] S9 (c_m_format l D cA h q8 q17 dp nb nw na (fun _ => 0) (fun _ => 0) 0 0 0 (-1) false H.size hG) k_m_m_format h_m_format rfl rfl ⟨Nat.le_of_ble_eq_true rfl, Nat.le_of_ble_eq_true rfl⟩ hK hP hD hS hA rfl rfl rfl rfl (by decide) rfl rfl rfl rfl hl.1 rfl (Nat.le_of_ble_eq_true rfl) d_m_init_107 ⟨Nat.le_refl _, Nat.le_refl _⟩ (fun u H locs hp hP hD hS => ?_)
        have hP : va_P D classes (mw cA h q8 q17 dp nb nw na u.1 u.2 0 (mkF nb nw (nb * nw)) 0 (-1) false) H := hP
        have hD : va_D Z (mw cA h q8 q17 dp nb nw na u.1 u.2 0 (mkF nb nw (nb * nw)) 0 (-1) false) := hD
        refine W.eq (g2 := F0 m 110 ls [.int 0]) rfl ?_
        refine lv_istore_n (lv' := [(3, .int 0), (0, .ref h), (1, .int dd), (2, .int ww)]) hx hb d_m_init_110 rfl hl (by decide) rfl (fun ls hl => ?_)
        exact W.vret hx hb hr (fun t ht hW => ⟨⟨(u.1, u.2, q8, q17), hp, rfl, by rw [ht]; exact hP, hD⟩, hS.F ht⟩) hS.2.2 d_m_init_111
    · skip
      refine lv_iconst (v := nI 5) hx hb d_m_init_41 (by decide) ?_
      refine lv_goto (tgt := 46) hx hb d_m_init_42 (by decide) ?_
      refine hs_to (y := nI dp) (by rw [← hdp, clI, if_neg (Int32.not_lt.mpr h1), if_pos (Int32.not_le.mp (show ¬ dd ≤ (5 : Int32) from h2))]; rfl) ?_
      refine pmF hin hx hb hts hown hK hP hD hS rfl 0 20 (by decide) lk_m_depth rfl (ty := .int) (v := .int (nI dp)) rfl rfl rfl (Nat.le_of_ble_eq_true rfl) d_m_init_46 (fun H locs hP hD hS => ?_)
      have hP : va_P D classes ([(h, .inr (1, [.int (nI dp), .int (nI 0), .int (nI 0), .int (nI 0), .ref q8, .ref q17, .int (nI 0), .int 0, .int 0, .int (-1), .int (bI false)])), (q8, .inl (cA, 600, .inl (fun _ => 0))), (q17, .inl (cA, 300, .inl (fun _ => 0)))]) H := hP
      have hD : va_D Z ([(h, .inr (1, [.int (nI dp), .int (nI 0), .int (nI 0), .int (nI 0), .ref q8, .ref q17, .int (nI 0), .int 0, .int 0, .int (-1), .int (bI false)])), (q8, .inl (cA, 600, .inl (fun _ => 0))), (q17, .inl (cA, 300, .inl (fun _ => 0)))]) := hD
      refine lv_aload_n hx hb d_m_init_49 rfl (lv_at hl 0 rfl) ?_
      refine lv_iconst (v := nI 1) hx hb d_m_init_50 (by decide) ?_
      refine lv_aload_n hx hb d_m_init_51 rfl (lv_at hl 0 rfl) ?_
      refine gm hx hb hts hown hK hP rfl 0 20 (by decide) lk_m_depth (v := .int (nI dp)) rfl d_m_init_52 ?_
      refine lv_ishl hx hb d_m_init_55 ?_
      refine hs_to (y := nI nb) (by rw [sh1 dp (by omega), hG.2.1]) ?_
      refine pmF hin hx hb hts hown hK hP hD hS rfl 1 23 (by decide) lk_m_blocks rfl (ty := .int) (v := .int (nI nb)) rfl rfl rfl (Nat.le_of_ble_eq_true rfl) d_m_init_56 (fun H locs hP hD hS => ?_)
      have hP : va_P D classes ([(h, .inr (1, [.int (nI dp), .int (nI nb), .int (nI 0), .int (nI 0), .ref q8, .ref q17, .int (nI 0), .int 0, .int 0, .int (-1), .int (bI false)])), (q8, .inl (cA, 600, .inl (fun _ => 0))), (q17, .inl (cA, 300, .inl (fun _ => 0)))]) H := hP
      have hD : va_D Z ([(h, .inr (1, [.int (nI dp), .int (nI nb), .int (nI 0), .int (nI 0), .ref q8, .ref q17, .int (nI 0), .int 0, .int 0, .int (-1), .int (bI false)])), (q8, .inl (cA, 600, .inl (fun _ => 0))), (q17, .inl (cA, 300, .inl (fun _ => 0)))]) := hD
      refine lv_aload_n hx hb d_m_init_59 rfl (lv_at hl 0 rfl) ?_
      refine lv_iload_n hx hb d_m_init_60 rfl (lv_at hl 2 rfl) ?_
      refine lv_iconst (v := nI 1) hx hb d_m_init_61 (by decide) ?_
      refine lv_icmp_ge (tgt := 69) hx hb d_m_init_62 (by decide) (fun h3 => ?_) (fun h3 => ?_)
      · skip
        refine lv_iload_n hx hb d_m_init_69 rfl (lv_at hl 2 rfl) ?_
        refine lv_bipush (v := nI 6) hx hb d_m_init_70 (by decide) ?_
        refine lv_icmp_le (tgt := 80) hx hb d_m_init_72 (by decide) (fun h4 => ?_) (fun h4 => ?_)
        · skip
          refine lv_iload_n hx hb d_m_init_80 rfl (lv_at hl 2 rfl) ?_
          refine hs_to (y := nI nw) (by rw [← hnw, clI, if_neg (Int32.not_lt.mpr (show (1 : Int32) ≤ ww from h3)), if_neg (Int32.not_lt.mpr (show ww ≤ (6 : Int32) from h4))]) ?_
          refine pmF hin hx hb hts hown hK hP hD hS rfl 2 26 (by decide) lk_m_words rfl (ty := .int) (v := .int (nI nw)) rfl rfl rfl (Nat.le_of_ble_eq_true rfl) d_m_init_81 (fun H locs hP hD hS => ?_)
          have hP : va_P D classes ([(h, .inr (1, [.int (nI dp), .int (nI nb), .int (nI nw), .int (nI 0), .ref q8, .ref q17, .int (nI 0), .int 0, .int 0, .int (-1), .int (bI false)])), (q8, .inl (cA, 600, .inl (fun _ => 0))), (q17, .inl (cA, 300, .inl (fun _ => 0)))]) H := hP
          have hD : va_D Z ([(h, .inr (1, [.int (nI dp), .int (nI nb), .int (nI nw), .int (nI 0), .ref q8, .ref q17, .int (nI 0), .int 0, .int 0, .int (-1), .int (bI false)])), (q8, .inl (cA, 600, .inl (fun _ => 0))), (q17, .inl (cA, 300, .inl (fun _ => 0)))]) := hD
          refine lv_aload_n hx hb d_m_init_84 rfl (lv_at hl 0 rfl) ?_
          refine lv_aload_n hx hb d_m_init_85 rfl (lv_at hl 0 rfl) ?_
          refine gm hx hb hts hown hK hP rfl 1 23 (by decide) lk_m_blocks (v := .int (nI nb)) rfl d_m_init_86 ?_
          refine lv_aload_n hx hb d_m_init_89 rfl (lv_at hl 0 rfl) ?_
          refine gm hx hb hts hown hK hP rfl 2 26 (by decide) lk_m_words (v := .int (nI nw)) rfl d_m_init_90 ?_
          refine hs_imul hx hb d_m_init_93 ?_
          refine lv_iconst (v := nI 2) hx hb d_m_init_94 (by decide) ?_
          refine lv_aload_n hx hb d_m_init_95 rfl (lv_at hl 0 rfl) ?_
          refine gm hx hb hts hown hK hP rfl 1 23 (by decide) lk_m_blocks (v := .int (nI nb)) rfl d_m_init_96 ?_
          refine hs_imul hx hb d_m_init_99 ?_
          refine hs_iadd hx hb d_m_init_100 ?_
          refine lv_iconst (v := nI 1) hx hb d_m_init_101 (by decide) ?_
          refine hs_isub hx hb (by omega) d_m_init_102 ?_
          refine hs_to (y := nI na) (congrArg nI (by omega)) ?_
          refine pmF hin hx hb hts hown hK hP hD hS rfl 3 29 (by decide) lk_m_size rfl (ty := .int) (v := .int (nI na)) rfl rfl rfl (Nat.le_of_ble_eq_true rfl) d_m_init_103 (fun H locs hP hD hS => ?_)
          have hP : va_P D classes ([(h, .inr (1, [.int (nI dp), .int (nI nb), .int (nI nw), .int (nI na), .ref q8, .ref q17, .int (nI 0), .int 0, .int 0, .int (-1), .int (bI false)])), (q8, .inl (cA, 600, .inl (fun _ => 0))), (q17, .inl (cA, 300, .inl (fun _ => 0)))]) H := hP
          have hD : va_D Z ([(h, .inr (1, [.int (nI dp), .int (nI nb), .int (nI nw), .int (nI na), .ref q8, .ref q17, .int (nI 0), .int 0, .int 0, .int (-1), .int (bI false)])), (q8, .inl (cA, 600, .inl (fun _ => 0))), (q17, .inl (cA, 300, .inl (fun _ => 0)))]) := hD
          have hP : va_P D classes (mw cA h q8 q17 dp nb nw na (fun _ => 0) (fun _ => 0) 0 0 0 (-1) false) H := hP
          have hD : va_D Z (mw cA h q8 q17 dp nb nw na (fun _ => 0) (fun _ => 0) 0 0 0 (-1) false) := hD
          refine lv_aload_n hx hb d_m_init_106 rfl (lv_at hl 0 rfl) ?_
          refine hs_wv (As := []) (rest := []) (wr := []) [0, 1, 2] [] S9 (c_m_format l D cA h q8 q17 dp nb nw na (fun _ => 0) (fun _ => 0) 0 0 0 (-1) false H.size hG) k_m_m_format h_m_format rfl rfl ⟨Nat.le_of_ble_eq_true rfl, Nat.le_of_ble_eq_true rfl⟩ hK hP hD hS hA rfl rfl rfl rfl (by decide) rfl rfl rfl rfl hl.1 rfl (Nat.le_of_ble_eq_true rfl) d_m_init_107 ⟨Nat.le_refl _, Nat.le_refl _⟩ (fun u H locs hp hP hD hS => ?_)
          have hP : va_P D classes (mw cA h q8 q17 dp nb nw na u.1 u.2 0 (mkF nb nw (nb * nw)) 0 (-1) false) H := hP
          have hD : va_D Z (mw cA h q8 q17 dp nb nw na u.1 u.2 0 (mkF nb nw (nb * nw)) 0 (-1) false) := hD
          refine W.eq (g2 := F0 m 110 ls [.int 0]) rfl ?_
          refine lv_istore_n (lv' := [(3, .int 0), (0, .ref h), (1, .int dd), (2, .int ww)]) hx hb d_m_init_110 rfl hl (by decide) rfl (fun ls hl => ?_)
          exact W.vret hx hb hr (fun t ht hW => ⟨⟨(u.1, u.2, q8, q17), hp, rfl, by rw [ht]; exact hP, hD⟩, hS.F ht⟩) hS.2.2 d_m_init_111
        · skip
          refine lv_bipush (v := nI 6) hx hb d_m_init_75 (by decide) ?_
          refine lv_goto (tgt := 81) hx hb d_m_init_77 (by decide) ?_
          refine hs_to (y := nI nw) (by rw [← hnw, clI, if_neg (Int32.not_lt.mpr (show (1 : Int32) ≤ ww from h3)), if_pos (Int32.not_le.mp (show ¬ ww ≤ (6 : Int32) from h4))]; rfl) ?_
          refine pmF hin hx hb hts hown hK hP hD hS rfl 2 26 (by decide) lk_m_words rfl (ty := .int) (v := .int (nI nw)) rfl rfl rfl (Nat.le_of_ble_eq_true rfl) d_m_init_81 (fun H locs hP hD hS => ?_)
          have hP : va_P D classes ([(h, .inr (1, [.int (nI dp), .int (nI nb), .int (nI nw), .int (nI 0), .ref q8, .ref q17, .int (nI 0), .int 0, .int 0, .int (-1), .int (bI false)])), (q8, .inl (cA, 600, .inl (fun _ => 0))), (q17, .inl (cA, 300, .inl (fun _ => 0)))]) H := hP
          have hD : va_D Z ([(h, .inr (1, [.int (nI dp), .int (nI nb), .int (nI nw), .int (nI 0), .ref q8, .ref q17, .int (nI 0), .int 0, .int 0, .int (-1), .int (bI false)])), (q8, .inl (cA, 600, .inl (fun _ => 0))), (q17, .inl (cA, 300, .inl (fun _ => 0)))]) := hD
          refine lv_aload_n hx hb d_m_init_84 rfl (lv_at hl 0 rfl) ?_
          refine lv_aload_n hx hb d_m_init_85 rfl (lv_at hl 0 rfl) ?_
          refine gm hx hb hts hown hK hP rfl 1 23 (by decide) lk_m_blocks (v := .int (nI nb)) rfl d_m_init_86 ?_
          refine lv_aload_n hx hb d_m_init_89 rfl (lv_at hl 0 rfl) ?_
          refine gm hx hb hts hown hK hP rfl 2 26 (by decide) lk_m_words (v := .int (nI nw)) rfl d_m_init_90 ?_
          refine hs_imul hx hb d_m_init_93 ?_
          refine lv_iconst (v := nI 2) hx hb d_m_init_94 (by decide) ?_
          refine lv_aload_n hx hb d_m_init_95 rfl (lv_at hl 0 rfl) ?_
          refine gm hx hb hts hown hK hP rfl 1 23 (by decide) lk_m_blocks (v := .int (nI nb)) rfl d_m_init_96 ?_
          refine hs_imul hx hb d_m_init_99 ?_
          refine hs_iadd hx hb d_m_init_100 ?_
          refine lv_iconst (v := nI 1) hx hb d_m_init_101 (by decide) ?_
          refine hs_isub hx hb (by omega) d_m_init_102 ?_
          refine hs_to (y := nI na) (congrArg nI (by omega)) ?_
          refine pmF hin hx hb hts hown hK hP hD hS rfl 3 29 (by decide) lk_m_size rfl (ty := .int) (v := .int (nI na)) rfl rfl rfl (Nat.le_of_ble_eq_true rfl) d_m_init_103 (fun H locs hP hD hS => ?_)
          have hP : va_P D classes ([(h, .inr (1, [.int (nI dp), .int (nI nb), .int (nI nw), .int (nI na), .ref q8, .ref q17, .int (nI 0), .int 0, .int 0, .int (-1), .int (bI false)])), (q8, .inl (cA, 600, .inl (fun _ => 0))), (q17, .inl (cA, 300, .inl (fun _ => 0)))]) H := hP
          have hD : va_D Z ([(h, .inr (1, [.int (nI dp), .int (nI nb), .int (nI nw), .int (nI na), .ref q8, .ref q17, .int (nI 0), .int 0, .int 0, .int (-1), .int (bI false)])), (q8, .inl (cA, 600, .inl (fun _ => 0))), (q17, .inl (cA, 300, .inl (fun _ => 0)))]) := hD
          have hP : va_P D classes (mw cA h q8 q17 dp nb nw na (fun _ => 0) (fun _ => 0) 0 0 0 (-1) false) H := hP
          have hD : va_D Z (mw cA h q8 q17 dp nb nw na (fun _ => 0) (fun _ => 0) 0 0 0 (-1) false) := hD
          refine lv_aload_n hx hb d_m_init_106 rfl (lv_at hl 0 rfl) ?_
          refine hs_wv (As := []) (rest := []) (wr := []) [0, 1, 2] [] S9 (c_m_format l D cA h q8 q17 dp nb nw na (fun _ => 0) (fun _ => 0) 0 0 0 (-1) false H.size hG) k_m_m_format h_m_format rfl rfl ⟨Nat.le_of_ble_eq_true rfl, Nat.le_of_ble_eq_true rfl⟩ hK hP hD hS hA rfl rfl rfl rfl (by decide) rfl rfl rfl rfl hl.1 rfl (Nat.le_of_ble_eq_true rfl) d_m_init_107 ⟨Nat.le_refl _, Nat.le_refl _⟩ (fun u H locs hp hP hD hS => ?_)
          have hP : va_P D classes (mw cA h q8 q17 dp nb nw na u.1 u.2 0 (mkF nb nw (nb * nw)) 0 (-1) false) H := hP
          have hD : va_D Z (mw cA h q8 q17 dp nb nw na u.1 u.2 0 (mkF nb nw (nb * nw)) 0 (-1) false) := hD
          refine W.eq (g2 := F0 m 110 ls [.int 0]) rfl ?_
          refine lv_istore_n (lv' := [(3, .int 0), (0, .ref h), (1, .int dd), (2, .int ww)]) hx hb d_m_init_110 rfl hl (by decide) rfl (fun ls hl => ?_)
          exact W.vret hx hb hr (fun t ht hW => ⟨⟨(u.1, u.2, q8, q17), hp, rfl, by rw [ht]; exact hP, hD⟩, hS.F ht⟩) hS.2.2 d_m_init_111
      · skip
        refine lv_iconst (v := nI 1) hx hb d_m_init_65 (by decide) ?_
        refine lv_goto (tgt := 81) hx hb d_m_init_66 (by decide) ?_
        refine hs_to (y := nI nw) (by rw [← hnw, clI, if_pos (Int32.not_le.mp (show ¬ (1 : Int32) ≤ ww from h3))]; rfl) ?_
        refine pmF hin hx hb hts hown hK hP hD hS rfl 2 26 (by decide) lk_m_words rfl (ty := .int) (v := .int (nI nw)) rfl rfl rfl (Nat.le_of_ble_eq_true rfl) d_m_init_81 (fun H locs hP hD hS => ?_)
        have hP : va_P D classes ([(h, .inr (1, [.int (nI dp), .int (nI nb), .int (nI nw), .int (nI 0), .ref q8, .ref q17, .int (nI 0), .int 0, .int 0, .int (-1), .int (bI false)])), (q8, .inl (cA, 600, .inl (fun _ => 0))), (q17, .inl (cA, 300, .inl (fun _ => 0)))]) H := hP
        have hD : va_D Z ([(h, .inr (1, [.int (nI dp), .int (nI nb), .int (nI nw), .int (nI 0), .ref q8, .ref q17, .int (nI 0), .int 0, .int 0, .int (-1), .int (bI false)])), (q8, .inl (cA, 600, .inl (fun _ => 0))), (q17, .inl (cA, 300, .inl (fun _ => 0)))]) := hD
        refine lv_aload_n hx hb d_m_init_84 rfl (lv_at hl 0 rfl) ?_
        refine lv_aload_n hx hb d_m_init_85 rfl (lv_at hl 0 rfl) ?_
        refine gm hx hb hts hown hK hP rfl 1 23 (by decide) lk_m_blocks (v := .int (nI nb)) rfl d_m_init_86 ?_
        refine lv_aload_n hx hb d_m_init_89 rfl (lv_at hl 0 rfl) ?_
        refine gm hx hb hts hown hK hP rfl 2 26 (by decide) lk_m_words (v := .int (nI nw)) rfl d_m_init_90 ?_
        refine hs_imul hx hb d_m_init_93 ?_
        refine lv_iconst (v := nI 2) hx hb d_m_init_94 (by decide) ?_
        refine lv_aload_n hx hb d_m_init_95 rfl (lv_at hl 0 rfl) ?_
        refine gm hx hb hts hown hK hP rfl 1 23 (by decide) lk_m_blocks (v := .int (nI nb)) rfl d_m_init_96 ?_
        refine hs_imul hx hb d_m_init_99 ?_
        refine hs_iadd hx hb d_m_init_100 ?_
        refine lv_iconst (v := nI 1) hx hb d_m_init_101 (by decide) ?_
        refine hs_isub hx hb (by omega) d_m_init_102 ?_
        refine hs_to (y := nI na) (congrArg nI (by omega)) ?_
        refine pmF hin hx hb hts hown hK hP hD hS rfl 3 29 (by decide) lk_m_size rfl (ty := .int) (v := .int (nI na)) rfl rfl rfl (Nat.le_of_ble_eq_true rfl) d_m_init_103 (fun H locs hP hD hS => ?_)
        have hP : va_P D classes ([(h, .inr (1, [.int (nI dp), .int (nI nb), .int (nI nw), .int (nI na), .ref q8, .ref q17, .int (nI 0), .int 0, .int 0, .int (-1), .int (bI false)])), (q8, .inl (cA, 600, .inl (fun _ => 0))), (q17, .inl (cA, 300, .inl (fun _ => 0)))]) H := hP
        have hD : va_D Z ([(h, .inr (1, [.int (nI dp), .int (nI nb), .int (nI nw), .int (nI na), .ref q8, .ref q17, .int (nI 0), .int 0, .int 0, .int (-1), .int (bI false)])), (q8, .inl (cA, 600, .inl (fun _ => 0))), (q17, .inl (cA, 300, .inl (fun _ => 0)))]) := hD
        have hP : va_P D classes (mw cA h q8 q17 dp nb nw na (fun _ => 0) (fun _ => 0) 0 0 0 (-1) false) H := hP
        have hD : va_D Z (mw cA h q8 q17 dp nb nw na (fun _ => 0) (fun _ => 0) 0 0 0 (-1) false) := hD
        refine lv_aload_n hx hb d_m_init_106 rfl (lv_at hl 0 rfl) ?_
        refine hs_wv (As := []) (rest := []) (wr := []) [0, 1, 2] [] S9 (c_m_format l D cA h q8 q17 dp nb nw na (fun _ => 0) (fun _ => 0) 0 0 0 (-1) false H.size hG) k_m_m_format h_m_format rfl rfl ⟨Nat.le_of_ble_eq_true rfl, Nat.le_of_ble_eq_true rfl⟩ hK hP hD hS hA rfl rfl rfl rfl (by decide) rfl rfl rfl rfl hl.1 rfl (Nat.le_of_ble_eq_true rfl) d_m_init_107 ⟨Nat.le_refl _, Nat.le_refl _⟩ (fun u H locs hp hP hD hS => ?_)
        have hP : va_P D classes (mw cA h q8 q17 dp nb nw na u.1 u.2 0 (mkF nb nw (nb * nw)) 0 (-1) false) H := hP
        have hD : va_D Z (mw cA h q8 q17 dp nb nw na u.1 u.2 0 (mkF nb nw (nb * nw)) 0 (-1) false) := hD
        refine W.eq (g2 := F0 m 110 ls [.int 0]) rfl ?_
        refine lv_istore_n (lv' := [(3, .int 0), (0, .ref h), (1, .int dd), (2, .int ww)]) hx hb d_m_init_110 rfl hl (by decide) rfl (fun ls hl => ?_)
        exact W.vret hx hb hr (fun t ht hW => ⟨⟨(u.1, u.2, q8, q17), hp, rfl, by rw [ht]; exact hP, hD⟩, hS.F ht⟩) hS.2.2 d_m_init_111
  · skip
    refine lv_iconst (v := nI 0) hx hb d_m_init_32 (by decide) ?_
    refine lv_goto (tgt := 46) hx hb d_m_init_33 (by decide) ?_
    refine hs_to (y := nI dp) (by rw [← hdp, clI, if_pos (Int32.not_le.mp h1)]; rfl) ?_
    refine pmF hin hx hb hts hown hK hP hD hS rfl 0 20 (by decide) lk_m_depth rfl (ty := .int) (v := .int (nI dp)) rfl rfl rfl (Nat.le_of_ble_eq_true rfl) d_m_init_46 (fun H locs hP hD hS => ?_)
    have hP : va_P D classes ([(h, .inr (1, [.int (nI dp), .int (nI 0), .int (nI 0), .int (nI 0), .ref q8, .ref q17, .int (nI 0), .int 0, .int 0, .int (-1), .int (bI false)])), (q8, .inl (cA, 600, .inl (fun _ => 0))), (q17, .inl (cA, 300, .inl (fun _ => 0)))]) H := hP
    have hD : va_D Z ([(h, .inr (1, [.int (nI dp), .int (nI 0), .int (nI 0), .int (nI 0), .ref q8, .ref q17, .int (nI 0), .int 0, .int 0, .int (-1), .int (bI false)])), (q8, .inl (cA, 600, .inl (fun _ => 0))), (q17, .inl (cA, 300, .inl (fun _ => 0)))]) := hD
    refine lv_aload_n hx hb d_m_init_49 rfl (lv_at hl 0 rfl) ?_
    refine lv_iconst (v := nI 1) hx hb d_m_init_50 (by decide) ?_
    refine lv_aload_n hx hb d_m_init_51 rfl (lv_at hl 0 rfl) ?_
    refine gm hx hb hts hown hK hP rfl 0 20 (by decide) lk_m_depth (v := .int (nI dp)) rfl d_m_init_52 ?_
    refine lv_ishl hx hb d_m_init_55 ?_
    refine hs_to (y := nI nb) (by rw [sh1 dp (by omega), hG.2.1]) ?_
    refine pmF hin hx hb hts hown hK hP hD hS rfl 1 23 (by decide) lk_m_blocks rfl (ty := .int) (v := .int (nI nb)) rfl rfl rfl (Nat.le_of_ble_eq_true rfl) d_m_init_56 (fun H locs hP hD hS => ?_)
    have hP : va_P D classes ([(h, .inr (1, [.int (nI dp), .int (nI nb), .int (nI 0), .int (nI 0), .ref q8, .ref q17, .int (nI 0), .int 0, .int 0, .int (-1), .int (bI false)])), (q8, .inl (cA, 600, .inl (fun _ => 0))), (q17, .inl (cA, 300, .inl (fun _ => 0)))]) H := hP
    have hD : va_D Z ([(h, .inr (1, [.int (nI dp), .int (nI nb), .int (nI 0), .int (nI 0), .ref q8, .ref q17, .int (nI 0), .int 0, .int 0, .int (-1), .int (bI false)])), (q8, .inl (cA, 600, .inl (fun _ => 0))), (q17, .inl (cA, 300, .inl (fun _ => 0)))]) := hD
    refine lv_aload_n hx hb d_m_init_59 rfl (lv_at hl 0 rfl) ?_
    refine lv_iload_n hx hb d_m_init_60 rfl (lv_at hl 2 rfl) ?_
    refine lv_iconst (v := nI 1) hx hb d_m_init_61 (by decide) ?_
    refine lv_icmp_ge (tgt := 69) hx hb d_m_init_62 (by decide) (fun h3 => ?_) (fun h3 => ?_)
    · skip
      refine lv_iload_n hx hb d_m_init_69 rfl (lv_at hl 2 rfl) ?_
      refine lv_bipush (v := nI 6) hx hb d_m_init_70 (by decide) ?_
      refine lv_icmp_le (tgt := 80) hx hb d_m_init_72 (by decide) (fun h4 => ?_) (fun h4 => ?_)
      · skip
        refine lv_iload_n hx hb d_m_init_80 rfl (lv_at hl 2 rfl) ?_
        refine hs_to (y := nI nw) (by rw [← hnw, clI, if_neg (Int32.not_lt.mpr (show (1 : Int32) ≤ ww from h3)), if_neg (Int32.not_lt.mpr (show ww ≤ (6 : Int32) from h4))]) ?_
        refine pmF hin hx hb hts hown hK hP hD hS rfl 2 26 (by decide) lk_m_words rfl (ty := .int) (v := .int (nI nw)) rfl rfl rfl (Nat.le_of_ble_eq_true rfl) d_m_init_81 (fun H locs hP hD hS => ?_)
        have hP : va_P D classes ([(h, .inr (1, [.int (nI dp), .int (nI nb), .int (nI nw), .int (nI 0), .ref q8, .ref q17, .int (nI 0), .int 0, .int 0, .int (-1), .int (bI false)])), (q8, .inl (cA, 600, .inl (fun _ => 0))), (q17, .inl (cA, 300, .inl (fun _ => 0)))]) H := hP
        have hD : va_D Z ([(h, .inr (1, [.int (nI dp), .int (nI nb), .int (nI nw), .int (nI 0), .ref q8, .ref q17, .int (nI 0), .int 0, .int 0, .int (-1), .int (bI false)])), (q8, .inl (cA, 600, .inl (fun _ => 0))), (q17, .inl (cA, 300, .inl (fun _ => 0)))]) := hD
        refine lv_aload_n hx hb d_m_init_84 rfl (lv_at hl 0 rfl) ?_
        refine lv_aload_n hx hb d_m_init_85 rfl (lv_at hl 0 rfl) ?_
        refine gm hx hb hts hown hK hP rfl 1 23 (by decide) lk_m_blocks (v := .int (nI nb)) rfl d_m_init_86 ?_
        refine lv_aload_n hx hb d_m_init_89 rfl (lv_at hl 0 rfl) ?_
        refine gm hx hb hts hown hK hP rfl 2 26 (by decide) lk_m_words (v := .int (nI nw)) rfl d_m_init_90 ?_
        refine hs_imul hx hb d_m_init_93 ?_
        refine lv_iconst (v := nI 2) hx hb d_m_init_94 (by decide) ?_
        refine lv_aload_n hx hb d_m_init_95 rfl (lv_at hl 0 rfl) ?_
        refine gm hx hb hts hown hK hP rfl 1 23 (by decide) lk_m_blocks (v := .int (nI nb)) rfl d_m_init_96 ?_
        refine hs_imul hx hb d_m_init_99 ?_
        refine hs_iadd hx hb d_m_init_100 ?_
        refine lv_iconst (v := nI 1) hx hb d_m_init_101 (by decide) ?_
        refine hs_isub hx hb (by omega) d_m_init_102 ?_
        refine hs_to (y := nI na) (congrArg nI (by omega)) ?_
        refine pmF hin hx hb hts hown hK hP hD hS rfl 3 29 (by decide) lk_m_size rfl (ty := .int) (v := .int (nI na)) rfl rfl rfl (Nat.le_of_ble_eq_true rfl) d_m_init_103 (fun H locs hP hD hS => ?_)
        have hP : va_P D classes ([(h, .inr (1, [.int (nI dp), .int (nI nb), .int (nI nw), .int (nI na), .ref q8, .ref q17, .int (nI 0), .int 0, .int 0, .int (-1), .int (bI false)])), (q8, .inl (cA, 600, .inl (fun _ => 0))), (q17, .inl (cA, 300, .inl (fun _ => 0)))]) H := hP
        have hD : va_D Z ([(h, .inr (1, [.int (nI dp), .int (nI nb), .int (nI nw), .int (nI na), .ref q8, .ref q17, .int (nI 0), .int 0, .int 0, .int (-1), .int (bI false)])), (q8, .inl (cA, 600, .inl (fun _ => 0))), (q17, .inl (cA, 300, .inl (fun _ => 0)))]) := hD
        have hP : va_P D classes (mw cA h q8 q17 dp nb nw na (fun _ => 0) (fun _ => 0) 0 0 0 (-1) false) H := hP
        have hD : va_D Z (mw cA h q8 q17 dp nb nw na (fun _ => 0) (fun _ => 0) 0 0 0 (-1) false) := hD
        refine lv_aload_n hx hb d_m_init_106 rfl (lv_at hl 0 rfl) ?_
        refine hs_wv (As := []) (rest := []) (wr := []) [0, 1, 2] [] S9 (c_m_format l D cA h q8 q17 dp nb nw na (fun _ => 0) (fun _ => 0) 0 0 0 (-1) false H.size hG) k_m_m_format h_m_format rfl rfl ⟨Nat.le_of_ble_eq_true rfl, Nat.le_of_ble_eq_true rfl⟩ hK hP hD hS hA rfl rfl rfl rfl (by decide) rfl rfl rfl rfl hl.1 rfl (Nat.le_of_ble_eq_true rfl) d_m_init_107 ⟨Nat.le_refl _, Nat.le_refl _⟩ (fun u H locs hp hP hD hS => ?_)
        have hP : va_P D classes (mw cA h q8 q17 dp nb nw na u.1 u.2 0 (mkF nb nw (nb * nw)) 0 (-1) false) H := hP
        have hD : va_D Z (mw cA h q8 q17 dp nb nw na u.1 u.2 0 (mkF nb nw (nb * nw)) 0 (-1) false) := hD
        refine W.eq (g2 := F0 m 110 ls [.int 0]) rfl ?_
        refine lv_istore_n (lv' := [(3, .int 0), (0, .ref h), (1, .int dd), (2, .int ww)]) hx hb d_m_init_110 rfl hl (by decide) rfl (fun ls hl => ?_)
        exact W.vret hx hb hr (fun t ht hW => ⟨⟨(u.1, u.2, q8, q17), hp, rfl, by rw [ht]; exact hP, hD⟩, hS.F ht⟩) hS.2.2 d_m_init_111
      · skip
        refine lv_bipush (v := nI 6) hx hb d_m_init_75 (by decide) ?_
        refine lv_goto (tgt := 81) hx hb d_m_init_77 (by decide) ?_
        refine hs_to (y := nI nw) (by rw [← hnw, clI, if_neg (Int32.not_lt.mpr (show (1 : Int32) ≤ ww from h3)), if_pos (Int32.not_le.mp (show ¬ ww ≤ (6 : Int32) from h4))]; rfl) ?_
        refine pmF hin hx hb hts hown hK hP hD hS rfl 2 26 (by decide) lk_m_words rfl (ty := .int) (v := .int (nI nw)) rfl rfl rfl (Nat.le_of_ble_eq_true rfl) d_m_init_81 (fun H locs hP hD hS => ?_)
        have hP : va_P D classes ([(h, .inr (1, [.int (nI dp), .int (nI nb), .int (nI nw), .int (nI 0), .ref q8, .ref q17, .int (nI 0), .int 0, .int 0, .int (-1), .int (bI false)])), (q8, .inl (cA, 600, .inl (fun _ => 0))), (q17, .inl (cA, 300, .inl (fun _ => 0)))]) H := hP
        have hD : va_D Z ([(h, .inr (1, [.int (nI dp), .int (nI nb), .int (nI nw), .int (nI 0), .ref q8, .ref q17, .int (nI 0), .int 0, .int 0, .int (-1), .int (bI false)])), (q8, .inl (cA, 600, .inl (fun _ => 0))), (q17, .inl (cA, 300, .inl (fun _ => 0)))]) := hD
        refine lv_aload_n hx hb d_m_init_84 rfl (lv_at hl 0 rfl) ?_
        refine lv_aload_n hx hb d_m_init_85 rfl (lv_at hl 0 rfl) ?_
        refine gm hx hb hts hown hK hP rfl 1 23 (by decide) lk_m_blocks (v := .int (nI nb)) rfl d_m_init_86 ?_
        refine lv_aload_n hx hb d_m_init_89 rfl (lv_at hl 0 rfl) ?_
        refine gm hx hb hts hown hK hP rfl 2 26 (by decide) lk_m_words (v := .int (nI nw)) rfl d_m_init_90 ?_
        refine hs_imul hx hb d_m_init_93 ?_
        refine lv_iconst (v := nI 2) hx hb d_m_init_94 (by decide) ?_
        refine lv_aload_n hx hb d_m_init_95 rfl (lv_at hl 0 rfl) ?_
        refine gm hx hb hts hown hK hP rfl 1 23 (by decide) lk_m_blocks (v := .int (nI nb)) rfl d_m_init_96 ?_
        refine hs_imul hx hb d_m_init_99 ?_
        refine hs_iadd hx hb d_m_init_100 ?_
        refine lv_iconst (v := nI 1) hx hb d_m_init_101 (by decide) ?_
        refine hs_isub hx hb (by omega) d_m_init_102 ?_
        refine hs_to (y := nI na) (congrArg nI (by omega)) ?_
        refine pmF hin hx hb hts hown hK hP hD hS rfl 3 29 (by decide) lk_m_size rfl (ty := .int) (v := .int (nI na)) rfl rfl rfl (Nat.le_of_ble_eq_true rfl) d_m_init_103 (fun H locs hP hD hS => ?_)
        have hP : va_P D classes ([(h, .inr (1, [.int (nI dp), .int (nI nb), .int (nI nw), .int (nI na), .ref q8, .ref q17, .int (nI 0), .int 0, .int 0, .int (-1), .int (bI false)])), (q8, .inl (cA, 600, .inl (fun _ => 0))), (q17, .inl (cA, 300, .inl (fun _ => 0)))]) H := hP
        have hD : va_D Z ([(h, .inr (1, [.int (nI dp), .int (nI nb), .int (nI nw), .int (nI na), .ref q8, .ref q17, .int (nI 0), .int 0, .int 0, .int (-1), .int (bI false)])), (q8, .inl (cA, 600, .inl (fun _ => 0))), (q17, .inl (cA, 300, .inl (fun _ => 0)))]) := hD
        have hP : va_P D classes (mw cA h q8 q17 dp nb nw na (fun _ => 0) (fun _ => 0) 0 0 0 (-1) false) H := hP
        have hD : va_D Z (mw cA h q8 q17 dp nb nw na (fun _ => 0) (fun _ => 0) 0 0 0 (-1) false) := hD
        refine lv_aload_n hx hb d_m_init_106 rfl (lv_at hl 0 rfl) ?_
        refine hs_wv (As := []) (rest := []) (wr := []) [0, 1, 2] [] S9 (c_m_format l D cA h q8 q17 dp nb nw na (fun _ => 0) (fun _ => 0) 0 0 0 (-1) false H.size hG) k_m_m_format h_m_format rfl rfl ⟨Nat.le_of_ble_eq_true rfl, Nat.le_of_ble_eq_true rfl⟩ hK hP hD hS hA rfl rfl rfl rfl (by decide) rfl rfl rfl rfl hl.1 rfl (Nat.le_of_ble_eq_true rfl) d_m_init_107 ⟨Nat.le_refl _, Nat.le_refl _⟩ (fun u H locs hp hP hD hS => ?_)
        have hP : va_P D classes (mw cA h q8 q17 dp nb nw na u.1 u.2 0 (mkF nb nw (nb * nw)) 0 (-1) false) H := hP
        have hD : va_D Z (mw cA h q8 q17 dp nb nw na u.1 u.2 0 (mkF nb nw (nb * nw)) 0 (-1) false) := hD
        refine W.eq (g2 := F0 m 110 ls [.int 0]) rfl ?_
        refine lv_istore_n (lv' := [(3, .int 0), (0, .ref h), (1, .int dd), (2, .int ww)]) hx hb d_m_init_110 rfl hl (by decide) rfl (fun ls hl => ?_)
        exact W.vret hx hb hr (fun t ht hW => ⟨⟨(u.1, u.2, q8, q17), hp, rfl, by rw [ht]; exact hP, hD⟩, hS.F ht⟩) hS.2.2 d_m_init_111
    · skip
      refine lv_iconst (v := nI 1) hx hb d_m_init_65 (by decide) ?_
      refine lv_goto (tgt := 81) hx hb d_m_init_66 (by decide) ?_
      refine hs_to (y := nI nw) (by rw [← hnw, clI, if_pos (Int32.not_le.mp (show ¬ (1 : Int32) ≤ ww from h3))]; rfl) ?_
      refine pmF hin hx hb hts hown hK hP hD hS rfl 2 26 (by decide) lk_m_words rfl (ty := .int) (v := .int (nI nw)) rfl rfl rfl (Nat.le_of_ble_eq_true rfl) d_m_init_81 (fun H locs hP hD hS => ?_)
      have hP : va_P D classes ([(h, .inr (1, [.int (nI dp), .int (nI nb), .int (nI nw), .int (nI 0), .ref q8, .ref q17, .int (nI 0), .int 0, .int 0, .int (-1), .int (bI false)])), (q8, .inl (cA, 600, .inl (fun _ => 0))), (q17, .inl (cA, 300, .inl (fun _ => 0)))]) H := hP
      have hD : va_D Z ([(h, .inr (1, [.int (nI dp), .int (nI nb), .int (nI nw), .int (nI 0), .ref q8, .ref q17, .int (nI 0), .int 0, .int 0, .int (-1), .int (bI false)])), (q8, .inl (cA, 600, .inl (fun _ => 0))), (q17, .inl (cA, 300, .inl (fun _ => 0)))]) := hD
      refine lv_aload_n hx hb d_m_init_84 rfl (lv_at hl 0 rfl) ?_
      refine lv_aload_n hx hb d_m_init_85 rfl (lv_at hl 0 rfl) ?_
      refine gm hx hb hts hown hK hP rfl 1 23 (by decide) lk_m_blocks (v := .int (nI nb)) rfl d_m_init_86 ?_
      refine lv_aload_n hx hb d_m_init_89 rfl (lv_at hl 0 rfl) ?_
      refine gm hx hb hts hown hK hP rfl 2 26 (by decide) lk_m_words (v := .int (nI nw)) rfl d_m_init_90 ?_
      refine hs_imul hx hb d_m_init_93 ?_
      refine lv_iconst (v := nI 2) hx hb d_m_init_94 (by decide) ?_
      refine lv_aload_n hx hb d_m_init_95 rfl (lv_at hl 0 rfl) ?_
      refine gm hx hb hts hown hK hP rfl 1 23 (by decide) lk_m_blocks (v := .int (nI nb)) rfl d_m_init_96 ?_
      refine hs_imul hx hb d_m_init_99 ?_
      refine hs_iadd hx hb d_m_init_100 ?_
      refine lv_iconst (v := nI 1) hx hb d_m_init_101 (by decide) ?_
      refine hs_isub hx hb (by omega) d_m_init_102 ?_
      refine hs_to (y := nI na) (congrArg nI (by omega)) ?_
      refine pmF hin hx hb hts hown hK hP hD hS rfl 3 29 (by decide) lk_m_size rfl (ty := .int) (v := .int (nI na)) rfl rfl rfl (Nat.le_of_ble_eq_true rfl) d_m_init_103 (fun H locs hP hD hS => ?_)
      have hP : va_P D classes ([(h, .inr (1, [.int (nI dp), .int (nI nb), .int (nI nw), .int (nI na), .ref q8, .ref q17, .int (nI 0), .int 0, .int 0, .int (-1), .int (bI false)])), (q8, .inl (cA, 600, .inl (fun _ => 0))), (q17, .inl (cA, 300, .inl (fun _ => 0)))]) H := hP
      have hD : va_D Z ([(h, .inr (1, [.int (nI dp), .int (nI nb), .int (nI nw), .int (nI na), .ref q8, .ref q17, .int (nI 0), .int 0, .int 0, .int (-1), .int (bI false)])), (q8, .inl (cA, 600, .inl (fun _ => 0))), (q17, .inl (cA, 300, .inl (fun _ => 0)))]) := hD
      have hP : va_P D classes (mw cA h q8 q17 dp nb nw na (fun _ => 0) (fun _ => 0) 0 0 0 (-1) false) H := hP
      have hD : va_D Z (mw cA h q8 q17 dp nb nw na (fun _ => 0) (fun _ => 0) 0 0 0 (-1) false) := hD
      refine lv_aload_n hx hb d_m_init_106 rfl (lv_at hl 0 rfl) ?_
      refine hs_wv (As := []) (rest := []) (wr := []) [0, 1, 2] [] S9 (c_m_format l D cA h q8 q17 dp nb nw na (fun _ => 0) (fun _ => 0) 0 0 0 (-1) false H.size hG) k_m_m_format h_m_format rfl rfl ⟨Nat.le_of_ble_eq_true rfl, Nat.le_of_ble_eq_true rfl⟩ hK hP hD hS hA rfl rfl rfl rfl (by decide) rfl rfl rfl rfl hl.1 rfl (Nat.le_of_ble_eq_true rfl) d_m_init_107 ⟨Nat.le_refl _, Nat.le_refl _⟩ (fun u H locs hp hP hD hS => ?_)
      have hP : va_P D classes (mw cA h q8 q17 dp nb nw na u.1 u.2 0 (mkF nb nw (nb * nw)) 0 (-1) false) H := hP
      have hD : va_D Z (mw cA h q8 q17 dp nb nw na u.1 u.2 0 (mkF nb nw (nb * nw)) 0 (-1) false) := hD
      refine W.eq (g2 := F0 m 110 ls [.int 0]) rfl ?_
      refine lv_istore_n (lv' := [(3, .int 0), (0, .ref h), (1, .int dd), (2, .int ww)]) hx hb d_m_init_110 rfl hl (by decide) rfl (fun ls hl => ?_)
      exact W.vret hx hb hr (fun t ht hW => ⟨⟨(u.1, u.2, q8, q17), hp, rfl, by rw [ht]; exact hP, hD⟩, hS.F ht⟩) hS.2.2 d_m_init_111
end
section
/-! two disks that agree below 2 * na: all that is asked of them agrees -/
section AGR
variable {dp nb nw na sl : Nat} {f g : Nat → Int32}
theorem ar_cong (hG : hsG dp nb nw na) (hs : sl ≤ 1) (h : ∀ j, j < 2 * na → f j = g j) : ∀ j, j < na → ar f na sl j = ar g na sl j := fun _ hj => h _ (at_cell hG hs hj)
theorem rdV_cong (hG : hsG dp nb nw na) (hs : sl ≤ 1) (h : ∀ j, j < 2 * na → f j = g j) {rt : Int32} {dn : Bool} {b i : Int32} : rdV (ar f na sl) dp nb nw rt dn b i = rdV (ar g na sl) dp nb nw rt dn b i := by
  have h9 := hG.fits
  have ha := ar_cong hG hs h
  by_cases hv : vld nb nw b i
  · obtain ⟨b9, i9, hb, hi, rfl, rfl⟩ := vld_of (by omega) (by omega) hv
    cases hd : dn with
    | true => rw [rdV_dn hv rfl, rdV_dn hv rfl]
    | false =>
      have e := okA_congr hG hb ha (rt := rt)
      cases hk : okA (ar f na sl) dp nb nw b9 rt with
      | true =>
        rw [rdV_ok (by omega) (by omega) hb hi rfl hk, rdV_ok (by omega) (by omega) hb hi rfl (e ▸ hk)]
        exact ha _ (by have := (at_word (sl := 0) hG (Nat.zero_le 1) hb hi).1; omega)
      | false => rw [rdV_no (by omega) (by omega) hb hi rfl hk, rdV_no (by omega) (by omega) hb hi rfl (e ▸ hk)]
  · rw [rdV_bad hv, rdV_bad hv]
theorem vfV_cong (hG : hsG dp nb nw na) (hs : sl ≤ 1) (h : ∀ j, j < 2 * na → f j = g j) {rt : Int32} {dn : Bool} {b : Int32} : vfV (ar f na sl) dp nb nw rt dn b = vfV (ar g na sl) dp nb nw rt dn b := by
  have h9 := hG.fits
  have ha := ar_cong hG hs h
  by_cases hv : 0 ≤ b ∧ b < nI nb
  · obtain ⟨b9, hb, rfl⟩ := ix_of (by omega) hv.1 hv.2
    rw [vfV, vfV, nI_clamp (by omega), okA_congr hG hb ha]
  · rw [vfV, vfV, decide_eq_false hv, Bool.false_and, Bool.false_and]
theorem auF_cong {u v : Nat → Bool} : ∀ n b : Nat, (∀ x, x < b + n → u x = v x) → auF u n b = auF v n b
  | 0, _, _ => rfl
  | n + 1, b, h => by
    rw [auF, auF, h b (by omega), auF_cong n (b + 1) (fun x hx => h x (by omega))]
theorem auV_cong (hG : hsG dp nb nw na) (hs : sl ≤ 1) (h : ∀ j, j < 2 * na → f j = g j) {rt : Int32} {dn : Bool} : auV (ar f na sl) dp nb nw rt dn = auV (ar g na sl) dp nb nw rt dn := by
  rw [auV, auV, auF_cong nb 0 (fun x hx => okA_congr hG (by omega) (ar_cong hG hs h))]
theorem tmV_cong (h : ∀ j, j < 2 * na → f j = g j) {ad wo : Int32} : ∀ j, j < 2 * na → tmV f na ad wo j = tmV g na ad wo j := by
  unfold tmV
  split
  · exact upd_congr h rfl
  · exact h
theorem pkV_cong (hn : 2 * na < 2 ^ 31) (h : ∀ j, j < 2 * na → f j = g j) {ad : Int32} : pkV f na ad = pkV g na ad := by
  by_cases hv : 0 ≤ ad ∧ ad < nI (2 * na)
  · obtain ⟨j, hj, rfl⟩ := ix_of hn hv.1 hv.2
    rw [pkV, pkV, nI_clamp (by omega), h j hj]
  · rw [pkV, pkV, if_neg hv, if_neg hv]
theorem rcV_cong (hG : hsG dp nb nw na) (h : ∀ j, j < 2 * na → f j = g j) {rt lf tr : Int32} {dn : Bool} : rcV f na (nb * nw) sl rt lf dn tr = rcV g na (nb * nw) sl rt lf dn tr := by
  have h9 := hG.fits
  rw [rcV, rcV, h _ (at_node (sl := 0) hG (Nat.zero_le 1) (Nat.le_refl 1) (by omega)).2, h _ (at_node (sl := 1) hG (Nat.le_refl 1) (Nat.le_refl 1) (by omega)).2]
theorem rcV_sl (hs : sl ≤ 1) {bw : Nat} {rt lf tr : Int32} {dn : Bool} : (rcV f na bw sl rt lf dn tr).2.1 ≤ 1 := by
  unfold rcV
  split
  · exact hs
  · split
    · exact Nat.zero_le 1
    · split
      · exact Nat.le_refl 1
      · exact hs
def PSr (na : Nat) (x y : PS) : Prop := x.1 = y.1 ∧ (∀ j, j < 2 * na → x.2.1 j = y.2.1 j) ∧ x.2.2 = y.2.2
theorem pt_cong {a : Nat} {v v' : Int32} {x y : PS} (ha : a < 2 * na) (hv : v = v') (h : PSr na x y) : PSr na (ptS a v x) (ptS a v' y) := by
  obtain ⟨x1, xf, xl, xw9, xd⟩ := x
  obtain ⟨y1, yf, yl, yw, yd⟩ := y
  obtain ⟨h1, h2, h3⟩ := h
  cases h3
  subst hv
  have e := h2 a ha
  unfold ptS pt
  dsimp only at e h2 ⊢
  by_cases c1 : yf a = v
  · rw [if_pos (e.trans c1), if_pos c1]; exact ⟨rfl, h2, rfl⟩
  · rw [if_neg (fun q => c1 (e.symm.trans q)), if_neg c1]
    split
    · exact ⟨rfl, h2, rfl⟩
    · exact ⟨rfl, upd_congr h2 rfl, rfl⟩
theorem rW_cong {o : Nat} {G G' : Nat → Int32} (ho : ∀ j, j < na → o + j < 2 * na) (hGG : ∀ j, j < na → G j = G' j) : ∀ (n k : Nat) (x y : PS), k + n ≤ na → PSr na x y → PSr na (rW o G n k x) (rW o G' n k y)
  | 0, _, _, _, _, h => h
  | n + 1, k, x, y, hk, h => by
    have hp := pt_cong (ho k (by omega)) (hGG k (by omega)) h
    rw [rW, rW, hp.1]
    split
    · exact rW_cong ho hGG n (k + 1) _ _ (by omega) hp
    · exact hp
theorem rD_cong {o bw : Nat} {G G' : Nat → Int32} (ho : ∀ j, j < na → o + j < 2 * na) (hGG : ∀ j, j < na → G j = G' j) : ∀ (k : Nat) (x y : PS), bw + k ≤ na → PSr na x y → PSr na (rD o bw G k x) (rD o bw G' k y)
  | 0, _, _, _, h => h
  | k + 1, x, y, hk, h => by
    have hp := pt_cong (ho (bw + (k + 1) - 1) (by omega)) (hGG (bw + (k + 1) - 1) (by omega)) h
    rw [rD, rD, hp.1]
    split
    · exact rD_cong ho hGG k _ _ (by omega) hp
    · exact hp
theorem wrR_cong (hG : hsG dp nb nw na) (hs : sl ≤ 1) (h : ∀ j, j < 2 * na → f j = g j) {lf wr : Int32} {G G' : Nat → Int32} (hGG : ∀ j, j < na → G j = G' j) : PSr na (wrR dp nb nw na f sl lf wr G) (wrR dp nb nw na g sl lf wr G') := by
  have h9 := hG.fits
  have ho : ∀ j, j < na → na * (1 - sl) + j < 2 * na := fun j hj => at_cell hG (by omega) hj
  have h1 := rW_cong ho hGG (nb * nw) 0 (true, f, lf, wr, false) (true, g, lf, wr, false) (by omega) ⟨rfl, h, rfl⟩
  rw [wrR, wrR, h1.1]
  split
  · exact rD_cong ho hGG _ _ _ (by omega) h1
  · exact h1
def WSr (na : Nat) (x y : WS) : Prop := x.1 = y.1 ∧ (∀ j, j < 2 * na → x.2.1 j = y.2.1 j) ∧ x.2.2 = y.2.2
theorem wrE_cong {x y : PS} (h : PSr na x y) {rt n n' : Int32} (hn : n = n') : WSr na (wrE x sl rt n) (wrE y sl rt n') := by
  obtain ⟨h1, h2, h3⟩ := h
  subst hn
  rw [wrE, wrE, h1, h3]
  split
  · exact ⟨rfl, h2, rfl⟩
  · exact ⟨rfl, h2, rfl⟩
theorem wrV_cong (hG : hsG dp nb nw na) (hs : sl ≤ 1) (h : ∀ j, j < 2 * na → f j = g j) {rt lf wr : Int32} {dn : Bool} {b i wo : Int32} : WSr na (wrV dp nb nw na f sl rt lf wr dn b i wo) (wrV dp nb nw na g sl rt lf wr dn b i wo) := by
  have h9 := hG.fits
  have ha := ar_cong hG hs h
  by_cases hv : vld nb nw b i ∧ 0 ≤ wo
  · obtain ⟨b9, i9, hb, hi, rfl, rfl⟩ := vld_of (by omega) (by omega) hv.1
    cases hd : dn with
    | true => rw [wrV_dn hv rfl, wrV_dn hv rfl]; exact ⟨rfl, h, rfl⟩
    | false =>
      have e := okA_congr hG hb ha (rt := rt)
      cases hk : okA (ar f na sl) dp nb nw b9 rt with
      | true =>
        rw [wrV_ok (by omega) (by omega) hb hi hv.2 rfl hk, wrV_ok (by omega) (by omega) hb hi hv.2 rfl (e ▸ hk)]
        have hn : ∀ j, j < na → nwA f na sl nw b9 i9 wo j = nwA g na sl nw b9 i9 wo j := upd_congr ha rfl
        exact wrE_cong (wrR_cong hG hs h (gA_congr hG hb hn)) (uN_congr hG hb hn (Nat.le_refl dp))
      | false => rw [wrV_no (by omega) (by omega) hb hi hv.2 rfl hk, wrV_no (by omega) (by omega) hb hi hv.2 rfl (e ▸ hk)]; exact ⟨rfl, h, rfl⟩
  · rw [wrV_bad hv, wrV_bad hv]; exact ⟨rfl, h, rfl⟩
theorem wrV_sl (hG : hsG dp nb nw na) (hs : sl ≤ 1) {rt lf wr : Int32} {dn : Bool} {b i wo : Int32} : (wrV dp nb nw na f sl rt lf wr dn b i wo).2.2.1 ≤ 1 := by
  have h9 := hG.fits
  by_cases hv : vld nb nw b i ∧ 0 ≤ wo
  · obtain ⟨b9, i9, hb, hi, rfl, rfl⟩ := vld_of (by omega) (by omega) hv.1
    cases hd : dn with
    | true => rw [wrV_dn hv rfl]; exact hs
    | false =>
      cases hk : okA (ar f na sl) dp nb nw b9 rt with
      | true =>
        rw [wrV_ok (by omega) (by omega) hb hi hv.2 rfl hk, wrE]
        split
        · exact Nat.sub_le 1 sl
        · exact hs
      | false => rw [wrV_no (by omega) (by omega) hb hi hv.2 rfl hk]; exact hs
  · rw [wrV_bad hv]; exact hs
end AGR
theorem lim_le {L i : Nat} (hL : L ≤ 2050) (hi : i ≤ 3000) (h : ¬ (nI L - nI 4) < nI i) : i + 4 ≤ L := by
  have h1 := Int32.not_lt.mp h
  rw [Int32.le_iff_toInt_le, pk_sub_toInt (by omega) (by decide), nI_toInt (by omega)] at h1
  omega
theorem int_arr {s : State} {args : Array Value} (h : (Cond.arrayClass .int).before args s = true) : ∃ cA : ClassId, ArrOfT s cA .int ∧ va_RA s cA .int := by
  obtain ⟨cA, kA, comp, h1, h2, h3⟩ := Cond.arrayClass_spec h
  exact ⟨cA, fun n z => ⟨fun k h => (by cases h), kA, h2, comp, h3⟩, h1⟩
/-- the law's cell(script, k) -/
def PcX (b L : Nat) (xs : Nat → Int32) (av : List Value) : Array Value → State → Prop := va_Pc av (fun U => va_X b L xs U U.heap)
theorem PcX.blind {b L : Nat} {xs : Nat → Int32} {av : List Value} : FrameBlind (PcX b L xs av) := fun a U g mk q => ⟨q.1, va_X.moved (u := U) (U := U.calling g mk a) (Vm.Alike.refl U.vm) q.2⟩
section LWX
variable {p : Program} {l : Launch} {e : Env} {R : Room} {s : State} {m : MethodId} {args : Array Value} {below : List Frame} {meth : Method} {c : Code} {H : Heap} {locs : List Loc} {cells slots : Nat} {Q : State → Prop}
variable {cc : ByteArray} {pc : Nat} {ls : Array Slot} {rest : List Value}
theorem hs_sld (hx : p.tables.exec = Jvm.exec) (hb : c.code = cc) {b L : Nat} {xs : Nat → Int32} {A : Nat → Prop} {H0 : Heap} (hX : va_X b L xs s H0) (hbl : b < H0.size) (hbA : ¬ A b) (hS : va_S A H0 H locs) {i : Nat} (hi : i < L) (hL : L < 2 ^ 31) (hdg : decode cc pc = .ok (.iaload, 1))
    (kk : W p l e R s m args below meth c H locs cells slots Q (F0 m (pc + 1) ls (.int (xs i) :: rest))) : W p l e R s m args below meth c H locs cells slots Q (F0 m pc ls (.int (nI i) :: .ref b :: rest)) :=
  va_sld hx hb hX hbl hbA hS (vp_in_nI hi hL) hdg (hs_to (by rw [nI_clamp (Nat.lt_trans hi hL)]) kk)
theorem hs_rX {y : MethodName} {bytes : ByteArray} {maxL nL n index : Nat} {ret : Option FieldType} {rm : Room} {own : String} {As : List Value} {r : Int32} {st0 : List Value} {b L : Nat} {xs : Nat → Int32} {A : Nat → Prop} {H0 : Heap}
    (S : CallFix p m c cc nL s args gw own) (hM : Met l y (tw y bytes maxL ret) rm (PcX b L xs As) (QcRead r) 0 0 (fun _ => False)) (hG : okS own index y n) (hcd : Cond.code y bytes maxL ret ∈ gw) (hrc : rm.cells = 0) (hrs : rm.slots = 0) (hR : okR R rm maxL)
    (hX : va_X b L xs s H0) (hbl : b < H0.size) (hbA : ¬ A b) (hS : va_S A H0 H locs)
    (hn : As.length = n) (hsize : ls.size = nL) (hst : st0 = As.reverse ++ rest) (hW : (rest.map fun v => v.category).sum ≤ 8) (hdg : decode cc pc = .ok (.invokestatic index, 3)) (hf : cells ≤ R.cells ∧ slots ≤ R.slots)
    (kk : W p l e R s m args below meth c H locs cells slots Q (F0 m (pc + 3) ls (.int r :: rest))) : W p l e R s m args below meth c H locs cells slots Q (F0 m pc ls st0) := by
  obtain ⟨hd, h1, h2, h3⟩ := hG
  have hts := S.2.2.2.2
  exact W.callR (g := F0 m pc ls st0) (W.runS (As := As) (rest := rest) S hM ⟨callB_of n hts (good_tw hcd) rfl hrc hrs (hts _ h1) (hts _ h2) hd hR, hts _ h3⟩
    ⟨PcX.blind, fun U hU hW => ⟨rfl, by show va_X b L xs U U.heap; rw [hU]; exact (hX.kept (hS.2.1 b hbl hbA)).moved hW.alike⟩⟩ rfl hn hsize hst (lv_room hW) hdg hf) kk
end LWX
set_option maxHeartbeats 4000000 in
set_option maxRecDepth 100000 in
theorem c_L_cell (l : Launch) (b L : Nat) (xs : Nat → Int32) (k : Nat) (hL : L < 2 ^ 31) (hk : k < 2 ^ 31) : Met l y_L_cell w_L_cell rq0 (PcX b L xs [.ref b, .int (nI k)]) (QcRead (if k < L then xs k else 0)) 0 0 (fun _ => False) := by
  refine Met.ofW (cc := b_L_cell) (maxL := 2) (ret := (some .int)) (by decide) rfl ?_
  intro p e s m args below meth c s₁ B9 hml hv
  obtain ⟨rfl, hX⟩ := hv
  have hx := B9.exec
  have hb := B9.bytes
  have hr := B9.returns
  have hlocks := B9.notSynchronized
  have hS : va_S (fun _ => False) s.heap s.heap [] := va_S.rf
  have hbl : b < s.heap.size := by
    obtain ⟨scr, h1, -⟩ := hX
    exact (Array.getElem?_eq_some_iff.mp h1).1
  have hl := lv_entry ([.ref b, .int (nI k)]) (n := 2) (Nat.le_of_ble_eq_true rfl)
  rw [lg_entry_eq]
  generalize (lg_sl ([.ref b, .int (nI k)]) ++ List.replicate (2 - (lg_sl ([.ref b, .int (nI k)])).length) Slot.unset).toArray = ls at hl ⊢
  have hl : lv_has ls 2 [(0, .ref b), (1, .int (nI k))] := hl
  refine lv_iload_n hx hb d_L_cell_0 rfl (lv_at hl 1 rfl) ?_
  refine lv_aload_n hx hb d_L_cell_1 rfl (lv_at hl 0 rfl) ?_
  refine va_slen hx hb hX hbl (fun h => h) hS d_L_cell_2 ?_
  refine hs_ge (b := L) (tgt := 12) hx hb d_L_cell_3 (by decide) hk hL (fun h1 => ?_) (fun h1 => ?_)
  · refine lv_iconst (v := 0) hx hb d_L_cell_12 (by decide) ?_
    refine hs_to (y := if k < L then xs k else 0) (by rw [if_neg (by omega)]) ?_
    exact W.iret hx hb hr (fun t ht _ => ⟨rfl, ht⟩) (fun _ h => by cases h) d_L_cell_13
  · refine lv_aload_n hx hb d_L_cell_6 rfl (lv_at hl 0 rfl) ?_
    refine lv_iload_n hx hb d_L_cell_7 rfl (lv_at hl 1 rfl) ?_
    refine hs_sld hx hb hX hbl (fun h => h) hS h1 hL d_L_cell_8 ?_
    refine lv_goto (tgt := 13) hx hb d_L_cell_9 (by decide) ?_
    refine hs_to (y := if k < L then xs k else 0) (by rw [if_pos h1]) ?_
    exact W.iret hx hb hr (fun t ht _ => ⟨rfl, ht⟩) (fun _ h => by cases h) d_L_cell_13
end
section
set_option maxHeartbeats 8000000 in
set_option maxRecDepth 100000 in
/-- THE LAW'S LOOP: at its head the two hold the same sizes, the same cells below 2 * na, the same numbers -/
theorem law_loop {p : Program} {l : Launch} {e : Env} {s : State} {m : MethodId} {below : List Frame} {meth : Method} {c : Code} {D : va_G} {cA : ClassId} {b L : Nat} {xs : Nat → Int32} (hL : L ≤ 2050) (C0 : lw_At p s m meth c b L xs) {dp nb nw na : Nat} (hG : hsG dp nb nw na) (hK : va_K D classes [(cA, .int)] s) {h d w h2 d2 w2 : Nat} :
    ∀ (n i : Nat), i ≤ 2054 → 3000 - i < n → ∀ (fx gx fm gm : Nat → Int32) (sl : Nat) (rt lf wr : Int32) (dn : Bool), sl ≤ 1 → (∀ j, j < 2 * na → fx j = fm j) → ∀ (H : Heap) (locs : List Loc), va_P D classes (xw cA h d w nb nw na fx gx sl rt lf wr dn ++ mw cA h2 d2 w2 dp nb nw na fm gm sl rt wr lf dn) H → va_D (fun q : Nat => s.heap.size ≤ q) (xw cA h d w nb nw na fx gx sl rt lf wr dn ++ mw cA h2 d2 w2 dp nb nw na fm gm sl rt wr lf dn) → va_S (fun q : Nat => s.heap.size ≤ q) s.heap H locs → ∀ (ls : Array Slot), lv_has ls 4 [(3, .int (nI i)), (0, .ref b), (1, .ref h), (2, .ref h2)] → W p l e room_1 s m #[Value.ref b] below meth c H locs 6 2000 (lw_Z below #[Value.ref b] s) (F0 m 38 ls []) := by
  obtain ⟨hx, hb, hr, hml, hown, hts0, hX, hbl, hlocks, hgv⟩ := C0
  have hts : ∀ w ∈ gw, w.before _ s = true := fun w hw => hts0 w (List.mem_filter.mp hw).1
  have S9 : CallFix p m c code 4 s #[Value.ref b] gw R_law := ⟨hx, hb, hml, hown, hts⟩
  have hA : ∀ q : Nat, s.heap.size ≤ q → (fun q : Nat => s.heap.size ≤ q) q := fun _ h => h
  have hbA : ¬ (fun q : Nat => s.heap.size ≤ q) b := Nat.not_le.mpr hbl
  have h9 := hG.fits
  intro n
  induction n with
  | zero => intro i h1 h2; exact absurd h2 (Nat.not_lt_zero _)
  | succ n ih =>
    intro i hi hmu fx gx fm gm sl rt lf wr dn hsl hf H locs hP hD hS ls hl
    refine lv_iload_n hx hb d_L_law_38 rfl (lv_at hl 0 rfl) ?_
    refine lv_aload_n hx hb d_L_law_39 rfl (lv_at hl 1 rfl) ?_
    refine va_slen hx hb hX hbl hbA hS d_L_law_40 ?_
    refine hs_to (y := nI L) rfl ?_
    refine lv_iconst (v := nI 4) hx hb d_L_law_41 (by decide) ?_
    refine lv_isub hx hb d_L_law_42 ?_
    refine lv_icmp_gt (tgt := 418) hx hb d_L_law_43 (by decide) (fun h1 => ?_) (fun h1 => ?_)
    · skip
      refine lv_iconst (v := 1) hx hb d_L_law_418 (by decide) ?_
      refine va_forget (fun q hq => hS.2.2 q hq) ?_
      refine W.widen (k := 600000) (n := 7302250) (Nat.le_of_ble_eq_true rfl) (Nat.le_of_ble_eq_true rfl) ?_
      exact lw_ret hx hb hr hlocks d_L_law_419
    · skip
      have hi4 : i + 4 ≤ L := lim_le hL (by omega) h1
      have next : ∀ (fx gx fm gm : Nat → Int32) (sl : Nat) (rt lf wr : Int32) (dn : Bool), sl ≤ 1 → (∀ j, j < 2 * na → fx j = fm j) → ∀ (H : Heap) (locs : List Loc), va_P D classes (xw cA h d w nb nw na fx gx sl rt lf wr dn ++ mw cA h2 d2 w2 dp nb nw na fm gm sl rt wr lf dn) H → va_D (fun q : Nat => s.heap.size ≤ q) (xw cA h d w nb nw na fx gx sl rt lf wr dn ++ mw cA h2 d2 w2 dp nb nw na fm gm sl rt wr lf dn) → va_S (fun q : Nat => s.heap.size ≤ q) s.heap H locs → W p l e room_1 s m #[Value.ref b] below meth c H locs 6 2000 (lw_Z below #[Value.ref b] s) (F0 m 412 ls []) := by
        intro fx gx fm gm sl rt lf wr dn hsl hf H locs hP hD hS
        refine lv_iinc (v := nI (i + 4)) (lv' := [(3, .int (nI (i + 4))), (0, .ref b), (1, .ref h), (2, .ref h2)]) hx hb d_L_law_412 hl (k := 0) rfl (nI_add _ _) (by decide) rfl (fun ls hl => ?_)
        refine lv_goto (tgt := 38) hx hb d_L_law_415 (by decide) ?_
        exact ih (i + 4) (by omega) (by omega) fx gx fm gm sl rt lf wr dn hsl hf _ _ hP hD hS ls (lv_sub hl [0, 1, 2, 3] rfl)
      refine lv_aload_n hx hb d_L_law_46 rfl (lv_at hl 1 rfl) ?_
      refine lv_iload_n hx hb d_L_law_47 rfl (lv_at hl 0 rfl) ?_
      refine hs_sld hx hb hX hbl hbA hS (i := i) (by omega) (by omega) d_L_law_48 ?_
      refine lv_bipush (v := nI 15) hx hb d_L_law_49 (by decide) ?_
      obtain ⟨j, hj, ej⟩ := pk_andE (xs i) (m := nI 15) 4 (by decide)
      refine lv_iand hx hb d_L_law_51 ?_
      refine hs_to (y := nI j) ej ?_
      rcases (show j = 0 ∨ j = 1 ∨ j = 2 ∨ j = 3 ∨ j = 4 ∨ j = 5 ∨ j = 6 ∨ j = 7 ∨ j = 8 ∨ j = 9 ∨ j = 10 ∨ j = 11 ∨ j = 12 ∨ j = 13 ∨ j = 14 ∨ j = 15 by omega) with rfl | rfl | rfl | rfl | rfl | rfl | rfl | rfl | rfl | rfl | rfl | rfl | rfl | rfl | rfl | rfl
      · skip
        refine lv_tableIn (off := 72) (tgt := 124) hx hb d_L_law_52 (by decide) (by decide) rfl (by decide) ?_
        refine lv_aload_n hx hb d_L_law_124 rfl (lv_at hl 2 rfl) ?_
        refine hs_wv (As := []) (rest := []) (wr := mw cA h2 d2 w2 dp nb nw na fm gm sl rt wr lf dn) [0, 1, 2] [3, 4, 5] S9 (c_x_format l D cA h d w nb nw na fx gx sl rt lf wr dn H.size dp hG hsl) k_L_x_format h_x_format rfl rfl ⟨Nat.le_of_ble_eq_true rfl, Nat.le_of_ble_eq_true rfl⟩ hK hP hD hS hA rfl rfl rfl rfl (by decide) rfl rfl rfl rfl hl.1 rfl (Nat.le_of_ble_eq_true rfl) d_L_law_125 ⟨Nat.le_of_ble_eq_true rfl, Nat.le_of_ble_eq_true rfl⟩ (fun ux H locs hpx hP hD hS => ?_)
        have hP : va_P D classes (mw cA h2 d2 w2 dp nb nw na fm gm sl rt wr lf dn ++ xw cA h d w nb nw na ux gx 0 (mkF nb nw (nb * nw)) (-1) 0 false) H := hP
        have hD : va_D (fun q : Nat => s.heap.size ≤ q) (mw cA h2 d2 w2 dp nb nw na fm gm sl rt wr lf dn ++ xw cA h d w nb nw na ux gx 0 (mkF nb nw (nb * nw)) (-1) 0 false) := hD
        refine W.eq (g2 := F0 m 128 ls [.int 0]) rfl ?_
        refine lv_aload_n hx hb d_L_law_128 rfl (lv_at hl 3 rfl) ?_
        refine hs_wv (As := []) (rest := [.int 0]) (wr := xw cA h d w nb nw na ux gx 0 (mkF nb nw (nb * nw)) (-1) 0 false) [0, 1, 2] [3, 4, 5] S9 (c_m_format l D cA h2 d2 w2 dp nb nw na fm gm sl rt wr lf dn H.size hG) k_L_m_format h_m_format rfl rfl ⟨Nat.le_of_ble_eq_true rfl, Nat.le_of_ble_eq_true rfl⟩ hK hP hD hS hA rfl rfl rfl rfl (by decide) rfl rfl rfl rfl hl.1 rfl (Nat.le_of_ble_eq_true rfl) d_L_law_129 ⟨Nat.le_of_ble_eq_true rfl, Nat.le_of_ble_eq_true rfl⟩ (fun um H locs hpm hP hD hS => ?_)
        have hP : va_P D classes (xw cA h d w nb nw na ux gx 0 (mkF nb nw (nb * nw)) (-1) 0 false ++ mw cA h2 d2 w2 dp nb nw na um.1 um.2 0 (mkF nb nw (nb * nw)) 0 (-1) false) H := hP
        have hD : va_D (fun q : Nat => s.heap.size ≤ q) (xw cA h d w nb nw na ux gx 0 (mkF nb nw (nb * nw)) (-1) 0 false ++ mw cA h2 d2 w2 dp nb nw na um.1 um.2 0 (mkF nb nw (nb * nw)) 0 (-1) false) := hD
        refine W.eq (g2 := F0 m 132 ls [.int 0, .int 0]) rfl ?_
        refine lv_icmp_eq (tgt := 412) hx hb d_L_law_132 (by decide) (fun _hq9 => ?_) (fun hq9 => ?_)
        · skip
          exact next ux gx um.1 um.2 0 (mkF nb nw (nb * nw)) (-1) 0 false (Nat.zero_le 1) (fun j hj => (hpx j hj).trans (hpm j hj).symm) _ _ hP hD hS
        · skip
          exact absurd rfl hq9
      · skip
        refine lv_tableIn (off := 85) (tgt := 137) hx hb d_L_law_52 (by decide) (by decide) rfl (by decide) ?_
        refine lv_aload_n hx hb d_L_law_137 rfl (lv_at hl 2 rfl) ?_
        refine lv_aload_n hx hb d_L_law_138 rfl (lv_at hl 1 rfl) ?_
        refine lv_iload_n hx hb d_L_law_139 rfl (lv_at hl 0 rfl) ?_
        refine lv_iconst (v := nI 1) hx hb d_L_law_140 (by decide) ?_
        refine hs_iadd hx hb d_L_law_141 ?_
        refine hs_sld hx hb hX hbl hbA hS (i := i + 1) (by omega) (by omega) d_L_law_142 ?_
        refine lv_aload_n hx hb d_L_law_143 rfl (lv_at hl 1 rfl) ?_
        refine lv_iload_n hx hb d_L_law_144 rfl (lv_at hl 0 rfl) ?_
        refine lv_iconst (v := nI 2) hx hb d_L_law_145 (by decide) ?_
        refine hs_iadd hx hb d_L_law_146 ?_
        refine hs_sld hx hb hX hbl hbA hS (i := i + 2) (by omega) (by omega) d_L_law_147 ?_
        refine lv_aload_n hx hb d_L_law_148 rfl (lv_at hl 1 rfl) ?_
        refine lv_iload_n hx hb d_L_law_149 rfl (lv_at hl 0 rfl) ?_
        refine lv_iconst (v := nI 3) hx hb d_L_law_150 (by decide) ?_
        refine hs_iadd hx hb d_L_law_151 ?_
        refine hs_sld hx hb hX hbl hbA hS (i := i + 3) (by omega) (by omega) d_L_law_152 ?_
        refine hs_wv (As := [.int (xs (i + 1)), .int (xs (i + 2)), .int (xs (i + 3))]) (rest := []) (wr := mw cA h2 d2 w2 dp nb nw na fm gm sl rt wr lf dn) [0, 1, 2] [3, 4, 5] S9 (c_x_write l D cA h d w nb nw na fx gx sl rt lf wr dn H.size dp (xs (i + 1)) (xs (i + 2)) (xs (i + 3)) hG hsl) k_L_x_write h_x_write rfl rfl ⟨Nat.le_of_ble_eq_true rfl, Nat.le_of_ble_eq_true rfl⟩ hK hP hD hS hA rfl rfl rfl rfl (by decide) rfl rfl rfl rfl hl.1 rfl (Nat.le_of_ble_eq_true rfl) d_L_law_153 ⟨Nat.le_of_ble_eq_true rfl, Nat.le_of_ble_eq_true rfl⟩ (fun ux H locs hpx hP hD hS => ?_)
        have hP : va_P D classes (mw cA h2 d2 w2 dp nb nw na fm gm sl rt wr lf dn ++ xw cA h d w nb nw na ux.1.2.1 ux.2 ux.1.2.2.1 ux.1.2.2.2.1 ux.1.2.2.2.2.1 ux.1.2.2.2.2.2.1 ux.1.2.2.2.2.2.2) H := hP
        have hD : va_D (fun q : Nat => s.heap.size ≤ q) (mw cA h2 d2 w2 dp nb nw na fm gm sl rt wr lf dn ++ xw cA h d w nb nw na ux.1.2.1 ux.2 ux.1.2.2.1 ux.1.2.2.2.1 ux.1.2.2.2.2.1 ux.1.2.2.2.2.2.1 ux.1.2.2.2.2.2.2) := hD
        refine W.eq (g2 := F0 m 156 ls [.int ux.1.1]) rfl ?_
        refine lv_aload_n hx hb d_L_law_156 rfl (lv_at hl 3 rfl) ?_
        refine lv_aload_n hx hb d_L_law_157 rfl (lv_at hl 1 rfl) ?_
        refine lv_iload_n hx hb d_L_law_158 rfl (lv_at hl 0 rfl) ?_
        refine lv_iconst (v := nI 1) hx hb d_L_law_159 (by decide) ?_
        refine hs_iadd hx hb d_L_law_160 ?_
        refine hs_sld hx hb hX hbl hbA hS (i := i + 1) (by omega) (by omega) d_L_law_161 ?_
        refine lv_aload_n hx hb d_L_law_162 rfl (lv_at hl 1 rfl) ?_
        refine lv_iload_n hx hb d_L_law_163 rfl (lv_at hl 0 rfl) ?_
        refine lv_iconst (v := nI 2) hx hb d_L_law_164 (by decide) ?_
        refine hs_iadd hx hb d_L_law_165 ?_
        refine hs_sld hx hb hX hbl hbA hS (i := i + 2) (by omega) (by omega) d_L_law_166 ?_
        refine lv_aload_n hx hb d_L_law_167 rfl (lv_at hl 1 rfl) ?_
        refine lv_iload_n hx hb d_L_law_168 rfl (lv_at hl 0 rfl) ?_
        refine lv_iconst (v := nI 3) hx hb d_L_law_169 (by decide) ?_
        refine hs_iadd hx hb d_L_law_170 ?_
        refine hs_sld hx hb hX hbl hbA hS (i := i + 3) (by omega) (by omega) d_L_law_171 ?_
        refine hs_wv (As := [.int (xs (i + 1)), .int (xs (i + 2)), .int (xs (i + 3))]) (rest := [.int ux.1.1]) (wr := xw cA h d w nb nw na ux.1.2.1 ux.2 ux.1.2.2.1 ux.1.2.2.2.1 ux.1.2.2.2.2.1 ux.1.2.2.2.2.2.1 ux.1.2.2.2.2.2.2) [0, 1, 2] [3, 4, 5] S9 (c_m_write l D cA h2 d2 w2 dp nb nw na fm gm sl rt wr lf dn H.size (xs (i + 1)) (xs (i + 2)) (xs (i + 3)) hG hsl) k_L_m_write h_m_write rfl rfl ⟨Nat.le_of_ble_eq_true rfl, Nat.le_of_ble_eq_true rfl⟩ hK hP hD hS hA rfl rfl rfl rfl (by decide) rfl rfl rfl rfl hl.1 rfl (Nat.le_of_ble_eq_true rfl) d_L_law_172 ⟨Nat.le_of_ble_eq_true rfl, Nat.le_of_ble_eq_true rfl⟩ (fun um H locs hpm hP hD hS => ?_)
        have hP : va_P D classes (xw cA h d w nb nw na ux.1.2.1 ux.2 ux.1.2.2.1 ux.1.2.2.2.1 ux.1.2.2.2.2.1 ux.1.2.2.2.2.2.1 ux.1.2.2.2.2.2.2 ++ mw cA h2 d2 w2 dp nb nw na um.1.2.1 um.2 um.1.2.2.1 um.1.2.2.2.1 um.1.2.2.2.2.2.1 um.1.2.2.2.2.1 um.1.2.2.2.2.2.2) H := hP
        have hD : va_D (fun q : Nat => s.heap.size ≤ q) (xw cA h d w nb nw na ux.1.2.1 ux.2 ux.1.2.2.1 ux.1.2.2.2.1 ux.1.2.2.2.2.1 ux.1.2.2.2.2.2.1 ux.1.2.2.2.2.2.2 ++ mw cA h2 d2 w2 dp nb nw na um.1.2.1 um.2 um.1.2.2.1 um.1.2.2.2.1 um.1.2.2.2.2.2.1 um.1.2.2.2.2.1 um.1.2.2.2.2.2.2) := hD
        refine W.eq (g2 := F0 m 175 ls [.int um.1.1, .int ux.1.1]) rfl ?_
        have hc9 := wrV_cong hG hsl hf (rt := rt) (lf := lf) (wr := wr) (dn := dn) (b := (xs (i + 1))) (i := (xs (i + 2))) (wo := (xs (i + 3)))
        have hs9 : ux.1.2.2.1 ≤ 1 := by rw [hpx]; exact wrV_sl hG hsl
        rw [← hpx, ← hpm] at hc9
        clear hpx hpm
        obtain ⟨⟨r1, f1, s1, t1, l1, w1, n1⟩, g1⟩ := ux
        obtain ⟨⟨r2, f2, s2, t2, l2, w9, n2⟩, g2⟩ := um
        obtain ⟨e1, ef, e2⟩ := hc9
        cases e2
        refine lv_icmp_eq (tgt := 412) hx hb d_L_law_175 (by decide) (fun _hq9 => ?_) (fun hq9 => ?_)
        · skip
          exact next _ _ _ _ _ _ _ _ _ hs9 ef _ _ hP hD hS
        · skip
          exact absurd e1 hq9
      · skip
        refine lv_tableIn (off := 128) (tgt := 180) hx hb d_L_law_52 (by decide) (by decide) rfl (by decide) ?_
        refine lv_aload_n hx hb d_L_law_180 rfl (lv_at hl 2 rfl) ?_
        refine lv_aload_n hx hb d_L_law_181 rfl (lv_at hl 1 rfl) ?_
        refine lv_iload_n hx hb d_L_law_182 rfl (lv_at hl 0 rfl) ?_
        refine lv_iconst (v := nI 1) hx hb d_L_law_183 (by decide) ?_
        refine hs_iadd hx hb d_L_law_184 ?_
        refine hs_sld hx hb hX hbl hbA hS (i := i + 1) (by omega) (by omega) d_L_law_185 ?_
        refine lv_aload_n hx hb d_L_law_186 rfl (lv_at hl 1 rfl) ?_
        refine lv_iload_n hx hb d_L_law_187 rfl (lv_at hl 0 rfl) ?_
        refine lv_iconst (v := nI 2) hx hb d_L_law_188 (by decide) ?_
        refine hs_iadd hx hb d_L_law_189 ?_
        refine hs_sld hx hb hX hbl hbA hS (i := i + 2) (by omega) (by omega) d_L_law_190 ?_
        refine hs_wv (As := [.int (xs (i + 1)), .int (xs (i + 2))]) (rest := []) (wr := mw cA h2 d2 w2 dp nb nw na fm gm sl rt wr lf dn) [0, 1, 2] [3, 4, 5] S9 (c_x_read l D cA h d w nb nw na fx gx sl rt lf wr dn H.size dp (xs (i + 1)) (xs (i + 2)) hG hsl) k_L_x_read h_x_read rfl rfl ⟨Nat.le_of_ble_eq_true rfl, Nat.le_of_ble_eq_true rfl⟩ hK hP hD hS hA rfl rfl rfl rfl (by decide) rfl rfl rfl rfl hl.1 rfl (Nat.le_of_ble_eq_true rfl) d_L_law_191 ⟨Nat.le_of_ble_eq_true rfl, Nat.le_of_ble_eq_true rfl⟩ (fun ux H locs hpx hP hD hS => ?_)
        have hP : va_P D classes (mw cA h2 d2 w2 dp nb nw na fm gm sl rt wr lf dn ++ xw cA h d w nb nw na fx ux sl rt lf wr dn) H := hP
        have hD : va_D (fun q : Nat => s.heap.size ≤ q) (mw cA h2 d2 w2 dp nb nw na fm gm sl rt wr lf dn ++ xw cA h d w nb nw na fx ux sl rt lf wr dn) := hD
        refine W.eq (g2 := F0 m 194 ls [.int (rdV (ar fx na sl) dp nb nw rt dn (xs (i + 1)) (xs (i + 2)))]) rfl ?_
        refine lv_aload_n hx hb d_L_law_194 rfl (lv_at hl 3 rfl) ?_
        refine lv_aload_n hx hb d_L_law_195 rfl (lv_at hl 1 rfl) ?_
        refine lv_iload_n hx hb d_L_law_196 rfl (lv_at hl 0 rfl) ?_
        refine lv_iconst (v := nI 1) hx hb d_L_law_197 (by decide) ?_
        refine hs_iadd hx hb d_L_law_198 ?_
        refine hs_sld hx hb hX hbl hbA hS (i := i + 1) (by omega) (by omega) d_L_law_199 ?_
        refine lv_aload_n hx hb d_L_law_200 rfl (lv_at hl 1 rfl) ?_
        refine lv_iload_n hx hb d_L_law_201 rfl (lv_at hl 0 rfl) ?_
        refine lv_iconst (v := nI 2) hx hb d_L_law_202 (by decide) ?_
        refine hs_iadd hx hb d_L_law_203 ?_
        refine hs_sld hx hb hX hbl hbA hS (i := i + 2) (by omega) (by omega) d_L_law_204 ?_
        refine hs_wv (As := [.int (xs (i + 1)), .int (xs (i + 2))]) (rest := [.int (rdV (ar fx na sl) dp nb nw rt dn (xs (i + 1)) (xs (i + 2)))]) (wr := xw cA h d w nb nw na fx ux sl rt lf wr dn) [0, 1, 2] [3, 4, 5] S9 (c_m_read l D cA h2 d2 w2 dp nb nw na fm gm sl rt wr lf dn H.size (xs (i + 1)) (xs (i + 2)) hG hsl) k_L_m_read h_m_read rfl rfl ⟨Nat.le_of_ble_eq_true rfl, Nat.le_of_ble_eq_true rfl⟩ hK hP hD hS hA rfl rfl rfl rfl (by decide) rfl rfl rfl rfl hl.1 rfl (Nat.le_of_ble_eq_true rfl) d_L_law_205 ⟨Nat.le_of_ble_eq_true rfl, Nat.le_of_ble_eq_true rfl⟩ (fun um H locs hpm hP hD hS => ?_)
        have hP : va_P D classes (xw cA h d w nb nw na fx ux sl rt lf wr dn ++ mw cA h2 d2 w2 dp nb nw na fm um sl rt wr lf dn) H := hP
        have hD : va_D (fun q : Nat => s.heap.size ≤ q) (xw cA h d w nb nw na fx ux sl rt lf wr dn ++ mw cA h2 d2 w2 dp nb nw na fm um sl rt wr lf dn) := hD
        refine W.eq (g2 := F0 m 208 ls [.int (rdV (ar fm na sl) dp nb nw rt dn (xs (i + 1)) (xs (i + 2))), .int (rdV (ar fx na sl) dp nb nw rt dn (xs (i + 1)) (xs (i + 2)))]) rfl ?_
        refine lv_icmp_eq (tgt := 412) hx hb d_L_law_208 (by decide) (fun _hq9 => ?_) (fun hq9 => ?_)
        · skip
          exact next fx ux fm um sl rt lf wr dn hsl hf _ _ hP hD hS
        · skip
          exact absurd (rdV_cong hG hsl hf) hq9
      · skip
        refine lv_tableIn (off := 161) (tgt := 213) hx hb d_L_law_52 (by decide) (by decide) rfl (by decide) ?_
        refine lv_aload_n hx hb d_L_law_213 rfl (lv_at hl 2 rfl) ?_
        refine lv_aload_n hx hb d_L_law_214 rfl (lv_at hl 1 rfl) ?_
        refine lv_iload_n hx hb d_L_law_215 rfl (lv_at hl 0 rfl) ?_
        refine lv_iconst (v := nI 1) hx hb d_L_law_216 (by decide) ?_
        refine hs_iadd hx hb d_L_law_217 ?_
        refine hs_sld hx hb hX hbl hbA hS (i := i + 1) (by omega) (by omega) d_L_law_218 ?_
        refine hs_wv (As := [.int (xs (i + 1))]) (rest := []) (wr := mw cA h2 d2 w2 dp nb nw na fm gm sl rt wr lf dn) [0, 1, 2] [3, 4, 5] S9 (c_x_verify l D cA h d w nb nw na fx gx sl rt lf wr dn H.size dp (xs (i + 1)) hG hsl) k_L_x_verify h_x_verify rfl rfl ⟨Nat.le_of_ble_eq_true rfl, Nat.le_of_ble_eq_true rfl⟩ hK hP hD hS hA rfl rfl rfl rfl (by decide) rfl rfl rfl rfl hl.1 rfl (Nat.le_of_ble_eq_true rfl) d_L_law_219 ⟨Nat.le_of_ble_eq_true rfl, Nat.le_of_ble_eq_true rfl⟩ (fun ux H locs hpx hP hD hS => ?_)
        have hP : va_P D classes (mw cA h2 d2 w2 dp nb nw na fm gm sl rt wr lf dn ++ xw cA h d w nb nw na fx ux sl rt lf wr dn) H := hP
        have hD : va_D (fun q : Nat => s.heap.size ≤ q) (mw cA h2 d2 w2 dp nb nw na fm gm sl rt wr lf dn ++ xw cA h d w nb nw na fx ux sl rt lf wr dn) := hD
        refine W.eq (g2 := F0 m 222 ls [.int (bI (vfV (ar fx na sl) dp nb nw rt dn (xs (i + 1))))]) rfl ?_
        refine lv_aload_n hx hb d_L_law_222 rfl (lv_at hl 3 rfl) ?_
        refine lv_aload_n hx hb d_L_law_223 rfl (lv_at hl 1 rfl) ?_
        refine lv_iload_n hx hb d_L_law_224 rfl (lv_at hl 0 rfl) ?_
        refine lv_iconst (v := nI 1) hx hb d_L_law_225 (by decide) ?_
        refine hs_iadd hx hb d_L_law_226 ?_
        refine hs_sld hx hb hX hbl hbA hS (i := i + 1) (by omega) (by omega) d_L_law_227 ?_
        refine hs_wv (As := [.int (xs (i + 1))]) (rest := [.int (bI (vfV (ar fx na sl) dp nb nw rt dn (xs (i + 1))))]) (wr := xw cA h d w nb nw na fx ux sl rt lf wr dn) [0, 1, 2] [3, 4, 5] S9 (c_m_verify l D cA h2 d2 w2 dp nb nw na fm gm sl rt wr lf dn H.size (xs (i + 1)) hG hsl) k_L_m_verify h_m_verify rfl rfl ⟨Nat.le_of_ble_eq_true rfl, Nat.le_of_ble_eq_true rfl⟩ hK hP hD hS hA rfl rfl rfl rfl (by decide) rfl rfl rfl rfl hl.1 rfl (Nat.le_of_ble_eq_true rfl) d_L_law_228 ⟨Nat.le_of_ble_eq_true rfl, Nat.le_of_ble_eq_true rfl⟩ (fun um H locs hpm hP hD hS => ?_)
        have hP : va_P D classes (xw cA h d w nb nw na fx ux sl rt lf wr dn ++ mw cA h2 d2 w2 dp nb nw na fm um sl rt wr lf dn) H := hP
        have hD : va_D (fun q : Nat => s.heap.size ≤ q) (xw cA h d w nb nw na fx ux sl rt lf wr dn ++ mw cA h2 d2 w2 dp nb nw na fm um sl rt wr lf dn) := hD
        refine W.eq (g2 := F0 m 231 ls [.int (bI (vfV (ar fm na sl) dp nb nw rt dn (xs (i + 1)))), .int (bI (vfV (ar fx na sl) dp nb nw rt dn (xs (i + 1))))]) rfl ?_
        refine lv_icmp_eq (tgt := 412) hx hb d_L_law_231 (by decide) (fun _hq9 => ?_) (fun hq9 => ?_)
        · skip
          exact next fx ux fm um sl rt lf wr dn hsl hf _ _ hP hD hS
        · skip
          exact absurd (congrArg bI (vfV_cong hG hsl hf)) hq9
      · skip
        refine lv_tableIn (off := 184) (tgt := 236) hx hb d_L_law_52 (by decide) (by decide) rfl (by decide) ?_
        refine lv_aload_n hx hb d_L_law_236 rfl (lv_at hl 2 rfl) ?_
        refine hs_rv (As := []) (rest := []) S9 (c_x_root l D cA h d w nb nw na fx gx sl rt lf wr dn ) k_L_x_root h_x_root rfl rfl ⟨Nat.le_of_ble_eq_true rfl, Nat.le_of_ble_eq_true rfl⟩ hK (hP.sub [0, 1, 2] rfl) rfl rfl rfl hl.1 rfl (Nat.le_of_ble_eq_true rfl) d_L_law_237 ⟨Nat.le_of_ble_eq_true rfl, Nat.le_of_ble_eq_true rfl⟩ ?_
        refine lv_aload_n hx hb d_L_law_240 rfl (lv_at hl 3 rfl) ?_
        refine hs_rv (As := []) (rest := [.int rt]) S9 (c_m_root l D cA h2 d2 w2 dp nb nw na fm gm sl rt wr lf dn ) k_L_m_root h_m_root rfl rfl ⟨Nat.le_of_ble_eq_true rfl, Nat.le_of_ble_eq_true rfl⟩ hK (hP.sub [3, 4, 5] rfl) rfl rfl rfl hl.1 rfl (Nat.le_of_ble_eq_true rfl) d_L_law_241 ⟨Nat.le_of_ble_eq_true rfl, Nat.le_of_ble_eq_true rfl⟩ ?_
        refine lv_icmp_eq (tgt := 412) hx hb d_L_law_244 (by decide) (fun _hq9 => ?_) (fun hq9 => ?_)
        · skip
          exact next fx gx fm gm sl rt lf wr dn hsl hf _ _ hP hD hS
        · skip
          exact absurd rfl hq9
      · skip
        refine lv_tableIn (off := 197) (tgt := 249) hx hb d_L_law_52 (by decide) (by decide) rfl (by decide) ?_
        refine lv_aload_n hx hb d_L_law_249 rfl (lv_at hl 2 rfl) ?_
        refine hs_wv (As := []) (rest := []) (wr := mw cA h2 d2 w2 dp nb nw na fm gm sl rt wr lf dn) [0, 1, 2] [3, 4, 5] S9 (c_x_audit l D cA h d w nb nw na fx gx sl rt lf wr dn H.size dp hG hsl) k_L_x_audit h_x_audit rfl rfl ⟨Nat.le_of_ble_eq_true rfl, Nat.le_of_ble_eq_true rfl⟩ hK hP hD hS hA rfl rfl rfl rfl (by decide) rfl rfl rfl rfl hl.1 rfl (Nat.le_of_ble_eq_true rfl) d_L_law_250 ⟨Nat.le_of_ble_eq_true rfl, Nat.le_of_ble_eq_true rfl⟩ (fun ux H locs hpx hP hD hS => ?_)
        have hP : va_P D classes (mw cA h2 d2 w2 dp nb nw na fm gm sl rt wr lf dn ++ xw cA h d w nb nw na fx ux sl rt lf wr dn) H := hP
        have hD : va_D (fun q : Nat => s.heap.size ≤ q) (mw cA h2 d2 w2 dp nb nw na fm gm sl rt wr lf dn ++ xw cA h d w nb nw na fx ux sl rt lf wr dn) := hD
        refine W.eq (g2 := F0 m 253 ls [.int (auV (ar fx na sl) dp nb nw rt dn)]) rfl ?_
        refine lv_aload_n hx hb d_L_law_253 rfl (lv_at hl 3 rfl) ?_
        refine hs_wv (As := []) (rest := [.int (auV (ar fx na sl) dp nb nw rt dn)]) (wr := xw cA h d w nb nw na fx ux sl rt lf wr dn) [0, 1, 2] [3, 4, 5] S9 (c_m_audit l D cA h2 d2 w2 dp nb nw na fm gm sl rt wr lf dn H.size hG hsl) k_L_m_audit h_m_audit rfl rfl ⟨Nat.le_of_ble_eq_true rfl, Nat.le_of_ble_eq_true rfl⟩ hK hP hD hS hA rfl rfl rfl rfl (by decide) rfl rfl rfl rfl hl.1 rfl (Nat.le_of_ble_eq_true rfl) d_L_law_254 ⟨Nat.le_of_ble_eq_true rfl, Nat.le_of_ble_eq_true rfl⟩ (fun um H locs hpm hP hD hS => ?_)
        have hP : va_P D classes (xw cA h d w nb nw na fx ux sl rt lf wr dn ++ mw cA h2 d2 w2 dp nb nw na fm um sl rt wr lf dn) H := hP
        have hD : va_D (fun q : Nat => s.heap.size ≤ q) (xw cA h d w nb nw na fx ux sl rt lf wr dn ++ mw cA h2 d2 w2 dp nb nw na fm um sl rt wr lf dn) := hD
        refine W.eq (g2 := F0 m 257 ls [.int (auV (ar fm na sl) dp nb nw rt dn), .int (auV (ar fx na sl) dp nb nw rt dn)]) rfl ?_
        refine lv_icmp_eq (tgt := 412) hx hb d_L_law_257 (by decide) (fun _hq9 => ?_) (fun hq9 => ?_)
        · skip
          exact next fx ux fm um sl rt lf wr dn hsl hf _ _ hP hD hS
        · skip
          exact absurd (auV_cong hG hsl hf) hq9
      · skip
        refine lv_tableIn (off := 210) (tgt := 262) hx hb d_L_law_52 (by decide) (by decide) rfl (by decide) ?_
        refine lv_aload_n hx hb d_L_law_262 rfl (lv_at hl 2 rfl) ?_
        refine lv_aload_n hx hb d_L_law_263 rfl (lv_at hl 1 rfl) ?_
        refine lv_iload_n hx hb d_L_law_264 rfl (lv_at hl 0 rfl) ?_
        refine lv_iconst (v := nI 1) hx hb d_L_law_265 (by decide) ?_
        refine hs_iadd hx hb d_L_law_266 ?_
        refine hs_sld hx hb hX hbl hbA hS (i := i + 1) (by omega) (by omega) d_L_law_267 ?_
        refine lv_aload_n hx hb d_L_law_268 rfl (lv_at hl 1 rfl) ?_
        refine lv_iload_n hx hb d_L_law_269 rfl (lv_at hl 0 rfl) ?_
        refine lv_iconst (v := nI 2) hx hb d_L_law_270 (by decide) ?_
        refine hs_iadd hx hb d_L_law_271 ?_
        refine hs_sld hx hb hX hbl hbA hS (i := i + 2) (by omega) (by omega) d_L_law_272 ?_
        refine hs_wv (As := [.int (xs (i + 1)), .int (xs (i + 2))]) (rest := []) (wr := mw cA h2 d2 w2 dp nb nw na fm gm sl rt wr lf dn) [0, 1, 2] [3, 4, 5] S9 (c_x_tamper l D cA h d w nb nw na fx gx sl rt lf wr dn H.size (xs (i + 1)) (xs (i + 2)) (by omega)) k_L_x_tamper h_x_tamper rfl rfl ⟨Nat.le_of_ble_eq_true rfl, Nat.le_of_ble_eq_true rfl⟩ hK hP hD hS hA rfl rfl rfl rfl (by decide) rfl rfl rfl rfl hl.1 rfl (Nat.le_of_ble_eq_true rfl) d_L_law_273 ⟨Nat.le_of_ble_eq_true rfl, Nat.le_of_ble_eq_true rfl⟩ (fun ux H locs hpx hP hD hS => ?_)
        have hP : va_P D classes (mw cA h2 d2 w2 dp nb nw na fm gm sl rt wr lf dn ++ xw cA h d w nb nw na ux gx sl rt lf wr dn) H := hP
        have hD : va_D (fun q : Nat => s.heap.size ≤ q) (mw cA h2 d2 w2 dp nb nw na fm gm sl rt wr lf dn ++ xw cA h d w nb nw na ux gx sl rt lf wr dn) := hD
        refine W.eq (g2 := F0 m 276 ls []) rfl ?_
        refine lv_aload_n hx hb d_L_law_276 rfl (lv_at hl 3 rfl) ?_
        refine lv_aload_n hx hb d_L_law_277 rfl (lv_at hl 1 rfl) ?_
        refine lv_iload_n hx hb d_L_law_278 rfl (lv_at hl 0 rfl) ?_
        refine lv_iconst (v := nI 1) hx hb d_L_law_279 (by decide) ?_
        refine hs_iadd hx hb d_L_law_280 ?_
        refine hs_sld hx hb hX hbl hbA hS (i := i + 1) (by omega) (by omega) d_L_law_281 ?_
        refine lv_aload_n hx hb d_L_law_282 rfl (lv_at hl 1 rfl) ?_
        refine lv_iload_n hx hb d_L_law_283 rfl (lv_at hl 0 rfl) ?_
        refine lv_iconst (v := nI 2) hx hb d_L_law_284 (by decide) ?_
        refine hs_iadd hx hb d_L_law_285 ?_
        refine hs_sld hx hb hX hbl hbA hS (i := i + 2) (by omega) (by omega) d_L_law_286 ?_
        refine hs_wv (As := [.int (xs (i + 1)), .int (xs (i + 2))]) (rest := []) (wr := xw cA h d w nb nw na ux gx sl rt lf wr dn) [0, 1, 2] [3, 4, 5] S9 (c_m_tamper l D cA h2 d2 w2 dp nb nw na fm gm sl rt wr lf dn H.size (xs (i + 1)) (xs (i + 2)) (by omega)) k_L_m_tamper h_m_tamper rfl rfl ⟨Nat.le_of_ble_eq_true rfl, Nat.le_of_ble_eq_true rfl⟩ hK hP hD hS hA rfl rfl rfl rfl (by decide) rfl rfl rfl rfl hl.1 rfl (Nat.le_of_ble_eq_true rfl) d_L_law_287 ⟨Nat.le_of_ble_eq_true rfl, Nat.le_of_ble_eq_true rfl⟩ (fun um H locs hpm hP hD hS => ?_)
        have hP : va_P D classes (xw cA h d w nb nw na ux gx sl rt lf wr dn ++ mw cA h2 d2 w2 dp nb nw na um gm sl rt wr lf dn) H := hP
        have hD : va_D (fun q : Nat => s.heap.size ≤ q) (xw cA h d w nb nw na ux gx sl rt lf wr dn ++ mw cA h2 d2 w2 dp nb nw na um gm sl rt wr lf dn) := hD
        refine W.eq (g2 := F0 m 290 ls []) rfl ?_
        refine lv_goto (tgt := 412) hx hb d_L_law_290 (by decide) ?_
        exact next ux gx um gm sl rt lf wr dn hsl (by rw [hpx, hpm]; exact tmV_cong hf) _ _ hP hD hS
      · skip
        refine lv_tableIn (off := 241) (tgt := 293) hx hb d_L_law_52 (by decide) (by decide) rfl (by decide) ?_
        refine lv_aload_n hx hb d_L_law_293 rfl (lv_at hl 2 rfl) ?_
        refine lv_aload_n hx hb d_L_law_294 rfl (lv_at hl 1 rfl) ?_
        refine lv_iload_n hx hb d_L_law_295 rfl (lv_at hl 0 rfl) ?_
        refine lv_iconst (v := nI 1) hx hb d_L_law_296 (by decide) ?_
        refine hs_iadd hx hb d_L_law_297 ?_
        refine hs_sld hx hb hX hbl hbA hS (i := i + 1) (by omega) (by omega) d_L_law_298 ?_
        refine hs_wv (As := [.int (xs (i + 1))]) (rest := []) (wr := mw cA h2 d2 w2 dp nb nw na fm gm sl rt wr lf dn) [0, 1, 2] [3, 4, 5] S9 (c_x_crashAfter l D cA h d w nb nw na fx gx sl rt lf wr dn H.size (xs (i + 1))) k_L_x_crashAfter h_x_crashAfter rfl rfl ⟨Nat.le_of_ble_eq_true rfl, Nat.le_of_ble_eq_true rfl⟩ hK hP hD hS hA rfl rfl rfl rfl (by decide) rfl rfl rfl rfl hl.1 rfl (Nat.le_of_ble_eq_true rfl) d_L_law_299 ⟨Nat.le_of_ble_eq_true rfl, Nat.le_of_ble_eq_true rfl⟩ (fun ux H locs hpx hP hD hS => ?_)
        have hP : va_P D classes (mw cA h2 d2 w2 dp nb nw na fm gm sl rt wr lf dn ++ xw cA h d w nb nw na fx gx sl rt ux wr dn) H := hP
        have hD : va_D (fun q : Nat => s.heap.size ≤ q) (mw cA h2 d2 w2 dp nb nw na fm gm sl rt wr lf dn ++ xw cA h d w nb nw na fx gx sl rt ux wr dn) := hD
        refine W.eq (g2 := F0 m 302 ls []) rfl ?_
        refine lv_aload_n hx hb d_L_law_302 rfl (lv_at hl 3 rfl) ?_
        refine lv_aload_n hx hb d_L_law_303 rfl (lv_at hl 1 rfl) ?_
        refine lv_iload_n hx hb d_L_law_304 rfl (lv_at hl 0 rfl) ?_
        refine lv_iconst (v := nI 1) hx hb d_L_law_305 (by decide) ?_
        refine hs_iadd hx hb d_L_law_306 ?_
        refine hs_sld hx hb hX hbl hbA hS (i := i + 1) (by omega) (by omega) d_L_law_307 ?_
        refine hs_wv (As := [.int (xs (i + 1))]) (rest := []) (wr := xw cA h d w nb nw na fx gx sl rt ux wr dn) [0, 1, 2] [3, 4, 5] S9 (c_m_crashAfter l D cA h2 d2 w2 dp nb nw na fm gm sl rt wr lf dn H.size (xs (i + 1))) k_L_m_crashAfter h_m_crashAfter rfl rfl ⟨Nat.le_of_ble_eq_true rfl, Nat.le_of_ble_eq_true rfl⟩ hK hP hD hS hA rfl rfl rfl rfl (by decide) rfl rfl rfl rfl hl.1 rfl (Nat.le_of_ble_eq_true rfl) d_L_law_308 ⟨Nat.le_of_ble_eq_true rfl, Nat.le_of_ble_eq_true rfl⟩ (fun um H locs hpm hP hD hS => ?_)
        have hP : va_P D classes (xw cA h d w nb nw na fx gx sl rt ux wr dn ++ mw cA h2 d2 w2 dp nb nw na fm gm sl rt wr um dn) H := hP
        have hD : va_D (fun q : Nat => s.heap.size ≤ q) (xw cA h d w nb nw na fx gx sl rt ux wr dn ++ mw cA h2 d2 w2 dp nb nw na fm gm sl rt wr um dn) := hD
        refine W.eq (g2 := F0 m 311 ls []) rfl ?_
        refine lv_goto (tgt := 412) hx hb d_L_law_311 (by decide) ?_
        have e9 : um = ux := by rw [hpm, hpx]
        subst e9
        exact next fx gx fm gm sl rt um wr dn hsl hf _ _ hP hD hS
      · skip
        refine lv_tableIn (off := 262) (tgt := 314) hx hb d_L_law_52 (by decide) (by decide) rfl (by decide) ?_
        refine lv_aload_n hx hb d_L_law_314 rfl (lv_at hl 2 rfl) ?_
        refine lv_aload_n hx hb d_L_law_315 rfl (lv_at hl 1 rfl) ?_
        refine lv_iload_n hx hb d_L_law_316 rfl (lv_at hl 0 rfl) ?_
        refine lv_iconst (v := nI 1) hx hb d_L_law_317 (by decide) ?_
        refine hs_iadd hx hb d_L_law_318 ?_
        refine hs_sld hx hb hX hbl hbA hS (i := i + 1) (by omega) (by omega) d_L_law_319 ?_
        refine hs_wv (As := [.int (xs (i + 1))]) (rest := []) (wr := mw cA h2 d2 w2 dp nb nw na fm gm sl rt wr lf dn) [0, 1, 2] [3, 4, 5] S9 (c_x_recover l D cA h d w nb nw na fx gx sl rt lf wr dn H.size dp (xs (i + 1)) hG) k_L_x_recover h_x_recover rfl rfl ⟨Nat.le_of_ble_eq_true rfl, Nat.le_of_ble_eq_true rfl⟩ hK hP hD hS hA rfl rfl rfl rfl (by decide) rfl rfl rfl rfl hl.1 rfl (Nat.le_of_ble_eq_true rfl) d_L_law_320 ⟨Nat.le_of_ble_eq_true rfl, Nat.le_of_ble_eq_true rfl⟩ (fun ux H locs hpx hP hD hS => ?_)
        have hP : va_P D classes (mw cA h2 d2 w2 dp nb nw na fm gm sl rt wr lf dn ++ xw cA h d w nb nw na fx gx ux.2.1 ux.2.2.1 ux.2.2.2.1 wr ux.2.2.2.2) H := hP
        have hD : va_D (fun q : Nat => s.heap.size ≤ q) (mw cA h2 d2 w2 dp nb nw na fm gm sl rt wr lf dn ++ xw cA h d w nb nw na fx gx ux.2.1 ux.2.2.1 ux.2.2.2.1 wr ux.2.2.2.2) := hD
        refine W.eq (g2 := F0 m 323 ls [.int ux.1]) rfl ?_
        refine lv_aload_n hx hb d_L_law_323 rfl (lv_at hl 3 rfl) ?_
        refine lv_aload_n hx hb d_L_law_324 rfl (lv_at hl 1 rfl) ?_
        refine lv_iload_n hx hb d_L_law_325 rfl (lv_at hl 0 rfl) ?_
        refine lv_iconst (v := nI 1) hx hb d_L_law_326 (by decide) ?_
        refine hs_iadd hx hb d_L_law_327 ?_
        refine hs_sld hx hb hX hbl hbA hS (i := i + 1) (by omega) (by omega) d_L_law_328 ?_
        refine hs_wv (As := [.int (xs (i + 1))]) (rest := [.int ux.1]) (wr := xw cA h d w nb nw na fx gx ux.2.1 ux.2.2.1 ux.2.2.2.1 wr ux.2.2.2.2) [0, 1, 2] [3, 4, 5] S9 (c_m_recover l D cA h2 d2 w2 dp nb nw na fm gm sl rt wr lf dn H.size (xs (i + 1)) hG) k_L_m_recover h_m_recover rfl rfl ⟨Nat.le_of_ble_eq_true rfl, Nat.le_of_ble_eq_true rfl⟩ hK hP hD hS hA rfl rfl rfl rfl (by decide) rfl rfl rfl rfl hl.1 rfl (Nat.le_of_ble_eq_true rfl) d_L_law_329 ⟨Nat.le_of_ble_eq_true rfl, Nat.le_of_ble_eq_true rfl⟩ (fun um H locs hpm hP hD hS => ?_)
        have hP : va_P D classes (xw cA h d w nb nw na fx gx ux.2.1 ux.2.2.1 ux.2.2.2.1 wr ux.2.2.2.2 ++ mw cA h2 d2 w2 dp nb nw na fm gm um.2.1 um.2.2.1 wr um.2.2.2.1 um.2.2.2.2) H := hP
        have hD : va_D (fun q : Nat => s.heap.size ≤ q) (xw cA h d w nb nw na fx gx ux.2.1 ux.2.2.1 ux.2.2.2.1 wr ux.2.2.2.2 ++ mw cA h2 d2 w2 dp nb nw na fm gm um.2.1 um.2.2.1 wr um.2.2.2.1 um.2.2.2.2) := hD
        refine W.eq (g2 := F0 m 332 ls [.int um.1, .int ux.1]) rfl ?_
        have e9 : um = ux := by rw [hpm, hpx, rcV_cong hG hf]
        have hs9 : ux.2.1 ≤ 1 := by rw [hpx]; exact rcV_sl hsl
        subst e9
        refine lv_icmp_eq (tgt := 412) hx hb d_L_law_332 (by decide) (fun _hq9 => ?_) (fun hq9 => ?_)
        · skip
          exact next fx gx fm gm um.2.1 um.2.2.1 um.2.2.2.1 wr um.2.2.2.2 hs9 hf _ _ hP hD hS
        · skip
          exact absurd rfl hq9
      · skip
        refine lv_tableIn (off := 285) (tgt := 337) hx hb d_L_law_52 (by decide) (by decide) rfl (by decide) ?_
        refine lv_aload_n hx hb d_L_law_337 rfl (lv_at hl 2 rfl) ?_
        refine hs_rv (As := []) (rest := []) S9 (c_x_cells l D cA h d w nb nw na fx gx sl rt lf wr dn ) k_L_x_cells h_x_cells rfl rfl ⟨Nat.le_of_ble_eq_true rfl, Nat.le_of_ble_eq_true rfl⟩ hK (hP.sub [0, 1, 2] rfl) rfl rfl rfl hl.1 rfl (Nat.le_of_ble_eq_true rfl) d_L_law_338 ⟨Nat.le_of_ble_eq_true rfl, Nat.le_of_ble_eq_true rfl⟩ ?_
        refine lv_aload_n hx hb d_L_law_341 rfl (lv_at hl 3 rfl) ?_
        refine hs_rv (As := []) (rest := [.int (nI (2 * na))]) S9 (c_m_cells l D cA h2 d2 w2 dp nb nw na fm gm sl rt wr lf dn ) k_L_m_cells h_m_cells rfl rfl ⟨Nat.le_of_ble_eq_true rfl, Nat.le_of_ble_eq_true rfl⟩ hK (hP.sub [3, 4, 5] rfl) rfl rfl rfl hl.1 rfl (Nat.le_of_ble_eq_true rfl) d_L_law_342 ⟨Nat.le_of_ble_eq_true rfl, Nat.le_of_ble_eq_true rfl⟩ ?_
        refine lv_icmp_eq (tgt := 412) hx hb d_L_law_345 (by decide) (fun _hq9 => ?_) (fun hq9 => ?_)
        · skip
          exact next fx gx fm gm sl rt lf wr dn hsl hf _ _ hP hD hS
        · skip
          exact absurd rfl hq9
      · skip
        refine lv_tableIn (off := 298) (tgt := 350) hx hb d_L_law_52 (by decide) (by decide) rfl (by decide) ?_
        refine lv_aload_n hx hb d_L_law_350 rfl (lv_at hl 2 rfl) ?_
        refine lv_aload_n hx hb d_L_law_351 rfl (lv_at hl 1 rfl) ?_
        refine lv_iload_n hx hb d_L_law_352 rfl (lv_at hl 0 rfl) ?_
        refine lv_iconst (v := nI 1) hx hb d_L_law_353 (by decide) ?_
        refine hs_iadd hx hb d_L_law_354 ?_
        refine hs_sld hx hb hX hbl hbA hS (i := i + 1) (by omega) (by omega) d_L_law_355 ?_
        refine hs_rv (As := [.int (xs (i + 1))]) (rest := []) S9 (c_x_peek l D cA h d w nb nw na fx gx sl rt lf wr dn (xs (i + 1)) (by omega)) k_L_x_peek h_x_peek rfl rfl ⟨Nat.le_of_ble_eq_true rfl, Nat.le_of_ble_eq_true rfl⟩ hK (hP.sub [0, 1, 2] rfl) rfl rfl rfl hl.1 rfl (Nat.le_of_ble_eq_true rfl) d_L_law_356 ⟨Nat.le_of_ble_eq_true rfl, Nat.le_of_ble_eq_true rfl⟩ ?_
        refine lv_aload_n hx hb d_L_law_359 rfl (lv_at hl 3 rfl) ?_
        refine lv_aload_n hx hb d_L_law_360 rfl (lv_at hl 1 rfl) ?_
        refine lv_iload_n hx hb d_L_law_361 rfl (lv_at hl 0 rfl) ?_
        refine lv_iconst (v := nI 1) hx hb d_L_law_362 (by decide) ?_
        refine hs_iadd hx hb d_L_law_363 ?_
        refine hs_sld hx hb hX hbl hbA hS (i := i + 1) (by omega) (by omega) d_L_law_364 ?_
        refine hs_rv (As := [.int (xs (i + 1))]) (rest := [.int (pkV fx na (xs (i + 1)))]) S9 (c_m_peek l D cA h2 d2 w2 dp nb nw na fm gm sl rt wr lf dn (xs (i + 1)) (by omega)) k_L_m_peek h_m_peek rfl rfl ⟨Nat.le_of_ble_eq_true rfl, Nat.le_of_ble_eq_true rfl⟩ hK (hP.sub [3, 4, 5] rfl) rfl rfl rfl hl.1 rfl (Nat.le_of_ble_eq_true rfl) d_L_law_365 ⟨Nat.le_of_ble_eq_true rfl, Nat.le_of_ble_eq_true rfl⟩ ?_
        refine lv_icmp_eq (tgt := 412) hx hb d_L_law_368 (by decide) (fun _hq9 => ?_) (fun hq9 => ?_)
        · skip
          exact next fx gx fm gm sl rt lf wr dn hsl hf _ _ hP hD hS
        · skip
          exact absurd (pkV_cong (by omega) hf) hq9
      · skip
        refine lv_tableIn (off := 321) (tgt := 373) hx hb d_L_law_52 (by decide) (by decide) rfl (by decide) ?_
        refine lv_aload_n hx hb d_L_law_373 rfl (lv_at hl 2 rfl) ?_
        refine hs_rv (As := []) (rest := []) S9 (c_x_writes l D cA h d w nb nw na fx gx sl rt lf wr dn ) k_L_x_writes h_x_writes rfl rfl ⟨Nat.le_of_ble_eq_true rfl, Nat.le_of_ble_eq_true rfl⟩ hK (hP.sub [0, 1, 2] rfl) rfl rfl rfl hl.1 rfl (Nat.le_of_ble_eq_true rfl) d_L_law_374 ⟨Nat.le_of_ble_eq_true rfl, Nat.le_of_ble_eq_true rfl⟩ ?_
        refine lv_aload_n hx hb d_L_law_377 rfl (lv_at hl 3 rfl) ?_
        refine hs_rv (As := []) (rest := [.int wr]) S9 (c_m_writes l D cA h2 d2 w2 dp nb nw na fm gm sl rt wr lf dn ) k_L_m_writes h_m_writes rfl rfl ⟨Nat.le_of_ble_eq_true rfl, Nat.le_of_ble_eq_true rfl⟩ hK (hP.sub [3, 4, 5] rfl) rfl rfl rfl hl.1 rfl (Nat.le_of_ble_eq_true rfl) d_L_law_378 ⟨Nat.le_of_ble_eq_true rfl, Nat.le_of_ble_eq_true rfl⟩ ?_
        refine lv_icmp_eq (tgt := 412) hx hb d_L_law_381 (by decide) (fun _hq9 => ?_) (fun hq9 => ?_)
        · skip
          exact next fx gx fm gm sl rt lf wr dn hsl hf _ _ hP hD hS
        · skip
          exact absurd rfl hq9
      · skip
        refine lv_tableIn (off := 334) (tgt := 386) hx hb d_L_law_52 (by decide) (by decide) rfl (by decide) ?_
        refine lv_aload_n hx hb d_L_law_386 rfl (lv_at hl 2 rfl) ?_
        refine hs_rv (As := []) (rest := []) S9 (c_x_slot l D cA h d w nb nw na fx gx sl rt lf wr dn ) k_L_x_slot h_x_slot rfl rfl ⟨Nat.le_of_ble_eq_true rfl, Nat.le_of_ble_eq_true rfl⟩ hK (hP.sub [0, 1, 2] rfl) rfl rfl rfl hl.1 rfl (Nat.le_of_ble_eq_true rfl) d_L_law_387 ⟨Nat.le_of_ble_eq_true rfl, Nat.le_of_ble_eq_true rfl⟩ ?_
        refine lv_aload_n hx hb d_L_law_390 rfl (lv_at hl 3 rfl) ?_
        refine hs_rv (As := []) (rest := [.int (nI sl)]) S9 (c_m_slot l D cA h2 d2 w2 dp nb nw na fm gm sl rt wr lf dn ) k_L_m_slot h_m_slot rfl rfl ⟨Nat.le_of_ble_eq_true rfl, Nat.le_of_ble_eq_true rfl⟩ hK (hP.sub [3, 4, 5] rfl) rfl rfl rfl hl.1 rfl (Nat.le_of_ble_eq_true rfl) d_L_law_391 ⟨Nat.le_of_ble_eq_true rfl, Nat.le_of_ble_eq_true rfl⟩ ?_
        refine lv_icmp_eq (tgt := 412) hx hb d_L_law_394 (by decide) (fun _hq9 => ?_) (fun hq9 => ?_)
        · skip
          exact next fx gx fm gm sl rt lf wr dn hsl hf _ _ hP hD hS
        · skip
          exact absurd rfl hq9
      · skip
        refine lv_tableIn (off := 347) (tgt := 399) hx hb d_L_law_52 (by decide) (by decide) rfl (by decide) ?_
        refine lv_aload_n hx hb d_L_law_399 rfl (lv_at hl 2 rfl) ?_
        refine hs_rv (As := []) (rest := []) S9 (c_x_down l D cA h d w nb nw na fx gx sl rt lf wr dn ) k_L_x_down h_x_down rfl rfl ⟨Nat.le_of_ble_eq_true rfl, Nat.le_of_ble_eq_true rfl⟩ hK (hP.sub [0, 1, 2] rfl) rfl rfl rfl hl.1 rfl (Nat.le_of_ble_eq_true rfl) d_L_law_400 ⟨Nat.le_of_ble_eq_true rfl, Nat.le_of_ble_eq_true rfl⟩ ?_
        refine lv_aload_n hx hb d_L_law_403 rfl (lv_at hl 3 rfl) ?_
        refine hs_rv (As := []) (rest := [.int (bI dn)]) S9 (c_m_down l D cA h2 d2 w2 dp nb nw na fm gm sl rt wr lf dn ) k_L_m_down h_m_down rfl rfl ⟨Nat.le_of_ble_eq_true rfl, Nat.le_of_ble_eq_true rfl⟩ hK (hP.sub [3, 4, 5] rfl) rfl rfl rfl hl.1 rfl (Nat.le_of_ble_eq_true rfl) d_L_law_404 ⟨Nat.le_of_ble_eq_true rfl, Nat.le_of_ble_eq_true rfl⟩ ?_
        refine lv_icmp_eq (tgt := 412) hx hb d_L_law_407 (by decide) (fun _hq9 => ?_) (fun hq9 => ?_)
        · skip
          exact next fx gx fm gm sl rt lf wr dn hsl hf _ _ hP hD hS
        · skip
          exact absurd rfl hq9
      · skip
        refine lv_tableOut (tgt := 412) hx hb d_L_law_52 (by decide) (by decide) ?_
        exact next fx gx fm gm sl rt lf wr dn hsl hf _ _ hP hD hS
      · skip
        refine lv_tableOut (tgt := 412) hx hb d_L_law_52 (by decide) (by decide) ?_
        exact next fx gx fm gm sl rt lf wr dn hsl hf _ _ hP hD hS
end
section
set_option maxHeartbeats 4000000 in
set_option maxRecDepth 100000 in
/-- from the entry, for every script of at most 2050 ints, the law comes to its end with true -/
theorem whole_start {p : Program} {e : Env} {s : State} {m : MethodId} {below : List Frame} {meth : Method} {c : Code} (l : Launch) {b L : Nat} {xs : Nat → Int32} (hL : L ≤ 2050) (C0 : lw_At p s m meth c b L xs) : W p l e room_1 s m #[Value.ref b] below meth c s.heap [] 0 0 (lw_Z below #[Value.ref b] s) (entryFrame m ([Value.ref b] : List Value).toArray 4) := by
  obtain ⟨hx, hb, hr, hml, hown, hts0, hX, hbl, hlocks, hgv⟩ := id C0
  have hts : ∀ w ∈ gw, w.before _ s = true := fun w hw => hts0 w (List.mem_filter.mp hw).1
  have S9 : CallFix p m c code 4 s #[Value.ref b] gw R_law := ⟨hx, hb, hml, hown, hts⟩
  have hA : ∀ q : Nat, s.heap.size ≤ q → (fun q : Nat => s.heap.size ≤ q) q := fun _ h => h
  have hbA : ¬ (fun q : Nat => s.heap.size ≤ q) b := Nat.not_le.mpr hbl
  obtain ⟨c0, iS0, hKn0⟩ := u_known (C := R_x) (T := F_x) (N := 10) (n := 10) hts i_x (hts0 (.instantiable R_x 10) (by decide +kernel))
  obtain ⟨c1, iS1, hKn1⟩ := u_known (C := R_m) (T := F_m) (N := 11) (n := 11) hts i_m (hts0 (.instantiable R_m 11) (by decide +kernel))
  obtain ⟨D, hKc⟩ : ∃ (D : va_G), ∀ (k : Nat) (q : vw_C), classes[k]? = some q → u_Kn s q.1 q.2.1 q.2.2 (D.1 k) (D.2 k) := by
    refine ⟨(fun k => if k = 0 then c0 else c1, fun k => if k = 0 then iS0 else iS1), ?_⟩
    intro k q hq
    match k, hq with
    | 0, hq => cases hq; exact hKn0
    | 1, hq => cases hq; exact hKn1
    | k + 2, hq => simp [classes] at hq
  obtain ⟨cA, hc1, hc2⟩ := int_arr (hts (.arrayClass .int) (by decide +kernel))
  have hK : va_K D classes [(cA, .int)] s := ⟨hKc, fun k q hq => by
    match k, hq with
    | 0, hq => cases hq; exact ⟨hc1, hc2⟩
    | k + 1, hq => simp at hq⟩
  have hS : va_S (fun q : Nat => s.heap.size ≤ q) s.heap s.heap [] := va_S.rf
  have hP : va_P D classes [] s.heap := fun k q h => by simp at h
  have hD : va_D (fun q : Nat => s.heap.size ≤ q) [] := ⟨fun i j p q h => by simp at h, fun k q h => by simp at h⟩
  obtain ⟨dp, hd5, hdp⟩ := cl_dp (if 0 < L then xs 0 else 0)
  obtain ⟨nw, hw1, hw6, hnw⟩ := cl_nw (if 1 < L then xs 1 else 0)
  obtain ⟨nb, hnb⟩ : ∃ z, z = 2 ^ dp := ⟨_, rfl⟩
  obtain ⟨na, hna⟩ : ∃ z, z = nb * nw + 2 * nb - 1 := ⟨_, rfl⟩
  have hG : hsG dp nb nw na := ⟨hd5, hnb, hw1, hw6, by have := Nat.two_pow_pos dp; omega⟩
  have hl := lv_entry ([.ref b]) (n := 4) (Nat.le_of_ble_eq_true rfl)
  rw [lg_entry_eq]
  generalize (lg_sl ([.ref b]) ++ List.replicate (4 - (lg_sl ([.ref b])).length) Slot.unset).toArray = ls at hl ⊢
  have hl : lv_has ls 4 [(0, .ref b)] := hl
  refine va_new (ci := 0) (fs := xo0) (C := R_x) (T := F_x) (N := 10) hx hb hts i_x t_x t_x_ok hown (hts0 (.classLink R_law 7 R_x) (by decide +kernel)) (hts0 (.instantiable R_x 10) (by decide +kernel)) (hts0 (.initialized R_x) (by decide +kernel)) hK hP hD hS hA rfl (fun j hj => by rcases (show j = 0 ∨ j = 1 ∨ j = 2 ∨ j = 3 ∨ j = 4 ∨ j = 5 ∨ j = 6 ∨ j = 7 ∨ j = 8 ∨ j = 9 by omega) with rfl | rfl | rfl | rfl | rfl | rfl | rfl | rfl | rfl | rfl <;> rfl) (Nat.le_of_ble_eq_true rfl) (Nat.le_of_ble_eq_true rfl) d_L_law_0 (fun qx H hP hD hS => ?_)
  have hP : va_P D classes ([(qx, .inr (0, xo0))]) H := hP
  have hD : va_D (fun q : Nat => s.heap.size ≤ q) ([(qx, .inr (0, xo0))]) := hD
  refine W.widen (k := 1) (n := 10) (by decide) (by decide) ?_
  refine lv_dup hx hb d_L_law_3 rfl ?_
  refine lv_aload_n hx hb d_L_law_4 rfl (lv_at hl 0 rfl) ?_
  refine lv_iconst (v := nI 0) hx hb d_L_law_5 (by decide) ?_
  refine hs_rX (As := [.ref b, .int (nI 0)]) (rest := [.ref qx, .ref qx]) S9 (c_L_cell l b L xs 0 (by omega) (by decide)) k_L_L_cell h_L_cell rfl rfl ⟨Nat.le_of_ble_eq_true rfl, Nat.le_of_ble_eq_true rfl⟩ hX hbl hbA hS rfl hl.1 rfl (Nat.le_of_ble_eq_true rfl) d_L_law_6 ⟨Nat.le_of_ble_eq_true rfl, Nat.le_of_ble_eq_true rfl⟩ ?_
  refine lv_aload_n hx hb d_L_law_9 rfl (lv_at hl 0 rfl) ?_
  refine lv_iconst (v := nI 1) hx hb d_L_law_10 (by decide) ?_
  refine hs_rX (As := [.ref b, .int (nI 1)]) (rest := [.int (if 0 < L then xs 0 else 0), .ref qx, .ref qx]) S9 (c_L_cell l b L xs 1 (by omega) (by decide)) k_L_L_cell h_L_cell rfl rfl ⟨Nat.le_of_ble_eq_true rfl, Nat.le_of_ble_eq_true rfl⟩ hX hbl hbA hS rfl hl.1 rfl (Nat.le_of_ble_eq_true rfl) d_L_law_11 ⟨Nat.le_of_ble_eq_true rfl, Nat.le_of_ble_eq_true rfl⟩ ?_
  refine hs_wi (As := [.int (if 0 < L then xs 0 else 0), .int (if 1 < L then xs 1 else 0)]) (rest := [.ref qx]) (wr := []) [0] [] S9 (c_x_init l D cA qx H.size (if 0 < L then xs 0 else 0) (if 1 < L then xs 1 else 0) dp nb nw na hG hdp hnw) k_L_x_init h_x_init rfl rfl ⟨Nat.le_of_ble_eq_true rfl, Nat.le_of_ble_eq_true rfl⟩ hK hP hD hS hA rfl rfl rfl rfl (by decide) rfl rfl hl.1 rfl (Nat.le_of_ble_eq_true rfl) d_L_law_14 ⟨Nat.le_of_ble_eq_true rfl, Nat.le_of_ble_eq_true rfl⟩ (fun ux H locs hpx hP hD hS => ?_)
  have hP : va_P D classes (xw cA qx ux.2.1 ux.2.2 nb nw na ux.1 (fun _ => 0) 0 (mkF nb nw (nb * nw)) (-1) 0 false) H := hP
  have hD : va_D (fun q : Nat => s.heap.size ≤ q) (xw cA qx ux.2.1 ux.2.2 nb nw na ux.1 (fun _ => 0) 0 (mkF nb nw (nb * nw)) (-1) 0 false) := hD
  refine W.widen (k := 3) (n := 610) (by decide) (by decide) ?_
  refine W.eq (g2 := F0 m 17 ls [.ref qx]) rfl ?_
  refine lv_astore_n (lv' := [(1, .ref qx), (0, .ref b)]) hx hb d_L_law_17 rfl hl (by decide) rfl (fun ls hl => ?_)
  refine va_new (ci := 1) (fs := mo0) (C := R_m) (T := F_m) (N := 11) hx hb hts i_m t_m t_m_ok hown (hts0 (.classLink R_law 18 R_m) (by decide +kernel)) (hts0 (.instantiable R_m 11) (by decide +kernel)) (hts0 (.initialized R_m) (by decide +kernel)) hK hP hD hS hA rfl (fun j hj => by rcases (show j = 0 ∨ j = 1 ∨ j = 2 ∨ j = 3 ∨ j = 4 ∨ j = 5 ∨ j = 6 ∨ j = 7 ∨ j = 8 ∨ j = 9 ∨ j = 10 by omega) with rfl | rfl | rfl | rfl | rfl | rfl | rfl | rfl | rfl | rfl | rfl <;> rfl) (Nat.le_of_ble_eq_true rfl) (Nat.le_of_ble_eq_true rfl) d_L_law_18 (fun qm H hP hD hS => ?_)
  have hP : va_P D classes (xw cA qx ux.2.1 ux.2.2 nb nw na ux.1 (fun _ => 0) 0 (mkF nb nw (nb * nw)) (-1) 0 false ++ [(qm, .inr (1, mo0))]) H := hP
  have hD : va_D (fun q : Nat => s.heap.size ≤ q) (xw cA qx ux.2.1 ux.2.2 nb nw na ux.1 (fun _ => 0) 0 (mkF nb nw (nb * nw)) (-1) 0 false ++ [(qm, .inr (1, mo0))]) := hD
  refine W.widen (k := 4) (n := 700) (by decide) (by decide) ?_
  refine lv_dup hx hb d_L_law_21 rfl ?_
  refine lv_aload_n hx hb d_L_law_22 rfl (lv_at hl 1 rfl) ?_
  refine lv_iconst (v := nI 0) hx hb d_L_law_23 (by decide) ?_
  refine hs_rX (As := [.ref b, .int (nI 0)]) (rest := [.ref qm, .ref qm]) S9 (c_L_cell l b L xs 0 (by omega) (by decide)) k_L_L_cell h_L_cell rfl rfl ⟨Nat.le_of_ble_eq_true rfl, Nat.le_of_ble_eq_true rfl⟩ hX hbl hbA hS rfl hl.1 rfl (Nat.le_of_ble_eq_true rfl) d_L_law_24 ⟨Nat.le_of_ble_eq_true rfl, Nat.le_of_ble_eq_true rfl⟩ ?_
  refine lv_aload_n hx hb d_L_law_27 rfl (lv_at hl 1 rfl) ?_
  refine lv_iconst (v := nI 1) hx hb d_L_law_28 (by decide) ?_
  refine hs_rX (As := [.ref b, .int (nI 1)]) (rest := [.int (if 0 < L then xs 0 else 0), .ref qm, .ref qm]) S9 (c_L_cell l b L xs 1 (by omega) (by decide)) k_L_L_cell h_L_cell rfl rfl ⟨Nat.le_of_ble_eq_true rfl, Nat.le_of_ble_eq_true rfl⟩ hX hbl hbA hS rfl hl.1 rfl (Nat.le_of_ble_eq_true rfl) d_L_law_29 ⟨Nat.le_of_ble_eq_true rfl, Nat.le_of_ble_eq_true rfl⟩ ?_
  refine hs_wi (As := [.int (if 0 < L then xs 0 else 0), .int (if 1 < L then xs 1 else 0)]) (rest := [.ref qm]) (wr := xw cA qx ux.2.1 ux.2.2 nb nw na ux.1 (fun _ => 0) 0 (mkF nb nw (nb * nw)) (-1) 0 false) [3] [0, 1, 2] S9 (c_m_init l D cA qm H.size (if 0 < L then xs 0 else 0) (if 1 < L then xs 1 else 0) dp nb nw na hG hdp hnw) k_L_m_init h_m_init rfl rfl ⟨Nat.le_of_ble_eq_true rfl, Nat.le_of_ble_eq_true rfl⟩ hK hP hD hS hA rfl rfl rfl rfl (by decide) rfl rfl hl.1 rfl (Nat.le_of_ble_eq_true rfl) d_L_law_32 ⟨Nat.le_of_ble_eq_true rfl, Nat.le_of_ble_eq_true rfl⟩ (fun um H locs hpm hP hD hS => ?_)
  have hP : va_P D classes (xw cA qx ux.2.1 ux.2.2 nb nw na ux.1 (fun _ => 0) 0 (mkF nb nw (nb * nw)) (-1) 0 false ++ mw cA qm um.2.2.1 um.2.2.2 dp nb nw na um.1 um.2.1 0 (mkF nb nw (nb * nw)) 0 (-1) false) H := hP
  have hD : va_D (fun q : Nat => s.heap.size ≤ q) (xw cA qx ux.2.1 ux.2.2 nb nw na ux.1 (fun _ => 0) 0 (mkF nb nw (nb * nw)) (-1) 0 false ++ mw cA qm um.2.2.1 um.2.2.2 dp nb nw na um.1 um.2.1 0 (mkF nb nw (nb * nw)) 0 (-1) false) := hD
  refine W.widen (k := 6) (n := 2000) (by decide) (by decide) ?_
  refine W.eq (g2 := F0 m 35 ls [.ref qm]) rfl ?_
  refine lv_astore_n (lv' := [(2, .ref qm), (1, .ref qx), (0, .ref b)]) hx hb d_L_law_35 rfl hl (by decide) rfl (fun ls hl => ?_)
  refine lv_iconst (v := nI 2) hx hb d_L_law_36 (by decide) ?_
  refine lv_istore_n (lv' := [(3, .int (nI 2)), (2, .ref qm), (1, .ref qx), (0, .ref b)]) hx hb d_L_law_37 rfl hl (by decide) rfl (fun ls hl => ?_)
  exact law_loop hL C0 hG hK 3000 2 (by decide) (by decide) ux.1 (fun _ => 0) um.1 um.2.1 0 (mkF nb nw (nb * nw)) (-1) 0 false (Nat.zero_le 1) (fun j hj => (hpx j hj).trans (hpm j hj).symm) _ _ hP hD hS ls (lv_sub hl [0, 3, 2, 1] rfl)
end
section
set_option maxHeartbeats 4000000 in
theorem lw_walk (l : Launch) (b : Addr) (xs : List Int32) : MetFree l x (headSpec (Jvm.Cond.code x code maxLocals ret :: tables_1) room_1) (lw_P b xs) (fun _ _ _ _ _ => True) lw_Q := by
  refine MetFree.of_bodyS (code := code) (maxLocals := maxLocals) (ret := ret) (by decide) ?_ ?_
  · intro args s m h hn
    obtain ⟨meth, c, h1, h2, h3, h4, h5, h6, -, -⟩ := Cond.code_spec hn (atoms_spec (ws := Jvm.Cond.code x code maxLocals ret :: tables_1) h _ List.mem_cons_self)
    exact ⟨meth, c, h1, h2, h3, h4, h5, h6⟩
  · intro p e s m args below meth c s₁ B hml0 hP _
    obtain ⟨rfl, hx, hbd, hgv⟩ := hP
    obtain ⟨scr, harrAt, hlist, hof, hsmall⟩ := hx
    obtain ⟨hcb, hkn, -, -⟩ := State.arrayAt?_spec harrAt
    have hown : s.vm.findClass R_law = some m.cls := findClass_of_methodNamed B.named
    have hts0 : ∀ c ∈ (Jvm.Cond.code x code maxLocals ret :: tables_1), c.before #[Value.ref b] s = true := atoms_spec (ws := Jvm.Cond.code x code maxLocals ret :: tables_1) B.pre
    have hts : ∀ w ∈ lw_tbl, w.before #[Value.ref b] s = true := k2_hts_sels lw_privs (fun w hw => hts0 w (List.mem_cons_of_mem _ hw)) lw_privs_ok
    have hml : c.maxLocals = 4 := B.maxLocals_eq (hts0 _ List.mem_cons_self)
    have X₀ : Stand p l e room_1 s m #[Value.ref b] below meth c s₁ [] 0 0 := Stand.of_body B
    have hh0 : s₁.heap = s.heap := by rw [B.state]; rfl
    have hsz : scr.slots.size = xs.length := by rw [← Array.length_toList, hlist, List.length_map]
    have hval : ∀ j : Nat, j < xs.length → scr.slots[j]? = some (.int (xs.getD j 0)) := fun j hj => by
      rw [← Array.getElem?_toList, hlist]
      simp [hj]
    have hbl : b < s.heap.size := (Array.getElem?_eq_some_iff.mp hcb).1
    have hX : va_X b xs.length (fun j => xs.getD j 0) s s.heap := ⟨scr, hcb, hof, hkn, hsz, hval⟩
    have K : W p l e room_1 s m #[Value.ref b] below meth c s₁.heap [] 0 0 (lw_Z below #[Value.ref b] s) (entryFrame m ([Value.ref b] : List Value).toArray 4) := by
      rw [hh0]
      exact whole_start l hbd ⟨B.exec, B.bytes, B.returns, hml, hown, hts, hX, hbl, B.notSynchronized, hgv⟩
    obtain ⟨t, a1, o, b1, b2, b3⟩ := K s₁ rfl X₀
    exact ⟨t, o, a1, b1, b2, b3⟩
theorem lw_pre_spec {args : Array Value} {s : State} (h : (Jvm.Cond.and given_1 narrow_1).before args s = true) (hr : rest_1_c.before args s = true) : ∃ (b : Addr) (xs : List Int32), lw_P b xs args s := by
  have hs := flat_of_before _ h
  have hq := flat_of_before _ hr
  have hc : (Cond.count 1).before args s = true := hs _ (by decide +kernel)
  have harr : (Cond.arrayOf (.arg 0) .int).before args s = true := hs _ (by decide +kernel)
  have hle : (Cond.le (.length (.arg 0)) (.int 2050)).before args s = true := hs _ (by decide +kernel)
  have hlen : (Cond.isInt (.length (.arg 0))).before args s = true := hq _ (by decide +kernel)
  have hall : (Cond.all (.arg 0) (.isInt (.elem (.arg 0) (.index 0)))).before args s = true := hq _ (by decide +kernel)
  obtain ⟨b, xs, hb, hx⟩ := State.ints_of_pre rfl harr hlen hall
  have hsm : xs.length < 2 ^ 31 := hx.choose_spec.2.2.2
  have hev : (Term.length (.arg 0)).eval args s none [] s = some (.int xs.length.toInt32) := hx.length_eval hb
  have hv := Cond.le_ints hev (show (Term.int 2050).eval args s none [] s = some (.int 2050) from rfl)
  have hd : xs.length.toInt32 ≤ 2050 := by
    simpa [Cond.before, Cond.holds, hv] using hle
  have hN : xs.length ≤ 2050 := (Int32.ofNat_le_ofNat hsm (by decide)).mp (show Int32.ofNat xs.length ≤ Int32.ofNat 2050 from hd)
  exact ⟨b, xs, Cond.one_arg hc (show args[0]? = some (.ref b) from hb), hx, hN, h⟩
theorem lw_comes (l : Launch) : Comes l x (Jvm.Cond.code x code maxLocals ret :: tables_1) room_1 (fun tb e args s => Calls_1 tb e args s ∧ rest_1 tb e args s ∧ Pre_1 tb e args s)
    (fun _ _ args s o t => lw_Q args s o t) := by
  intro p e ha hc hk s m args below hf hfit hheap happ hpre
  obtain ⟨b, xs, hP⟩ := lw_pre_spec hpre.2.2 hpre.2.1
  obtain ⟨k, o, h1, h2, h3, hQ⟩ := lw_walk l b xs p e ha hc hk s m args below hf ((Spec.applies_iff_loose hf).mp happ).1 hP trivial
  exact ⟨k, o, h1, h2, h3, hQ⟩
theorem lw_frame {s t : State} {o : Outcome} {args : Array Value} (h : Framed s o t [] 600000 7302250) :
    Framed s o t (fieldLocs frame_1_writes args s ++ arrayLocs frame_1_arrays args s ++ staticLocs frame_1_statics s) 600000 7302250 := h
theorem lw_limb (L : Cond) (hL : ∀ (args : Array Value) (s t : State), L.after args s (.returned (some (.int 1))) t = true) :
    ArmFor flags0 classFile x code maxLocals ret World_1 tables_1 room_1 Calls_1 rest_1 Pre_1
      (fun tb e a s o t => postC L tb e a s o t ∧ Framed s o t (fieldLocs frame_1_writes a s ++ arrayLocs frame_1_arrays a s ++ staticLocs frame_1_statics s) 600000 7302250) := by
  intro l _ _ _ p e ha hc hk s m args below hf hfit hheap happ hpre
  obtain ⟨k, o, h1, h2, h3, rfl, hF⟩ := lw_comes l p e ha hc hk s m args below hf hfit hheap happ hpre
  exact ⟨k, _, h1, h2, h3, hL args s _, lw_frame hF⟩
theorem i_vc : Claimed_1_1 ∧ Claimed_1_2 := ⟨lw_limb limb_1_1 (fun args s t => by simp [limb_1_1, Cond.after, Cond.holds, Cond.value]), lw_limb limb_1_2 (fun args s t => Cond.after_iff.mpr (by
  first | (rw [show limb_1_2 = Cond.eq .result (.int 1) from rfl, Cond.eq_ints (x := 1) (y := 1) rfl rfl]; simp; done) | (simp [limb_1_2, Cond.value, Term.eval]; done)))⟩
end
