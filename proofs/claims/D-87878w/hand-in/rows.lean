section
-- ===== PART A: goes FIRST, ahead of the names: the tables' words, and 'selects' of the private methods out of them =====
/-- a private method of a class that the tables say can be made, by its rows of tables_1 -/
def lw_okq (q : MethodName × Nat) : Prop := (q.1.cls ≠ "java/lang/invoke/MethodHandle" ∧ q.1.cls ≠ "java/lang/invoke/VarHandle") ∧ Cond.instantiable q.1.cls q.2 ∈ tables_1 ∧ Cond.privateMethod q.1 ∈ tables_1 ∧ Cond.instanceMethod q.1 ∈ tables_1
set_option maxRecDepth 100000
theorem lw_t1 {w : Cond} (h : w ∈ tables_1_1) : w ∈ tables_1 := List.mem_append_left _ h
theorem lw_t2 {w : Cond} (h : w ∈ tables_1_2) : w ∈ tables_1 := List.mem_append_right _ h
theorem lw_p0 : lw_okq (⟨"RowSparse", "merges", "()Z"⟩, 10) := ⟨⟨by decide +kernel, by decide +kernel⟩, lw_t1 (List.mem_of_getElem? (i := 7) rfl), lw_t1 (List.mem_of_getElem? (i := 126) rfl), lw_t1 (List.mem_of_getElem? (i := 127) rfl)⟩
theorem lw_p1 : lw_okq (⟨"RowSparse", "turns", "()I"⟩, 10) := ⟨⟨by decide +kernel, by decide +kernel⟩, lw_t1 (List.mem_of_getElem? (i := 7) rfl), lw_t1 (List.mem_of_getElem? (i := 134) rfl), lw_t1 (List.mem_of_getElem? (i := 135) rfl)⟩
theorem lw_p2 : lw_okq (⟨"RowSparse", "gathers", "(I)V"⟩, 10) := ⟨⟨by decide +kernel, by decide +kernel⟩, lw_t1 (List.mem_of_getElem? (i := 7) rfl), lw_t1 (List.mem_of_getElem? (i := 182) rfl), lw_t1 (List.mem_of_getElem? (i := 183) rfl)⟩
theorem lw_p3 : lw_okq (⟨"RowSparseModel", "isPlace", "(II)Z"⟩, 9) := ⟨⟨by decide +kernel, by decide +kernel⟩, lw_t1 (List.mem_of_getElem? (i := 193) rfl), lw_t1 (List.mem_of_getElem? (i := 234) rfl), lw_t1 (List.mem_of_getElem? (i := 235) rfl)⟩
theorem lw_p4 : lw_okq (⟨"RowSparseModel", "becomes", "()I"⟩, 9) := ⟨⟨by decide +kernel, by decide +kernel⟩, lw_t1 (List.mem_of_getElem? (i := 193) rfl), lw_t2 (List.mem_of_getElem? (i := 5) rfl), lw_t2 (List.mem_of_getElem? (i := 6) rfl)⟩
theorem lw_p5 : lw_okq (⟨"RowSparseModel", "many", "([II)I"⟩, 9) := ⟨⟨by decide +kernel, by decide +kernel⟩, lw_t1 (List.mem_of_getElem? (i := 193) rfl), lw_t2 (List.mem_of_getElem? (i := 9) rfl), lw_t2 (List.mem_of_getElem? (i := 10) rfl)⟩
theorem lw_p6 : lw_okq (⟨"RowSparseModel", "turns", "()V"⟩, 9) := ⟨⟨by decide +kernel, by decide +kernel⟩, lw_t1 (List.mem_of_getElem? (i := 193) rfl), lw_t2 (List.mem_of_getElem? (i := 13) rfl), lw_t2 (List.mem_of_getElem? (i := 14) rfl)⟩
def lw_privs_1 : List (MethodName × Nat) := [(⟨"RowSparse", "merges", "()Z"⟩, 10), (⟨"RowSparse", "turns", "()I"⟩, 10), (⟨"RowSparse", "gathers", "(I)V"⟩, 10), (⟨"RowSparseModel", "isPlace", "(II)Z"⟩, 9), (⟨"RowSparseModel", "becomes", "()I"⟩, 9), (⟨"RowSparseModel", "many", "([II)I"⟩, 9), (⟨"RowSparseModel", "turns", "()V"⟩, 9)]
theorem lw_r1 : ∀ q ∈ lw_privs_1, lw_okq q := List.forall_mem_cons.mpr ⟨lw_p0, List.forall_mem_cons.mpr ⟨lw_p1, List.forall_mem_cons.mpr ⟨lw_p2, List.forall_mem_cons.mpr ⟨lw_p3, List.forall_mem_cons.mpr ⟨lw_p4, List.forall_mem_cons.mpr ⟨lw_p5, List.forall_mem_cons.mpr ⟨lw_p6, fun _ h => absurd h List.not_mem_nil⟩⟩⟩⟩⟩⟩⟩
def lw_privs : List (MethodName × Nat) := lw_privs_1
def lw_tbl : List Cond := k2_sels lw_privs ++ tables_1
theorem lw_privs_ok : ∀ q ∈ lw_privs, lw_okq q := lw_r1
-- ===== ONE list of words for every method: the tables' words that hold all through a run =====
def lw_all : List Cond := lw_tbl.filter goodWord
/-- a word of the tables by its place: claim/WORDS.tsv -/
theorem lw_w {w : Cond} (i : Nat) (h : lw_tbl[i]? = some w) (g : goodWord w = true) : w ∈ lw_all := List.mem_filter.mpr ⟨List.mem_of_getElem? h, g⟩
theorem lw_all_tbl {w : Cond} (h : w ∈ lw_all) : w ∈ lw_tbl := (List.mem_filter.mp h).1
theorem lw_self : GoodIn lw_all lw_all := fun w h => ⟨h, good_of_word (List.mem_filter.mp h).2⟩
/-- a class's field words, by their places -/
theorem lw_in (ws : List Cond) (ps : List Nat) (hp : ws = ps.filterMap (fun i => lw_tbl[i]?)) (hg : ws.all goodWord = true) : ∀ w ∈ ws, w ∈ lw_all := by
  intro w h
  have h1 := List.all_eq_true.mp hg w h
  rw [hp] at h
  obtain ⟨i, -, hi⟩ := List.mem_filterMap.mp h
  exact lw_w i hi h1
/-- the words of a contract for the method y with code b, L locals, answer r -/
abbrev ws_ (y : MethodName) (b : ByteArray) (L : Nat) (r : Option FieldType) : List Cond := Cond.code y b L r :: lw_all
theorem lw_meth {y : MethodName} {b : ByteArray} {L : Nat} {r : Option FieldType} (h : Cond.code y b L r ∈ lw_all) : GoodIn lw_all (ws_ y b L r) := by
  intro w hw
  rcases List.mem_cons.mp hw with e | e
  · rw [e]
    exact lw_self _ h
  · exact lw_self _ e
theorem lw_app {a c : List Cond} (ha : ∀ w ∈ a, w ∈ lw_all) (hc : GoodIn lw_all c) : GoodIn lw_all (a ++ c) := by
  intro w hw
  rcases List.mem_append.mp hw with e | e
  · exact lw_self w (ha w e)
  · exact hc w e
/-- what a call through an object asks: cwV n hts (lw_V ..) -/
theorem lw_V {own : String} {idx : Nat} {C : String} {y : MethodName} {b : ByteArray} {L : Nat} {r : Option FieldType} (h1 : Cond.methodLink own idx y ∈ lw_all) (h2 : Cond.instanceMethod y ∈ lw_all) (h3 : Cond.selects C y y ∈ lw_all) (h4 : Cond.initialized C ∈ lw_all) (h5 : Cond.code y b L r ∈ lw_all) : GoodIn lw_all (wsV own idx C y (ws_ y b L r)) := by
  refine lw_app ?_ (lw_meth h5)
  intro w hw
  simp only [List.mem_cons, List.not_mem_nil, or_false] at hw
  rcases hw with e | e | e | e
  · rw [e]; exact h1
  · rw [e]; exact h2
  · rw [e]; exact h3
  · rw [e]; exact h4
/-- what a static call asks: va_cwS n hts (lw_S ..) -/
theorem lw_S {own : String} {idx : Nat} {y : MethodName} {b : ByteArray} {L : Nat} {r : Option FieldType} (h1 : Cond.methodLink own idx y ∈ lw_all) (h2 : Cond.static y ∈ lw_all) (h3 : Cond.initialized y.cls ∈ lw_all) (h4 : Cond.code y b L r ∈ lw_all) : GoodIn lw_all (va_wsS own idx y (ws_ y b L r)) := by
  refine lw_app ?_ (lw_meth h4)
  intro w hw
  simp only [List.mem_cons, List.not_mem_nil, or_false] at hw
  rcases hw with e | e | e
  · rw [e]; exact h1
  · rw [e]; exact h2
  · rw [e]; exact h3
/-- the words of a contract for a method WITH HANDLERS (hh: its table) -/
abbrev wsW_ (y : MethodName) (b : ByteArray) (L : Nat) (r : Option FieldType) (hh : List (Nat × Nat × Nat × Nat)) : List Cond := Cond.codeWith y b L r hh :: lw_all
theorem lw_methW {y : MethodName} {b : ByteArray} {L : Nat} {r : Option FieldType} {hh : List (Nat × Nat × Nat × Nat)} (h : Cond.codeWith y b L r hh ∈ lw_all) : GoodIn lw_all (wsW_ y b L r hh) := by
  intro w hw
  rcases List.mem_cons.mp hw with e | e
  · rw [e]
    exact lw_self _ h
  · exact lw_self _ e
/-- any list of words by their places (lw_in), good -/
theorem lw_good {ws : List Cond} (h : ∀ w ∈ ws, w ∈ lw_all) : GoodIn lw_all ws := fun w hw => lw_self w (h w hw)
/-- what a call of a method with handlers asks: vx_cwVW n hts (lw_VW ..), vx_cwSW n hts (lw_SW ..) -/
theorem lw_VW {own : String} {idx : Nat} {C : String} {y : MethodName} {b : ByteArray} {L : Nat} {r : Option FieldType} {hh : List (Nat × Nat × Nat × Nat)} (h1 : Cond.methodLink own idx y ∈ lw_all) (h2 : Cond.instanceMethod y ∈ lw_all) (h3 : Cond.selects C y y ∈ lw_all) (h4 : Cond.initialized C ∈ lw_all) (h5 : Cond.codeWith y b L r hh ∈ lw_all) : GoodIn lw_all (wsV own idx C y (wsW_ y b L r hh)) := by
  refine lw_app ?_ (lw_methW h5)
  intro w hw
  simp only [List.mem_cons, List.not_mem_nil, or_false] at hw
  rcases hw with e | e | e | e
  · rw [e]; exact h1
  · rw [e]; exact h2
  · rw [e]; exact h3
  · rw [e]; exact h4
theorem lw_SW {own : String} {idx : Nat} {y : MethodName} {b : ByteArray} {L : Nat} {r : Option FieldType} {hh : List (Nat × Nat × Nat × Nat)} (h1 : Cond.methodLink own idx y ∈ lw_all) (h2 : Cond.static y ∈ lw_all) (h3 : Cond.initialized y.cls ∈ lw_all) (h4 : Cond.codeWith y b L r hh ∈ lw_all) : GoodIn lw_all (va_wsS own idx y (wsW_ y b L r hh)) := by
  refine lw_app ?_ (lw_methW h4)
  intro w hw
  simp only [List.mem_cons, List.not_mem_nil, or_false] at hw
  rcases hw with e | e | e
  · rw [e]; exact h1
  · rw [e]; exact h2
  · rw [e]; exact h3
/-- a word by its place in its run of the tables -/
theorem lw_at {r : List Cond} (hr : ∀ w ∈ r, w ∈ lw_tbl) {w : Cond} (i : Nat) (h : r[i]? = some w) : w ∈ lw_tbl := hr w (List.mem_of_getElem? h)
theorem lw_g {w : Cond} (h : w ∈ lw_tbl) (g : goodWord w = true) : w ∈ lw_all := List.mem_filter.mpr ⟨h, g⟩
theorem lw_ms : ∀ w ∈ k2_sels lw_privs, w ∈ lw_tbl := fun w h => show w ∈ k2_sels lw_privs ++ tables_1 from List.mem_append_left _ h
theorem lw_m1 : ∀ w ∈ tables_1_1, w ∈ lw_tbl := fun w h => show w ∈ k2_sels lw_privs ++ tables_1 from List.mem_append_right (k2_sels lw_privs) (show w ∈ tables_1 from List.mem_append_left _ h)
theorem lw_m2 : ∀ w ∈ tables_1_2, w ∈ lw_tbl := fun w h => show w ∈ k2_sels lw_privs ++ tables_1 from List.mem_append_right (k2_sels lw_privs) (show w ∈ tables_1 from List.mem_append_right _ h)
theorem qs0 : (Cond.selects "RowSparse" ⟨"RowSparse", "merges", "()Z"⟩ ⟨"RowSparse", "merges", "()Z"⟩) ∈ lw_all := lw_g (lw_at lw_ms 0 rfl) rfl
theorem qs1 : (Cond.selects "RowSparse" ⟨"RowSparse", "turns", "()I"⟩ ⟨"RowSparse", "turns", "()I"⟩) ∈ lw_all := lw_g (lw_at lw_ms 1 rfl) rfl
theorem qs2 : (Cond.selects "RowSparse" ⟨"RowSparse", "gathers", "(I)V"⟩ ⟨"RowSparse", "gathers", "(I)V"⟩) ∈ lw_all := lw_g (lw_at lw_ms 2 rfl) rfl
theorem qs3 : (Cond.selects "RowSparseModel" ⟨"RowSparseModel", "isPlace", "(II)Z"⟩ ⟨"RowSparseModel", "isPlace", "(II)Z"⟩) ∈ lw_all := lw_g (lw_at lw_ms 3 rfl) rfl
theorem qs4 : (Cond.selects "RowSparseModel" ⟨"RowSparseModel", "becomes", "()I"⟩ ⟨"RowSparseModel", "becomes", "()I"⟩) ∈ lw_all := lw_g (lw_at lw_ms 4 rfl) rfl
theorem qs5 : (Cond.selects "RowSparseModel" ⟨"RowSparseModel", "many", "([II)I"⟩ ⟨"RowSparseModel", "many", "([II)I"⟩) ∈ lw_all := lw_g (lw_at lw_ms 5 rfl) rfl
theorem qs6 : (Cond.selects "RowSparseModel" ⟨"RowSparseModel", "turns", "()V"⟩ ⟨"RowSparseModel", "turns", "()V"⟩) ∈ lw_all := lw_g (lw_at lw_ms 6 rfl) rfl
end
section
theorem q48 : (Jvm.Cond.arrayClass Jvm.ClassFile.FieldType.int) ∈ lw_all := lw_g (lw_at lw_m1 41 rfl) rfl
set_option maxRecDepth 100000
/-! java/lang/Object -/
set_option maxRecDepth 100000
def RJ1 : String := "java/lang/Object"
abbrev cJ1_init : ByteArray := object_method_1_code
def yJ1_init : MethodName := ⟨RJ1, "<init>", "()V"⟩
theorem dJ1_init_0 : decode cJ1_init 0 = .ok (.return_, 1) := by decide +kernel
theorem q19 : (Jvm.Cond.instanceMethod ({ cls := "java/lang/Object", name := "<init>", desc := "()V" } : Jvm.MethodName)) ∈ lw_all := lw_g (lw_at lw_m1 12 rfl) rfl
theorem q20 : (Jvm.Cond.code ({ cls := "java/lang/Object", name := "<init>", desc := "()V" } : Jvm.MethodName) object_method_1_code (1 : Nat) (Option.none : Option Jvm.ClassFile.FieldType)) ∈ lw_all := lw_g (lw_at lw_m1 13 rfl) rfl
/-! java/lang/Math -/
set_option maxRecDepth 100000
def RJ0 : String := "java/lang/Math"
abbrev cJ0_min : ByteArray := prog_6_method_69_code
def yJ0_min : MethodName := ⟨RJ0, "min", "(II)I"⟩
theorem dJ0_min_0 : decode cJ0_min 0 = .ok (.iload_n 0, 1) := by decide +kernel
theorem dJ0_min_1 : decode cJ0_min 1 = .ok (.iload_n 1, 1) := by decide +kernel
theorem dJ0_min_2 : decode cJ0_min 2 = .ok (.if_icmp .gt 7, 3) := by decide +kernel
theorem dJ0_min_5 : decode cJ0_min 5 = .ok (.iload_n 0, 1) := by decide +kernel
theorem dJ0_min_6 : decode cJ0_min 6 = .ok (.goto 4, 3) := by decide +kernel
theorem dJ0_min_9 : decode cJ0_min 9 = .ok (.iload_n 1, 1) := by decide +kernel
theorem dJ0_min_10 : decode cJ0_min 10 = .ok (.ireturn, 1) := by decide +kernel
abbrev cJ0_max : ByteArray := prog_6_method_65_code
def yJ0_max : MethodName := ⟨RJ0, "max", "(II)I"⟩
theorem dJ0_max_0 : decode cJ0_max 0 = .ok (.iload_n 0, 1) := by decide +kernel
theorem dJ0_max_1 : decode cJ0_max 1 = .ok (.iload_n 1, 1) := by decide +kernel
theorem dJ0_max_2 : decode cJ0_max 2 = .ok (.if_icmp .lt 7, 3) := by decide +kernel
theorem dJ0_max_5 : decode cJ0_max 5 = .ok (.iload_n 0, 1) := by decide +kernel
theorem dJ0_max_6 : decode cJ0_max 6 = .ok (.goto 4, 3) := by decide +kernel
theorem dJ0_max_9 : decode cJ0_max 9 = .ok (.iload_n 1, 1) := by decide +kernel
theorem dJ0_max_10 : decode cJ0_max 10 = .ok (.ireturn, 1) := by decide +kernel
theorem q11 : (Jvm.Cond.initialized "java/lang/Math") ∈ lw_all := lw_g (lw_at lw_m1 4 rfl) rfl
theorem q73 : (Jvm.Cond.static ({ cls := "java/lang/Math", name := "min", desc := "(II)I" } : Jvm.MethodName)) ∈ lw_all := lw_g (lw_at lw_m1 66 rfl) rfl
theorem q74 : (Jvm.Cond.code ({ cls := "java/lang/Math", name := "min", desc := "(II)I" } : Jvm.MethodName) prog_6_method_69_code (2 : Nat) (Option.some Jvm.ClassFile.FieldType.int)) ∈ lw_all := lw_g (lw_at lw_m1 67 rfl) rfl
theorem q76 : (Jvm.Cond.static ({ cls := "java/lang/Math", name := "max", desc := "(II)I" } : Jvm.MethodName)) ∈ lw_all := lw_g (lw_at lw_m1 69 rfl) rfl
theorem q77 : (Jvm.Cond.code ({ cls := "java/lang/Math", name := "max", desc := "(II)I" } : Jvm.MethodName) prog_6_method_65_code (2 : Nat) (Option.some Jvm.ClassFile.FieldType.int)) ∈ lw_all := lw_g (lw_at lw_m1 70 rfl) rfl
/-! RowSparse$Matrix -/
set_option maxRecDepth 100000
def RX2 : String := "RowSparse$Matrix"
def TX2 : u_T := fun k => match k with
  | 0 => ("RowSparse$Matrix", "start", "[I", true)
  | 1 => ("RowSparse$Matrix", "column", "[I", true)
  | 2 => ("RowSparse$Matrix", "value", "[I", true)
  | 3 => ("RowSparse$Matrix", "rows", "I", false)
  | _ => ("RowSparse$Matrix", "cols", "I", false)
def tyX2 : Nat → FieldType := fun k => match k with
  | 0 => .array .int
  | 1 => .array .int
  | 2 => .array .int
  | 3 => .int
  | _ => .int
abbrev wsX20 : List Cond := u_ws RX2 TX2 5
theorem nmX2 : ∀ a, a < 5 → ∀ b, b < 5 → a ≠ b → (TX2 a).2.1 ≠ (TX2 b).2.1 := by decide +kernel
theorem tyX2_ok : ∀ k, k < 5 → parseFieldDescriptor (TX2 k).2.2.1 = some (tyX2 k) := by decide +kernel
abbrev cX2_init : ByteArray := prog_3_method_1_code
def yX2_init : MethodName := ⟨RX2, "<init>", "()V"⟩
theorem dX2_init_0 : decode cX2_init 0 = .ok (.aload_n 0, 1) := by decide +kernel
theorem dX2_init_1 : decode cX2_init 1 = .ok (.invokespecial 3, 3) := by decide +kernel
theorem dX2_init_4 : decode cX2_init 4 = .ok (.aload_n 0, 1) := by decide +kernel
theorem dX2_init_5 : decode cX2_init 5 = .ok (.bipush 61, 2) := by decide +kernel
theorem dX2_init_7 : decode cX2_init 7 = .ok (.newarray .int, 2) := by decide +kernel
theorem dX2_init_9 : decode cX2_init 9 = .ok (.putfield 9, 3) := by decide +kernel
theorem dX2_init_12 : decode cX2_init 12 = .ok (.aload_n 0, 1) := by decide +kernel
theorem dX2_init_13 : decode cX2_init 13 = .ok (.sipush 1000, 3) := by decide +kernel
theorem dX2_init_16 : decode cX2_init 16 = .ok (.newarray .int, 2) := by decide +kernel
theorem dX2_init_18 : decode cX2_init 18 = .ok (.putfield 15, 3) := by decide +kernel
theorem dX2_init_21 : decode cX2_init 21 = .ok (.aload_n 0, 1) := by decide +kernel
theorem dX2_init_22 : decode cX2_init 22 = .ok (.sipush 1000, 3) := by decide +kernel
theorem dX2_init_25 : decode cX2_init 25 = .ok (.newarray .int, 2) := by decide +kernel
theorem dX2_init_27 : decode cX2_init 27 = .ok (.putfield 18, 3) := by decide +kernel
theorem dX2_init_30 : decode cX2_init 30 = .ok (.return_, 1) := by decide +kernel
abbrev cX2_be : ByteArray := prog_3_method_3_code
def yX2_be : MethodName := ⟨RX2, "be", "(II)V"⟩
theorem dX2_be_0 : decode cX2_be 0 = .ok (.aload_n 0, 1) := by decide +kernel
theorem dX2_be_1 : decode cX2_be 1 = .ok (.iload_n 1, 1) := by decide +kernel
theorem dX2_be_2 : decode cX2_be 2 = .ok (.putfield 21, 3) := by decide +kernel
theorem dX2_be_5 : decode cX2_be 5 = .ok (.aload_n 0, 1) := by decide +kernel
theorem dX2_be_6 : decode cX2_be 6 = .ok (.iload_n 2, 1) := by decide +kernel
theorem dX2_be_7 : decode cX2_be 7 = .ok (.putfield 25, 3) := by decide +kernel
theorem dX2_be_10 : decode cX2_be 10 = .ok (.iconst 0, 1) := by decide +kernel
theorem dX2_be_11 : decode cX2_be 11 = .ok (.istore_n 3, 1) := by decide +kernel
theorem dX2_be_12 : decode cX2_be 12 = .ok (.iload_n 3, 1) := by decide +kernel
theorem dX2_be_13 : decode cX2_be 13 = .ok (.bipush 60, 2) := by decide +kernel
theorem dX2_be_15 : decode cX2_be 15 = .ok (.if_icmp .gt 16, 3) := by decide +kernel
theorem dX2_be_18 : decode cX2_be 18 = .ok (.aload_n 0, 1) := by decide +kernel
theorem dX2_be_19 : decode cX2_be 19 = .ok (.getfield 9, 3) := by decide +kernel
theorem dX2_be_22 : decode cX2_be 22 = .ok (.iload_n 3, 1) := by decide +kernel
theorem dX2_be_23 : decode cX2_be 23 = .ok (.iconst 0, 1) := by decide +kernel
theorem dX2_be_24 : decode cX2_be 24 = .ok (.iastore, 1) := by decide +kernel
theorem dX2_be_25 : decode cX2_be 25 = .ok (.iinc 3 1, 3) := by decide +kernel
theorem dX2_be_28 : decode cX2_be 28 = .ok (.goto (-16), 3) := by decide +kernel
theorem dX2_be_31 : decode cX2_be 31 = .ok (.return_, 1) := by decide +kernel
abbrev cX2_puts : ByteArray := prog_3_method_5_code
def yX2_puts : MethodName := ⟨RX2, "puts", "(IIII)Z"⟩
theorem dX2_puts_0 : decode cX2_puts 0 = .ok (.iload_n 1, 1) := by decide +kernel
theorem dX2_puts_1 : decode cX2_puts 1 = .ok (.iload_n 2, 1) := by decide +kernel
theorem dX2_puts_2 : decode cX2_puts 2 = .ok (.if_icmp .ne 5, 3) := by decide +kernel
theorem dX2_puts_5 : decode cX2_puts 5 = .ok (.iconst 0, 1) := by decide +kernel
theorem dX2_puts_6 : decode cX2_puts 6 = .ok (.ireturn, 1) := by decide +kernel
theorem dX2_puts_7 : decode cX2_puts 7 = .ok (.aload_n 0, 1) := by decide +kernel
theorem dX2_puts_8 : decode cX2_puts 8 = .ok (.getfield 15, 3) := by decide +kernel
theorem dX2_puts_11 : decode cX2_puts 11 = .ok (.iload_n 1, 1) := by decide +kernel
theorem dX2_puts_12 : decode cX2_puts 12 = .ok (.iload_n 3, 1) := by decide +kernel
theorem dX2_puts_13 : decode cX2_puts 13 = .ok (.iastore, 1) := by decide +kernel
theorem dX2_puts_14 : decode cX2_puts 14 = .ok (.aload_n 0, 1) := by decide +kernel
theorem dX2_puts_15 : decode cX2_puts 15 = .ok (.getfield 18, 3) := by decide +kernel
theorem dX2_puts_18 : decode cX2_puts 18 = .ok (.iload_n 1, 1) := by decide +kernel
theorem dX2_puts_19 : decode cX2_puts 19 = .ok (.iload 4, 2) := by decide +kernel
theorem dX2_puts_21 : decode cX2_puts 21 = .ok (.iastore, 1) := by decide +kernel
theorem dX2_puts_22 : decode cX2_puts 22 = .ok (.iconst 1, 1) := by decide +kernel
theorem dX2_puts_23 : decode cX2_puts 23 = .ok (.ireturn, 1) := by decide +kernel
abbrev cX2_size : ByteArray := prog_3_method_2_code
def yX2_size : MethodName := ⟨RX2, "size", "()I"⟩
theorem dX2_size_0 : decode cX2_size 0 = .ok (.aload_n 0, 1) := by decide +kernel
theorem dX2_size_1 : decode cX2_size 1 = .ok (.getfield 9, 3) := by decide +kernel
theorem dX2_size_4 : decode cX2_size 4 = .ok (.aload_n 0, 1) := by decide +kernel
theorem dX2_size_5 : decode cX2_size 5 = .ok (.getfield 21, 3) := by decide +kernel
theorem dX2_size_8 : decode cX2_size 8 = .ok (.iaload, 1) := by decide +kernel
theorem dX2_size_9 : decode cX2_size 9 = .ok (.ireturn, 1) := by decide +kernel
abbrev cX2_find : ByteArray := prog_3_method_4_code
def yX2_find : MethodName := ⟨RX2, "find", "(II)I"⟩
theorem dX2_find_0 : decode cX2_find 0 = .ok (.aload_n 0, 1) := by decide +kernel
theorem dX2_find_1 : decode cX2_find 1 = .ok (.getfield 9, 3) := by decide +kernel
theorem dX2_find_4 : decode cX2_find 4 = .ok (.iload_n 1, 1) := by decide +kernel
theorem dX2_find_5 : decode cX2_find 5 = .ok (.iaload, 1) := by decide +kernel
theorem dX2_find_6 : decode cX2_find 6 = .ok (.istore_n 3, 1) := by decide +kernel
theorem dX2_find_7 : decode cX2_find 7 = .ok (.aload_n 0, 1) := by decide +kernel
theorem dX2_find_8 : decode cX2_find 8 = .ok (.getfield 9, 3) := by decide +kernel
theorem dX2_find_11 : decode cX2_find 11 = .ok (.iload_n 1, 1) := by decide +kernel
theorem dX2_find_12 : decode cX2_find 12 = .ok (.iconst 1, 1) := by decide +kernel
theorem dX2_find_13 : decode cX2_find 13 = .ok (.iadd, 1) := by decide +kernel
theorem dX2_find_14 : decode cX2_find 14 = .ok (.iaload, 1) := by decide +kernel
theorem dX2_find_15 : decode cX2_find 15 = .ok (.iconst 1, 1) := by decide +kernel
theorem dX2_find_16 : decode cX2_find 16 = .ok (.isub, 1) := by decide +kernel
theorem dX2_find_17 : decode cX2_find 17 = .ok (.istore 4, 2) := by decide +kernel
theorem dX2_find_19 : decode cX2_find 19 = .ok (.iload_n 3, 1) := by decide +kernel
theorem dX2_find_20 : decode cX2_find 20 = .ok (.iload 4, 2) := by decide +kernel
theorem dX2_find_22 : decode cX2_find 22 = .ok (.if_icmp .gt 53, 3) := by decide +kernel
theorem dX2_find_25 : decode cX2_find 25 = .ok (.iload_n 3, 1) := by decide +kernel
theorem dX2_find_26 : decode cX2_find 26 = .ok (.iload 4, 2) := by decide +kernel
theorem dX2_find_28 : decode cX2_find 28 = .ok (.iadd, 1) := by decide +kernel
theorem dX2_find_29 : decode cX2_find 29 = .ok (.iconst 1, 1) := by decide +kernel
theorem dX2_find_30 : decode cX2_find 30 = .ok (.iushr, 1) := by decide +kernel
theorem dX2_find_31 : decode cX2_find 31 = .ok (.istore 5, 2) := by decide +kernel
theorem dX2_find_33 : decode cX2_find 33 = .ok (.aload_n 0, 1) := by decide +kernel
theorem dX2_find_34 : decode cX2_find 34 = .ok (.getfield 15, 3) := by decide +kernel
theorem dX2_find_37 : decode cX2_find 37 = .ok (.iload 5, 2) := by decide +kernel
theorem dX2_find_39 : decode cX2_find 39 = .ok (.iaload, 1) := by decide +kernel
theorem dX2_find_40 : decode cX2_find 40 = .ok (.iload_n 2, 1) := by decide +kernel
theorem dX2_find_41 : decode cX2_find 41 = .ok (.if_icmp .ne 6, 3) := by decide +kernel
theorem dX2_find_44 : decode cX2_find 44 = .ok (.iload 5, 2) := by decide +kernel
theorem dX2_find_46 : decode cX2_find 46 = .ok (.ireturn, 1) := by decide +kernel
theorem dX2_find_47 : decode cX2_find 47 = .ok (.aload_n 0, 1) := by decide +kernel
theorem dX2_find_48 : decode cX2_find 48 = .ok (.getfield 15, 3) := by decide +kernel
theorem dX2_find_51 : decode cX2_find 51 = .ok (.iload 5, 2) := by decide +kernel
theorem dX2_find_53 : decode cX2_find 53 = .ok (.iaload, 1) := by decide +kernel
theorem dX2_find_54 : decode cX2_find 54 = .ok (.iload_n 2, 1) := by decide +kernel
theorem dX2_find_55 : decode cX2_find 55 = .ok (.if_icmp .ge 11, 3) := by decide +kernel
theorem dX2_find_58 : decode cX2_find 58 = .ok (.iload 5, 2) := by decide +kernel
theorem dX2_find_60 : decode cX2_find 60 = .ok (.iconst 1, 1) := by decide +kernel
theorem dX2_find_61 : decode cX2_find 61 = .ok (.iadd, 1) := by decide +kernel
theorem dX2_find_62 : decode cX2_find 62 = .ok (.istore_n 3, 1) := by decide +kernel
theorem dX2_find_63 : decode cX2_find 63 = .ok (.goto 9, 3) := by decide +kernel
theorem dX2_find_66 : decode cX2_find 66 = .ok (.iload 5, 2) := by decide +kernel
theorem dX2_find_68 : decode cX2_find 68 = .ok (.iconst 1, 1) := by decide +kernel
theorem dX2_find_69 : decode cX2_find 69 = .ok (.isub, 1) := by decide +kernel
theorem dX2_find_70 : decode cX2_find 70 = .ok (.istore 4, 2) := by decide +kernel
theorem dX2_find_72 : decode cX2_find 72 = .ok (.goto (-53), 3) := by decide +kernel
theorem dX2_find_75 : decode cX2_find 75 = .ok (.iconst (-1), 1) := by decide +kernel
theorem dX2_find_76 : decode cX2_find 76 = .ok (.ireturn, 1) := by decide +kernel
theorem q9 : (Jvm.Cond.initialized "RowSparse$Matrix") ∈ lw_all := lw_g (lw_at lw_m1 2 rfl) rfl
theorem q22 : (Jvm.Cond.instantiable "RowSparse$Matrix" (5 : Nat)) ∈ lw_all := lw_g (lw_at lw_m1 15 rfl) rfl
theorem q24 : (Jvm.Cond.instanceMethod ({ cls := "RowSparse$Matrix", name := "<init>", desc := "()V" } : Jvm.MethodName)) ∈ lw_all := lw_g (lw_at lw_m1 17 rfl) rfl
theorem q25 : (Jvm.Cond.code ({ cls := "RowSparse$Matrix", name := "<init>", desc := "()V" } : Jvm.MethodName) prog_3_method_1_code (1 : Nat) (Option.none : Option Jvm.ClassFile.FieldType)) ∈ lw_all := lw_g (lw_at lw_m1 18 rfl) rfl
theorem q26 : (Jvm.Cond.methodLink "RowSparse$Matrix" (3 : Nat) ({ cls := "java/lang/Object", name := "<init>", desc := "()V" } : Jvm.MethodName)) ∈ lw_all := lw_g (lw_at lw_m1 19 rfl) rfl
theorem q27 : (Jvm.Cond.fieldLink "RowSparse$Matrix" (9 : Nat) "RowSparse$Matrix" "start" "[I") ∈ lw_all := lw_g (lw_at lw_m1 20 rfl) rfl
theorem q29 : (Jvm.Cond.fieldLink "RowSparse$Matrix" (15 : Nat) "RowSparse$Matrix" "column" "[I") ∈ lw_all := lw_g (lw_at lw_m1 22 rfl) rfl
theorem q31 : (Jvm.Cond.fieldLink "RowSparse$Matrix" (18 : Nat) "RowSparse$Matrix" "value" "[I") ∈ lw_all := lw_g (lw_at lw_m1 24 rfl) rfl
theorem q33 : (Jvm.Cond.fieldLink "RowSparse$Matrix" (21 : Nat) "RowSparse$Matrix" "rows" "I") ∈ lw_all := lw_g (lw_at lw_m1 26 rfl) rfl
theorem q35 : (Jvm.Cond.fieldLink "RowSparse$Matrix" (25 : Nat) "RowSparse$Matrix" "cols" "I") ∈ lw_all := lw_g (lw_at lw_m1 28 rfl) rfl
theorem q37 : (Jvm.Cond.laysFinal "RowSparse$Matrix" "RowSparse$Matrix" "start" "[I") ∈ lw_all := lw_g (lw_at lw_m1 30 rfl) rfl
theorem q38 : (Jvm.Cond.soleField "RowSparse$Matrix" "start") ∈ lw_all := lw_g (lw_at lw_m1 31 rfl) rfl
theorem q39 : (Jvm.Cond.laysFinal "RowSparse$Matrix" "RowSparse$Matrix" "column" "[I") ∈ lw_all := lw_g (lw_at lw_m1 32 rfl) rfl
theorem q40 : (Jvm.Cond.soleField "RowSparse$Matrix" "column") ∈ lw_all := lw_g (lw_at lw_m1 33 rfl) rfl
theorem q41 : (Jvm.Cond.laysFinal "RowSparse$Matrix" "RowSparse$Matrix" "value" "[I") ∈ lw_all := lw_g (lw_at lw_m1 34 rfl) rfl
theorem q42 : (Jvm.Cond.soleField "RowSparse$Matrix" "value") ∈ lw_all := lw_g (lw_at lw_m1 35 rfl) rfl
theorem q43 : (Jvm.Cond.lays "RowSparse$Matrix" "RowSparse$Matrix" "rows" "I") ∈ lw_all := lw_g (lw_at lw_m1 36 rfl) rfl
theorem q44 : (Jvm.Cond.soleField "RowSparse$Matrix" "rows") ∈ lw_all := lw_g (lw_at lw_m1 37 rfl) rfl
theorem q45 : (Jvm.Cond.lays "RowSparse$Matrix" "RowSparse$Matrix" "cols" "I") ∈ lw_all := lw_g (lw_at lw_m1 38 rfl) rfl
theorem q46 : (Jvm.Cond.soleField "RowSparse$Matrix" "cols") ∈ lw_all := lw_g (lw_at lw_m1 39 rfl) rfl
theorem q47 : (Jvm.Cond.superclass "RowSparse$Matrix" "java/lang/Object") ∈ lw_all := lw_g (lw_at lw_m1 40 rfl) rfl
theorem q79 : (Jvm.Cond.instanceMethod ({ cls := "RowSparse$Matrix", name := "be", desc := "(II)V" } : Jvm.MethodName)) ∈ lw_all := lw_g (lw_at lw_m1 72 rfl) rfl
theorem q80 : (Jvm.Cond.selects "RowSparse$Matrix" ({ cls := "RowSparse$Matrix", name := "be", desc := "(II)V" } : Jvm.MethodName) ({ cls := "RowSparse$Matrix", name := "be", desc := "(II)V" } : Jvm.MethodName)) ∈ lw_all := lw_g (lw_at lw_m1 73 rfl) rfl
theorem q81 : (Jvm.Cond.code ({ cls := "RowSparse$Matrix", name := "be", desc := "(II)V" } : Jvm.MethodName) prog_3_method_3_code (4 : Nat) (Option.none : Option Jvm.ClassFile.FieldType)) ∈ lw_all := lw_g (lw_at lw_m1 74 rfl) rfl
theorem q137 : (Jvm.Cond.instanceMethod ({ cls := "RowSparse$Matrix", name := "puts", desc := "(IIII)Z" } : Jvm.MethodName)) ∈ lw_all := lw_g (lw_at lw_m1 130 rfl) rfl
theorem q138 : (Jvm.Cond.selects "RowSparse$Matrix" ({ cls := "RowSparse$Matrix", name := "puts", desc := "(IIII)Z" } : Jvm.MethodName) ({ cls := "RowSparse$Matrix", name := "puts", desc := "(IIII)Z" } : Jvm.MethodName)) ∈ lw_all := lw_g (lw_at lw_m1 131 rfl) rfl
theorem q139 : (Jvm.Cond.code ({ cls := "RowSparse$Matrix", name := "puts", desc := "(IIII)Z" } : Jvm.MethodName) prog_3_method_5_code (5 : Nat) (Option.some Jvm.ClassFile.FieldType.boolean)) ∈ lw_all := lw_g (lw_at lw_m1 132 rfl) rfl
theorem q145 : (Jvm.Cond.instanceMethod ({ cls := "RowSparse$Matrix", name := "size", desc := "()I" } : Jvm.MethodName)) ∈ lw_all := lw_g (lw_at lw_m1 138 rfl) rfl
theorem q146 : (Jvm.Cond.selects "RowSparse$Matrix" ({ cls := "RowSparse$Matrix", name := "size", desc := "()I" } : Jvm.MethodName) ({ cls := "RowSparse$Matrix", name := "size", desc := "()I" } : Jvm.MethodName)) ∈ lw_all := lw_g (lw_at lw_m1 139 rfl) rfl
theorem q147 : (Jvm.Cond.code ({ cls := "RowSparse$Matrix", name := "size", desc := "()I" } : Jvm.MethodName) prog_3_method_2_code (1 : Nat) (Option.some Jvm.ClassFile.FieldType.int)) ∈ lw_all := lw_g (lw_at lw_m1 140 rfl) rfl
theorem q157 : (Jvm.Cond.instanceMethod ({ cls := "RowSparse$Matrix", name := "find", desc := "(II)I" } : Jvm.MethodName)) ∈ lw_all := lw_g (lw_at lw_m1 150 rfl) rfl
theorem q158 : (Jvm.Cond.selects "RowSparse$Matrix" ({ cls := "RowSparse$Matrix", name := "find", desc := "(II)I" } : Jvm.MethodName) ({ cls := "RowSparse$Matrix", name := "find", desc := "(II)I" } : Jvm.MethodName)) ∈ lw_all := lw_g (lw_at lw_m1 151 rfl) rfl
theorem q159 : (Jvm.Cond.code ({ cls := "RowSparse$Matrix", name := "find", desc := "(II)I" } : Jvm.MethodName) prog_3_method_4_code (6 : Nat) (Option.some Jvm.ClassFile.FieldType.int)) ∈ lw_all := lw_g (lw_at lw_m1 152 rfl) rfl
theorem in_X2 : ∀ w ∈ wsX20, w ∈ lw_all := lw_in wsX20 [37, 39, 41, 43, 45] (by decide +kernel) (by decide +kernel)
/-! RowSparse$Heap -/
set_option maxRecDepth 100000
def RX3 : String := "RowSparse$Heap"
def TX3 : u_T := fun k => match k with
  | 0 => ("RowSparse$Heap", "row", "[I", true)
  | 1 => ("RowSparse$Heap", "column", "[I", true)
  | 2 => ("RowSparse$Heap", "value", "[I", true)
  | _ => ("RowSparse$Heap", "size", "I", false)
def tyX3 : Nat → FieldType := fun k => match k with
  | 0 => .array .int
  | 1 => .array .int
  | 2 => .array .int
  | _ => .int
abbrev wsX30 : List Cond := u_ws RX3 TX3 4
theorem nmX3 : ∀ a, a < 4 → ∀ b, b < 4 → a ≠ b → (TX3 a).2.1 ≠ (TX3 b).2.1 := by decide +kernel
theorem tyX3_ok : ∀ k, k < 4 → parseFieldDescriptor (TX3 k).2.2.1 = some (tyX3 k) := by decide +kernel
abbrev cX3_init : ByteArray := prog_2_method_1_code
def yX3_init : MethodName := ⟨RX3, "<init>", "()V"⟩
theorem dX3_init_0 : decode cX3_init 0 = .ok (.aload_n 0, 1) := by decide +kernel
theorem dX3_init_1 : decode cX3_init 1 = .ok (.invokespecial 3, 3) := by decide +kernel
theorem dX3_init_4 : decode cX3_init 4 = .ok (.aload_n 0, 1) := by decide +kernel
theorem dX3_init_5 : decode cX3_init 5 = .ok (.sipush 2000, 3) := by decide +kernel
theorem dX3_init_8 : decode cX3_init 8 = .ok (.newarray .int, 2) := by decide +kernel
theorem dX3_init_10 : decode cX3_init 10 = .ok (.putfield 9, 3) := by decide +kernel
theorem dX3_init_13 : decode cX3_init 13 = .ok (.aload_n 0, 1) := by decide +kernel
theorem dX3_init_14 : decode cX3_init 14 = .ok (.sipush 2000, 3) := by decide +kernel
theorem dX3_init_17 : decode cX3_init 17 = .ok (.newarray .int, 2) := by decide +kernel
theorem dX3_init_19 : decode cX3_init 19 = .ok (.putfield 15, 3) := by decide +kernel
theorem dX3_init_22 : decode cX3_init 22 = .ok (.aload_n 0, 1) := by decide +kernel
theorem dX3_init_23 : decode cX3_init 23 = .ok (.sipush 2000, 3) := by decide +kernel
theorem dX3_init_26 : decode cX3_init 26 = .ok (.newarray .int, 2) := by decide +kernel
theorem dX3_init_28 : decode cX3_init 28 = .ok (.putfield 18, 3) := by decide +kernel
theorem dX3_init_31 : decode cX3_init 31 = .ok (.return_, 1) := by decide +kernel
abbrev cX3_adds : ByteArray := prog_2_method_2_code
def yX3_adds : MethodName := ⟨RX3, "adds", "(III)V"⟩
theorem dX3_adds_0 : decode cX3_adds 0 = .ok (.aload_n 0, 1) := by decide +kernel
theorem dX3_adds_1 : decode cX3_adds 1 = .ok (.getfield 9, 3) := by decide +kernel
theorem dX3_adds_4 : decode cX3_adds 4 = .ok (.aload_n 0, 1) := by decide +kernel
theorem dX3_adds_5 : decode cX3_adds 5 = .ok (.getfield 21, 3) := by decide +kernel
theorem dX3_adds_8 : decode cX3_adds 8 = .ok (.iload_n 1, 1) := by decide +kernel
theorem dX3_adds_9 : decode cX3_adds 9 = .ok (.iastore, 1) := by decide +kernel
theorem dX3_adds_10 : decode cX3_adds 10 = .ok (.aload_n 0, 1) := by decide +kernel
theorem dX3_adds_11 : decode cX3_adds 11 = .ok (.getfield 15, 3) := by decide +kernel
theorem dX3_adds_14 : decode cX3_adds 14 = .ok (.aload_n 0, 1) := by decide +kernel
theorem dX3_adds_15 : decode cX3_adds 15 = .ok (.getfield 21, 3) := by decide +kernel
theorem dX3_adds_18 : decode cX3_adds 18 = .ok (.iload_n 2, 1) := by decide +kernel
theorem dX3_adds_19 : decode cX3_adds 19 = .ok (.iastore, 1) := by decide +kernel
theorem dX3_adds_20 : decode cX3_adds 20 = .ok (.aload_n 0, 1) := by decide +kernel
theorem dX3_adds_21 : decode cX3_adds 21 = .ok (.getfield 18, 3) := by decide +kernel
theorem dX3_adds_24 : decode cX3_adds 24 = .ok (.aload_n 0, 1) := by decide +kernel
theorem dX3_adds_25 : decode cX3_adds 25 = .ok (.getfield 21, 3) := by decide +kernel
theorem dX3_adds_28 : decode cX3_adds 28 = .ok (.iload_n 3, 1) := by decide +kernel
theorem dX3_adds_29 : decode cX3_adds 29 = .ok (.iastore, 1) := by decide +kernel
theorem dX3_adds_30 : decode cX3_adds 30 = .ok (.aload_n 0, 1) := by decide +kernel
theorem dX3_adds_31 : decode cX3_adds 31 = .ok (.dup, 1) := by decide +kernel
theorem dX3_adds_32 : decode cX3_adds 32 = .ok (.getfield 21, 3) := by decide +kernel
theorem dX3_adds_35 : decode cX3_adds 35 = .ok (.iconst 1, 1) := by decide +kernel
theorem dX3_adds_36 : decode cX3_adds 36 = .ok (.iadd, 1) := by decide +kernel
theorem dX3_adds_37 : decode cX3_adds 37 = .ok (.putfield 21, 3) := by decide +kernel
theorem dX3_adds_40 : decode cX3_adds 40 = .ok (.return_, 1) := by decide +kernel
abbrev cX3_sorts : ByteArray := prog_2_method_3_code
def yX3_sorts : MethodName := ⟨RX3, "sorts", "(LRowSparse$Heap;[IZ)V"⟩
theorem dX3_sorts_0 : decode cX3_sorts 0 = .ok (.iconst 0, 1) := by decide +kernel
theorem dX3_sorts_1 : decode cX3_sorts 1 = .ok (.istore 4, 2) := by decide +kernel
theorem dX3_sorts_3 : decode cX3_sorts 3 = .ok (.iload 4, 2) := by decide +kernel
theorem dX3_sorts_5 : decode cX3_sorts 5 = .ok (.bipush 60, 2) := by decide +kernel
theorem dX3_sorts_7 : decode cX3_sorts 7 = .ok (.if_icmp .gt 14, 3) := by decide +kernel
theorem dX3_sorts_10 : decode cX3_sorts 10 = .ok (.aload_n 2, 1) := by decide +kernel
theorem dX3_sorts_11 : decode cX3_sorts 11 = .ok (.iload 4, 2) := by decide +kernel
theorem dX3_sorts_13 : decode cX3_sorts 13 = .ok (.iconst 0, 1) := by decide +kernel
theorem dX3_sorts_14 : decode cX3_sorts 14 = .ok (.iastore, 1) := by decide +kernel
theorem dX3_sorts_15 : decode cX3_sorts 15 = .ok (.iinc 4 1, 3) := by decide +kernel
theorem dX3_sorts_18 : decode cX3_sorts 18 = .ok (.goto (-15), 3) := by decide +kernel
theorem dX3_sorts_21 : decode cX3_sorts 21 = .ok (.iconst 0, 1) := by decide +kernel
theorem dX3_sorts_22 : decode cX3_sorts 22 = .ok (.istore 4, 2) := by decide +kernel
theorem dX3_sorts_24 : decode cX3_sorts 24 = .ok (.iload 4, 2) := by decide +kernel
theorem dX3_sorts_26 : decode cX3_sorts 26 = .ok (.aload_n 0, 1) := by decide +kernel
theorem dX3_sorts_27 : decode cX3_sorts 27 = .ok (.getfield 21, 3) := by decide +kernel
theorem dX3_sorts_30 : decode cX3_sorts 30 = .ok (.if_icmp .ge 38, 3) := by decide +kernel
theorem dX3_sorts_33 : decode cX3_sorts 33 = .ok (.aload_n 2, 1) := by decide +kernel
theorem dX3_sorts_34 : decode cX3_sorts 34 = .ok (.iload_n 3, 1) := by decide +kernel
theorem dX3_sorts_35 : decode cX3_sorts 35 = .ok (.ifCond .eq 13, 3) := by decide +kernel
theorem dX3_sorts_38 : decode cX3_sorts 38 = .ok (.aload_n 0, 1) := by decide +kernel
theorem dX3_sorts_39 : decode cX3_sorts 39 = .ok (.getfield 9, 3) := by decide +kernel
theorem dX3_sorts_42 : decode cX3_sorts 42 = .ok (.iload 4, 2) := by decide +kernel
theorem dX3_sorts_44 : decode cX3_sorts 44 = .ok (.iaload, 1) := by decide +kernel
theorem dX3_sorts_45 : decode cX3_sorts 45 = .ok (.goto 10, 3) := by decide +kernel
theorem dX3_sorts_48 : decode cX3_sorts 48 = .ok (.aload_n 0, 1) := by decide +kernel
theorem dX3_sorts_49 : decode cX3_sorts 49 = .ok (.getfield 15, 3) := by decide +kernel
theorem dX3_sorts_52 : decode cX3_sorts 52 = .ok (.iload 4, 2) := by decide +kernel
theorem dX3_sorts_54 : decode cX3_sorts 54 = .ok (.iaload, 1) := by decide +kernel
theorem dX3_sorts_55 : decode cX3_sorts 55 = .ok (.iconst 1, 1) := by decide +kernel
theorem dX3_sorts_56 : decode cX3_sorts 56 = .ok (.iadd, 1) := by decide +kernel
theorem dX3_sorts_57 : decode cX3_sorts 57 = .ok (.dup2, 1) := by decide +kernel
theorem dX3_sorts_58 : decode cX3_sorts 58 = .ok (.iaload, 1) := by decide +kernel
theorem dX3_sorts_59 : decode cX3_sorts 59 = .ok (.iconst 1, 1) := by decide +kernel
theorem dX3_sorts_60 : decode cX3_sorts 60 = .ok (.iadd, 1) := by decide +kernel
theorem dX3_sorts_61 : decode cX3_sorts 61 = .ok (.iastore, 1) := by decide +kernel
theorem dX3_sorts_62 : decode cX3_sorts 62 = .ok (.iinc 4 1, 3) := by decide +kernel
theorem dX3_sorts_65 : decode cX3_sorts 65 = .ok (.goto (-41), 3) := by decide +kernel
theorem dX3_sorts_68 : decode cX3_sorts 68 = .ok (.iconst 1, 1) := by decide +kernel
theorem dX3_sorts_69 : decode cX3_sorts 69 = .ok (.istore 4, 2) := by decide +kernel
theorem dX3_sorts_71 : decode cX3_sorts 71 = .ok (.iload 4, 2) := by decide +kernel
theorem dX3_sorts_73 : decode cX3_sorts 73 = .ok (.bipush 60, 2) := by decide +kernel
theorem dX3_sorts_75 : decode cX3_sorts 75 = .ok (.if_icmp .gt 22, 3) := by decide +kernel
theorem dX3_sorts_78 : decode cX3_sorts 78 = .ok (.aload_n 2, 1) := by decide +kernel
theorem dX3_sorts_79 : decode cX3_sorts 79 = .ok (.iload 4, 2) := by decide +kernel
theorem dX3_sorts_81 : decode cX3_sorts 81 = .ok (.dup2, 1) := by decide +kernel
theorem dX3_sorts_82 : decode cX3_sorts 82 = .ok (.iaload, 1) := by decide +kernel
theorem dX3_sorts_83 : decode cX3_sorts 83 = .ok (.aload_n 2, 1) := by decide +kernel
theorem dX3_sorts_84 : decode cX3_sorts 84 = .ok (.iload 4, 2) := by decide +kernel
theorem dX3_sorts_86 : decode cX3_sorts 86 = .ok (.iconst 1, 1) := by decide +kernel
theorem dX3_sorts_87 : decode cX3_sorts 87 = .ok (.isub, 1) := by decide +kernel
theorem dX3_sorts_88 : decode cX3_sorts 88 = .ok (.iaload, 1) := by decide +kernel
theorem dX3_sorts_89 : decode cX3_sorts 89 = .ok (.iadd, 1) := by decide +kernel
theorem dX3_sorts_90 : decode cX3_sorts 90 = .ok (.iastore, 1) := by decide +kernel
theorem dX3_sorts_91 : decode cX3_sorts 91 = .ok (.iinc 4 1, 3) := by decide +kernel
theorem dX3_sorts_94 : decode cX3_sorts 94 = .ok (.goto (-23), 3) := by decide +kernel
theorem dX3_sorts_97 : decode cX3_sorts 97 = .ok (.iconst 0, 1) := by decide +kernel
theorem dX3_sorts_98 : decode cX3_sorts 98 = .ok (.istore 4, 2) := by decide +kernel
theorem dX3_sorts_100 : decode cX3_sorts 100 = .ok (.iload 4, 2) := by decide +kernel
theorem dX3_sorts_102 : decode cX3_sorts 102 = .ok (.aload_n 0, 1) := by decide +kernel
theorem dX3_sorts_103 : decode cX3_sorts 103 = .ok (.getfield 21, 3) := by decide +kernel
theorem dX3_sorts_106 : decode cX3_sorts 106 = .ok (.if_icmp .ge 81, 3) := by decide +kernel
theorem dX3_sorts_109 : decode cX3_sorts 109 = .ok (.aload_n 2, 1) := by decide +kernel
theorem dX3_sorts_110 : decode cX3_sorts 110 = .ok (.iload_n 3, 1) := by decide +kernel
theorem dX3_sorts_111 : decode cX3_sorts 111 = .ok (.ifCond .eq 13, 3) := by decide +kernel
theorem dX3_sorts_114 : decode cX3_sorts 114 = .ok (.aload_n 0, 1) := by decide +kernel
theorem dX3_sorts_115 : decode cX3_sorts 115 = .ok (.getfield 9, 3) := by decide +kernel
theorem dX3_sorts_118 : decode cX3_sorts 118 = .ok (.iload 4, 2) := by decide +kernel
theorem dX3_sorts_120 : decode cX3_sorts 120 = .ok (.iaload, 1) := by decide +kernel
theorem dX3_sorts_121 : decode cX3_sorts 121 = .ok (.goto 10, 3) := by decide +kernel
theorem dX3_sorts_124 : decode cX3_sorts 124 = .ok (.aload_n 0, 1) := by decide +kernel
theorem dX3_sorts_125 : decode cX3_sorts 125 = .ok (.getfield 15, 3) := by decide +kernel
theorem dX3_sorts_128 : decode cX3_sorts 128 = .ok (.iload 4, 2) := by decide +kernel
theorem dX3_sorts_130 : decode cX3_sorts 130 = .ok (.iaload, 1) := by decide +kernel
theorem dX3_sorts_131 : decode cX3_sorts 131 = .ok (.dup2, 1) := by decide +kernel
theorem dX3_sorts_132 : decode cX3_sorts 132 = .ok (.iaload, 1) := by decide +kernel
theorem dX3_sorts_133 : decode cX3_sorts 133 = .ok (.dup_x2, 1) := by decide +kernel
theorem dX3_sorts_134 : decode cX3_sorts 134 = .ok (.iconst 1, 1) := by decide +kernel
theorem dX3_sorts_135 : decode cX3_sorts 135 = .ok (.iadd, 1) := by decide +kernel
theorem dX3_sorts_136 : decode cX3_sorts 136 = .ok (.iastore, 1) := by decide +kernel
theorem dX3_sorts_137 : decode cX3_sorts 137 = .ok (.istore 5, 2) := by decide +kernel
theorem dX3_sorts_139 : decode cX3_sorts 139 = .ok (.aload_n 1, 1) := by decide +kernel
theorem dX3_sorts_140 : decode cX3_sorts 140 = .ok (.getfield 9, 3) := by decide +kernel
theorem dX3_sorts_143 : decode cX3_sorts 143 = .ok (.iload 5, 2) := by decide +kernel
theorem dX3_sorts_145 : decode cX3_sorts 145 = .ok (.aload_n 0, 1) := by decide +kernel
theorem dX3_sorts_146 : decode cX3_sorts 146 = .ok (.getfield 9, 3) := by decide +kernel
theorem dX3_sorts_149 : decode cX3_sorts 149 = .ok (.iload 4, 2) := by decide +kernel
theorem dX3_sorts_151 : decode cX3_sorts 151 = .ok (.iaload, 1) := by decide +kernel
theorem dX3_sorts_152 : decode cX3_sorts 152 = .ok (.iastore, 1) := by decide +kernel
theorem dX3_sorts_153 : decode cX3_sorts 153 = .ok (.aload_n 1, 1) := by decide +kernel
theorem dX3_sorts_154 : decode cX3_sorts 154 = .ok (.getfield 15, 3) := by decide +kernel
theorem dX3_sorts_157 : decode cX3_sorts 157 = .ok (.iload 5, 2) := by decide +kernel
theorem dX3_sorts_159 : decode cX3_sorts 159 = .ok (.aload_n 0, 1) := by decide +kernel
theorem dX3_sorts_160 : decode cX3_sorts 160 = .ok (.getfield 15, 3) := by decide +kernel
theorem dX3_sorts_163 : decode cX3_sorts 163 = .ok (.iload 4, 2) := by decide +kernel
theorem dX3_sorts_165 : decode cX3_sorts 165 = .ok (.iaload, 1) := by decide +kernel
theorem dX3_sorts_166 : decode cX3_sorts 166 = .ok (.iastore, 1) := by decide +kernel
theorem dX3_sorts_167 : decode cX3_sorts 167 = .ok (.aload_n 1, 1) := by decide +kernel
theorem dX3_sorts_168 : decode cX3_sorts 168 = .ok (.getfield 18, 3) := by decide +kernel
theorem dX3_sorts_171 : decode cX3_sorts 171 = .ok (.iload 5, 2) := by decide +kernel
theorem dX3_sorts_173 : decode cX3_sorts 173 = .ok (.aload_n 0, 1) := by decide +kernel
theorem dX3_sorts_174 : decode cX3_sorts 174 = .ok (.getfield 18, 3) := by decide +kernel
theorem dX3_sorts_177 : decode cX3_sorts 177 = .ok (.iload 4, 2) := by decide +kernel
theorem dX3_sorts_179 : decode cX3_sorts 179 = .ok (.iaload, 1) := by decide +kernel
theorem dX3_sorts_180 : decode cX3_sorts 180 = .ok (.iastore, 1) := by decide +kernel
theorem dX3_sorts_181 : decode cX3_sorts 181 = .ok (.iinc 4 1, 3) := by decide +kernel
theorem dX3_sorts_184 : decode cX3_sorts 184 = .ok (.goto (-84), 3) := by decide +kernel
theorem dX3_sorts_187 : decode cX3_sorts 187 = .ok (.aload_n 1, 1) := by decide +kernel
theorem dX3_sorts_188 : decode cX3_sorts 188 = .ok (.aload_n 0, 1) := by decide +kernel
theorem dX3_sorts_189 : decode cX3_sorts 189 = .ok (.getfield 21, 3) := by decide +kernel
theorem dX3_sorts_192 : decode cX3_sorts 192 = .ok (.putfield 21, 3) := by decide +kernel
theorem dX3_sorts_195 : decode cX3_sorts 195 = .ok (.return_, 1) := by decide +kernel
theorem q10 : (Jvm.Cond.initialized "RowSparse$Heap") ∈ lw_all := lw_g (lw_at lw_m1 3 rfl) rfl
theorem q50 : (Jvm.Cond.instantiable "RowSparse$Heap" (4 : Nat)) ∈ lw_all := lw_g (lw_at lw_m1 43 rfl) rfl
theorem q52 : (Jvm.Cond.instanceMethod ({ cls := "RowSparse$Heap", name := "<init>", desc := "()V" } : Jvm.MethodName)) ∈ lw_all := lw_g (lw_at lw_m1 45 rfl) rfl
theorem q53 : (Jvm.Cond.code ({ cls := "RowSparse$Heap", name := "<init>", desc := "()V" } : Jvm.MethodName) prog_2_method_1_code (1 : Nat) (Option.none : Option Jvm.ClassFile.FieldType)) ∈ lw_all := lw_g (lw_at lw_m1 46 rfl) rfl
theorem q54 : (Jvm.Cond.methodLink "RowSparse$Heap" (3 : Nat) ({ cls := "java/lang/Object", name := "<init>", desc := "()V" } : Jvm.MethodName)) ∈ lw_all := lw_g (lw_at lw_m1 47 rfl) rfl
theorem q55 : (Jvm.Cond.fieldLink "RowSparse$Heap" (9 : Nat) "RowSparse$Heap" "row" "[I") ∈ lw_all := lw_g (lw_at lw_m1 48 rfl) rfl
theorem q57 : (Jvm.Cond.fieldLink "RowSparse$Heap" (15 : Nat) "RowSparse$Heap" "column" "[I") ∈ lw_all := lw_g (lw_at lw_m1 50 rfl) rfl
theorem q59 : (Jvm.Cond.fieldLink "RowSparse$Heap" (18 : Nat) "RowSparse$Heap" "value" "[I") ∈ lw_all := lw_g (lw_at lw_m1 52 rfl) rfl
theorem q61 : (Jvm.Cond.fieldLink "RowSparse$Heap" (21 : Nat) "RowSparse$Heap" "size" "I") ∈ lw_all := lw_g (lw_at lw_m1 54 rfl) rfl
theorem q63 : (Jvm.Cond.laysFinal "RowSparse$Heap" "RowSparse$Heap" "row" "[I") ∈ lw_all := lw_g (lw_at lw_m1 56 rfl) rfl
theorem q64 : (Jvm.Cond.soleField "RowSparse$Heap" "row") ∈ lw_all := lw_g (lw_at lw_m1 57 rfl) rfl
theorem q65 : (Jvm.Cond.laysFinal "RowSparse$Heap" "RowSparse$Heap" "column" "[I") ∈ lw_all := lw_g (lw_at lw_m1 58 rfl) rfl
theorem q66 : (Jvm.Cond.soleField "RowSparse$Heap" "column") ∈ lw_all := lw_g (lw_at lw_m1 59 rfl) rfl
theorem q67 : (Jvm.Cond.laysFinal "RowSparse$Heap" "RowSparse$Heap" "value" "[I") ∈ lw_all := lw_g (lw_at lw_m1 60 rfl) rfl
theorem q68 : (Jvm.Cond.soleField "RowSparse$Heap" "value") ∈ lw_all := lw_g (lw_at lw_m1 61 rfl) rfl
theorem q69 : (Jvm.Cond.lays "RowSparse$Heap" "RowSparse$Heap" "size" "I") ∈ lw_all := lw_g (lw_at lw_m1 62 rfl) rfl
theorem q70 : (Jvm.Cond.soleField "RowSparse$Heap" "size") ∈ lw_all := lw_g (lw_at lw_m1 63 rfl) rfl
theorem q71 : (Jvm.Cond.superclass "RowSparse$Heap" "java/lang/Object") ∈ lw_all := lw_g (lw_at lw_m1 64 rfl) rfl
theorem q121 : (Jvm.Cond.instanceMethod ({ cls := "RowSparse$Heap", name := "adds", desc := "(III)V" } : Jvm.MethodName)) ∈ lw_all := lw_g (lw_at lw_m1 114 rfl) rfl
theorem q122 : (Jvm.Cond.selects "RowSparse$Heap" ({ cls := "RowSparse$Heap", name := "adds", desc := "(III)V" } : Jvm.MethodName) ({ cls := "RowSparse$Heap", name := "adds", desc := "(III)V" } : Jvm.MethodName)) ∈ lw_all := lw_g (lw_at lw_m1 115 rfl) rfl
theorem q123 : (Jvm.Cond.code ({ cls := "RowSparse$Heap", name := "adds", desc := "(III)V" } : Jvm.MethodName) prog_2_method_2_code (4 : Nat) (Option.none : Option Jvm.ClassFile.FieldType)) ∈ lw_all := lw_g (lw_at lw_m1 116 rfl) rfl
theorem q129 : (Jvm.Cond.instanceMethod ({ cls := "RowSparse$Heap", name := "sorts", desc := "(LRowSparse$Heap;[IZ)V" } : Jvm.MethodName)) ∈ lw_all := lw_g (lw_at lw_m1 122 rfl) rfl
theorem q130 : (Jvm.Cond.selects "RowSparse$Heap" ({ cls := "RowSparse$Heap", name := "sorts", desc := "(LRowSparse$Heap;[IZ)V" } : Jvm.MethodName) ({ cls := "RowSparse$Heap", name := "sorts", desc := "(LRowSparse$Heap;[IZ)V" } : Jvm.MethodName)) ∈ lw_all := lw_g (lw_at lw_m1 123 rfl) rfl
theorem q131 : (Jvm.Cond.code ({ cls := "RowSparse$Heap", name := "sorts", desc := "(LRowSparse$Heap;[IZ)V" } : Jvm.MethodName) prog_2_method_3_code (6 : Nat) (Option.none : Option Jvm.ClassFile.FieldType)) ∈ lw_all := lw_g (lw_at lw_m1 124 rfl) rfl
theorem in_X3 : ∀ w ∈ wsX30, w ∈ lw_all := lw_in wsX30 [63, 65, 67, 69] (by decide +kernel) (by decide +kernel)
/-! RowSparseLaw -/
set_option maxRecDepth 100000
def RX0 : String := "RowSparseLaw"
abbrev cX0_cell : ByteArray := method_2_code
def yX0_cell : MethodName := ⟨RX0, "cell", "([II)I"⟩
theorem dX0_cell_0 : decode cX0_cell 0 = .ok (.iload_n 1, 1) := by decide +kernel
theorem dX0_cell_1 : decode cX0_cell 1 = .ok (.aload_n 0, 1) := by decide +kernel
theorem dX0_cell_2 : decode cX0_cell 2 = .ok (.arraylength, 1) := by decide +kernel
theorem dX0_cell_3 : decode cX0_cell 3 = .ok (.if_icmp .ge 9, 3) := by decide +kernel
theorem dX0_cell_6 : decode cX0_cell 6 = .ok (.aload_n 0, 1) := by decide +kernel
theorem dX0_cell_7 : decode cX0_cell 7 = .ok (.iload_n 1, 1) := by decide +kernel
theorem dX0_cell_8 : decode cX0_cell 8 = .ok (.iaload, 1) := by decide +kernel
theorem dX0_cell_9 : decode cX0_cell 9 = .ok (.goto 4, 3) := by decide +kernel
theorem dX0_cell_12 : decode cX0_cell 12 = .ok (.iconst 0, 1) := by decide +kernel
theorem dX0_cell_13 : decode cX0_cell 13 = .ok (.ireturn, 1) := by decide +kernel
theorem q7 : (Jvm.Cond.initialized "RowSparseLaw") ∈ lw_all := lw_g (lw_at lw_m1 0 rfl) rfl
theorem q13 : (Jvm.Cond.classLink "RowSparseLaw" (7 : Nat) "RowSparse") ∈ lw_all := lw_g (lw_at lw_m1 6 rfl) rfl
theorem q15 : (Jvm.Cond.methodLink "RowSparseLaw" (15 : Nat) ({ cls := "RowSparse", name := "<init>", desc := "(III)V" } : Jvm.MethodName)) ∈ lw_all := lw_g (lw_at lw_m1 8 rfl) rfl
theorem q113 : (Jvm.Cond.methodLink "RowSparseLaw" (21 : Nat) ({ cls := "RowSparse", name := "add", desc := "(III)Z" } : Jvm.MethodName)) ∈ lw_all := lw_g (lw_at lw_m1 106 rfl) rfl
theorem q124 : (Jvm.Cond.methodLink "RowSparseLaw" (26 : Nat) ({ cls := "RowSparse", name := "build", desc := "()I" } : Jvm.MethodName)) ∈ lw_all := lw_g (lw_at lw_m1 117 rfl) rfl
theorem q148 : (Jvm.Cond.methodLink "RowSparseLaw" (31 : Nat) ({ cls := "RowSparse", name := "nnz", desc := "()I" } : Jvm.MethodName)) ∈ lw_all := lw_g (lw_at lw_m1 141 rfl) rfl
theorem q152 : (Jvm.Cond.methodLink "RowSparseLaw" (35 : Nat) ({ cls := "RowSparse", name := "at", desc := "(II)I" } : Jvm.MethodName)) ∈ lw_all := lw_g (lw_at lw_m1 145 rfl) rfl
theorem q160 : (Jvm.Cond.methodLink "RowSparseLaw" (40 : Nat) ({ cls := "RowSparse", name := "rowStart", desc := "(I)I" } : Jvm.MethodName)) ∈ lw_all := lw_g (lw_at lw_m1 153 rfl) rfl
theorem q164 : (Jvm.Cond.methodLink "RowSparseLaw" (45 : Nat) ({ cls := "RowSparse", name := "colAt", desc := "(I)I" } : Jvm.MethodName)) ∈ lw_all := lw_g (lw_at lw_m1 157 rfl) rfl
theorem q168 : (Jvm.Cond.methodLink "RowSparseLaw" (49 : Nat) ({ cls := "RowSparse", name := "setX", desc := "(II)Z" } : Jvm.MethodName)) ∈ lw_all := lw_g (lw_at lw_m1 161 rfl) rfl
theorem q172 : (Jvm.Cond.methodLink "RowSparseLaw" (54 : Nat) ({ cls := "RowSparse", name := "multiplyVector", desc := "()Z" } : Jvm.MethodName)) ∈ lw_all := lw_g (lw_at lw_m1 165 rfl) rfl
theorem q176 : (Jvm.Cond.methodLink "RowSparseLaw" (59 : Nat) ({ cls := "RowSparse", name := "y", desc := "(I)I" } : Jvm.MethodName)) ∈ lw_all := lw_g (lw_at lw_m1 169 rfl) rfl
theorem q180 : (Jvm.Cond.methodLink "RowSparseLaw" (63 : Nat) ({ cls := "RowSparse", name := "transpose", desc := "()Z" } : Jvm.MethodName)) ∈ lw_all := lw_g (lw_at lw_m1 173 rfl) rfl
theorem q184 : (Jvm.Cond.methodLink "RowSparseLaw" (67 : Nat) ({ cls := "RowSparse", name := "square", desc := "()I" } : Jvm.MethodName)) ∈ lw_all := lw_g (lw_at lw_m1 177 rfl) rfl
theorem q192 : (Jvm.Cond.methodLink "RowSparseLaw" (71 : Nat) ({ cls := "RowSparse", name := "count", desc := "(I)I" } : Jvm.MethodName)) ∈ lw_all := lw_g (lw_at lw_m1 185 rfl) rfl
theorem q196 : (Jvm.Cond.methodLink "RowSparseLaw" (9 : Nat) ({ cls := "RowSparseLaw", name := "cell", desc := "([II)I" } : Jvm.MethodName)) ∈ lw_all := lw_g (lw_at lw_m1 189 rfl) rfl
theorem q197 : (Jvm.Cond.static ({ cls := "RowSparseLaw", name := "cell", desc := "([II)I" } : Jvm.MethodName)) ∈ lw_all := lw_g (lw_at lw_m1 190 rfl) rfl
theorem q198 : (Jvm.Cond.code ({ cls := "RowSparseLaw", name := "cell", desc := "([II)I" } : Jvm.MethodName) method_2_code (2 : Nat) (Option.some Jvm.ClassFile.FieldType.int)) ∈ lw_all := lw_g (lw_at lw_m1 191 rfl) rfl
theorem q199 : (Jvm.Cond.classLink "RowSparseLaw" (18 : Nat) "RowSparseModel") ∈ lw_all := lw_g (lw_at lw_m1 192 rfl) rfl
theorem q201 : (Jvm.Cond.methodLink "RowSparseLaw" (20 : Nat) ({ cls := "RowSparseModel", name := "<init>", desc := "(III)V" } : Jvm.MethodName)) ∈ lw_all := lw_g (lw_at lw_m1 194 rfl) rfl
theorem q236 : (Jvm.Cond.methodLink "RowSparseLaw" (25 : Nat) ({ cls := "RowSparseModel", name := "add", desc := "(III)Z" } : Jvm.MethodName)) ∈ lw_all := lw_g (lw_at lw_m1 229 rfl) rfl
theorem q247 : (Jvm.Cond.methodLink "RowSparseLaw" (30 : Nat) ({ cls := "RowSparseModel", name := "build", desc := "()I" } : Jvm.MethodName)) ∈ lw_all := lw_g (lw_at lw_m2 0 rfl) rfl
theorem q263 : (Jvm.Cond.methodLink "RowSparseLaw" (34 : Nat) ({ cls := "RowSparseModel", name := "nnz", desc := "()I" } : Jvm.MethodName)) ∈ lw_all := lw_g (lw_at lw_m2 16 rfl) rfl
theorem q267 : (Jvm.Cond.methodLink "RowSparseLaw" (39 : Nat) ({ cls := "RowSparseModel", name := "at", desc := "(II)I" } : Jvm.MethodName)) ∈ lw_all := lw_g (lw_at lw_m2 20 rfl) rfl
theorem q271 : (Jvm.Cond.methodLink "RowSparseLaw" (44 : Nat) ({ cls := "RowSparseModel", name := "rowStart", desc := "(I)I" } : Jvm.MethodName)) ∈ lw_all := lw_g (lw_at lw_m2 24 rfl) rfl
theorem q275 : (Jvm.Cond.methodLink "RowSparseLaw" (48 : Nat) ({ cls := "RowSparseModel", name := "colAt", desc := "(I)I" } : Jvm.MethodName)) ∈ lw_all := lw_g (lw_at lw_m2 28 rfl) rfl
theorem q279 : (Jvm.Cond.methodLink "RowSparseLaw" (53 : Nat) ({ cls := "RowSparseModel", name := "setX", desc := "(II)Z" } : Jvm.MethodName)) ∈ lw_all := lw_g (lw_at lw_m2 32 rfl) rfl
theorem q283 : (Jvm.Cond.methodLink "RowSparseLaw" (58 : Nat) ({ cls := "RowSparseModel", name := "multiplyVector", desc := "()Z" } : Jvm.MethodName)) ∈ lw_all := lw_g (lw_at lw_m2 36 rfl) rfl
theorem q287 : (Jvm.Cond.methodLink "RowSparseLaw" (62 : Nat) ({ cls := "RowSparseModel", name := "y", desc := "(I)I" } : Jvm.MethodName)) ∈ lw_all := lw_g (lw_at lw_m2 40 rfl) rfl
theorem q291 : (Jvm.Cond.methodLink "RowSparseLaw" (66 : Nat) ({ cls := "RowSparseModel", name := "transpose", desc := "()Z" } : Jvm.MethodName)) ∈ lw_all := lw_g (lw_at lw_m2 44 rfl) rfl
theorem q295 : (Jvm.Cond.methodLink "RowSparseLaw" (70 : Nat) ({ cls := "RowSparseModel", name := "square", desc := "()I" } : Jvm.MethodName)) ∈ lw_all := lw_g (lw_at lw_m2 48 rfl) rfl
theorem q299 : (Jvm.Cond.methodLink "RowSparseLaw" (74 : Nat) ({ cls := "RowSparseModel", name := "count", desc := "(I)I" } : Jvm.MethodName)) ∈ lw_all := lw_g (lw_at lw_m2 52 rfl) rfl
end
section
/-! RowSparse -/
set_option maxRecDepth 100000
def RX1 : String := "RowSparse"
def TX1 : u_T := fun k => match k with
  | 0 => ("RowSparse", "cap", "I", true)
  | 1 => ("RowSparse", "now", "LRowSparse$Matrix;", false)
  | 2 => ("RowSparse", "next", "LRowSparse$Matrix;", false)
  | 3 => ("RowSparse", "pending", "LRowSparse$Heap;", true)
  | 4 => ("RowSparse", "one", "LRowSparse$Heap;", true)
  | 5 => ("RowSparse", "other", "LRowSparse$Heap;", true)
  | 6 => ("RowSparse", "count", "[I", true)
  | 7 => ("RowSparse", "x", "[I", true)
  | 8 => ("RowSparse", "y", "[I", true)
  | _ => ("RowSparse", "sum", "[I", true)
def tyX1 : Nat → FieldType := fun k => match k with
  | 0 => .int
  | 1 => .object "RowSparse$Matrix"
  | 2 => .object "RowSparse$Matrix"
  | 3 => .object "RowSparse$Heap"
  | 4 => .object "RowSparse$Heap"
  | 5 => .object "RowSparse$Heap"
  | 6 => .array .int
  | 7 => .array .int
  | 8 => .array .int
  | _ => .array .int
abbrev wsX10 : List Cond := u_ws RX1 TX1 10
theorem nmX1 : ∀ a, a < 10 → ∀ b, b < 10 → a ≠ b → (TX1 a).2.1 ≠ (TX1 b).2.1 := by decide +kernel
theorem tyX1_ok : ∀ k, k < 10 → parseFieldDescriptor (TX1 k).2.2.1 = some (tyX1 k) := by decide +kernel
abbrev cX1_init : ByteArray := prog_1_method_2_code
def yX1_init : MethodName := ⟨RX1, "<init>", "(III)V"⟩
theorem dX1_init_0 : decode cX1_init 0 = .ok (.aload_n 0, 1) := by decide +kernel
theorem dX1_init_1 : decode cX1_init 1 = .ok (.invokespecial 3, 3) := by decide +kernel
theorem dX1_init_4 : decode cX1_init 4 = .ok (.aload_n 0, 1) := by decide +kernel
theorem dX1_init_5 : decode cX1_init 5 = .ok (.new 9, 3) := by decide +kernel
theorem dX1_init_8 : decode cX1_init 8 = .ok (.dup, 1) := by decide +kernel
theorem dX1_init_9 : decode cX1_init 9 = .ok (.invokespecial 11, 3) := by decide +kernel
theorem dX1_init_12 : decode cX1_init 12 = .ok (.putfield 12, 3) := by decide +kernel
theorem dX1_init_15 : decode cX1_init 15 = .ok (.aload_n 0, 1) := by decide +kernel
theorem dX1_init_16 : decode cX1_init 16 = .ok (.new 9, 3) := by decide +kernel
theorem dX1_init_19 : decode cX1_init 19 = .ok (.dup, 1) := by decide +kernel
theorem dX1_init_20 : decode cX1_init 20 = .ok (.invokespecial 11, 3) := by decide +kernel
theorem dX1_init_23 : decode cX1_init 23 = .ok (.putfield 16, 3) := by decide +kernel
theorem dX1_init_26 : decode cX1_init 26 = .ok (.aload_n 0, 1) := by decide +kernel
theorem dX1_init_27 : decode cX1_init 27 = .ok (.new 19, 3) := by decide +kernel
theorem dX1_init_30 : decode cX1_init 30 = .ok (.dup, 1) := by decide +kernel
theorem dX1_init_31 : decode cX1_init 31 = .ok (.invokespecial 21, 3) := by decide +kernel
theorem dX1_init_34 : decode cX1_init 34 = .ok (.putfield 22, 3) := by decide +kernel
theorem dX1_init_37 : decode cX1_init 37 = .ok (.aload_n 0, 1) := by decide +kernel
theorem dX1_init_38 : decode cX1_init 38 = .ok (.new 19, 3) := by decide +kernel
theorem dX1_init_41 : decode cX1_init 41 = .ok (.dup, 1) := by decide +kernel
theorem dX1_init_42 : decode cX1_init 42 = .ok (.invokespecial 21, 3) := by decide +kernel
theorem dX1_init_45 : decode cX1_init 45 = .ok (.putfield 26, 3) := by decide +kernel
theorem dX1_init_48 : decode cX1_init 48 = .ok (.aload_n 0, 1) := by decide +kernel
theorem dX1_init_49 : decode cX1_init 49 = .ok (.new 19, 3) := by decide +kernel
theorem dX1_init_52 : decode cX1_init 52 = .ok (.dup, 1) := by decide +kernel
theorem dX1_init_53 : decode cX1_init 53 = .ok (.invokespecial 21, 3) := by decide +kernel
theorem dX1_init_56 : decode cX1_init 56 = .ok (.putfield 29, 3) := by decide +kernel
theorem dX1_init_59 : decode cX1_init 59 = .ok (.aload_n 0, 1) := by decide +kernel
theorem dX1_init_60 : decode cX1_init 60 = .ok (.bipush 61, 2) := by decide +kernel
theorem dX1_init_62 : decode cX1_init 62 = .ok (.newarray .int, 2) := by decide +kernel
theorem dX1_init_64 : decode cX1_init 64 = .ok (.putfield 32, 3) := by decide +kernel
theorem dX1_init_67 : decode cX1_init 67 = .ok (.aload_n 0, 1) := by decide +kernel
theorem dX1_init_68 : decode cX1_init 68 = .ok (.bipush 60, 2) := by decide +kernel
theorem dX1_init_70 : decode cX1_init 70 = .ok (.newarray .int, 2) := by decide +kernel
theorem dX1_init_72 : decode cX1_init 72 = .ok (.putfield 36, 3) := by decide +kernel
theorem dX1_init_75 : decode cX1_init 75 = .ok (.aload_n 0, 1) := by decide +kernel
theorem dX1_init_76 : decode cX1_init 76 = .ok (.bipush 60, 2) := by decide +kernel
theorem dX1_init_78 : decode cX1_init 78 = .ok (.newarray .int, 2) := by decide +kernel
theorem dX1_init_80 : decode cX1_init 80 = .ok (.putfield 39, 3) := by decide +kernel
theorem dX1_init_83 : decode cX1_init 83 = .ok (.aload_n 0, 1) := by decide +kernel
theorem dX1_init_84 : decode cX1_init 84 = .ok (.bipush 60, 2) := by decide +kernel
theorem dX1_init_86 : decode cX1_init 86 = .ok (.newarray .int, 2) := by decide +kernel
theorem dX1_init_88 : decode cX1_init 88 = .ok (.putfield 42, 3) := by decide +kernel
theorem dX1_init_91 : decode cX1_init 91 = .ok (.aload_n 0, 1) := by decide +kernel
theorem dX1_init_92 : decode cX1_init 92 = .ok (.iconst 1, 1) := by decide +kernel
theorem dX1_init_93 : decode cX1_init 93 = .ok (.sipush 1000, 3) := by decide +kernel
theorem dX1_init_96 : decode cX1_init 96 = .ok (.iload_n 3, 1) := by decide +kernel
theorem dX1_init_97 : decode cX1_init 97 = .ok (.invokestatic 45, 3) := by decide +kernel
theorem dX1_init_100 : decode cX1_init 100 = .ok (.invokestatic 51, 3) := by decide +kernel
theorem dX1_init_103 : decode cX1_init 103 = .ok (.putfield 54, 3) := by decide +kernel
theorem dX1_init_106 : decode cX1_init 106 = .ok (.aload_n 0, 1) := by decide +kernel
theorem dX1_init_107 : decode cX1_init 107 = .ok (.getfield 12, 3) := by decide +kernel
theorem dX1_init_110 : decode cX1_init 110 = .ok (.iconst 1, 1) := by decide +kernel
theorem dX1_init_111 : decode cX1_init 111 = .ok (.bipush 60, 2) := by decide +kernel
theorem dX1_init_113 : decode cX1_init 113 = .ok (.iload_n 1, 1) := by decide +kernel
theorem dX1_init_114 : decode cX1_init 114 = .ok (.invokestatic 45, 3) := by decide +kernel
theorem dX1_init_117 : decode cX1_init 117 = .ok (.invokestatic 51, 3) := by decide +kernel
theorem dX1_init_120 : decode cX1_init 120 = .ok (.iconst 1, 1) := by decide +kernel
theorem dX1_init_121 : decode cX1_init 121 = .ok (.bipush 60, 2) := by decide +kernel
theorem dX1_init_123 : decode cX1_init 123 = .ok (.iload_n 2, 1) := by decide +kernel
theorem dX1_init_124 : decode cX1_init 124 = .ok (.invokestatic 45, 3) := by decide +kernel
theorem dX1_init_127 : decode cX1_init 127 = .ok (.invokestatic 51, 3) := by decide +kernel
theorem dX1_init_130 : decode cX1_init 130 = .ok (.invokevirtual 58, 3) := by decide +kernel
theorem dX1_init_133 : decode cX1_init 133 = .ok (.return_, 1) := by decide +kernel
abbrev cX1_add : ByteArray := prog_1_method_3_code
def yX1_add : MethodName := ⟨RX1, "add", "(III)Z"⟩
theorem dX1_add_0 : decode cX1_add 0 = .ok (.iload_n 1, 1) := by decide +kernel
theorem dX1_add_1 : decode cX1_add 1 = .ok (.iconst 0, 1) := by decide +kernel
theorem dX1_add_2 : decode cX1_add 2 = .ok (.aload_n 0, 1) := by decide +kernel
theorem dX1_add_3 : decode cX1_add 3 = .ok (.getfield 12, 3) := by decide +kernel
theorem dX1_add_6 : decode cX1_add 6 = .ok (.getfield 62, 3) := by decide +kernel
theorem dX1_add_9 : decode cX1_add 9 = .ok (.iconst 1, 1) := by decide +kernel
theorem dX1_add_10 : decode cX1_add 10 = .ok (.isub, 1) := by decide +kernel
theorem dX1_add_11 : decode cX1_add 11 = .ok (.invokestatic 65, 3) := by decide +kernel
theorem dX1_add_14 : decode cX1_add 14 = .ok (.ifCond .eq 34, 3) := by decide +kernel
theorem dX1_add_17 : decode cX1_add 17 = .ok (.iload_n 2, 1) := by decide +kernel
theorem dX1_add_18 : decode cX1_add 18 = .ok (.iconst 0, 1) := by decide +kernel
theorem dX1_add_19 : decode cX1_add 19 = .ok (.aload_n 0, 1) := by decide +kernel
theorem dX1_add_20 : decode cX1_add 20 = .ok (.getfield 12, 3) := by decide +kernel
theorem dX1_add_23 : decode cX1_add 23 = .ok (.getfield 69, 3) := by decide +kernel
theorem dX1_add_26 : decode cX1_add 26 = .ok (.iconst 1, 1) := by decide +kernel
theorem dX1_add_27 : decode cX1_add 27 = .ok (.isub, 1) := by decide +kernel
theorem dX1_add_28 : decode cX1_add 28 = .ok (.invokestatic 65, 3) := by decide +kernel
theorem dX1_add_31 : decode cX1_add 31 = .ok (.ifCond .eq 17, 3) := by decide +kernel
theorem dX1_add_34 : decode cX1_add 34 = .ok (.aload_n 0, 1) := by decide +kernel
theorem dX1_add_35 : decode cX1_add 35 = .ok (.getfield 22, 3) := by decide +kernel
theorem dX1_add_38 : decode cX1_add 38 = .ok (.getfield 72, 3) := by decide +kernel
theorem dX1_add_41 : decode cX1_add 41 = .ok (.aload_n 0, 1) := by decide +kernel
theorem dX1_add_42 : decode cX1_add 42 = .ok (.getfield 54, 3) := by decide +kernel
theorem dX1_add_45 : decode cX1_add 45 = .ok (.if_icmp .ne 5, 3) := by decide +kernel
theorem dX1_add_48 : decode cX1_add 48 = .ok (.iconst 0, 1) := by decide +kernel
theorem dX1_add_49 : decode cX1_add 49 = .ok (.ireturn, 1) := by decide +kernel
theorem dX1_add_50 : decode cX1_add 50 = .ok (.aload_n 0, 1) := by decide +kernel
theorem dX1_add_51 : decode cX1_add 51 = .ok (.getfield 22, 3) := by decide +kernel
theorem dX1_add_54 : decode cX1_add 54 = .ok (.iload_n 1, 1) := by decide +kernel
theorem dX1_add_55 : decode cX1_add 55 = .ok (.iload_n 2, 1) := by decide +kernel
theorem dX1_add_56 : decode cX1_add 56 = .ok (.iload_n 3, 1) := by decide +kernel
theorem dX1_add_57 : decode cX1_add 57 = .ok (.invokevirtual 75, 3) := by decide +kernel
theorem dX1_add_60 : decode cX1_add 60 = .ok (.iconst 1, 1) := by decide +kernel
theorem dX1_add_61 : decode cX1_add 61 = .ok (.ireturn, 1) := by decide +kernel
abbrev cX1_in : ByteArray := prog_1_method_1_code
def yX1_in : MethodName := ⟨RX1, "in", "(III)Z"⟩
theorem dX1_in_0 : decode cX1_in 0 = .ok (.iload_n 0, 1) := by decide +kernel
theorem dX1_in_1 : decode cX1_in 1 = .ok (.iload_n 1, 1) := by decide +kernel
theorem dX1_in_2 : decode cX1_in 2 = .ok (.if_icmp .lt 12, 3) := by decide +kernel
theorem dX1_in_5 : decode cX1_in 5 = .ok (.iload_n 0, 1) := by decide +kernel
theorem dX1_in_6 : decode cX1_in 6 = .ok (.iload_n 2, 1) := by decide +kernel
theorem dX1_in_7 : decode cX1_in 7 = .ok (.if_icmp .gt 7, 3) := by decide +kernel
theorem dX1_in_10 : decode cX1_in 10 = .ok (.iconst 1, 1) := by decide +kernel
theorem dX1_in_11 : decode cX1_in 11 = .ok (.goto 4, 3) := by decide +kernel
theorem dX1_in_14 : decode cX1_in 14 = .ok (.iconst 0, 1) := by decide +kernel
theorem dX1_in_15 : decode cX1_in 15 = .ok (.ireturn, 1) := by decide +kernel
abbrev cX1_build : ByteArray := prog_1_method_5_code
def yX1_build : MethodName := ⟨RX1, "build", "()I"⟩
theorem dX1_build_0 : decode cX1_build 0 = .ok (.aload_n 0, 1) := by decide +kernel
theorem dX1_build_1 : decode cX1_build 1 = .ok (.getfield 26, 3) := by decide +kernel
theorem dX1_build_4 : decode cX1_build 4 = .ok (.iconst 0, 1) := by decide +kernel
theorem dX1_build_5 : decode cX1_build 5 = .ok (.putfield 72, 3) := by decide +kernel
theorem dX1_build_8 : decode cX1_build 8 = .ok (.iconst 0, 1) := by decide +kernel
theorem dX1_build_9 : decode cX1_build 9 = .ok (.istore_n 1, 1) := by decide +kernel
theorem dX1_build_10 : decode cX1_build 10 = .ok (.iload_n 1, 1) := by decide +kernel
theorem dX1_build_11 : decode cX1_build 11 = .ok (.aload_n 0, 1) := by decide +kernel
theorem dX1_build_12 : decode cX1_build 12 = .ok (.getfield 12, 3) := by decide +kernel
theorem dX1_build_15 : decode cX1_build 15 = .ok (.getfield 62, 3) := by decide +kernel
theorem dX1_build_18 : decode cX1_build 18 = .ok (.if_icmp .ge 66, 3) := by decide +kernel
theorem dX1_build_21 : decode cX1_build 21 = .ok (.aload_n 0, 1) := by decide +kernel
theorem dX1_build_22 : decode cX1_build 22 = .ok (.getfield 12, 3) := by decide +kernel
theorem dX1_build_25 : decode cX1_build 25 = .ok (.getfield 82, 3) := by decide +kernel
theorem dX1_build_28 : decode cX1_build 28 = .ok (.iload_n 1, 1) := by decide +kernel
theorem dX1_build_29 : decode cX1_build 29 = .ok (.iaload, 1) := by decide +kernel
theorem dX1_build_30 : decode cX1_build 30 = .ok (.istore_n 2, 1) := by decide +kernel
theorem dX1_build_31 : decode cX1_build 31 = .ok (.iload_n 2, 1) := by decide +kernel
theorem dX1_build_32 : decode cX1_build 32 = .ok (.aload_n 0, 1) := by decide +kernel
theorem dX1_build_33 : decode cX1_build 33 = .ok (.getfield 12, 3) := by decide +kernel
theorem dX1_build_36 : decode cX1_build 36 = .ok (.getfield 82, 3) := by decide +kernel
theorem dX1_build_39 : decode cX1_build 39 = .ok (.iload_n 1, 1) := by decide +kernel
theorem dX1_build_40 : decode cX1_build 40 = .ok (.iconst 1, 1) := by decide +kernel
theorem dX1_build_41 : decode cX1_build 41 = .ok (.iadd, 1) := by decide +kernel
theorem dX1_build_42 : decode cX1_build 42 = .ok (.iaload, 1) := by decide +kernel
theorem dX1_build_43 : decode cX1_build 43 = .ok (.if_icmp .ge 35, 3) := by decide +kernel
theorem dX1_build_46 : decode cX1_build 46 = .ok (.aload_n 0, 1) := by decide +kernel
theorem dX1_build_47 : decode cX1_build 47 = .ok (.getfield 26, 3) := by decide +kernel
theorem dX1_build_50 : decode cX1_build 50 = .ok (.iload_n 1, 1) := by decide +kernel
theorem dX1_build_51 : decode cX1_build 51 = .ok (.aload_n 0, 1) := by decide +kernel
theorem dX1_build_52 : decode cX1_build 52 = .ok (.getfield 12, 3) := by decide +kernel
theorem dX1_build_55 : decode cX1_build 55 = .ok (.getfield 85, 3) := by decide +kernel
theorem dX1_build_58 : decode cX1_build 58 = .ok (.iload_n 2, 1) := by decide +kernel
theorem dX1_build_59 : decode cX1_build 59 = .ok (.iaload, 1) := by decide +kernel
theorem dX1_build_60 : decode cX1_build 60 = .ok (.aload_n 0, 1) := by decide +kernel
theorem dX1_build_61 : decode cX1_build 61 = .ok (.getfield 12, 3) := by decide +kernel
theorem dX1_build_64 : decode cX1_build 64 = .ok (.getfield 88, 3) := by decide +kernel
theorem dX1_build_67 : decode cX1_build 67 = .ok (.iload_n 2, 1) := by decide +kernel
theorem dX1_build_68 : decode cX1_build 68 = .ok (.iaload, 1) := by decide +kernel
theorem dX1_build_69 : decode cX1_build 69 = .ok (.invokevirtual 75, 3) := by decide +kernel
theorem dX1_build_72 : decode cX1_build 72 = .ok (.iinc 2 1, 3) := by decide +kernel
theorem dX1_build_75 : decode cX1_build 75 = .ok (.goto (-44), 3) := by decide +kernel
theorem dX1_build_78 : decode cX1_build 78 = .ok (.iinc 1 1, 3) := by decide +kernel
theorem dX1_build_81 : decode cX1_build 81 = .ok (.goto (-71), 3) := by decide +kernel
theorem dX1_build_84 : decode cX1_build 84 = .ok (.iconst 0, 1) := by decide +kernel
theorem dX1_build_85 : decode cX1_build 85 = .ok (.istore_n 1, 1) := by decide +kernel
theorem dX1_build_86 : decode cX1_build 86 = .ok (.iload_n 1, 1) := by decide +kernel
theorem dX1_build_87 : decode cX1_build 87 = .ok (.aload_n 0, 1) := by decide +kernel
theorem dX1_build_88 : decode cX1_build 88 = .ok (.getfield 22, 3) := by decide +kernel
theorem dX1_build_91 : decode cX1_build 91 = .ok (.getfield 72, 3) := by decide +kernel
theorem dX1_build_94 : decode cX1_build 94 = .ok (.if_icmp .ge 43, 3) := by decide +kernel
theorem dX1_build_97 : decode cX1_build 97 = .ok (.aload_n 0, 1) := by decide +kernel
theorem dX1_build_98 : decode cX1_build 98 = .ok (.getfield 26, 3) := by decide +kernel
theorem dX1_build_101 : decode cX1_build 101 = .ok (.aload_n 0, 1) := by decide +kernel
theorem dX1_build_102 : decode cX1_build 102 = .ok (.getfield 22, 3) := by decide +kernel
theorem dX1_build_105 : decode cX1_build 105 = .ok (.getfield 91, 3) := by decide +kernel
theorem dX1_build_108 : decode cX1_build 108 = .ok (.iload_n 1, 1) := by decide +kernel
theorem dX1_build_109 : decode cX1_build 109 = .ok (.iaload, 1) := by decide +kernel
theorem dX1_build_110 : decode cX1_build 110 = .ok (.aload_n 0, 1) := by decide +kernel
theorem dX1_build_111 : decode cX1_build 111 = .ok (.getfield 22, 3) := by decide +kernel
theorem dX1_build_114 : decode cX1_build 114 = .ok (.getfield 94, 3) := by decide +kernel
theorem dX1_build_117 : decode cX1_build 117 = .ok (.iload_n 1, 1) := by decide +kernel
theorem dX1_build_118 : decode cX1_build 118 = .ok (.iaload, 1) := by decide +kernel
theorem dX1_build_119 : decode cX1_build 119 = .ok (.aload_n 0, 1) := by decide +kernel
theorem dX1_build_120 : decode cX1_build 120 = .ok (.getfield 22, 3) := by decide +kernel
theorem dX1_build_123 : decode cX1_build 123 = .ok (.getfield 95, 3) := by decide +kernel
theorem dX1_build_126 : decode cX1_build 126 = .ok (.iload_n 1, 1) := by decide +kernel
theorem dX1_build_127 : decode cX1_build 127 = .ok (.iaload, 1) := by decide +kernel
theorem dX1_build_128 : decode cX1_build 128 = .ok (.invokevirtual 75, 3) := by decide +kernel
theorem dX1_build_131 : decode cX1_build 131 = .ok (.iinc 1 1, 3) := by decide +kernel
theorem dX1_build_134 : decode cX1_build 134 = .ok (.goto (-48), 3) := by decide +kernel
theorem dX1_build_137 : decode cX1_build 137 = .ok (.aload_n 0, 1) := by decide +kernel
theorem dX1_build_138 : decode cX1_build 138 = .ok (.getfield 26, 3) := by decide +kernel
theorem dX1_build_141 : decode cX1_build 141 = .ok (.aload_n 0, 1) := by decide +kernel
theorem dX1_build_142 : decode cX1_build 142 = .ok (.getfield 29, 3) := by decide +kernel
theorem dX1_build_145 : decode cX1_build 145 = .ok (.aload_n 0, 1) := by decide +kernel
theorem dX1_build_146 : decode cX1_build 146 = .ok (.getfield 32, 3) := by decide +kernel
theorem dX1_build_149 : decode cX1_build 149 = .ok (.iconst 0, 1) := by decide +kernel
theorem dX1_build_150 : decode cX1_build 150 = .ok (.invokevirtual 96, 3) := by decide +kernel
theorem dX1_build_153 : decode cX1_build 153 = .ok (.aload_n 0, 1) := by decide +kernel
theorem dX1_build_154 : decode cX1_build 154 = .ok (.getfield 29, 3) := by decide +kernel
theorem dX1_build_157 : decode cX1_build 157 = .ok (.aload_n 0, 1) := by decide +kernel
theorem dX1_build_158 : decode cX1_build 158 = .ok (.getfield 26, 3) := by decide +kernel
theorem dX1_build_161 : decode cX1_build 161 = .ok (.aload_n 0, 1) := by decide +kernel
theorem dX1_build_162 : decode cX1_build 162 = .ok (.getfield 32, 3) := by decide +kernel
theorem dX1_build_165 : decode cX1_build 165 = .ok (.iconst 1, 1) := by decide +kernel
theorem dX1_build_166 : decode cX1_build 166 = .ok (.invokevirtual 96, 3) := by decide +kernel
theorem dX1_build_169 : decode cX1_build 169 = .ok (.aload_n 0, 1) := by decide +kernel
theorem dX1_build_170 : decode cX1_build 170 = .ok (.invokevirtual 100, 3) := by decide +kernel
theorem dX1_build_173 : decode cX1_build 173 = .ok (.ifCond .ne 5, 3) := by decide +kernel
theorem dX1_build_176 : decode cX1_build 176 = .ok (.iconst (-1), 1) := by decide +kernel
theorem dX1_build_177 : decode cX1_build 177 = .ok (.ireturn, 1) := by decide +kernel
theorem dX1_build_178 : decode cX1_build 178 = .ok (.aload_n 0, 1) := by decide +kernel
theorem dX1_build_179 : decode cX1_build 179 = .ok (.getfield 22, 3) := by decide +kernel
theorem dX1_build_182 : decode cX1_build 182 = .ok (.iconst 0, 1) := by decide +kernel
theorem dX1_build_183 : decode cX1_build 183 = .ok (.putfield 72, 3) := by decide +kernel
theorem dX1_build_186 : decode cX1_build 186 = .ok (.aload_n 0, 1) := by decide +kernel
theorem dX1_build_187 : decode cX1_build 187 = .ok (.invokevirtual 104, 3) := by decide +kernel
theorem dX1_build_190 : decode cX1_build 190 = .ok (.ireturn, 1) := by decide +kernel
abbrev cX1_merges : ByteArray := prog_1_method_6_code
def yX1_merges : MethodName := ⟨RX1, "merges", "()Z"⟩
theorem dX1_merges_0 : decode cX1_merges 0 = .ok (.aload_n 0, 1) := by decide +kernel
theorem dX1_merges_1 : decode cX1_merges 1 = .ok (.getfield 16, 3) := by decide +kernel
theorem dX1_merges_4 : decode cX1_merges 4 = .ok (.aload_n 0, 1) := by decide +kernel
theorem dX1_merges_5 : decode cX1_merges 5 = .ok (.getfield 12, 3) := by decide +kernel
theorem dX1_merges_8 : decode cX1_merges 8 = .ok (.getfield 62, 3) := by decide +kernel
theorem dX1_merges_11 : decode cX1_merges 11 = .ok (.aload_n 0, 1) := by decide +kernel
theorem dX1_merges_12 : decode cX1_merges 12 = .ok (.getfield 12, 3) := by decide +kernel
theorem dX1_merges_15 : decode cX1_merges 15 = .ok (.getfield 69, 3) := by decide +kernel
theorem dX1_merges_18 : decode cX1_merges 18 = .ok (.invokevirtual 58, 3) := by decide +kernel
theorem dX1_merges_21 : decode cX1_merges 21 = .ok (.iconst 0, 1) := by decide +kernel
theorem dX1_merges_22 : decode cX1_merges 22 = .ok (.istore_n 1, 1) := by decide +kernel
theorem dX1_merges_23 : decode cX1_merges 23 = .ok (.iconst 0, 1) := by decide +kernel
theorem dX1_merges_24 : decode cX1_merges 24 = .ok (.istore_n 2, 1) := by decide +kernel
theorem dX1_merges_25 : decode cX1_merges 25 = .ok (.iconst 0, 1) := by decide +kernel
theorem dX1_merges_26 : decode cX1_merges 26 = .ok (.istore_n 3, 1) := by decide +kernel
theorem dX1_merges_27 : decode cX1_merges 27 = .ok (.iload_n 3, 1) := by decide +kernel
theorem dX1_merges_28 : decode cX1_merges 28 = .ok (.aload_n 0, 1) := by decide +kernel
theorem dX1_merges_29 : decode cX1_merges 29 = .ok (.getfield 12, 3) := by decide +kernel
theorem dX1_merges_32 : decode cX1_merges 32 = .ok (.getfield 62, 3) := by decide +kernel
theorem dX1_merges_35 : decode cX1_merges 35 = .ok (.if_icmp .ge 152, 3) := by decide +kernel
theorem dX1_merges_38 : decode cX1_merges 38 = .ok (.iload_n 2, 1) := by decide +kernel
theorem dX1_merges_39 : decode cX1_merges 39 = .ok (.aload_n 0, 1) := by decide +kernel
theorem dX1_merges_40 : decode cX1_merges 40 = .ok (.getfield 26, 3) := by decide +kernel
theorem dX1_merges_43 : decode cX1_merges 43 = .ok (.getfield 72, 3) := by decide +kernel
theorem dX1_merges_46 : decode cX1_merges 46 = .ok (.if_icmp .ge 123, 3) := by decide +kernel
theorem dX1_merges_49 : decode cX1_merges 49 = .ok (.aload_n 0, 1) := by decide +kernel
theorem dX1_merges_50 : decode cX1_merges 50 = .ok (.getfield 26, 3) := by decide +kernel
theorem dX1_merges_53 : decode cX1_merges 53 = .ok (.getfield 91, 3) := by decide +kernel
theorem dX1_merges_56 : decode cX1_merges 56 = .ok (.iload_n 2, 1) := by decide +kernel
theorem dX1_merges_57 : decode cX1_merges 57 = .ok (.iaload, 1) := by decide +kernel
theorem dX1_merges_58 : decode cX1_merges 58 = .ok (.iload_n 3, 1) := by decide +kernel
theorem dX1_merges_59 : decode cX1_merges 59 = .ok (.if_icmp .ne 110, 3) := by decide +kernel
theorem dX1_merges_62 : decode cX1_merges 62 = .ok (.aload_n 0, 1) := by decide +kernel
theorem dX1_merges_63 : decode cX1_merges 63 = .ok (.getfield 26, 3) := by decide +kernel
theorem dX1_merges_66 : decode cX1_merges 66 = .ok (.getfield 94, 3) := by decide +kernel
theorem dX1_merges_69 : decode cX1_merges 69 = .ok (.iload_n 2, 1) := by decide +kernel
theorem dX1_merges_70 : decode cX1_merges 70 = .ok (.iaload, 1) := by decide +kernel
theorem dX1_merges_71 : decode cX1_merges 71 = .ok (.istore 4, 2) := by decide +kernel
theorem dX1_merges_73 : decode cX1_merges 73 = .ok (.iconst 0, 1) := by decide +kernel
theorem dX1_merges_74 : decode cX1_merges 74 = .ok (.istore 5, 2) := by decide +kernel
theorem dX1_merges_76 : decode cX1_merges 76 = .ok (.iload_n 2, 1) := by decide +kernel
theorem dX1_merges_77 : decode cX1_merges 77 = .ok (.aload_n 0, 1) := by decide +kernel
theorem dX1_merges_78 : decode cX1_merges 78 = .ok (.getfield 26, 3) := by decide +kernel
theorem dX1_merges_81 : decode cX1_merges 81 = .ok (.getfield 72, 3) := by decide +kernel
theorem dX1_merges_84 : decode cX1_merges 84 = .ok (.if_icmp .ge 50, 3) := by decide +kernel
theorem dX1_merges_87 : decode cX1_merges 87 = .ok (.aload_n 0, 1) := by decide +kernel
theorem dX1_merges_88 : decode cX1_merges 88 = .ok (.getfield 26, 3) := by decide +kernel
theorem dX1_merges_91 : decode cX1_merges 91 = .ok (.getfield 91, 3) := by decide +kernel
theorem dX1_merges_94 : decode cX1_merges 94 = .ok (.iload_n 2, 1) := by decide +kernel
theorem dX1_merges_95 : decode cX1_merges 95 = .ok (.iaload, 1) := by decide +kernel
theorem dX1_merges_96 : decode cX1_merges 96 = .ok (.iload_n 3, 1) := by decide +kernel
theorem dX1_merges_97 : decode cX1_merges 97 = .ok (.if_icmp .ne 37, 3) := by decide +kernel
theorem dX1_merges_100 : decode cX1_merges 100 = .ok (.aload_n 0, 1) := by decide +kernel
theorem dX1_merges_101 : decode cX1_merges 101 = .ok (.getfield 26, 3) := by decide +kernel
theorem dX1_merges_104 : decode cX1_merges 104 = .ok (.getfield 94, 3) := by decide +kernel
theorem dX1_merges_107 : decode cX1_merges 107 = .ok (.iload_n 2, 1) := by decide +kernel
theorem dX1_merges_108 : decode cX1_merges 108 = .ok (.iaload, 1) := by decide +kernel
theorem dX1_merges_109 : decode cX1_merges 109 = .ok (.iload 4, 2) := by decide +kernel
theorem dX1_merges_111 : decode cX1_merges 111 = .ok (.if_icmp .ne 23, 3) := by decide +kernel
theorem dX1_merges_114 : decode cX1_merges 114 = .ok (.iload 5, 2) := by decide +kernel
theorem dX1_merges_116 : decode cX1_merges 116 = .ok (.aload_n 0, 1) := by decide +kernel
theorem dX1_merges_117 : decode cX1_merges 117 = .ok (.getfield 26, 3) := by decide +kernel
theorem dX1_merges_120 : decode cX1_merges 120 = .ok (.getfield 95, 3) := by decide +kernel
theorem dX1_merges_123 : decode cX1_merges 123 = .ok (.iload_n 2, 1) := by decide +kernel
theorem dX1_merges_124 : decode cX1_merges 124 = .ok (.iaload, 1) := by decide +kernel
theorem dX1_merges_125 : decode cX1_merges 125 = .ok (.iadd, 1) := by decide +kernel
theorem dX1_merges_126 : decode cX1_merges 126 = .ok (.istore 5, 2) := by decide +kernel
theorem dX1_merges_128 : decode cX1_merges 128 = .ok (.iinc 2 1, 3) := by decide +kernel
theorem dX1_merges_131 : decode cX1_merges 131 = .ok (.goto (-55), 3) := by decide +kernel
theorem dX1_merges_134 : decode cX1_merges 134 = .ok (.iload 5, 2) := by decide +kernel
theorem dX1_merges_136 : decode cX1_merges 136 = .ok (.ifCond .ne 6, 3) := by decide +kernel
theorem dX1_merges_139 : decode cX1_merges 139 = .ok (.goto (-101), 3) := by decide +kernel
theorem dX1_merges_142 : decode cX1_merges 142 = .ok (.aload_n 0, 1) := by decide +kernel
theorem dX1_merges_143 : decode cX1_merges 143 = .ok (.getfield 16, 3) := by decide +kernel
theorem dX1_merges_146 : decode cX1_merges 146 = .ok (.iload_n 1, 1) := by decide +kernel
theorem dX1_merges_147 : decode cX1_merges 147 = .ok (.aload_n 0, 1) := by decide +kernel
theorem dX1_merges_148 : decode cX1_merges 148 = .ok (.getfield 54, 3) := by decide +kernel
theorem dX1_merges_151 : decode cX1_merges 151 = .ok (.iload 4, 2) := by decide +kernel
theorem dX1_merges_153 : decode cX1_merges 153 = .ok (.iload 5, 2) := by decide +kernel
theorem dX1_merges_155 : decode cX1_merges 155 = .ok (.invokevirtual 107, 3) := by decide +kernel
theorem dX1_merges_158 : decode cX1_merges 158 = .ok (.ifCond .ne 5, 3) := by decide +kernel
theorem dX1_merges_161 : decode cX1_merges 161 = .ok (.iconst 0, 1) := by decide +kernel
theorem dX1_merges_162 : decode cX1_merges 162 = .ok (.ireturn, 1) := by decide +kernel
theorem dX1_merges_163 : decode cX1_merges 163 = .ok (.iinc 1 1, 3) := by decide +kernel
theorem dX1_merges_166 : decode cX1_merges 166 = .ok (.goto (-128), 3) := by decide +kernel
theorem dX1_merges_169 : decode cX1_merges 169 = .ok (.aload_n 0, 1) := by decide +kernel
theorem dX1_merges_170 : decode cX1_merges 170 = .ok (.getfield 16, 3) := by decide +kernel
theorem dX1_merges_173 : decode cX1_merges 173 = .ok (.getfield 82, 3) := by decide +kernel
theorem dX1_merges_176 : decode cX1_merges 176 = .ok (.iload_n 3, 1) := by decide +kernel
theorem dX1_merges_177 : decode cX1_merges 177 = .ok (.iconst 1, 1) := by decide +kernel
theorem dX1_merges_178 : decode cX1_merges 178 = .ok (.iadd, 1) := by decide +kernel
theorem dX1_merges_179 : decode cX1_merges 179 = .ok (.iload_n 1, 1) := by decide +kernel
theorem dX1_merges_180 : decode cX1_merges 180 = .ok (.iastore, 1) := by decide +kernel
theorem dX1_merges_181 : decode cX1_merges 181 = .ok (.iinc 3 1, 3) := by decide +kernel
theorem dX1_merges_184 : decode cX1_merges 184 = .ok (.goto (-157), 3) := by decide +kernel
theorem dX1_merges_187 : decode cX1_merges 187 = .ok (.iconst 1, 1) := by decide +kernel
theorem dX1_merges_188 : decode cX1_merges 188 = .ok (.ireturn, 1) := by decide +kernel
abbrev cX1_turns : ByteArray := prog_1_method_4_code
def yX1_turns : MethodName := ⟨RX1, "turns", "()I"⟩
theorem dX1_turns_0 : decode cX1_turns 0 = .ok (.aload_n 0, 1) := by decide +kernel
theorem dX1_turns_1 : decode cX1_turns 1 = .ok (.getfield 12, 3) := by decide +kernel
theorem dX1_turns_4 : decode cX1_turns 4 = .ok (.astore_n 1, 1) := by decide +kernel
theorem dX1_turns_5 : decode cX1_turns 5 = .ok (.aload_n 0, 1) := by decide +kernel
theorem dX1_turns_6 : decode cX1_turns 6 = .ok (.aload_n 0, 1) := by decide +kernel
theorem dX1_turns_7 : decode cX1_turns 7 = .ok (.getfield 16, 3) := by decide +kernel
theorem dX1_turns_10 : decode cX1_turns 10 = .ok (.putfield 12, 3) := by decide +kernel
theorem dX1_turns_13 : decode cX1_turns 13 = .ok (.aload_n 0, 1) := by decide +kernel
theorem dX1_turns_14 : decode cX1_turns 14 = .ok (.aload_n 1, 1) := by decide +kernel
theorem dX1_turns_15 : decode cX1_turns 15 = .ok (.putfield 16, 3) := by decide +kernel
theorem dX1_turns_18 : decode cX1_turns 18 = .ok (.aload_n 0, 1) := by decide +kernel
theorem dX1_turns_19 : decode cX1_turns 19 = .ok (.getfield 12, 3) := by decide +kernel
theorem dX1_turns_22 : decode cX1_turns 22 = .ok (.invokevirtual 79, 3) := by decide +kernel
theorem dX1_turns_25 : decode cX1_turns 25 = .ok (.ireturn, 1) := by decide +kernel
end
section
set_option maxRecDepth 100000
abbrev cX1_nnz : ByteArray := prog_1_method_7_code
def yX1_nnz : MethodName := ⟨RX1, "nnz", "()I"⟩
theorem dX1_nnz_0 : decode cX1_nnz 0 = .ok (.aload_n 0, 1) := by decide +kernel
theorem dX1_nnz_1 : decode cX1_nnz 1 = .ok (.getfield 12, 3) := by decide +kernel
theorem dX1_nnz_4 : decode cX1_nnz 4 = .ok (.invokevirtual 79, 3) := by decide +kernel
theorem dX1_nnz_7 : decode cX1_nnz 7 = .ok (.ireturn, 1) := by decide +kernel
abbrev cX1_at : ByteArray := prog_1_method_8_code
def yX1_at : MethodName := ⟨RX1, "at", "(II)I"⟩
theorem dX1_at_0 : decode cX1_at 0 = .ok (.iload_n 1, 1) := by decide +kernel
theorem dX1_at_1 : decode cX1_at 1 = .ok (.iconst 0, 1) := by decide +kernel
theorem dX1_at_2 : decode cX1_at 2 = .ok (.aload_n 0, 1) := by decide +kernel
theorem dX1_at_3 : decode cX1_at 3 = .ok (.getfield 12, 3) := by decide +kernel
theorem dX1_at_6 : decode cX1_at 6 = .ok (.getfield 62, 3) := by decide +kernel
theorem dX1_at_9 : decode cX1_at 9 = .ok (.iconst 1, 1) := by decide +kernel
theorem dX1_at_10 : decode cX1_at 10 = .ok (.isub, 1) := by decide +kernel
theorem dX1_at_11 : decode cX1_at 11 = .ok (.invokestatic 65, 3) := by decide +kernel
theorem dX1_at_14 : decode cX1_at 14 = .ok (.ifCond .eq 20, 3) := by decide +kernel
theorem dX1_at_17 : decode cX1_at 17 = .ok (.iload_n 2, 1) := by decide +kernel
theorem dX1_at_18 : decode cX1_at 18 = .ok (.iconst 0, 1) := by decide +kernel
theorem dX1_at_19 : decode cX1_at 19 = .ok (.aload_n 0, 1) := by decide +kernel
theorem dX1_at_20 : decode cX1_at 20 = .ok (.getfield 12, 3) := by decide +kernel
theorem dX1_at_23 : decode cX1_at 23 = .ok (.getfield 69, 3) := by decide +kernel
theorem dX1_at_26 : decode cX1_at 26 = .ok (.iconst 1, 1) := by decide +kernel
theorem dX1_at_27 : decode cX1_at 27 = .ok (.isub, 1) := by decide +kernel
theorem dX1_at_28 : decode cX1_at 28 = .ok (.invokestatic 65, 3) := by decide +kernel
theorem dX1_at_31 : decode cX1_at 31 = .ok (.ifCond .ne 5, 3) := by decide +kernel
theorem dX1_at_34 : decode cX1_at 34 = .ok (.iconst 0, 1) := by decide +kernel
theorem dX1_at_35 : decode cX1_at 35 = .ok (.ireturn, 1) := by decide +kernel
theorem dX1_at_36 : decode cX1_at 36 = .ok (.aload_n 0, 1) := by decide +kernel
theorem dX1_at_37 : decode cX1_at 37 = .ok (.getfield 12, 3) := by decide +kernel
theorem dX1_at_40 : decode cX1_at 40 = .ok (.iload_n 1, 1) := by decide +kernel
theorem dX1_at_41 : decode cX1_at 41 = .ok (.iload_n 2, 1) := by decide +kernel
theorem dX1_at_42 : decode cX1_at 42 = .ok (.invokevirtual 111, 3) := by decide +kernel
theorem dX1_at_45 : decode cX1_at 45 = .ok (.istore_n 3, 1) := by decide +kernel
theorem dX1_at_46 : decode cX1_at 46 = .ok (.iload_n 3, 1) := by decide +kernel
theorem dX1_at_47 : decode cX1_at 47 = .ok (.iconst (-1), 1) := by decide +kernel
theorem dX1_at_48 : decode cX1_at 48 = .ok (.if_icmp .ne 7, 3) := by decide +kernel
theorem dX1_at_51 : decode cX1_at 51 = .ok (.iconst 0, 1) := by decide +kernel
theorem dX1_at_52 : decode cX1_at 52 = .ok (.goto 12, 3) := by decide +kernel
theorem dX1_at_55 : decode cX1_at 55 = .ok (.aload_n 0, 1) := by decide +kernel
theorem dX1_at_56 : decode cX1_at 56 = .ok (.getfield 12, 3) := by decide +kernel
theorem dX1_at_59 : decode cX1_at 59 = .ok (.getfield 88, 3) := by decide +kernel
theorem dX1_at_62 : decode cX1_at 62 = .ok (.iload_n 3, 1) := by decide +kernel
theorem dX1_at_63 : decode cX1_at 63 = .ok (.iaload, 1) := by decide +kernel
theorem dX1_at_64 : decode cX1_at 64 = .ok (.ireturn, 1) := by decide +kernel
abbrev cX1_rowStart : ByteArray := prog_1_method_9_code
def yX1_rowStart : MethodName := ⟨RX1, "rowStart", "(I)I"⟩
theorem dX1_rowStart_0 : decode cX1_rowStart 0 = .ok (.iload_n 1, 1) := by decide +kernel
theorem dX1_rowStart_1 : decode cX1_rowStart 1 = .ok (.iconst 0, 1) := by decide +kernel
theorem dX1_rowStart_2 : decode cX1_rowStart 2 = .ok (.aload_n 0, 1) := by decide +kernel
theorem dX1_rowStart_3 : decode cX1_rowStart 3 = .ok (.getfield 12, 3) := by decide +kernel
theorem dX1_rowStart_6 : decode cX1_rowStart 6 = .ok (.getfield 62, 3) := by decide +kernel
theorem dX1_rowStart_9 : decode cX1_rowStart 9 = .ok (.invokestatic 65, 3) := by decide +kernel
theorem dX1_rowStart_12 : decode cX1_rowStart 12 = .ok (.ifCond .eq 15, 3) := by decide +kernel
theorem dX1_rowStart_15 : decode cX1_rowStart 15 = .ok (.aload_n 0, 1) := by decide +kernel
theorem dX1_rowStart_16 : decode cX1_rowStart 16 = .ok (.getfield 12, 3) := by decide +kernel
theorem dX1_rowStart_19 : decode cX1_rowStart 19 = .ok (.getfield 82, 3) := by decide +kernel
theorem dX1_rowStart_22 : decode cX1_rowStart 22 = .ok (.iload_n 1, 1) := by decide +kernel
theorem dX1_rowStart_23 : decode cX1_rowStart 23 = .ok (.iaload, 1) := by decide +kernel
theorem dX1_rowStart_24 : decode cX1_rowStart 24 = .ok (.goto 4, 3) := by decide +kernel
theorem dX1_rowStart_27 : decode cX1_rowStart 27 = .ok (.iconst (-1), 1) := by decide +kernel
theorem dX1_rowStart_28 : decode cX1_rowStart 28 = .ok (.ireturn, 1) := by decide +kernel
abbrev cX1_colAt : ByteArray := prog_1_method_10_code
def yX1_colAt : MethodName := ⟨RX1, "colAt", "(I)I"⟩
theorem dX1_colAt_0 : decode cX1_colAt 0 = .ok (.iload_n 1, 1) := by decide +kernel
theorem dX1_colAt_1 : decode cX1_colAt 1 = .ok (.iconst 0, 1) := by decide +kernel
theorem dX1_colAt_2 : decode cX1_colAt 2 = .ok (.aload_n 0, 1) := by decide +kernel
theorem dX1_colAt_3 : decode cX1_colAt 3 = .ok (.getfield 12, 3) := by decide +kernel
theorem dX1_colAt_6 : decode cX1_colAt 6 = .ok (.invokevirtual 79, 3) := by decide +kernel
theorem dX1_colAt_9 : decode cX1_colAt 9 = .ok (.iconst 1, 1) := by decide +kernel
theorem dX1_colAt_10 : decode cX1_colAt 10 = .ok (.isub, 1) := by decide +kernel
theorem dX1_colAt_11 : decode cX1_colAt 11 = .ok (.invokestatic 65, 3) := by decide +kernel
theorem dX1_colAt_14 : decode cX1_colAt 14 = .ok (.ifCond .eq 15, 3) := by decide +kernel
theorem dX1_colAt_17 : decode cX1_colAt 17 = .ok (.aload_n 0, 1) := by decide +kernel
theorem dX1_colAt_18 : decode cX1_colAt 18 = .ok (.getfield 12, 3) := by decide +kernel
theorem dX1_colAt_21 : decode cX1_colAt 21 = .ok (.getfield 85, 3) := by decide +kernel
theorem dX1_colAt_24 : decode cX1_colAt 24 = .ok (.iload_n 1, 1) := by decide +kernel
theorem dX1_colAt_25 : decode cX1_colAt 25 = .ok (.iaload, 1) := by decide +kernel
theorem dX1_colAt_26 : decode cX1_colAt 26 = .ok (.goto 4, 3) := by decide +kernel
theorem dX1_colAt_29 : decode cX1_colAt 29 = .ok (.iconst (-1), 1) := by decide +kernel
theorem dX1_colAt_30 : decode cX1_colAt 30 = .ok (.ireturn, 1) := by decide +kernel
abbrev cX1_setX : ByteArray := prog_1_method_11_code
def yX1_setX : MethodName := ⟨RX1, "setX", "(II)Z"⟩
theorem dX1_setX_0 : decode cX1_setX 0 = .ok (.iload_n 1, 1) := by decide +kernel
theorem dX1_setX_1 : decode cX1_setX 1 = .ok (.iconst 0, 1) := by decide +kernel
theorem dX1_setX_2 : decode cX1_setX 2 = .ok (.aload_n 0, 1) := by decide +kernel
theorem dX1_setX_3 : decode cX1_setX 3 = .ok (.getfield 12, 3) := by decide +kernel
theorem dX1_setX_6 : decode cX1_setX 6 = .ok (.getfield 69, 3) := by decide +kernel
theorem dX1_setX_9 : decode cX1_setX 9 = .ok (.iconst 1, 1) := by decide +kernel
theorem dX1_setX_10 : decode cX1_setX 10 = .ok (.isub, 1) := by decide +kernel
theorem dX1_setX_11 : decode cX1_setX 11 = .ok (.invokestatic 65, 3) := by decide +kernel
theorem dX1_setX_14 : decode cX1_setX 14 = .ok (.ifCond .ne 5, 3) := by decide +kernel
theorem dX1_setX_17 : decode cX1_setX 17 = .ok (.iconst 0, 1) := by decide +kernel
theorem dX1_setX_18 : decode cX1_setX 18 = .ok (.ireturn, 1) := by decide +kernel
theorem dX1_setX_19 : decode cX1_setX 19 = .ok (.aload_n 0, 1) := by decide +kernel
theorem dX1_setX_20 : decode cX1_setX 20 = .ok (.getfield 36, 3) := by decide +kernel
theorem dX1_setX_23 : decode cX1_setX 23 = .ok (.iload_n 1, 1) := by decide +kernel
theorem dX1_setX_24 : decode cX1_setX 24 = .ok (.iload_n 2, 1) := by decide +kernel
theorem dX1_setX_25 : decode cX1_setX 25 = .ok (.iastore, 1) := by decide +kernel
theorem dX1_setX_26 : decode cX1_setX 26 = .ok (.iconst 1, 1) := by decide +kernel
theorem dX1_setX_27 : decode cX1_setX 27 = .ok (.ireturn, 1) := by decide +kernel
abbrev cX1_multiplyVector : ByteArray := prog_1_method_12_code
def yX1_multiplyVector : MethodName := ⟨RX1, "multiplyVector", "()Z"⟩
theorem dX1_multiplyVector_0 : decode cX1_multiplyVector 0 = .ok (.iconst 0, 1) := by decide +kernel
theorem dX1_multiplyVector_1 : decode cX1_multiplyVector 1 = .ok (.istore_n 1, 1) := by decide +kernel
theorem dX1_multiplyVector_2 : decode cX1_multiplyVector 2 = .ok (.iload_n 1, 1) := by decide +kernel
theorem dX1_multiplyVector_3 : decode cX1_multiplyVector 3 = .ok (.aload_n 0, 1) := by decide +kernel
theorem dX1_multiplyVector_4 : decode cX1_multiplyVector 4 = .ok (.getfield 12, 3) := by decide +kernel
theorem dX1_multiplyVector_7 : decode cX1_multiplyVector 7 = .ok (.getfield 62, 3) := by decide +kernel
theorem dX1_multiplyVector_10 : decode cX1_multiplyVector 10 = .ok (.if_icmp .ge 76, 3) := by decide +kernel
theorem dX1_multiplyVector_13 : decode cX1_multiplyVector 13 = .ok (.iconst 0, 1) := by decide +kernel
theorem dX1_multiplyVector_14 : decode cX1_multiplyVector 14 = .ok (.istore_n 2, 1) := by decide +kernel
theorem dX1_multiplyVector_15 : decode cX1_multiplyVector 15 = .ok (.aload_n 0, 1) := by decide +kernel
theorem dX1_multiplyVector_16 : decode cX1_multiplyVector 16 = .ok (.getfield 12, 3) := by decide +kernel
theorem dX1_multiplyVector_19 : decode cX1_multiplyVector 19 = .ok (.getfield 82, 3) := by decide +kernel
theorem dX1_multiplyVector_22 : decode cX1_multiplyVector 22 = .ok (.iload_n 1, 1) := by decide +kernel
theorem dX1_multiplyVector_23 : decode cX1_multiplyVector 23 = .ok (.iaload, 1) := by decide +kernel
theorem dX1_multiplyVector_24 : decode cX1_multiplyVector 24 = .ok (.istore_n 3, 1) := by decide +kernel
theorem dX1_multiplyVector_25 : decode cX1_multiplyVector 25 = .ok (.iload_n 3, 1) := by decide +kernel
theorem dX1_multiplyVector_26 : decode cX1_multiplyVector 26 = .ok (.aload_n 0, 1) := by decide +kernel
theorem dX1_multiplyVector_27 : decode cX1_multiplyVector 27 = .ok (.getfield 12, 3) := by decide +kernel
theorem dX1_multiplyVector_30 : decode cX1_multiplyVector 30 = .ok (.getfield 82, 3) := by decide +kernel
theorem dX1_multiplyVector_33 : decode cX1_multiplyVector 33 = .ok (.iload_n 1, 1) := by decide +kernel
theorem dX1_multiplyVector_34 : decode cX1_multiplyVector 34 = .ok (.iconst 1, 1) := by decide +kernel
theorem dX1_multiplyVector_35 : decode cX1_multiplyVector 35 = .ok (.iadd, 1) := by decide +kernel
theorem dX1_multiplyVector_36 : decode cX1_multiplyVector 36 = .ok (.iaload, 1) := by decide +kernel
theorem dX1_multiplyVector_37 : decode cX1_multiplyVector 37 = .ok (.if_icmp .ge 36, 3) := by decide +kernel
theorem dX1_multiplyVector_40 : decode cX1_multiplyVector 40 = .ok (.iload_n 2, 1) := by decide +kernel
theorem dX1_multiplyVector_41 : decode cX1_multiplyVector 41 = .ok (.aload_n 0, 1) := by decide +kernel
theorem dX1_multiplyVector_42 : decode cX1_multiplyVector 42 = .ok (.getfield 12, 3) := by decide +kernel
theorem dX1_multiplyVector_45 : decode cX1_multiplyVector 45 = .ok (.getfield 88, 3) := by decide +kernel
theorem dX1_multiplyVector_48 : decode cX1_multiplyVector 48 = .ok (.iload_n 3, 1) := by decide +kernel
theorem dX1_multiplyVector_49 : decode cX1_multiplyVector 49 = .ok (.iaload, 1) := by decide +kernel
theorem dX1_multiplyVector_50 : decode cX1_multiplyVector 50 = .ok (.aload_n 0, 1) := by decide +kernel
theorem dX1_multiplyVector_51 : decode cX1_multiplyVector 51 = .ok (.getfield 36, 3) := by decide +kernel
theorem dX1_multiplyVector_54 : decode cX1_multiplyVector 54 = .ok (.aload_n 0, 1) := by decide +kernel
theorem dX1_multiplyVector_55 : decode cX1_multiplyVector 55 = .ok (.getfield 12, 3) := by decide +kernel
theorem dX1_multiplyVector_58 : decode cX1_multiplyVector 58 = .ok (.getfield 85, 3) := by decide +kernel
theorem dX1_multiplyVector_61 : decode cX1_multiplyVector 61 = .ok (.iload_n 3, 1) := by decide +kernel
theorem dX1_multiplyVector_62 : decode cX1_multiplyVector 62 = .ok (.iaload, 1) := by decide +kernel
theorem dX1_multiplyVector_63 : decode cX1_multiplyVector 63 = .ok (.iaload, 1) := by decide +kernel
theorem dX1_multiplyVector_64 : decode cX1_multiplyVector 64 = .ok (.imul, 1) := by decide +kernel
theorem dX1_multiplyVector_65 : decode cX1_multiplyVector 65 = .ok (.iadd, 1) := by decide +kernel
theorem dX1_multiplyVector_66 : decode cX1_multiplyVector 66 = .ok (.istore_n 2, 1) := by decide +kernel
theorem dX1_multiplyVector_67 : decode cX1_multiplyVector 67 = .ok (.iinc 3 1, 3) := by decide +kernel
theorem dX1_multiplyVector_70 : decode cX1_multiplyVector 70 = .ok (.goto (-45), 3) := by decide +kernel
theorem dX1_multiplyVector_73 : decode cX1_multiplyVector 73 = .ok (.aload_n 0, 1) := by decide +kernel
theorem dX1_multiplyVector_74 : decode cX1_multiplyVector 74 = .ok (.getfield 39, 3) := by decide +kernel
theorem dX1_multiplyVector_77 : decode cX1_multiplyVector 77 = .ok (.iload_n 1, 1) := by decide +kernel
theorem dX1_multiplyVector_78 : decode cX1_multiplyVector 78 = .ok (.iload_n 2, 1) := by decide +kernel
theorem dX1_multiplyVector_79 : decode cX1_multiplyVector 79 = .ok (.iastore, 1) := by decide +kernel
theorem dX1_multiplyVector_80 : decode cX1_multiplyVector 80 = .ok (.iinc 1 1, 3) := by decide +kernel
theorem dX1_multiplyVector_83 : decode cX1_multiplyVector 83 = .ok (.goto (-81), 3) := by decide +kernel
theorem dX1_multiplyVector_86 : decode cX1_multiplyVector 86 = .ok (.iconst 1, 1) := by decide +kernel
theorem dX1_multiplyVector_87 : decode cX1_multiplyVector 87 = .ok (.ireturn, 1) := by decide +kernel
abbrev cX1_y : ByteArray := prog_1_method_13_code
def yX1_y : MethodName := ⟨RX1, "y", "(I)I"⟩
theorem dX1_y_0 : decode cX1_y 0 = .ok (.iload_n 1, 1) := by decide +kernel
theorem dX1_y_1 : decode cX1_y 1 = .ok (.iconst 0, 1) := by decide +kernel
theorem dX1_y_2 : decode cX1_y 2 = .ok (.aload_n 0, 1) := by decide +kernel
theorem dX1_y_3 : decode cX1_y 3 = .ok (.getfield 12, 3) := by decide +kernel
theorem dX1_y_6 : decode cX1_y 6 = .ok (.getfield 62, 3) := by decide +kernel
theorem dX1_y_9 : decode cX1_y 9 = .ok (.iconst 1, 1) := by decide +kernel
theorem dX1_y_10 : decode cX1_y 10 = .ok (.isub, 1) := by decide +kernel
theorem dX1_y_11 : decode cX1_y 11 = .ok (.invokestatic 65, 3) := by decide +kernel
theorem dX1_y_14 : decode cX1_y 14 = .ok (.ifCond .eq 12, 3) := by decide +kernel
theorem dX1_y_17 : decode cX1_y 17 = .ok (.aload_n 0, 1) := by decide +kernel
theorem dX1_y_18 : decode cX1_y 18 = .ok (.getfield 39, 3) := by decide +kernel
theorem dX1_y_21 : decode cX1_y 21 = .ok (.iload_n 1, 1) := by decide +kernel
theorem dX1_y_22 : decode cX1_y 22 = .ok (.iaload, 1) := by decide +kernel
theorem dX1_y_23 : decode cX1_y 23 = .ok (.goto 4, 3) := by decide +kernel
theorem dX1_y_26 : decode cX1_y 26 = .ok (.iconst 0, 1) := by decide +kernel
theorem dX1_y_27 : decode cX1_y 27 = .ok (.ireturn, 1) := by decide +kernel
abbrev cX1_transpose : ByteArray := prog_1_method_14_code
def yX1_transpose : MethodName := ⟨RX1, "transpose", "()Z"⟩
theorem dX1_transpose_0 : decode cX1_transpose 0 = .ok (.aload_n 0, 1) := by decide +kernel
theorem dX1_transpose_1 : decode cX1_transpose 1 = .ok (.getfield 22, 3) := by decide +kernel
theorem dX1_transpose_4 : decode cX1_transpose 4 = .ok (.getfield 72, 3) := by decide +kernel
theorem dX1_transpose_7 : decode cX1_transpose 7 = .ok (.ifCond .le 5, 3) := by decide +kernel
theorem dX1_transpose_10 : decode cX1_transpose 10 = .ok (.iconst 0, 1) := by decide +kernel
theorem dX1_transpose_11 : decode cX1_transpose 11 = .ok (.ireturn, 1) := by decide +kernel
theorem dX1_transpose_12 : decode cX1_transpose 12 = .ok (.aload_n 0, 1) := by decide +kernel
theorem dX1_transpose_13 : decode cX1_transpose 13 = .ok (.getfield 16, 3) := by decide +kernel
theorem dX1_transpose_16 : decode cX1_transpose 16 = .ok (.aload_n 0, 1) := by decide +kernel
theorem dX1_transpose_17 : decode cX1_transpose 17 = .ok (.getfield 12, 3) := by decide +kernel
theorem dX1_transpose_20 : decode cX1_transpose 20 = .ok (.getfield 69, 3) := by decide +kernel
theorem dX1_transpose_23 : decode cX1_transpose 23 = .ok (.aload_n 0, 1) := by decide +kernel
theorem dX1_transpose_24 : decode cX1_transpose 24 = .ok (.getfield 12, 3) := by decide +kernel
theorem dX1_transpose_27 : decode cX1_transpose 27 = .ok (.getfield 62, 3) := by decide +kernel
theorem dX1_transpose_30 : decode cX1_transpose 30 = .ok (.invokevirtual 58, 3) := by decide +kernel
theorem dX1_transpose_33 : decode cX1_transpose 33 = .ok (.aload_n 0, 1) := by decide +kernel
theorem dX1_transpose_34 : decode cX1_transpose 34 = .ok (.getfield 12, 3) := by decide +kernel
theorem dX1_transpose_37 : decode cX1_transpose 37 = .ok (.invokevirtual 79, 3) := by decide +kernel
theorem dX1_transpose_40 : decode cX1_transpose 40 = .ok (.istore_n 1, 1) := by decide +kernel
theorem dX1_transpose_41 : decode cX1_transpose 41 = .ok (.iconst 0, 1) := by decide +kernel
theorem dX1_transpose_42 : decode cX1_transpose 42 = .ok (.istore_n 2, 1) := by decide +kernel
theorem dX1_transpose_43 : decode cX1_transpose 43 = .ok (.iload_n 2, 1) := by decide +kernel
theorem dX1_transpose_44 : decode cX1_transpose 44 = .ok (.iload_n 1, 1) := by decide +kernel
theorem dX1_transpose_45 : decode cX1_transpose 45 = .ok (.if_icmp .ge 32, 3) := by decide +kernel
theorem dX1_transpose_48 : decode cX1_transpose 48 = .ok (.aload_n 0, 1) := by decide +kernel
theorem dX1_transpose_49 : decode cX1_transpose 49 = .ok (.getfield 16, 3) := by decide +kernel
theorem dX1_transpose_52 : decode cX1_transpose 52 = .ok (.getfield 82, 3) := by decide +kernel
theorem dX1_transpose_55 : decode cX1_transpose 55 = .ok (.aload_n 0, 1) := by decide +kernel
theorem dX1_transpose_56 : decode cX1_transpose 56 = .ok (.getfield 12, 3) := by decide +kernel
theorem dX1_transpose_59 : decode cX1_transpose 59 = .ok (.getfield 85, 3) := by decide +kernel
theorem dX1_transpose_62 : decode cX1_transpose 62 = .ok (.iload_n 2, 1) := by decide +kernel
theorem dX1_transpose_63 : decode cX1_transpose 63 = .ok (.iaload, 1) := by decide +kernel
theorem dX1_transpose_64 : decode cX1_transpose 64 = .ok (.iconst 1, 1) := by decide +kernel
theorem dX1_transpose_65 : decode cX1_transpose 65 = .ok (.iadd, 1) := by decide +kernel
theorem dX1_transpose_66 : decode cX1_transpose 66 = .ok (.dup2, 1) := by decide +kernel
theorem dX1_transpose_67 : decode cX1_transpose 67 = .ok (.iaload, 1) := by decide +kernel
theorem dX1_transpose_68 : decode cX1_transpose 68 = .ok (.iconst 1, 1) := by decide +kernel
theorem dX1_transpose_69 : decode cX1_transpose 69 = .ok (.iadd, 1) := by decide +kernel
theorem dX1_transpose_70 : decode cX1_transpose 70 = .ok (.iastore, 1) := by decide +kernel
theorem dX1_transpose_71 : decode cX1_transpose 71 = .ok (.iinc 2 1, 3) := by decide +kernel
theorem dX1_transpose_74 : decode cX1_transpose 74 = .ok (.goto (-31), 3) := by decide +kernel
theorem dX1_transpose_77 : decode cX1_transpose 77 = .ok (.iconst 0, 1) := by decide +kernel
theorem dX1_transpose_78 : decode cX1_transpose 78 = .ok (.istore_n 2, 1) := by decide +kernel
theorem dX1_transpose_79 : decode cX1_transpose 79 = .ok (.iload_n 2, 1) := by decide +kernel
theorem dX1_transpose_80 : decode cX1_transpose 80 = .ok (.aload_n 0, 1) := by decide +kernel
theorem dX1_transpose_81 : decode cX1_transpose 81 = .ok (.getfield 16, 3) := by decide +kernel
theorem dX1_transpose_84 : decode cX1_transpose 84 = .ok (.getfield 62, 3) := by decide +kernel
theorem dX1_transpose_87 : decode cX1_transpose 87 = .ok (.if_icmp .ge 32, 3) := by decide +kernel
theorem dX1_transpose_90 : decode cX1_transpose 90 = .ok (.aload_n 0, 1) := by decide +kernel
theorem dX1_transpose_91 : decode cX1_transpose 91 = .ok (.getfield 16, 3) := by decide +kernel
theorem dX1_transpose_94 : decode cX1_transpose 94 = .ok (.getfield 82, 3) := by decide +kernel
theorem dX1_transpose_97 : decode cX1_transpose 97 = .ok (.iload_n 2, 1) := by decide +kernel
theorem dX1_transpose_98 : decode cX1_transpose 98 = .ok (.iconst 1, 1) := by decide +kernel
theorem dX1_transpose_99 : decode cX1_transpose 99 = .ok (.iadd, 1) := by decide +kernel
theorem dX1_transpose_100 : decode cX1_transpose 100 = .ok (.dup2, 1) := by decide +kernel
theorem dX1_transpose_101 : decode cX1_transpose 101 = .ok (.iaload, 1) := by decide +kernel
theorem dX1_transpose_102 : decode cX1_transpose 102 = .ok (.aload_n 0, 1) := by decide +kernel
theorem dX1_transpose_103 : decode cX1_transpose 103 = .ok (.getfield 16, 3) := by decide +kernel
theorem dX1_transpose_106 : decode cX1_transpose 106 = .ok (.getfield 82, 3) := by decide +kernel
theorem dX1_transpose_109 : decode cX1_transpose 109 = .ok (.iload_n 2, 1) := by decide +kernel
theorem dX1_transpose_110 : decode cX1_transpose 110 = .ok (.iaload, 1) := by decide +kernel
theorem dX1_transpose_111 : decode cX1_transpose 111 = .ok (.iadd, 1) := by decide +kernel
theorem dX1_transpose_112 : decode cX1_transpose 112 = .ok (.iastore, 1) := by decide +kernel
theorem dX1_transpose_113 : decode cX1_transpose 113 = .ok (.iinc 2 1, 3) := by decide +kernel
theorem dX1_transpose_116 : decode cX1_transpose 116 = .ok (.goto (-37), 3) := by decide +kernel
theorem dX1_transpose_119 : decode cX1_transpose 119 = .ok (.iconst 0, 1) := by decide +kernel
theorem dX1_transpose_120 : decode cX1_transpose 120 = .ok (.istore_n 2, 1) := by decide +kernel
theorem dX1_transpose_121 : decode cX1_transpose 121 = .ok (.iload_n 2, 1) := by decide +kernel
theorem dX1_transpose_122 : decode cX1_transpose 122 = .ok (.aload_n 0, 1) := by decide +kernel
theorem dX1_transpose_123 : decode cX1_transpose 123 = .ok (.getfield 16, 3) := by decide +kernel
theorem dX1_transpose_126 : decode cX1_transpose 126 = .ok (.getfield 62, 3) := by decide +kernel
theorem dX1_transpose_129 : decode cX1_transpose 129 = .ok (.if_icmp .ge 24, 3) := by decide +kernel
theorem dX1_transpose_132 : decode cX1_transpose 132 = .ok (.aload_n 0, 1) := by decide +kernel
theorem dX1_transpose_133 : decode cX1_transpose 133 = .ok (.getfield 32, 3) := by decide +kernel
theorem dX1_transpose_136 : decode cX1_transpose 136 = .ok (.iload_n 2, 1) := by decide +kernel
theorem dX1_transpose_137 : decode cX1_transpose 137 = .ok (.aload_n 0, 1) := by decide +kernel
theorem dX1_transpose_138 : decode cX1_transpose 138 = .ok (.getfield 16, 3) := by decide +kernel
theorem dX1_transpose_141 : decode cX1_transpose 141 = .ok (.getfield 82, 3) := by decide +kernel
theorem dX1_transpose_144 : decode cX1_transpose 144 = .ok (.iload_n 2, 1) := by decide +kernel
theorem dX1_transpose_145 : decode cX1_transpose 145 = .ok (.iaload, 1) := by decide +kernel
theorem dX1_transpose_146 : decode cX1_transpose 146 = .ok (.iastore, 1) := by decide +kernel
theorem dX1_transpose_147 : decode cX1_transpose 147 = .ok (.iinc 2 1, 3) := by decide +kernel
theorem dX1_transpose_150 : decode cX1_transpose 150 = .ok (.goto (-29), 3) := by decide +kernel
theorem dX1_transpose_153 : decode cX1_transpose 153 = .ok (.iconst 0, 1) := by decide +kernel
theorem dX1_transpose_154 : decode cX1_transpose 154 = .ok (.istore_n 2, 1) := by decide +kernel
theorem dX1_transpose_155 : decode cX1_transpose 155 = .ok (.iload_n 2, 1) := by decide +kernel
theorem dX1_transpose_156 : decode cX1_transpose 156 = .ok (.aload_n 0, 1) := by decide +kernel
theorem dX1_transpose_157 : decode cX1_transpose 157 = .ok (.getfield 12, 3) := by decide +kernel
theorem dX1_transpose_160 : decode cX1_transpose 160 = .ok (.getfield 62, 3) := by decide +kernel
theorem dX1_transpose_163 : decode cX1_transpose 163 = .ok (.if_icmp .ge 91, 3) := by decide +kernel
theorem dX1_transpose_166 : decode cX1_transpose 166 = .ok (.aload_n 0, 1) := by decide +kernel
theorem dX1_transpose_167 : decode cX1_transpose 167 = .ok (.getfield 12, 3) := by decide +kernel
theorem dX1_transpose_170 : decode cX1_transpose 170 = .ok (.getfield 82, 3) := by decide +kernel
theorem dX1_transpose_173 : decode cX1_transpose 173 = .ok (.iload_n 2, 1) := by decide +kernel
theorem dX1_transpose_174 : decode cX1_transpose 174 = .ok (.iaload, 1) := by decide +kernel
theorem dX1_transpose_175 : decode cX1_transpose 175 = .ok (.istore_n 3, 1) := by decide +kernel
theorem dX1_transpose_176 : decode cX1_transpose 176 = .ok (.iload_n 3, 1) := by decide +kernel
theorem dX1_transpose_177 : decode cX1_transpose 177 = .ok (.aload_n 0, 1) := by decide +kernel
theorem dX1_transpose_178 : decode cX1_transpose 178 = .ok (.getfield 12, 3) := by decide +kernel
theorem dX1_transpose_181 : decode cX1_transpose 181 = .ok (.getfield 82, 3) := by decide +kernel
theorem dX1_transpose_184 : decode cX1_transpose 184 = .ok (.iload_n 2, 1) := by decide +kernel
theorem dX1_transpose_185 : decode cX1_transpose 185 = .ok (.iconst 1, 1) := by decide +kernel
theorem dX1_transpose_186 : decode cX1_transpose 186 = .ok (.iadd, 1) := by decide +kernel
theorem dX1_transpose_187 : decode cX1_transpose 187 = .ok (.iaload, 1) := by decide +kernel
theorem dX1_transpose_188 : decode cX1_transpose 188 = .ok (.if_icmp .ge 60, 3) := by decide +kernel
theorem dX1_transpose_191 : decode cX1_transpose 191 = .ok (.aload_n 0, 1) := by decide +kernel
theorem dX1_transpose_192 : decode cX1_transpose 192 = .ok (.getfield 32, 3) := by decide +kernel
theorem dX1_transpose_195 : decode cX1_transpose 195 = .ok (.aload_n 0, 1) := by decide +kernel
theorem dX1_transpose_196 : decode cX1_transpose 196 = .ok (.getfield 12, 3) := by decide +kernel
theorem dX1_transpose_199 : decode cX1_transpose 199 = .ok (.getfield 85, 3) := by decide +kernel
theorem dX1_transpose_202 : decode cX1_transpose 202 = .ok (.iload_n 3, 1) := by decide +kernel
theorem dX1_transpose_203 : decode cX1_transpose 203 = .ok (.iaload, 1) := by decide +kernel
theorem dX1_transpose_204 : decode cX1_transpose 204 = .ok (.dup2, 1) := by decide +kernel
theorem dX1_transpose_205 : decode cX1_transpose 205 = .ok (.iaload, 1) := by decide +kernel
theorem dX1_transpose_206 : decode cX1_transpose 206 = .ok (.dup_x2, 1) := by decide +kernel
theorem dX1_transpose_207 : decode cX1_transpose 207 = .ok (.iconst 1, 1) := by decide +kernel
theorem dX1_transpose_208 : decode cX1_transpose 208 = .ok (.iadd, 1) := by decide +kernel
theorem dX1_transpose_209 : decode cX1_transpose 209 = .ok (.iastore, 1) := by decide +kernel
theorem dX1_transpose_210 : decode cX1_transpose 210 = .ok (.istore 4, 2) := by decide +kernel
theorem dX1_transpose_212 : decode cX1_transpose 212 = .ok (.aload_n 0, 1) := by decide +kernel
theorem dX1_transpose_213 : decode cX1_transpose 213 = .ok (.getfield 16, 3) := by decide +kernel
theorem dX1_transpose_216 : decode cX1_transpose 216 = .ok (.getfield 85, 3) := by decide +kernel
theorem dX1_transpose_219 : decode cX1_transpose 219 = .ok (.iload 4, 2) := by decide +kernel
theorem dX1_transpose_221 : decode cX1_transpose 221 = .ok (.iload_n 2, 1) := by decide +kernel
theorem dX1_transpose_222 : decode cX1_transpose 222 = .ok (.iastore, 1) := by decide +kernel
theorem dX1_transpose_223 : decode cX1_transpose 223 = .ok (.aload_n 0, 1) := by decide +kernel
theorem dX1_transpose_224 : decode cX1_transpose 224 = .ok (.getfield 16, 3) := by decide +kernel
theorem dX1_transpose_227 : decode cX1_transpose 227 = .ok (.getfield 88, 3) := by decide +kernel
theorem dX1_transpose_230 : decode cX1_transpose 230 = .ok (.iload 4, 2) := by decide +kernel
theorem dX1_transpose_232 : decode cX1_transpose 232 = .ok (.aload_n 0, 1) := by decide +kernel
theorem dX1_transpose_233 : decode cX1_transpose 233 = .ok (.getfield 12, 3) := by decide +kernel
theorem dX1_transpose_236 : decode cX1_transpose 236 = .ok (.getfield 88, 3) := by decide +kernel
theorem dX1_transpose_239 : decode cX1_transpose 239 = .ok (.iload_n 3, 1) := by decide +kernel
theorem dX1_transpose_240 : decode cX1_transpose 240 = .ok (.iaload, 1) := by decide +kernel
theorem dX1_transpose_241 : decode cX1_transpose 241 = .ok (.iastore, 1) := by decide +kernel
theorem dX1_transpose_242 : decode cX1_transpose 242 = .ok (.iinc 3 1, 3) := by decide +kernel
theorem dX1_transpose_245 : decode cX1_transpose 245 = .ok (.goto (-69), 3) := by decide +kernel
theorem dX1_transpose_248 : decode cX1_transpose 248 = .ok (.iinc 2 1, 3) := by decide +kernel
theorem dX1_transpose_251 : decode cX1_transpose 251 = .ok (.goto (-96), 3) := by decide +kernel
theorem dX1_transpose_254 : decode cX1_transpose 254 = .ok (.aload_n 0, 1) := by decide +kernel
theorem dX1_transpose_255 : decode cX1_transpose 255 = .ok (.invokevirtual 104, 3) := by decide +kernel
theorem dX1_transpose_258 : decode cX1_transpose 258 = .ok (.pop, 1) := by decide +kernel
theorem dX1_transpose_259 : decode cX1_transpose 259 = .ok (.iconst 0, 1) := by decide +kernel
theorem dX1_transpose_260 : decode cX1_transpose 260 = .ok (.istore_n 2, 1) := by decide +kernel
theorem dX1_transpose_261 : decode cX1_transpose 261 = .ok (.iload_n 2, 1) := by decide +kernel
theorem dX1_transpose_262 : decode cX1_transpose 262 = .ok (.bipush 60, 2) := by decide +kernel
theorem dX1_transpose_264 : decode cX1_transpose 264 = .ok (.if_icmp .ge 23, 3) := by decide +kernel
theorem dX1_transpose_267 : decode cX1_transpose 267 = .ok (.aload_n 0, 1) := by decide +kernel
theorem dX1_transpose_268 : decode cX1_transpose 268 = .ok (.getfield 36, 3) := by decide +kernel
theorem dX1_transpose_271 : decode cX1_transpose 271 = .ok (.iload_n 2, 1) := by decide +kernel
theorem dX1_transpose_272 : decode cX1_transpose 272 = .ok (.iconst 0, 1) := by decide +kernel
theorem dX1_transpose_273 : decode cX1_transpose 273 = .ok (.iastore, 1) := by decide +kernel
theorem dX1_transpose_274 : decode cX1_transpose 274 = .ok (.aload_n 0, 1) := by decide +kernel
theorem dX1_transpose_275 : decode cX1_transpose 275 = .ok (.getfield 39, 3) := by decide +kernel
theorem dX1_transpose_278 : decode cX1_transpose 278 = .ok (.iload_n 2, 1) := by decide +kernel
theorem dX1_transpose_279 : decode cX1_transpose 279 = .ok (.iconst 0, 1) := by decide +kernel
theorem dX1_transpose_280 : decode cX1_transpose 280 = .ok (.iastore, 1) := by decide +kernel
theorem dX1_transpose_281 : decode cX1_transpose 281 = .ok (.iinc 2 1, 3) := by decide +kernel
theorem dX1_transpose_284 : decode cX1_transpose 284 = .ok (.goto (-23), 3) := by decide +kernel
theorem dX1_transpose_287 : decode cX1_transpose 287 = .ok (.iconst 1, 1) := by decide +kernel
theorem dX1_transpose_288 : decode cX1_transpose 288 = .ok (.ireturn, 1) := by decide +kernel
abbrev cX1_square : ByteArray := prog_1_method_15_code
def yX1_square : MethodName := ⟨RX1, "square", "()I"⟩
theorem dX1_square_0 : decode cX1_square 0 = .ok (.aload_n 0, 1) := by decide +kernel
theorem dX1_square_1 : decode cX1_square 1 = .ok (.getfield 12, 3) := by decide +kernel
theorem dX1_square_4 : decode cX1_square 4 = .ok (.getfield 62, 3) := by decide +kernel
theorem dX1_square_7 : decode cX1_square 7 = .ok (.aload_n 0, 1) := by decide +kernel
theorem dX1_square_8 : decode cX1_square 8 = .ok (.getfield 12, 3) := by decide +kernel
theorem dX1_square_11 : decode cX1_square 11 = .ok (.getfield 69, 3) := by decide +kernel
theorem dX1_square_14 : decode cX1_square 14 = .ok (.if_icmp .eq 6, 3) := by decide +kernel
theorem dX1_square_17 : decode cX1_square 17 = .ok (.bipush (-2), 2) := by decide +kernel
theorem dX1_square_19 : decode cX1_square 19 = .ok (.ireturn, 1) := by decide +kernel
theorem dX1_square_20 : decode cX1_square 20 = .ok (.aload_n 0, 1) := by decide +kernel
theorem dX1_square_21 : decode cX1_square 21 = .ok (.getfield 16, 3) := by decide +kernel
theorem dX1_square_24 : decode cX1_square 24 = .ok (.aload_n 0, 1) := by decide +kernel
theorem dX1_square_25 : decode cX1_square 25 = .ok (.getfield 12, 3) := by decide +kernel
theorem dX1_square_28 : decode cX1_square 28 = .ok (.getfield 62, 3) := by decide +kernel
theorem dX1_square_31 : decode cX1_square 31 = .ok (.aload_n 0, 1) := by decide +kernel
theorem dX1_square_32 : decode cX1_square 32 = .ok (.getfield 12, 3) := by decide +kernel
theorem dX1_square_35 : decode cX1_square 35 = .ok (.getfield 69, 3) := by decide +kernel
theorem dX1_square_38 : decode cX1_square 38 = .ok (.invokevirtual 58, 3) := by decide +kernel
theorem dX1_square_41 : decode cX1_square 41 = .ok (.iconst 0, 1) := by decide +kernel
theorem dX1_square_42 : decode cX1_square 42 = .ok (.istore_n 1, 1) := by decide +kernel
theorem dX1_square_43 : decode cX1_square 43 = .ok (.iconst 0, 1) := by decide +kernel
theorem dX1_square_44 : decode cX1_square 44 = .ok (.istore_n 2, 1) := by decide +kernel
theorem dX1_square_45 : decode cX1_square 45 = .ok (.iload_n 2, 1) := by decide +kernel
theorem dX1_square_46 : decode cX1_square 46 = .ok (.aload_n 0, 1) := by decide +kernel
theorem dX1_square_47 : decode cX1_square 47 = .ok (.getfield 12, 3) := by decide +kernel
theorem dX1_square_50 : decode cX1_square 50 = .ok (.getfield 62, 3) := by decide +kernel
theorem dX1_square_53 : decode cX1_square 53 = .ok (.if_icmp .ge 84, 3) := by decide +kernel
theorem dX1_square_56 : decode cX1_square 56 = .ok (.aload_n 0, 1) := by decide +kernel
theorem dX1_square_57 : decode cX1_square 57 = .ok (.iload_n 2, 1) := by decide +kernel
theorem dX1_square_58 : decode cX1_square 58 = .ok (.invokevirtual 114, 3) := by decide +kernel
theorem dX1_square_61 : decode cX1_square 61 = .ok (.iconst 0, 1) := by decide +kernel
theorem dX1_square_62 : decode cX1_square 62 = .ok (.istore_n 3, 1) := by decide +kernel
theorem dX1_square_63 : decode cX1_square 63 = .ok (.iload_n 3, 1) := by decide +kernel
theorem dX1_square_64 : decode cX1_square 64 = .ok (.aload_n 0, 1) := by decide +kernel
theorem dX1_square_65 : decode cX1_square 65 = .ok (.getfield 12, 3) := by decide +kernel
theorem dX1_square_68 : decode cX1_square 68 = .ok (.getfield 69, 3) := by decide +kernel
theorem dX1_square_71 : decode cX1_square 71 = .ok (.if_icmp .ge 48, 3) := by decide +kernel
theorem dX1_square_74 : decode cX1_square 74 = .ok (.aload_n 0, 1) := by decide +kernel
theorem dX1_square_75 : decode cX1_square 75 = .ok (.getfield 42, 3) := by decide +kernel
theorem dX1_square_78 : decode cX1_square 78 = .ok (.iload_n 3, 1) := by decide +kernel
theorem dX1_square_79 : decode cX1_square 79 = .ok (.iaload, 1) := by decide +kernel
theorem dX1_square_80 : decode cX1_square 80 = .ok (.ifCond .ne 6, 3) := by decide +kernel
theorem dX1_square_83 : decode cX1_square 83 = .ok (.goto 30, 3) := by decide +kernel
theorem dX1_square_86 : decode cX1_square 86 = .ok (.aload_n 0, 1) := by decide +kernel
theorem dX1_square_87 : decode cX1_square 87 = .ok (.getfield 16, 3) := by decide +kernel
theorem dX1_square_90 : decode cX1_square 90 = .ok (.iload_n 1, 1) := by decide +kernel
theorem dX1_square_91 : decode cX1_square 91 = .ok (.aload_n 0, 1) := by decide +kernel
theorem dX1_square_92 : decode cX1_square 92 = .ok (.getfield 54, 3) := by decide +kernel
theorem dX1_square_95 : decode cX1_square 95 = .ok (.iload_n 3, 1) := by decide +kernel
theorem dX1_square_96 : decode cX1_square 96 = .ok (.aload_n 0, 1) := by decide +kernel
theorem dX1_square_97 : decode cX1_square 97 = .ok (.getfield 42, 3) := by decide +kernel
theorem dX1_square_100 : decode cX1_square 100 = .ok (.iload_n 3, 1) := by decide +kernel
theorem dX1_square_101 : decode cX1_square 101 = .ok (.iaload, 1) := by decide +kernel
theorem dX1_square_102 : decode cX1_square 102 = .ok (.invokevirtual 107, 3) := by decide +kernel
theorem dX1_square_105 : decode cX1_square 105 = .ok (.ifCond .ne 5, 3) := by decide +kernel
theorem dX1_square_108 : decode cX1_square 108 = .ok (.iconst (-1), 1) := by decide +kernel
theorem dX1_square_109 : decode cX1_square 109 = .ok (.ireturn, 1) := by decide +kernel
theorem dX1_square_110 : decode cX1_square 110 = .ok (.iinc 1 1, 3) := by decide +kernel
theorem dX1_square_113 : decode cX1_square 113 = .ok (.iinc 3 1, 3) := by decide +kernel
theorem dX1_square_116 : decode cX1_square 116 = .ok (.goto (-53), 3) := by decide +kernel
theorem dX1_square_119 : decode cX1_square 119 = .ok (.aload_n 0, 1) := by decide +kernel
theorem dX1_square_120 : decode cX1_square 120 = .ok (.getfield 16, 3) := by decide +kernel
theorem dX1_square_123 : decode cX1_square 123 = .ok (.getfield 82, 3) := by decide +kernel
theorem dX1_square_126 : decode cX1_square 126 = .ok (.iload_n 2, 1) := by decide +kernel
theorem dX1_square_127 : decode cX1_square 127 = .ok (.iconst 1, 1) := by decide +kernel
theorem dX1_square_128 : decode cX1_square 128 = .ok (.iadd, 1) := by decide +kernel
theorem dX1_square_129 : decode cX1_square 129 = .ok (.iload_n 1, 1) := by decide +kernel
theorem dX1_square_130 : decode cX1_square 130 = .ok (.iastore, 1) := by decide +kernel
theorem dX1_square_131 : decode cX1_square 131 = .ok (.iinc 2 1, 3) := by decide +kernel
theorem dX1_square_134 : decode cX1_square 134 = .ok (.goto (-89), 3) := by decide +kernel
theorem dX1_square_137 : decode cX1_square 137 = .ok (.aload_n 0, 1) := by decide +kernel
theorem dX1_square_138 : decode cX1_square 138 = .ok (.invokevirtual 104, 3) := by decide +kernel
theorem dX1_square_141 : decode cX1_square 141 = .ok (.ireturn, 1) := by decide +kernel
abbrev cX1_gathers : ByteArray := prog_1_method_16_code
def yX1_gathers : MethodName := ⟨RX1, "gathers", "(I)V"⟩
theorem dX1_gathers_0 : decode cX1_gathers 0 = .ok (.iconst 0, 1) := by decide +kernel
theorem dX1_gathers_1 : decode cX1_gathers 1 = .ok (.istore_n 2, 1) := by decide +kernel
theorem dX1_gathers_2 : decode cX1_gathers 2 = .ok (.iload_n 2, 1) := by decide +kernel
theorem dX1_gathers_3 : decode cX1_gathers 3 = .ok (.aload_n 0, 1) := by decide +kernel
theorem dX1_gathers_4 : decode cX1_gathers 4 = .ok (.getfield 12, 3) := by decide +kernel
theorem dX1_gathers_7 : decode cX1_gathers 7 = .ok (.getfield 69, 3) := by decide +kernel
theorem dX1_gathers_10 : decode cX1_gathers 10 = .ok (.if_icmp .ge 16, 3) := by decide +kernel
theorem dX1_gathers_13 : decode cX1_gathers 13 = .ok (.aload_n 0, 1) := by decide +kernel
theorem dX1_gathers_14 : decode cX1_gathers 14 = .ok (.getfield 42, 3) := by decide +kernel
theorem dX1_gathers_17 : decode cX1_gathers 17 = .ok (.iload_n 2, 1) := by decide +kernel
theorem dX1_gathers_18 : decode cX1_gathers 18 = .ok (.iconst 0, 1) := by decide +kernel
theorem dX1_gathers_19 : decode cX1_gathers 19 = .ok (.iastore, 1) := by decide +kernel
theorem dX1_gathers_20 : decode cX1_gathers 20 = .ok (.iinc 2 1, 3) := by decide +kernel
theorem dX1_gathers_23 : decode cX1_gathers 23 = .ok (.goto (-21), 3) := by decide +kernel
theorem dX1_gathers_26 : decode cX1_gathers 26 = .ok (.aload_n 0, 1) := by decide +kernel
theorem dX1_gathers_27 : decode cX1_gathers 27 = .ok (.getfield 12, 3) := by decide +kernel
theorem dX1_gathers_30 : decode cX1_gathers 30 = .ok (.getfield 82, 3) := by decide +kernel
theorem dX1_gathers_33 : decode cX1_gathers 33 = .ok (.iload_n 1, 1) := by decide +kernel
theorem dX1_gathers_34 : decode cX1_gathers 34 = .ok (.iaload, 1) := by decide +kernel
theorem dX1_gathers_35 : decode cX1_gathers 35 = .ok (.istore_n 2, 1) := by decide +kernel
theorem dX1_gathers_36 : decode cX1_gathers 36 = .ok (.iload_n 2, 1) := by decide +kernel
theorem dX1_gathers_37 : decode cX1_gathers 37 = .ok (.aload_n 0, 1) := by decide +kernel
theorem dX1_gathers_38 : decode cX1_gathers 38 = .ok (.getfield 12, 3) := by decide +kernel
theorem dX1_gathers_41 : decode cX1_gathers 41 = .ok (.getfield 82, 3) := by decide +kernel
theorem dX1_gathers_44 : decode cX1_gathers 44 = .ok (.iload_n 1, 1) := by decide +kernel
theorem dX1_gathers_45 : decode cX1_gathers 45 = .ok (.iconst 1, 1) := by decide +kernel
theorem dX1_gathers_46 : decode cX1_gathers 46 = .ok (.iadd, 1) := by decide +kernel
theorem dX1_gathers_47 : decode cX1_gathers 47 = .ok (.iaload, 1) := by decide +kernel
theorem dX1_gathers_48 : decode cX1_gathers 48 = .ok (.if_icmp .ge 90, 3) := by decide +kernel
theorem dX1_gathers_51 : decode cX1_gathers 51 = .ok (.aload_n 0, 1) := by decide +kernel
theorem dX1_gathers_52 : decode cX1_gathers 52 = .ok (.getfield 12, 3) := by decide +kernel
theorem dX1_gathers_55 : decode cX1_gathers 55 = .ok (.getfield 85, 3) := by decide +kernel
theorem dX1_gathers_58 : decode cX1_gathers 58 = .ok (.iload_n 2, 1) := by decide +kernel
theorem dX1_gathers_59 : decode cX1_gathers 59 = .ok (.iaload, 1) := by decide +kernel
theorem dX1_gathers_60 : decode cX1_gathers 60 = .ok (.istore_n 3, 1) := by decide +kernel
theorem dX1_gathers_61 : decode cX1_gathers 61 = .ok (.aload_n 0, 1) := by decide +kernel
theorem dX1_gathers_62 : decode cX1_gathers 62 = .ok (.getfield 12, 3) := by decide +kernel
theorem dX1_gathers_65 : decode cX1_gathers 65 = .ok (.getfield 82, 3) := by decide +kernel
theorem dX1_gathers_68 : decode cX1_gathers 68 = .ok (.iload_n 3, 1) := by decide +kernel
theorem dX1_gathers_69 : decode cX1_gathers 69 = .ok (.iaload, 1) := by decide +kernel
theorem dX1_gathers_70 : decode cX1_gathers 70 = .ok (.istore 4, 2) := by decide +kernel
theorem dX1_gathers_72 : decode cX1_gathers 72 = .ok (.iload 4, 2) := by decide +kernel
theorem dX1_gathers_74 : decode cX1_gathers 74 = .ok (.aload_n 0, 1) := by decide +kernel
theorem dX1_gathers_75 : decode cX1_gathers 75 = .ok (.getfield 12, 3) := by decide +kernel
theorem dX1_gathers_78 : decode cX1_gathers 78 = .ok (.getfield 82, 3) := by decide +kernel
theorem dX1_gathers_81 : decode cX1_gathers 81 = .ok (.iload_n 3, 1) := by decide +kernel
theorem dX1_gathers_82 : decode cX1_gathers 82 = .ok (.iconst 1, 1) := by decide +kernel
theorem dX1_gathers_83 : decode cX1_gathers 83 = .ok (.iadd, 1) := by decide +kernel
theorem dX1_gathers_84 : decode cX1_gathers 84 = .ok (.iaload, 1) := by decide +kernel
theorem dX1_gathers_85 : decode cX1_gathers 85 = .ok (.if_icmp .ge 47, 3) := by decide +kernel
theorem dX1_gathers_88 : decode cX1_gathers 88 = .ok (.aload_n 0, 1) := by decide +kernel
theorem dX1_gathers_89 : decode cX1_gathers 89 = .ok (.getfield 42, 3) := by decide +kernel
theorem dX1_gathers_92 : decode cX1_gathers 92 = .ok (.aload_n 0, 1) := by decide +kernel
theorem dX1_gathers_93 : decode cX1_gathers 93 = .ok (.getfield 12, 3) := by decide +kernel
theorem dX1_gathers_96 : decode cX1_gathers 96 = .ok (.getfield 85, 3) := by decide +kernel
theorem dX1_gathers_99 : decode cX1_gathers 99 = .ok (.iload 4, 2) := by decide +kernel
theorem dX1_gathers_101 : decode cX1_gathers 101 = .ok (.iaload, 1) := by decide +kernel
theorem dX1_gathers_102 : decode cX1_gathers 102 = .ok (.dup2, 1) := by decide +kernel
theorem dX1_gathers_103 : decode cX1_gathers 103 = .ok (.iaload, 1) := by decide +kernel
theorem dX1_gathers_104 : decode cX1_gathers 104 = .ok (.aload_n 0, 1) := by decide +kernel
theorem dX1_gathers_105 : decode cX1_gathers 105 = .ok (.getfield 12, 3) := by decide +kernel
theorem dX1_gathers_108 : decode cX1_gathers 108 = .ok (.getfield 88, 3) := by decide +kernel
theorem dX1_gathers_111 : decode cX1_gathers 111 = .ok (.iload_n 2, 1) := by decide +kernel
theorem dX1_gathers_112 : decode cX1_gathers 112 = .ok (.iaload, 1) := by decide +kernel
theorem dX1_gathers_113 : decode cX1_gathers 113 = .ok (.aload_n 0, 1) := by decide +kernel
theorem dX1_gathers_114 : decode cX1_gathers 114 = .ok (.getfield 12, 3) := by decide +kernel
theorem dX1_gathers_117 : decode cX1_gathers 117 = .ok (.getfield 88, 3) := by decide +kernel
theorem dX1_gathers_120 : decode cX1_gathers 120 = .ok (.iload 4, 2) := by decide +kernel
theorem dX1_gathers_122 : decode cX1_gathers 122 = .ok (.iaload, 1) := by decide +kernel
theorem dX1_gathers_123 : decode cX1_gathers 123 = .ok (.imul, 1) := by decide +kernel
theorem dX1_gathers_124 : decode cX1_gathers 124 = .ok (.iadd, 1) := by decide +kernel
theorem dX1_gathers_125 : decode cX1_gathers 125 = .ok (.iastore, 1) := by decide +kernel
theorem dX1_gathers_126 : decode cX1_gathers 126 = .ok (.iinc 4 1, 3) := by decide +kernel
theorem dX1_gathers_129 : decode cX1_gathers 129 = .ok (.goto (-57), 3) := by decide +kernel
theorem dX1_gathers_132 : decode cX1_gathers 132 = .ok (.iinc 2 1, 3) := by decide +kernel
theorem dX1_gathers_135 : decode cX1_gathers 135 = .ok (.goto (-99), 3) := by decide +kernel
theorem dX1_gathers_138 : decode cX1_gathers 138 = .ok (.return_, 1) := by decide +kernel
abbrev cX1_count : ByteArray := prog_1_method_17_code
def yX1_count : MethodName := ⟨RX1, "count", "(I)I"⟩
theorem dX1_count_0 : decode cX1_count 0 = .ok (.iload_n 1, 1) := by decide +kernel
theorem dX1_count_1 : decode cX1_count 1 = .ok (.tableswitch 60 0 3 #[31, 39, 47, 52], 31) := by decide +kernel
theorem dX1_count_32 : decode cX1_count 32 = .ok (.aload_n 0, 1) := by decide +kernel
theorem dX1_count_33 : decode cX1_count 33 = .ok (.getfield 12, 3) := by decide +kernel
theorem dX1_count_36 : decode cX1_count 36 = .ok (.getfield 62, 3) := by decide +kernel
theorem dX1_count_39 : decode cX1_count 39 = .ok (.ireturn, 1) := by decide +kernel
theorem dX1_count_40 : decode cX1_count 40 = .ok (.aload_n 0, 1) := by decide +kernel
theorem dX1_count_41 : decode cX1_count 41 = .ok (.getfield 12, 3) := by decide +kernel
theorem dX1_count_44 : decode cX1_count 44 = .ok (.getfield 69, 3) := by decide +kernel
theorem dX1_count_47 : decode cX1_count 47 = .ok (.ireturn, 1) := by decide +kernel
theorem dX1_count_48 : decode cX1_count 48 = .ok (.aload_n 0, 1) := by decide +kernel
theorem dX1_count_49 : decode cX1_count 49 = .ok (.getfield 54, 3) := by decide +kernel
theorem dX1_count_52 : decode cX1_count 52 = .ok (.ireturn, 1) := by decide +kernel
theorem dX1_count_53 : decode cX1_count 53 = .ok (.aload_n 0, 1) := by decide +kernel
theorem dX1_count_54 : decode cX1_count 54 = .ok (.getfield 22, 3) := by decide +kernel
theorem dX1_count_57 : decode cX1_count 57 = .ok (.getfield 72, 3) := by decide +kernel
theorem dX1_count_60 : decode cX1_count 60 = .ok (.ireturn, 1) := by decide +kernel
theorem dX1_count_61 : decode cX1_count 61 = .ok (.iconst (-1), 1) := by decide +kernel
theorem dX1_count_62 : decode cX1_count 62 = .ok (.ireturn, 1) := by decide +kernel
theorem q8 : (Jvm.Cond.initialized "RowSparse") ∈ lw_all := lw_g (lw_at lw_m1 1 rfl) rfl
theorem q14 : (Jvm.Cond.instantiable "RowSparse" (10 : Nat)) ∈ lw_all := lw_g (lw_at lw_m1 7 rfl) rfl
theorem q16 : (Jvm.Cond.instanceMethod ({ cls := "RowSparse", name := "<init>", desc := "(III)V" } : Jvm.MethodName)) ∈ lw_all := lw_g (lw_at lw_m1 9 rfl) rfl
theorem q17 : (Jvm.Cond.code ({ cls := "RowSparse", name := "<init>", desc := "(III)V" } : Jvm.MethodName) prog_1_method_2_code (4 : Nat) (Option.none : Option Jvm.ClassFile.FieldType)) ∈ lw_all := lw_g (lw_at lw_m1 10 rfl) rfl
theorem q18 : (Jvm.Cond.methodLink "RowSparse" (3 : Nat) ({ cls := "java/lang/Object", name := "<init>", desc := "()V" } : Jvm.MethodName)) ∈ lw_all := lw_g (lw_at lw_m1 11 rfl) rfl
theorem q21 : (Jvm.Cond.classLink "RowSparse" (9 : Nat) "RowSparse$Matrix") ∈ lw_all := lw_g (lw_at lw_m1 14 rfl) rfl
theorem q23 : (Jvm.Cond.methodLinkNest "RowSparse" (11 : Nat) ({ cls := "RowSparse$Matrix", name := "<init>", desc := "()V" } : Jvm.MethodName) "RowSparse") ∈ lw_tbl := lw_at lw_m1 16 rfl
theorem q28 : (Jvm.Cond.fieldLinkNest "RowSparse" (82 : Nat) "RowSparse$Matrix" "start" "[I" "RowSparse") ∈ lw_tbl := lw_at lw_m1 21 rfl
theorem q30 : (Jvm.Cond.fieldLinkNest "RowSparse" (85 : Nat) "RowSparse$Matrix" "column" "[I" "RowSparse") ∈ lw_tbl := lw_at lw_m1 23 rfl
theorem q32 : (Jvm.Cond.fieldLinkNest "RowSparse" (88 : Nat) "RowSparse$Matrix" "value" "[I" "RowSparse") ∈ lw_tbl := lw_at lw_m1 25 rfl
theorem q34 : (Jvm.Cond.fieldLinkNest "RowSparse" (62 : Nat) "RowSparse$Matrix" "rows" "I" "RowSparse") ∈ lw_tbl := lw_at lw_m1 27 rfl
theorem q36 : (Jvm.Cond.fieldLinkNest "RowSparse" (69 : Nat) "RowSparse$Matrix" "cols" "I" "RowSparse") ∈ lw_tbl := lw_at lw_m1 29 rfl
theorem q49 : (Jvm.Cond.classLink "RowSparse" (19 : Nat) "RowSparse$Heap") ∈ lw_all := lw_g (lw_at lw_m1 42 rfl) rfl
theorem q51 : (Jvm.Cond.methodLinkNest "RowSparse" (21 : Nat) ({ cls := "RowSparse$Heap", name := "<init>", desc := "()V" } : Jvm.MethodName) "RowSparse") ∈ lw_tbl := lw_at lw_m1 44 rfl
theorem q56 : (Jvm.Cond.fieldLinkNest "RowSparse" (91 : Nat) "RowSparse$Heap" "row" "[I" "RowSparse") ∈ lw_tbl := lw_at lw_m1 49 rfl
theorem q58 : (Jvm.Cond.fieldLinkNest "RowSparse" (94 : Nat) "RowSparse$Heap" "column" "[I" "RowSparse") ∈ lw_tbl := lw_at lw_m1 51 rfl
theorem q60 : (Jvm.Cond.fieldLinkNest "RowSparse" (95 : Nat) "RowSparse$Heap" "value" "[I" "RowSparse") ∈ lw_tbl := lw_at lw_m1 53 rfl
theorem q62 : (Jvm.Cond.fieldLinkNest "RowSparse" (72 : Nat) "RowSparse$Heap" "size" "I" "RowSparse") ∈ lw_tbl := lw_at lw_m1 55 rfl
theorem q72 : (Jvm.Cond.methodLink "RowSparse" (45 : Nat) ({ cls := "java/lang/Math", name := "min", desc := "(II)I" } : Jvm.MethodName)) ∈ lw_all := lw_g (lw_at lw_m1 65 rfl) rfl
theorem q75 : (Jvm.Cond.methodLink "RowSparse" (51 : Nat) ({ cls := "java/lang/Math", name := "max", desc := "(II)I" } : Jvm.MethodName)) ∈ lw_all := lw_g (lw_at lw_m1 68 rfl) rfl
theorem q78 : (Jvm.Cond.methodLink "RowSparse" (58 : Nat) ({ cls := "RowSparse$Matrix", name := "be", desc := "(II)V" } : Jvm.MethodName)) ∈ lw_all := lw_g (lw_at lw_m1 71 rfl) rfl
theorem q82 : (Jvm.Cond.fieldLink "RowSparse" (54 : Nat) "RowSparse" "cap" "I") ∈ lw_all := lw_g (lw_at lw_m1 75 rfl) rfl
theorem q83 : (Jvm.Cond.fieldLink "RowSparse" (12 : Nat) "RowSparse" "now" "LRowSparse$Matrix;") ∈ lw_all := lw_g (lw_at lw_m1 76 rfl) rfl
theorem q84 : (Jvm.Cond.fieldLink "RowSparse" (16 : Nat) "RowSparse" "next" "LRowSparse$Matrix;") ∈ lw_all := lw_g (lw_at lw_m1 77 rfl) rfl
theorem q85 : (Jvm.Cond.fieldLink "RowSparse" (22 : Nat) "RowSparse" "pending" "LRowSparse$Heap;") ∈ lw_all := lw_g (lw_at lw_m1 78 rfl) rfl
theorem q86 : (Jvm.Cond.fieldLink "RowSparse" (26 : Nat) "RowSparse" "one" "LRowSparse$Heap;") ∈ lw_all := lw_g (lw_at lw_m1 79 rfl) rfl
theorem q87 : (Jvm.Cond.fieldLink "RowSparse" (29 : Nat) "RowSparse" "other" "LRowSparse$Heap;") ∈ lw_all := lw_g (lw_at lw_m1 80 rfl) rfl
theorem q88 : (Jvm.Cond.fieldLink "RowSparse" (32 : Nat) "RowSparse" "count" "[I") ∈ lw_all := lw_g (lw_at lw_m1 81 rfl) rfl
theorem q89 : (Jvm.Cond.fieldLink "RowSparse" (36 : Nat) "RowSparse" "x" "[I") ∈ lw_all := lw_g (lw_at lw_m1 82 rfl) rfl
theorem q90 : (Jvm.Cond.fieldLink "RowSparse" (39 : Nat) "RowSparse" "y" "[I") ∈ lw_all := lw_g (lw_at lw_m1 83 rfl) rfl
theorem q91 : (Jvm.Cond.fieldLink "RowSparse" (42 : Nat) "RowSparse" "sum" "[I") ∈ lw_all := lw_g (lw_at lw_m1 84 rfl) rfl
theorem q92 : (Jvm.Cond.laysFinal "RowSparse" "RowSparse" "cap" "I") ∈ lw_all := lw_g (lw_at lw_m1 85 rfl) rfl
theorem q93 : (Jvm.Cond.soleField "RowSparse" "cap") ∈ lw_all := lw_g (lw_at lw_m1 86 rfl) rfl
theorem q94 : (Jvm.Cond.lays "RowSparse" "RowSparse" "now" "LRowSparse$Matrix;") ∈ lw_all := lw_g (lw_at lw_m1 87 rfl) rfl
theorem q95 : (Jvm.Cond.soleField "RowSparse" "now") ∈ lw_all := lw_g (lw_at lw_m1 88 rfl) rfl
theorem q96 : (Jvm.Cond.lays "RowSparse" "RowSparse" "next" "LRowSparse$Matrix;") ∈ lw_all := lw_g (lw_at lw_m1 89 rfl) rfl
theorem q97 : (Jvm.Cond.soleField "RowSparse" "next") ∈ lw_all := lw_g (lw_at lw_m1 90 rfl) rfl
theorem q98 : (Jvm.Cond.laysFinal "RowSparse" "RowSparse" "pending" "LRowSparse$Heap;") ∈ lw_all := lw_g (lw_at lw_m1 91 rfl) rfl
theorem q99 : (Jvm.Cond.soleField "RowSparse" "pending") ∈ lw_all := lw_g (lw_at lw_m1 92 rfl) rfl
theorem q100 : (Jvm.Cond.laysFinal "RowSparse" "RowSparse" "one" "LRowSparse$Heap;") ∈ lw_all := lw_g (lw_at lw_m1 93 rfl) rfl
theorem q101 : (Jvm.Cond.soleField "RowSparse" "one") ∈ lw_all := lw_g (lw_at lw_m1 94 rfl) rfl
theorem q102 : (Jvm.Cond.laysFinal "RowSparse" "RowSparse" "other" "LRowSparse$Heap;") ∈ lw_all := lw_g (lw_at lw_m1 95 rfl) rfl
theorem q103 : (Jvm.Cond.soleField "RowSparse" "other") ∈ lw_all := lw_g (lw_at lw_m1 96 rfl) rfl
theorem q104 : (Jvm.Cond.laysFinal "RowSparse" "RowSparse" "count" "[I") ∈ lw_all := lw_g (lw_at lw_m1 97 rfl) rfl
theorem q105 : (Jvm.Cond.soleField "RowSparse" "count") ∈ lw_all := lw_g (lw_at lw_m1 98 rfl) rfl
theorem q106 : (Jvm.Cond.laysFinal "RowSparse" "RowSparse" "x" "[I") ∈ lw_all := lw_g (lw_at lw_m1 99 rfl) rfl
theorem q107 : (Jvm.Cond.soleField "RowSparse" "x") ∈ lw_all := lw_g (lw_at lw_m1 100 rfl) rfl
theorem q108 : (Jvm.Cond.laysFinal "RowSparse" "RowSparse" "y" "[I") ∈ lw_all := lw_g (lw_at lw_m1 101 rfl) rfl
theorem q109 : (Jvm.Cond.soleField "RowSparse" "y") ∈ lw_all := lw_g (lw_at lw_m1 102 rfl) rfl
theorem q110 : (Jvm.Cond.laysFinal "RowSparse" "RowSparse" "sum" "[I") ∈ lw_all := lw_g (lw_at lw_m1 103 rfl) rfl
theorem q111 : (Jvm.Cond.soleField "RowSparse" "sum") ∈ lw_all := lw_g (lw_at lw_m1 104 rfl) rfl
theorem q112 : (Jvm.Cond.superclass "RowSparse" "java/lang/Object") ∈ lw_all := lw_g (lw_at lw_m1 105 rfl) rfl
theorem q114 : (Jvm.Cond.instanceMethod ({ cls := "RowSparse", name := "add", desc := "(III)Z" } : Jvm.MethodName)) ∈ lw_all := lw_g (lw_at lw_m1 107 rfl) rfl
theorem q115 : (Jvm.Cond.selects "RowSparse" ({ cls := "RowSparse", name := "add", desc := "(III)Z" } : Jvm.MethodName) ({ cls := "RowSparse", name := "add", desc := "(III)Z" } : Jvm.MethodName)) ∈ lw_all := lw_g (lw_at lw_m1 108 rfl) rfl
theorem q116 : (Jvm.Cond.code ({ cls := "RowSparse", name := "add", desc := "(III)Z" } : Jvm.MethodName) prog_1_method_3_code (4 : Nat) (Option.some Jvm.ClassFile.FieldType.boolean)) ∈ lw_all := lw_g (lw_at lw_m1 109 rfl) rfl
theorem q117 : (Jvm.Cond.methodLink "RowSparse" (65 : Nat) ({ cls := "RowSparse", name := "in", desc := "(III)Z" } : Jvm.MethodName)) ∈ lw_all := lw_g (lw_at lw_m1 110 rfl) rfl
theorem q118 : (Jvm.Cond.static ({ cls := "RowSparse", name := "in", desc := "(III)Z" } : Jvm.MethodName)) ∈ lw_all := lw_g (lw_at lw_m1 111 rfl) rfl
theorem q119 : (Jvm.Cond.code ({ cls := "RowSparse", name := "in", desc := "(III)Z" } : Jvm.MethodName) prog_1_method_1_code (3 : Nat) (Option.some Jvm.ClassFile.FieldType.boolean)) ∈ lw_all := lw_g (lw_at lw_m1 112 rfl) rfl
theorem q120 : (Jvm.Cond.methodLink "RowSparse" (75 : Nat) ({ cls := "RowSparse$Heap", name := "adds", desc := "(III)V" } : Jvm.MethodName)) ∈ lw_all := lw_g (lw_at lw_m1 113 rfl) rfl
theorem q125 : (Jvm.Cond.instanceMethod ({ cls := "RowSparse", name := "build", desc := "()I" } : Jvm.MethodName)) ∈ lw_all := lw_g (lw_at lw_m1 118 rfl) rfl
theorem q126 : (Jvm.Cond.selects "RowSparse" ({ cls := "RowSparse", name := "build", desc := "()I" } : Jvm.MethodName) ({ cls := "RowSparse", name := "build", desc := "()I" } : Jvm.MethodName)) ∈ lw_all := lw_g (lw_at lw_m1 119 rfl) rfl
theorem q127 : (Jvm.Cond.code ({ cls := "RowSparse", name := "build", desc := "()I" } : Jvm.MethodName) prog_1_method_5_code (3 : Nat) (Option.some Jvm.ClassFile.FieldType.int)) ∈ lw_all := lw_g (lw_at lw_m1 120 rfl) rfl
theorem q128 : (Jvm.Cond.methodLink "RowSparse" (96 : Nat) ({ cls := "RowSparse$Heap", name := "sorts", desc := "(LRowSparse$Heap;[IZ)V" } : Jvm.MethodName)) ∈ lw_all := lw_g (lw_at lw_m1 121 rfl) rfl
theorem q132 : (Jvm.Cond.methodLink "RowSparse" (100 : Nat) ({ cls := "RowSparse", name := "merges", desc := "()Z" } : Jvm.MethodName)) ∈ lw_all := lw_g (lw_at lw_m1 125 rfl) rfl
theorem q133 : (Jvm.Cond.privateMethod ({ cls := "RowSparse", name := "merges", desc := "()Z" } : Jvm.MethodName)) ∈ lw_tbl := lw_at lw_m1 126 rfl
theorem q134 : (Jvm.Cond.instanceMethod ({ cls := "RowSparse", name := "merges", desc := "()Z" } : Jvm.MethodName)) ∈ lw_all := lw_g (lw_at lw_m1 127 rfl) rfl
theorem q135 : (Jvm.Cond.code ({ cls := "RowSparse", name := "merges", desc := "()Z" } : Jvm.MethodName) prog_1_method_6_code (6 : Nat) (Option.some Jvm.ClassFile.FieldType.boolean)) ∈ lw_all := lw_g (lw_at lw_m1 128 rfl) rfl
theorem q136 : (Jvm.Cond.methodLink "RowSparse" (107 : Nat) ({ cls := "RowSparse$Matrix", name := "puts", desc := "(IIII)Z" } : Jvm.MethodName)) ∈ lw_all := lw_g (lw_at lw_m1 129 rfl) rfl
theorem q140 : (Jvm.Cond.methodLink "RowSparse" (104 : Nat) ({ cls := "RowSparse", name := "turns", desc := "()I" } : Jvm.MethodName)) ∈ lw_all := lw_g (lw_at lw_m1 133 rfl) rfl
theorem q141 : (Jvm.Cond.privateMethod ({ cls := "RowSparse", name := "turns", desc := "()I" } : Jvm.MethodName)) ∈ lw_tbl := lw_at lw_m1 134 rfl
theorem q142 : (Jvm.Cond.instanceMethod ({ cls := "RowSparse", name := "turns", desc := "()I" } : Jvm.MethodName)) ∈ lw_all := lw_g (lw_at lw_m1 135 rfl) rfl
theorem q143 : (Jvm.Cond.code ({ cls := "RowSparse", name := "turns", desc := "()I" } : Jvm.MethodName) prog_1_method_4_code (2 : Nat) (Option.some Jvm.ClassFile.FieldType.int)) ∈ lw_all := lw_g (lw_at lw_m1 136 rfl) rfl
theorem q144 : (Jvm.Cond.methodLink "RowSparse" (79 : Nat) ({ cls := "RowSparse$Matrix", name := "size", desc := "()I" } : Jvm.MethodName)) ∈ lw_all := lw_g (lw_at lw_m1 137 rfl) rfl
theorem q149 : (Jvm.Cond.instanceMethod ({ cls := "RowSparse", name := "nnz", desc := "()I" } : Jvm.MethodName)) ∈ lw_all := lw_g (lw_at lw_m1 142 rfl) rfl
theorem q150 : (Jvm.Cond.selects "RowSparse" ({ cls := "RowSparse", name := "nnz", desc := "()I" } : Jvm.MethodName) ({ cls := "RowSparse", name := "nnz", desc := "()I" } : Jvm.MethodName)) ∈ lw_all := lw_g (lw_at lw_m1 143 rfl) rfl
theorem q151 : (Jvm.Cond.code ({ cls := "RowSparse", name := "nnz", desc := "()I" } : Jvm.MethodName) prog_1_method_7_code (1 : Nat) (Option.some Jvm.ClassFile.FieldType.int)) ∈ lw_all := lw_g (lw_at lw_m1 144 rfl) rfl
theorem q153 : (Jvm.Cond.instanceMethod ({ cls := "RowSparse", name := "at", desc := "(II)I" } : Jvm.MethodName)) ∈ lw_all := lw_g (lw_at lw_m1 146 rfl) rfl
theorem q154 : (Jvm.Cond.selects "RowSparse" ({ cls := "RowSparse", name := "at", desc := "(II)I" } : Jvm.MethodName) ({ cls := "RowSparse", name := "at", desc := "(II)I" } : Jvm.MethodName)) ∈ lw_all := lw_g (lw_at lw_m1 147 rfl) rfl
theorem q155 : (Jvm.Cond.code ({ cls := "RowSparse", name := "at", desc := "(II)I" } : Jvm.MethodName) prog_1_method_8_code (4 : Nat) (Option.some Jvm.ClassFile.FieldType.int)) ∈ lw_all := lw_g (lw_at lw_m1 148 rfl) rfl
theorem q156 : (Jvm.Cond.methodLink "RowSparse" (111 : Nat) ({ cls := "RowSparse$Matrix", name := "find", desc := "(II)I" } : Jvm.MethodName)) ∈ lw_all := lw_g (lw_at lw_m1 149 rfl) rfl
theorem q161 : (Jvm.Cond.instanceMethod ({ cls := "RowSparse", name := "rowStart", desc := "(I)I" } : Jvm.MethodName)) ∈ lw_all := lw_g (lw_at lw_m1 154 rfl) rfl
theorem q162 : (Jvm.Cond.selects "RowSparse" ({ cls := "RowSparse", name := "rowStart", desc := "(I)I" } : Jvm.MethodName) ({ cls := "RowSparse", name := "rowStart", desc := "(I)I" } : Jvm.MethodName)) ∈ lw_all := lw_g (lw_at lw_m1 155 rfl) rfl
theorem q163 : (Jvm.Cond.code ({ cls := "RowSparse", name := "rowStart", desc := "(I)I" } : Jvm.MethodName) prog_1_method_9_code (2 : Nat) (Option.some Jvm.ClassFile.FieldType.int)) ∈ lw_all := lw_g (lw_at lw_m1 156 rfl) rfl
theorem q165 : (Jvm.Cond.instanceMethod ({ cls := "RowSparse", name := "colAt", desc := "(I)I" } : Jvm.MethodName)) ∈ lw_all := lw_g (lw_at lw_m1 158 rfl) rfl
theorem q166 : (Jvm.Cond.selects "RowSparse" ({ cls := "RowSparse", name := "colAt", desc := "(I)I" } : Jvm.MethodName) ({ cls := "RowSparse", name := "colAt", desc := "(I)I" } : Jvm.MethodName)) ∈ lw_all := lw_g (lw_at lw_m1 159 rfl) rfl
theorem q167 : (Jvm.Cond.code ({ cls := "RowSparse", name := "colAt", desc := "(I)I" } : Jvm.MethodName) prog_1_method_10_code (2 : Nat) (Option.some Jvm.ClassFile.FieldType.int)) ∈ lw_all := lw_g (lw_at lw_m1 160 rfl) rfl
theorem q169 : (Jvm.Cond.instanceMethod ({ cls := "RowSparse", name := "setX", desc := "(II)Z" } : Jvm.MethodName)) ∈ lw_all := lw_g (lw_at lw_m1 162 rfl) rfl
theorem q170 : (Jvm.Cond.selects "RowSparse" ({ cls := "RowSparse", name := "setX", desc := "(II)Z" } : Jvm.MethodName) ({ cls := "RowSparse", name := "setX", desc := "(II)Z" } : Jvm.MethodName)) ∈ lw_all := lw_g (lw_at lw_m1 163 rfl) rfl
theorem q171 : (Jvm.Cond.code ({ cls := "RowSparse", name := "setX", desc := "(II)Z" } : Jvm.MethodName) prog_1_method_11_code (3 : Nat) (Option.some Jvm.ClassFile.FieldType.boolean)) ∈ lw_all := lw_g (lw_at lw_m1 164 rfl) rfl
theorem q173 : (Jvm.Cond.instanceMethod ({ cls := "RowSparse", name := "multiplyVector", desc := "()Z" } : Jvm.MethodName)) ∈ lw_all := lw_g (lw_at lw_m1 166 rfl) rfl
theorem q174 : (Jvm.Cond.selects "RowSparse" ({ cls := "RowSparse", name := "multiplyVector", desc := "()Z" } : Jvm.MethodName) ({ cls := "RowSparse", name := "multiplyVector", desc := "()Z" } : Jvm.MethodName)) ∈ lw_all := lw_g (lw_at lw_m1 167 rfl) rfl
theorem q175 : (Jvm.Cond.code ({ cls := "RowSparse", name := "multiplyVector", desc := "()Z" } : Jvm.MethodName) prog_1_method_12_code (4 : Nat) (Option.some Jvm.ClassFile.FieldType.boolean)) ∈ lw_all := lw_g (lw_at lw_m1 168 rfl) rfl
theorem q177 : (Jvm.Cond.instanceMethod ({ cls := "RowSparse", name := "y", desc := "(I)I" } : Jvm.MethodName)) ∈ lw_all := lw_g (lw_at lw_m1 170 rfl) rfl
theorem q178 : (Jvm.Cond.selects "RowSparse" ({ cls := "RowSparse", name := "y", desc := "(I)I" } : Jvm.MethodName) ({ cls := "RowSparse", name := "y", desc := "(I)I" } : Jvm.MethodName)) ∈ lw_all := lw_g (lw_at lw_m1 171 rfl) rfl
theorem q179 : (Jvm.Cond.code ({ cls := "RowSparse", name := "y", desc := "(I)I" } : Jvm.MethodName) prog_1_method_13_code (2 : Nat) (Option.some Jvm.ClassFile.FieldType.int)) ∈ lw_all := lw_g (lw_at lw_m1 172 rfl) rfl
theorem q181 : (Jvm.Cond.instanceMethod ({ cls := "RowSparse", name := "transpose", desc := "()Z" } : Jvm.MethodName)) ∈ lw_all := lw_g (lw_at lw_m1 174 rfl) rfl
theorem q182 : (Jvm.Cond.selects "RowSparse" ({ cls := "RowSparse", name := "transpose", desc := "()Z" } : Jvm.MethodName) ({ cls := "RowSparse", name := "transpose", desc := "()Z" } : Jvm.MethodName)) ∈ lw_all := lw_g (lw_at lw_m1 175 rfl) rfl
theorem q183 : (Jvm.Cond.code ({ cls := "RowSparse", name := "transpose", desc := "()Z" } : Jvm.MethodName) prog_1_method_14_code (5 : Nat) (Option.some Jvm.ClassFile.FieldType.boolean)) ∈ lw_all := lw_g (lw_at lw_m1 176 rfl) rfl
theorem q185 : (Jvm.Cond.instanceMethod ({ cls := "RowSparse", name := "square", desc := "()I" } : Jvm.MethodName)) ∈ lw_all := lw_g (lw_at lw_m1 178 rfl) rfl
theorem q186 : (Jvm.Cond.selects "RowSparse" ({ cls := "RowSparse", name := "square", desc := "()I" } : Jvm.MethodName) ({ cls := "RowSparse", name := "square", desc := "()I" } : Jvm.MethodName)) ∈ lw_all := lw_g (lw_at lw_m1 179 rfl) rfl
theorem q187 : (Jvm.Cond.code ({ cls := "RowSparse", name := "square", desc := "()I" } : Jvm.MethodName) prog_1_method_15_code (4 : Nat) (Option.some Jvm.ClassFile.FieldType.int)) ∈ lw_all := lw_g (lw_at lw_m1 180 rfl) rfl
theorem q188 : (Jvm.Cond.methodLink "RowSparse" (114 : Nat) ({ cls := "RowSparse", name := "gathers", desc := "(I)V" } : Jvm.MethodName)) ∈ lw_all := lw_g (lw_at lw_m1 181 rfl) rfl
theorem q189 : (Jvm.Cond.privateMethod ({ cls := "RowSparse", name := "gathers", desc := "(I)V" } : Jvm.MethodName)) ∈ lw_tbl := lw_at lw_m1 182 rfl
theorem q190 : (Jvm.Cond.instanceMethod ({ cls := "RowSparse", name := "gathers", desc := "(I)V" } : Jvm.MethodName)) ∈ lw_all := lw_g (lw_at lw_m1 183 rfl) rfl
theorem q191 : (Jvm.Cond.code ({ cls := "RowSparse", name := "gathers", desc := "(I)V" } : Jvm.MethodName) prog_1_method_16_code (5 : Nat) (Option.none : Option Jvm.ClassFile.FieldType)) ∈ lw_all := lw_g (lw_at lw_m1 184 rfl) rfl
theorem q193 : (Jvm.Cond.instanceMethod ({ cls := "RowSparse", name := "count", desc := "(I)I" } : Jvm.MethodName)) ∈ lw_all := lw_g (lw_at lw_m1 186 rfl) rfl
theorem q194 : (Jvm.Cond.selects "RowSparse" ({ cls := "RowSparse", name := "count", desc := "(I)I" } : Jvm.MethodName) ({ cls := "RowSparse", name := "count", desc := "(I)I" } : Jvm.MethodName)) ∈ lw_all := lw_g (lw_at lw_m1 187 rfl) rfl
theorem q195 : (Jvm.Cond.code ({ cls := "RowSparse", name := "count", desc := "(I)I" } : Jvm.MethodName) prog_1_method_17_code (2 : Nat) (Option.some Jvm.ClassFile.FieldType.int)) ∈ lw_all := lw_g (lw_at lw_m1 188 rfl) rfl
theorem in_X1 : ∀ w ∈ wsX10, w ∈ lw_all := lw_in wsX10 [92, 94, 96, 98, 100, 102, 104, 106, 108, 110] (by decide +kernel) (by decide +kernel)
end
section
/-! RowSparseModel -/
set_option maxRecDepth 100000
def RX4 : String := "RowSparseModel"
def TX4 : u_T := fun k => match k with
  | 0 => ("RowSparseModel", "cap", "I", true)
  | 1 => ("RowSparseModel", "rows", "I", false)
  | 2 => ("RowSparseModel", "cols", "I", false)
  | 3 => ("RowSparseModel", "pending", "I", false)
  | 4 => ("RowSparseModel", "table", "[I", false)
  | 5 => ("RowSparseModel", "other", "[I", false)
  | 6 => ("RowSparseModel", "more", "[I", true)
  | 7 => ("RowSparseModel", "x", "[I", true)
  | _ => ("RowSparseModel", "y", "[I", true)
def tyX4 : Nat → FieldType := fun k => match k with
  | 0 => .int
  | 1 => .int
  | 2 => .int
  | 3 => .int
  | 4 => .array .int
  | 5 => .array .int
  | 6 => .array .int
  | 7 => .array .int
  | _ => .array .int
abbrev wsX40 : List Cond := u_ws RX4 TX4 9
theorem nmX4 : ∀ a, a < 9 → ∀ b, b < 9 → a ≠ b → (TX4 a).2.1 ≠ (TX4 b).2.1 := by decide +kernel
theorem tyX4_ok : ∀ k, k < 9 → parseFieldDescriptor (TX4 k).2.2.1 = some (tyX4 k) := by decide +kernel
abbrev cX4_init : ByteArray := prog_5_method_1_code
def yX4_init : MethodName := ⟨RX4, "<init>", "(III)V"⟩
theorem dX4_init_0 : decode cX4_init 0 = .ok (.aload_n 0, 1) := by decide +kernel
theorem dX4_init_1 : decode cX4_init 1 = .ok (.invokespecial 1, 3) := by decide +kernel
theorem dX4_init_4 : decode cX4_init 4 = .ok (.aload_n 0, 1) := by decide +kernel
theorem dX4_init_5 : decode cX4_init 5 = .ok (.sipush 3600, 3) := by decide +kernel
theorem dX4_init_8 : decode cX4_init 8 = .ok (.newarray .int, 2) := by decide +kernel
theorem dX4_init_10 : decode cX4_init 10 = .ok (.putfield 7, 3) := by decide +kernel
theorem dX4_init_13 : decode cX4_init 13 = .ok (.aload_n 0, 1) := by decide +kernel
theorem dX4_init_14 : decode cX4_init 14 = .ok (.sipush 3600, 3) := by decide +kernel
theorem dX4_init_17 : decode cX4_init 17 = .ok (.newarray .int, 2) := by decide +kernel
theorem dX4_init_19 : decode cX4_init 19 = .ok (.putfield 13, 3) := by decide +kernel
theorem dX4_init_22 : decode cX4_init 22 = .ok (.aload_n 0, 1) := by decide +kernel
theorem dX4_init_23 : decode cX4_init 23 = .ok (.sipush 3600, 3) := by decide +kernel
theorem dX4_init_26 : decode cX4_init 26 = .ok (.newarray .int, 2) := by decide +kernel
theorem dX4_init_28 : decode cX4_init 28 = .ok (.putfield 16, 3) := by decide +kernel
theorem dX4_init_31 : decode cX4_init 31 = .ok (.aload_n 0, 1) := by decide +kernel
theorem dX4_init_32 : decode cX4_init 32 = .ok (.bipush 60, 2) := by decide +kernel
theorem dX4_init_34 : decode cX4_init 34 = .ok (.newarray .int, 2) := by decide +kernel
theorem dX4_init_36 : decode cX4_init 36 = .ok (.putfield 19, 3) := by decide +kernel
theorem dX4_init_39 : decode cX4_init 39 = .ok (.aload_n 0, 1) := by decide +kernel
theorem dX4_init_40 : decode cX4_init 40 = .ok (.bipush 60, 2) := by decide +kernel
theorem dX4_init_42 : decode cX4_init 42 = .ok (.newarray .int, 2) := by decide +kernel
theorem dX4_init_44 : decode cX4_init 44 = .ok (.putfield 22, 3) := by decide +kernel
theorem dX4_init_47 : decode cX4_init 47 = .ok (.aload_n 0, 1) := by decide +kernel
theorem dX4_init_48 : decode cX4_init 48 = .ok (.iload_n 1, 1) := by decide +kernel
theorem dX4_init_49 : decode cX4_init 49 = .ok (.bipush 60, 2) := by decide +kernel
theorem dX4_init_51 : decode cX4_init 51 = .ok (.invokestatic 25, 3) := by decide +kernel
theorem dX4_init_54 : decode cX4_init 54 = .ok (.putfield 29, 3) := by decide +kernel
theorem dX4_init_57 : decode cX4_init 57 = .ok (.aload_n 0, 1) := by decide +kernel
theorem dX4_init_58 : decode cX4_init 58 = .ok (.iload_n 2, 1) := by decide +kernel
theorem dX4_init_59 : decode cX4_init 59 = .ok (.bipush 60, 2) := by decide +kernel
theorem dX4_init_61 : decode cX4_init 61 = .ok (.invokestatic 25, 3) := by decide +kernel
theorem dX4_init_64 : decode cX4_init 64 = .ok (.putfield 33, 3) := by decide +kernel
theorem dX4_init_67 : decode cX4_init 67 = .ok (.aload_n 0, 1) := by decide +kernel
theorem dX4_init_68 : decode cX4_init 68 = .ok (.iload_n 3, 1) := by decide +kernel
theorem dX4_init_69 : decode cX4_init 69 = .ok (.sipush 1000, 3) := by decide +kernel
theorem dX4_init_72 : decode cX4_init 72 = .ok (.invokestatic 25, 3) := by decide +kernel
theorem dX4_init_75 : decode cX4_init 75 = .ok (.putfield 36, 3) := by decide +kernel
theorem dX4_init_78 : decode cX4_init 78 = .ok (.return_, 1) := by decide +kernel
abbrev cX4_within : ByteArray := prog_5_method_2_code
def yX4_within : MethodName := ⟨RX4, "within", "(II)I"⟩
theorem dX4_within_0 : decode cX4_within 0 = .ok (.iload_n 0, 1) := by decide +kernel
theorem dX4_within_1 : decode cX4_within 1 = .ok (.iconst 1, 1) := by decide +kernel
theorem dX4_within_2 : decode cX4_within 2 = .ok (.if_icmp .ge 7, 3) := by decide +kernel
theorem dX4_within_5 : decode cX4_within 5 = .ok (.iconst 1, 1) := by decide +kernel
theorem dX4_within_6 : decode cX4_within 6 = .ok (.goto 13, 3) := by decide +kernel
theorem dX4_within_9 : decode cX4_within 9 = .ok (.iload_n 0, 1) := by decide +kernel
theorem dX4_within_10 : decode cX4_within 10 = .ok (.iload_n 1, 1) := by decide +kernel
theorem dX4_within_11 : decode cX4_within 11 = .ok (.if_icmp .le 7, 3) := by decide +kernel
theorem dX4_within_14 : decode cX4_within 14 = .ok (.iload_n 1, 1) := by decide +kernel
theorem dX4_within_15 : decode cX4_within 15 = .ok (.goto 4, 3) := by decide +kernel
theorem dX4_within_18 : decode cX4_within 18 = .ok (.iload_n 0, 1) := by decide +kernel
theorem dX4_within_19 : decode cX4_within 19 = .ok (.ireturn, 1) := by decide +kernel
abbrev cX4_add : ByteArray := prog_5_method_5_code
def yX4_add : MethodName := ⟨RX4, "add", "(III)Z"⟩
theorem dX4_add_0 : decode cX4_add 0 = .ok (.aload_n 0, 1) := by decide +kernel
theorem dX4_add_1 : decode cX4_add 1 = .ok (.iload_n 1, 1) := by decide +kernel
theorem dX4_add_2 : decode cX4_add 2 = .ok (.iload_n 2, 1) := by decide +kernel
theorem dX4_add_3 : decode cX4_add 3 = .ok (.invokevirtual 43, 3) := by decide +kernel
theorem dX4_add_6 : decode cX4_add 6 = .ok (.ifCond .eq 14, 3) := by decide +kernel
theorem dX4_add_9 : decode cX4_add 9 = .ok (.aload_n 0, 1) := by decide +kernel
theorem dX4_add_10 : decode cX4_add 10 = .ok (.getfield 47, 3) := by decide +kernel
theorem dX4_add_13 : decode cX4_add 13 = .ok (.aload_n 0, 1) := by decide +kernel
theorem dX4_add_14 : decode cX4_add 14 = .ok (.getfield 36, 3) := by decide +kernel
theorem dX4_add_17 : decode cX4_add 17 = .ok (.if_icmp .ne 5, 3) := by decide +kernel
theorem dX4_add_20 : decode cX4_add 20 = .ok (.iconst 0, 1) := by decide +kernel
theorem dX4_add_21 : decode cX4_add 21 = .ok (.ireturn, 1) := by decide +kernel
theorem dX4_add_22 : decode cX4_add 22 = .ok (.aload_n 0, 1) := by decide +kernel
theorem dX4_add_23 : decode cX4_add 23 = .ok (.getfield 16, 3) := by decide +kernel
theorem dX4_add_26 : decode cX4_add 26 = .ok (.bipush 60, 2) := by decide +kernel
theorem dX4_add_28 : decode cX4_add 28 = .ok (.iload_n 1, 1) := by decide +kernel
theorem dX4_add_29 : decode cX4_add 29 = .ok (.imul, 1) := by decide +kernel
theorem dX4_add_30 : decode cX4_add 30 = .ok (.iload_n 2, 1) := by decide +kernel
theorem dX4_add_31 : decode cX4_add 31 = .ok (.iadd, 1) := by decide +kernel
theorem dX4_add_32 : decode cX4_add 32 = .ok (.dup2, 1) := by decide +kernel
theorem dX4_add_33 : decode cX4_add 33 = .ok (.iaload, 1) := by decide +kernel
theorem dX4_add_34 : decode cX4_add 34 = .ok (.iload_n 3, 1) := by decide +kernel
theorem dX4_add_35 : decode cX4_add 35 = .ok (.iadd, 1) := by decide +kernel
theorem dX4_add_36 : decode cX4_add 36 = .ok (.iastore, 1) := by decide +kernel
theorem dX4_add_37 : decode cX4_add 37 = .ok (.aload_n 0, 1) := by decide +kernel
theorem dX4_add_38 : decode cX4_add 38 = .ok (.dup, 1) := by decide +kernel
theorem dX4_add_39 : decode cX4_add 39 = .ok (.getfield 47, 3) := by decide +kernel
theorem dX4_add_42 : decode cX4_add 42 = .ok (.iconst 1, 1) := by decide +kernel
theorem dX4_add_43 : decode cX4_add 43 = .ok (.iadd, 1) := by decide +kernel
theorem dX4_add_44 : decode cX4_add 44 = .ok (.putfield 47, 3) := by decide +kernel
theorem dX4_add_47 : decode cX4_add 47 = .ok (.iconst 1, 1) := by decide +kernel
theorem dX4_add_48 : decode cX4_add 48 = .ok (.ireturn, 1) := by decide +kernel
abbrev cX4_isPlace : ByteArray := prog_5_method_4_code
def yX4_isPlace : MethodName := ⟨RX4, "isPlace", "(II)Z"⟩
theorem dX4_isPlace_0 : decode cX4_isPlace 0 = .ok (.iload_n 1, 1) := by decide +kernel
theorem dX4_isPlace_1 : decode cX4_isPlace 1 = .ok (.iconst 0, 1) := by decide +kernel
theorem dX4_isPlace_2 : decode cX4_isPlace 2 = .ok (.aload_n 0, 1) := by decide +kernel
theorem dX4_isPlace_3 : decode cX4_isPlace 3 = .ok (.getfield 29, 3) := by decide +kernel
theorem dX4_isPlace_6 : decode cX4_isPlace 6 = .ok (.iconst 1, 1) := by decide +kernel
theorem dX4_isPlace_7 : decode cX4_isPlace 7 = .ok (.isub, 1) := by decide +kernel
theorem dX4_isPlace_8 : decode cX4_isPlace 8 = .ok (.invokestatic 39, 3) := by decide +kernel
theorem dX4_isPlace_11 : decode cX4_isPlace 11 = .ok (.ifCond .eq 21, 3) := by decide +kernel
theorem dX4_isPlace_14 : decode cX4_isPlace 14 = .ok (.iload_n 2, 1) := by decide +kernel
theorem dX4_isPlace_15 : decode cX4_isPlace 15 = .ok (.iconst 0, 1) := by decide +kernel
theorem dX4_isPlace_16 : decode cX4_isPlace 16 = .ok (.aload_n 0, 1) := by decide +kernel
theorem dX4_isPlace_17 : decode cX4_isPlace 17 = .ok (.getfield 33, 3) := by decide +kernel
theorem dX4_isPlace_20 : decode cX4_isPlace 20 = .ok (.iconst 1, 1) := by decide +kernel
theorem dX4_isPlace_21 : decode cX4_isPlace 21 = .ok (.isub, 1) := by decide +kernel
theorem dX4_isPlace_22 : decode cX4_isPlace 22 = .ok (.invokestatic 39, 3) := by decide +kernel
theorem dX4_isPlace_25 : decode cX4_isPlace 25 = .ok (.ifCond .eq 7, 3) := by decide +kernel
theorem dX4_isPlace_28 : decode cX4_isPlace 28 = .ok (.iconst 1, 1) := by decide +kernel
theorem dX4_isPlace_29 : decode cX4_isPlace 29 = .ok (.goto 4, 3) := by decide +kernel
theorem dX4_isPlace_32 : decode cX4_isPlace 32 = .ok (.iconst 0, 1) := by decide +kernel
theorem dX4_isPlace_33 : decode cX4_isPlace 33 = .ok (.ireturn, 1) := by decide +kernel
abbrev cX4_in : ByteArray := prog_5_method_3_code
def yX4_in : MethodName := ⟨RX4, "in", "(III)Z"⟩
theorem dX4_in_0 : decode cX4_in 0 = .ok (.iload_n 0, 1) := by decide +kernel
theorem dX4_in_1 : decode cX4_in 1 = .ok (.iload_n 1, 1) := by decide +kernel
theorem dX4_in_2 : decode cX4_in 2 = .ok (.if_icmp .lt 12, 3) := by decide +kernel
theorem dX4_in_5 : decode cX4_in 5 = .ok (.iload_n 0, 1) := by decide +kernel
theorem dX4_in_6 : decode cX4_in 6 = .ok (.iload_n 2, 1) := by decide +kernel
theorem dX4_in_7 : decode cX4_in 7 = .ok (.if_icmp .gt 7, 3) := by decide +kernel
theorem dX4_in_10 : decode cX4_in 10 = .ok (.iconst 1, 1) := by decide +kernel
theorem dX4_in_11 : decode cX4_in 11 = .ok (.goto 4, 3) := by decide +kernel
theorem dX4_in_14 : decode cX4_in 14 = .ok (.iconst 0, 1) := by decide +kernel
theorem dX4_in_15 : decode cX4_in 15 = .ok (.ireturn, 1) := by decide +kernel
abbrev cX4_build : ByteArray := prog_5_method_9_code
def yX4_build : MethodName := ⟨RX4, "build", "()I"⟩
theorem dX4_build_0 : decode cX4_build 0 = .ok (.iconst 0, 1) := by decide +kernel
theorem dX4_build_1 : decode cX4_build 1 = .ok (.istore_n 1, 1) := by decide +kernel
theorem dX4_build_2 : decode cX4_build 2 = .ok (.iload_n 1, 1) := by decide +kernel
theorem dX4_build_3 : decode cX4_build 3 = .ok (.aload_n 0, 1) := by decide +kernel
theorem dX4_build_4 : decode cX4_build 4 = .ok (.getfield 29, 3) := by decide +kernel
theorem dX4_build_7 : decode cX4_build 7 = .ok (.if_icmp .ge 59, 3) := by decide +kernel
theorem dX4_build_10 : decode cX4_build 10 = .ok (.iconst 0, 1) := by decide +kernel
theorem dX4_build_11 : decode cX4_build 11 = .ok (.istore_n 2, 1) := by decide +kernel
theorem dX4_build_12 : decode cX4_build 12 = .ok (.iload_n 2, 1) := by decide +kernel
theorem dX4_build_13 : decode cX4_build 13 = .ok (.aload_n 0, 1) := by decide +kernel
theorem dX4_build_14 : decode cX4_build 14 = .ok (.getfield 33, 3) := by decide +kernel
theorem dX4_build_17 : decode cX4_build 17 = .ok (.if_icmp .ge 43, 3) := by decide +kernel
theorem dX4_build_20 : decode cX4_build 20 = .ok (.aload_n 0, 1) := by decide +kernel
theorem dX4_build_21 : decode cX4_build 21 = .ok (.getfield 13, 3) := by decide +kernel
theorem dX4_build_24 : decode cX4_build 24 = .ok (.bipush 60, 2) := by decide +kernel
theorem dX4_build_26 : decode cX4_build 26 = .ok (.iload_n 1, 1) := by decide +kernel
theorem dX4_build_27 : decode cX4_build 27 = .ok (.imul, 1) := by decide +kernel
theorem dX4_build_28 : decode cX4_build 28 = .ok (.iload_n 2, 1) := by decide +kernel
theorem dX4_build_29 : decode cX4_build 29 = .ok (.iadd, 1) := by decide +kernel
theorem dX4_build_30 : decode cX4_build 30 = .ok (.aload_n 0, 1) := by decide +kernel
theorem dX4_build_31 : decode cX4_build 31 = .ok (.getfield 7, 3) := by decide +kernel
theorem dX4_build_34 : decode cX4_build 34 = .ok (.bipush 60, 2) := by decide +kernel
theorem dX4_build_36 : decode cX4_build 36 = .ok (.iload_n 1, 1) := by decide +kernel
theorem dX4_build_37 : decode cX4_build 37 = .ok (.imul, 1) := by decide +kernel
theorem dX4_build_38 : decode cX4_build 38 = .ok (.iload_n 2, 1) := by decide +kernel
theorem dX4_build_39 : decode cX4_build 39 = .ok (.iadd, 1) := by decide +kernel
theorem dX4_build_40 : decode cX4_build 40 = .ok (.iaload, 1) := by decide +kernel
theorem dX4_build_41 : decode cX4_build 41 = .ok (.aload_n 0, 1) := by decide +kernel
theorem dX4_build_42 : decode cX4_build 42 = .ok (.getfield 16, 3) := by decide +kernel
theorem dX4_build_45 : decode cX4_build 45 = .ok (.bipush 60, 2) := by decide +kernel
theorem dX4_build_47 : decode cX4_build 47 = .ok (.iload_n 1, 1) := by decide +kernel
theorem dX4_build_48 : decode cX4_build 48 = .ok (.imul, 1) := by decide +kernel
theorem dX4_build_49 : decode cX4_build 49 = .ok (.iload_n 2, 1) := by decide +kernel
theorem dX4_build_50 : decode cX4_build 50 = .ok (.iadd, 1) := by decide +kernel
theorem dX4_build_51 : decode cX4_build 51 = .ok (.iaload, 1) := by decide +kernel
theorem dX4_build_52 : decode cX4_build 52 = .ok (.iadd, 1) := by decide +kernel
theorem dX4_build_53 : decode cX4_build 53 = .ok (.iastore, 1) := by decide +kernel
theorem dX4_build_54 : decode cX4_build 54 = .ok (.iinc 2 1, 3) := by decide +kernel
theorem dX4_build_57 : decode cX4_build 57 = .ok (.goto (-45), 3) := by decide +kernel
theorem dX4_build_60 : decode cX4_build 60 = .ok (.iinc 1 1, 3) := by decide +kernel
theorem dX4_build_63 : decode cX4_build 63 = .ok (.goto (-61), 3) := by decide +kernel
theorem dX4_build_66 : decode cX4_build 66 = .ok (.aload_n 0, 1) := by decide +kernel
theorem dX4_build_67 : decode cX4_build 67 = .ok (.invokevirtual 57, 3) := by decide +kernel
theorem dX4_build_70 : decode cX4_build 70 = .ok (.istore_n 1, 1) := by decide +kernel
theorem dX4_build_71 : decode cX4_build 71 = .ok (.iload_n 1, 1) := by decide +kernel
theorem dX4_build_72 : decode cX4_build 72 = .ok (.iconst (-1), 1) := by decide +kernel
theorem dX4_build_73 : decode cX4_build 73 = .ok (.if_icmp .ne 5, 3) := by decide +kernel
theorem dX4_build_76 : decode cX4_build 76 = .ok (.iconst (-1), 1) := by decide +kernel
theorem dX4_build_77 : decode cX4_build 77 = .ok (.ireturn, 1) := by decide +kernel
theorem dX4_build_78 : decode cX4_build 78 = .ok (.iconst 0, 1) := by decide +kernel
theorem dX4_build_79 : decode cX4_build 79 = .ok (.istore_n 2, 1) := by decide +kernel
theorem dX4_build_80 : decode cX4_build 80 = .ok (.iload_n 2, 1) := by decide +kernel
theorem dX4_build_81 : decode cX4_build 81 = .ok (.sipush 3600, 3) := by decide +kernel
theorem dX4_build_84 : decode cX4_build 84 = .ok (.if_icmp .ge 16, 3) := by decide +kernel
theorem dX4_build_87 : decode cX4_build 87 = .ok (.aload_n 0, 1) := by decide +kernel
theorem dX4_build_88 : decode cX4_build 88 = .ok (.getfield 16, 3) := by decide +kernel
theorem dX4_build_91 : decode cX4_build 91 = .ok (.iload_n 2, 1) := by decide +kernel
theorem dX4_build_92 : decode cX4_build 92 = .ok (.iconst 0, 1) := by decide +kernel
theorem dX4_build_93 : decode cX4_build 93 = .ok (.iastore, 1) := by decide +kernel
theorem dX4_build_94 : decode cX4_build 94 = .ok (.iinc 2 1, 3) := by decide +kernel
theorem dX4_build_97 : decode cX4_build 97 = .ok (.goto (-17), 3) := by decide +kernel
theorem dX4_build_100 : decode cX4_build 100 = .ok (.aload_n 0, 1) := by decide +kernel
theorem dX4_build_101 : decode cX4_build 101 = .ok (.iconst 0, 1) := by decide +kernel
theorem dX4_build_102 : decode cX4_build 102 = .ok (.putfield 47, 3) := by decide +kernel
theorem dX4_build_105 : decode cX4_build 105 = .ok (.iload_n 1, 1) := by decide +kernel
theorem dX4_build_106 : decode cX4_build 106 = .ok (.ireturn, 1) := by decide +kernel
abbrev cX4_becomes : ByteArray := prog_5_method_8_code
def yX4_becomes : MethodName := ⟨RX4, "becomes", "()I"⟩
theorem dX4_becomes_0 : decode cX4_becomes 0 = .ok (.aload_n 0, 1) := by decide +kernel
theorem dX4_becomes_1 : decode cX4_becomes 1 = .ok (.aload_n 0, 1) := by decide +kernel
theorem dX4_becomes_2 : decode cX4_becomes 2 = .ok (.getfield 13, 3) := by decide +kernel
theorem dX4_becomes_5 : decode cX4_becomes 5 = .ok (.aload_n 0, 1) := by decide +kernel
theorem dX4_becomes_6 : decode cX4_becomes 6 = .ok (.getfield 29, 3) := by decide +kernel
theorem dX4_becomes_9 : decode cX4_becomes 9 = .ok (.invokevirtual 50, 3) := by decide +kernel
theorem dX4_becomes_12 : decode cX4_becomes 12 = .ok (.istore_n 1, 1) := by decide +kernel
theorem dX4_becomes_13 : decode cX4_becomes 13 = .ok (.iload_n 1, 1) := by decide +kernel
theorem dX4_becomes_14 : decode cX4_becomes 14 = .ok (.aload_n 0, 1) := by decide +kernel
theorem dX4_becomes_15 : decode cX4_becomes 15 = .ok (.getfield 36, 3) := by decide +kernel
theorem dX4_becomes_18 : decode cX4_becomes 18 = .ok (.if_icmp .le 5, 3) := by decide +kernel
theorem dX4_becomes_21 : decode cX4_becomes 21 = .ok (.iconst (-1), 1) := by decide +kernel
theorem dX4_becomes_22 : decode cX4_becomes 22 = .ok (.ireturn, 1) := by decide +kernel
theorem dX4_becomes_23 : decode cX4_becomes 23 = .ok (.aload_n 0, 1) := by decide +kernel
theorem dX4_becomes_24 : decode cX4_becomes 24 = .ok (.invokevirtual 54, 3) := by decide +kernel
theorem dX4_becomes_27 : decode cX4_becomes 27 = .ok (.iload_n 1, 1) := by decide +kernel
theorem dX4_becomes_28 : decode cX4_becomes 28 = .ok (.ireturn, 1) := by decide +kernel
abbrev cX4_many : ByteArray := prog_5_method_6_code
def yX4_many : MethodName := ⟨RX4, "many", "([II)I"⟩
theorem dX4_many_0 : decode cX4_many 0 = .ok (.iconst 0, 1) := by decide +kernel
theorem dX4_many_1 : decode cX4_many 1 = .ok (.istore_n 3, 1) := by decide +kernel
theorem dX4_many_2 : decode cX4_many 2 = .ok (.iconst 0, 1) := by decide +kernel
theorem dX4_many_3 : decode cX4_many 3 = .ok (.istore 4, 2) := by decide +kernel
theorem dX4_many_5 : decode cX4_many 5 = .ok (.iload 4, 2) := by decide +kernel
theorem dX4_many_7 : decode cX4_many 7 = .ok (.iload_n 2, 1) := by decide +kernel
theorem dX4_many_8 : decode cX4_many 8 = .ok (.if_icmp .ge 48, 3) := by decide +kernel
theorem dX4_many_11 : decode cX4_many 11 = .ok (.iconst 0, 1) := by decide +kernel
theorem dX4_many_12 : decode cX4_many 12 = .ok (.istore 5, 2) := by decide +kernel
theorem dX4_many_14 : decode cX4_many 14 = .ok (.iload 5, 2) := by decide +kernel
theorem dX4_many_16 : decode cX4_many 16 = .ok (.aload_n 0, 1) := by decide +kernel
theorem dX4_many_17 : decode cX4_many 17 = .ok (.getfield 33, 3) := by decide +kernel
theorem dX4_many_20 : decode cX4_many 20 = .ok (.if_icmp .ge 30, 3) := by decide +kernel
theorem dX4_many_23 : decode cX4_many 23 = .ok (.iload_n 3, 1) := by decide +kernel
theorem dX4_many_24 : decode cX4_many 24 = .ok (.aload_n 1, 1) := by decide +kernel
theorem dX4_many_25 : decode cX4_many 25 = .ok (.bipush 60, 2) := by decide +kernel
theorem dX4_many_27 : decode cX4_many 27 = .ok (.iload 4, 2) := by decide +kernel
theorem dX4_many_29 : decode cX4_many 29 = .ok (.imul, 1) := by decide +kernel
theorem dX4_many_30 : decode cX4_many 30 = .ok (.iload 5, 2) := by decide +kernel
theorem dX4_many_32 : decode cX4_many 32 = .ok (.iadd, 1) := by decide +kernel
theorem dX4_many_33 : decode cX4_many 33 = .ok (.iaload, 1) := by decide +kernel
theorem dX4_many_34 : decode cX4_many 34 = .ok (.ifCond .eq 7, 3) := by decide +kernel
theorem dX4_many_37 : decode cX4_many 37 = .ok (.iconst 1, 1) := by decide +kernel
theorem dX4_many_38 : decode cX4_many 38 = .ok (.goto 4, 3) := by decide +kernel
theorem dX4_many_41 : decode cX4_many 41 = .ok (.iconst 0, 1) := by decide +kernel
theorem dX4_many_42 : decode cX4_many 42 = .ok (.iadd, 1) := by decide +kernel
theorem dX4_many_43 : decode cX4_many 43 = .ok (.istore_n 3, 1) := by decide +kernel
theorem dX4_many_44 : decode cX4_many 44 = .ok (.iinc 5 1, 3) := by decide +kernel
theorem dX4_many_47 : decode cX4_many 47 = .ok (.goto (-33), 3) := by decide +kernel
theorem dX4_many_50 : decode cX4_many 50 = .ok (.iinc 4 1, 3) := by decide +kernel
theorem dX4_many_53 : decode cX4_many 53 = .ok (.goto (-48), 3) := by decide +kernel
theorem dX4_many_56 : decode cX4_many 56 = .ok (.iload_n 3, 1) := by decide +kernel
theorem dX4_many_57 : decode cX4_many 57 = .ok (.ireturn, 1) := by decide +kernel
abbrev cX4_turns : ByteArray := prog_5_method_7_code
def yX4_turns : MethodName := ⟨RX4, "turns", "()V"⟩
theorem dX4_turns_0 : decode cX4_turns 0 = .ok (.aload_n 0, 1) := by decide +kernel
theorem dX4_turns_1 : decode cX4_turns 1 = .ok (.getfield 7, 3) := by decide +kernel
theorem dX4_turns_4 : decode cX4_turns 4 = .ok (.astore_n 1, 1) := by decide +kernel
theorem dX4_turns_5 : decode cX4_turns 5 = .ok (.aload_n 0, 1) := by decide +kernel
theorem dX4_turns_6 : decode cX4_turns 6 = .ok (.aload_n 0, 1) := by decide +kernel
theorem dX4_turns_7 : decode cX4_turns 7 = .ok (.getfield 13, 3) := by decide +kernel
theorem dX4_turns_10 : decode cX4_turns 10 = .ok (.putfield 7, 3) := by decide +kernel
theorem dX4_turns_13 : decode cX4_turns 13 = .ok (.aload_n 0, 1) := by decide +kernel
theorem dX4_turns_14 : decode cX4_turns 14 = .ok (.aload_n 1, 1) := by decide +kernel
theorem dX4_turns_15 : decode cX4_turns 15 = .ok (.putfield 13, 3) := by decide +kernel
theorem dX4_turns_18 : decode cX4_turns 18 = .ok (.return_, 1) := by decide +kernel
abbrev cX4_nnz : ByteArray := prog_5_method_10_code
def yX4_nnz : MethodName := ⟨RX4, "nnz", "()I"⟩
theorem dX4_nnz_0 : decode cX4_nnz 0 = .ok (.aload_n 0, 1) := by decide +kernel
theorem dX4_nnz_1 : decode cX4_nnz 1 = .ok (.aload_n 0, 1) := by decide +kernel
theorem dX4_nnz_2 : decode cX4_nnz 2 = .ok (.getfield 7, 3) := by decide +kernel
theorem dX4_nnz_5 : decode cX4_nnz 5 = .ok (.aload_n 0, 1) := by decide +kernel
theorem dX4_nnz_6 : decode cX4_nnz 6 = .ok (.getfield 29, 3) := by decide +kernel
theorem dX4_nnz_9 : decode cX4_nnz 9 = .ok (.invokevirtual 50, 3) := by decide +kernel
theorem dX4_nnz_12 : decode cX4_nnz 12 = .ok (.ireturn, 1) := by decide +kernel
abbrev cX4_at : ByteArray := prog_5_method_11_code
def yX4_at : MethodName := ⟨RX4, "at", "(II)I"⟩
theorem dX4_at_0 : decode cX4_at 0 = .ok (.aload_n 0, 1) := by decide +kernel
theorem dX4_at_1 : decode cX4_at 1 = .ok (.iload_n 1, 1) := by decide +kernel
theorem dX4_at_2 : decode cX4_at 2 = .ok (.iload_n 2, 1) := by decide +kernel
theorem dX4_at_3 : decode cX4_at 3 = .ok (.invokevirtual 43, 3) := by decide +kernel
theorem dX4_at_6 : decode cX4_at 6 = .ok (.ifCond .eq 17, 3) := by decide +kernel
theorem dX4_at_9 : decode cX4_at 9 = .ok (.aload_n 0, 1) := by decide +kernel
theorem dX4_at_10 : decode cX4_at 10 = .ok (.getfield 7, 3) := by decide +kernel
theorem dX4_at_13 : decode cX4_at 13 = .ok (.bipush 60, 2) := by decide +kernel
theorem dX4_at_15 : decode cX4_at 15 = .ok (.iload_n 1, 1) := by decide +kernel
theorem dX4_at_16 : decode cX4_at 16 = .ok (.imul, 1) := by decide +kernel
theorem dX4_at_17 : decode cX4_at 17 = .ok (.iload_n 2, 1) := by decide +kernel
theorem dX4_at_18 : decode cX4_at 18 = .ok (.iadd, 1) := by decide +kernel
theorem dX4_at_19 : decode cX4_at 19 = .ok (.iaload, 1) := by decide +kernel
theorem dX4_at_20 : decode cX4_at 20 = .ok (.goto 4, 3) := by decide +kernel
theorem dX4_at_23 : decode cX4_at 23 = .ok (.iconst 0, 1) := by decide +kernel
theorem dX4_at_24 : decode cX4_at 24 = .ok (.ireturn, 1) := by decide +kernel
abbrev cX4_rowStart : ByteArray := prog_5_method_12_code
def yX4_rowStart : MethodName := ⟨RX4, "rowStart", "(I)I"⟩
theorem dX4_rowStart_0 : decode cX4_rowStart 0 = .ok (.iload_n 1, 1) := by decide +kernel
theorem dX4_rowStart_1 : decode cX4_rowStart 1 = .ok (.iconst 0, 1) := by decide +kernel
theorem dX4_rowStart_2 : decode cX4_rowStart 2 = .ok (.aload_n 0, 1) := by decide +kernel
theorem dX4_rowStart_3 : decode cX4_rowStart 3 = .ok (.getfield 29, 3) := by decide +kernel
theorem dX4_rowStart_6 : decode cX4_rowStart 6 = .ok (.invokestatic 39, 3) := by decide +kernel
theorem dX4_rowStart_9 : decode cX4_rowStart 9 = .ok (.ifCond .eq 15, 3) := by decide +kernel
theorem dX4_rowStart_12 : decode cX4_rowStart 12 = .ok (.aload_n 0, 1) := by decide +kernel
theorem dX4_rowStart_13 : decode cX4_rowStart 13 = .ok (.aload_n 0, 1) := by decide +kernel
theorem dX4_rowStart_14 : decode cX4_rowStart 14 = .ok (.getfield 7, 3) := by decide +kernel
theorem dX4_rowStart_17 : decode cX4_rowStart 17 = .ok (.iload_n 1, 1) := by decide +kernel
theorem dX4_rowStart_18 : decode cX4_rowStart 18 = .ok (.invokevirtual 50, 3) := by decide +kernel
theorem dX4_rowStart_21 : decode cX4_rowStart 21 = .ok (.goto 4, 3) := by decide +kernel
theorem dX4_rowStart_24 : decode cX4_rowStart 24 = .ok (.iconst (-1), 1) := by decide +kernel
theorem dX4_rowStart_25 : decode cX4_rowStart 25 = .ok (.ireturn, 1) := by decide +kernel
abbrev cX4_colAt : ByteArray := prog_5_method_13_code
def yX4_colAt : MethodName := ⟨RX4, "colAt", "(I)I"⟩
theorem dX4_colAt_0 : decode cX4_colAt 0 = .ok (.iconst 0, 1) := by decide +kernel
theorem dX4_colAt_1 : decode cX4_colAt 1 = .ok (.istore_n 2, 1) := by decide +kernel
theorem dX4_colAt_2 : decode cX4_colAt 2 = .ok (.iconst 0, 1) := by decide +kernel
theorem dX4_colAt_3 : decode cX4_colAt 3 = .ok (.istore_n 3, 1) := by decide +kernel
theorem dX4_colAt_4 : decode cX4_colAt 4 = .ok (.iload_n 3, 1) := by decide +kernel
theorem dX4_colAt_5 : decode cX4_colAt 5 = .ok (.aload_n 0, 1) := by decide +kernel
theorem dX4_colAt_6 : decode cX4_colAt 6 = .ok (.getfield 29, 3) := by decide +kernel
theorem dX4_colAt_9 : decode cX4_colAt 9 = .ok (.if_icmp .ge 56, 3) := by decide +kernel
theorem dX4_colAt_12 : decode cX4_colAt 12 = .ok (.iconst 0, 1) := by decide +kernel
theorem dX4_colAt_13 : decode cX4_colAt 13 = .ok (.istore 4, 2) := by decide +kernel
theorem dX4_colAt_15 : decode cX4_colAt 15 = .ok (.iload 4, 2) := by decide +kernel
theorem dX4_colAt_17 : decode cX4_colAt 17 = .ok (.aload_n 0, 1) := by decide +kernel
theorem dX4_colAt_18 : decode cX4_colAt 18 = .ok (.getfield 33, 3) := by decide +kernel
theorem dX4_colAt_21 : decode cX4_colAt 21 = .ok (.if_icmp .ge 38, 3) := by decide +kernel
theorem dX4_colAt_24 : decode cX4_colAt 24 = .ok (.aload_n 0, 1) := by decide +kernel
theorem dX4_colAt_25 : decode cX4_colAt 25 = .ok (.getfield 7, 3) := by decide +kernel
theorem dX4_colAt_28 : decode cX4_colAt 28 = .ok (.bipush 60, 2) := by decide +kernel
theorem dX4_colAt_30 : decode cX4_colAt 30 = .ok (.iload_n 3, 1) := by decide +kernel
theorem dX4_colAt_31 : decode cX4_colAt 31 = .ok (.imul, 1) := by decide +kernel
theorem dX4_colAt_32 : decode cX4_colAt 32 = .ok (.iload 4, 2) := by decide +kernel
theorem dX4_colAt_34 : decode cX4_colAt 34 = .ok (.iadd, 1) := by decide +kernel
theorem dX4_colAt_35 : decode cX4_colAt 35 = .ok (.iaload, 1) := by decide +kernel
theorem dX4_colAt_36 : decode cX4_colAt 36 = .ok (.ifCond .ne 6, 3) := by decide +kernel
theorem dX4_colAt_39 : decode cX4_colAt 39 = .ok (.goto 14, 3) := by decide +kernel
theorem dX4_colAt_42 : decode cX4_colAt 42 = .ok (.iload_n 2, 1) := by decide +kernel
theorem dX4_colAt_43 : decode cX4_colAt 43 = .ok (.iload_n 1, 1) := by decide +kernel
theorem dX4_colAt_44 : decode cX4_colAt 44 = .ok (.if_icmp .ne 6, 3) := by decide +kernel
theorem dX4_colAt_47 : decode cX4_colAt 47 = .ok (.iload 4, 2) := by decide +kernel
theorem dX4_colAt_49 : decode cX4_colAt 49 = .ok (.ireturn, 1) := by decide +kernel
theorem dX4_colAt_50 : decode cX4_colAt 50 = .ok (.iinc 2 1, 3) := by decide +kernel
theorem dX4_colAt_53 : decode cX4_colAt 53 = .ok (.iinc 4 1, 3) := by decide +kernel
theorem dX4_colAt_56 : decode cX4_colAt 56 = .ok (.goto (-41), 3) := by decide +kernel
theorem dX4_colAt_59 : decode cX4_colAt 59 = .ok (.iinc 3 1, 3) := by decide +kernel
theorem dX4_colAt_62 : decode cX4_colAt 62 = .ok (.goto (-58), 3) := by decide +kernel
theorem dX4_colAt_65 : decode cX4_colAt 65 = .ok (.iconst (-1), 1) := by decide +kernel
theorem dX4_colAt_66 : decode cX4_colAt 66 = .ok (.ireturn, 1) := by decide +kernel
abbrev cX4_setX : ByteArray := prog_5_method_14_code
def yX4_setX : MethodName := ⟨RX4, "setX", "(II)Z"⟩
theorem dX4_setX_0 : decode cX4_setX 0 = .ok (.iload_n 1, 1) := by decide +kernel
theorem dX4_setX_1 : decode cX4_setX 1 = .ok (.iconst 0, 1) := by decide +kernel
theorem dX4_setX_2 : decode cX4_setX 2 = .ok (.aload_n 0, 1) := by decide +kernel
theorem dX4_setX_3 : decode cX4_setX 3 = .ok (.getfield 33, 3) := by decide +kernel
theorem dX4_setX_6 : decode cX4_setX 6 = .ok (.iconst 1, 1) := by decide +kernel
theorem dX4_setX_7 : decode cX4_setX 7 = .ok (.isub, 1) := by decide +kernel
theorem dX4_setX_8 : decode cX4_setX 8 = .ok (.invokestatic 39, 3) := by decide +kernel
theorem dX4_setX_11 : decode cX4_setX 11 = .ok (.ifCond .ne 5, 3) := by decide +kernel
theorem dX4_setX_14 : decode cX4_setX 14 = .ok (.iconst 0, 1) := by decide +kernel
theorem dX4_setX_15 : decode cX4_setX 15 = .ok (.ireturn, 1) := by decide +kernel
theorem dX4_setX_16 : decode cX4_setX 16 = .ok (.aload_n 0, 1) := by decide +kernel
theorem dX4_setX_17 : decode cX4_setX 17 = .ok (.getfield 19, 3) := by decide +kernel
theorem dX4_setX_20 : decode cX4_setX 20 = .ok (.iload_n 1, 1) := by decide +kernel
theorem dX4_setX_21 : decode cX4_setX 21 = .ok (.iload_n 2, 1) := by decide +kernel
theorem dX4_setX_22 : decode cX4_setX 22 = .ok (.iastore, 1) := by decide +kernel
theorem dX4_setX_23 : decode cX4_setX 23 = .ok (.iconst 1, 1) := by decide +kernel
theorem dX4_setX_24 : decode cX4_setX 24 = .ok (.ireturn, 1) := by decide +kernel
abbrev cX4_multiplyVector : ByteArray := prog_5_method_15_code
def yX4_multiplyVector : MethodName := ⟨RX4, "multiplyVector", "()Z"⟩
theorem dX4_multiplyVector_0 : decode cX4_multiplyVector 0 = .ok (.iconst 0, 1) := by decide +kernel
theorem dX4_multiplyVector_1 : decode cX4_multiplyVector 1 = .ok (.istore_n 1, 1) := by decide +kernel
theorem dX4_multiplyVector_2 : decode cX4_multiplyVector 2 = .ok (.iload_n 1, 1) := by decide +kernel
theorem dX4_multiplyVector_3 : decode cX4_multiplyVector 3 = .ok (.aload_n 0, 1) := by decide +kernel
theorem dX4_multiplyVector_4 : decode cX4_multiplyVector 4 = .ok (.getfield 29, 3) := by decide +kernel
theorem dX4_multiplyVector_7 : decode cX4_multiplyVector 7 = .ok (.if_icmp .ge 55, 3) := by decide +kernel
theorem dX4_multiplyVector_10 : decode cX4_multiplyVector 10 = .ok (.iconst 0, 1) := by decide +kernel
theorem dX4_multiplyVector_11 : decode cX4_multiplyVector 11 = .ok (.istore_n 2, 1) := by decide +kernel
theorem dX4_multiplyVector_12 : decode cX4_multiplyVector 12 = .ok (.iconst 0, 1) := by decide +kernel
theorem dX4_multiplyVector_13 : decode cX4_multiplyVector 13 = .ok (.istore_n 3, 1) := by decide +kernel
theorem dX4_multiplyVector_14 : decode cX4_multiplyVector 14 = .ok (.iload_n 3, 1) := by decide +kernel
theorem dX4_multiplyVector_15 : decode cX4_multiplyVector 15 = .ok (.aload_n 0, 1) := by decide +kernel
theorem dX4_multiplyVector_16 : decode cX4_multiplyVector 16 = .ok (.getfield 33, 3) := by decide +kernel
theorem dX4_multiplyVector_19 : decode cX4_multiplyVector 19 = .ok (.if_icmp .ge 30, 3) := by decide +kernel
theorem dX4_multiplyVector_22 : decode cX4_multiplyVector 22 = .ok (.iload_n 2, 1) := by decide +kernel
theorem dX4_multiplyVector_23 : decode cX4_multiplyVector 23 = .ok (.aload_n 0, 1) := by decide +kernel
theorem dX4_multiplyVector_24 : decode cX4_multiplyVector 24 = .ok (.getfield 7, 3) := by decide +kernel
theorem dX4_multiplyVector_27 : decode cX4_multiplyVector 27 = .ok (.bipush 60, 2) := by decide +kernel
theorem dX4_multiplyVector_29 : decode cX4_multiplyVector 29 = .ok (.iload_n 1, 1) := by decide +kernel
theorem dX4_multiplyVector_30 : decode cX4_multiplyVector 30 = .ok (.imul, 1) := by decide +kernel
theorem dX4_multiplyVector_31 : decode cX4_multiplyVector 31 = .ok (.iload_n 3, 1) := by decide +kernel
theorem dX4_multiplyVector_32 : decode cX4_multiplyVector 32 = .ok (.iadd, 1) := by decide +kernel
theorem dX4_multiplyVector_33 : decode cX4_multiplyVector 33 = .ok (.iaload, 1) := by decide +kernel
theorem dX4_multiplyVector_34 : decode cX4_multiplyVector 34 = .ok (.aload_n 0, 1) := by decide +kernel
theorem dX4_multiplyVector_35 : decode cX4_multiplyVector 35 = .ok (.getfield 19, 3) := by decide +kernel
theorem dX4_multiplyVector_38 : decode cX4_multiplyVector 38 = .ok (.iload_n 3, 1) := by decide +kernel
theorem dX4_multiplyVector_39 : decode cX4_multiplyVector 39 = .ok (.iaload, 1) := by decide +kernel
theorem dX4_multiplyVector_40 : decode cX4_multiplyVector 40 = .ok (.imul, 1) := by decide +kernel
theorem dX4_multiplyVector_41 : decode cX4_multiplyVector 41 = .ok (.iadd, 1) := by decide +kernel
theorem dX4_multiplyVector_42 : decode cX4_multiplyVector 42 = .ok (.istore_n 2, 1) := by decide +kernel
theorem dX4_multiplyVector_43 : decode cX4_multiplyVector 43 = .ok (.iinc 3 1, 3) := by decide +kernel
theorem dX4_multiplyVector_46 : decode cX4_multiplyVector 46 = .ok (.goto (-32), 3) := by decide +kernel
theorem dX4_multiplyVector_49 : decode cX4_multiplyVector 49 = .ok (.aload_n 0, 1) := by decide +kernel
theorem dX4_multiplyVector_50 : decode cX4_multiplyVector 50 = .ok (.getfield 22, 3) := by decide +kernel
theorem dX4_multiplyVector_53 : decode cX4_multiplyVector 53 = .ok (.iload_n 1, 1) := by decide +kernel
theorem dX4_multiplyVector_54 : decode cX4_multiplyVector 54 = .ok (.iload_n 2, 1) := by decide +kernel
theorem dX4_multiplyVector_55 : decode cX4_multiplyVector 55 = .ok (.iastore, 1) := by decide +kernel
theorem dX4_multiplyVector_56 : decode cX4_multiplyVector 56 = .ok (.iinc 1 1, 3) := by decide +kernel
theorem dX4_multiplyVector_59 : decode cX4_multiplyVector 59 = .ok (.goto (-57), 3) := by decide +kernel
theorem dX4_multiplyVector_62 : decode cX4_multiplyVector 62 = .ok (.iconst 1, 1) := by decide +kernel
theorem dX4_multiplyVector_63 : decode cX4_multiplyVector 63 = .ok (.ireturn, 1) := by decide +kernel
abbrev cX4_y : ByteArray := prog_5_method_16_code
def yX4_y : MethodName := ⟨RX4, "y", "(I)I"⟩
theorem dX4_y_0 : decode cX4_y 0 = .ok (.iload_n 1, 1) := by decide +kernel
theorem dX4_y_1 : decode cX4_y 1 = .ok (.iconst 0, 1) := by decide +kernel
theorem dX4_y_2 : decode cX4_y 2 = .ok (.aload_n 0, 1) := by decide +kernel
theorem dX4_y_3 : decode cX4_y 3 = .ok (.getfield 29, 3) := by decide +kernel
theorem dX4_y_6 : decode cX4_y 6 = .ok (.iconst 1, 1) := by decide +kernel
theorem dX4_y_7 : decode cX4_y 7 = .ok (.isub, 1) := by decide +kernel
theorem dX4_y_8 : decode cX4_y 8 = .ok (.invokestatic 39, 3) := by decide +kernel
theorem dX4_y_11 : decode cX4_y 11 = .ok (.ifCond .eq 12, 3) := by decide +kernel
theorem dX4_y_14 : decode cX4_y 14 = .ok (.aload_n 0, 1) := by decide +kernel
theorem dX4_y_15 : decode cX4_y 15 = .ok (.getfield 22, 3) := by decide +kernel
theorem dX4_y_18 : decode cX4_y 18 = .ok (.iload_n 1, 1) := by decide +kernel
theorem dX4_y_19 : decode cX4_y 19 = .ok (.iaload, 1) := by decide +kernel
theorem dX4_y_20 : decode cX4_y 20 = .ok (.goto 4, 3) := by decide +kernel
theorem dX4_y_23 : decode cX4_y 23 = .ok (.iconst 0, 1) := by decide +kernel
theorem dX4_y_24 : decode cX4_y 24 = .ok (.ireturn, 1) := by decide +kernel
abbrev cX4_transpose : ByteArray := prog_5_method_17_code
def yX4_transpose : MethodName := ⟨RX4, "transpose", "()Z"⟩
theorem dX4_transpose_0 : decode cX4_transpose 0 = .ok (.aload_n 0, 1) := by decide +kernel
theorem dX4_transpose_1 : decode cX4_transpose 1 = .ok (.getfield 47, 3) := by decide +kernel
theorem dX4_transpose_4 : decode cX4_transpose 4 = .ok (.ifCond .le 5, 3) := by decide +kernel
theorem dX4_transpose_7 : decode cX4_transpose 7 = .ok (.iconst 0, 1) := by decide +kernel
theorem dX4_transpose_8 : decode cX4_transpose 8 = .ok (.ireturn, 1) := by decide +kernel
theorem dX4_transpose_9 : decode cX4_transpose 9 = .ok (.iconst 0, 1) := by decide +kernel
theorem dX4_transpose_10 : decode cX4_transpose 10 = .ok (.istore_n 1, 1) := by decide +kernel
theorem dX4_transpose_11 : decode cX4_transpose 11 = .ok (.iload_n 1, 1) := by decide +kernel
theorem dX4_transpose_12 : decode cX4_transpose 12 = .ok (.aload_n 0, 1) := by decide +kernel
theorem dX4_transpose_13 : decode cX4_transpose 13 = .ok (.getfield 29, 3) := by decide +kernel
theorem dX4_transpose_16 : decode cX4_transpose 16 = .ok (.if_icmp .ge 47, 3) := by decide +kernel
theorem dX4_transpose_19 : decode cX4_transpose 19 = .ok (.iconst 0, 1) := by decide +kernel
theorem dX4_transpose_20 : decode cX4_transpose 20 = .ok (.istore_n 2, 1) := by decide +kernel
theorem dX4_transpose_21 : decode cX4_transpose 21 = .ok (.iload_n 2, 1) := by decide +kernel
theorem dX4_transpose_22 : decode cX4_transpose 22 = .ok (.aload_n 0, 1) := by decide +kernel
theorem dX4_transpose_23 : decode cX4_transpose 23 = .ok (.getfield 33, 3) := by decide +kernel
theorem dX4_transpose_26 : decode cX4_transpose 26 = .ok (.if_icmp .ge 31, 3) := by decide +kernel
theorem dX4_transpose_29 : decode cX4_transpose 29 = .ok (.aload_n 0, 1) := by decide +kernel
theorem dX4_transpose_30 : decode cX4_transpose 30 = .ok (.getfield 13, 3) := by decide +kernel
theorem dX4_transpose_33 : decode cX4_transpose 33 = .ok (.bipush 60, 2) := by decide +kernel
theorem dX4_transpose_35 : decode cX4_transpose 35 = .ok (.iload_n 2, 1) := by decide +kernel
theorem dX4_transpose_36 : decode cX4_transpose 36 = .ok (.imul, 1) := by decide +kernel
theorem dX4_transpose_37 : decode cX4_transpose 37 = .ok (.iload_n 1, 1) := by decide +kernel
theorem dX4_transpose_38 : decode cX4_transpose 38 = .ok (.iadd, 1) := by decide +kernel
theorem dX4_transpose_39 : decode cX4_transpose 39 = .ok (.aload_n 0, 1) := by decide +kernel
theorem dX4_transpose_40 : decode cX4_transpose 40 = .ok (.getfield 7, 3) := by decide +kernel
theorem dX4_transpose_43 : decode cX4_transpose 43 = .ok (.bipush 60, 2) := by decide +kernel
theorem dX4_transpose_45 : decode cX4_transpose 45 = .ok (.iload_n 1, 1) := by decide +kernel
theorem dX4_transpose_46 : decode cX4_transpose 46 = .ok (.imul, 1) := by decide +kernel
theorem dX4_transpose_47 : decode cX4_transpose 47 = .ok (.iload_n 2, 1) := by decide +kernel
theorem dX4_transpose_48 : decode cX4_transpose 48 = .ok (.iadd, 1) := by decide +kernel
theorem dX4_transpose_49 : decode cX4_transpose 49 = .ok (.iaload, 1) := by decide +kernel
theorem dX4_transpose_50 : decode cX4_transpose 50 = .ok (.iastore, 1) := by decide +kernel
theorem dX4_transpose_51 : decode cX4_transpose 51 = .ok (.iinc 2 1, 3) := by decide +kernel
theorem dX4_transpose_54 : decode cX4_transpose 54 = .ok (.goto (-33), 3) := by decide +kernel
theorem dX4_transpose_57 : decode cX4_transpose 57 = .ok (.iinc 1 1, 3) := by decide +kernel
theorem dX4_transpose_60 : decode cX4_transpose 60 = .ok (.goto (-49), 3) := by decide +kernel
theorem dX4_transpose_63 : decode cX4_transpose 63 = .ok (.aload_n 0, 1) := by decide +kernel
theorem dX4_transpose_64 : decode cX4_transpose 64 = .ok (.invokevirtual 54, 3) := by decide +kernel
theorem dX4_transpose_67 : decode cX4_transpose 67 = .ok (.aload_n 0, 1) := by decide +kernel
theorem dX4_transpose_68 : decode cX4_transpose 68 = .ok (.getfield 29, 3) := by decide +kernel
theorem dX4_transpose_71 : decode cX4_transpose 71 = .ok (.istore_n 1, 1) := by decide +kernel
theorem dX4_transpose_72 : decode cX4_transpose 72 = .ok (.aload_n 0, 1) := by decide +kernel
theorem dX4_transpose_73 : decode cX4_transpose 73 = .ok (.aload_n 0, 1) := by decide +kernel
theorem dX4_transpose_74 : decode cX4_transpose 74 = .ok (.getfield 33, 3) := by decide +kernel
theorem dX4_transpose_77 : decode cX4_transpose 77 = .ok (.putfield 29, 3) := by decide +kernel
theorem dX4_transpose_80 : decode cX4_transpose 80 = .ok (.aload_n 0, 1) := by decide +kernel
theorem dX4_transpose_81 : decode cX4_transpose 81 = .ok (.iload_n 1, 1) := by decide +kernel
theorem dX4_transpose_82 : decode cX4_transpose 82 = .ok (.putfield 33, 3) := by decide +kernel
theorem dX4_transpose_85 : decode cX4_transpose 85 = .ok (.iconst 0, 1) := by decide +kernel
theorem dX4_transpose_86 : decode cX4_transpose 86 = .ok (.istore_n 2, 1) := by decide +kernel
theorem dX4_transpose_87 : decode cX4_transpose 87 = .ok (.iload_n 2, 1) := by decide +kernel
theorem dX4_transpose_88 : decode cX4_transpose 88 = .ok (.bipush 60, 2) := by decide +kernel
theorem dX4_transpose_90 : decode cX4_transpose 90 = .ok (.if_icmp .ge 23, 3) := by decide +kernel
theorem dX4_transpose_93 : decode cX4_transpose 93 = .ok (.aload_n 0, 1) := by decide +kernel
theorem dX4_transpose_94 : decode cX4_transpose 94 = .ok (.getfield 19, 3) := by decide +kernel
theorem dX4_transpose_97 : decode cX4_transpose 97 = .ok (.iload_n 2, 1) := by decide +kernel
theorem dX4_transpose_98 : decode cX4_transpose 98 = .ok (.iconst 0, 1) := by decide +kernel
theorem dX4_transpose_99 : decode cX4_transpose 99 = .ok (.iastore, 1) := by decide +kernel
theorem dX4_transpose_100 : decode cX4_transpose 100 = .ok (.aload_n 0, 1) := by decide +kernel
theorem dX4_transpose_101 : decode cX4_transpose 101 = .ok (.getfield 22, 3) := by decide +kernel
theorem dX4_transpose_104 : decode cX4_transpose 104 = .ok (.iload_n 2, 1) := by decide +kernel
theorem dX4_transpose_105 : decode cX4_transpose 105 = .ok (.iconst 0, 1) := by decide +kernel
theorem dX4_transpose_106 : decode cX4_transpose 106 = .ok (.iastore, 1) := by decide +kernel
theorem dX4_transpose_107 : decode cX4_transpose 107 = .ok (.iinc 2 1, 3) := by decide +kernel
theorem dX4_transpose_110 : decode cX4_transpose 110 = .ok (.goto (-23), 3) := by decide +kernel
theorem dX4_transpose_113 : decode cX4_transpose 113 = .ok (.iconst 1, 1) := by decide +kernel
theorem dX4_transpose_114 : decode cX4_transpose 114 = .ok (.ireturn, 1) := by decide +kernel
abbrev cX4_square : ByteArray := prog_5_method_18_code
def yX4_square : MethodName := ⟨RX4, "square", "()I"⟩
theorem dX4_square_0 : decode cX4_square 0 = .ok (.aload_n 0, 1) := by decide +kernel
theorem dX4_square_1 : decode cX4_square 1 = .ok (.getfield 29, 3) := by decide +kernel
theorem dX4_square_4 : decode cX4_square 4 = .ok (.aload_n 0, 1) := by decide +kernel
theorem dX4_square_5 : decode cX4_square 5 = .ok (.getfield 33, 3) := by decide +kernel
theorem dX4_square_8 : decode cX4_square 8 = .ok (.if_icmp .eq 6, 3) := by decide +kernel
theorem dX4_square_11 : decode cX4_square 11 = .ok (.bipush (-2), 2) := by decide +kernel
theorem dX4_square_13 : decode cX4_square 13 = .ok (.ireturn, 1) := by decide +kernel
theorem dX4_square_14 : decode cX4_square 14 = .ok (.iconst 0, 1) := by decide +kernel
theorem dX4_square_15 : decode cX4_square 15 = .ok (.istore_n 1, 1) := by decide +kernel
theorem dX4_square_16 : decode cX4_square 16 = .ok (.iload_n 1, 1) := by decide +kernel
theorem dX4_square_17 : decode cX4_square 17 = .ok (.aload_n 0, 1) := by decide +kernel
theorem dX4_square_18 : decode cX4_square 18 = .ok (.getfield 29, 3) := by decide +kernel
theorem dX4_square_21 : decode cX4_square 21 = .ok (.if_icmp .ge 85, 3) := by decide +kernel
theorem dX4_square_24 : decode cX4_square 24 = .ok (.iconst 0, 1) := by decide +kernel
theorem dX4_square_25 : decode cX4_square 25 = .ok (.istore_n 2, 1) := by decide +kernel
theorem dX4_square_26 : decode cX4_square 26 = .ok (.iload_n 2, 1) := by decide +kernel
theorem dX4_square_27 : decode cX4_square 27 = .ok (.aload_n 0, 1) := by decide +kernel
theorem dX4_square_28 : decode cX4_square 28 = .ok (.getfield 33, 3) := by decide +kernel
theorem dX4_square_31 : decode cX4_square 31 = .ok (.if_icmp .ge 69, 3) := by decide +kernel
theorem dX4_square_34 : decode cX4_square 34 = .ok (.iconst 0, 1) := by decide +kernel
theorem dX4_square_35 : decode cX4_square 35 = .ok (.istore_n 3, 1) := by decide +kernel
theorem dX4_square_36 : decode cX4_square 36 = .ok (.iconst 0, 1) := by decide +kernel
theorem dX4_square_37 : decode cX4_square 37 = .ok (.istore 4, 2) := by decide +kernel
theorem dX4_square_39 : decode cX4_square 39 = .ok (.iload 4, 2) := by decide +kernel
theorem dX4_square_41 : decode cX4_square 41 = .ok (.aload_n 0, 1) := by decide +kernel
theorem dX4_square_42 : decode cX4_square 42 = .ok (.getfield 33, 3) := by decide +kernel
theorem dX4_square_45 : decode cX4_square 45 = .ok (.if_icmp .ge 37, 3) := by decide +kernel
theorem dX4_square_48 : decode cX4_square 48 = .ok (.iload_n 3, 1) := by decide +kernel
theorem dX4_square_49 : decode cX4_square 49 = .ok (.aload_n 0, 1) := by decide +kernel
theorem dX4_square_50 : decode cX4_square 50 = .ok (.getfield 7, 3) := by decide +kernel
theorem dX4_square_53 : decode cX4_square 53 = .ok (.bipush 60, 2) := by decide +kernel
theorem dX4_square_55 : decode cX4_square 55 = .ok (.iload_n 1, 1) := by decide +kernel
theorem dX4_square_56 : decode cX4_square 56 = .ok (.imul, 1) := by decide +kernel
theorem dX4_square_57 : decode cX4_square 57 = .ok (.iload 4, 2) := by decide +kernel
theorem dX4_square_59 : decode cX4_square 59 = .ok (.iadd, 1) := by decide +kernel
theorem dX4_square_60 : decode cX4_square 60 = .ok (.iaload, 1) := by decide +kernel
theorem dX4_square_61 : decode cX4_square 61 = .ok (.aload_n 0, 1) := by decide +kernel
theorem dX4_square_62 : decode cX4_square 62 = .ok (.getfield 7, 3) := by decide +kernel
theorem dX4_square_65 : decode cX4_square 65 = .ok (.bipush 60, 2) := by decide +kernel
theorem dX4_square_67 : decode cX4_square 67 = .ok (.iload 4, 2) := by decide +kernel
theorem dX4_square_69 : decode cX4_square 69 = .ok (.imul, 1) := by decide +kernel
theorem dX4_square_70 : decode cX4_square 70 = .ok (.iload_n 2, 1) := by decide +kernel
theorem dX4_square_71 : decode cX4_square 71 = .ok (.iadd, 1) := by decide +kernel
theorem dX4_square_72 : decode cX4_square 72 = .ok (.iaload, 1) := by decide +kernel
theorem dX4_square_73 : decode cX4_square 73 = .ok (.imul, 1) := by decide +kernel
theorem dX4_square_74 : decode cX4_square 74 = .ok (.iadd, 1) := by decide +kernel
theorem dX4_square_75 : decode cX4_square 75 = .ok (.istore_n 3, 1) := by decide +kernel
theorem dX4_square_76 : decode cX4_square 76 = .ok (.iinc 4 1, 3) := by decide +kernel
theorem dX4_square_79 : decode cX4_square 79 = .ok (.goto (-40), 3) := by decide +kernel
theorem dX4_square_82 : decode cX4_square 82 = .ok (.aload_n 0, 1) := by decide +kernel
theorem dX4_square_83 : decode cX4_square 83 = .ok (.getfield 13, 3) := by decide +kernel
theorem dX4_square_86 : decode cX4_square 86 = .ok (.bipush 60, 2) := by decide +kernel
theorem dX4_square_88 : decode cX4_square 88 = .ok (.iload_n 1, 1) := by decide +kernel
theorem dX4_square_89 : decode cX4_square 89 = .ok (.imul, 1) := by decide +kernel
theorem dX4_square_90 : decode cX4_square 90 = .ok (.iload_n 2, 1) := by decide +kernel
theorem dX4_square_91 : decode cX4_square 91 = .ok (.iadd, 1) := by decide +kernel
theorem dX4_square_92 : decode cX4_square 92 = .ok (.iload_n 3, 1) := by decide +kernel
theorem dX4_square_93 : decode cX4_square 93 = .ok (.iastore, 1) := by decide +kernel
theorem dX4_square_94 : decode cX4_square 94 = .ok (.iinc 2 1, 3) := by decide +kernel
theorem dX4_square_97 : decode cX4_square 97 = .ok (.goto (-71), 3) := by decide +kernel
theorem dX4_square_100 : decode cX4_square 100 = .ok (.iinc 1 1, 3) := by decide +kernel
theorem dX4_square_103 : decode cX4_square 103 = .ok (.goto (-87), 3) := by decide +kernel
theorem dX4_square_106 : decode cX4_square 106 = .ok (.aload_n 0, 1) := by decide +kernel
theorem dX4_square_107 : decode cX4_square 107 = .ok (.invokevirtual 57, 3) := by decide +kernel
theorem dX4_square_110 : decode cX4_square 110 = .ok (.ireturn, 1) := by decide +kernel
abbrev cX4_count : ByteArray := prog_5_method_19_code
def yX4_count : MethodName := ⟨RX4, "count", "(I)I"⟩
theorem dX4_count_0 : decode cX4_count 0 = .ok (.iload_n 1, 1) := by decide +kernel
theorem dX4_count_1 : decode cX4_count 1 = .ok (.ifCond .ne 10, 3) := by decide +kernel
theorem dX4_count_4 : decode cX4_count 4 = .ok (.aload_n 0, 1) := by decide +kernel
theorem dX4_count_5 : decode cX4_count 5 = .ok (.getfield 29, 3) := by decide +kernel
theorem dX4_count_8 : decode cX4_count 8 = .ok (.goto 40, 3) := by decide +kernel
theorem dX4_count_11 : decode cX4_count 11 = .ok (.iload_n 1, 1) := by decide +kernel
theorem dX4_count_12 : decode cX4_count 12 = .ok (.iconst 1, 1) := by decide +kernel
theorem dX4_count_13 : decode cX4_count 13 = .ok (.if_icmp .ne 10, 3) := by decide +kernel
theorem dX4_count_16 : decode cX4_count 16 = .ok (.aload_n 0, 1) := by decide +kernel
theorem dX4_count_17 : decode cX4_count 17 = .ok (.getfield 33, 3) := by decide +kernel
theorem dX4_count_20 : decode cX4_count 20 = .ok (.goto 28, 3) := by decide +kernel
theorem dX4_count_23 : decode cX4_count 23 = .ok (.iload_n 1, 1) := by decide +kernel
theorem dX4_count_24 : decode cX4_count 24 = .ok (.iconst 2, 1) := by decide +kernel
theorem dX4_count_25 : decode cX4_count 25 = .ok (.if_icmp .ne 10, 3) := by decide +kernel
theorem dX4_count_28 : decode cX4_count 28 = .ok (.aload_n 0, 1) := by decide +kernel
theorem dX4_count_29 : decode cX4_count 29 = .ok (.getfield 36, 3) := by decide +kernel
theorem dX4_count_32 : decode cX4_count 32 = .ok (.goto 16, 3) := by decide +kernel
theorem dX4_count_35 : decode cX4_count 35 = .ok (.iload_n 1, 1) := by decide +kernel
theorem dX4_count_36 : decode cX4_count 36 = .ok (.iconst 3, 1) := by decide +kernel
theorem dX4_count_37 : decode cX4_count 37 = .ok (.if_icmp .ne 10, 3) := by decide +kernel
theorem dX4_count_40 : decode cX4_count 40 = .ok (.aload_n 0, 1) := by decide +kernel
theorem dX4_count_41 : decode cX4_count 41 = .ok (.getfield 47, 3) := by decide +kernel
theorem dX4_count_44 : decode cX4_count 44 = .ok (.goto 4, 3) := by decide +kernel
theorem dX4_count_47 : decode cX4_count 47 = .ok (.iconst (-1), 1) := by decide +kernel
theorem dX4_count_48 : decode cX4_count 48 = .ok (.ireturn, 1) := by decide +kernel
theorem q12 : (Jvm.Cond.initialized "RowSparseModel") ∈ lw_all := lw_g (lw_at lw_m1 5 rfl) rfl
theorem q200 : (Jvm.Cond.instantiable "RowSparseModel" (9 : Nat)) ∈ lw_all := lw_g (lw_at lw_m1 193 rfl) rfl
theorem q202 : (Jvm.Cond.instanceMethod ({ cls := "RowSparseModel", name := "<init>", desc := "(III)V" } : Jvm.MethodName)) ∈ lw_all := lw_g (lw_at lw_m1 195 rfl) rfl
theorem q203 : (Jvm.Cond.code ({ cls := "RowSparseModel", name := "<init>", desc := "(III)V" } : Jvm.MethodName) prog_5_method_1_code (4 : Nat) (Option.none : Option Jvm.ClassFile.FieldType)) ∈ lw_all := lw_g (lw_at lw_m1 196 rfl) rfl
theorem q204 : (Jvm.Cond.methodLink "RowSparseModel" (1 : Nat) ({ cls := "java/lang/Object", name := "<init>", desc := "()V" } : Jvm.MethodName)) ∈ lw_all := lw_g (lw_at lw_m1 197 rfl) rfl
theorem q205 : (Jvm.Cond.methodLink "RowSparseModel" (25 : Nat) ({ cls := "RowSparseModel", name := "within", desc := "(II)I" } : Jvm.MethodName)) ∈ lw_all := lw_g (lw_at lw_m1 198 rfl) rfl
theorem q206 : (Jvm.Cond.static ({ cls := "RowSparseModel", name := "within", desc := "(II)I" } : Jvm.MethodName)) ∈ lw_all := lw_g (lw_at lw_m1 199 rfl) rfl
theorem q207 : (Jvm.Cond.code ({ cls := "RowSparseModel", name := "within", desc := "(II)I" } : Jvm.MethodName) prog_5_method_2_code (2 : Nat) (Option.some Jvm.ClassFile.FieldType.int)) ∈ lw_all := lw_g (lw_at lw_m1 200 rfl) rfl
theorem q208 : (Jvm.Cond.fieldLink "RowSparseModel" (36 : Nat) "RowSparseModel" "cap" "I") ∈ lw_all := lw_g (lw_at lw_m1 201 rfl) rfl
theorem q209 : (Jvm.Cond.fieldLink "RowSparseModel" (29 : Nat) "RowSparseModel" "rows" "I") ∈ lw_all := lw_g (lw_at lw_m1 202 rfl) rfl
theorem q210 : (Jvm.Cond.fieldLink "RowSparseModel" (33 : Nat) "RowSparseModel" "cols" "I") ∈ lw_all := lw_g (lw_at lw_m1 203 rfl) rfl
theorem q211 : (Jvm.Cond.fieldLink "RowSparseModel" (47 : Nat) "RowSparseModel" "pending" "I") ∈ lw_all := lw_g (lw_at lw_m1 204 rfl) rfl
theorem q212 : (Jvm.Cond.fieldLink "RowSparseModel" (7 : Nat) "RowSparseModel" "table" "[I") ∈ lw_all := lw_g (lw_at lw_m1 205 rfl) rfl
theorem q213 : (Jvm.Cond.fieldLink "RowSparseModel" (13 : Nat) "RowSparseModel" "other" "[I") ∈ lw_all := lw_g (lw_at lw_m1 206 rfl) rfl
theorem q214 : (Jvm.Cond.fieldLink "RowSparseModel" (16 : Nat) "RowSparseModel" "more" "[I") ∈ lw_all := lw_g (lw_at lw_m1 207 rfl) rfl
theorem q215 : (Jvm.Cond.fieldLink "RowSparseModel" (19 : Nat) "RowSparseModel" "x" "[I") ∈ lw_all := lw_g (lw_at lw_m1 208 rfl) rfl
theorem q216 : (Jvm.Cond.fieldLink "RowSparseModel" (22 : Nat) "RowSparseModel" "y" "[I") ∈ lw_all := lw_g (lw_at lw_m1 209 rfl) rfl
theorem q217 : (Jvm.Cond.laysFinal "RowSparseModel" "RowSparseModel" "cap" "I") ∈ lw_all := lw_g (lw_at lw_m1 210 rfl) rfl
theorem q218 : (Jvm.Cond.soleField "RowSparseModel" "cap") ∈ lw_all := lw_g (lw_at lw_m1 211 rfl) rfl
theorem q219 : (Jvm.Cond.lays "RowSparseModel" "RowSparseModel" "rows" "I") ∈ lw_all := lw_g (lw_at lw_m1 212 rfl) rfl
theorem q220 : (Jvm.Cond.soleField "RowSparseModel" "rows") ∈ lw_all := lw_g (lw_at lw_m1 213 rfl) rfl
theorem q221 : (Jvm.Cond.lays "RowSparseModel" "RowSparseModel" "cols" "I") ∈ lw_all := lw_g (lw_at lw_m1 214 rfl) rfl
theorem q222 : (Jvm.Cond.soleField "RowSparseModel" "cols") ∈ lw_all := lw_g (lw_at lw_m1 215 rfl) rfl
theorem q223 : (Jvm.Cond.lays "RowSparseModel" "RowSparseModel" "pending" "I") ∈ lw_all := lw_g (lw_at lw_m1 216 rfl) rfl
theorem q224 : (Jvm.Cond.soleField "RowSparseModel" "pending") ∈ lw_all := lw_g (lw_at lw_m1 217 rfl) rfl
theorem q225 : (Jvm.Cond.lays "RowSparseModel" "RowSparseModel" "table" "[I") ∈ lw_all := lw_g (lw_at lw_m1 218 rfl) rfl
theorem q226 : (Jvm.Cond.soleField "RowSparseModel" "table") ∈ lw_all := lw_g (lw_at lw_m1 219 rfl) rfl
theorem q227 : (Jvm.Cond.lays "RowSparseModel" "RowSparseModel" "other" "[I") ∈ lw_all := lw_g (lw_at lw_m1 220 rfl) rfl
theorem q228 : (Jvm.Cond.soleField "RowSparseModel" "other") ∈ lw_all := lw_g (lw_at lw_m1 221 rfl) rfl
theorem q229 : (Jvm.Cond.laysFinal "RowSparseModel" "RowSparseModel" "more" "[I") ∈ lw_all := lw_g (lw_at lw_m1 222 rfl) rfl
theorem q230 : (Jvm.Cond.soleField "RowSparseModel" "more") ∈ lw_all := lw_g (lw_at lw_m1 223 rfl) rfl
theorem q231 : (Jvm.Cond.laysFinal "RowSparseModel" "RowSparseModel" "x" "[I") ∈ lw_all := lw_g (lw_at lw_m1 224 rfl) rfl
theorem q232 : (Jvm.Cond.soleField "RowSparseModel" "x") ∈ lw_all := lw_g (lw_at lw_m1 225 rfl) rfl
theorem q233 : (Jvm.Cond.laysFinal "RowSparseModel" "RowSparseModel" "y" "[I") ∈ lw_all := lw_g (lw_at lw_m1 226 rfl) rfl
theorem q234 : (Jvm.Cond.soleField "RowSparseModel" "y") ∈ lw_all := lw_g (lw_at lw_m1 227 rfl) rfl
theorem q235 : (Jvm.Cond.superclass "RowSparseModel" "java/lang/Object") ∈ lw_all := lw_g (lw_at lw_m1 228 rfl) rfl
theorem q237 : (Jvm.Cond.instanceMethod ({ cls := "RowSparseModel", name := "add", desc := "(III)Z" } : Jvm.MethodName)) ∈ lw_all := lw_g (lw_at lw_m1 230 rfl) rfl
theorem q238 : (Jvm.Cond.selects "RowSparseModel" ({ cls := "RowSparseModel", name := "add", desc := "(III)Z" } : Jvm.MethodName) ({ cls := "RowSparseModel", name := "add", desc := "(III)Z" } : Jvm.MethodName)) ∈ lw_all := lw_g (lw_at lw_m1 231 rfl) rfl
theorem q239 : (Jvm.Cond.code ({ cls := "RowSparseModel", name := "add", desc := "(III)Z" } : Jvm.MethodName) prog_5_method_5_code (4 : Nat) (Option.some Jvm.ClassFile.FieldType.boolean)) ∈ lw_all := lw_g (lw_at lw_m1 232 rfl) rfl
theorem q240 : (Jvm.Cond.methodLink "RowSparseModel" (43 : Nat) ({ cls := "RowSparseModel", name := "isPlace", desc := "(II)Z" } : Jvm.MethodName)) ∈ lw_all := lw_g (lw_at lw_m1 233 rfl) rfl
theorem q241 : (Jvm.Cond.privateMethod ({ cls := "RowSparseModel", name := "isPlace", desc := "(II)Z" } : Jvm.MethodName)) ∈ lw_tbl := lw_at lw_m1 234 rfl
theorem q242 : (Jvm.Cond.instanceMethod ({ cls := "RowSparseModel", name := "isPlace", desc := "(II)Z" } : Jvm.MethodName)) ∈ lw_all := lw_g (lw_at lw_m1 235 rfl) rfl
theorem q243 : (Jvm.Cond.code ({ cls := "RowSparseModel", name := "isPlace", desc := "(II)Z" } : Jvm.MethodName) prog_5_method_4_code (3 : Nat) (Option.some Jvm.ClassFile.FieldType.boolean)) ∈ lw_all := lw_g (lw_at lw_m1 236 rfl) rfl
theorem q244 : (Jvm.Cond.methodLink "RowSparseModel" (39 : Nat) ({ cls := "RowSparseModel", name := "in", desc := "(III)Z" } : Jvm.MethodName)) ∈ lw_all := lw_g (lw_at lw_m1 237 rfl) rfl
theorem q245 : (Jvm.Cond.static ({ cls := "RowSparseModel", name := "in", desc := "(III)Z" } : Jvm.MethodName)) ∈ lw_all := lw_g (lw_at lw_m1 238 rfl) rfl
theorem q246 : (Jvm.Cond.code ({ cls := "RowSparseModel", name := "in", desc := "(III)Z" } : Jvm.MethodName) prog_5_method_3_code (3 : Nat) (Option.some Jvm.ClassFile.FieldType.boolean)) ∈ lw_all := lw_g (lw_at lw_m1 239 rfl) rfl
theorem q248 : (Jvm.Cond.instanceMethod ({ cls := "RowSparseModel", name := "build", desc := "()I" } : Jvm.MethodName)) ∈ lw_all := lw_g (lw_at lw_m2 1 rfl) rfl
theorem q249 : (Jvm.Cond.selects "RowSparseModel" ({ cls := "RowSparseModel", name := "build", desc := "()I" } : Jvm.MethodName) ({ cls := "RowSparseModel", name := "build", desc := "()I" } : Jvm.MethodName)) ∈ lw_all := lw_g (lw_at lw_m2 2 rfl) rfl
theorem q250 : (Jvm.Cond.code ({ cls := "RowSparseModel", name := "build", desc := "()I" } : Jvm.MethodName) prog_5_method_9_code (3 : Nat) (Option.some Jvm.ClassFile.FieldType.int)) ∈ lw_all := lw_g (lw_at lw_m2 3 rfl) rfl
theorem q251 : (Jvm.Cond.methodLink "RowSparseModel" (57 : Nat) ({ cls := "RowSparseModel", name := "becomes", desc := "()I" } : Jvm.MethodName)) ∈ lw_all := lw_g (lw_at lw_m2 4 rfl) rfl
theorem q252 : (Jvm.Cond.privateMethod ({ cls := "RowSparseModel", name := "becomes", desc := "()I" } : Jvm.MethodName)) ∈ lw_tbl := lw_at lw_m2 5 rfl
theorem q253 : (Jvm.Cond.instanceMethod ({ cls := "RowSparseModel", name := "becomes", desc := "()I" } : Jvm.MethodName)) ∈ lw_all := lw_g (lw_at lw_m2 6 rfl) rfl
theorem q254 : (Jvm.Cond.code ({ cls := "RowSparseModel", name := "becomes", desc := "()I" } : Jvm.MethodName) prog_5_method_8_code (2 : Nat) (Option.some Jvm.ClassFile.FieldType.int)) ∈ lw_all := lw_g (lw_at lw_m2 7 rfl) rfl
theorem q255 : (Jvm.Cond.methodLink "RowSparseModel" (50 : Nat) ({ cls := "RowSparseModel", name := "many", desc := "([II)I" } : Jvm.MethodName)) ∈ lw_all := lw_g (lw_at lw_m2 8 rfl) rfl
theorem q256 : (Jvm.Cond.privateMethod ({ cls := "RowSparseModel", name := "many", desc := "([II)I" } : Jvm.MethodName)) ∈ lw_tbl := lw_at lw_m2 9 rfl
theorem q257 : (Jvm.Cond.instanceMethod ({ cls := "RowSparseModel", name := "many", desc := "([II)I" } : Jvm.MethodName)) ∈ lw_all := lw_g (lw_at lw_m2 10 rfl) rfl
theorem q258 : (Jvm.Cond.code ({ cls := "RowSparseModel", name := "many", desc := "([II)I" } : Jvm.MethodName) prog_5_method_6_code (6 : Nat) (Option.some Jvm.ClassFile.FieldType.int)) ∈ lw_all := lw_g (lw_at lw_m2 11 rfl) rfl
theorem q259 : (Jvm.Cond.methodLink "RowSparseModel" (54 : Nat) ({ cls := "RowSparseModel", name := "turns", desc := "()V" } : Jvm.MethodName)) ∈ lw_all := lw_g (lw_at lw_m2 12 rfl) rfl
theorem q260 : (Jvm.Cond.privateMethod ({ cls := "RowSparseModel", name := "turns", desc := "()V" } : Jvm.MethodName)) ∈ lw_tbl := lw_at lw_m2 13 rfl
theorem q261 : (Jvm.Cond.instanceMethod ({ cls := "RowSparseModel", name := "turns", desc := "()V" } : Jvm.MethodName)) ∈ lw_all := lw_g (lw_at lw_m2 14 rfl) rfl
theorem q262 : (Jvm.Cond.code ({ cls := "RowSparseModel", name := "turns", desc := "()V" } : Jvm.MethodName) prog_5_method_7_code (2 : Nat) (Option.none : Option Jvm.ClassFile.FieldType)) ∈ lw_all := lw_g (lw_at lw_m2 15 rfl) rfl
theorem q264 : (Jvm.Cond.instanceMethod ({ cls := "RowSparseModel", name := "nnz", desc := "()I" } : Jvm.MethodName)) ∈ lw_all := lw_g (lw_at lw_m2 17 rfl) rfl
theorem q265 : (Jvm.Cond.selects "RowSparseModel" ({ cls := "RowSparseModel", name := "nnz", desc := "()I" } : Jvm.MethodName) ({ cls := "RowSparseModel", name := "nnz", desc := "()I" } : Jvm.MethodName)) ∈ lw_all := lw_g (lw_at lw_m2 18 rfl) rfl
theorem q266 : (Jvm.Cond.code ({ cls := "RowSparseModel", name := "nnz", desc := "()I" } : Jvm.MethodName) prog_5_method_10_code (1 : Nat) (Option.some Jvm.ClassFile.FieldType.int)) ∈ lw_all := lw_g (lw_at lw_m2 19 rfl) rfl
theorem q268 : (Jvm.Cond.instanceMethod ({ cls := "RowSparseModel", name := "at", desc := "(II)I" } : Jvm.MethodName)) ∈ lw_all := lw_g (lw_at lw_m2 21 rfl) rfl
theorem q269 : (Jvm.Cond.selects "RowSparseModel" ({ cls := "RowSparseModel", name := "at", desc := "(II)I" } : Jvm.MethodName) ({ cls := "RowSparseModel", name := "at", desc := "(II)I" } : Jvm.MethodName)) ∈ lw_all := lw_g (lw_at lw_m2 22 rfl) rfl
theorem q270 : (Jvm.Cond.code ({ cls := "RowSparseModel", name := "at", desc := "(II)I" } : Jvm.MethodName) prog_5_method_11_code (3 : Nat) (Option.some Jvm.ClassFile.FieldType.int)) ∈ lw_all := lw_g (lw_at lw_m2 23 rfl) rfl
theorem q272 : (Jvm.Cond.instanceMethod ({ cls := "RowSparseModel", name := "rowStart", desc := "(I)I" } : Jvm.MethodName)) ∈ lw_all := lw_g (lw_at lw_m2 25 rfl) rfl
theorem q273 : (Jvm.Cond.selects "RowSparseModel" ({ cls := "RowSparseModel", name := "rowStart", desc := "(I)I" } : Jvm.MethodName) ({ cls := "RowSparseModel", name := "rowStart", desc := "(I)I" } : Jvm.MethodName)) ∈ lw_all := lw_g (lw_at lw_m2 26 rfl) rfl
theorem q274 : (Jvm.Cond.code ({ cls := "RowSparseModel", name := "rowStart", desc := "(I)I" } : Jvm.MethodName) prog_5_method_12_code (2 : Nat) (Option.some Jvm.ClassFile.FieldType.int)) ∈ lw_all := lw_g (lw_at lw_m2 27 rfl) rfl
theorem q276 : (Jvm.Cond.instanceMethod ({ cls := "RowSparseModel", name := "colAt", desc := "(I)I" } : Jvm.MethodName)) ∈ lw_all := lw_g (lw_at lw_m2 29 rfl) rfl
theorem q277 : (Jvm.Cond.selects "RowSparseModel" ({ cls := "RowSparseModel", name := "colAt", desc := "(I)I" } : Jvm.MethodName) ({ cls := "RowSparseModel", name := "colAt", desc := "(I)I" } : Jvm.MethodName)) ∈ lw_all := lw_g (lw_at lw_m2 30 rfl) rfl
theorem q278 : (Jvm.Cond.code ({ cls := "RowSparseModel", name := "colAt", desc := "(I)I" } : Jvm.MethodName) prog_5_method_13_code (5 : Nat) (Option.some Jvm.ClassFile.FieldType.int)) ∈ lw_all := lw_g (lw_at lw_m2 31 rfl) rfl
theorem q280 : (Jvm.Cond.instanceMethod ({ cls := "RowSparseModel", name := "setX", desc := "(II)Z" } : Jvm.MethodName)) ∈ lw_all := lw_g (lw_at lw_m2 33 rfl) rfl
theorem q281 : (Jvm.Cond.selects "RowSparseModel" ({ cls := "RowSparseModel", name := "setX", desc := "(II)Z" } : Jvm.MethodName) ({ cls := "RowSparseModel", name := "setX", desc := "(II)Z" } : Jvm.MethodName)) ∈ lw_all := lw_g (lw_at lw_m2 34 rfl) rfl
theorem q282 : (Jvm.Cond.code ({ cls := "RowSparseModel", name := "setX", desc := "(II)Z" } : Jvm.MethodName) prog_5_method_14_code (3 : Nat) (Option.some Jvm.ClassFile.FieldType.boolean)) ∈ lw_all := lw_g (lw_at lw_m2 35 rfl) rfl
theorem q284 : (Jvm.Cond.instanceMethod ({ cls := "RowSparseModel", name := "multiplyVector", desc := "()Z" } : Jvm.MethodName)) ∈ lw_all := lw_g (lw_at lw_m2 37 rfl) rfl
theorem q285 : (Jvm.Cond.selects "RowSparseModel" ({ cls := "RowSparseModel", name := "multiplyVector", desc := "()Z" } : Jvm.MethodName) ({ cls := "RowSparseModel", name := "multiplyVector", desc := "()Z" } : Jvm.MethodName)) ∈ lw_all := lw_g (lw_at lw_m2 38 rfl) rfl
theorem q286 : (Jvm.Cond.code ({ cls := "RowSparseModel", name := "multiplyVector", desc := "()Z" } : Jvm.MethodName) prog_5_method_15_code (4 : Nat) (Option.some Jvm.ClassFile.FieldType.boolean)) ∈ lw_all := lw_g (lw_at lw_m2 39 rfl) rfl
theorem q288 : (Jvm.Cond.instanceMethod ({ cls := "RowSparseModel", name := "y", desc := "(I)I" } : Jvm.MethodName)) ∈ lw_all := lw_g (lw_at lw_m2 41 rfl) rfl
theorem q289 : (Jvm.Cond.selects "RowSparseModel" ({ cls := "RowSparseModel", name := "y", desc := "(I)I" } : Jvm.MethodName) ({ cls := "RowSparseModel", name := "y", desc := "(I)I" } : Jvm.MethodName)) ∈ lw_all := lw_g (lw_at lw_m2 42 rfl) rfl
theorem q290 : (Jvm.Cond.code ({ cls := "RowSparseModel", name := "y", desc := "(I)I" } : Jvm.MethodName) prog_5_method_16_code (2 : Nat) (Option.some Jvm.ClassFile.FieldType.int)) ∈ lw_all := lw_g (lw_at lw_m2 43 rfl) rfl
theorem q292 : (Jvm.Cond.instanceMethod ({ cls := "RowSparseModel", name := "transpose", desc := "()Z" } : Jvm.MethodName)) ∈ lw_all := lw_g (lw_at lw_m2 45 rfl) rfl
theorem q293 : (Jvm.Cond.selects "RowSparseModel" ({ cls := "RowSparseModel", name := "transpose", desc := "()Z" } : Jvm.MethodName) ({ cls := "RowSparseModel", name := "transpose", desc := "()Z" } : Jvm.MethodName)) ∈ lw_all := lw_g (lw_at lw_m2 46 rfl) rfl
theorem q294 : (Jvm.Cond.code ({ cls := "RowSparseModel", name := "transpose", desc := "()Z" } : Jvm.MethodName) prog_5_method_17_code (3 : Nat) (Option.some Jvm.ClassFile.FieldType.boolean)) ∈ lw_all := lw_g (lw_at lw_m2 47 rfl) rfl
theorem q296 : (Jvm.Cond.instanceMethod ({ cls := "RowSparseModel", name := "square", desc := "()I" } : Jvm.MethodName)) ∈ lw_all := lw_g (lw_at lw_m2 49 rfl) rfl
theorem q297 : (Jvm.Cond.selects "RowSparseModel" ({ cls := "RowSparseModel", name := "square", desc := "()I" } : Jvm.MethodName) ({ cls := "RowSparseModel", name := "square", desc := "()I" } : Jvm.MethodName)) ∈ lw_all := lw_g (lw_at lw_m2 50 rfl) rfl
theorem q298 : (Jvm.Cond.code ({ cls := "RowSparseModel", name := "square", desc := "()I" } : Jvm.MethodName) prog_5_method_18_code (5 : Nat) (Option.some Jvm.ClassFile.FieldType.int)) ∈ lw_all := lw_g (lw_at lw_m2 51 rfl) rfl
theorem q300 : (Jvm.Cond.instanceMethod ({ cls := "RowSparseModel", name := "count", desc := "(I)I" } : Jvm.MethodName)) ∈ lw_all := lw_g (lw_at lw_m2 53 rfl) rfl
theorem q301 : (Jvm.Cond.selects "RowSparseModel" ({ cls := "RowSparseModel", name := "count", desc := "(I)I" } : Jvm.MethodName) ({ cls := "RowSparseModel", name := "count", desc := "(I)I" } : Jvm.MethodName)) ∈ lw_all := lw_g (lw_at lw_m2 54 rfl) rfl
theorem q302 : (Jvm.Cond.code ({ cls := "RowSparseModel", name := "count", desc := "(I)I" } : Jvm.MethodName) prog_5_method_19_code (2 : Nat) (Option.some Jvm.ClassFile.FieldType.int)) ∈ lw_all := lw_g (lw_at lw_m2 55 rfl) rfl
theorem in_X4 : ∀ w ∈ wsX40, w ∈ lw_all := lw_in wsX40 [217, 219, 221, 223, 225, 227, 229, 231, 233] (by decide +kernel) (by decide +kernel)
end
section
/-! the law's own entry -/
set_option maxRecDepth 100000
abbrev cL_law : ByteArray := code
theorem dL_law_0 : decode cL_law 0 = .ok (.new 7, 3) := by decide +kernel
theorem dL_law_3 : decode cL_law 3 = .ok (.dup, 1) := by decide +kernel
theorem dL_law_4 : decode cL_law 4 = .ok (.aload_n 0, 1) := by decide +kernel
theorem dL_law_5 : decode cL_law 5 = .ok (.iconst 0, 1) := by decide +kernel
theorem dL_law_6 : decode cL_law 6 = .ok (.invokestatic 9, 3) := by decide +kernel
theorem dL_law_9 : decode cL_law 9 = .ok (.aload_n 0, 1) := by decide +kernel
theorem dL_law_10 : decode cL_law 10 = .ok (.iconst 1, 1) := by decide +kernel
theorem dL_law_11 : decode cL_law 11 = .ok (.invokestatic 9, 3) := by decide +kernel
theorem dL_law_14 : decode cL_law 14 = .ok (.aload_n 0, 1) := by decide +kernel
theorem dL_law_15 : decode cL_law 15 = .ok (.iconst 2, 1) := by decide +kernel
theorem dL_law_16 : decode cL_law 16 = .ok (.invokestatic 9, 3) := by decide +kernel
theorem dL_law_19 : decode cL_law 19 = .ok (.invokespecial 15, 3) := by decide +kernel
theorem dL_law_22 : decode cL_law 22 = .ok (.astore_n 1, 1) := by decide +kernel
theorem dL_law_23 : decode cL_law 23 = .ok (.new 18, 3) := by decide +kernel
theorem dL_law_26 : decode cL_law 26 = .ok (.dup, 1) := by decide +kernel
theorem dL_law_27 : decode cL_law 27 = .ok (.aload_n 0, 1) := by decide +kernel
theorem dL_law_28 : decode cL_law 28 = .ok (.iconst 0, 1) := by decide +kernel
theorem dL_law_29 : decode cL_law 29 = .ok (.invokestatic 9, 3) := by decide +kernel
theorem dL_law_32 : decode cL_law 32 = .ok (.aload_n 0, 1) := by decide +kernel
theorem dL_law_33 : decode cL_law 33 = .ok (.iconst 1, 1) := by decide +kernel
theorem dL_law_34 : decode cL_law 34 = .ok (.invokestatic 9, 3) := by decide +kernel
theorem dL_law_37 : decode cL_law 37 = .ok (.aload_n 0, 1) := by decide +kernel
theorem dL_law_38 : decode cL_law 38 = .ok (.iconst 2, 1) := by decide +kernel
theorem dL_law_39 : decode cL_law 39 = .ok (.invokestatic 9, 3) := by decide +kernel
theorem dL_law_42 : decode cL_law 42 = .ok (.invokespecial 20, 3) := by decide +kernel
theorem dL_law_45 : decode cL_law 45 = .ok (.astore_n 2, 1) := by decide +kernel
theorem dL_law_46 : decode cL_law 46 = .ok (.iconst 3, 1) := by decide +kernel
theorem dL_law_47 : decode cL_law 47 = .ok (.istore_n 3, 1) := by decide +kernel
theorem dL_law_48 : decode cL_law 48 = .ok (.iload_n 3, 1) := by decide +kernel
theorem dL_law_49 : decode cL_law 49 = .ok (.aload_n 0, 1) := by decide +kernel
theorem dL_law_50 : decode cL_law 50 = .ok (.arraylength, 1) := by decide +kernel
theorem dL_law_51 : decode cL_law 51 = .ok (.iconst 4, 1) := by decide +kernel
theorem dL_law_52 : decode cL_law 52 = .ok (.isub, 1) := by decide +kernel
theorem dL_law_53 : decode cL_law 53 = .ok (.if_icmp .gt 343, 3) := by decide +kernel
theorem dL_law_56 : decode cL_law 56 = .ok (.aload_n 0, 1) := by decide +kernel
theorem dL_law_57 : decode cL_law 57 = .ok (.iload_n 3, 1) := by decide +kernel
theorem dL_law_58 : decode cL_law 58 = .ok (.iaload, 1) := by decide +kernel
theorem dL_law_59 : decode cL_law 59 = .ok (.bipush 15, 2) := by decide +kernel
theorem dL_law_61 : decode cL_law 61 = .ok (.iand, 1) := by decide +kernel
theorem dL_law_62 : decode cL_law 62 = .ok (.tableswitch 328 0 11 #[62, 105, 118, 131, 164, 187, 210, 243, 256, 279, 292, 305], 62) := by decide +kernel
theorem dL_law_124 : decode cL_law 124 = .ok (.aload_n 1, 1) := by decide +kernel
theorem dL_law_125 : decode cL_law 125 = .ok (.aload_n 0, 1) := by decide +kernel
theorem dL_law_126 : decode cL_law 126 = .ok (.iload_n 3, 1) := by decide +kernel
theorem dL_law_127 : decode cL_law 127 = .ok (.iconst 1, 1) := by decide +kernel
theorem dL_law_128 : decode cL_law 128 = .ok (.iadd, 1) := by decide +kernel
theorem dL_law_129 : decode cL_law 129 = .ok (.iaload, 1) := by decide +kernel
theorem dL_law_130 : decode cL_law 130 = .ok (.aload_n 0, 1) := by decide +kernel
theorem dL_law_131 : decode cL_law 131 = .ok (.iload_n 3, 1) := by decide +kernel
theorem dL_law_132 : decode cL_law 132 = .ok (.iconst 2, 1) := by decide +kernel
theorem dL_law_133 : decode cL_law 133 = .ok (.iadd, 1) := by decide +kernel
theorem dL_law_134 : decode cL_law 134 = .ok (.iaload, 1) := by decide +kernel
theorem dL_law_135 : decode cL_law 135 = .ok (.aload_n 0, 1) := by decide +kernel
theorem dL_law_136 : decode cL_law 136 = .ok (.iload_n 3, 1) := by decide +kernel
theorem dL_law_137 : decode cL_law 137 = .ok (.iconst 3, 1) := by decide +kernel
theorem dL_law_138 : decode cL_law 138 = .ok (.iadd, 1) := by decide +kernel
theorem dL_law_139 : decode cL_law 139 = .ok (.iaload, 1) := by decide +kernel
theorem dL_law_140 : decode cL_law 140 = .ok (.invokevirtual 21, 3) := by decide +kernel
theorem dL_law_143 : decode cL_law 143 = .ok (.aload_n 2, 1) := by decide +kernel
theorem dL_law_144 : decode cL_law 144 = .ok (.aload_n 0, 1) := by decide +kernel
theorem dL_law_145 : decode cL_law 145 = .ok (.iload_n 3, 1) := by decide +kernel
theorem dL_law_146 : decode cL_law 146 = .ok (.iconst 1, 1) := by decide +kernel
theorem dL_law_147 : decode cL_law 147 = .ok (.iadd, 1) := by decide +kernel
theorem dL_law_148 : decode cL_law 148 = .ok (.iaload, 1) := by decide +kernel
theorem dL_law_149 : decode cL_law 149 = .ok (.aload_n 0, 1) := by decide +kernel
theorem dL_law_150 : decode cL_law 150 = .ok (.iload_n 3, 1) := by decide +kernel
theorem dL_law_151 : decode cL_law 151 = .ok (.iconst 2, 1) := by decide +kernel
theorem dL_law_152 : decode cL_law 152 = .ok (.iadd, 1) := by decide +kernel
theorem dL_law_153 : decode cL_law 153 = .ok (.iaload, 1) := by decide +kernel
theorem dL_law_154 : decode cL_law 154 = .ok (.aload_n 0, 1) := by decide +kernel
theorem dL_law_155 : decode cL_law 155 = .ok (.iload_n 3, 1) := by decide +kernel
theorem dL_law_156 : decode cL_law 156 = .ok (.iconst 3, 1) := by decide +kernel
theorem dL_law_157 : decode cL_law 157 = .ok (.iadd, 1) := by decide +kernel
theorem dL_law_158 : decode cL_law 158 = .ok (.iaload, 1) := by decide +kernel
theorem dL_law_159 : decode cL_law 159 = .ok (.invokevirtual 25, 3) := by decide +kernel
theorem dL_law_162 : decode cL_law 162 = .ok (.if_icmp .eq 228, 3) := by decide +kernel
theorem dL_law_165 : decode cL_law 165 = .ok (.iconst 0, 1) := by decide +kernel
theorem dL_law_166 : decode cL_law 166 = .ok (.ireturn, 1) := by decide +kernel
theorem dL_law_167 : decode cL_law 167 = .ok (.aload_n 1, 1) := by decide +kernel
theorem dL_law_168 : decode cL_law 168 = .ok (.invokevirtual 26, 3) := by decide +kernel
theorem dL_law_171 : decode cL_law 171 = .ok (.aload_n 2, 1) := by decide +kernel
theorem dL_law_172 : decode cL_law 172 = .ok (.invokevirtual 30, 3) := by decide +kernel
theorem dL_law_175 : decode cL_law 175 = .ok (.if_icmp .eq 215, 3) := by decide +kernel
theorem dL_law_178 : decode cL_law 178 = .ok (.iconst 0, 1) := by decide +kernel
theorem dL_law_179 : decode cL_law 179 = .ok (.ireturn, 1) := by decide +kernel
theorem dL_law_180 : decode cL_law 180 = .ok (.aload_n 1, 1) := by decide +kernel
theorem dL_law_181 : decode cL_law 181 = .ok (.invokevirtual 31, 3) := by decide +kernel
theorem dL_law_184 : decode cL_law 184 = .ok (.aload_n 2, 1) := by decide +kernel
theorem dL_law_185 : decode cL_law 185 = .ok (.invokevirtual 34, 3) := by decide +kernel
theorem dL_law_188 : decode cL_law 188 = .ok (.if_icmp .eq 202, 3) := by decide +kernel
theorem dL_law_191 : decode cL_law 191 = .ok (.iconst 0, 1) := by decide +kernel
theorem dL_law_192 : decode cL_law 192 = .ok (.ireturn, 1) := by decide +kernel
theorem dL_law_193 : decode cL_law 193 = .ok (.aload_n 1, 1) := by decide +kernel
theorem dL_law_194 : decode cL_law 194 = .ok (.aload_n 0, 1) := by decide +kernel
theorem dL_law_195 : decode cL_law 195 = .ok (.iload_n 3, 1) := by decide +kernel
theorem dL_law_196 : decode cL_law 196 = .ok (.iconst 1, 1) := by decide +kernel
theorem dL_law_197 : decode cL_law 197 = .ok (.iadd, 1) := by decide +kernel
theorem dL_law_198 : decode cL_law 198 = .ok (.iaload, 1) := by decide +kernel
theorem dL_law_199 : decode cL_law 199 = .ok (.aload_n 0, 1) := by decide +kernel
theorem dL_law_200 : decode cL_law 200 = .ok (.iload_n 3, 1) := by decide +kernel
theorem dL_law_201 : decode cL_law 201 = .ok (.iconst 2, 1) := by decide +kernel
theorem dL_law_202 : decode cL_law 202 = .ok (.iadd, 1) := by decide +kernel
theorem dL_law_203 : decode cL_law 203 = .ok (.iaload, 1) := by decide +kernel
theorem dL_law_204 : decode cL_law 204 = .ok (.invokevirtual 35, 3) := by decide +kernel
theorem dL_law_207 : decode cL_law 207 = .ok (.aload_n 2, 1) := by decide +kernel
theorem dL_law_208 : decode cL_law 208 = .ok (.aload_n 0, 1) := by decide +kernel
theorem dL_law_209 : decode cL_law 209 = .ok (.iload_n 3, 1) := by decide +kernel
theorem dL_law_210 : decode cL_law 210 = .ok (.iconst 1, 1) := by decide +kernel
theorem dL_law_211 : decode cL_law 211 = .ok (.iadd, 1) := by decide +kernel
theorem dL_law_212 : decode cL_law 212 = .ok (.iaload, 1) := by decide +kernel
theorem dL_law_213 : decode cL_law 213 = .ok (.aload_n 0, 1) := by decide +kernel
theorem dL_law_214 : decode cL_law 214 = .ok (.iload_n 3, 1) := by decide +kernel
theorem dL_law_215 : decode cL_law 215 = .ok (.iconst 2, 1) := by decide +kernel
theorem dL_law_216 : decode cL_law 216 = .ok (.iadd, 1) := by decide +kernel
theorem dL_law_217 : decode cL_law 217 = .ok (.iaload, 1) := by decide +kernel
theorem dL_law_218 : decode cL_law 218 = .ok (.invokevirtual 39, 3) := by decide +kernel
theorem dL_law_221 : decode cL_law 221 = .ok (.if_icmp .eq 169, 3) := by decide +kernel
theorem dL_law_224 : decode cL_law 224 = .ok (.iconst 0, 1) := by decide +kernel
theorem dL_law_225 : decode cL_law 225 = .ok (.ireturn, 1) := by decide +kernel
theorem dL_law_226 : decode cL_law 226 = .ok (.aload_n 1, 1) := by decide +kernel
theorem dL_law_227 : decode cL_law 227 = .ok (.aload_n 0, 1) := by decide +kernel
theorem dL_law_228 : decode cL_law 228 = .ok (.iload_n 3, 1) := by decide +kernel
theorem dL_law_229 : decode cL_law 229 = .ok (.iconst 1, 1) := by decide +kernel
theorem dL_law_230 : decode cL_law 230 = .ok (.iadd, 1) := by decide +kernel
theorem dL_law_231 : decode cL_law 231 = .ok (.iaload, 1) := by decide +kernel
theorem dL_law_232 : decode cL_law 232 = .ok (.invokevirtual 40, 3) := by decide +kernel
theorem dL_law_235 : decode cL_law 235 = .ok (.aload_n 2, 1) := by decide +kernel
theorem dL_law_236 : decode cL_law 236 = .ok (.aload_n 0, 1) := by decide +kernel
theorem dL_law_237 : decode cL_law 237 = .ok (.iload_n 3, 1) := by decide +kernel
theorem dL_law_238 : decode cL_law 238 = .ok (.iconst 1, 1) := by decide +kernel
theorem dL_law_239 : decode cL_law 239 = .ok (.iadd, 1) := by decide +kernel
theorem dL_law_240 : decode cL_law 240 = .ok (.iaload, 1) := by decide +kernel
theorem dL_law_241 : decode cL_law 241 = .ok (.invokevirtual 44, 3) := by decide +kernel
theorem dL_law_244 : decode cL_law 244 = .ok (.if_icmp .eq 146, 3) := by decide +kernel
theorem dL_law_247 : decode cL_law 247 = .ok (.iconst 0, 1) := by decide +kernel
theorem dL_law_248 : decode cL_law 248 = .ok (.ireturn, 1) := by decide +kernel
theorem dL_law_249 : decode cL_law 249 = .ok (.aload_n 1, 1) := by decide +kernel
theorem dL_law_250 : decode cL_law 250 = .ok (.aload_n 0, 1) := by decide +kernel
theorem dL_law_251 : decode cL_law 251 = .ok (.iload_n 3, 1) := by decide +kernel
theorem dL_law_252 : decode cL_law 252 = .ok (.iconst 1, 1) := by decide +kernel
theorem dL_law_253 : decode cL_law 253 = .ok (.iadd, 1) := by decide +kernel
theorem dL_law_254 : decode cL_law 254 = .ok (.iaload, 1) := by decide +kernel
theorem dL_law_255 : decode cL_law 255 = .ok (.invokevirtual 45, 3) := by decide +kernel
theorem dL_law_258 : decode cL_law 258 = .ok (.aload_n 2, 1) := by decide +kernel
theorem dL_law_259 : decode cL_law 259 = .ok (.aload_n 0, 1) := by decide +kernel
theorem dL_law_260 : decode cL_law 260 = .ok (.iload_n 3, 1) := by decide +kernel
theorem dL_law_261 : decode cL_law 261 = .ok (.iconst 1, 1) := by decide +kernel
theorem dL_law_262 : decode cL_law 262 = .ok (.iadd, 1) := by decide +kernel
theorem dL_law_263 : decode cL_law 263 = .ok (.iaload, 1) := by decide +kernel
theorem dL_law_264 : decode cL_law 264 = .ok (.invokevirtual 48, 3) := by decide +kernel
theorem dL_law_267 : decode cL_law 267 = .ok (.if_icmp .eq 123, 3) := by decide +kernel
theorem dL_law_270 : decode cL_law 270 = .ok (.iconst 0, 1) := by decide +kernel
theorem dL_law_271 : decode cL_law 271 = .ok (.ireturn, 1) := by decide +kernel
theorem dL_law_272 : decode cL_law 272 = .ok (.aload_n 1, 1) := by decide +kernel
theorem dL_law_273 : decode cL_law 273 = .ok (.aload_n 0, 1) := by decide +kernel
theorem dL_law_274 : decode cL_law 274 = .ok (.iload_n 3, 1) := by decide +kernel
theorem dL_law_275 : decode cL_law 275 = .ok (.iconst 1, 1) := by decide +kernel
theorem dL_law_276 : decode cL_law 276 = .ok (.iadd, 1) := by decide +kernel
theorem dL_law_277 : decode cL_law 277 = .ok (.iaload, 1) := by decide +kernel
theorem dL_law_278 : decode cL_law 278 = .ok (.aload_n 0, 1) := by decide +kernel
theorem dL_law_279 : decode cL_law 279 = .ok (.iload_n 3, 1) := by decide +kernel
theorem dL_law_280 : decode cL_law 280 = .ok (.iconst 2, 1) := by decide +kernel
theorem dL_law_281 : decode cL_law 281 = .ok (.iadd, 1) := by decide +kernel
theorem dL_law_282 : decode cL_law 282 = .ok (.iaload, 1) := by decide +kernel
theorem dL_law_283 : decode cL_law 283 = .ok (.invokevirtual 49, 3) := by decide +kernel
theorem dL_law_286 : decode cL_law 286 = .ok (.aload_n 2, 1) := by decide +kernel
theorem dL_law_287 : decode cL_law 287 = .ok (.aload_n 0, 1) := by decide +kernel
theorem dL_law_288 : decode cL_law 288 = .ok (.iload_n 3, 1) := by decide +kernel
theorem dL_law_289 : decode cL_law 289 = .ok (.iconst 1, 1) := by decide +kernel
theorem dL_law_290 : decode cL_law 290 = .ok (.iadd, 1) := by decide +kernel
theorem dL_law_291 : decode cL_law 291 = .ok (.iaload, 1) := by decide +kernel
theorem dL_law_292 : decode cL_law 292 = .ok (.aload_n 0, 1) := by decide +kernel
theorem dL_law_293 : decode cL_law 293 = .ok (.iload_n 3, 1) := by decide +kernel
theorem dL_law_294 : decode cL_law 294 = .ok (.iconst 2, 1) := by decide +kernel
theorem dL_law_295 : decode cL_law 295 = .ok (.iadd, 1) := by decide +kernel
theorem dL_law_296 : decode cL_law 296 = .ok (.iaload, 1) := by decide +kernel
theorem dL_law_297 : decode cL_law 297 = .ok (.invokevirtual 53, 3) := by decide +kernel
theorem dL_law_300 : decode cL_law 300 = .ok (.if_icmp .eq 90, 3) := by decide +kernel
theorem dL_law_303 : decode cL_law 303 = .ok (.iconst 0, 1) := by decide +kernel
theorem dL_law_304 : decode cL_law 304 = .ok (.ireturn, 1) := by decide +kernel
theorem dL_law_305 : decode cL_law 305 = .ok (.aload_n 1, 1) := by decide +kernel
theorem dL_law_306 : decode cL_law 306 = .ok (.invokevirtual 54, 3) := by decide +kernel
theorem dL_law_309 : decode cL_law 309 = .ok (.aload_n 2, 1) := by decide +kernel
theorem dL_law_310 : decode cL_law 310 = .ok (.invokevirtual 58, 3) := by decide +kernel
theorem dL_law_313 : decode cL_law 313 = .ok (.if_icmp .eq 77, 3) := by decide +kernel
theorem dL_law_316 : decode cL_law 316 = .ok (.iconst 0, 1) := by decide +kernel
theorem dL_law_317 : decode cL_law 317 = .ok (.ireturn, 1) := by decide +kernel
theorem dL_law_318 : decode cL_law 318 = .ok (.aload_n 1, 1) := by decide +kernel
theorem dL_law_319 : decode cL_law 319 = .ok (.aload_n 0, 1) := by decide +kernel
theorem dL_law_320 : decode cL_law 320 = .ok (.iload_n 3, 1) := by decide +kernel
theorem dL_law_321 : decode cL_law 321 = .ok (.iconst 1, 1) := by decide +kernel
theorem dL_law_322 : decode cL_law 322 = .ok (.iadd, 1) := by decide +kernel
theorem dL_law_323 : decode cL_law 323 = .ok (.iaload, 1) := by decide +kernel
theorem dL_law_324 : decode cL_law 324 = .ok (.invokevirtual 59, 3) := by decide +kernel
theorem dL_law_327 : decode cL_law 327 = .ok (.aload_n 2, 1) := by decide +kernel
theorem dL_law_328 : decode cL_law 328 = .ok (.aload_n 0, 1) := by decide +kernel
theorem dL_law_329 : decode cL_law 329 = .ok (.iload_n 3, 1) := by decide +kernel
theorem dL_law_330 : decode cL_law 330 = .ok (.iconst 1, 1) := by decide +kernel
theorem dL_law_331 : decode cL_law 331 = .ok (.iadd, 1) := by decide +kernel
theorem dL_law_332 : decode cL_law 332 = .ok (.iaload, 1) := by decide +kernel
theorem dL_law_333 : decode cL_law 333 = .ok (.invokevirtual 62, 3) := by decide +kernel
theorem dL_law_336 : decode cL_law 336 = .ok (.if_icmp .eq 54, 3) := by decide +kernel
theorem dL_law_339 : decode cL_law 339 = .ok (.iconst 0, 1) := by decide +kernel
theorem dL_law_340 : decode cL_law 340 = .ok (.ireturn, 1) := by decide +kernel
theorem dL_law_341 : decode cL_law 341 = .ok (.aload_n 1, 1) := by decide +kernel
theorem dL_law_342 : decode cL_law 342 = .ok (.invokevirtual 63, 3) := by decide +kernel
theorem dL_law_345 : decode cL_law 345 = .ok (.aload_n 2, 1) := by decide +kernel
theorem dL_law_346 : decode cL_law 346 = .ok (.invokevirtual 66, 3) := by decide +kernel
theorem dL_law_349 : decode cL_law 349 = .ok (.if_icmp .eq 41, 3) := by decide +kernel
theorem dL_law_352 : decode cL_law 352 = .ok (.iconst 0, 1) := by decide +kernel
theorem dL_law_353 : decode cL_law 353 = .ok (.ireturn, 1) := by decide +kernel
theorem dL_law_354 : decode cL_law 354 = .ok (.aload_n 1, 1) := by decide +kernel
theorem dL_law_355 : decode cL_law 355 = .ok (.invokevirtual 67, 3) := by decide +kernel
theorem dL_law_358 : decode cL_law 358 = .ok (.aload_n 2, 1) := by decide +kernel
theorem dL_law_359 : decode cL_law 359 = .ok (.invokevirtual 70, 3) := by decide +kernel
theorem dL_law_362 : decode cL_law 362 = .ok (.if_icmp .eq 28, 3) := by decide +kernel
theorem dL_law_365 : decode cL_law 365 = .ok (.iconst 0, 1) := by decide +kernel
theorem dL_law_366 : decode cL_law 366 = .ok (.ireturn, 1) := by decide +kernel
theorem dL_law_367 : decode cL_law 367 = .ok (.aload_n 1, 1) := by decide +kernel
theorem dL_law_368 : decode cL_law 368 = .ok (.aload_n 0, 1) := by decide +kernel
theorem dL_law_369 : decode cL_law 369 = .ok (.iload_n 3, 1) := by decide +kernel
theorem dL_law_370 : decode cL_law 370 = .ok (.iconst 1, 1) := by decide +kernel
theorem dL_law_371 : decode cL_law 371 = .ok (.iadd, 1) := by decide +kernel
theorem dL_law_372 : decode cL_law 372 = .ok (.iaload, 1) := by decide +kernel
theorem dL_law_373 : decode cL_law 373 = .ok (.invokevirtual 71, 3) := by decide +kernel
theorem dL_law_376 : decode cL_law 376 = .ok (.aload_n 2, 1) := by decide +kernel
theorem dL_law_377 : decode cL_law 377 = .ok (.aload_n 0, 1) := by decide +kernel
theorem dL_law_378 : decode cL_law 378 = .ok (.iload_n 3, 1) := by decide +kernel
theorem dL_law_379 : decode cL_law 379 = .ok (.iconst 1, 1) := by decide +kernel
theorem dL_law_380 : decode cL_law 380 = .ok (.iadd, 1) := by decide +kernel
theorem dL_law_381 : decode cL_law 381 = .ok (.iaload, 1) := by decide +kernel
theorem dL_law_382 : decode cL_law 382 = .ok (.invokevirtual 74, 3) := by decide +kernel
theorem dL_law_385 : decode cL_law 385 = .ok (.if_icmp .eq 5, 3) := by decide +kernel
theorem dL_law_388 : decode cL_law 388 = .ok (.iconst 0, 1) := by decide +kernel
theorem dL_law_389 : decode cL_law 389 = .ok (.ireturn, 1) := by decide +kernel
theorem dL_law_390 : decode cL_law 390 = .ok (.iinc 3 4, 3) := by decide +kernel
theorem dL_law_393 : decode cL_law 393 = .ok (.goto (-345), 3) := by decide +kernel
theorem dL_law_396 : decode cL_law 396 = .ok (.iconst 1, 1) := by decide +kernel
theorem dL_law_397 : decode cL_law 397 = .ok (.ireturn, 1) := by decide +kernel
end
section
/-! the rows that every walk here uses: classes, nest words, worlds that keep their addresses, calls -/
set_option maxRecDepth 100000
abbrev vwCl : List vw_C := [(RX1, TX1, 10), (RX2, TX2, 5), (RX3, TX3, 4), (RX4, TX4, 9)]
def nwF : List (Nat × String × String × String) := [(82, "RowSparse$Matrix", "start", "[I"), (85, "RowSparse$Matrix", "column", "[I"), (88, "RowSparse$Matrix", "value", "[I"), (62, "RowSparse$Matrix", "rows", "I"), (69, "RowSparse$Matrix", "cols", "I"), (91, "RowSparse$Heap", "row", "[I"), (94, "RowSparse$Heap", "column", "[I"), (95, "RowSparse$Heap", "value", "[I"), (72, "RowSparse$Heap", "size", "I")]
def nwM : List (Nat × MethodName) := [(11, yX2_init), (21, yX3_init)]
/-- RowSparse sees its nest mates' private fields and constructors -/
def nw_ (U : State) : Prop := (∀ q ∈ nwF, va_Nw (.fieldLinkNest RX1 q.1 q.2.1 q.2.2.1 q.2.2.2 RX1) U) ∧ ∀ q ∈ nwM, va_Nw (.methodLinkNest RX1 q.1 q.2 RX1) U
theorem nw_.warm {s U : State} (hW : s.WarmedH U.vm) (h : nw_ s) : nw_ U := ⟨fun q hq => va_Nw.warmF hW (h.1 q hq), fun q hq => va_Nw.warmM hW (h.2 q hq)⟩
theorem nw_.same {u U : State} (e : u.vm = U.vm) (h : nw_ u) : nw_ U := ⟨fun q hq => va_Nw.same rfl e (h.1 q hq), fun q hq => va_Nw.same rfl e (h.2 q hq)⟩
theorem nw_.fld {U : State} (h : nw_ U) (i : Nat) {k : Nat} {a b c : String} (hi : nwF[i]? = some (k, a, b, c)) : va_Nw (.fieldLinkNest RX1 k a b c RX1) U := h.1 (k, a, b, c) (List.mem_of_getElem? hi)
theorem nw_.mth {U : State} (h : nw_ U) (i : Nat) {k : Nat} {y : MethodName} (hi : nwM[i]? = some (k, y)) : va_Nw (.methodLinkNest RX1 k y RX1) U := h.2 (k, y) (List.mem_of_getElem? hi)
/-- the tables as every method here sees them: four classes, int arrays of class d, nest words -/
def KK (D : va_G) (d : ClassId) (U : State) : Prop := va_K D vwCl [(d, .int)] U ∧ nw_ U
theorem KK.warm {D : va_G} {d : ClassId} {s U : State} (hW : s.WarmedH U.vm) (h : KK D d s) : KK D d U := ⟨va_K.moved hW.alike h.1, h.2.warm hW⟩
theorem KK.same {D : va_G} {d : ClassId} {u U : State} (e : u.vm = U.vm) (h : KK D d u) : KK D d U := ⟨va_K.moved (by rw [e]; exact Vm.Alike.refl U.vm) h.1, h.2.same e⟩
abbrev cO (a ci : Nat) (fs : List Value) : Nat × va_E := (a, .inr (ci, fs))
abbrev cA (d : ClassId) (a n : Nat) (f : Nat → Int32) : Nat × va_E := (a, .inl (d, n, .inl f))
/-- the cells of a world -/
def zs (ws : va_W) : Nat → Prop := fun q => ∃ (k : Nat) (e : va_E), ws[k]? = some (q, e)
theorem zs_self {A : Nat → Prop} {ws : va_W} (h : va_D A ws) : va_D (zs ws) ws := ⟨h.1, fun k q hk => ⟨k, q.2, hk⟩⟩
def Wd (D : va_G) (A : Nat → Prop) (H0 : Heap) (ws : va_W) (H : Heap) (locs : List Loc) : Prop := va_P D vwCl ws H ∧ va_D A ws ∧ va_S A H0 H locs
/-- a contract's start -/
abbrev pc_ (av : List Value) (D : va_G) (d : ClassId) (X : Heap → Prop) : Array Value → State → Prop := va_Pc av (fun U => X U.heap ∧ KK D d U)
theorem pc_blind {av : List Value} {D : va_G} {d : ClassId} {X : Heap → Prop} : FrameBlind (pc_ av D d X) := fun _ _ _ _ q => ⟨q.1, q.2.1, q.2.2.same rfl⟩
abbrev xw (D : va_G) (ws : va_W) : Heap → Prop := fun H => va_P D vwCl ws H ∧ va_D (fun _ => True) ws
/-- the contents at some places, anew -/
def pa_ (ws : va_W) : List Nat → va_W → va_W
  | i :: is, q :: qs => pa_ (ws.set i q) is qs
  | _, _ => ws
theorem pa_get : ∀ (is : List Nat) (w1 ws : va_W) (k : Nat) (q : Nat × va_E), is.length = w1.length → (pa_ ws is w1)[k]? = some q → (∃ t : Nat, w1[t]? = some q ∧ is[t]? = some k) ∨ (ws[k]? = some q ∧ k ∉ is)
  | [], [], ws, k, q, _, h => Or.inr ⟨h, List.not_mem_nil⟩
  | [], _ :: _, _, _, _, hl, _ => by simp at hl
  | _ :: _, [], _, _, _, hl, _ => by simp at hl
  | i :: is, q0 :: qs, ws, k, q, hl, h => by
    have hl : is.length = qs.length := by simpa using hl
    rcases pa_get is qs (ws.set i q0) k q hl h with ⟨t, h1, h2⟩ | ⟨h1, h2⟩
    · exact Or.inl ⟨t + 1, by simpa using h1, by simpa using h2⟩
    · by_cases hk : i = k
      · subst hk
        rw [List.getElem?_set] at h1
        simp only [if_true] at h1
        split at h1
        · cases h1
          exact Or.inl ⟨0, rfl, rfl⟩
        · cases h1
      · rw [List.getElem?_set_ne hk] at h1
        exact Or.inr ⟨h1, by simp only [List.mem_cons, not_or]; exact ⟨fun e => hk e.symm, h2⟩⟩
theorem w_at {ws w : va_W} {is : List Nat} (hs : is.map (fun i => ws[i]?) = w.map some) {k : Nat} {q : Nat × va_E} (hq : w[k]? = some q) : ∃ i, is[k]? = some i ∧ ws[i]? = some q := by
  have h1 : (is.map (fun i => ws[i]?))[k]? = some (some q) := by rw [hs, List.getElem?_map, hq]; rfl
  rw [List.getElem?_map] at h1
  cases hi : is[k]? with
  | none => rw [hi] at h1; cases h1
  | some i => rw [hi] at h1; exact ⟨i, rfl, Option.some.inj h1⟩
theorem w_fst {w1 wc : va_W} (hs : w1.map Prod.fst = wc.map Prod.fst) {t : Nat} {q : Nat × va_E} (h : w1[t]? = some q) : ∃ q0, wc[t]? = some q0 ∧ q0.1 = q.1 := by
  have h1 : (w1.map Prod.fst)[t]? = some q.1 := by rw [List.getElem?_map, h]; rfl
  rw [hs, List.getElem?_map] at h1
  cases hi : wc[t]? with
  | none => rw [hi] at h1; cases h1
  | some q0 => rw [hi] at h1; exact ⟨q0, rfl, Option.some.inj h1⟩
/-- a call's cells, cut out of the caller's world -/
theorem w_cut {D : va_G} {A : Nat → Prop} {H0 H : Heap} {locs : List Loc} {ws wc : va_W} (hw : Wd D A H0 ws H locs) (is : List Nat) (hn : va_nd is = true) (hC : is.map (fun i => ws[i]?) = wc.map some) : xw D wc H := by
  refine ⟨fun k q hq => ?_, (hw.2.1.sub is hn hC).weaken (fun _ _ _ _ => trivial)⟩
  obtain ⟨i, -, h2⟩ := w_at hC hq
  exact hw.1 i q h2
theorem w_zs {D : va_G} {A : Nat → Prop} {H0 H : Heap} {locs : List Loc} {ws wc : va_W} (hw : Wd D A H0 ws H locs) (is : List Nat) (hC : is.map (fun i => ws[i]?) = wc.map some) : ∀ q, zs wc q → A q := by
  intro q ⟨k, e, h⟩
  obtain ⟨i, -, h2⟩ := w_at hC h
  exact hw.2.1.2 i _ h2
/-- behind a call that keeps its cells' addresses: the caller's world with the callee's contents anew -/
theorem w_join {D : va_G} {A : Nat → Prop} {H0 H H1 : Heap} {locs locs1 : List Loc} {ws wc w1 : va_W} (hw : Wd D A H0 ws H locs) (is : List Nat) (hC : is.map (fun i => ws[i]?) = wc.map some) (hs : w1.map Prod.fst = wc.map Prod.fst)
    (hk : ∀ q : Nat, q < H.size → ¬ zs wc q → H1[q]? = H[q]?) (hP1 : va_P D vwCl w1 H1) (hS1 : va_S A H0 H1 locs1) : Wd D A H0 (pa_ ws is w1) H1 locs1 := by
  have hlen : is.length = w1.length := by
    have h1 := congrArg List.length hC
    have h2 := congrArg List.length hs
    simp only [List.length_map] at h1 h2
    omega
  have ad : ∀ (k : Nat) (q : Nat × va_E), (pa_ ws is w1)[k]? = some q → ∃ q0, ws[k]? = some q0 ∧ q0.1 = q.1 := by
    intro k q h
    rcases pa_get is w1 ws k q hlen h with ⟨t, h1, h2⟩ | ⟨h1, -⟩
    · obtain ⟨q0, h3, h4⟩ := w_fst hs h1
      obtain ⟨i, h5, h6⟩ := w_at hC h3
      rw [h2] at h5
      cases h5
      exact ⟨q0, h6, h4⟩
    · exact ⟨q, h1, rfl⟩
  refine ⟨fun k q h => ?_, ⟨fun i j x y hi hj hxy => ?_, fun k q h => ?_⟩, hS1⟩
  · rcases pa_get is w1 ws k q hlen h with ⟨t, h1, -⟩ | ⟨h1, h2⟩
    · exact hP1 t q h1
    · refine (hw.1 k q h1).kept (hk q.1 (hw.1 k q h1).lt ?_)
      rintro ⟨t, e, h3⟩
      obtain ⟨i, h4, h5⟩ := w_at hC h3
      have := hw.2.1.1 k i q _ h1 h5 rfl
      subst this
      exact h2 (List.mem_of_getElem? h4)
  · obtain ⟨x0, h1, h2⟩ := ad i x hi
    obtain ⟨y0, h3, h4⟩ := ad j y hj
    exact hw.2.1.1 i j x0 y0 h1 h3 (h2.trans (hxy.trans h4.symm))
  · obtain ⟨q0, h1, h2⟩ := ad k q h
    rw [← h2]
    exact hw.2.1.2 k q0 h1
/-- what holds all through a method's walk -/
abbrev Cx (p : Program) (s : State) (m : MethodId) (args : Array Value) (meth : Method) (c : Code) (cc : ByteArray) (nL : Nat) (own : String) (ret : Option FieldType) (D : va_G) (d : ClassId) : Prop := CallFix p m c cc nL s args lw_all own ∧ KK D d s ∧ meth.sig.returnType = ret ∧ meth.locks = false
/-- a contract, from its walk -/
theorem mt_ofW {l : Launch} {y : MethodName} {cc : ByteArray} {maxL : Nat} {ret : Option FieldType} {rm : Room} {av : List Value} {D : va_G} {d : ClassId} {X : Heap → Prop} {Qc : Array Value → State → Outcome → State → Prop} {mc ms : Nat} {free : Addr → Prop} {own : String} (ho : y.cls = own) (hy : plainName y.cls = true) (hlen : (lg_sl av).length ≤ maxL)
    (body : ∀ (p : Program) (e : Env) (s : State) (m : MethodId) (below : List Frame) (meth : Method) (c : Code), Cx p s m av.toArray meth c cc maxL own ret D d → meth.name = y.name → X s.heap → ∀ ls : Array Slot, lv_has ls maxL (lv_args 0 av) → W p l e rm s m av.toArray below meth c s.heap [] 0 0 (MQ below Qc av.toArray s mc ms free) (F0 m 0 ls [])) :
    Met l y (ws_ y cc maxL ret) rm (pc_ av D d X) Qc mc ms free := by
  refine Met.ofW (cc := cc) (maxL := maxL) (ret := ret) hy rfl ?_
  intro p e s m args below meth c s₁ B hml hv
  obtain ⟨rfl, hX, hKK⟩ := hv
  have hts := atoms_spec (ws := ws_ y cc maxL ret) B.pre
  have hts : ∀ w ∈ lw_all, w.before _ s = true := fun w h => hts w (List.mem_cons_of_mem _ h)
  have hown : s.vm.findClass own = some m.cls := by rw [← ho]; exact findClass_of_methodNamed B.named
  have hl := lv_entry av (n := maxL) hlen
  rw [lg_entry_eq]
  generalize (lg_sl av ++ List.replicate (maxL - (lg_sl av).length) Slot.unset).toArray = ls at hl ⊢
  exact body p e s m below meth c ⟨⟨B.exec, B.bytes, hml, hown, hts⟩, hKK, B.returns, B.notSynchronized⟩ (name_of_methodNamed B.named B.method).1 hX ls hl
section RW
variable {p : Program} {l : Launch} {e : Env} {R : Room} {s : State} {m : MethodId} {args : Array Value} {below : List Frame} {meth : Method} {c : Code} {H : Heap} {locs : List Loc} {cells slots : Nat} {Q : State → Prop}
variable {cc : ByteArray} {pc : Nat} {ls : Array Slot} {rest : List Value} {D : va_G} {d : ClassId} {A : Nat → Prop} {a : Nat} {ws : va_W} {H0 : Heap} {nL : Nat} {own : String} {ret : Option FieldType}
theorem w_top {x y : Int32} (h : x = y) (k : W p l e R s m args below meth c H locs cells slots Q (F0 m pc ls (.int y :: rest))) : W p l e R s m args below meth c H locs cells slots Q (F0 m pc ls (.int x :: rest)) := h ▸ k
/-- getfield of the class's own, and of a nest mate's -/
theorem w_get (C : Cx p s m args meth c cc nL own ret D d) (hw : Wd D A H0 ws H locs) (q0 : Nat) {ci : Nat} {fs : List Value} (he : ws[q0]? = some (a, .inr (ci, fs))) {Cn : String} {T : u_T} {N : Nat} (hin : ∀ w ∈ u_ws Cn T N, w ∈ lw_all) (hc : vwCl[ci]? = some (Cn, T, N)) (k : Nat) (hk : k < N) {index : Nat} (hlink : (Cond.fieldLink own index (T k).1 (T k).2.1 (T k).2.2.1) ∈ lw_all) {v : Value} (hv : fs[k]? = some v) (hdg : decode cc pc = .ok (.getfield index, 3))
    (kk : W p l e R s m args below meth c H locs cells slots Q (F0 m (pc + 3) ls (v :: rest))) : W p l e R s m args below meth c H locs cells slots Q (F0 m pc ls (.ref a :: rest)) :=
  va_get C.1.1 C.1.2.1 C.1.2.2.2.2 hin C.1.2.2.2.1 C.2.1.1 hw.1 q0 he hc k hk (C.1.2.2.2.2 _ hlink) (fun _ h9 => h9) hv hdg kk
theorem w_getN (C : Cx p s m args meth c cc nL RX1 ret D d) (hw : Wd D A H0 ws H locs) (q0 : Nat) {ci : Nat} {fs : List Value} (he : ws[q0]? = some (a, .inr (ci, fs))) {Cn : String} {T : u_T} {N : Nat} (hin : ∀ w ∈ u_ws Cn T N, w ∈ lw_all) (hc : vwCl[ci]? = some (Cn, T, N)) (k : Nat) (hk : k < N) {index : Nat} (i : Nat) (hi : nwF[i]? = some (index, (T k).1, (T k).2.1, (T k).2.2.1)) {v : Value} (hv : fs[k]? = some v) (hdg : decode cc pc = .ok (.getfield index, 3))
    (kk : W p l e R s m args below meth c H locs cells slots Q (F0 m (pc + 3) ls (v :: rest))) : W p l e R s m args below meth c H locs cells slots Q (F0 m pc ls (.ref a :: rest)) :=
  va_getN C.1.1 C.1.2.1 C.1.2.2.2.2 hin C.1.2.2.2.1 C.2.1.1 hw.1 q0 he hc k hk (va_Nw.use rfl (C.2.1.2.fld i hi)) (fun _ h9 => h9) hv hdg kk
theorem w_put (C : Cx p s m args meth c cc nL own ret D d) (hw : Wd D A H0 ws H locs) (q0 : Nat) {ci : Nat} {fs : List Value} (he : ws[q0]? = some (a, .inr (ci, fs))) {Cn : String} {T : u_T} {N : Nat} (hin : ∀ w ∈ u_ws Cn T N, w ∈ lw_all) (ty0 : Nat → FieldType) (hty : ∀ k, k < N → parseFieldDescriptor (T k).2.2.1 = some (ty0 k)) (hnm : ∀ a, a < N → ∀ b, b < N → a ≠ b → (T a).2.1 ≠ (T b).2.1) (hc : vwCl[ci]? = some (Cn, T, N)) (k : Nat) (hk : k < N) {index : Nat} (hlink : (Cond.fieldLink own index (T k).1 (T k).2.1 (T k).2.2.1) ∈ lw_all) (hfin : (T k).2.2.2 = false) {v : Value} (hn : narrow (ty0 k) v = v) (hfit : fits (ty0 k) v = true) (hl : k < fs.length) (hdg : decode cc pc = .ok (.putfield index, 3))
    (kk : ∀ (H1 : Heap) (locs1 : List Loc), Wd D A H0 (ws.set q0 (a, .inr (ci, fs.set k v))) H1 locs1 → W p l e R s m args below meth c H1 locs1 cells slots Q (F0 m (pc + 3) ls rest)) : W p l e R s m args below meth c H locs cells slots Q (F0 m pc ls (v :: .ref a :: rest)) :=
  va_put C.1.1 C.1.2.1 C.1.2.2.2.2 hin ty0 hty hnm C.1.2.2.2.1 C.2.1.1 hw.1 hw.2.1 hw.2.2 q0 he hc k hk (C.1.2.2.2.2 _ hlink) (fun _ h9 => h9) hfin (hty k hk) hn hfit hl hdg (fun H1 locs1 h1 h2 h3 => kk H1 locs1 ⟨h1, h2, h3⟩)
theorem w_putN (C : Cx p s m args meth c cc nL RX1 ret D d) (hw : Wd D A H0 ws H locs) (q0 : Nat) {ci : Nat} {fs : List Value} (he : ws[q0]? = some (a, .inr (ci, fs))) {Cn : String} {T : u_T} {N : Nat} (hin : ∀ w ∈ u_ws Cn T N, w ∈ lw_all) (ty0 : Nat → FieldType) (hty : ∀ k, k < N → parseFieldDescriptor (T k).2.2.1 = some (ty0 k)) (hnm : ∀ a, a < N → ∀ b, b < N → a ≠ b → (T a).2.1 ≠ (T b).2.1) (hc : vwCl[ci]? = some (Cn, T, N)) (k : Nat) (hk : k < N) {index : Nat} (i : Nat) (hi : nwF[i]? = some (index, (T k).1, (T k).2.1, (T k).2.2.1)) (hfin : (T k).2.2.2 = false) {v : Value} (hn : narrow (ty0 k) v = v) (hfit : fits (ty0 k) v = true) (hl : k < fs.length) (hdg : decode cc pc = .ok (.putfield index, 3))
    (kk : ∀ (H1 : Heap) (locs1 : List Loc), Wd D A H0 (ws.set q0 (a, .inr (ci, fs.set k v))) H1 locs1 → W p l e R s m args below meth c H1 locs1 cells slots Q (F0 m (pc + 3) ls rest)) : W p l e R s m args below meth c H locs cells slots Q (F0 m pc ls (v :: .ref a :: rest)) :=
  va_putN C.1.1 C.1.2.1 C.1.2.2.2.2 hin ty0 hty hnm C.1.2.2.2.1 C.2.1.1 hw.1 hw.2.1 hw.2.2 q0 he hc k hk (va_Nw.use rfl (C.2.1.2.fld i hi)) (fun _ h9 => h9) hfin (hty k hk) hn hfit hl hdg (fun H1 locs1 h1 h2 h3 => kk H1 locs1 ⟨h1, h2, h3⟩)
/-- int arrays, by Nat -/
theorem w_iald (C : Cx p s m args meth c cc nL own ret D d) (hw : Wd D A H0 ws H locs) (q0 : Nat) {n : Nat} {f : Nat → Int32} (ha : ws[q0]? = some (a, .inl (d, n, .inl f))) {j : Nat} (hj : j < n) (hdg : decode cc pc = .ok (.iaload, 1))
    (kk : W p l e R s m args below meth c H locs cells slots Q (F0 m (pc + 1) ls (.int (f j) :: rest))) (hn : n < 2 ^ 31 := by decide) : W p l e R s m args below meth c H locs cells slots Q (F0 m pc ls (.int (nI j) :: .ref a :: rest)) := by
  refine va_iald C.1.1 C.1.2.1 C.2.1.1 hw.1 q0 0 ha rfl (vp_in_nI hj hn) hdg ?_
  rw [nI_clamp (by omega)]
  exact kk
theorem w_iast (C : Cx p s m args meth c cc nL own ret D d) (hw : Wd D A H0 ws H locs) (q0 : Nat) {n : Nat} {f : Nat → Int32} (ha : ws[q0]? = some (a, .inl (d, n, .inl f))) {j : Nat} {x : Int32} (hj : j < n) (hdg : decode cc pc = .ok (.iastore, 1))
    (kk : ∀ (H1 : Heap) (locs1 : List Loc), Wd D A H0 (ws.set q0 (a, .inl (d, n, .inl (upd f j x)))) H1 locs1 → W p l e R s m args below meth c H1 locs1 cells slots Q (F0 m (pc + 1) ls rest)) (hn : n < 2 ^ 31 := by decide) : W p l e R s m args below meth c H locs cells slots Q (F0 m pc ls (.int x :: .int (nI j) :: .ref a :: rest)) := by
  refine va_iast C.1.1 C.1.2.1 C.2.1.1 hw.1 hw.2.1 hw.2.2 q0 0 ha rfl (vp_in_nI hj hn) hdg ?_
  rw [nI_clamp (by omega)]
  exact fun H1 locs1 h1 h2 h3 => kk H1 locs1 ⟨h1, h2, h3⟩
/-- arithmetic by Nat -/
theorem w_iadd (C : Cx p s m args meth c cc nL own ret D d) {x y : Nat} (hdg : decode cc pc = .ok (.iadd, 1)) (kk : W p l e R s m args below meth c H locs cells slots Q (F0 m (pc + 1) ls (.int (nI (x + y)) :: rest))) : W p l e R s m args below meth c H locs cells slots Q (F0 m pc ls (.int (nI y) :: .int (nI x) :: rest)) := by
  refine lv_iadd C.1.1 C.1.2.1 hdg ?_
  rw [nI_add]; exact kk
theorem w_isub (C : Cx p s m args meth c cc nL own ret D d) {x y : Nat} (h : y ≤ x) (hdg : decode cc pc = .ok (.isub, 1)) (kk : W p l e R s m args below meth c H locs cells slots Q (F0 m (pc + 1) ls (.int (nI (x - y)) :: rest))) : W p l e R s m args below meth c H locs cells slots Q (F0 m pc ls (.int (nI y) :: .int (nI x) :: rest)) := by
  refine lv_isub C.1.1 C.1.2.1 hdg ?_
  rw [pk_sub h]; exact kk
theorem w_imul (C : Cx p s m args meth c cc nL own ret D d) {x y : Nat} (hdg : decode cc pc = .ok (.imul, 1)) (kk : W p l e R s m args below meth c H locs cells slots Q (F0 m (pc + 1) ls (.int (nI (x * y)) :: rest))) : W p l e R s m args below meth c H locs cells slots Q (F0 m pc ls (.int (nI y) :: .int (nI x) :: rest)) := by
  refine lv_imul C.1.1 C.1.2.1 hdg ?_
  rw [pk_mul]; exact kk
/-- branches by Nat -/
theorem w_icmp_ge (C : Cx p s m args meth c cc nL own ret D d) {x y : Nat} (hx : x < 2 ^ 31) (hy : y < 2 ^ 31) {off : Int} {tgt : Nat} (hdg : decode cc pc = .ok (.if_icmp .ge off, 3)) (ht : (pc : Int) + off = (tgt : Int)) (kt : y ≤ x → W p l e R s m args below meth c H locs cells slots Q (F0 m tgt ls rest)) (kf : x < y → W p l e R s m args below meth c H locs cells slots Q (F0 m (pc + 3) ls rest)) : W p l e R s m args below meth c H locs cells slots Q (F0 m pc ls (.int (nI y) :: .int (nI x) :: rest)) :=
  lv_icmp_ge C.1.1 C.1.2.1 hdg ht (fun h => kt ((nI_leI hy hx).mp h)) (fun h => kf (Nat.lt_of_not_le fun q => h ((nI_leI hy hx).mpr q)))
theorem w_icmp_gt (C : Cx p s m args meth c cc nL own ret D d) {x y : Nat} (hx : x < 2 ^ 31) (hy : y < 2 ^ 31) {off : Int} {tgt : Nat} (hdg : decode cc pc = .ok (.if_icmp .gt off, 3)) (ht : (pc : Int) + off = (tgt : Int)) (kt : y < x → W p l e R s m args below meth c H locs cells slots Q (F0 m tgt ls rest)) (kf : x ≤ y → W p l e R s m args below meth c H locs cells slots Q (F0 m (pc + 3) ls rest)) : W p l e R s m args below meth c H locs cells slots Q (F0 m pc ls (.int (nI y) :: .int (nI x) :: rest)) :=
  lv_icmp_gt C.1.1 C.1.2.1 hdg ht (fun h => kt ((nI_ltI hy hx).mp h)) (fun h => kf (Nat.le_of_not_lt fun q => h ((nI_ltI hy hx).mpr q)))
theorem w_icmp_le (C : Cx p s m args meth c cc nL own ret D d) {x y : Nat} (hx : x < 2 ^ 31) (hy : y < 2 ^ 31) {off : Int} {tgt : Nat} (hdg : decode cc pc = .ok (.if_icmp .le off, 3)) (ht : (pc : Int) + off = (tgt : Int)) (kt : x ≤ y → W p l e R s m args below meth c H locs cells slots Q (F0 m tgt ls rest)) (kf : y < x → W p l e R s m args below meth c H locs cells slots Q (F0 m (pc + 3) ls rest)) : W p l e R s m args below meth c H locs cells slots Q (F0 m pc ls (.int (nI y) :: .int (nI x) :: rest)) :=
  lv_icmp_le C.1.1 C.1.2.1 hdg ht (fun h => kt ((nI_leI hx hy).mp h)) (fun h => kf (Nat.lt_of_not_le fun q => h ((nI_leI hx hy).mpr q)))
theorem w_icmp_eq (C : Cx p s m args meth c cc nL own ret D d) {x y : Nat} (hx : x < 2 ^ 31) (hy : y < 2 ^ 31) {off : Int} {tgt : Nat} (hdg : decode cc pc = .ok (.if_icmp .eq off, 3)) (ht : (pc : Int) + off = (tgt : Int)) (kt : x = y → W p l e R s m args below meth c H locs cells slots Q (F0 m tgt ls rest)) (kf : x ≠ y → W p l e R s m args below meth c H locs cells slots Q (F0 m (pc + 3) ls rest)) : W p l e R s m args below meth c H locs cells slots Q (F0 m pc ls (.int (nI y) :: .int (nI x) :: rest)) :=
  lv_icmp_eq C.1.1 C.1.2.1 hdg ht (fun h => kt ((nI_eq hx hy).mp h)) (fun h => kf (fun q => h ((nI_eq hx hy).mpr q)))
theorem w_icmp_ne (C : Cx p s m args meth c cc nL own ret D d) {x y : Nat} (hx : x < 2 ^ 31) (hy : y < 2 ^ 31) {off : Int} {tgt : Nat} (hdg : decode cc pc = .ok (.if_icmp .ne off, 3)) (ht : (pc : Int) + off = (tgt : Int)) (kt : x ≠ y → W p l e R s m args below meth c H locs cells slots Q (F0 m tgt ls rest)) (kf : x = y → W p l e R s m args below meth c H locs cells slots Q (F0 m (pc + 3) ls rest)) : W p l e R s m args below meth c H locs cells slots Q (F0 m pc ls (.int (nI y) :: .int (nI x) :: rest)) :=
  lv_icmp_ne C.1.1 C.1.2.1 hdg ht (fun h => kt (fun q => h ((nI_eq hx hy).mpr q))) (fun h => kf ((nI_eq hx hy).mp h))
/-- ends -/
theorem rd_iret (C : Cx p s m args meth c cc nL own (some .int) D d) {post : Int32 → Prop} {v : Int32} (hp : post v) (hdg : decode cc pc = .ok (.ireturn, 1)) : W p l e R s m args below meth c s.heap [] cells slots (MQ below (vp_Si post) args s cells slots (fun _ => False)) (F0 m pc ls [.int v]) :=
  W.iret C.1.1 C.1.2.1 C.2.2.1 (fun t ht _ => ⟨v, rfl, hp, ht⟩) (fun q hq => by cases hq) hdg C.2.2.2
theorem rd_zret (C : Cx p s m args meth c cc nL own (some .boolean) D d) {post : Int32 → Prop} {v : Int32} (hv : narrow .boolean (.int v) = .int v) (hp : post v) (hdg : decode cc pc = .ok (.ireturn, 1)) : W p l e R s m args below meth c s.heap [] cells slots (MQ below (vp_Si post) args s cells slots (fun _ => False)) (F0 m pc ls [.int v]) :=
  W.zret C.1.1 C.1.2.1 C.2.2.1 hv (fun t ht _ => ⟨v, rfl, hp, ht⟩) (fun q hq => by cases hq) hdg C.2.2.2
theorem mu_iret (C : Cx p s m args meth c cc nL own (some .int) D d) (hS : va_S A s.heap H locs) {S : Type} {post : Int32 → S → Prop} {Y : S → Heap → Prop} {v : Int32} (u : S) (hp : post v u) (hY : Y u H) (hdg : decode cc pc = .ok (.ireturn, 1)) : W p l e R s m args below meth c H locs cells slots (MQ below (va_Qi post (fun u t => Y u t.heap) A) args s cells slots A) (F0 m pc ls [.int v]) :=
  W.iret C.1.1 C.1.2.1 C.2.2.1 (fun t ht _ => ⟨⟨v, u, rfl, hp, by show Y u t.heap; rw [ht]; exact hY⟩, hS.F ht⟩) hS.2.2 hdg C.2.2.2
theorem mu_zret (C : Cx p s m args meth c cc nL own (some .boolean) D d) (hS : va_S A s.heap H locs) {S : Type} {post : Int32 → S → Prop} {Y : S → Heap → Prop} {v : Int32} (hv : narrow .boolean (.int v) = .int v) (u : S) (hp : post v u) (hY : Y u H) (hdg : decode cc pc = .ok (.ireturn, 1)) : W p l e R s m args below meth c H locs cells slots (MQ below (va_Qi post (fun u t => Y u t.heap) A) args s cells slots A) (F0 m pc ls [.int v]) :=
  W.zret C.1.1 C.1.2.1 C.2.2.1 hv (fun t ht _ => ⟨⟨v, u, rfl, hp, by show Y u t.heap; rw [ht]; exact hY⟩, hS.F ht⟩) hS.2.2 hdg C.2.2.2
theorem mu_vret (C : Cx p s m args meth c cc nL own none D d) (hS : va_S A s.heap H locs) {S : Type} {post : S → Prop} {Y : S → Heap → Prop} (u : S) (hp : post u) (hY : Y u H) (hdg : decode cc pc = .ok (.return_, 1)) : W p l e R s m args below meth c H locs cells slots (MQ below (va_Qv post (fun u t => Y u t.heap) A) args s cells slots A) (F0 m pc ls []) :=
  W.vret C.1.1 C.1.2.1 C.2.2.1 (fun t ht _ => ⟨⟨u, rfl, hp, by show Y u t.heap; rw [ht]; exact hY⟩, hS.F ht⟩) hS.2.2 hdg C.2.2.2
-- calls
variable {y : MethodName} {bytes : ByteArray} {maxL n index mc ms : Nat} {rt : Option FieldType} {wsl : List Cond} {rm : Room} {Cn : String} {b : Nat} {As st0 : List Value} {X : Heap → Prop} {wc : va_W}
/-- a call that reads only, through an object; static -/
theorem c_rdV {post : Int32 → Prop} (C : Cx p s m args meth c cc nL own ret D d) (hM : Met l y wsl rm (pc_ (.ref b :: As) D d X) (vp_Si post) 0 0 (fun _ => False)) (cw : CallW R s args own Cn index y bytes maxL rt wsl rm 0 0 n) (hrc : ∃ cellB : Cell, H[b]? = some cellB ∧ cellB.vm.isStatics = false ∧ s.vm.findClass Cn = some cellB.cls) (hX : X H)
    (hn : As.length = n) (hsize : ls.size = nL) (hst : st0 = As.reverse ++ .ref b :: rest) (hW : (rest.map fun v => v.category).sum ≤ 8) (hdg : decode cc pc = .ok (.invokevirtual index, 3)) (hf : cells + 0 ≤ R.cells ∧ slots + 0 ≤ R.slots)
    (kk : ∀ r : Int32, post r → W p l e R s m args below meth c H locs cells slots Q (F0 m (pc + 3) ls (.int r :: rest))) : W p l e R s m args below meth c H locs cells slots Q (F0 m pc ls st0) :=
  vp_callSi (va_runV C.1 hM cw ⟨pc_blind, hrc, fun U hU hW => ⟨rfl, by rw [hU]; exact hX, C.2.1.warm hW⟩⟩ rfl hn hsize hst (lv_room hW) hdg hf).run kk
theorem c_rdS {post : Int32 → Prop} (C : Cx p s m args meth c cc nL own ret D d) (hM : Met l y wsl rm (pc_ As D d X) (vp_Si post) 0 0 (fun _ => False)) (cw : CallB R s args own index y bytes maxL rt wsl rm 0 0 n ∧ (Cond.static y).before args s = true) (hX : X H)
    (hn : As.length = n) (hsize : ls.size = nL) (hst : st0 = As.reverse ++ rest) (hW : (rest.map fun v => v.category).sum ≤ 8) (hdg : decode cc pc = .ok (.invokestatic index, 3)) (hf : cells + 0 ≤ R.cells ∧ slots + 0 ≤ R.slots)
    (kk : ∀ r : Int32, post r → W p l e R s m args below meth c H locs cells slots Q (F0 m (pc + 3) ls (.int r :: rest))) : W p l e R s m args below meth c H locs cells slots Q (F0 m pc ls st0) :=
  vp_callSi (va_runS C.1 hM cw ⟨pc_blind, fun U hU hW => ⟨rfl, by rw [hU]; exact hX, C.2.1.warm hW⟩⟩ rfl hn hsize hst (lv_room hW) hdg hf).run kk
/-- a call that writes its own cells alone: anything may be asked of the heap before and behind it -/
theorem c_muVi {S : Type} {post : Int32 → S → Prop} {Y : S → Heap → Prop} {Z : Nat → Prop} (C : Cx p s m args meth c cc nL own ret D d) (hM : Met l y wsl rm (pc_ (.ref b :: As) D d X) (va_Qi post (fun u t => Y u t.heap) Z) 0 0 Z) (cw : CallW R s args own Cn index y bytes maxL rt wsl rm 0 0 n) (hrc : ∃ cellB : Cell, H[b]? = some cellB ∧ cellB.vm.isStatics = false ∧ s.vm.findClass Cn = some cellB.cls) (hX : X H) (hS : va_S A H0 H locs) (hZ : ∀ q, Z q → A q)
    (hn : As.length = n) (hsize : ls.size = nL) (hst : st0 = As.reverse ++ .ref b :: rest) (hW : (rest.map fun v => v.category).sum ≤ 8) (hdg : decode cc pc = .ok (.invokevirtual index, 3)) (hf : cells + 0 ≤ R.cells ∧ slots + 0 ≤ R.slots)
    (kk : ∀ (r : Int32) (u : S) (H1 : Heap) (locs1 : List Loc), post r u → Y u H1 → H.size ≤ H1.size → (∀ q : Nat, q < H.size → ¬ Z q → H1[q]? = H[q]?) → va_S A H0 H1 locs1 → W p l e R s m args below meth c H1 locs1 cells slots Q (F0 m (pc + 3) ls (.int r :: rest))) : W p l e R s m args below meth c H locs cells slots Q (F0 m pc ls st0) :=
  va_calli (va_runV C.1 hM cw ⟨pc_blind, hrc, fun U hU hW => ⟨rfl, by rw [hU]; exact hX, C.2.1.warm hW⟩⟩ rfl hn hsize hst (lv_room hW) hdg hf) hS (fun q _ h => hZ q h) hZ (fun r u t H1 locs1 ht _ hp hY hz hk hS1 => kk r u H1 locs1 hp (by rw [← ht]; exact hY) hz hk hS1)
theorem c_muVv {S : Type} {post : S → Prop} {Y : S → Heap → Prop} {Z : Nat → Prop} (C : Cx p s m args meth c cc nL own ret D d) (hM : Met l y wsl rm (pc_ (.ref b :: As) D d X) (va_Qv post (fun u t => Y u t.heap) Z) 0 0 Z) (cw : CallW R s args own Cn index y bytes maxL rt wsl rm 0 0 n) (hrc : ∃ cellB : Cell, H[b]? = some cellB ∧ cellB.vm.isStatics = false ∧ s.vm.findClass Cn = some cellB.cls) (hX : X H) (hS : va_S A H0 H locs) (hZ : ∀ q, Z q → A q)
    (hn : As.length = n) (hsize : ls.size = nL) (hst : st0 = As.reverse ++ .ref b :: rest) (hW : (rest.map fun v => v.category).sum ≤ 8) (hdg : decode cc pc = .ok (.invokevirtual index, 3)) (hf : cells + 0 ≤ R.cells ∧ slots + 0 ≤ R.slots)
    (kk : ∀ (u : S) (H1 : Heap) (locs1 : List Loc), post u → Y u H1 → H.size ≤ H1.size → (∀ q : Nat, q < H.size → ¬ Z q → H1[q]? = H[q]?) → va_S A H0 H1 locs1 → W p l e R s m args below meth c H1 locs1 cells slots Q (F0 m (pc + 3) ls rest)) : W p l e R s m args below meth c H locs cells slots Q (F0 m pc ls st0) :=
  va_callv (va_runV C.1 hM cw ⟨pc_blind, hrc, fun U hU hW => ⟨rfl, by rw [hU]; exact hX, C.2.1.warm hW⟩⟩ rfl hn hsize hst (lv_room hW) hdg hf) hS (fun q _ h => hZ q h) hZ (fun u t H1 locs1 ht _ hp hY hz hk hS1 => kk u H1 locs1 hp (by rw [← ht]; exact hY) hz hk hS1)
/-- the same over a list of cells that keep their addresses -/
theorem c_wVi {S : Type} {post : Int32 → S → Prop} {w1 : S → va_W} (C : Cx p s m args meth c cc nL own ret D d) (hw : Wd D A H0 ws H locs) (is : List Nat) (hM : Met l y wsl rm (pc_ (.ref b :: As) D d (xw D wc)) (va_Qi post (fun u t => va_P D vwCl (w1 u) t.heap) (zs wc)) 0 0 (zs wc)) (hnd : va_nd is = true) (hC : is.map (fun i => ws[i]?) = wc.map some) (hs : ∀ u, (w1 u).map Prod.fst = wc.map Prod.fst) (cw : CallW R s args own Cn index y bytes maxL rt wsl rm 0 0 n) (hrc : ∃ cellB : Cell, H[b]? = some cellB ∧ cellB.vm.isStatics = false ∧ s.vm.findClass Cn = some cellB.cls)
    (hn : As.length = n) (hsize : ls.size = nL) (hst : st0 = As.reverse ++ .ref b :: rest) (hW : (rest.map fun v => v.category).sum ≤ 8) (hdg : decode cc pc = .ok (.invokevirtual index, 3)) (hf : cells + 0 ≤ R.cells ∧ slots + 0 ≤ R.slots)
    (kk : ∀ (r : Int32) (u : S) (H1 : Heap) (locs1 : List Loc), post r u → Wd D A H0 (pa_ ws is (w1 u)) H1 locs1 → W p l e R s m args below meth c H1 locs1 cells slots Q (F0 m (pc + 3) ls (.int r :: rest))) : W p l e R s m args below meth c H locs cells slots Q (F0 m pc ls st0) :=
  c_muVi (Y := fun u h => va_P D vwCl (w1 u) h) C hM cw hrc (w_cut hw is hnd hC) hw.2.2 (w_zs hw is hC) hn hsize hst hW hdg hf (fun r u H1 locs1 hp hY _ hk hS1 => kk r u H1 locs1 hp (w_join hw is hC (hs u) hk hY hS1))
theorem c_wVv {S : Type} {post : S → Prop} {w1 : S → va_W} (C : Cx p s m args meth c cc nL own ret D d) (hw : Wd D A H0 ws H locs) (is : List Nat) (hM : Met l y wsl rm (pc_ (.ref b :: As) D d (xw D wc)) (va_Qv post (fun u t => va_P D vwCl (w1 u) t.heap) (zs wc)) 0 0 (zs wc)) (hnd : va_nd is = true) (hC : is.map (fun i => ws[i]?) = wc.map some) (hs : ∀ u, (w1 u).map Prod.fst = wc.map Prod.fst) (cw : CallW R s args own Cn index y bytes maxL rt wsl rm 0 0 n) (hrc : ∃ cellB : Cell, H[b]? = some cellB ∧ cellB.vm.isStatics = false ∧ s.vm.findClass Cn = some cellB.cls)
    (hn : As.length = n) (hsize : ls.size = nL) (hst : st0 = As.reverse ++ .ref b :: rest) (hW : (rest.map fun v => v.category).sum ≤ 8) (hdg : decode cc pc = .ok (.invokevirtual index, 3)) (hf : cells + 0 ≤ R.cells ∧ slots + 0 ≤ R.slots)
    (kk : ∀ (u : S) (H1 : Heap) (locs1 : List Loc), post u → Wd D A H0 (pa_ ws is (w1 u)) H1 locs1 → W p l e R s m args below meth c H1 locs1 cells slots Q (F0 m (pc + 3) ls rest)) : W p l e R s m args below meth c H locs cells slots Q (F0 m pc ls st0) :=
  c_muVv (Y := fun u h => va_P D vwCl (w1 u) h) C hM cw hrc (w_cut hw is hnd hC) hw.2.2 (w_zs hw is hC) hn hsize hst hW hdg hf (fun u H1 locs1 hp hY _ hk hS1 => kk u H1 locs1 hp (w_join hw is hC (hs u) hk hY hS1))
end RW
end
section
/-! getfield and putfield, a row a link (printed by gen/fields.py) -/
set_option maxRecDepth 100000
section FLD
variable {p : Program} {l : Launch} {e : Env} {R : Room} {s : State} {m : MethodId} {args : Array Value} {below : List Frame} {meth : Method} {c : Code} {H : Heap} {locs : List Loc} {cells slots : Nat} {Q : State → Prop}
variable {cc : ByteArray} {pc : Nat} {ls : Array Slot} {rest : List Value} {D : va_G} {d : ClassId} {A : Nat → Prop} {a : Nat} {ws : va_W} {H0 : Heap} {nL : Nat} {ret : Option FieldType}
theorem g_X1_12 (C : Cx p s m args meth c cc nL RX1 ret D d) (hw : Wd D A H0 ws H locs) (q0 : Nat) {fs : List Value} (he : ws[q0]? = some (a, .inr (0, fs))) {v : Value} (hv : fs[1]? = some v) (hdg : decode cc pc = .ok (.getfield 12, 3)) (kk : W p l e R s m args below meth c H locs cells slots Q (F0 m (pc + 3) ls (v :: rest))) : W p l e R s m args below meth c H locs cells slots Q (F0 m pc ls (.ref a :: rest)) := w_get C hw q0 he in_X1 rfl 1 (by decide) q83 hv hdg kk
theorem p_X1_12 (C : Cx p s m args meth c cc nL RX1 ret D d) (hw : Wd D A H0 ws H locs) (q0 : Nat) {fs : List Value} (he : ws[q0]? = some (a, .inr (0, fs))) (hl : 1 < fs.length) {x : Nat} (hdg : decode cc pc = .ok (.putfield 12, 3)) (kk : ∀ (H1 : Heap) (locs1 : List Loc), Wd D A H0 (ws.set q0 (a, .inr (0, fs.set 1 (.ref x)))) H1 locs1 → W p l e R s m args below meth c H1 locs1 cells slots Q (F0 m (pc + 3) ls rest)) : W p l e R s m args below meth c H locs cells slots Q (F0 m pc ls (.ref x :: .ref a :: rest)) := w_put C hw q0 he in_X1 tyX1 tyX1_ok nmX1 rfl 1 (by decide) q83 rfl rfl rfl hl hdg kk
theorem g_X1_16 (C : Cx p s m args meth c cc nL RX1 ret D d) (hw : Wd D A H0 ws H locs) (q0 : Nat) {fs : List Value} (he : ws[q0]? = some (a, .inr (0, fs))) {v : Value} (hv : fs[2]? = some v) (hdg : decode cc pc = .ok (.getfield 16, 3)) (kk : W p l e R s m args below meth c H locs cells slots Q (F0 m (pc + 3) ls (v :: rest))) : W p l e R s m args below meth c H locs cells slots Q (F0 m pc ls (.ref a :: rest)) := w_get C hw q0 he in_X1 rfl 2 (by decide) q84 hv hdg kk
theorem p_X1_16 (C : Cx p s m args meth c cc nL RX1 ret D d) (hw : Wd D A H0 ws H locs) (q0 : Nat) {fs : List Value} (he : ws[q0]? = some (a, .inr (0, fs))) (hl : 2 < fs.length) {x : Nat} (hdg : decode cc pc = .ok (.putfield 16, 3)) (kk : ∀ (H1 : Heap) (locs1 : List Loc), Wd D A H0 (ws.set q0 (a, .inr (0, fs.set 2 (.ref x)))) H1 locs1 → W p l e R s m args below meth c H1 locs1 cells slots Q (F0 m (pc + 3) ls rest)) : W p l e R s m args below meth c H locs cells slots Q (F0 m pc ls (.ref x :: .ref a :: rest)) := w_put C hw q0 he in_X1 tyX1 tyX1_ok nmX1 rfl 2 (by decide) q84 rfl rfl rfl hl hdg kk
theorem g_X1_22 (C : Cx p s m args meth c cc nL RX1 ret D d) (hw : Wd D A H0 ws H locs) (q0 : Nat) {fs : List Value} (he : ws[q0]? = some (a, .inr (0, fs))) {v : Value} (hv : fs[3]? = some v) (hdg : decode cc pc = .ok (.getfield 22, 3)) (kk : W p l e R s m args below meth c H locs cells slots Q (F0 m (pc + 3) ls (v :: rest))) : W p l e R s m args below meth c H locs cells slots Q (F0 m pc ls (.ref a :: rest)) := w_get C hw q0 he in_X1 rfl 3 (by decide) q85 hv hdg kk
theorem g_X1_26 (C : Cx p s m args meth c cc nL RX1 ret D d) (hw : Wd D A H0 ws H locs) (q0 : Nat) {fs : List Value} (he : ws[q0]? = some (a, .inr (0, fs))) {v : Value} (hv : fs[4]? = some v) (hdg : decode cc pc = .ok (.getfield 26, 3)) (kk : W p l e R s m args below meth c H locs cells slots Q (F0 m (pc + 3) ls (v :: rest))) : W p l e R s m args below meth c H locs cells slots Q (F0 m pc ls (.ref a :: rest)) := w_get C hw q0 he in_X1 rfl 4 (by decide) q86 hv hdg kk
theorem g_X1_29 (C : Cx p s m args meth c cc nL RX1 ret D d) (hw : Wd D A H0 ws H locs) (q0 : Nat) {fs : List Value} (he : ws[q0]? = some (a, .inr (0, fs))) {v : Value} (hv : fs[5]? = some v) (hdg : decode cc pc = .ok (.getfield 29, 3)) (kk : W p l e R s m args below meth c H locs cells slots Q (F0 m (pc + 3) ls (v :: rest))) : W p l e R s m args below meth c H locs cells slots Q (F0 m pc ls (.ref a :: rest)) := w_get C hw q0 he in_X1 rfl 5 (by decide) q87 hv hdg kk
theorem g_X1_32 (C : Cx p s m args meth c cc nL RX1 ret D d) (hw : Wd D A H0 ws H locs) (q0 : Nat) {fs : List Value} (he : ws[q0]? = some (a, .inr (0, fs))) {v : Value} (hv : fs[6]? = some v) (hdg : decode cc pc = .ok (.getfield 32, 3)) (kk : W p l e R s m args below meth c H locs cells slots Q (F0 m (pc + 3) ls (v :: rest))) : W p l e R s m args below meth c H locs cells slots Q (F0 m pc ls (.ref a :: rest)) := w_get C hw q0 he in_X1 rfl 6 (by decide) q88 hv hdg kk
theorem g_X1_36 (C : Cx p s m args meth c cc nL RX1 ret D d) (hw : Wd D A H0 ws H locs) (q0 : Nat) {fs : List Value} (he : ws[q0]? = some (a, .inr (0, fs))) {v : Value} (hv : fs[7]? = some v) (hdg : decode cc pc = .ok (.getfield 36, 3)) (kk : W p l e R s m args below meth c H locs cells slots Q (F0 m (pc + 3) ls (v :: rest))) : W p l e R s m args below meth c H locs cells slots Q (F0 m pc ls (.ref a :: rest)) := w_get C hw q0 he in_X1 rfl 7 (by decide) q89 hv hdg kk
theorem g_X1_39 (C : Cx p s m args meth c cc nL RX1 ret D d) (hw : Wd D A H0 ws H locs) (q0 : Nat) {fs : List Value} (he : ws[q0]? = some (a, .inr (0, fs))) {v : Value} (hv : fs[8]? = some v) (hdg : decode cc pc = .ok (.getfield 39, 3)) (kk : W p l e R s m args below meth c H locs cells slots Q (F0 m (pc + 3) ls (v :: rest))) : W p l e R s m args below meth c H locs cells slots Q (F0 m pc ls (.ref a :: rest)) := w_get C hw q0 he in_X1 rfl 8 (by decide) q90 hv hdg kk
theorem g_X1_42 (C : Cx p s m args meth c cc nL RX1 ret D d) (hw : Wd D A H0 ws H locs) (q0 : Nat) {fs : List Value} (he : ws[q0]? = some (a, .inr (0, fs))) {v : Value} (hv : fs[9]? = some v) (hdg : decode cc pc = .ok (.getfield 42, 3)) (kk : W p l e R s m args below meth c H locs cells slots Q (F0 m (pc + 3) ls (v :: rest))) : W p l e R s m args below meth c H locs cells slots Q (F0 m pc ls (.ref a :: rest)) := w_get C hw q0 he in_X1 rfl 9 (by decide) q91 hv hdg kk
theorem g_X1_54 (C : Cx p s m args meth c cc nL RX1 ret D d) (hw : Wd D A H0 ws H locs) (q0 : Nat) {fs : List Value} (he : ws[q0]? = some (a, .inr (0, fs))) {v : Value} (hv : fs[0]? = some v) (hdg : decode cc pc = .ok (.getfield 54, 3)) (kk : W p l e R s m args below meth c H locs cells slots Q (F0 m (pc + 3) ls (v :: rest))) : W p l e R s m args below meth c H locs cells slots Q (F0 m pc ls (.ref a :: rest)) := w_get C hw q0 he in_X1 rfl 0 (by decide) q82 hv hdg kk
theorem g_X1_62 (C : Cx p s m args meth c cc nL RX1 ret D d) (hw : Wd D A H0 ws H locs) (q0 : Nat) {fs : List Value} (he : ws[q0]? = some (a, .inr (1, fs))) {v : Value} (hv : fs[3]? = some v) (hdg : decode cc pc = .ok (.getfield 62, 3)) (kk : W p l e R s m args below meth c H locs cells slots Q (F0 m (pc + 3) ls (v :: rest))) : W p l e R s m args below meth c H locs cells slots Q (F0 m pc ls (.ref a :: rest)) := w_getN C hw q0 he in_X2 rfl 3 (by decide) 3 rfl hv hdg kk
theorem g_X1_69 (C : Cx p s m args meth c cc nL RX1 ret D d) (hw : Wd D A H0 ws H locs) (q0 : Nat) {fs : List Value} (he : ws[q0]? = some (a, .inr (1, fs))) {v : Value} (hv : fs[4]? = some v) (hdg : decode cc pc = .ok (.getfield 69, 3)) (kk : W p l e R s m args below meth c H locs cells slots Q (F0 m (pc + 3) ls (v :: rest))) : W p l e R s m args below meth c H locs cells slots Q (F0 m pc ls (.ref a :: rest)) := w_getN C hw q0 he in_X2 rfl 4 (by decide) 4 rfl hv hdg kk
theorem g_X1_72 (C : Cx p s m args meth c cc nL RX1 ret D d) (hw : Wd D A H0 ws H locs) (q0 : Nat) {fs : List Value} (he : ws[q0]? = some (a, .inr (2, fs))) {v : Value} (hv : fs[3]? = some v) (hdg : decode cc pc = .ok (.getfield 72, 3)) (kk : W p l e R s m args below meth c H locs cells slots Q (F0 m (pc + 3) ls (v :: rest))) : W p l e R s m args below meth c H locs cells slots Q (F0 m pc ls (.ref a :: rest)) := w_getN C hw q0 he in_X3 rfl 3 (by decide) 8 rfl hv hdg kk
theorem p_X1_72 (C : Cx p s m args meth c cc nL RX1 ret D d) (hw : Wd D A H0 ws H locs) (q0 : Nat) {fs : List Value} (he : ws[q0]? = some (a, .inr (2, fs))) (hl : 3 < fs.length) {x : Int32} (hdg : decode cc pc = .ok (.putfield 72, 3)) (kk : ∀ (H1 : Heap) (locs1 : List Loc), Wd D A H0 (ws.set q0 (a, .inr (2, fs.set 3 (.int x)))) H1 locs1 → W p l e R s m args below meth c H1 locs1 cells slots Q (F0 m (pc + 3) ls rest)) : W p l e R s m args below meth c H locs cells slots Q (F0 m pc ls (.int x :: .ref a :: rest)) := w_putN C hw q0 he in_X3 tyX3 tyX3_ok nmX3 rfl 3 (by decide) 8 rfl rfl rfl rfl hl hdg kk
theorem g_X1_82 (C : Cx p s m args meth c cc nL RX1 ret D d) (hw : Wd D A H0 ws H locs) (q0 : Nat) {fs : List Value} (he : ws[q0]? = some (a, .inr (1, fs))) {v : Value} (hv : fs[0]? = some v) (hdg : decode cc pc = .ok (.getfield 82, 3)) (kk : W p l e R s m args below meth c H locs cells slots Q (F0 m (pc + 3) ls (v :: rest))) : W p l e R s m args below meth c H locs cells slots Q (F0 m pc ls (.ref a :: rest)) := w_getN C hw q0 he in_X2 rfl 0 (by decide) 0 rfl hv hdg kk
theorem g_X1_85 (C : Cx p s m args meth c cc nL RX1 ret D d) (hw : Wd D A H0 ws H locs) (q0 : Nat) {fs : List Value} (he : ws[q0]? = some (a, .inr (1, fs))) {v : Value} (hv : fs[1]? = some v) (hdg : decode cc pc = .ok (.getfield 85, 3)) (kk : W p l e R s m args below meth c H locs cells slots Q (F0 m (pc + 3) ls (v :: rest))) : W p l e R s m args below meth c H locs cells slots Q (F0 m pc ls (.ref a :: rest)) := w_getN C hw q0 he in_X2 rfl 1 (by decide) 1 rfl hv hdg kk
theorem g_X1_88 (C : Cx p s m args meth c cc nL RX1 ret D d) (hw : Wd D A H0 ws H locs) (q0 : Nat) {fs : List Value} (he : ws[q0]? = some (a, .inr (1, fs))) {v : Value} (hv : fs[2]? = some v) (hdg : decode cc pc = .ok (.getfield 88, 3)) (kk : W p l e R s m args below meth c H locs cells slots Q (F0 m (pc + 3) ls (v :: rest))) : W p l e R s m args below meth c H locs cells slots Q (F0 m pc ls (.ref a :: rest)) := w_getN C hw q0 he in_X2 rfl 2 (by decide) 2 rfl hv hdg kk
theorem g_X1_91 (C : Cx p s m args meth c cc nL RX1 ret D d) (hw : Wd D A H0 ws H locs) (q0 : Nat) {fs : List Value} (he : ws[q0]? = some (a, .inr (2, fs))) {v : Value} (hv : fs[0]? = some v) (hdg : decode cc pc = .ok (.getfield 91, 3)) (kk : W p l e R s m args below meth c H locs cells slots Q (F0 m (pc + 3) ls (v :: rest))) : W p l e R s m args below meth c H locs cells slots Q (F0 m pc ls (.ref a :: rest)) := w_getN C hw q0 he in_X3 rfl 0 (by decide) 5 rfl hv hdg kk
theorem g_X1_94 (C : Cx p s m args meth c cc nL RX1 ret D d) (hw : Wd D A H0 ws H locs) (q0 : Nat) {fs : List Value} (he : ws[q0]? = some (a, .inr (2, fs))) {v : Value} (hv : fs[1]? = some v) (hdg : decode cc pc = .ok (.getfield 94, 3)) (kk : W p l e R s m args below meth c H locs cells slots Q (F0 m (pc + 3) ls (v :: rest))) : W p l e R s m args below meth c H locs cells slots Q (F0 m pc ls (.ref a :: rest)) := w_getN C hw q0 he in_X3 rfl 1 (by decide) 6 rfl hv hdg kk
theorem g_X1_95 (C : Cx p s m args meth c cc nL RX1 ret D d) (hw : Wd D A H0 ws H locs) (q0 : Nat) {fs : List Value} (he : ws[q0]? = some (a, .inr (2, fs))) {v : Value} (hv : fs[2]? = some v) (hdg : decode cc pc = .ok (.getfield 95, 3)) (kk : W p l e R s m args below meth c H locs cells slots Q (F0 m (pc + 3) ls (v :: rest))) : W p l e R s m args below meth c H locs cells slots Q (F0 m pc ls (.ref a :: rest)) := w_getN C hw q0 he in_X3 rfl 2 (by decide) 7 rfl hv hdg kk
theorem g_X2_9 (C : Cx p s m args meth c cc nL RX2 ret D d) (hw : Wd D A H0 ws H locs) (q0 : Nat) {fs : List Value} (he : ws[q0]? = some (a, .inr (1, fs))) {v : Value} (hv : fs[0]? = some v) (hdg : decode cc pc = .ok (.getfield 9, 3)) (kk : W p l e R s m args below meth c H locs cells slots Q (F0 m (pc + 3) ls (v :: rest))) : W p l e R s m args below meth c H locs cells slots Q (F0 m pc ls (.ref a :: rest)) := w_get C hw q0 he in_X2 rfl 0 (by decide) q27 hv hdg kk
theorem g_X2_15 (C : Cx p s m args meth c cc nL RX2 ret D d) (hw : Wd D A H0 ws H locs) (q0 : Nat) {fs : List Value} (he : ws[q0]? = some (a, .inr (1, fs))) {v : Value} (hv : fs[1]? = some v) (hdg : decode cc pc = .ok (.getfield 15, 3)) (kk : W p l e R s m args below meth c H locs cells slots Q (F0 m (pc + 3) ls (v :: rest))) : W p l e R s m args below meth c H locs cells slots Q (F0 m pc ls (.ref a :: rest)) := w_get C hw q0 he in_X2 rfl 1 (by decide) q29 hv hdg kk
theorem g_X2_18 (C : Cx p s m args meth c cc nL RX2 ret D d) (hw : Wd D A H0 ws H locs) (q0 : Nat) {fs : List Value} (he : ws[q0]? = some (a, .inr (1, fs))) {v : Value} (hv : fs[2]? = some v) (hdg : decode cc pc = .ok (.getfield 18, 3)) (kk : W p l e R s m args below meth c H locs cells slots Q (F0 m (pc + 3) ls (v :: rest))) : W p l e R s m args below meth c H locs cells slots Q (F0 m pc ls (.ref a :: rest)) := w_get C hw q0 he in_X2 rfl 2 (by decide) q31 hv hdg kk
theorem g_X2_21 (C : Cx p s m args meth c cc nL RX2 ret D d) (hw : Wd D A H0 ws H locs) (q0 : Nat) {fs : List Value} (he : ws[q0]? = some (a, .inr (1, fs))) {v : Value} (hv : fs[3]? = some v) (hdg : decode cc pc = .ok (.getfield 21, 3)) (kk : W p l e R s m args below meth c H locs cells slots Q (F0 m (pc + 3) ls (v :: rest))) : W p l e R s m args below meth c H locs cells slots Q (F0 m pc ls (.ref a :: rest)) := w_get C hw q0 he in_X2 rfl 3 (by decide) q33 hv hdg kk
theorem p_X2_21 (C : Cx p s m args meth c cc nL RX2 ret D d) (hw : Wd D A H0 ws H locs) (q0 : Nat) {fs : List Value} (he : ws[q0]? = some (a, .inr (1, fs))) (hl : 3 < fs.length) {x : Int32} (hdg : decode cc pc = .ok (.putfield 21, 3)) (kk : ∀ (H1 : Heap) (locs1 : List Loc), Wd D A H0 (ws.set q0 (a, .inr (1, fs.set 3 (.int x)))) H1 locs1 → W p l e R s m args below meth c H1 locs1 cells slots Q (F0 m (pc + 3) ls rest)) : W p l e R s m args below meth c H locs cells slots Q (F0 m pc ls (.int x :: .ref a :: rest)) := w_put C hw q0 he in_X2 tyX2 tyX2_ok nmX2 rfl 3 (by decide) q33 rfl rfl rfl hl hdg kk
theorem g_X2_25 (C : Cx p s m args meth c cc nL RX2 ret D d) (hw : Wd D A H0 ws H locs) (q0 : Nat) {fs : List Value} (he : ws[q0]? = some (a, .inr (1, fs))) {v : Value} (hv : fs[4]? = some v) (hdg : decode cc pc = .ok (.getfield 25, 3)) (kk : W p l e R s m args below meth c H locs cells slots Q (F0 m (pc + 3) ls (v :: rest))) : W p l e R s m args below meth c H locs cells slots Q (F0 m pc ls (.ref a :: rest)) := w_get C hw q0 he in_X2 rfl 4 (by decide) q35 hv hdg kk
theorem p_X2_25 (C : Cx p s m args meth c cc nL RX2 ret D d) (hw : Wd D A H0 ws H locs) (q0 : Nat) {fs : List Value} (he : ws[q0]? = some (a, .inr (1, fs))) (hl : 4 < fs.length) {x : Int32} (hdg : decode cc pc = .ok (.putfield 25, 3)) (kk : ∀ (H1 : Heap) (locs1 : List Loc), Wd D A H0 (ws.set q0 (a, .inr (1, fs.set 4 (.int x)))) H1 locs1 → W p l e R s m args below meth c H1 locs1 cells slots Q (F0 m (pc + 3) ls rest)) : W p l e R s m args below meth c H locs cells slots Q (F0 m pc ls (.int x :: .ref a :: rest)) := w_put C hw q0 he in_X2 tyX2 tyX2_ok nmX2 rfl 4 (by decide) q35 rfl rfl rfl hl hdg kk
theorem g_X3_9 (C : Cx p s m args meth c cc nL RX3 ret D d) (hw : Wd D A H0 ws H locs) (q0 : Nat) {fs : List Value} (he : ws[q0]? = some (a, .inr (2, fs))) {v : Value} (hv : fs[0]? = some v) (hdg : decode cc pc = .ok (.getfield 9, 3)) (kk : W p l e R s m args below meth c H locs cells slots Q (F0 m (pc + 3) ls (v :: rest))) : W p l e R s m args below meth c H locs cells slots Q (F0 m pc ls (.ref a :: rest)) := w_get C hw q0 he in_X3 rfl 0 (by decide) q55 hv hdg kk
theorem g_X3_15 (C : Cx p s m args meth c cc nL RX3 ret D d) (hw : Wd D A H0 ws H locs) (q0 : Nat) {fs : List Value} (he : ws[q0]? = some (a, .inr (2, fs))) {v : Value} (hv : fs[1]? = some v) (hdg : decode cc pc = .ok (.getfield 15, 3)) (kk : W p l e R s m args below meth c H locs cells slots Q (F0 m (pc + 3) ls (v :: rest))) : W p l e R s m args below meth c H locs cells slots Q (F0 m pc ls (.ref a :: rest)) := w_get C hw q0 he in_X3 rfl 1 (by decide) q57 hv hdg kk
theorem g_X3_18 (C : Cx p s m args meth c cc nL RX3 ret D d) (hw : Wd D A H0 ws H locs) (q0 : Nat) {fs : List Value} (he : ws[q0]? = some (a, .inr (2, fs))) {v : Value} (hv : fs[2]? = some v) (hdg : decode cc pc = .ok (.getfield 18, 3)) (kk : W p l e R s m args below meth c H locs cells slots Q (F0 m (pc + 3) ls (v :: rest))) : W p l e R s m args below meth c H locs cells slots Q (F0 m pc ls (.ref a :: rest)) := w_get C hw q0 he in_X3 rfl 2 (by decide) q59 hv hdg kk
theorem g_X3_21 (C : Cx p s m args meth c cc nL RX3 ret D d) (hw : Wd D A H0 ws H locs) (q0 : Nat) {fs : List Value} (he : ws[q0]? = some (a, .inr (2, fs))) {v : Value} (hv : fs[3]? = some v) (hdg : decode cc pc = .ok (.getfield 21, 3)) (kk : W p l e R s m args below meth c H locs cells slots Q (F0 m (pc + 3) ls (v :: rest))) : W p l e R s m args below meth c H locs cells slots Q (F0 m pc ls (.ref a :: rest)) := w_get C hw q0 he in_X3 rfl 3 (by decide) q61 hv hdg kk
theorem p_X3_21 (C : Cx p s m args meth c cc nL RX3 ret D d) (hw : Wd D A H0 ws H locs) (q0 : Nat) {fs : List Value} (he : ws[q0]? = some (a, .inr (2, fs))) (hl : 3 < fs.length) {x : Int32} (hdg : decode cc pc = .ok (.putfield 21, 3)) (kk : ∀ (H1 : Heap) (locs1 : List Loc), Wd D A H0 (ws.set q0 (a, .inr (2, fs.set 3 (.int x)))) H1 locs1 → W p l e R s m args below meth c H1 locs1 cells slots Q (F0 m (pc + 3) ls rest)) : W p l e R s m args below meth c H locs cells slots Q (F0 m pc ls (.int x :: .ref a :: rest)) := w_put C hw q0 he in_X3 tyX3 tyX3_ok nmX3 rfl 3 (by decide) q61 rfl rfl rfl hl hdg kk
theorem g_X4_7 (C : Cx p s m args meth c cc nL RX4 ret D d) (hw : Wd D A H0 ws H locs) (q0 : Nat) {fs : List Value} (he : ws[q0]? = some (a, .inr (3, fs))) {v : Value} (hv : fs[4]? = some v) (hdg : decode cc pc = .ok (.getfield 7, 3)) (kk : W p l e R s m args below meth c H locs cells slots Q (F0 m (pc + 3) ls (v :: rest))) : W p l e R s m args below meth c H locs cells slots Q (F0 m pc ls (.ref a :: rest)) := w_get C hw q0 he in_X4 rfl 4 (by decide) q212 hv hdg kk
theorem p_X4_7 (C : Cx p s m args meth c cc nL RX4 ret D d) (hw : Wd D A H0 ws H locs) (q0 : Nat) {fs : List Value} (he : ws[q0]? = some (a, .inr (3, fs))) (hl : 4 < fs.length) {x : Nat} (hdg : decode cc pc = .ok (.putfield 7, 3)) (kk : ∀ (H1 : Heap) (locs1 : List Loc), Wd D A H0 (ws.set q0 (a, .inr (3, fs.set 4 (.ref x)))) H1 locs1 → W p l e R s m args below meth c H1 locs1 cells slots Q (F0 m (pc + 3) ls rest)) : W p l e R s m args below meth c H locs cells slots Q (F0 m pc ls (.ref x :: .ref a :: rest)) := w_put C hw q0 he in_X4 tyX4 tyX4_ok nmX4 rfl 4 (by decide) q212 rfl rfl rfl hl hdg kk
theorem g_X4_13 (C : Cx p s m args meth c cc nL RX4 ret D d) (hw : Wd D A H0 ws H locs) (q0 : Nat) {fs : List Value} (he : ws[q0]? = some (a, .inr (3, fs))) {v : Value} (hv : fs[5]? = some v) (hdg : decode cc pc = .ok (.getfield 13, 3)) (kk : W p l e R s m args below meth c H locs cells slots Q (F0 m (pc + 3) ls (v :: rest))) : W p l e R s m args below meth c H locs cells slots Q (F0 m pc ls (.ref a :: rest)) := w_get C hw q0 he in_X4 rfl 5 (by decide) q213 hv hdg kk
theorem p_X4_13 (C : Cx p s m args meth c cc nL RX4 ret D d) (hw : Wd D A H0 ws H locs) (q0 : Nat) {fs : List Value} (he : ws[q0]? = some (a, .inr (3, fs))) (hl : 5 < fs.length) {x : Nat} (hdg : decode cc pc = .ok (.putfield 13, 3)) (kk : ∀ (H1 : Heap) (locs1 : List Loc), Wd D A H0 (ws.set q0 (a, .inr (3, fs.set 5 (.ref x)))) H1 locs1 → W p l e R s m args below meth c H1 locs1 cells slots Q (F0 m (pc + 3) ls rest)) : W p l e R s m args below meth c H locs cells slots Q (F0 m pc ls (.ref x :: .ref a :: rest)) := w_put C hw q0 he in_X4 tyX4 tyX4_ok nmX4 rfl 5 (by decide) q213 rfl rfl rfl hl hdg kk
theorem g_X4_16 (C : Cx p s m args meth c cc nL RX4 ret D d) (hw : Wd D A H0 ws H locs) (q0 : Nat) {fs : List Value} (he : ws[q0]? = some (a, .inr (3, fs))) {v : Value} (hv : fs[6]? = some v) (hdg : decode cc pc = .ok (.getfield 16, 3)) (kk : W p l e R s m args below meth c H locs cells slots Q (F0 m (pc + 3) ls (v :: rest))) : W p l e R s m args below meth c H locs cells slots Q (F0 m pc ls (.ref a :: rest)) := w_get C hw q0 he in_X4 rfl 6 (by decide) q214 hv hdg kk
theorem g_X4_19 (C : Cx p s m args meth c cc nL RX4 ret D d) (hw : Wd D A H0 ws H locs) (q0 : Nat) {fs : List Value} (he : ws[q0]? = some (a, .inr (3, fs))) {v : Value} (hv : fs[7]? = some v) (hdg : decode cc pc = .ok (.getfield 19, 3)) (kk : W p l e R s m args below meth c H locs cells slots Q (F0 m (pc + 3) ls (v :: rest))) : W p l e R s m args below meth c H locs cells slots Q (F0 m pc ls (.ref a :: rest)) := w_get C hw q0 he in_X4 rfl 7 (by decide) q215 hv hdg kk
theorem g_X4_22 (C : Cx p s m args meth c cc nL RX4 ret D d) (hw : Wd D A H0 ws H locs) (q0 : Nat) {fs : List Value} (he : ws[q0]? = some (a, .inr (3, fs))) {v : Value} (hv : fs[8]? = some v) (hdg : decode cc pc = .ok (.getfield 22, 3)) (kk : W p l e R s m args below meth c H locs cells slots Q (F0 m (pc + 3) ls (v :: rest))) : W p l e R s m args below meth c H locs cells slots Q (F0 m pc ls (.ref a :: rest)) := w_get C hw q0 he in_X4 rfl 8 (by decide) q216 hv hdg kk
theorem g_X4_29 (C : Cx p s m args meth c cc nL RX4 ret D d) (hw : Wd D A H0 ws H locs) (q0 : Nat) {fs : List Value} (he : ws[q0]? = some (a, .inr (3, fs))) {v : Value} (hv : fs[1]? = some v) (hdg : decode cc pc = .ok (.getfield 29, 3)) (kk : W p l e R s m args below meth c H locs cells slots Q (F0 m (pc + 3) ls (v :: rest))) : W p l e R s m args below meth c H locs cells slots Q (F0 m pc ls (.ref a :: rest)) := w_get C hw q0 he in_X4 rfl 1 (by decide) q209 hv hdg kk
theorem p_X4_29 (C : Cx p s m args meth c cc nL RX4 ret D d) (hw : Wd D A H0 ws H locs) (q0 : Nat) {fs : List Value} (he : ws[q0]? = some (a, .inr (3, fs))) (hl : 1 < fs.length) {x : Int32} (hdg : decode cc pc = .ok (.putfield 29, 3)) (kk : ∀ (H1 : Heap) (locs1 : List Loc), Wd D A H0 (ws.set q0 (a, .inr (3, fs.set 1 (.int x)))) H1 locs1 → W p l e R s m args below meth c H1 locs1 cells slots Q (F0 m (pc + 3) ls rest)) : W p l e R s m args below meth c H locs cells slots Q (F0 m pc ls (.int x :: .ref a :: rest)) := w_put C hw q0 he in_X4 tyX4 tyX4_ok nmX4 rfl 1 (by decide) q209 rfl rfl rfl hl hdg kk
theorem g_X4_33 (C : Cx p s m args meth c cc nL RX4 ret D d) (hw : Wd D A H0 ws H locs) (q0 : Nat) {fs : List Value} (he : ws[q0]? = some (a, .inr (3, fs))) {v : Value} (hv : fs[2]? = some v) (hdg : decode cc pc = .ok (.getfield 33, 3)) (kk : W p l e R s m args below meth c H locs cells slots Q (F0 m (pc + 3) ls (v :: rest))) : W p l e R s m args below meth c H locs cells slots Q (F0 m pc ls (.ref a :: rest)) := w_get C hw q0 he in_X4 rfl 2 (by decide) q210 hv hdg kk
theorem p_X4_33 (C : Cx p s m args meth c cc nL RX4 ret D d) (hw : Wd D A H0 ws H locs) (q0 : Nat) {fs : List Value} (he : ws[q0]? = some (a, .inr (3, fs))) (hl : 2 < fs.length) {x : Int32} (hdg : decode cc pc = .ok (.putfield 33, 3)) (kk : ∀ (H1 : Heap) (locs1 : List Loc), Wd D A H0 (ws.set q0 (a, .inr (3, fs.set 2 (.int x)))) H1 locs1 → W p l e R s m args below meth c H1 locs1 cells slots Q (F0 m (pc + 3) ls rest)) : W p l e R s m args below meth c H locs cells slots Q (F0 m pc ls (.int x :: .ref a :: rest)) := w_put C hw q0 he in_X4 tyX4 tyX4_ok nmX4 rfl 2 (by decide) q210 rfl rfl rfl hl hdg kk
theorem g_X4_36 (C : Cx p s m args meth c cc nL RX4 ret D d) (hw : Wd D A H0 ws H locs) (q0 : Nat) {fs : List Value} (he : ws[q0]? = some (a, .inr (3, fs))) {v : Value} (hv : fs[0]? = some v) (hdg : decode cc pc = .ok (.getfield 36, 3)) (kk : W p l e R s m args below meth c H locs cells slots Q (F0 m (pc + 3) ls (v :: rest))) : W p l e R s m args below meth c H locs cells slots Q (F0 m pc ls (.ref a :: rest)) := w_get C hw q0 he in_X4 rfl 0 (by decide) q208 hv hdg kk
theorem g_X4_47 (C : Cx p s m args meth c cc nL RX4 ret D d) (hw : Wd D A H0 ws H locs) (q0 : Nat) {fs : List Value} (he : ws[q0]? = some (a, .inr (3, fs))) {v : Value} (hv : fs[3]? = some v) (hdg : decode cc pc = .ok (.getfield 47, 3)) (kk : W p l e R s m args below meth c H locs cells slots Q (F0 m (pc + 3) ls (v :: rest))) : W p l e R s m args below meth c H locs cells slots Q (F0 m pc ls (.ref a :: rest)) := w_get C hw q0 he in_X4 rfl 3 (by decide) q211 hv hdg kk
theorem p_X4_47 (C : Cx p s m args meth c cc nL RX4 ret D d) (hw : Wd D A H0 ws H locs) (q0 : Nat) {fs : List Value} (he : ws[q0]? = some (a, .inr (3, fs))) (hl : 3 < fs.length) {x : Int32} (hdg : decode cc pc = .ok (.putfield 47, 3)) (kk : ∀ (H1 : Heap) (locs1 : List Loc), Wd D A H0 (ws.set q0 (a, .inr (3, fs.set 3 (.int x)))) H1 locs1 → W p l e R s m args below meth c H1 locs1 cells slots Q (F0 m (pc + 3) ls rest)) : W p l e R s m args below meth c H locs cells slots Q (F0 m pc ls (.int x :: .ref a :: rest)) := w_put C hw q0 he in_X4 tyX4 tyX4_ok nmX4 rfl 3 (by decide) q211 rfl rfl rfl hl hdg kk
end FLD
end
section
/-! the plain law: no program in sight. T i j: the table; rk_: non-zeros of row i ahead of column j; of_: of the rows ahead of i -/
set_option maxRecDepth 100000
def rk_ (T : Nat → Nat → Int32) (i : Nat) : Nat → Nat
  | 0 => 0
  | j + 1 => rk_ T i j + (if T i j = 0 then 0 else 1)
def of_ (T : Nat → Nat → Int32) (c : Nat) : Nat → Nat
  | 0 => 0
  | i + 1 => of_ T c i + rk_ T i c
section PR
variable {T T' : Nat → Nat → Int32} {c r i j : Nat}
theorem rk_z (h : T i j = 0) : rk_ T i (j + 1) = rk_ T i j := by simp [rk_, h]
theorem rk_s (h : T i j ≠ 0) : rk_ T i (j + 1) = rk_ T i j + 1 := by simp [rk_, h]
theorem rk_step : rk_ T i j ≤ rk_ T i (j + 1) := by simp [rk_]
theorem rk_mono {a b : Nat} (h : a ≤ b) : rk_ T i a ≤ rk_ T i b := by
  induction b with
  | zero => rw [Nat.le_zero.mp h]; exact Nat.le_refl _
  | succ b ih =>
    by_cases hb : a = b + 1
    · rw [hb]; exact Nat.le_refl _
    · exact Nat.le_trans (ih (by omega)) rk_step
theorem rk_lt {a b : Nat} (h : T i a ≠ 0) (hab : a < b) : rk_ T i a < rk_ T i b := by
  have h1 := rk_s h
  have h2 : rk_ T i (a + 1) ≤ rk_ T i b := rk_mono hab
  omega
theorem rk_le : rk_ T i j ≤ j := by
  induction j with
  | zero => exact Nat.le_refl _
  | succ j ih => simp only [rk_]; split <;> omega
theorem rk_inj {a b : Nat} (ha : T i a ≠ 0) (hb : T i b ≠ 0) (h : rk_ T i a = rk_ T i b) : a = b := by
  rcases Nat.lt_trichotomy a b with q | q | q
  · have := rk_lt ha q; omega
  · exact q
  · have := rk_lt hb q; omega
theorem rk_congr (h : ∀ b, b < j → T i b = T' i b) : rk_ T i j = rk_ T' i j := by
  induction j with
  | zero => rfl
  | succ j ih => simp only [rk_]; rw [ih (fun b hb => h b (by omega)), h j (by omega)]
theorem of_mono {a b : Nat} (h : a ≤ b) : of_ T c a ≤ of_ T c b := by
  induction b with
  | zero => rw [Nat.le_zero.mp h]; exact Nat.le_refl _
  | succ b ih =>
    by_cases hb : a = b + 1
    · rw [hb]; exact Nat.le_refl _
    · have := ih (by omega); simp only [of_]; omega
theorem of_congr (h : ∀ a b, a < i → b < c → T a b = T' a b) : of_ T c i = of_ T' c i := by
  induction i with
  | zero => rfl
  | succ i ih => simp only [of_]; rw [ih (fun a b ha hb => h a b (by omega) hb), rk_congr (fun b hb => h i b (by omega) hb)]
theorem of_le : of_ T c i ≤ i * c := by
  induction i with
  | zero => simp [of_]
  | succ i ih => have := rk_le (T := T) (i := i) (j := c); simp only [of_, Nat.succ_mul]; omega
theorem pos_row (hj : j < c) (h : T i j ≠ 0) : of_ T c i + rk_ T i j < of_ T c (i + 1) := by
  have := rk_lt h hj; simp only [of_]; omega
theorem pos_lt (hi : i < r) (hj : j < c) (h : T i j ≠ 0) : of_ T c i + rk_ T i j < of_ T c r :=
  Nat.lt_of_lt_of_le (pos_row hj h) (of_mono hi)
theorem pos_ord {a b : Nat} (hb : b < c) (h1 : T a b ≠ 0) (h : a < i ∨ (a = i ∧ b < j)) : of_ T c a + rk_ T a b < of_ T c i + rk_ T i j := by
  rcases h with h | ⟨rfl, h⟩
  · have h2 := pos_row hb h1
    have h3 : of_ T c (a + 1) ≤ of_ T c i := of_mono h
    omega
  · have := rk_lt h1 h; omega
theorem pos_inj {a b : Nat} (hb : b < c) (hj : j < c) (h1 : T a b ≠ 0) (h2 : T i j ≠ 0) (h : of_ T c a + rk_ T a b = of_ T c i + rk_ T i j) : a = i ∧ b = j := by
  by_cases q : a < i ∨ (a = i ∧ b < j)
  · have := pos_ord hb h1 q; omega
  · by_cases q2 : i < a ∨ (i = a ∧ j < b)
    · have := pos_ord hj h2 q2; omega
    · omega
theorem rk_sur : ∀ {c k : Nat}, k < rk_ T i c → ∃ j, j < c ∧ T i j ≠ 0 ∧ k = rk_ T i j
  | 0, k, h => by simp [rk_] at h
  | c + 1, k, h => by
    by_cases q : k < rk_ T i c
    · obtain ⟨j, h1, h2, h3⟩ := rk_sur q
      exact ⟨j, by omega, h2, h3⟩
    · by_cases hz : T i c = 0
      · rw [rk_z hz] at h; omega
      · rw [rk_s hz] at h; exact ⟨c, by omega, hz, by omega⟩
theorem of_sur : ∀ {r k : Nat}, k < of_ T c r → ∃ i j, i < r ∧ j < c ∧ T i j ≠ 0 ∧ k = of_ T c i + rk_ T i j
  | 0, k, h => by simp [of_] at h
  | r + 1, k, h => by
    by_cases q : k < of_ T c r
    · obtain ⟨i, j, h1, h2, h3, h4⟩ := of_sur q
      exact ⟨i, j, by omega, h2, h3, h4⟩
    · simp only [of_] at h
      obtain ⟨j, h1, h2, h3⟩ := rk_sur (T := T) (i := r) (c := c) (k := k - of_ T c r) (by omega)
      exact ⟨r, j, by omega, h1, h2, by omega⟩
end PR
/-- the rows' starts, columns, values hold the table T of r rows and c columns -/
def Csr (st co va : Nat → Int32) (r c : Nat) (T : Nat → Nat → Int32) : Prop := (∀ a, a ≤ r → st a = nI (of_ T c a)) ∧ ∀ a b, a < r → b < c → T a b ≠ 0 → co (of_ T c a + rk_ T a b) = nI b ∧ va (of_ T c a + rk_ T a b) = T a b
theorem csr_congr {st co va : Nat → Int32} {r c : Nat} {T T' : Nat → Nat → Int32} (h : ∀ a b, a < r → b < c → T a b = T' a b) (hc : Csr st co va r c T) : Csr st co va r c T' := by
  have ho : ∀ a, a ≤ r → of_ T c a = of_ T' c a := fun a ha => of_congr (fun x y hx hy => h x y (by omega) hy)
  refine ⟨fun a ha => by rw [hc.1 a ha, ho a ha], fun a b ha hb hz => ?_⟩
  have h1 := hc.2 a b ha hb (by rw [h a b ha hb]; exact hz)
  rw [ho a (by omega), rk_congr (fun y hy => h a y ha (by omega))] at h1
  rw [← h a b ha hb]
  exact h1
/-- rows ahead of i, and row i up to column j, are laid -/
def Bld (st co va : Nat → Int32) (T : Nat → Nat → Int32) (c i j : Nat) : Prop := (∀ a, a ≤ i → st a = nI (of_ T c a)) ∧ ∀ a b, (a < i ∨ (a = i ∧ b < j)) → b < c → T a b ≠ 0 → co (of_ T c a + rk_ T a b) = nI b ∧ va (of_ T c a + rk_ T a b) = T a b
section BL
variable {st co va : Nat → Int32} {T : Nat → Nat → Int32} {c r i j : Nat}
theorem bld_0 (h : ∀ a, a < 61 → st a = 0) : Bld st co va T c 0 0 := by
  refine ⟨fun a ha => ?_, fun a b h1 => by omega⟩
  rw [Nat.le_zero.mp ha, h 0 (by omega)]
  exact nI_0.symm
theorem bld_z (hz : T i j = 0) (h : Bld st co va T c i j) : Bld st co va T c i (j + 1) := by
  refine ⟨h.1, fun a b h1 hb hn => h.2 a b ?_ hb hn⟩
  rcases h1 with h1 | ⟨rfl, h1⟩
  · exact Or.inl h1
  · refine Or.inr ⟨rfl, ?_⟩
    rcases Nat.lt_or_ge b j with q | q
    · exact q
    · have : b = j := by omega
      rw [this] at hn
      exact absurd hz hn
theorem bld_p (hz : T i j ≠ 0) (hj : j < c) (h : Bld st co va T c i j) : Bld st (upd co (of_ T c i + rk_ T i j) (nI j)) (upd va (of_ T c i + rk_ T i j) (T i j)) T c i (j + 1) := by
  refine ⟨h.1, fun a b h1 hb hn => ?_⟩
  by_cases q : a = i ∧ b = j
  · obtain ⟨rfl, rfl⟩ := q
    exact ⟨pk_us, pk_us⟩
  · have h2 : a < i ∨ (a = i ∧ b < j) := by omega
    have h3 := pos_ord (j := j) hb hn h2
    rw [pk_un (by omega), pk_un (by omega)]
    exact h.2 a b h2 hb hn
theorem bld_r (h : Bld st co va T c i c) : Bld (upd st (i + 1) (nI (of_ T c i + rk_ T i c))) co va T c (i + 1) 0 := by
  refine ⟨fun a ha => ?_, fun a b h1 hb hn => h.2 a b (by omega) hb hn⟩
  by_cases q : a = i + 1
  · subst q; exact pk_us
  · rw [pk_un q]; exact h.1 a (by omega)
theorem bld_csr (h : Bld st co va T c r 0) : Csr st co va r c T := ⟨h.1, fun a b ha hb hn => h.2 a b (Or.inl ha) hb hn⟩
theorem csr_sur (h : Csr st co va r c T) {k : Nat} (hi : i < r) (h1 : of_ T c i ≤ k) (h2 : k < of_ T c (i + 1)) : ∃ b, b < c ∧ T i b ≠ 0 ∧ k = of_ T c i + rk_ T i b ∧ co k = nI b ∧ va k = T i b := by
  simp only [of_] at h2
  obtain ⟨b, g1, g2, g3⟩ := rk_sur (T := T) (i := i) (c := c) (k := k - of_ T c i) (by omega)
  have hk : k = of_ T c i + rk_ T i b := by omega
  have := h.2 i b hi g1 g2
  rw [← hk] at this
  exact ⟨b, g1, g2, hk, this.1, this.2⟩
end BL
/-- a row times a vector -/
def dot_ (T : Nat → Nat → Int32) (x : Nat → Int32) (i : Nat) : Nat → Int32
  | 0 => 0
  | j + 1 => dot_ T x i j + T i j * x j
theorem dot_z {T : Nat → Nat → Int32} {x : Nat → Int32} {i j : Nat} (h : T i j = 0) : dot_ T x i (j + 1) = dot_ T x i j := by
  simp only [dot_, h]; grind
theorem dot_congr {T T' : Nat → Nat → Int32} {x x' : Nat → Int32} {i j : Nat} (h : ∀ b, b < j → T i b = T' i b) (hx : ∀ b, b < j → x b = x' b) : dot_ T x i j = dot_ T' x' i j := by
  induction j with
  | zero => rfl
  | succ j ih => simp only [dot_]; rw [ih (fun b hb => h b (by omega)) (fun b hb => hx b (by omega)), h j (by omega), hx j (by omega)]
/-- triplets -/
abbrev Tr : Type := Nat × Nat × Int32
def ps_ : List Tr → Nat → Nat → Int32
  | [], _, _ => 0
  | e :: l, a, b => (if e.1 = a ∧ e.2.1 = b then e.2.2 else 0) + ps_ l a b
theorem ps_app (L M : List Tr) (a b : Nat) : ps_ (L ++ M) a b = ps_ L a b + ps_ M a b := by
  induction L with
  | nil => simp only [List.nil_append, ps_]; grind
  | cons e l ih => simp only [List.cons_append, ps_, ih]; grind
theorem ps_one (e : Tr) (a b : Nat) : ps_ [e] a b = if e.1 = a ∧ e.2.1 = b then e.2.2 else 0 := by
  simp only [ps_]; grind
/-- a row's entries, and those of all rows -/
def en_ (T : Nat → Nat → Int32) (i : Nat) : Nat → List Tr
  | 0 => []
  | j + 1 => en_ T i j ++ (if T i j = 0 then [] else [(i, j, T i j)])
def er_ (T : Nat → Nat → Int32) (c : Nat) : Nat → List Tr
  | 0 => []
  | i + 1 => er_ T c i ++ en_ T i c
section EN
variable {T : Nat → Nat → Int32} {c r i j : Nat}
theorem en_z (h : T i j = 0) : en_ T i (j + 1) = en_ T i j := by simp [en_, h]
theorem en_s (h : T i j ≠ 0) : en_ T i (j + 1) = en_ T i j ++ [(i, j, T i j)] := by simp [en_, h]
theorem en_len : (en_ T i j).length = rk_ T i j := by
  induction j with
  | zero => rfl
  | succ j ih => simp only [en_, rk_, List.length_append, ih]; split <;> simp
theorem er_len : (er_ T c i).length = of_ T c i := by
  induction i with
  | zero => rfl
  | succ i ih => simp only [er_, of_, List.length_append, ih, en_len]
theorem en_mem {e : Tr} (h : e ∈ en_ T i j) : e.1 = i ∧ e.2.1 < j := by
  induction j with
  | zero => simp [en_] at h
  | succ j ih =>
    rcases List.mem_append.mp h with h | h
    · have := ih h; omega
    · split at h
      · cases h
      · rw [List.mem_singleton.mp h]; exact ⟨rfl, by show j < j + 1; omega⟩
theorem er_mem {e : Tr} (h : e ∈ er_ T c i) : e.1 < i ∧ e.2.1 < c := by
  induction i with
  | zero => simp [er_] at h
  | succ i ih =>
    rcases List.mem_append.mp h with h | h
    · have := ih h; omega
    · have := en_mem h; omega
theorem en_ps (a b : Nat) : ps_ (en_ T i j) a b = if a = i ∧ b < j then T a b else 0 := by
  induction j with
  | zero => simp [en_, ps_]
  | succ j ih =>
    by_cases hz : T i j = 0
    · rw [en_z hz, ih]
      by_cases q : a = i ∧ b < j
      · rw [if_pos q, if_pos (by omega)]
      · rw [if_neg q]
        by_cases q2 : a = i ∧ b < j + 1
        · rw [if_pos q2]
          have : b = j := by omega
          rw [q2.1, this]; exact hz.symm
        · rw [if_neg q2]
    · rw [en_s hz, ps_app, ih, ps_one]
      show _ + (if i = a ∧ j = b then T i j else 0) = _
      by_cases q : a = i ∧ b < j
      · rw [if_pos q, if_neg (by omega), if_pos (by omega)]; grind
      · rw [if_neg q]
        by_cases q2 : i = a ∧ j = b
        · rw [if_pos q2, if_pos (by omega), q2.1, q2.2]; grind
        · rw [if_neg q2, if_neg (by omega)]; grind
theorem er_ps (a b : Nat) : ps_ (er_ T c i) a b = if a < i ∧ b < c then T a b else 0 := by
  induction i with
  | zero => simp [er_, ps_]
  | succ i ih =>
    show ps_ (er_ T c i ++ en_ T i c) a b = _
    rw [ps_app, ih, en_ps]
    by_cases q : a < i ∧ b < c
    · rw [if_pos q, if_neg (by omega), if_pos (by omega)]; grind
    · rw [if_neg q]
      by_cases q2 : a = i ∧ b < c
      · rw [if_pos q2, if_pos (by omega)]; grind
      · rw [if_neg q2, if_neg (by omega)]; grind
end EN
/-- three arrays hold a list of triplets -/
def Hd (ro co va : Nat → Int32) (L : List Tr) : Prop := ∀ (k : Nat) (e : Tr), L[k]? = some e → ro k = nI e.1 ∧ co k = nI e.2.1 ∧ va k = e.2.2
theorem hd_nil {ro co va : Nat → Int32} : Hd ro co va [] := fun k e h => by simp at h
theorem hd_push {ro co va : Nat → Int32} {L : List Tr} {i j : Nat} {v : Int32} (h : Hd ro co va L) : Hd (upd ro L.length (nI i)) (upd co L.length (nI j)) (upd va L.length v) (L ++ [(i, j, v)]) := by
  intro k e hk
  by_cases q : k < L.length
  · rw [List.getElem?_append_left q] at hk
    rw [pk_un (by omega), pk_un (by omega), pk_un (by omega)]
    exact h k e hk
  · rw [List.getElem?_append_right (by omega)] at hk
    have h1 := (List.getElem?_eq_some_iff.mp hk).1
    simp only [List.length_cons, List.length_nil] at h1
    have hkl : k = L.length := by omega
    subst hkl
    rw [Nat.sub_self] at hk
    cases hk
    exact ⟨pk_us, pk_us, pk_us⟩
end
section
/-! the plain law: sorting by counting, groups, turning a matrix over, filling a table -/
set_option maxRecDepth 100000
def ky (b : Bool) (e : Tr) : Nat := if b then e.1 else e.2.1
def fl_ (b : Bool) (L : List Tr) (v : Nat) : List Tr := L.filter (fun e => ky b e == v)
def lt_ (b : Bool) (L : List Tr) : Nat → Nat
  | 0 => 0
  | v + 1 => lt_ b L v + (fl_ b L v).length
def cs_ (b : Bool) (L : List Tr) (v : Nat) : Nat → List Tr
  | 0 => []
  | n + 1 => fl_ b L v ++ cs_ b L (v + 1) n
section SO
variable {b : Bool} {L : List Tr}
theorem cs_snoc : ∀ (n v : Nat), cs_ b L v (n + 1) = cs_ b L v n ++ fl_ b L (v + n)
  | 0, v => by simp [cs_]
  | n + 1, v => by
    have h := cs_snoc n (v + 1)
    rw [cs_, h, cs_, List.append_assoc, show v + 1 + n = v + (n + 1) by omega]
theorem cs_len (n : Nat) : (cs_ b L 0 n).length = lt_ b L n := by
  induction n with
  | zero => rfl
  | succ n ih => rw [cs_snoc, List.length_append, ih, Nat.zero_add, lt_]
theorem cs_at {n p : Nat} (h : p < lt_ b L n) : ∃ v q, v < n ∧ q < (fl_ b L v).length ∧ p = lt_ b L v + q ∧ (cs_ b L 0 n)[p]? = (fl_ b L v)[q]? := by
  induction n with
  | zero => simp [lt_] at h
  | succ n ih =>
    by_cases q : p < lt_ b L n
    · obtain ⟨v, t, h1, h2, h3, h4⟩ := ih q
      refine ⟨v, t, by omega, h2, h3, ?_⟩
      rw [cs_snoc, List.getElem?_append_left (by rw [cs_len]; exact q)]
      exact h4
    · simp only [lt_] at h
      refine ⟨n, p - lt_ b L n, by omega, by omega, by omega, ?_⟩
      rw [cs_snoc, List.getElem?_append_right (by rw [cs_len]; omega), cs_len, Nat.zero_add]
theorem lt_mono {u v : Nat} (h : u ≤ v) : lt_ b L u ≤ lt_ b L v := by
  induction v with
  | zero => rw [Nat.le_zero.mp h]; exact Nat.le_refl _
  | succ v ih =>
    by_cases q : u = v + 1
    · rw [q]; exact Nat.le_refl _
    · have := ih (by omega); simp only [lt_]; omega
theorem fl_cons (e : Tr) (v : Nat) : (fl_ b (e :: L) v).length = (fl_ b L v).length + (if ky b e = v then 1 else 0) := by
  by_cases h : ky b e = v
  · simp [fl_, h]
  · simp [fl_, h]
theorem lt_cons (e : Tr) (n : Nat) : lt_ b (e :: L) n = lt_ b L n + (if ky b e < n then 1 else 0) := by
  induction n with
  | zero => simp [lt_]
  | succ n ih =>
    simp only [lt_, ih, fl_cons]
    split <;> split <;> split <;> omega
end SO
theorem lt_total {b : Bool} {n : Nat} : ∀ {L : List Tr}, (∀ e ∈ L, ky b e < n) → lt_ b L n = L.length
  | [], _ => by
    induction n with
    | zero => rfl
    | succ n ih => simp only [lt_, ih (fun e h => by cases h)]; rfl
  | e :: l, h => by
    rw [lt_cons, if_pos (h e List.mem_cons_self), lt_total (fun x hx => h x (List.mem_cons_of_mem _ hx)), List.length_cons]
section SO2
variable {b : Bool} {L : List Tr}
theorem fl_take {k : Nat} {e : Tr} (h : L[k]? = some e) (v : Nat) : (fl_ b (L.take (k + 1)) v).length = (fl_ b (L.take k) v).length + (if ky b e = v then 1 else 0) := by
  rw [List.take_succ, h]
  by_cases q : ky b e = v
  · simp [fl_, q]
  · simp [fl_, q]
theorem fl_split {k : Nat} {e : Tr} (h : L[k]? = some e) : fl_ b L (ky b e) = fl_ b (L.take k) (ky b e) ++ e :: fl_ b (L.drop (k + 1)) (ky b e) := by
  have hk := (List.getElem?_eq_some_iff.mp h)
  have h1 : L = L.take k ++ e :: L.drop (k + 1) := by
    conv => lhs; rw [← List.take_append_drop k L]
    rw [List.drop_eq_getElem_cons hk.1, hk.2]
  conv => lhs; rw [h1]
  simp [fl_, List.filter_append]
theorem fl_get {k : Nat} {e : Tr} (h : L[k]? = some e) : (fl_ b L (ky b e))[(fl_ b (L.take k) (ky b e)).length]? = some e := by
  rw [fl_split h, List.getElem?_append_right (Nat.le_refl _), Nat.sub_self]
  rfl
theorem fl_lt {k : Nat} {e : Tr} (h : L[k]? = some e) : (fl_ b (L.take k) (ky b e)).length < (fl_ b L (ky b e)).length := (List.getElem?_eq_some_iff.mp (fl_get h)).1
theorem mem_fl {e : Tr} {v : Nat} (h : e ∈ fl_ b L v) : e ∈ L ∧ ky b e = v := by
  have := List.mem_filter.mp h
  exact ⟨this.1, by simpa using this.2⟩
theorem mem_cs {e : Tr} : ∀ {n v : Nat}, e ∈ cs_ b L v n → e ∈ L
  | 0, v, h => by cases h
  | n + 1, v, h => by
    rcases List.mem_append.mp h with h | h
    · exact (mem_fl h).1
    · exact mem_cs h
theorem cs_total (h : ∀ e ∈ L, ky b e < 60) : (cs_ b L 0 60).length = L.length := by rw [cs_len, lt_total h]
theorem at_lt {k : Nat} {e : Tr} (hL : ∀ x ∈ L, ky b x < 60) (h : L[k]? = some e) : lt_ b L (ky b e) + (fl_ b (L.take k) (ky b e)).length < L.length := by
  have h1 := fl_lt (b := b) h
  have h2 := hL e (List.mem_of_getElem? h)
  have h3 : lt_ b L (ky b e + 1) ≤ lt_ b L 60 := lt_mono h2
  rw [lt_total hL] at h3
  simp only [lt_] at h3
  omega
/-- how often a key came, one place on -/
def Cn1 (ct : Nat → Int32) (b : Bool) (L : List Tr) (k : Nat) : Prop := ct 0 = 0 ∧ ∀ v, v < 60 → ct (v + 1) = nI (fl_ b (L.take k) v).length
theorem cn1_0 {ct : Nat → Int32} (h : ∀ v, v < 61 → ct v = 0) : Cn1 ct b L 0 := ⟨h 0 (by omega), fun v hv => by rw [h (v + 1) (by omega)]; simp [fl_]; exact nI_0.symm⟩
theorem cn1_s {ct : Nat → Int32} {k : Nat} {e : Tr} (he : L[k]? = some e) (h : Cn1 ct b L k) : Cn1 (upd ct (ky b e + 1) (ct (ky b e + 1) + nI 1)) b L (k + 1) := by
  refine ⟨by rw [pk_un (by omega)]; exact h.1, fun v hv => ?_⟩
  rw [fl_take he]
  by_cases q : ky b e = v
  · subst q
    rw [pk_us, h.2 _ hv, if_pos rfl, nI_add]
  · rw [pk_un (by omega), h.2 v hv, if_neg q, Nat.add_zero]
/-- sums up to k -/
def Cn2 (ct : Nat → Int32) (b : Bool) (L : List Tr) (k : Nat) : Prop := (∀ v, v < k → ct v = nI (lt_ b L v)) ∧ ∀ v, k ≤ v + 1 → v < 60 → ct (v + 1) = nI (fl_ b L v).length
theorem cn2_0 {ct : Nat → Int32} (h : Cn1 ct b L L.length) : Cn2 ct b L 1 := by
  refine ⟨fun v hv => ?_, fun v _ hv => by rw [h.2 v hv, List.take_length]⟩
  have : v = 0 := by omega
  subst this
  rw [h.1]; exact nI_0.symm
theorem cn2_s {ct : Nat → Int32} {k : Nat} (h1 : 1 ≤ k) (h2 : k ≤ 60) (h : Cn2 ct b L k) : Cn2 (upd ct k (ct k + ct (k - 1))) b L (k + 1) := by
  refine ⟨fun v hv => ?_, fun v hv hv2 => by rw [pk_un (by omega)]; exact h.2 v (by omega) hv2⟩
  by_cases q : v = k
  · subst q
    rw [pk_us]
    obtain ⟨w, rfl⟩ : ∃ w, v = w + 1 := ⟨v - 1, by omega⟩
    rw [h.2 w (by omega) (by omega), show w + 1 - 1 = w by omega, h.1 w (by omega), nI_add, lt_, Nat.add_comm]
  · rw [pk_un q]; exact h.1 v (by omega)
/-- the first k are laid -/
def Cn3 (ct ro co va : Nat → Int32) (b : Bool) (L : List Tr) (k : Nat) : Prop := (∀ v, v < 60 → ct v = nI (lt_ b L v + (fl_ b (L.take k) v).length)) ∧ ∀ v q e, v < 60 → q < (fl_ b (L.take k) v).length → (fl_ b L v)[q]? = some e → ro (lt_ b L v + q) = nI e.1 ∧ co (lt_ b L v + q) = nI e.2.1 ∧ va (lt_ b L v + q) = e.2.2
theorem cn3_0 {ct ro co va : Nat → Int32} (h : Cn2 ct b L 61) : Cn3 ct ro co va b L 0 := by
  refine ⟨fun v hv => by rw [h.1 v (by omega)]; simp [fl_], fun v q e _ hq => ?_⟩
  simp [fl_] at hq
theorem fl_take_le {k v : Nat} : (fl_ b (L.take k) v).length ≤ (fl_ b L v).length := by
  conv => rhs; rw [← List.take_append_drop k L]
  simp only [fl_, List.filter_append, List.length_append]
  omega
theorem cn3_s {ct ro co va : Nat → Int32} {k : Nat} {e : Tr} (he : L[k]? = some e) (h : Cn3 ct ro co va b L k) {n : Nat} (hn : n = lt_ b L (ky b e) + (fl_ b (L.take k) (ky b e)).length) : Cn3 (upd ct (ky b e) (nI (n + 1))) (upd ro n (nI e.1)) (upd co n (nI e.2.1)) (upd va n e.2.2) b L (k + 1) := by
  refine ⟨fun v hv => ?_, fun v q x hv hq hx => ?_⟩
  · rw [fl_take he]
    by_cases q : ky b e = v
    · subst q
      rw [pk_us, if_pos rfl, hn, Nat.add_assoc]
    · rw [pk_un (fun z => q z.symm), h.1 v hv, if_neg q, Nat.add_zero]
  · rw [fl_take he] at hq
    have hlt := fl_lt (b := b) he
    by_cases q0 : ky b e = v
    · subst q0
      rw [if_pos rfl] at hq
      by_cases q1 : q = (fl_ b (L.take k) (ky b e)).length
      · subst q1
        rw [fl_get he] at hx
        cases hx
        rw [hn]
        exact ⟨pk_us, pk_us, pk_us⟩
      · rw [pk_un (by omega), pk_un (by omega), pk_un (by omega)]
        exact h.2 _ q x hv (by omega) hx
    · rw [if_neg q0] at hq
      have hl2 := fl_take_le (b := b) (L := L) (k := k) (v := v)
      have hne : lt_ b L v + q ≠ n := by
        rcases Nat.lt_or_gt_of_ne q0 with z | z
        · have h3 : lt_ b L (ky b e + 1) ≤ lt_ b L v := lt_mono z
          simp only [lt_] at h3
          omega
        · have h3 : lt_ b L (v + 1) ≤ lt_ b L (ky b e) := lt_mono z
          simp only [lt_] at h3
          omega
      rw [pk_un hne, pk_un hne, pk_un hne]
      exact h.2 v q x hv (by omega) hx
theorem cn3_end {ct ro co va : Nat → Int32} (h : Cn3 ct ro co va b L L.length) : Hd ro co va (cs_ b L 0 60) := by
  intro p e hp
  have hlt := (List.getElem?_eq_some_iff.mp hp).1
  rw [cs_len] at hlt
  obtain ⟨v, q, h1, h2, h3, h4⟩ := cs_at hlt
  rw [h4] at hp
  rw [h3]
  exact h.2 v q e h1 (by rw [List.take_length]; exact h2) hp
end SO2
/-- groups -/
def gp_ (L : List Tr) (i j : Nat) : List Tr := L.filter (fun e => e.1 == i && e.2.1 == j)
def gs_ (L : List Tr) (i j : Nat) : Nat → List Tr
  | 0 => []
  | n + 1 => gp_ L i j ++ gs_ L i (j + 1) n
def rs_ (L : List Tr) (i : Nat) : Nat → List Tr
  | 0 => []
  | n + 1 => gs_ L i 0 60 ++ rs_ L (i + 1) n
theorem cs_gs {L : List Tr} {i : Nat} : ∀ (n v : Nat), fl_ true (cs_ false L v n) i = gs_ L i v n
  | 0, v => rfl
  | n + 1, v => by
    have h := cs_gs (L := L) (i := i) n (v + 1)
    simp only [cs_, gs_]
    rw [← h]
    simp only [fl_, List.filter_append, gp_, List.filter_filter, ky]
    rfl
theorem cs_rs {L : List Tr} : ∀ (n i : Nat), cs_ true (cs_ false L 0 60) i n = rs_ L i n
  | 0, i => rfl
  | n + 1, i => by
    have h := cs_rs (L := L) n (i + 1)
    show fl_ true (cs_ false L 0 60) i ++ cs_ true (cs_ false L 0 60) (i + 1) n = gs_ L i 0 60 ++ rs_ L (i + 1) n
    rw [cs_gs, h]
theorem mem_gp {L : List Tr} {i j : Nat} {e : Tr} (h : e ∈ gp_ L i j) : e ∈ L ∧ e.1 = i ∧ e.2.1 = j := by
  have := List.mem_filter.mp h
  simp only [Bool.and_eq_true, beq_iff_eq] at this
  exact this
theorem mem_gs {L : List Tr} {i : Nat} {e : Tr} : ∀ {n j : Nat}, e ∈ gs_ L i j n → e ∈ L ∧ e.1 = i ∧ j ≤ e.2.1
  | 0, j, h => by cases h
  | n + 1, j, h => by
    rcases List.mem_append.mp h with h | h
    · have := mem_gp h; exact ⟨this.1, this.2.1, by omega⟩
    · have := mem_gs h; exact ⟨this.1, this.2.1, by omega⟩
theorem mem_rs {L : List Tr} {e : Tr} : ∀ {n i : Nat}, e ∈ rs_ L i n → e ∈ L ∧ i ≤ e.1
  | 0, i, h => by cases h
  | n + 1, i, h => by
    rcases List.mem_append.mp h with h | h
    · have := mem_gs h; exact ⟨this.1, by omega⟩
    · have := mem_rs h; exact ⟨this.1, by omega⟩
def su_ : List Tr → Int32
  | [] => 0
  | e :: l => e.2.2 + su_ l
theorem su_gp (L : List Tr) (i j : Nat) : su_ (gp_ L i j) = ps_ L i j := by
  induction L with
  | nil => rfl
  | cons e l ih =>
    by_cases h : e.1 = i ∧ e.2.1 = j
    · have h1 : gp_ (e :: l) i j = e :: gp_ l i j := by simp [gp_, h.1, h.2]
      rw [h1]; simp only [su_, ps_, ih, h, and_self, if_true]
    · have h1 : gp_ (e :: l) i j = gp_ l i j := by
        simp only [gp_]
        rw [List.filter_cons_of_neg]
        simp only [Bool.and_eq_true, beq_iff_eq]
        exact h
      rw [h1, ih]; simp only [ps_, if_neg h]; grind
theorem rs_total {L : List Tr} (h1 : ∀ e ∈ L, e.1 < 60) (h2 : ∀ e ∈ L, e.2.1 < 60) : (rs_ L 0 60).length = L.length := by
  rw [← cs_rs, cs_total (b := true) (fun e he => h1 e (mem_cs he)), cs_total (b := false) (fun e he => h2 e he)]
theorem dr_cons {R : List Tr} {k : Nat} {e : Tr} {l : List Tr} (h : R.drop k = e :: l) : k < R.length ∧ R[k]? = some e ∧ R.drop (k + 1) = l := by
  have hk : k < R.length := by
    rcases Nat.lt_or_ge k R.length with q | q
    · exact q
    · rw [List.drop_eq_nil_of_le q] at h; cases h
  have h0 := List.drop_eq_getElem_cons hk
  rw [h0] at h
  injection h with h3 h4
  exact ⟨hk, by rw [List.getElem?_eq_getElem hk, h3], h4⟩
theorem dr_nil {R : List Tr} {k : Nat} (h : R.drop k = []) : R.length ≤ k := List.drop_eq_nil_iff.mp h
-- turning over
section TU
variable {T : Nat → Nat → Int32} {r c i j : Nat}
abbrev tt_ (T : Nat → Nat → Int32) : Nat → Nat → Int32 := fun a b => T b a
/-- columns counted up to the place (i, j) -/
def Tu1 (st : Nat → Int32) (T : Nat → Nat → Int32) (c i j : Nat) : Prop := st 0 = 0 ∧ ∀ v, v < c → st (v + 1) = nI (rk_ (tt_ T) v (if v < j then i + 1 else i))
theorem tu1_0 {st : Nat → Int32} (hc : c ≤ 60) (h : ∀ a, a < 61 → st a = 0) : Tu1 st T c 0 0 := ⟨h 0 (by omega), fun v hv => by rw [h (v + 1) (by omega)]; simp [rk_]; exact nI_0.symm⟩
theorem tu1_z {st : Nat → Int32} (hz : T i j = 0) (h : Tu1 st T c i j) : Tu1 st T c i (j + 1) := by
  refine ⟨h.1, fun v hv => ?_⟩
  rw [h.2 v hv]
  by_cases q : v < j
  · rw [if_pos q, if_pos (by omega)]
  · rw [if_neg q]
    by_cases q2 : v < j + 1
    · rw [if_pos q2]
      have : v = j := by omega
      subst this
      rw [rk_z (T := tt_ T) hz]
    · rw [if_neg q2]
theorem tu1_s {st : Nat → Int32} (hz : T i j ≠ 0) (hj : j < c) (h : Tu1 st T c i j) : Tu1 (upd st (j + 1) (st (j + 1) + nI 1)) T c i (j + 1) := by
  refine ⟨by rw [pk_un (by omega)]; exact h.1, fun v hv => ?_⟩
  by_cases q : v = j
  · subst q
    rw [pk_us, h.2 v hv, if_neg (by omega), if_pos (by omega), nI_add, rk_s (T := tt_ T) hz]
  · rw [pk_un (by omega), h.2 v hv]
    by_cases q2 : v < j
    · rw [if_pos q2, if_pos (by omega)]
    · rw [if_neg q2, if_neg (by omega)]
theorem tu1_r {st : Nat → Int32} (h : Tu1 st T c i c) : Tu1 st T c (i + 1) 0 := ⟨h.1, fun v hv => by rw [h.2 v hv, if_pos hv, if_neg (by omega)]⟩
/-- summed up to i -/
def Tu2 (st : Nat → Int32) (T : Nat → Nat → Int32) (r c i : Nat) : Prop := (∀ v, v ≤ i → st v = nI (of_ (tt_ T) r v)) ∧ ∀ v, i ≤ v → v < c → st (v + 1) = nI (rk_ (tt_ T) v r)
theorem tu2_0 {st : Nat → Int32} (h : Tu1 st T c r 0) : Tu2 st T r c 0 := by
  refine ⟨fun v hv => ?_, fun v _ hv => by rw [h.2 v hv, if_neg (by omega)]⟩
  rw [Nat.le_zero.mp hv, h.1]; exact nI_0.symm
theorem tu2_s {st : Nat → Int32} (hi : i < c) (h : Tu2 st T r c i) : Tu2 (upd st (i + 1) (st (i + 1) + st i)) T r c (i + 1) := by
  refine ⟨fun v hv => ?_, fun v hv hv2 => by rw [pk_un (by omega)]; exact h.2 v (by omega) hv2⟩
  by_cases q : v = i + 1
  · subst q
    rw [pk_us, h.2 i (Nat.le_refl _) hi, h.1 i (Nat.le_refl _), nI_add, of_, Nat.add_comm]
  · rw [pk_un q]; exact h.1 v (by omega)
/-- laid up to the place (i, j) -/
def Tu4 (ct co va : Nat → Int32) (T : Nat → Nat → Int32) (r c i j : Nat) : Prop := (∀ v, v < c → ct v = nI (of_ (tt_ T) r v + rk_ (tt_ T) v (if v < j then i + 1 else i))) ∧ ∀ a b, b < c → (a < i ∨ (a = i ∧ b < j)) → T a b ≠ 0 → co (of_ (tt_ T) r b + rk_ (tt_ T) b a) = nI a ∧ va (of_ (tt_ T) r b + rk_ (tt_ T) b a) = T a b
theorem tu4_0 {st ct co va : Nat → Int32} (h : Tu2 st T r c c) (hc : ∀ v, v < c → ct v = st v) : Tu4 ct co va T r c 0 0 := by
  refine ⟨fun v hv => ?_, fun a b _ h1 => by omega⟩
  rw [hc v hv, h.1 v (by omega), if_neg (by omega)]
  simp [rk_]
theorem tu4_z {ct co va : Nat → Int32} (hz : T i j = 0) (h : Tu4 ct co va T r c i j) : Tu4 ct co va T r c i (j + 1) := by
  refine ⟨fun v hv => ?_, fun a b hb h1 hn => h.2 a b hb ?_ hn⟩
  · rw [h.1 v hv]
    by_cases q : v < j
    · rw [if_pos q, if_pos (by omega)]
    · rw [if_neg q]
      by_cases q2 : v < j + 1
      · rw [if_pos q2]
        have : v = j := by omega
        subst this
        rw [rk_z (T := tt_ T) hz]
      · rw [if_neg q2]
  · by_cases q : a = i ∧ b = j
    · rw [q.1, q.2] at hn; exact absurd hz hn
    · omega
theorem tu4_s {ct co va : Nat → Int32} (hz : T i j ≠ 0) (hi : i < r) (hj : j < c) (h : Tu4 ct co va T r c i j) {n : Nat} (hn : n = of_ (tt_ T) r j + rk_ (tt_ T) j i) : Tu4 (upd ct j (nI (n + 1))) (upd co n (nI i)) (upd va n (T i j)) T r c i (j + 1) := by
  refine ⟨fun v hv => ?_, fun a b hb h1 hne => ?_⟩
  · by_cases q : v = j
    · subst q
      rw [pk_us, if_pos (by omega), rk_s (T := tt_ T) hz, hn, Nat.add_assoc]
    · rw [pk_un q, h.1 v hv]
      by_cases q2 : v < j
      · rw [if_pos q2, if_pos (by omega)]
      · rw [if_neg q2, if_neg (by omega)]
  · by_cases q : a = i ∧ b = j
    · obtain ⟨rfl, rfl⟩ := q
      rw [hn]
      exact ⟨pk_us, pk_us⟩
    · have h2 : of_ (tt_ T) r b + rk_ (tt_ T) b a ≠ n := by
        rw [hn]
        intro z
        by_cases ha : a < r
        · have := pos_inj (T := tt_ T) (c := r) ha hi hne hz z
          omega
        · omega
      rw [pk_un h2, pk_un h2]
      exact h.2 a b hb (by omega) hne
theorem tu4_r {ct co va : Nat → Int32} (h : Tu4 ct co va T r c i c) : Tu4 ct co va T r c (i + 1) 0 := ⟨fun v hv => by rw [h.1 v hv, if_pos hv, if_neg (by omega)], fun a b hb h1 hn => h.2 a b hb (by omega) hn⟩
theorem tu4_csr {st ct co va : Nat → Int32} (h2 : Tu2 st T r c c) (h : Tu4 ct co va T r c r 0) : Csr st co va c r (tt_ T) := ⟨h2.1, fun a b ha hb hn => h.2 b a ha (Or.inl hb) hn⟩
/-- as many non-zeros either way -/
theorem tu_col : of_ T (c + 1) r = of_ T c r + rk_ (tt_ T) c r := by
  induction r with
  | zero => rfl
  | succ r ih => simp only [of_, rk_, ih, tt_]; omega
theorem tu_cnt : of_ (tt_ T) r c = of_ T c r := by
  induction c with
  | zero =>
    induction r with
    | zero => rfl
    | succ r ih => simp only [of_, rk_] at ih ⊢; exact ih
  | succ c ih => rw [tu_col, of_, ih]
end TU
/-- a table laid out by 60: filled up to the place (i, j) -/
def Fi (f : Nat → Int32) (V : Nat → Nat → Int32) (c i j : Nat) : Prop := ∀ a b, b < c → (a < i ∨ (a = i ∧ b < j)) → f (60 * a + b) = V a b
theorem fi_0 {f : Nat → Int32} {V : Nat → Nat → Int32} {c : Nat} : Fi f V c 0 0 := fun a b _ h => by omega
theorem fi_s {f : Nat → Int32} {V : Nat → Nat → Int32} {c i j : Nat} (hc : c ≤ 60) (hj : j < c) (h : Fi f V c i j) {v : Int32} (hv : v = V i j) : Fi (upd f (60 * i + j) v) V c i (j + 1) := by
  intro a b hb h1
  by_cases q : a = i ∧ b = j
  · rw [q.1, q.2, pk_us, hv]
  · rw [pk_un (by omega)]; exact h a b hb (by omega)
theorem fi_r {f : Nat → Int32} {V : Nat → Nat → Int32} {c i : Nat} (h : Fi f V c i c) : Fi f V c (i + 1) 0 := fun a b hb h1 => h a b hb (by omega)
/-- the same, turned over -/
def Ft (f : Nat → Int32) (V : Nat → Nat → Int32) (c i j : Nat) : Prop := ∀ a b, b < c → (a < i ∨ (a = i ∧ b < j)) → f (60 * b + a) = V a b
theorem ft_0 {f : Nat → Int32} {V : Nat → Nat → Int32} {c : Nat} : Ft f V c 0 0 := fun a b _ h => by omega
theorem ft_s {f : Nat → Int32} {V : Nat → Nat → Int32} {c i j : Nat} (hi : i < 60) (hj : j < c) (h : Ft f V c i j) {v : Int32} (hv : v = V i j) : Ft (upd f (60 * j + i) v) V c i (j + 1) := by
  intro a b hb h1
  by_cases q : a = i ∧ b = j
  · rw [q.1, q.2, pk_us, hv]
  · rw [pk_un (by omega)]; exact h a b hb (by omega)
theorem ft_r {f : Nat → Int32} {V : Nat → Nat → Int32} {c i : Nat} (h : Ft f V c i c) : Ft f V c (i + 1) 0 := fun a b hb h1 => h a b hb (by omega)
/-- a stretch of an array, all alike -/
theorem al_s {f : Nat → Int32} {i : Nat} {v w : Int32} (e : v = w) (h : ∀ a, a < i → f a = w) : ∀ a, a < i + 1 → upd f i v a = w := by
  intro a ha
  by_cases q : a = i
  · rw [q, pk_us, e]
  · rw [pk_un q]; exact h a (by omega)
end
section
/-! Matrix and Heap: contracts of their methods (walks printed by gen/leaf.py) -/
set_option maxRecDepth 100000
set_option maxHeartbeats 4000000 in
set_option maxRecDepth 100000 in
/-- in(v, low, high) -/
theorem met_X1_in (l : Launch) (D : va_G) (d : ClassId) (v0 lo hi : Int32) : Met l yX1_in (ws_ yX1_in cX1_in 3 (some .boolean)) ({ frames := 0, cells := 0, slots := 0, locals := 0 } : Room) (pc_ [.int v0, .int lo, .int hi] D d (fun _ => True)) (vp_Si (fun v => v = if lo ≤ v0 ∧ v0 ≤ hi then 1 else 0)) 0 0 (fun _ => False) := by
  refine mt_ofW (own := RX1) rfl (by decide) (Nat.le_of_ble_eq_true rfl) (fun p e s m below meth c C hnm hX ls hl => ?_)
  obtain ⟨hx, hb, -⟩ := C.1
  have hl : lv_has ls 3 [(0, .int v0), (1, .int lo), (2, .int hi)] := hl
  refine lv_iload_n hx hb dX1_in_0 rfl (lv_at hl 0 rfl) ?_
  refine lv_iload_n hx hb dX1_in_1 rfl (lv_at hl 1 rfl) ?_
  refine lv_icmp_lt (tgt := 14) hx hb dX1_in_2 (by decide) (fun c1 => ?_) (fun c1 => ?_)
  · refine lv_iconst (v := nI 0) hx hb dX1_in_14 (by decide) ?_
    exact rd_zret (v := 0) C rfl (by rw [if_neg (fun q => absurd c1 (Int32.not_lt.mpr q.1))]) dX1_in_15
  · refine lv_iload_n hx hb dX1_in_5 rfl (lv_at hl 0 rfl) ?_
    refine lv_iload_n hx hb dX1_in_6 rfl (lv_at hl 2 rfl) ?_
    refine lv_icmp_gt (tgt := 14) hx hb dX1_in_7 (by decide) (fun c2 => ?_) (fun c2 => ?_)
    · refine lv_iconst (v := nI 0) hx hb dX1_in_14 (by decide) ?_
      exact rd_zret (v := 0) C rfl (by rw [if_neg (fun q => absurd c2 (Int32.not_lt.mpr q.2))]) dX1_in_15
    · refine lv_iconst (v := nI 1) hx hb dX1_in_10 (by decide) ?_
      refine lv_goto (tgt := 15) hx hb dX1_in_11 (by decide) ?_
      exact rd_zret (v := 1) C rfl (by rw [if_pos ⟨Int32.not_lt.mp c1, Int32.not_lt.mp c2⟩]) dX1_in_15

set_option maxHeartbeats 4000000 in
set_option maxRecDepth 100000 in
/-- in(v, low, high) -/
theorem met_X4_in (l : Launch) (D : va_G) (d : ClassId) (v0 lo hi : Int32) : Met l yX4_in (ws_ yX4_in cX4_in 3 (some .boolean)) ({ frames := 0, cells := 0, slots := 0, locals := 0 } : Room) (pc_ [.int v0, .int lo, .int hi] D d (fun _ => True)) (vp_Si (fun v => v = if lo ≤ v0 ∧ v0 ≤ hi then 1 else 0)) 0 0 (fun _ => False) := by
  refine mt_ofW (own := RX4) rfl (by decide) (Nat.le_of_ble_eq_true rfl) (fun p e s m below meth c C hnm hX ls hl => ?_)
  obtain ⟨hx, hb, -⟩ := C.1
  have hl : lv_has ls 3 [(0, .int v0), (1, .int lo), (2, .int hi)] := hl
  refine lv_iload_n hx hb dX4_in_0 rfl (lv_at hl 0 rfl) ?_
  refine lv_iload_n hx hb dX4_in_1 rfl (lv_at hl 1 rfl) ?_
  refine lv_icmp_lt (tgt := 14) hx hb dX4_in_2 (by decide) (fun c1 => ?_) (fun c1 => ?_)
  · refine lv_iconst (v := nI 0) hx hb dX4_in_14 (by decide) ?_
    exact rd_zret (v := 0) C rfl (by rw [if_neg (fun q => absurd c1 (Int32.not_lt.mpr q.1))]) dX4_in_15
  · refine lv_iload_n hx hb dX4_in_5 rfl (lv_at hl 0 rfl) ?_
    refine lv_iload_n hx hb dX4_in_6 rfl (lv_at hl 2 rfl) ?_
    refine lv_icmp_gt (tgt := 14) hx hb dX4_in_7 (by decide) (fun c2 => ?_) (fun c2 => ?_)
    · refine lv_iconst (v := nI 0) hx hb dX4_in_14 (by decide) ?_
      exact rd_zret (v := 0) C rfl (by rw [if_neg (fun q => absurd c2 (Int32.not_lt.mpr q.2))]) dX4_in_15
    · refine lv_iconst (v := nI 1) hx hb dX4_in_10 (by decide) ?_
      refine lv_goto (tgt := 15) hx hb dX4_in_11 (by decide) ?_
      exact rd_zret (v := 1) C rfl (by rw [if_pos ⟨Int32.not_lt.mp c1, Int32.not_lt.mp c2⟩]) dX4_in_15

set_option maxHeartbeats 4000000 in
set_option maxRecDepth 100000 in
/-- size(): the last start -/
theorem met_size (l : Launch) (D : va_G) (d : ClassId) {a sa ca va nr : Nat} {nc : Int32} {st : Nat → Int32} (hnr : nr ≤ 60) : Met l yX2_size (ws_ yX2_size cX2_size 1 (some .int)) ({ frames := 0, cells := 0, slots := 0, locals := 0 } : Room) (pc_ [.ref a] D d (xw D [cO a 1 [.ref sa, .ref ca, .ref va, .int (nI nr), .int nc], cA d sa 61 st])) (vp_Si (fun v => v = st nr)) 0 0 (fun _ => False) := by
  refine mt_ofW (own := RX2) rfl (by decide) (Nat.le_of_ble_eq_true rfl) (fun p e s m below meth c C hnm hX ls hl => ?_)
  obtain ⟨hx, hb, -⟩ := C.1
  have hl : lv_has ls 1 [(0, .ref a)] := hl
  have hw : Wd D (fun _ => True) s.heap [cO a 1 [.ref sa, .ref ca, .ref va, .int (nI nr), .int nc], cA d sa 61 st] s.heap [] := ⟨hX.1, hX.2, va_S.rf⟩
  refine lv_aload_n hx hb dX2_size_0 rfl (lv_at hl 0 rfl) ?_
  refine g_X2_9 C hw 0 rfl rfl dX2_size_1 ?_
  refine lv_aload_n hx hb dX2_size_4 rfl (lv_at hl 0 rfl) ?_
  refine g_X2_21 C hw 0 rfl rfl dX2_size_5 ?_
  refine w_iald C hw 1 rfl (by omega) dX2_size_8 ?_
  exact rd_iret C rfl dX2_size_9

section BE
variable {p : Program} {l : Launch} {e : Env} {R : Room} {s : State} {m : MethodId} {args : Array Value} {below : List Frame} {meth : Method} {c : Code} {Q : State → Prop}
variable {D : va_G} {d : ClassId} {A : Nat → Prop} {H0 : Heap} {ret : Option FieldType}
set_option maxHeartbeats 4000000 in
set_option maxRecDepth 100000 in
/-- be's loop: starts up to i are 0 -/
theorem lp_be {a sa ca va : Nat} {p0 p1 : Int32} (C : Cx p s m args meth c cX2_be 4 RX2 ret D d) (K : ∀ (f : Nat → Int32) (H : Heap) (locs : List Loc) (ls : Array Slot), (∀ v, v < 61 → f v = 0) → Wd D A H0 [cO a 1 [.ref sa, .ref ca, .ref va, .int p0, .int p1], cA d sa 61 f] H locs → W p l e R s m args below meth c H locs 0 0 Q (F0 m 31 ls [])) :
    ∀ (n i : Nat) (f : Nat → Int32) (H : Heap) (locs : List Loc) (ls : Array Slot), i ≤ 61 → 62 ≤ i + n → (∀ v, v < i → f v = 0) → Wd D A H0 [cO a 1 [.ref sa, .ref ca, .ref va, .int p0, .int p1], cA d sa 61 f] H locs → lv_has ls 4 [(0, .ref a), (3, .int (nI i))] → W p l e R s m args below meth c H locs 0 0 Q (F0 m 12 ls []) := by
  obtain ⟨hx, hb, -⟩ := C.1
  intro n
  induction n with
  | zero => intro i f H locs ls h1 h2; omega
  | succ n ih =>
    intro i f H locs ls h1 h2 h3 hw hl
    refine lv_iload_n hx hb dX2_be_12 rfl (lv_at hl 1 rfl) ?_
    refine lv_bipush (v := nI 60) hx hb dX2_be_13 (by decide) ?_
    refine w_icmp_gt C (tgt := 31) (by omega) (by omega) dX2_be_15 (by decide) (fun c1 => ?_) (fun c1 => ?_)
    · exact K f H locs ls (fun v hv => h3 v (by omega)) hw
    · refine lv_aload_n hx hb dX2_be_18 rfl (lv_at hl 0 rfl) ?_
      refine g_X2_9 C hw 0 rfl rfl dX2_be_19 ?_
      refine lv_iload_n hx hb dX2_be_22 rfl (lv_at hl 1 rfl) ?_
      refine lv_iconst (v := nI 0) hx hb dX2_be_23 (by decide) ?_
      refine w_iast C hw 1 rfl (by omega) dX2_be_24 (fun H locs hw => ?_)
      have hw : Wd D A H0 [cO a 1 [.ref sa, .ref ca, .ref va, .int p0, .int p1], cA d sa 61 (upd f i (nI 0))] H locs := hw
      refine lv_iinc (v := nI (i + 1)) (lv' := [(3, .int (nI (i + 1))), (0, .ref a)]) hx hb dX2_be_25 hl (k := 1) rfl (nI_1 _) (by decide) rfl (fun ls hl => ?_)
      refine lv_goto (tgt := 12) hx hb dX2_be_28 (by decide) ?_
      exact ih (i + 1) _ H locs ls (by omega) (by omega) (al_s nI_0 h3) hw (lv_sub hl [1, 0] rfl)
end BE
set_option maxHeartbeats 4000000 in
set_option maxRecDepth 100000 in
/-- be(r, c): rows, cols, and no starts -/
theorem met_be (l : Launch) (D : va_G) (d : ClassId) {a sa ca va : Nat} {r0 c0 : Int32} {st : Nat → Int32} (p0 p1 : Int32) : Met l yX2_be (ws_ yX2_be cX2_be 4 none) ({ frames := 0, cells := 0, slots := 0, locals := 0 } : Room) (pc_ [.ref a, .int p0, .int p1] D d (xw D [cO a 1 [.ref sa, .ref ca, .ref va, .int r0, .int c0], cA d sa 61 st])) (va_Qv (fun (f : Nat → Int32) => ∀ v, v < 61 → f v = 0) (fun (f : Nat → Int32) t9 => va_P D vwCl [cO a 1 [.ref sa, .ref ca, .ref va, .int p0, .int p1], cA d sa 61 f] t9.heap) (zs [cO a 1 [.ref sa, .ref ca, .ref va, .int r0, .int c0], cA d sa 61 st])) 0 0 (zs [cO a 1 [.ref sa, .ref ca, .ref va, .int r0, .int c0], cA d sa 61 st]) := by
  refine mt_ofW (own := RX2) rfl (by decide) (Nat.le_of_ble_eq_true rfl) (fun p e s m below meth c C hnm hX ls hl => ?_)
  obtain ⟨hx, hb, -⟩ := C.1
  have hl : lv_has ls 4 [(0, .ref a), (1, .int p0), (2, .int p1)] := hl
  have hw : Wd D (zs [cO a 1 [.ref sa, .ref ca, .ref va, .int r0, .int c0], cA d sa 61 st]) s.heap [cO a 1 [.ref sa, .ref ca, .ref va, .int r0, .int c0], cA d sa 61 st] s.heap [] := ⟨hX.1, zs_self hX.2, va_S.rf⟩
  generalize zs [cO a 1 [.ref sa, .ref ca, .ref va, .int r0, .int c0], cA d sa 61 st] = A at hw ⊢
  refine lv_aload_n hx hb dX2_be_0 rfl (lv_at hl 0 rfl) ?_
  refine lv_iload_n hx hb dX2_be_1 rfl (lv_at hl 1 rfl) ?_
  refine p_X2_21 C hw 0 rfl (Nat.le_of_ble_eq_true rfl) dX2_be_2 (fun H locs hw => ?_)
  have hw : Wd D A s.heap [cO a 1 [.ref sa, .ref ca, .ref va, .int p0, .int c0], cA d sa 61 st] H locs := hw
  refine lv_aload_n hx hb dX2_be_5 rfl (lv_at hl 0 rfl) ?_
  refine lv_iload_n hx hb dX2_be_6 rfl (lv_at hl 2 rfl) ?_
  refine p_X2_25 C hw 0 rfl (Nat.le_of_ble_eq_true rfl) dX2_be_7 (fun H locs hw => ?_)
  have hw : Wd D A s.heap [cO a 1 [.ref sa, .ref ca, .ref va, .int p0, .int p1], cA d sa 61 st] H locs := hw
  refine lv_iconst (v := nI 0) hx hb dX2_be_10 (by decide) ?_
  refine lv_istore_n (lv' := [(3, .int (nI 0)), (0, .ref a), (1, .int p0), (2, .int p1)]) hx hb dX2_be_11 rfl hl (by decide) rfl (fun ls hl => ?_)
  exact lp_be C (fun f H locs ls h1 hw => mu_vret (Y := fun f h => va_P D vwCl [cO a 1 [.ref sa, .ref ca, .ref va, .int p0, .int p1], cA d sa 61 f] h) C hw.2.2 f h1 hw.1 dX2_be_31) 62 0 st H locs ls (by omega) (by omega) (fun v hv => by omega) hw (lv_sub hl [1, 0] rfl)

set_option maxHeartbeats 4000000 in
set_option maxRecDepth 100000 in
/-- puts at the end of the room -/
theorem met_puts_no (l : Launch) (D : va_G) (d : ClassId) {a ca va cap : Nat} {f0 f3 f4 : Value} {co vv : Nat → Int32} (j v0 : Int32) (hcap : cap ≤ 1000) : Met l yX2_puts (ws_ yX2_puts cX2_puts 5 (some .boolean)) ({ frames := 0, cells := 0, slots := 0, locals := 0 } : Room) (pc_ [.ref a, .int (nI cap), .int (nI cap), .int j, .int v0] D d (xw D [cO a 1 [f0, .ref ca, .ref va, f3, f4], cA d ca 1000 co, cA d va 1000 vv])) (vp_Si (fun v => v = 0)) 0 0 (fun _ => False) := by
  refine mt_ofW (own := RX2) rfl (by decide) (Nat.le_of_ble_eq_true rfl) (fun p e s m below meth c C hnm hX ls hl => ?_)
  obtain ⟨hx, hb, -⟩ := C.1
  have hl : lv_has ls 5 [(0, .ref a), (1, .int (nI cap)), (2, .int (nI cap)), (3, .int j), (4, .int v0)] := hl
  have hw : Wd D (fun _ => True) s.heap [cO a 1 [f0, .ref ca, .ref va, f3, f4], cA d ca 1000 co, cA d va 1000 vv] s.heap [] := ⟨hX.1, hX.2, va_S.rf⟩
  refine lv_iload_n hx hb dX2_puts_0 rfl (lv_at hl 1 rfl) ?_
  refine lv_iload_n hx hb dX2_puts_1 rfl (lv_at hl 2 rfl) ?_
  refine w_icmp_ne C (tgt := 7) (by omega) (by omega) dX2_puts_2 (by decide) (fun c1 => ?_) (fun c1 => ?_)
  · exact absurd rfl c1
  · refine lv_iconst (v := nI 0) hx hb dX2_puts_5 (by decide) ?_
    exact rd_zret (v := nI 0) C rfl nI_0 dX2_puts_6

set_option maxHeartbeats 4000000 in
set_option maxRecDepth 100000 in
/-- puts where there is room -/
theorem met_puts_yes (l : Launch) (D : va_G) (d : ClassId) {a ca va at_ cap : Nat} {f0 f3 f4 : Value} {co vv : Nat → Int32} (j v0 : Int32) (hat : at_ < cap) (hcap : cap ≤ 1000) : Met l yX2_puts (ws_ yX2_puts cX2_puts 5 (some .boolean)) ({ frames := 0, cells := 0, slots := 0, locals := 0 } : Room) (pc_ [.ref a, .int (nI at_), .int (nI cap), .int j, .int v0] D d (xw D [cO a 1 [f0, .ref ca, .ref va, f3, f4], cA d ca 1000 co, cA d va 1000 vv])) (va_Qi (fun v (_ : Unit) => v = 1) (fun (_ : Unit) t9 => va_P D vwCl [cO a 1 [f0, .ref ca, .ref va, f3, f4], cA d ca 1000 (upd co at_ j), cA d va 1000 (upd vv at_ v0)] t9.heap) (zs [cO a 1 [f0, .ref ca, .ref va, f3, f4], cA d ca 1000 co, cA d va 1000 vv])) 0 0 (zs [cO a 1 [f0, .ref ca, .ref va, f3, f4], cA d ca 1000 co, cA d va 1000 vv]) := by
  refine mt_ofW (own := RX2) rfl (by decide) (Nat.le_of_ble_eq_true rfl) (fun p e s m below meth c C hnm hX ls hl => ?_)
  obtain ⟨hx, hb, -⟩ := C.1
  have hl : lv_has ls 5 [(0, .ref a), (1, .int (nI at_)), (2, .int (nI cap)), (3, .int j), (4, .int v0)] := hl
  have hw : Wd D (zs [cO a 1 [f0, .ref ca, .ref va, f3, f4], cA d ca 1000 co, cA d va 1000 vv]) s.heap [cO a 1 [f0, .ref ca, .ref va, f3, f4], cA d ca 1000 co, cA d va 1000 vv] s.heap [] := ⟨hX.1, zs_self hX.2, va_S.rf⟩
  generalize zs [cO a 1 [f0, .ref ca, .ref va, f3, f4], cA d ca 1000 co, cA d va 1000 vv] = A at hw ⊢
  refine lv_iload_n hx hb dX2_puts_0 rfl (lv_at hl 1 rfl) ?_
  refine lv_iload_n hx hb dX2_puts_1 rfl (lv_at hl 2 rfl) ?_
  refine w_icmp_ne C (tgt := 7) (by omega) (by omega) dX2_puts_2 (by decide) (fun c1 => ?_) (fun c1 => ?_)
  · refine lv_aload_n hx hb dX2_puts_7 rfl (lv_at hl 0 rfl) ?_
    refine g_X2_15 C hw 0 rfl rfl dX2_puts_8 ?_
    refine lv_iload_n hx hb dX2_puts_11 rfl (lv_at hl 1 rfl) ?_
    refine lv_iload_n hx hb dX2_puts_12 rfl (lv_at hl 3 rfl) ?_
    refine w_iast C hw 1 rfl (by omega) dX2_puts_13 (fun H locs hw => ?_)
    have hw : Wd D A s.heap [cO a 1 [f0, .ref ca, .ref va, f3, f4], cA d ca 1000 (upd co at_ j), cA d va 1000 vv] H locs := hw
    refine lv_aload_n hx hb dX2_puts_14 rfl (lv_at hl 0 rfl) ?_
    refine g_X2_18 C hw 0 rfl rfl dX2_puts_15 ?_
    refine lv_iload_n hx hb dX2_puts_18 rfl (lv_at hl 1 rfl) ?_
    refine lv_iload hx hb dX2_puts_19 (lv_at hl 4 rfl) ?_
    refine w_iast C hw 2 rfl (by omega) dX2_puts_21 (fun H locs hw => ?_)
    have hw : Wd D A s.heap [cO a 1 [f0, .ref ca, .ref va, f3, f4], cA d ca 1000 (upd co at_ j), cA d va 1000 (upd vv at_ v0)] H locs := hw
    refine lv_iconst (v := nI 1) hx hb dX2_puts_22 (by decide) ?_
    exact mu_zret (v := nI 1) (Y := fun _ h => va_P D vwCl [cO a 1 [f0, .ref ca, .ref va, f3, f4], cA d ca 1000 (upd co at_ j), cA d va 1000 (upd vv at_ v0)] h) C hw.2.2 rfl () rfl hw.1 dX2_puts_23
  · omega

set_option maxHeartbeats 4000000 in
set_option maxRecDepth 100000 in
/-- adds(i, j, v) -/
theorem met_adds (l : Launch) (D : va_G) (d : ClassId) {a ra ca va n : Nat} {ro co vv : Nat → Int32} (i j v0 : Int32) (hn : n < 2000) : Met l yX3_adds (ws_ yX3_adds cX3_adds 4 none) ({ frames := 0, cells := 0, slots := 0, locals := 0 } : Room) (pc_ [.ref a, .int i, .int j, .int v0] D d (xw D [cO a 2 [.ref ra, .ref ca, .ref va, .int (nI n)], cA d ra 2000 ro, cA d ca 2000 co, cA d va 2000 vv])) (va_Qv (fun (_ : Unit) => True) (fun (_ : Unit) t9 => va_P D vwCl [cO a 2 [.ref ra, .ref ca, .ref va, .int (nI (n + 1))], cA d ra 2000 (upd ro n i), cA d ca 2000 (upd co n j), cA d va 2000 (upd vv n v0)] t9.heap) (zs [cO a 2 [.ref ra, .ref ca, .ref va, .int (nI n)], cA d ra 2000 ro, cA d ca 2000 co, cA d va 2000 vv])) 0 0 (zs [cO a 2 [.ref ra, .ref ca, .ref va, .int (nI n)], cA d ra 2000 ro, cA d ca 2000 co, cA d va 2000 vv]) := by
  refine mt_ofW (own := RX3) rfl (by decide) (Nat.le_of_ble_eq_true rfl) (fun p e s m below meth c C hnm hX ls hl => ?_)
  obtain ⟨hx, hb, -⟩ := C.1
  have hl : lv_has ls 4 [(0, .ref a), (1, .int i), (2, .int j), (3, .int v0)] := hl
  have hw : Wd D (zs [cO a 2 [.ref ra, .ref ca, .ref va, .int (nI n)], cA d ra 2000 ro, cA d ca 2000 co, cA d va 2000 vv]) s.heap [cO a 2 [.ref ra, .ref ca, .ref va, .int (nI n)], cA d ra 2000 ro, cA d ca 2000 co, cA d va 2000 vv] s.heap [] := ⟨hX.1, zs_self hX.2, va_S.rf⟩
  generalize zs [cO a 2 [.ref ra, .ref ca, .ref va, .int (nI n)], cA d ra 2000 ro, cA d ca 2000 co, cA d va 2000 vv] = A at hw ⊢
  refine lv_aload_n hx hb dX3_adds_0 rfl (lv_at hl 0 rfl) ?_
  refine g_X3_9 C hw 0 rfl rfl dX3_adds_1 ?_
  refine lv_aload_n hx hb dX3_adds_4 rfl (lv_at hl 0 rfl) ?_
  refine g_X3_21 C hw 0 rfl rfl dX3_adds_5 ?_
  refine lv_iload_n hx hb dX3_adds_8 rfl (lv_at hl 1 rfl) ?_
  refine w_iast C hw 1 rfl (by omega) dX3_adds_9 (fun H locs hw => ?_)
  have hw : Wd D A s.heap [cO a 2 [.ref ra, .ref ca, .ref va, .int (nI n)], cA d ra 2000 (upd ro n i), cA d ca 2000 co, cA d va 2000 vv] H locs := hw
  refine lv_aload_n hx hb dX3_adds_10 rfl (lv_at hl 0 rfl) ?_
  refine g_X3_15 C hw 0 rfl rfl dX3_adds_11 ?_
  refine lv_aload_n hx hb dX3_adds_14 rfl (lv_at hl 0 rfl) ?_
  refine g_X3_21 C hw 0 rfl rfl dX3_adds_15 ?_
  refine lv_iload_n hx hb dX3_adds_18 rfl (lv_at hl 2 rfl) ?_
  refine w_iast C hw 2 rfl (by omega) dX3_adds_19 (fun H locs hw => ?_)
  have hw : Wd D A s.heap [cO a 2 [.ref ra, .ref ca, .ref va, .int (nI n)], cA d ra 2000 (upd ro n i), cA d ca 2000 (upd co n j), cA d va 2000 vv] H locs := hw
  refine lv_aload_n hx hb dX3_adds_20 rfl (lv_at hl 0 rfl) ?_
  refine g_X3_18 C hw 0 rfl rfl dX3_adds_21 ?_
  refine lv_aload_n hx hb dX3_adds_24 rfl (lv_at hl 0 rfl) ?_
  refine g_X3_21 C hw 0 rfl rfl dX3_adds_25 ?_
  refine lv_iload_n hx hb dX3_adds_28 rfl (lv_at hl 3 rfl) ?_
  refine w_iast C hw 3 rfl (by omega) dX3_adds_29 (fun H locs hw => ?_)
  have hw : Wd D A s.heap [cO a 2 [.ref ra, .ref ca, .ref va, .int (nI n)], cA d ra 2000 (upd ro n i), cA d ca 2000 (upd co n j), cA d va 2000 (upd vv n v0)] H locs := hw
  refine lv_aload_n hx hb dX3_adds_30 rfl (lv_at hl 0 rfl) ?_
  refine lv_dup hx hb dX3_adds_31 rfl ?_
  refine g_X3_21 C hw 0 rfl rfl dX3_adds_32 ?_
  refine lv_iconst (v := nI 1) hx hb dX3_adds_35 (by decide) ?_
  refine w_iadd C dX3_adds_36 ?_
  refine p_X3_21 C hw 0 rfl (Nat.le_of_ble_eq_true rfl) dX3_adds_37 (fun H locs hw => ?_)
  have hw : Wd D A s.heap [cO a 2 [.ref ra, .ref ca, .ref va, .int (nI (n + 1))], cA d ra 2000 (upd ro n i), cA d ca 2000 (upd co n j), cA d va 2000 (upd vv n v0)] H locs := hw
  exact mu_vret (Y := fun _ h => va_P D vwCl [cO a 2 [.ref ra, .ref ca, .ref va, .int (nI (n + 1))], cA d ra 2000 (upd ro n i), cA d ca 2000 (upd co n j), cA d va 2000 (upd vv n v0)] h) C hw.2.2 () trivial hw.1 dX3_adds_40
end
section
/-! Matrix.find, Heap.sorts (walks printed by gen/sort.py) -/
set_option maxRecDepth 100000
theorem bs_gt {lo hi : Nat} (h1 : lo ≤ 2000) (h2 : hi ≤ 2000) : nI hi - nI 1 < nI lo ↔ hi ≤ lo := by
  rw [Int32.lt_iff_toInt_lt, pk_sub_toInt (by omega) (by omega), nI_toInt (by omega)]
  omega
theorem bs_add {lo hi : Nat} (h : 1 ≤ hi) : nI lo + (nI hi - nI 1) = nI (lo + (hi - 1)) := by rw [pk_sub h, nI_add]
theorem bs_sh {n : Nat} (h : n < 2 ^ 31) : ((nI n).toUInt32 >>> ((nI 1).toUInt32 &&& Int32.toUInt32 31)).toInt32 = nI (n / 2) := by
  have := pk_ushrN (n := n) (by omega) (nI 1) 1 (by decide)
  rw [this]
section FI
variable {p : Program} {l : Launch} {e : Env} {R : Room} {s : State} {m : MethodId} {args : Array Value} {below : List Frame} {meth : Method} {c : Code} {Q : State → Prop}
variable {D : va_G} {d : ClassId} {A : Nat → Prop} {H0 : Heap} {ret : Option FieldType}
set_option maxHeartbeats 4000000 in
set_option maxRecDepth 100000 in
/-- find's loop: where it is, it lies between lo and hi -/
theorem lp_find {a sa ca nr nc i j : Nat} {f2 f3 f4 : Value} {st co vv : Nat → Int32} {T : Nat → Nat → Int32} {H : Heap} {locs : List Loc} (C : Cx p s m args meth c cX2_find 6 RX2 ret D d) (hc : Csr st co vv nr nc T) (hi : i < nr) (hnr : nr ≤ 60) (hj : j < nc) (hnc : nc ≤ 60) (htot : of_ T nc nr ≤ 1000) (hw : Wd D A H0 [cO a 1 [.ref sa, .ref ca, f2, f3, f4], cA d sa 61 st, cA d ca 1000 co] H locs)
    (Kf : ∀ ls, T i j = 0 → W p l e R s m args below meth c H locs 0 0 Q (F0 m 75 ls [])) (Kt : ∀ ls, T i j ≠ 0 → W p l e R s m args below meth c H locs 0 0 Q (F0 m 46 ls [.int (nI (of_ T nc i + rk_ T i j))])) :
    ∀ (n lo hi_ : Nat) (ls : Array Slot), of_ T nc i ≤ lo → lo ≤ hi_ → hi_ ≤ of_ T nc (i + 1) → hi_ < lo + n → (T i j ≠ 0 → lo ≤ of_ T nc i + rk_ T i j ∧ of_ T nc i + rk_ T i j < hi_) → lv_has ls 6 [(0, .ref a), (1, .int (nI i)), (2, .int (nI j)), (3, .int (nI lo)), (4, .int (nI hi_ - nI 1))] → W p l e R s m args below meth c H locs 0 0 Q (F0 m 19 ls []) := by
  obtain ⟨hx, hb, -⟩ := C.1
  have htop : of_ T nc (i + 1) ≤ of_ T nc nr := of_mono hi
  intro n
  induction n with
  | zero => intro lo hi_ ls h1 h2 h3 h4; omega
  | succ n ih =>
    intro lo hi_ ls h1 h2 h3 h4 h5 hl
    refine lv_iload_n hx hb dX2_find_19 rfl (lv_at hl 3 rfl) ?_
    refine lv_iload hx hb dX2_find_20 (lv_at hl 4 rfl) ?_
    refine lv_icmp_gt (tgt := 75) hx hb dX2_find_22 (by decide) (fun c1 => ?_) (fun c1 => ?_)
    · have c1 := (bs_gt (by omega) (by omega)).mp c1
      exact Kf ls (Decidable.byContradiction fun q => by have := h5 q; omega)
    · have c1 : lo < hi_ := Nat.lt_of_not_le fun q => c1 ((bs_gt (by omega) (by omega)).mpr q)
      obtain ⟨mid, hmid⟩ : ∃ y, y = (lo + (hi_ - 1)) / 2 := ⟨_, rfl⟩
      obtain ⟨jm, g1, g2, g3, g4, -⟩ := csr_sur hc (k := mid) hi (by omega) (by omega)
      refine lv_iload_n hx hb dX2_find_25 rfl (lv_at hl 3 rfl) ?_
      refine lv_iload hx hb dX2_find_26 (lv_at hl 4 rfl) ?_
      refine lv_iadd hx hb dX2_find_28 ?_
      refine w_top (y := nI (lo + (hi_ - 1))) (bs_add (by omega)) ?_
      refine lv_iconst (v := nI 1) hx hb dX2_find_29 (by decide) ?_
      refine lv_iushr (v := (nI mid)) hx hb dX2_find_30 (by rw [hmid]; exact bs_sh (by omega)) ?_
      refine lv_istore (lv' := [(5, .int (nI mid)), (0, .ref a), (1, .int (nI i)), (2, .int (nI j)), (3, .int (nI lo)), (4, .int (nI hi_ - nI 1))]) hx hb dX2_find_31 hl (by decide) rfl (fun ls hl => ?_)
      refine lv_aload_n hx hb dX2_find_33 rfl (lv_at hl 1 rfl) ?_
      refine g_X2_15 C hw 0 rfl rfl dX2_find_34 ?_
      refine lv_iload hx hb dX2_find_37 (lv_at hl 0 rfl) ?_
      refine w_iald C hw 2 rfl (by omega) dX2_find_39 ?_
      refine w_top (y := nI jm) (g4) ?_
      refine lv_iload_n hx hb dX2_find_40 rfl (lv_at hl 3 rfl) ?_
      refine w_icmp_ne C (tgt := 47) (by omega) (by omega) dX2_find_41 (by decide) (fun c2 => ?_) (fun c2 => ?_)
      · refine lv_aload_n hx hb dX2_find_47 rfl (lv_at hl 1 rfl) ?_
        refine g_X2_15 C hw 0 rfl rfl dX2_find_48 ?_
        refine lv_iload hx hb dX2_find_51 (lv_at hl 0 rfl) ?_
        refine w_iald C hw 2 rfl (by omega) dX2_find_53 ?_
        refine w_top (y := nI jm) (g4) ?_
        refine lv_iload_n hx hb dX2_find_54 rfl (lv_at hl 3 rfl) ?_
        refine w_icmp_ge C (tgt := 66) (by omega) (by omega) dX2_find_55 (by decide) (fun c3 => ?_) (fun c3 => ?_)
        · have hj2 : j < jm := by omega
          refine lv_iload hx hb dX2_find_66 (lv_at hl 0 rfl) ?_
          refine lv_iconst (v := nI 1) hx hb dX2_find_68 (by decide) ?_
          refine lv_isub hx hb dX2_find_69 ?_
          refine lv_istore (lv' := [(4, .int ((nI mid) - (nI 1))), (5, .int (nI mid)), (0, .ref a), (1, .int (nI i)), (2, .int (nI j)), (3, .int (nI lo))]) hx hb dX2_find_70 hl (by decide) rfl (fun ls hl => ?_)
          refine lv_goto (tgt := 19) hx hb dX2_find_72 (by decide) ?_
          exact ih lo mid ls (by omega) (by omega) (by omega) (by omega) (fun q => by have := h5 q; have := rk_lt q hj2; omega) (lv_sub hl [2, 3, 4, 5, 0] rfl)
        · refine lv_iload hx hb dX2_find_58 (lv_at hl 0 rfl) ?_
          refine lv_iconst (v := nI 1) hx hb dX2_find_60 (by decide) ?_
          refine w_iadd C dX2_find_61 ?_
          refine lv_istore_n (lv' := [(3, .int (nI (mid + 1))), (5, .int (nI mid)), (0, .ref a), (1, .int (nI i)), (2, .int (nI j)), (4, .int (nI hi_ - nI 1))]) hx hb dX2_find_62 rfl hl (by decide) rfl (fun ls hl => ?_)
          refine lv_goto (tgt := 72) hx hb dX2_find_63 (by decide) ?_
          refine lv_goto (tgt := 19) hx hb dX2_find_72 (by decide) ?_
          exact ih (mid + 1) hi_ ls (by omega) (by omega) (by omega) (by omega) (fun q => by have := h5 q; have := rk_lt g2 c3; omega) (lv_sub hl [2, 3, 4, 0, 5] rfl)
      · subst c2
        refine lv_iload hx hb dX2_find_44 (lv_at hl 0 rfl) ?_
        rw [g3]
        exact Kt ls g2
end FI
set_option maxHeartbeats 4000000 in
set_option maxRecDepth 100000 in
/-- find(i, j): where a place is -/
theorem met_find (l : Launch) (D : va_G) (d : ClassId) {a sa ca nr nc i j : Nat} {f2 f3 f4 : Value} {st co vv : Nat → Int32} {T : Nat → Nat → Int32} (hc : Csr st co vv nr nc T) (hi : i < nr) (hnr : nr ≤ 60) (hj : j < nc) (hnc : nc ≤ 60) (htot : of_ T nc nr ≤ 1000) : Met l yX2_find (ws_ yX2_find cX2_find 6 (some .int)) ({ frames := 0, cells := 0, slots := 0, locals := 0 } : Room) (pc_ [.ref a, .int (nI i), .int (nI j)] D d (xw D [cO a 1 [.ref sa, .ref ca, f2, f3, f4], cA d sa 61 st, cA d ca 1000 co])) (vp_Si (fun v => v = if T i j = 0 then -1 else nI (of_ T nc i + rk_ T i j))) 0 0 (fun _ => False) := by
  refine mt_ofW (own := RX2) rfl (by decide) (Nat.le_of_ble_eq_true rfl) (fun p e s m below meth c C hnm hX ls hl => ?_)
  obtain ⟨hx, hb, -⟩ := C.1
  have hl : lv_has ls 6 [(0, .ref a), (1, .int (nI i)), (2, .int (nI j))] := hl
  have hw : Wd D (fun _ => True) s.heap [cO a 1 [.ref sa, .ref ca, f2, f3, f4], cA d sa 61 st, cA d ca 1000 co] s.heap [] := ⟨hX.1, hX.2, va_S.rf⟩
  refine lv_aload_n hx hb dX2_find_0 rfl (lv_at hl 0 rfl) ?_
  refine g_X2_9 C hw 0 rfl rfl dX2_find_1 ?_
  refine lv_iload_n hx hb dX2_find_4 rfl (lv_at hl 1 rfl) ?_
  refine w_iald C hw 1 rfl (by omega) dX2_find_5 ?_
  refine w_top (y := nI (of_ T nc i)) (hc.1 i (by omega)) ?_
  refine lv_istore_n (lv' := [(3, .int (nI (of_ T nc i))), (0, .ref a), (1, .int (nI i)), (2, .int (nI j))]) hx hb dX2_find_6 rfl hl (by decide) rfl (fun ls hl => ?_)
  refine lv_aload_n hx hb dX2_find_7 rfl (lv_at hl 1 rfl) ?_
  refine g_X2_9 C hw 0 rfl rfl dX2_find_8 ?_
  refine lv_iload_n hx hb dX2_find_11 rfl (lv_at hl 2 rfl) ?_
  refine lv_iconst (v := nI 1) hx hb dX2_find_12 (by decide) ?_
  refine w_iadd C dX2_find_13 ?_
  refine w_iald C hw 1 rfl (by omega) dX2_find_14 ?_
  refine w_top (y := nI (of_ T nc (i + 1))) (hc.1 (i + 1) (by omega)) ?_
  refine lv_iconst (v := nI 1) hx hb dX2_find_15 (by decide) ?_
  refine lv_isub hx hb dX2_find_16 ?_
  refine lv_istore (lv' := [(4, .int ((nI (of_ T nc (i + 1))) - (nI 1))), (3, .int (nI (of_ T nc i))), (0, .ref a), (1, .int (nI i)), (2, .int (nI j))]) hx hb dX2_find_17 hl (by decide) rfl (fun ls hl => ?_)
  exact lp_find C hc hi hnr hj hnc htot hw (fun ls q => by
      refine lv_iconst (v := (-1)) hx hb dX2_find_75 (by decide) ?_
      exact rd_iret C (by rw [if_pos q]) dX2_find_76)
    (fun ls q => rd_iret C (by rw [if_neg q]) dX2_find_46) (of_ T nc (i + 1) + 1) (of_ T nc i) (of_ T nc (i + 1)) ls (Nat.le_refl _) (of_mono (by omega)) (Nat.le_refl _) (by omega) (fun q => ⟨by omega, pos_row hj q⟩) (lv_sub hl [2, 3, 4, 1, 0] rfl)

section SR
variable {p : Program} {l : Launch} {e : Env} {R : Room} {s : State} {m : MethodId} {args : Array Value} {below : List Frame} {meth : Method} {c : Code} {Q : State → Prop}
variable {D : va_G} {d : ClassId} {A : Nat → Prop} {H0 : Heap} {ret : Option FieldType}
set_option maxHeartbeats 4000000 in
set_option maxRecDepth 100000 in
theorem lp_so1 {a ra ca va b rb cb vb t : Nat} {n2 fg : Int32} {ro co vv : Nat → Int32} {L : List Tr} {f g k : Nat → Int32} (C : Cx p s m args meth c cX3_sorts 6 RX3 ret D d) (K : ∀ (ct : Nat → Int32) (H : Heap) (locs : List Loc) (ls : Array Slot), (∀ v, v < 61 → ct v = 0) → Wd D A H0 [cO a 2 [.ref ra, .ref ca, .ref va, .int (nI L.length)], cA d ra 2000 ro, cA d ca 2000 co, cA d va 2000 vv, cO b 2 [.ref rb, .ref cb, .ref vb, .int n2], cA d rb 2000 f, cA d cb 2000 g, cA d vb 2000 k, cA d t 61 ct] H locs → lv_has ls 6 [(0, .ref a), (1, .ref b), (2, .ref t), (3, .int fg)] → W p l e R s m args below meth c H locs 0 0 Q (F0 m 21 ls [])) :
    ∀ (n i : Nat) (ct : Nat → Int32) (H : Heap) (locs : List Loc) (ls : Array Slot), i ≤ 61 → 62 ≤ i + n → (∀ v, v < i → ct v = 0) → Wd D A H0 [cO a 2 [.ref ra, .ref ca, .ref va, .int (nI L.length)], cA d ra 2000 ro, cA d ca 2000 co, cA d va 2000 vv, cO b 2 [.ref rb, .ref cb, .ref vb, .int n2], cA d rb 2000 f, cA d cb 2000 g, cA d vb 2000 k, cA d t 61 ct] H locs → lv_has ls 6 [(0, .ref a), (1, .ref b), (2, .ref t), (3, .int fg), (4, .int (nI i))] → W p l e R s m args below meth c H locs 0 0 Q (F0 m 3 ls []) := by
  obtain ⟨hx, hb, -⟩ := C.1
  intro n
  induction n with
  | zero => intro i ct H locs ls h1 h2; omega
  | succ n ih =>
    intro i ct H locs ls h1 h2 h3 hw hl
    refine lv_iload hx hb dX3_sorts_3 (lv_at hl 4 rfl) ?_
    refine lv_bipush (v := nI 60) hx hb dX3_sorts_5 (by decide) ?_
    refine w_icmp_gt C (tgt := 21) (by omega) (by omega) dX3_sorts_7 (by decide) (fun c1 => ?_) (fun c1 => ?_)
    · exact K ct H locs ls (fun v hv => h3 v (by omega)) hw (lv_sub hl [0, 1, 2, 3] rfl)
    · refine lv_aload_n hx hb dX3_sorts_10 rfl (lv_at hl 2 rfl) ?_
      refine lv_iload hx hb dX3_sorts_11 (lv_at hl 4 rfl) ?_
      refine lv_iconst (v := nI 0) hx hb dX3_sorts_13 (by decide) ?_
      refine w_iast C hw 8 rfl (by omega) dX3_sorts_14 (fun H locs hw => ?_)
      have hw : Wd D A H0 [cO a 2 [.ref ra, .ref ca, .ref va, .int (nI L.length)], cA d ra 2000 ro, cA d ca 2000 co, cA d va 2000 vv, cO b 2 [.ref rb, .ref cb, .ref vb, .int n2], cA d rb 2000 f, cA d cb 2000 g, cA d vb 2000 k, cA d t 61 (upd ct i (nI 0))] H locs := hw
      refine lv_iinc (v := nI (i + 1)) (lv' := [(4, .int (nI (i + 1))), (0, .ref a), (1, .ref b), (2, .ref t), (3, .int fg)]) hx hb dX3_sorts_15 hl (k := 4) rfl (nI_1 _) (by decide) rfl (fun ls hl => ?_)
      refine lv_goto (tgt := 3) hx hb dX3_sorts_18 (by decide) ?_
      exact ih (i + 1) _ H locs ls (by omega) (by omega) (al_s nI_0 h3) hw (lv_sub hl [1, 2, 3, 4, 0] rfl)

set_option maxHeartbeats 4000000 in
set_option maxRecDepth 100000 in
theorem lp_so2 {a ra ca va b rb cb vb t : Nat} {n2 fg : Int32} {ro co vv : Nat → Int32} {L : List Tr} {f g k : Nat → Int32} {bo : Bool} (C : Cx p s m args meth c cX3_sorts 6 RX3 ret D d) (hfg : fg = if bo then 1 else 0) (hL : L.length ≤ 2000) (hk : ∀ x ∈ L, ky bo x < 60) (hh : Hd ro co vv L) (K : ∀ (ct : Nat → Int32) (H : Heap) (locs : List Loc) (ls : Array Slot), Cn1 ct bo L L.length → Wd D A H0 [cO a 2 [.ref ra, .ref ca, .ref va, .int (nI L.length)], cA d ra 2000 ro, cA d ca 2000 co, cA d va 2000 vv, cO b 2 [.ref rb, .ref cb, .ref vb, .int n2], cA d rb 2000 f, cA d cb 2000 g, cA d vb 2000 k, cA d t 61 ct] H locs → lv_has ls 6 [(0, .ref a), (1, .ref b), (2, .ref t), (3, .int fg)] → W p l e R s m args below meth c H locs 0 0 Q (F0 m 68 ls [])) :
    ∀ (n i : Nat) (ct : Nat → Int32) (H : Heap) (locs : List Loc) (ls : Array Slot), i ≤ L.length → L.length < i + n → Cn1 ct bo L i → Wd D A H0 [cO a 2 [.ref ra, .ref ca, .ref va, .int (nI L.length)], cA d ra 2000 ro, cA d ca 2000 co, cA d va 2000 vv, cO b 2 [.ref rb, .ref cb, .ref vb, .int n2], cA d rb 2000 f, cA d cb 2000 g, cA d vb 2000 k, cA d t 61 ct] H locs → lv_has ls 6 [(0, .ref a), (1, .ref b), (2, .ref t), (3, .int fg), (4, .int (nI i))] → W p l e R s m args below meth c H locs 0 0 Q (F0 m 24 ls []) := by
  obtain ⟨hx, hb, -⟩ := C.1
  intro n
  induction n with
  | zero => intro i ct H locs ls h1 h2; omega
  | succ n ih =>
    intro i ct H locs ls h1 h2 h3 hw hl
    refine lv_iload hx hb dX3_sorts_24 (lv_at hl 4 rfl) ?_
    refine lv_aload_n hx hb dX3_sorts_26 rfl (lv_at hl 0 rfl) ?_
    refine g_X3_21 C hw 0 rfl rfl dX3_sorts_27 ?_
    refine w_icmp_ge C (tgt := 68) (by omega) (by omega) dX3_sorts_30 (by decide) (fun c1 => ?_) (fun c1 => ?_)
    · have : i = L.length := by omega
      subst this
      exact K ct H locs ls h3 hw (lv_sub hl [0, 1, 2, 3] rfl)
    · obtain ⟨e0, he⟩ : ∃ e0, L[i]? = some e0 := ⟨_, List.getElem?_eq_getElem c1⟩
      have hke := hk e0 (List.mem_of_getElem? he)
      obtain ⟨q1, q2, q3⟩ := hh i e0 he
      have K55 : W p l e R s m args below meth c H locs 0 0 Q (F0 m 55 ls [.int (nI (ky bo e0)), .ref t]) := by
        refine lv_iconst (v := nI 1) hx hb dX3_sorts_55 (by decide) ?_
        refine w_iadd C dX3_sorts_56 ?_
        refine lv_dup2_11 hx hb dX3_sorts_57 rfl rfl ?_
        refine w_iald C hw 8 rfl (by omega) dX3_sorts_58 ?_
        refine lv_iconst (v := nI 1) hx hb dX3_sorts_59 (by decide) ?_
        refine lv_iadd hx hb dX3_sorts_60 ?_
        refine w_iast C hw 8 rfl (by omega) dX3_sorts_61 (fun H locs hw => ?_)
        have hw : Wd D A H0 [cO a 2 [.ref ra, .ref ca, .ref va, .int (nI L.length)], cA d ra 2000 ro, cA d ca 2000 co, cA d va 2000 vv, cO b 2 [.ref rb, .ref cb, .ref vb, .int n2], cA d rb 2000 f, cA d cb 2000 g, cA d vb 2000 k, cA d t 61 (upd ct ((ky bo e0) + 1) ((ct ((ky bo e0) + 1)) + (nI 1)))] H locs := hw
        refine lv_iinc (v := nI (i + 1)) (lv' := [(4, .int (nI (i + 1))), (0, .ref a), (1, .ref b), (2, .ref t), (3, .int fg)]) hx hb dX3_sorts_62 hl (k := 4) rfl (nI_1 _) (by decide) rfl (fun ls hl => ?_)
        refine lv_goto (tgt := 24) hx hb dX3_sorts_65 (by decide) ?_
        exact ih (i + 1) _ H locs ls (by omega) (by omega) (cn1_s he h3) hw (lv_sub hl [1, 2, 3, 4, 0] rfl)
      refine lv_aload_n hx hb dX3_sorts_33 rfl (lv_at hl 2 rfl) ?_
      refine lv_iload_n hx hb dX3_sorts_34 rfl (lv_at hl 3 rfl) ?_
      refine lv_if_eq (tgt := 48) hx hb dX3_sorts_35 (by decide) (fun c2 => ?_) (fun c2 => ?_)
      · have hbo : bo = false := by cases bo; rfl; rw [hfg] at c2; exact absurd c2 (by decide)
        subst hbo
        refine lv_aload_n hx hb dX3_sorts_48 rfl (lv_at hl 0 rfl) ?_
        refine g_X3_15 C hw 0 rfl rfl dX3_sorts_49 ?_
        refine lv_iload hx hb dX3_sorts_52 (lv_at hl 4 rfl) ?_
        refine w_iald C hw 2 rfl (by omega) dX3_sorts_54 ?_
        refine w_top (y := nI (ky false e0)) (q2) ?_
        exact K55
      · have hbo : bo = true := by cases bo; exact absurd hfg c2; rfl
        subst hbo
        refine lv_aload_n hx hb dX3_sorts_38 rfl (lv_at hl 0 rfl) ?_
        refine g_X3_9 C hw 0 rfl rfl dX3_sorts_39 ?_
        refine lv_iload hx hb dX3_sorts_42 (lv_at hl 4 rfl) ?_
        refine w_iald C hw 1 rfl (by omega) dX3_sorts_44 ?_
        refine w_top (y := nI (ky true e0)) (q1) ?_
        refine lv_goto (tgt := 55) hx hb dX3_sorts_45 (by decide) ?_
        exact K55

set_option maxHeartbeats 4000000 in
set_option maxRecDepth 100000 in
theorem lp_so3 {a ra ca va b rb cb vb t : Nat} {n2 fg : Int32} {ro co vv : Nat → Int32} {L : List Tr} {f g k : Nat → Int32} {bo : Bool} (C : Cx p s m args meth c cX3_sorts 6 RX3 ret D d) (K : ∀ (ct : Nat → Int32) (H : Heap) (locs : List Loc) (ls : Array Slot), Cn2 ct bo L 61 → Wd D A H0 [cO a 2 [.ref ra, .ref ca, .ref va, .int (nI L.length)], cA d ra 2000 ro, cA d ca 2000 co, cA d va 2000 vv, cO b 2 [.ref rb, .ref cb, .ref vb, .int n2], cA d rb 2000 f, cA d cb 2000 g, cA d vb 2000 k, cA d t 61 ct] H locs → lv_has ls 6 [(0, .ref a), (1, .ref b), (2, .ref t), (3, .int fg)] → W p l e R s m args below meth c H locs 0 0 Q (F0 m 97 ls [])) :
    ∀ (n i : Nat) (ct : Nat → Int32) (H : Heap) (locs : List Loc) (ls : Array Slot), 1 ≤ i → i ≤ 61 → 62 ≤ i + n → Cn2 ct bo L i → Wd D A H0 [cO a 2 [.ref ra, .ref ca, .ref va, .int (nI L.length)], cA d ra 2000 ro, cA d ca 2000 co, cA d va 2000 vv, cO b 2 [.ref rb, .ref cb, .ref vb, .int n2], cA d rb 2000 f, cA d cb 2000 g, cA d vb 2000 k, cA d t 61 ct] H locs → lv_has ls 6 [(0, .ref a), (1, .ref b), (2, .ref t), (3, .int fg), (4, .int (nI i))] → W p l e R s m args below meth c H locs 0 0 Q (F0 m 71 ls []) := by
  obtain ⟨hx, hb, -⟩ := C.1
  intro n
  induction n with
  | zero => intro i ct H locs ls h0 h1 h2; omega
  | succ n ih =>
    intro i ct H locs ls h0 h1 h2 h3 hw hl
    refine lv_iload hx hb dX3_sorts_71 (lv_at hl 4 rfl) ?_
    refine lv_bipush (v := nI 60) hx hb dX3_sorts_73 (by decide) ?_
    refine w_icmp_gt C (tgt := 97) (by omega) (by omega) dX3_sorts_75 (by decide) (fun c1 => ?_) (fun c1 => ?_)
    · have : i = 61 := by omega
      subst this
      exact K ct H locs ls h3 hw (lv_sub hl [0, 1, 2, 3] rfl)
    · refine lv_aload_n hx hb dX3_sorts_78 rfl (lv_at hl 2 rfl) ?_
      refine lv_iload hx hb dX3_sorts_79 (lv_at hl 4 rfl) ?_
      refine lv_dup2_11 hx hb dX3_sorts_81 rfl rfl ?_
      refine w_iald C hw 8 rfl (by omega) dX3_sorts_82 ?_
      refine lv_aload_n hx hb dX3_sorts_83 rfl (lv_at hl 2 rfl) ?_
      refine lv_iload hx hb dX3_sorts_84 (lv_at hl 4 rfl) ?_
      refine lv_iconst (v := nI 1) hx hb dX3_sorts_86 (by decide) ?_
      refine w_isub C (by omega) dX3_sorts_87 ?_
      refine w_iald C hw 8 rfl (by omega) dX3_sorts_88 ?_
      refine lv_iadd hx hb dX3_sorts_89 ?_
      refine w_iast C hw 8 rfl (by omega) dX3_sorts_90 (fun H locs hw => ?_)
      have hw : Wd D A H0 [cO a 2 [.ref ra, .ref ca, .ref va, .int (nI L.length)], cA d ra 2000 ro, cA d ca 2000 co, cA d va 2000 vv, cO b 2 [.ref rb, .ref cb, .ref vb, .int n2], cA d rb 2000 f, cA d cb 2000 g, cA d vb 2000 k, cA d t 61 (upd ct i ((ct i) + (ct (i - 1))))] H locs := hw
      refine lv_iinc (v := nI (i + 1)) (lv' := [(4, .int (nI (i + 1))), (0, .ref a), (1, .ref b), (2, .ref t), (3, .int fg)]) hx hb dX3_sorts_91 hl (k := 4) rfl (nI_1 _) (by decide) rfl (fun ls hl => ?_)
      refine lv_goto (tgt := 71) hx hb dX3_sorts_94 (by decide) ?_
      exact ih (i + 1) _ H locs ls (by omega) (by omega) (by omega) (cn2_s h0 (by omega) h3) hw (lv_sub hl [1, 2, 3, 4, 0] rfl)

set_option maxHeartbeats 4000000 in
set_option maxRecDepth 100000 in
theorem lp_so4 {a ra ca va b rb cb vb t : Nat} {n2 fg : Int32} {ro co vv : Nat → Int32} {L : List Tr} {bo : Bool} (C : Cx p s m args meth c cX3_sorts 6 RX3 ret D d) (hfg : fg = if bo then 1 else 0) (hL : L.length ≤ 2000) (hk : ∀ x ∈ L, ky bo x < 60) (hh : Hd ro co vv L) (K : ∀ (ct f g k : Nat → Int32) (H : Heap) (locs : List Loc) (ls : Array Slot), Cn3 ct f g k bo L L.length → Wd D A H0 [cO a 2 [.ref ra, .ref ca, .ref va, .int (nI L.length)], cA d ra 2000 ro, cA d ca 2000 co, cA d va 2000 vv, cO b 2 [.ref rb, .ref cb, .ref vb, .int n2], cA d rb 2000 f, cA d cb 2000 g, cA d vb 2000 k, cA d t 61 ct] H locs → lv_has ls 6 [(0, .ref a), (1, .ref b), (2, .ref t), (3, .int fg)] → W p l e R s m args below meth c H locs 0 0 Q (F0 m 187 ls [])) :
    ∀ (n i : Nat) (ct f g k : Nat → Int32) (H : Heap) (locs : List Loc) (ls : Array Slot), i ≤ L.length → L.length < i + n → Cn3 ct f g k bo L i → Wd D A H0 [cO a 2 [.ref ra, .ref ca, .ref va, .int (nI L.length)], cA d ra 2000 ro, cA d ca 2000 co, cA d va 2000 vv, cO b 2 [.ref rb, .ref cb, .ref vb, .int n2], cA d rb 2000 f, cA d cb 2000 g, cA d vb 2000 k, cA d t 61 ct] H locs → lv_has ls 6 [(0, .ref a), (1, .ref b), (2, .ref t), (3, .int fg), (4, .int (nI i))] → W p l e R s m args below meth c H locs 0 0 Q (F0 m 100 ls []) := by
  obtain ⟨hx, hb, -⟩ := C.1
  intro n
  induction n with
  | zero => intro i ct f g k H locs ls h1 h2; omega
  | succ n ih =>
    intro i ct f g k H locs ls h1 h2 h3 hw hl
    refine lv_iload hx hb dX3_sorts_100 (lv_at hl 4 rfl) ?_
    refine lv_aload_n hx hb dX3_sorts_102 rfl (lv_at hl 0 rfl) ?_
    refine g_X3_21 C hw 0 rfl rfl dX3_sorts_103 ?_
    refine w_icmp_ge C (tgt := 187) (by omega) (by omega) dX3_sorts_106 (by decide) (fun c1 => ?_) (fun c1 => ?_)
    · have : i = L.length := by omega
      subst this
      exact K ct f g k H locs ls h3 hw (lv_sub hl [0, 1, 2, 3] rfl)
    · obtain ⟨e0, he⟩ : ∃ e0, L[i]? = some e0 := ⟨_, List.getElem?_eq_getElem c1⟩
      have hke := hk e0 (List.mem_of_getElem? he)
      obtain ⟨q1, q2, q3⟩ := hh i e0 he
      have hat := at_lt hk he
      obtain ⟨nn, hnn⟩ : ∃ y, y = lt_ bo L (ky bo e0) + (fl_ bo (L.take i) (ky bo e0)).length := ⟨_, rfl⟩
      rw [← hnn] at hat
      have K131 : W p l e R s m args below meth c H locs 0 0 Q (F0 m 131 ls [.int (nI (ky bo e0)), .ref t]) := by
        refine lv_dup2_11 hx hb dX3_sorts_131 rfl rfl ?_
        refine w_iald C hw 8 rfl (by omega) dX3_sorts_132 ?_
        refine w_top (y := nI nn) (by rw [hnn]; exact h3.1 _ hke) ?_
        refine lv_dup_x2 hx hb dX3_sorts_133 rfl rfl rfl ?_
        refine lv_iconst (v := nI 1) hx hb dX3_sorts_134 (by decide) ?_
        refine w_iadd C dX3_sorts_135 ?_
        refine w_iast C hw 8 rfl (by omega) dX3_sorts_136 (fun H locs hw => ?_)
        have hw : Wd D A H0 [cO a 2 [.ref ra, .ref ca, .ref va, .int (nI L.length)], cA d ra 2000 ro, cA d ca 2000 co, cA d va 2000 vv, cO b 2 [.ref rb, .ref cb, .ref vb, .int n2], cA d rb 2000 f, cA d cb 2000 g, cA d vb 2000 k, cA d t 61 (upd ct (ky bo e0) (nI (nn + 1)))] H locs := hw
        refine lv_istore (lv' := [(5, .int (nI nn)), (0, .ref a), (1, .ref b), (2, .ref t), (3, .int fg), (4, .int (nI i))]) hx hb dX3_sorts_137 hl (by decide) rfl (fun ls hl => ?_)
        refine lv_aload_n hx hb dX3_sorts_139 rfl (lv_at hl 2 rfl) ?_
        refine g_X3_9 C hw 4 rfl rfl dX3_sorts_140 ?_
        refine lv_iload hx hb dX3_sorts_143 (lv_at hl 0 rfl) ?_
        refine lv_aload_n hx hb dX3_sorts_145 rfl (lv_at hl 1 rfl) ?_
        refine g_X3_9 C hw 0 rfl rfl dX3_sorts_146 ?_
        refine lv_iload hx hb dX3_sorts_149 (lv_at hl 5 rfl) ?_
        refine w_iald C hw 1 rfl (by omega) dX3_sorts_151 ?_
        refine w_top (y := nI e0.1) (q1) ?_
        refine w_iast C hw 5 rfl (by omega) dX3_sorts_152 (fun H locs hw => ?_)
        have hw : Wd D A H0 [cO a 2 [.ref ra, .ref ca, .ref va, .int (nI L.length)], cA d ra 2000 ro, cA d ca 2000 co, cA d va 2000 vv, cO b 2 [.ref rb, .ref cb, .ref vb, .int n2], cA d rb 2000 (upd f nn (nI e0.1)), cA d cb 2000 g, cA d vb 2000 k, cA d t 61 (upd ct (ky bo e0) (nI (nn + 1)))] H locs := hw
        refine lv_aload_n hx hb dX3_sorts_153 rfl (lv_at hl 2 rfl) ?_
        refine g_X3_15 C hw 4 rfl rfl dX3_sorts_154 ?_
        refine lv_iload hx hb dX3_sorts_157 (lv_at hl 0 rfl) ?_
        refine lv_aload_n hx hb dX3_sorts_159 rfl (lv_at hl 1 rfl) ?_
        refine g_X3_15 C hw 0 rfl rfl dX3_sorts_160 ?_
        refine lv_iload hx hb dX3_sorts_163 (lv_at hl 5 rfl) ?_
        refine w_iald C hw 2 rfl (by omega) dX3_sorts_165 ?_
        refine w_top (y := nI e0.2.1) (q2) ?_
        refine w_iast C hw 6 rfl (by omega) dX3_sorts_166 (fun H locs hw => ?_)
        have hw : Wd D A H0 [cO a 2 [.ref ra, .ref ca, .ref va, .int (nI L.length)], cA d ra 2000 ro, cA d ca 2000 co, cA d va 2000 vv, cO b 2 [.ref rb, .ref cb, .ref vb, .int n2], cA d rb 2000 (upd f nn (nI e0.1)), cA d cb 2000 (upd g nn (nI e0.2.1)), cA d vb 2000 k, cA d t 61 (upd ct (ky bo e0) (nI (nn + 1)))] H locs := hw
        refine lv_aload_n hx hb dX3_sorts_167 rfl (lv_at hl 2 rfl) ?_
        refine g_X3_18 C hw 4 rfl rfl dX3_sorts_168 ?_
        refine lv_iload hx hb dX3_sorts_171 (lv_at hl 0 rfl) ?_
        refine lv_aload_n hx hb dX3_sorts_173 rfl (lv_at hl 1 rfl) ?_
        refine g_X3_18 C hw 0 rfl rfl dX3_sorts_174 ?_
        refine lv_iload hx hb dX3_sorts_177 (lv_at hl 5 rfl) ?_
        refine w_iald C hw 3 rfl (by omega) dX3_sorts_179 ?_
        refine w_top (y := e0.2.2) (q3) ?_
        refine w_iast C hw 7 rfl (by omega) dX3_sorts_180 (fun H locs hw => ?_)
        have hw : Wd D A H0 [cO a 2 [.ref ra, .ref ca, .ref va, .int (nI L.length)], cA d ra 2000 ro, cA d ca 2000 co, cA d va 2000 vv, cO b 2 [.ref rb, .ref cb, .ref vb, .int n2], cA d rb 2000 (upd f nn (nI e0.1)), cA d cb 2000 (upd g nn (nI e0.2.1)), cA d vb 2000 (upd k nn e0.2.2), cA d t 61 (upd ct (ky bo e0) (nI (nn + 1)))] H locs := hw
        refine lv_iinc (v := nI (i + 1)) (lv' := [(4, .int (nI (i + 1))), (5, .int (nI nn)), (0, .ref a), (1, .ref b), (2, .ref t), (3, .int fg)]) hx hb dX3_sorts_181 hl (k := 5) rfl (nI_1 _) (by decide) rfl (fun ls hl => ?_)
        refine lv_goto (tgt := 100) hx hb dX3_sorts_184 (by decide) ?_
        exact ih (i + 1) _ _ _ _ H locs ls (by omega) (by omega) (cn3_s he h3 hnn) hw (lv_sub hl [2, 3, 4, 5, 0] rfl)
      refine lv_aload_n hx hb dX3_sorts_109 rfl (lv_at hl 2 rfl) ?_
      refine lv_iload_n hx hb dX3_sorts_110 rfl (lv_at hl 3 rfl) ?_
      refine lv_if_eq (tgt := 124) hx hb dX3_sorts_111 (by decide) (fun c2 => ?_) (fun c2 => ?_)
      · have hbo : bo = false := by cases bo; rfl; rw [hfg] at c2; exact absurd c2 (by decide)
        subst hbo
        refine lv_aload_n hx hb dX3_sorts_124 rfl (lv_at hl 0 rfl) ?_
        refine g_X3_15 C hw 0 rfl rfl dX3_sorts_125 ?_
        refine lv_iload hx hb dX3_sorts_128 (lv_at hl 4 rfl) ?_
        refine w_iald C hw 2 rfl (by omega) dX3_sorts_130 ?_
        refine w_top (y := nI (ky false e0)) (q2) ?_
        exact K131
      · have hbo : bo = true := by cases bo; exact absurd hfg c2; rfl
        subst hbo
        refine lv_aload_n hx hb dX3_sorts_114 rfl (lv_at hl 0 rfl) ?_
        refine g_X3_9 C hw 0 rfl rfl dX3_sorts_115 ?_
        refine lv_iload hx hb dX3_sorts_118 (lv_at hl 4 rfl) ?_
        refine w_iald C hw 1 rfl (by omega) dX3_sorts_120 ?_
        refine w_top (y := nI (ky true e0)) (q1) ?_
        refine lv_goto (tgt := 131) hx hb dX3_sorts_121 (by decide) ?_
        exact K131
end SR
set_option maxHeartbeats 4000000 in
set_option maxRecDepth 100000 in
/-- sorts(to, count, byRows): like ones as they were -/
theorem met_sorts (l : Launch) (D : va_G) (d : ClassId) {a ra ca va b rb cb vb t : Nat} {n2 : Int32} {ro co vv ro2 co2 vv2 ct0 : Nat → Int32} {L : List Tr} (bo : Bool) (fg : Int32) (hfg : fg = if bo then 1 else 0) (hL : L.length ≤ 2000) (hk : ∀ x ∈ L, ky bo x < 60) (hh : Hd ro co vv L) : Met l yX3_sorts (ws_ yX3_sorts cX3_sorts 6 none) ({ frames := 0, cells := 0, slots := 0, locals := 0 } : Room) (pc_ [.ref a, .ref b, .ref t, .int fg] D d (xw D [cO a 2 [.ref ra, .ref ca, .ref va, .int (nI L.length)], cA d ra 2000 ro, cA d ca 2000 co, cA d va 2000 vv, cO b 2 [.ref rb, .ref cb, .ref vb, .int n2], cA d rb 2000 ro2, cA d cb 2000 co2, cA d vb 2000 vv2, cA d t 61 ct0])) (va_Qv (fun (u : (Nat → Int32) × (Nat → Int32) × (Nat → Int32) × (Nat → Int32)) => Hd u.2.1 u.2.2.1 u.2.2.2 (cs_ bo L 0 60)) (fun (u : (Nat → Int32) × (Nat → Int32) × (Nat → Int32) × (Nat → Int32)) t9 => va_P D vwCl [cO a 2 [.ref ra, .ref ca, .ref va, .int (nI L.length)], cA d ra 2000 ro, cA d ca 2000 co, cA d va 2000 vv, cO b 2 [.ref rb, .ref cb, .ref vb, .int (nI L.length)], cA d rb 2000 u.2.1, cA d cb 2000 u.2.2.1, cA d vb 2000 u.2.2.2, cA d t 61 u.1] t9.heap) (zs [cO a 2 [.ref ra, .ref ca, .ref va, .int (nI L.length)], cA d ra 2000 ro, cA d ca 2000 co, cA d va 2000 vv, cO b 2 [.ref rb, .ref cb, .ref vb, .int n2], cA d rb 2000 ro2, cA d cb 2000 co2, cA d vb 2000 vv2, cA d t 61 ct0])) 0 0 (zs [cO a 2 [.ref ra, .ref ca, .ref va, .int (nI L.length)], cA d ra 2000 ro, cA d ca 2000 co, cA d va 2000 vv, cO b 2 [.ref rb, .ref cb, .ref vb, .int n2], cA d rb 2000 ro2, cA d cb 2000 co2, cA d vb 2000 vv2, cA d t 61 ct0]) := by
  refine mt_ofW (own := RX3) rfl (by decide) (Nat.le_of_ble_eq_true rfl) (fun p e s m below meth c C hnm hX ls hl => ?_)
  obtain ⟨hx, hb, -⟩ := C.1
  have hl : lv_has ls 6 [(0, .ref a), (1, .ref b), (2, .ref t), (3, .int fg)] := hl
  have hw : Wd D (zs [cO a 2 [.ref ra, .ref ca, .ref va, .int (nI L.length)], cA d ra 2000 ro, cA d ca 2000 co, cA d va 2000 vv, cO b 2 [.ref rb, .ref cb, .ref vb, .int n2], cA d rb 2000 ro2, cA d cb 2000 co2, cA d vb 2000 vv2, cA d t 61 ct0]) s.heap [cO a 2 [.ref ra, .ref ca, .ref va, .int (nI L.length)], cA d ra 2000 ro, cA d ca 2000 co, cA d va 2000 vv, cO b 2 [.ref rb, .ref cb, .ref vb, .int n2], cA d rb 2000 ro2, cA d cb 2000 co2, cA d vb 2000 vv2, cA d t 61 ct0] s.heap [] := ⟨hX.1, zs_self hX.2, va_S.rf⟩
  generalize zs [cO a 2 [.ref ra, .ref ca, .ref va, .int (nI L.length)], cA d ra 2000 ro, cA d ca 2000 co, cA d va 2000 vv, cO b 2 [.ref rb, .ref cb, .ref vb, .int n2], cA d rb 2000 ro2, cA d cb 2000 co2, cA d vb 2000 vv2, cA d t 61 ct0] = A at hw ⊢
  refine lv_iconst (v := nI 0) hx hb dX3_sorts_0 (by decide) ?_
  refine lv_istore (lv' := [(4, .int (nI 0)), (0, .ref a), (1, .ref b), (2, .ref t), (3, .int fg)]) hx hb dX3_sorts_1 hl (by decide) rfl (fun ls hl => ?_)
  refine lp_so1 C (fun ct H locs ls h1 hw hl => ?_) 62 0 ct0 _ _ ls (by omega) (by omega) (fun v hv => by omega) hw (lv_sub hl [1, 2, 3, 4, 0] rfl)
  refine lv_iconst (v := nI 0) hx hb dX3_sorts_21 (by decide) ?_
  refine lv_istore (lv' := [(4, .int (nI 0)), (0, .ref a), (1, .ref b), (2, .ref t), (3, .int fg)]) hx hb dX3_sorts_22 hl (by decide) rfl (fun ls hl => ?_)
  refine lp_so2 C hfg hL hk hh (fun ct H locs ls h1 hw hl => ?_) (L.length + 1) 0 ct H locs ls (by omega) (by omega) (cn1_0 h1) hw (lv_sub hl [1, 2, 3, 4, 0] rfl)
  refine lv_iconst (v := nI 1) hx hb dX3_sorts_68 (by decide) ?_
  refine lv_istore (lv' := [(4, .int (nI 1)), (0, .ref a), (1, .ref b), (2, .ref t), (3, .int fg)]) hx hb dX3_sorts_69 hl (by decide) rfl (fun ls hl => ?_)
  refine lp_so3 (bo := bo) C (fun ct H locs ls h1 hw hl => ?_) 61 1 ct H locs ls (by omega) (by omega) (by omega) (cn2_0 h1) hw (lv_sub hl [1, 2, 3, 4, 0] rfl)
  refine lv_iconst (v := nI 0) hx hb dX3_sorts_97 (by decide) ?_
  refine lv_istore (lv' := [(4, .int (nI 0)), (0, .ref a), (1, .ref b), (2, .ref t), (3, .int fg)]) hx hb dX3_sorts_98 hl (by decide) rfl (fun ls hl => ?_)
  refine lp_so4 C hfg hL hk hh (fun ct f g k H locs ls h1 hw hl => ?_) (L.length + 1) 0 ct ro2 co2 vv2 H locs ls (by omega) (by omega) (cn3_0 h1) hw (lv_sub hl [1, 2, 3, 4, 0] rfl)
  refine lv_aload_n hx hb dX3_sorts_187 rfl (lv_at hl 1 rfl) ?_
  refine lv_aload_n hx hb dX3_sorts_188 rfl (lv_at hl 0 rfl) ?_
  refine g_X3_21 C hw 0 rfl rfl dX3_sorts_189 ?_
  refine p_X3_21 C hw 4 rfl (Nat.le_of_ble_eq_true rfl) dX3_sorts_192 (fun H locs hw => ?_)
  have hw : Wd D A s.heap [cO a 2 [.ref ra, .ref ca, .ref va, .int (nI L.length)], cA d ra 2000 ro, cA d ca 2000 co, cA d va 2000 vv, cO b 2 [.ref rb, .ref cb, .ref vb, .int (nI L.length)], cA d rb 2000 f, cA d cb 2000 g, cA d vb 2000 k, cA d t 61 ct] H locs := hw
  refine mu_vret (Y := fun u h => va_P D vwCl [cO a 2 [.ref ra, .ref ca, .ref va, .int (nI L.length)], cA d ra 2000 ro, cA d ca 2000 co, cA d va 2000 vv, cO b 2 [.ref rb, .ref cb, .ref vb, .int (nI L.length)], cA d rb 2000 u.2.1, cA d cb 2000 u.2.2.1, cA d vb 2000 u.2.2.2, cA d t 61 u.1] h) C hw.2.2 (ct, f, g, k) ?_ hw.1 dX3_sorts_195
  exact cn3_end h1
end
section
/-! what the two objects hold, in one abstract state (printed by gen/defs.py) -/
set_option maxRecDepth 100000
/-- the abstract state in RowSparse's arrays -/
def RSi (nr nc cp : Nat) (T : Nat → Nat → Int32) (P : List Tr) (x y f2 f3 f4 f10 f11 f12 f22 f23 : Nat → Int32) : Prop := (1 ≤ nr ∧ nr ≤ 60 ∧ 1 ≤ nc ∧ nc ≤ 60 ∧ 1 ≤ cp ∧ cp ≤ 1000) ∧ Csr f2 f3 f4 nr nc T ∧ of_ T nc nr ≤ cp ∧ P.length ≤ cp ∧ Hd f10 f11 f12 P ∧ (∀ e ∈ P, e.1 < nr ∧ e.2.1 < nc) ∧ (∀ k, k < 60 → f22 k = x k) ∧ ∀ k, k < 60 → f23 k = y k
/-- RowSparse at o, its cells in Z, holds the state -/
def RSok (D : va_G) (d : ClassId) (Z : Nat → Prop) (o nr nc cp : Nat) (T : Nat → Nat → Int32) (P : List Tr) (x y : Nat → Int32) (H : Heap) : Prop := ∃ (ad : Nat → Nat) (sc : Nat → Int32) (F : Nat → Nat → Int32), va_P D vwCl [cO o 0 [.int (nI cp), .ref (ad 1), .ref (ad 5), .ref (ad 9), .ref (ad 13), .ref (ad 17), .ref (ad 21), .ref (ad 22), .ref (ad 23), .ref (ad 24)], cO (ad 1) 1 [.ref (ad 2), .ref (ad 3), .ref (ad 4), .int (nI nr), .int (nI nc)], cA d (ad 2) 61 (F 2), cA d (ad 3) 1000 (F 3), cA d (ad 4) 1000 (F 4), cO (ad 5) 1 [.ref (ad 6), .ref (ad 7), .ref (ad 8), .int (sc 1), .int (sc 2)], cA d (ad 6) 61 (F 6), cA d (ad 7) 1000 (F 7), cA d (ad 8) 1000 (F 8), cO (ad 9) 2 [.ref (ad 10), .ref (ad 11), .ref (ad 12), .int (nI P.length)], cA d (ad 10) 2000 (F 10), cA d (ad 11) 2000 (F 11), cA d (ad 12) 2000 (F 12), cO (ad 13) 2 [.ref (ad 14), .ref (ad 15), .ref (ad 16), .int (sc 3)], cA d (ad 14) 2000 (F 14), cA d (ad 15) 2000 (F 15), cA d (ad 16) 2000 (F 16), cO (ad 17) 2 [.ref (ad 18), .ref (ad 19), .ref (ad 20), .int (sc 4)], cA d (ad 18) 2000 (F 18), cA d (ad 19) 2000 (F 19), cA d (ad 20) 2000 (F 20), cA d (ad 21) 61 (F 21), cA d (ad 22) 60 (F 22), cA d (ad 23) 60 (F 23), cA d (ad 24) 60 (F 24)] H ∧ va_D Z [cO o 0 [.int (nI cp), .ref (ad 1), .ref (ad 5), .ref (ad 9), .ref (ad 13), .ref (ad 17), .ref (ad 21), .ref (ad 22), .ref (ad 23), .ref (ad 24)], cO (ad 1) 1 [.ref (ad 2), .ref (ad 3), .ref (ad 4), .int (nI nr), .int (nI nc)], cA d (ad 2) 61 (F 2), cA d (ad 3) 1000 (F 3), cA d (ad 4) 1000 (F 4), cO (ad 5) 1 [.ref (ad 6), .ref (ad 7), .ref (ad 8), .int (sc 1), .int (sc 2)], cA d (ad 6) 61 (F 6), cA d (ad 7) 1000 (F 7), cA d (ad 8) 1000 (F 8), cO (ad 9) 2 [.ref (ad 10), .ref (ad 11), .ref (ad 12), .int (nI P.length)], cA d (ad 10) 2000 (F 10), cA d (ad 11) 2000 (F 11), cA d (ad 12) 2000 (F 12), cO (ad 13) 2 [.ref (ad 14), .ref (ad 15), .ref (ad 16), .int (sc 3)], cA d (ad 14) 2000 (F 14), cA d (ad 15) 2000 (F 15), cA d (ad 16) 2000 (F 16), cO (ad 17) 2 [.ref (ad 18), .ref (ad 19), .ref (ad 20), .int (sc 4)], cA d (ad 18) 2000 (F 18), cA d (ad 19) 2000 (F 19), cA d (ad 20) 2000 (F 20), cA d (ad 21) 61 (F 21), cA d (ad 22) 60 (F 22), cA d (ad 23) 60 (F 23), cA d (ad 24) 60 (F 24)] ∧ RSi nr nc cp T P x y (F 2) (F 3) (F 4) (F 10) (F 11) (F 12) (F 22) (F 23)
theorem rs_mk {D : va_G} {d : ClassId} {Z : Nat → Prop} {o nr nc cp : Nat} {T : Nat → Nat → Int32} {P : List Tr} {x y : Nat → Int32} {H : Heap} {a1 a2 a3 a4 a5 a6 a7 a8 a9 a10 a11 a12 a13 a14 a15 a16 a17 a18 a19 a20 a21 a22 a23 a24 : Nat} {s1 s2 s3 s4 : Int32} {f2 f3 f4 f6 f7 f8 f10 f11 f12 f14 f15 f16 f18 f19 f20 f21 f22 f23 f24 : Nat → Int32} (hP : va_P D vwCl [cO o 0 [.int (nI cp), .ref a1, .ref a5, .ref a9, .ref a13, .ref a17, .ref a21, .ref a22, .ref a23, .ref a24], cO a1 1 [.ref a2, .ref a3, .ref a4, .int (nI nr), .int (nI nc)], cA d a2 61 f2, cA d a3 1000 f3, cA d a4 1000 f4, cO a5 1 [.ref a6, .ref a7, .ref a8, .int s1, .int s2], cA d a6 61 f6, cA d a7 1000 f7, cA d a8 1000 f8, cO a9 2 [.ref a10, .ref a11, .ref a12, .int (nI P.length)], cA d a10 2000 f10, cA d a11 2000 f11, cA d a12 2000 f12, cO a13 2 [.ref a14, .ref a15, .ref a16, .int s3], cA d a14 2000 f14, cA d a15 2000 f15, cA d a16 2000 f16, cO a17 2 [.ref a18, .ref a19, .ref a20, .int s4], cA d a18 2000 f18, cA d a19 2000 f19, cA d a20 2000 f20, cA d a21 61 f21, cA d a22 60 f22, cA d a23 60 f23, cA d a24 60 f24] H) (hD : va_D Z [cO o 0 [.int (nI cp), .ref a1, .ref a5, .ref a9, .ref a13, .ref a17, .ref a21, .ref a22, .ref a23, .ref a24], cO a1 1 [.ref a2, .ref a3, .ref a4, .int (nI nr), .int (nI nc)], cA d a2 61 f2, cA d a3 1000 f3, cA d a4 1000 f4, cO a5 1 [.ref a6, .ref a7, .ref a8, .int s1, .int s2], cA d a6 61 f6, cA d a7 1000 f7, cA d a8 1000 f8, cO a9 2 [.ref a10, .ref a11, .ref a12, .int (nI P.length)], cA d a10 2000 f10, cA d a11 2000 f11, cA d a12 2000 f12, cO a13 2 [.ref a14, .ref a15, .ref a16, .int s3], cA d a14 2000 f14, cA d a15 2000 f15, cA d a16 2000 f16, cO a17 2 [.ref a18, .ref a19, .ref a20, .int s4], cA d a18 2000 f18, cA d a19 2000 f19, cA d a20 2000 f20, cA d a21 61 f21, cA d a22 60 f22, cA d a23 60 f23, cA d a24 60 f24]) (hI : RSi nr nc cp T P x y f2 f3 f4 f10 f11 f12 f22 f23) : RSok D d Z o nr nc cp T P x y H := ⟨fun k => match k with | 1 => a1 | 2 => a2 | 3 => a3 | 4 => a4 | 5 => a5 | 6 => a6 | 7 => a7 | 8 => a8 | 9 => a9 | 10 => a10 | 11 => a11 | 12 => a12 | 13 => a13 | 14 => a14 | 15 => a15 | 16 => a16 | 17 => a17 | 18 => a18 | 19 => a19 | 20 => a20 | 21 => a21 | 22 => a22 | 23 => a23 | 24 => a24 | _ => 0, fun k => match k with | 1 => s1 | 2 => s2 | 3 => s3 | _ => s4, fun k => match k with | 2 => f2 | 3 => f3 | 4 => f4 | 6 => f6 | 7 => f7 | 8 => f8 | 10 => f10 | 11 => f11 | 12 => f12 | 14 => f14 | 15 => f15 | 16 => f16 | 18 => f18 | 19 => f19 | 20 => f20 | 21 => f21 | 22 => f22 | 23 => f23 | 24 => f24 | _ => fun _ => 0, hP, hD, hI⟩
/-- the abstract state in the twin's arrays -/
def MOi (nr nc cp : Nat) (T : Nat → Nat → Int32) (P : List Tr) (x y g1 g3 g4 g5 : Nat → Int32) : Prop := (1 ≤ nr ∧ nr ≤ 60 ∧ 1 ≤ nc ∧ nc ≤ 60 ∧ 1 ≤ cp ∧ cp ≤ 1000) ∧ (∀ a b, a < nr → b < nc → g1 (60 * a + b) = T a b) ∧ P.length ≤ cp ∧ (∀ a b, a < 60 → b < 60 → g3 (60 * a + b) = ps_ P a b) ∧ (∀ k, k < 60 → g4 k = x k) ∧ (∀ k, k < 60 → g5 k = y k) ∧ of_ T nc nr ≤ cp
/-- RowSparseModel at o, its cells in Z, holds the state -/
def MOok (D : va_G) (d : ClassId) (Z : Nat → Prop) (o nr nc cp : Nat) (T : Nat → Nat → Int32) (P : List Tr) (x y : Nat → Int32) (H : Heap) : Prop := ∃ (b1 b2 b3 b4 b5 : Nat) (g1 g2 g3 g4 g5 : Nat → Int32), va_P D vwCl [cO o 3 [.int (nI cp), .int (nI nr), .int (nI nc), .int (nI P.length), .ref b1, .ref b2, .ref b3, .ref b4, .ref b5], cA d b1 3600 g1, cA d b2 3600 g2, cA d b3 3600 g3, cA d b4 60 g4, cA d b5 60 g5] H ∧ va_D Z [cO o 3 [.int (nI cp), .int (nI nr), .int (nI nc), .int (nI P.length), .ref b1, .ref b2, .ref b3, .ref b4, .ref b5], cA d b1 3600 g1, cA d b2 3600 g2, cA d b3 3600 g3, cA d b4 60 g4, cA d b5 60 g5] ∧ MOi nr nc cp T P x y g1 g3 g4 g5
theorem mo_mk {D : va_G} {d : ClassId} {Z : Nat → Prop} {o nr nc cp : Nat} {T : Nat → Nat → Int32} {P : List Tr} {x y : Nat → Int32} {H : Heap} {b1 b2 b3 b4 b5 : Nat} {g1 g2 g3 g4 g5 : Nat → Int32} (hP : va_P D vwCl [cO o 3 [.int (nI cp), .int (nI nr), .int (nI nc), .int (nI P.length), .ref b1, .ref b2, .ref b3, .ref b4, .ref b5], cA d b1 3600 g1, cA d b2 3600 g2, cA d b3 3600 g3, cA d b4 60 g4, cA d b5 60 g5] H) (hD : va_D Z [cO o 3 [.int (nI cp), .int (nI nr), .int (nI nc), .int (nI P.length), .ref b1, .ref b2, .ref b3, .ref b4, .ref b5], cA d b1 3600 g1, cA d b2 3600 g2, cA d b3 3600 g3, cA d b4 60 g4, cA d b5 60 g5]) (hI : MOi nr nc cp T P x y g1 g3 g4 g5) : MOok D d Z o nr nc cp T P x y H := ⟨b1, b2, b3, b4, b5, g1, g2, g3, g4, g5, hP, hD, hI⟩
/-- what lies outside is untouched, so the object holds what it held -/
theorem P_kept {D : va_G} {Z : Nat → Prop} {ws : va_W} {H H1 : Heap} (hP : va_P D vwCl ws H) (hD : va_D Z ws) (hk : ∀ q, Z q → q < H.size → H1[q]? = H[q]?) : va_P D vwCl ws H1 := hP.kept (fun k q hq => hk q.1 (hD.2 k q hq) (hP k q hq).lt)
theorem RSok.kept {D : va_G} {d : ClassId} {Z : Nat → Prop} {o nr nc cp : Nat} {T : Nat → Nat → Int32} {P : List Tr} {x y : Nat → Int32} {H H1 : Heap} (h : RSok D d Z o nr nc cp T P x y H) (hk : ∀ q, Z q → q < H.size → H1[q]? = H[q]?) : RSok D d Z o nr nc cp T P x y H1 := by
  obtain ⟨ad, sc, F, hP, hD, hI⟩ := h
  exact rs_mk (P_kept hP hD hk) hD hI
theorem MOok.kept {D : va_G} {d : ClassId} {Z : Nat → Prop} {o nr nc cp : Nat} {T : Nat → Nat → Int32} {P : List Tr} {x y : Nat → Int32} {H H1 : Heap} (h : MOok D d Z o nr nc cp T P x y H) (hk : ∀ q, Z q → q < H.size → H1[q]? = H[q]?) : MOok D d Z o nr nc cp T P x y H1 := by
  obtain ⟨b1, b2, b3, b4, b5, g1, g2, g3, g4, g5, hP, hD, hI⟩ := h
  exact mo_mk (P_kept hP hD hk) hD hI
theorem RSok.weaken {D : va_G} {d : ClassId} {Z Z2 : Nat → Prop} {o nr nc cp : Nat} {T : Nat → Nat → Int32} {P : List Tr} {x y : Nat → Int32} {H : Heap} (h : RSok D d Z o nr nc cp T P x y H) (hz : ∀ q, Z q → q < H.size → Z2 q) : RSok D d Z2 o nr nc cp T P x y H := by
  obtain ⟨ad, sc, F, hP, hD, hI⟩ := h
  exact rs_mk hP (hD.weaken (fun k q hq hz0 => hz q.1 hz0 (hP k q hq).lt)) hI
theorem MOok.weaken {D : va_G} {d : ClassId} {Z Z2 : Nat → Prop} {o nr nc cp : Nat} {T : Nat → Nat → Int32} {P : List Tr} {x y : Nat → Int32} {H : Heap} (h : MOok D d Z o nr nc cp T P x y H) (hz : ∀ q, Z q → q < H.size → Z2 q) : MOok D d Z2 o nr nc cp T P x y H := by
  obtain ⟨b1, b2, b3, b4, b5, g1, g2, g3, g4, g5, hP, hD, hI⟩ := h
  exact mo_mk hP (hD.weaken (fun k q hq hz0 => hz q.1 hz0 (hP k q hq).lt)) hI
/-- the receiver -/
theorem RSok.recv {D : va_G} {d : ClassId} {Z : Nat → Prop} {o nr nc cp : Nat} {T : Nat → Nat → Int32} {P : List Tr} {x y : Nat → Int32} {H : Heap} {s : State} (hK : KK D d s) (h : RSok D d Z o nr nc cp T P x y H) : ∃ cellB : Cell, H[o]? = some cellB ∧ cellB.vm.isStatics = false ∧ s.vm.findClass RX1 = some cellB.cls := by
  obtain ⟨ad, sc, F, hP, hD, hI⟩ := h
  exact va_recv hK.1 hP (ci := 0) (q0 := 0) rfl rfl
theorem MOok.recv {D : va_G} {d : ClassId} {Z : Nat → Prop} {o nr nc cp : Nat} {T : Nat → Nat → Int32} {P : List Tr} {x y : Nat → Int32} {H : Heap} {s : State} (hK : KK D d s) (h : MOok D d Z o nr nc cp T P x y H) : ∃ cellB : Cell, H[o]? = some cellB ∧ cellB.vm.isStatics = false ∧ s.vm.findClass RX4 = some cellB.cls := by
  obtain ⟨b1, b2, b3, b4, b5, g1, g2, g3, g4, g5, hP, hD, hI⟩ := h
  exact va_recv hK.1 hP (ci := 3) (q0 := 0) rfl rfl
/-- an int among 0 .. n - 1 -/
abbrev inR (i : Int32) (n : Nat) : Prop := 0 ≤ i.toInt ∧ i.toInt < (n : Int)
theorem inR_nI {i : Int32} {n : Nat} (h : inR i n) (hn : n < 2 ^ 31) : ∃ k, k < n ∧ i = nI k := vp_in_of (vp_in_iff.mpr h) hn
theorem inR_of {k n : Nat} (h : k < n) (hn : n < 2 ^ 31) : inR (nI k) n := vp_in_iff.mp (vp_in_nI h hn)
theorem in_le {i : Int32} {h : Nat} (hh : h < 2 ^ 30) : (nI 0 ≤ i ∧ i ≤ nI h) ↔ inR i (h + 1) := by
  rw [Int32.le_iff_toInt_le, Int32.le_iff_toInt_le, nI_toInt (by omega), nI_toInt (by omega)]
  unfold inR
  omega
theorem in_sub {i : Int32} {n : Nat} (hn : n < 2 ^ 30) : (nI 0 ≤ i ∧ i ≤ nI n - nI 1) ↔ inR i n := by
  rw [Int32.le_iff_toInt_le, Int32.le_iff_toInt_le, nI_toInt (by omega), pk_sub_toInt (by omega) (by omega)]
  unfold inR
  omega
theorem if_01 {c : Prop} {v : Int32} [Decidable c] (h : v = if c then 1 else 0) : (v = 0 → ¬ c) ∧ (¬ v = 0 → c) := by
  by_cases q : c
  · rw [if_pos q] at h; exact ⟨fun z => absurd (h.symm.trans z) (by decide), fun _ => q⟩
  · rw [if_neg q] at h; exact ⟨fun _ => q, fun z => absurd h z⟩
theorem in_subR {v i : Int32} {n : Nat} (hn : n < 2 ^ 30) (h : v = if nI 0 ≤ i ∧ i ≤ nI n - nI 1 then 1 else 0) : (v = 0 → ¬ inR i n) ∧ (¬ v = 0 → inR i n) := by
  have := if_01 h
  rw [in_sub hn] at this
  exact this
theorem in_leR {v i : Int32} {n : Nat} (hn : n < 2 ^ 30) (h : v = if nI 0 ≤ i ∧ i ≤ nI n then 1 else 0) : (v = 0 → ¬ inR i (n + 1)) ∧ (¬ v = 0 → inR i (n + 1)) := by
  have := if_01 h
  rw [in_le hn] at this
  exact this
/-- what colAt answers -/
def Cat (T : Nat → Nat → Int32) (nc nr : Nat) (k v : Int32) : Prop := (∀ a b, a < nr → b < nc → T a b ≠ 0 → k = nI (of_ T nc a + rk_ T a b) → v = nI b) ∧ ((∀ a b, a < nr → b < nc → T a b ≠ 0 → ¬ k = nI (of_ T nc a + rk_ T a b)) → v = -1)
theorem Cat.eq {T : Nat → Nat → Int32} {nc nr : Nat} {k v w : Int32} (h1 : Cat T nc nr k v) (h2 : Cat T nc nr k w) : v = w := by
  by_cases q : ∃ a b, a < nr ∧ b < nc ∧ T a b ≠ 0 ∧ k = nI (of_ T nc a + rk_ T a b)
  · obtain ⟨a, b, ha, hb, hz, hk⟩ := q
    rw [h1.1 a b ha hb hz hk, h2.1 a b ha hb hz hk]
  · have q2 : ∀ a b, a < nr → b < nc → T a b ≠ 0 → ¬ k = nI (of_ T nc a + rk_ T a b) := fun a b ha hb hz hk => q ⟨a, b, ha, hb, hz, hk⟩
    rw [h1.2 q2, h2.2 q2]
end
section
/-! RowSparse: the methods that read, and add, setX (walks printed by gen/rsread.py) -/
set_option maxRecDepth 100000
set_option maxHeartbeats 4000000 in
set_option maxRecDepth 100000 in
/-- nnz() -/
theorem met_X1_nnz (l : Launch) (D : va_G) (d : ClassId) (Z : Nat → Prop) {o : Nat} {nr nc cp : Nat} {T : Nat → Nat → Int32} {P : List Tr} {x y : Nat → Int32}  : Met l yX1_nnz (ws_ yX1_nnz cX1_nnz 1 (some .int)) ({ frames := 1, cells := 0, slots := 0, locals := 20 } : Room) (pc_ [.ref o] D d (RSok D d Z o nr nc cp T P x y)) (vp_Si (fun v => v = nI (of_ T nc nr))) 0 0 (fun _ => False) := by
  refine mt_ofW (own := RX1) rfl (by decide) (Nat.le_of_ble_eq_true rfl) (fun p e s m below meth c C hnm hX ls hl => ?_)
  obtain ⟨hx, hb, -⟩ := C.1
  have hl : lv_has ls 1 [(0, .ref o)] := hl
  obtain ⟨ad, sc, F, hP, hD, hI⟩ := hX
  obtain ⟨⟨i1, i2, i3, i4, i5, i6⟩, hc, htot, hpl, hhd, hpr, hxx, hyy⟩ := id hI
  have hw : Wd D Z s.heap [cO o 0 [.int (nI cp), .ref (ad 1), .ref (ad 5), .ref (ad 9), .ref (ad 13), .ref (ad 17), .ref (ad 21), .ref (ad 22), .ref (ad 23), .ref (ad 24)], cO (ad 1) 1 [.ref (ad 2), .ref (ad 3), .ref (ad 4), .int (nI nr), .int (nI nc)], cA d (ad 2) 61 (F 2), cA d (ad 3) 1000 (F 3), cA d (ad 4) 1000 (F 4), cO (ad 5) 1 [.ref (ad 6), .ref (ad 7), .ref (ad 8), .int (sc 1), .int (sc 2)], cA d (ad 6) 61 (F 6), cA d (ad 7) 1000 (F 7), cA d (ad 8) 1000 (F 8), cO (ad 9) 2 [.ref (ad 10), .ref (ad 11), .ref (ad 12), .int (nI P.length)], cA d (ad 10) 2000 (F 10), cA d (ad 11) 2000 (F 11), cA d (ad 12) 2000 (F 12), cO (ad 13) 2 [.ref (ad 14), .ref (ad 15), .ref (ad 16), .int (sc 3)], cA d (ad 14) 2000 (F 14), cA d (ad 15) 2000 (F 15), cA d (ad 16) 2000 (F 16), cO (ad 17) 2 [.ref (ad 18), .ref (ad 19), .ref (ad 20), .int (sc 4)], cA d (ad 18) 2000 (F 18), cA d (ad 19) 2000 (F 19), cA d (ad 20) 2000 (F 20), cA d (ad 21) 61 (F 21), cA d (ad 22) 60 (F 22), cA d (ad 23) 60 (F 23), cA d (ad 24) 60 (F 24)] s.heap [] := ⟨hP, hD, va_S.rf⟩
  refine lv_aload_n hx hb dX1_nnz_0 rfl (lv_at hl 0 rfl) ?_
  refine g_X1_12 C hw 0 rfl rfl dX1_nnz_1 ?_
  refine c_rdV (As := []) (rest := []) C (met_size l D d i2) (cwV 0 C.1.2.2.2.2 (lw_V q144 q145 q146 q9 q147) rfl rfl rfl (by decide +kernel) ⟨Nat.le_of_ble_eq_true rfl, Nat.le_of_ble_eq_true rfl⟩) (va_recv C.2.1.1 hw.1 (ci := 1) (q0 := 1) rfl rfl) (w_cut hw [1, 2] (by decide) rfl) rfl hl.1 rfl (Nat.le_of_ble_eq_true rfl) dX1_nnz_4 ⟨Nat.le_of_ble_eq_true rfl, Nat.le_of_ble_eq_true rfl⟩ (fun r hr => ?_)
  exact rd_iret C (by rw [hr]; exact hc.1 nr (Nat.le_refl _)) dX1_nnz_7

set_option maxHeartbeats 4000000 in
set_option maxRecDepth 100000 in
/-- rowStart(i) -/
theorem met_X1_rowStart (l : Launch) (D : va_G) (d : ClassId) (Z : Nat → Prop) {o : Nat} {nr nc cp : Nat} {T : Nat → Nat → Int32} {P : List Tr} {x y : Nat → Int32} (i : Int32) : Met l yX1_rowStart (ws_ yX1_rowStart cX1_rowStart 2 (some .int)) ({ frames := 1, cells := 0, slots := 0, locals := 22 } : Room) (pc_ [.ref o, .int i] D d (RSok D d Z o nr nc cp T P x y)) (vp_Si (fun v => v = if inR i (nr + 1) then nI (of_ T nc i.toNatClampNeg) else -1)) 0 0 (fun _ => False) := by
  refine mt_ofW (own := RX1) rfl (by decide) (Nat.le_of_ble_eq_true rfl) (fun p e s m below meth c C hnm hX ls hl => ?_)
  obtain ⟨hx, hb, -⟩ := C.1
  have hl : lv_has ls 2 [(0, .ref o), (1, .int i)] := hl
  obtain ⟨ad, sc, F, hP, hD, hI⟩ := hX
  obtain ⟨⟨i1, i2, i3, i4, i5, i6⟩, hc, htot, hpl, hhd, hpr, hxx, hyy⟩ := id hI
  have hw : Wd D Z s.heap [cO o 0 [.int (nI cp), .ref (ad 1), .ref (ad 5), .ref (ad 9), .ref (ad 13), .ref (ad 17), .ref (ad 21), .ref (ad 22), .ref (ad 23), .ref (ad 24)], cO (ad 1) 1 [.ref (ad 2), .ref (ad 3), .ref (ad 4), .int (nI nr), .int (nI nc)], cA d (ad 2) 61 (F 2), cA d (ad 3) 1000 (F 3), cA d (ad 4) 1000 (F 4), cO (ad 5) 1 [.ref (ad 6), .ref (ad 7), .ref (ad 8), .int (sc 1), .int (sc 2)], cA d (ad 6) 61 (F 6), cA d (ad 7) 1000 (F 7), cA d (ad 8) 1000 (F 8), cO (ad 9) 2 [.ref (ad 10), .ref (ad 11), .ref (ad 12), .int (nI P.length)], cA d (ad 10) 2000 (F 10), cA d (ad 11) 2000 (F 11), cA d (ad 12) 2000 (F 12), cO (ad 13) 2 [.ref (ad 14), .ref (ad 15), .ref (ad 16), .int (sc 3)], cA d (ad 14) 2000 (F 14), cA d (ad 15) 2000 (F 15), cA d (ad 16) 2000 (F 16), cO (ad 17) 2 [.ref (ad 18), .ref (ad 19), .ref (ad 20), .int (sc 4)], cA d (ad 18) 2000 (F 18), cA d (ad 19) 2000 (F 19), cA d (ad 20) 2000 (F 20), cA d (ad 21) 61 (F 21), cA d (ad 22) 60 (F 22), cA d (ad 23) 60 (F 23), cA d (ad 24) 60 (F 24)] s.heap [] := ⟨hP, hD, va_S.rf⟩
  refine lv_iload_n hx hb dX1_rowStart_0 rfl (lv_at hl 1 rfl) ?_
  refine lv_iconst (v := nI 0) hx hb dX1_rowStart_1 (by decide) ?_
  refine lv_aload_n hx hb dX1_rowStart_2 rfl (lv_at hl 0 rfl) ?_
  refine g_X1_12 C hw 0 rfl rfl dX1_rowStart_3 ?_
  refine g_X1_62 C hw 1 rfl rfl dX1_rowStart_6 ?_
  refine c_rdS (As := [.int i, .int (nI 0), .int (nI nr)]) (rest := []) C (met_X1_in l D d i (nI 0) (nI (nr))) (va_cwS 3 C.1.2.2.2.2 (lw_S q117 q118 q8 q119) rfl rfl rfl (by decide +kernel) ⟨Nat.le_of_ble_eq_true rfl, Nat.le_of_ble_eq_true rfl⟩) (trivial) rfl hl.1 rfl (Nat.le_of_ble_eq_true rfl) dX1_rowStart_9 ⟨Nat.le_of_ble_eq_true rfl, Nat.le_of_ble_eq_true rfl⟩ (fun r1 hr1 => ?_)
  have hr1 := in_leR (by omega) hr1
  refine lv_if_eq (tgt := 27) hx hb dX1_rowStart_12 (by decide) (fun c1 => ?_) (fun c1 => ?_)
  · refine lv_iconst (v := (-1)) hx hb dX1_rowStart_27 (by decide) ?_
    exact rd_iret C (by rw [if_neg (hr1.1 c1)]) dX1_rowStart_28
  · have h9 := hr1.2 c1
    rw [if_pos h9]
    obtain ⟨k, hk, rfl⟩ := inR_nI h9 (by omega)
    refine lv_aload_n hx hb dX1_rowStart_15 rfl (lv_at hl 0 rfl) ?_
    refine g_X1_12 C hw 0 rfl rfl dX1_rowStart_16 ?_
    refine g_X1_82 C hw 1 rfl rfl dX1_rowStart_19 ?_
    refine lv_iload_n hx hb dX1_rowStart_22 rfl (lv_at hl 1 rfl) ?_
    refine w_iald C hw 2 rfl (by omega) dX1_rowStart_23 ?_
    refine w_top (y := nI (of_ T nc k)) (hc.1 k (by omega)) ?_
    refine lv_goto (tgt := 28) hx hb dX1_rowStart_24 (by decide) ?_
    exact rd_iret C (by rw [nI_clamp (by omega)]) dX1_rowStart_28

set_option maxHeartbeats 4000000 in
set_option maxRecDepth 100000 in
/-- y(i) -/
theorem met_X1_y (l : Launch) (D : va_G) (d : ClassId) (Z : Nat → Prop) {o : Nat} {nr nc cp : Nat} {T : Nat → Nat → Int32} {P : List Tr} {x y : Nat → Int32} (i : Int32) : Met l yX1_y (ws_ yX1_y cX1_y 2 (some .int)) ({ frames := 1, cells := 0, slots := 0, locals := 22 } : Room) (pc_ [.ref o, .int i] D d (RSok D d Z o nr nc cp T P x y)) (vp_Si (fun v => v = if inR i nr then y i.toNatClampNeg else 0)) 0 0 (fun _ => False) := by
  refine mt_ofW (own := RX1) rfl (by decide) (Nat.le_of_ble_eq_true rfl) (fun p e s m below meth c C hnm hX ls hl => ?_)
  obtain ⟨hx, hb, -⟩ := C.1
  have hl : lv_has ls 2 [(0, .ref o), (1, .int i)] := hl
  obtain ⟨ad, sc, F, hP, hD, hI⟩ := hX
  obtain ⟨⟨i1, i2, i3, i4, i5, i6⟩, hc, htot, hpl, hhd, hpr, hxx, hyy⟩ := id hI
  have hw : Wd D Z s.heap [cO o 0 [.int (nI cp), .ref (ad 1), .ref (ad 5), .ref (ad 9), .ref (ad 13), .ref (ad 17), .ref (ad 21), .ref (ad 22), .ref (ad 23), .ref (ad 24)], cO (ad 1) 1 [.ref (ad 2), .ref (ad 3), .ref (ad 4), .int (nI nr), .int (nI nc)], cA d (ad 2) 61 (F 2), cA d (ad 3) 1000 (F 3), cA d (ad 4) 1000 (F 4), cO (ad 5) 1 [.ref (ad 6), .ref (ad 7), .ref (ad 8), .int (sc 1), .int (sc 2)], cA d (ad 6) 61 (F 6), cA d (ad 7) 1000 (F 7), cA d (ad 8) 1000 (F 8), cO (ad 9) 2 [.ref (ad 10), .ref (ad 11), .ref (ad 12), .int (nI P.length)], cA d (ad 10) 2000 (F 10), cA d (ad 11) 2000 (F 11), cA d (ad 12) 2000 (F 12), cO (ad 13) 2 [.ref (ad 14), .ref (ad 15), .ref (ad 16), .int (sc 3)], cA d (ad 14) 2000 (F 14), cA d (ad 15) 2000 (F 15), cA d (ad 16) 2000 (F 16), cO (ad 17) 2 [.ref (ad 18), .ref (ad 19), .ref (ad 20), .int (sc 4)], cA d (ad 18) 2000 (F 18), cA d (ad 19) 2000 (F 19), cA d (ad 20) 2000 (F 20), cA d (ad 21) 61 (F 21), cA d (ad 22) 60 (F 22), cA d (ad 23) 60 (F 23), cA d (ad 24) 60 (F 24)] s.heap [] := ⟨hP, hD, va_S.rf⟩
  refine lv_iload_n hx hb dX1_y_0 rfl (lv_at hl 1 rfl) ?_
  refine lv_iconst (v := nI 0) hx hb dX1_y_1 (by decide) ?_
  refine lv_aload_n hx hb dX1_y_2 rfl (lv_at hl 0 rfl) ?_
  refine g_X1_12 C hw 0 rfl rfl dX1_y_3 ?_
  refine g_X1_62 C hw 1 rfl rfl dX1_y_6 ?_
  refine lv_iconst (v := nI 1) hx hb dX1_y_9 (by decide) ?_
  refine lv_isub hx hb dX1_y_10 ?_
  refine c_rdS (As := [.int i, .int (nI 0), .int ((nI nr) - (nI 1))]) (rest := []) C (met_X1_in l D d i (nI 0) (nI (nr) - nI 1)) (va_cwS 3 C.1.2.2.2.2 (lw_S q117 q118 q8 q119) rfl rfl rfl (by decide +kernel) ⟨Nat.le_of_ble_eq_true rfl, Nat.le_of_ble_eq_true rfl⟩) (trivial) rfl hl.1 rfl (Nat.le_of_ble_eq_true rfl) dX1_y_11 ⟨Nat.le_of_ble_eq_true rfl, Nat.le_of_ble_eq_true rfl⟩ (fun r1 hr1 => ?_)
  have hr1 := in_subR (by omega) hr1
  refine lv_if_eq (tgt := 26) hx hb dX1_y_14 (by decide) (fun c1 => ?_) (fun c1 => ?_)
  · refine lv_iconst (v := nI 0) hx hb dX1_y_26 (by decide) ?_
    exact rd_iret C (by rw [if_neg (hr1.1 c1)]; exact nI_0) dX1_y_27
  · have h9 := hr1.2 c1
    rw [if_pos h9]
    obtain ⟨k, hk, rfl⟩ := inR_nI h9 (by omega)
    refine lv_aload_n hx hb dX1_y_17 rfl (lv_at hl 0 rfl) ?_
    refine g_X1_39 C hw 0 rfl rfl dX1_y_18 ?_
    refine lv_iload_n hx hb dX1_y_21 rfl (lv_at hl 1 rfl) ?_
    refine w_iald C hw 23 rfl (by omega) dX1_y_22 ?_
    refine lv_goto (tgt := 27) hx hb dX1_y_23 (by decide) ?_
    exact rd_iret C (by rw [nI_clamp (by omega)]; exact hyy k (by omega)) dX1_y_27

set_option maxHeartbeats 4000000 in
set_option maxRecDepth 100000 in
/-- colAt(k) -/
theorem met_X1_colAt (l : Launch) (D : va_G) (d : ClassId) (Z : Nat → Prop) {o : Nat} {nr nc cp : Nat} {T : Nat → Nat → Int32} {P : List Tr} {x y : Nat → Int32} (k0 : Int32) : Met l yX1_colAt (ws_ yX1_colAt cX1_colAt 2 (some .int)) ({ frames := 1, cells := 0, slots := 0, locals := 22 } : Room) (pc_ [.ref o, .int k0] D d (RSok D d Z o nr nc cp T P x y)) (vp_Si (fun v => Cat T nc nr k0 v)) 0 0 (fun _ => False) := by
  refine mt_ofW (own := RX1) rfl (by decide) (Nat.le_of_ble_eq_true rfl) (fun p e s m below meth c C hnm hX ls hl => ?_)
  obtain ⟨hx, hb, -⟩ := C.1
  have hl : lv_has ls 2 [(0, .ref o), (1, .int k0)] := hl
  obtain ⟨ad, sc, F, hP, hD, hI⟩ := hX
  obtain ⟨⟨i1, i2, i3, i4, i5, i6⟩, hc, htot, hpl, hhd, hpr, hxx, hyy⟩ := id hI
  have hw : Wd D Z s.heap [cO o 0 [.int (nI cp), .ref (ad 1), .ref (ad 5), .ref (ad 9), .ref (ad 13), .ref (ad 17), .ref (ad 21), .ref (ad 22), .ref (ad 23), .ref (ad 24)], cO (ad 1) 1 [.ref (ad 2), .ref (ad 3), .ref (ad 4), .int (nI nr), .int (nI nc)], cA d (ad 2) 61 (F 2), cA d (ad 3) 1000 (F 3), cA d (ad 4) 1000 (F 4), cO (ad 5) 1 [.ref (ad 6), .ref (ad 7), .ref (ad 8), .int (sc 1), .int (sc 2)], cA d (ad 6) 61 (F 6), cA d (ad 7) 1000 (F 7), cA d (ad 8) 1000 (F 8), cO (ad 9) 2 [.ref (ad 10), .ref (ad 11), .ref (ad 12), .int (nI P.length)], cA d (ad 10) 2000 (F 10), cA d (ad 11) 2000 (F 11), cA d (ad 12) 2000 (F 12), cO (ad 13) 2 [.ref (ad 14), .ref (ad 15), .ref (ad 16), .int (sc 3)], cA d (ad 14) 2000 (F 14), cA d (ad 15) 2000 (F 15), cA d (ad 16) 2000 (F 16), cO (ad 17) 2 [.ref (ad 18), .ref (ad 19), .ref (ad 20), .int (sc 4)], cA d (ad 18) 2000 (F 18), cA d (ad 19) 2000 (F 19), cA d (ad 20) 2000 (F 20), cA d (ad 21) 61 (F 21), cA d (ad 22) 60 (F 22), cA d (ad 23) 60 (F 23), cA d (ad 24) 60 (F 24)] s.heap [] := ⟨hP, hD, va_S.rf⟩
  refine lv_iload_n hx hb dX1_colAt_0 rfl (lv_at hl 1 rfl) ?_
  refine lv_iconst (v := nI 0) hx hb dX1_colAt_1 (by decide) ?_
  refine lv_aload_n hx hb dX1_colAt_2 rfl (lv_at hl 0 rfl) ?_
  refine g_X1_12 C hw 0 rfl rfl dX1_colAt_3 ?_
  refine c_rdV (As := []) (rest := [.int (nI 0), .int k0]) C (met_size l D d i2) (cwV 0 C.1.2.2.2.2 (lw_V q144 q145 q146 q9 q147) rfl rfl rfl (by decide +kernel) ⟨Nat.le_of_ble_eq_true rfl, Nat.le_of_ble_eq_true rfl⟩) (va_recv C.2.1.1 hw.1 (ci := 1) (q0 := 1) rfl rfl) (w_cut hw [1, 2] (by decide) rfl) rfl hl.1 rfl (Nat.le_of_ble_eq_true rfl) dX1_colAt_6 ⟨Nat.le_of_ble_eq_true rfl, Nat.le_of_ble_eq_true rfl⟩ (fun r hr => ?_)
  refine w_top (y := nI (of_ T nc nr)) (by rw [hr]; exact hc.1 nr (Nat.le_refl _)) ?_
  refine lv_iconst (v := nI 1) hx hb dX1_colAt_9 (by decide) ?_
  refine lv_isub hx hb dX1_colAt_10 ?_
  refine c_rdS (As := [.int k0, .int (nI 0), .int ((nI (of_ T nc nr)) - (nI 1))]) (rest := []) C (met_X1_in l D d k0 (nI 0) (nI (of_ T nc nr) - nI 1)) (va_cwS 3 C.1.2.2.2.2 (lw_S q117 q118 q8 q119) rfl rfl rfl (by decide +kernel) ⟨Nat.le_of_ble_eq_true rfl, Nat.le_of_ble_eq_true rfl⟩) (trivial) rfl hl.1 rfl (Nat.le_of_ble_eq_true rfl) dX1_colAt_11 ⟨Nat.le_of_ble_eq_true rfl, Nat.le_of_ble_eq_true rfl⟩ (fun r1 hr1 => ?_)
  have hr1 := in_subR (by omega) hr1
  refine lv_if_eq (tgt := 29) hx hb dX1_colAt_14 (by decide) (fun c1 => ?_) (fun c1 => ?_)
  · refine lv_iconst (v := (-1)) hx hb dX1_colAt_29 (by decide) ?_
    refine rd_iret C ?_ dX1_colAt_30
    exact ⟨fun a b ha hb hz hk => absurd (by rw [hk]; exact inR_of (pos_lt ha hb hz) (by omega)) (hr1.1 c1), fun _ => rfl⟩
  · obtain ⟨k, hk, rfl⟩ := inR_nI (hr1.2 c1) (by omega)
    obtain ⟨a9, b9, ha9, hb9, hz9, hk9⟩ := of_sur hk
    refine lv_aload_n hx hb dX1_colAt_17 rfl (lv_at hl 0 rfl) ?_
    refine g_X1_12 C hw 0 rfl rfl dX1_colAt_18 ?_
    refine g_X1_85 C hw 1 rfl rfl dX1_colAt_21 ?_
    refine lv_iload_n hx hb dX1_colAt_24 rfl (lv_at hl 1 rfl) ?_
    refine w_iald C hw 3 rfl (by omega) dX1_colAt_25 ?_
    refine w_top (y := nI b9) (by rw [hk9]; exact (hc.2 a9 b9 ha9 hb9 hz9).1) ?_
    refine lv_goto (tgt := 30) hx hb dX1_colAt_26 (by decide) ?_
    refine rd_iret C ?_ dX1_colAt_30
    refine ⟨fun a b ha hb hz hk2 => ?_, fun q => absurd (by rw [hk9]) (q a9 b9 ha9 hb9 hz9)⟩
    have h8 := pos_lt ha hb hz
    have h7 := (nI_eq (by omega) (by omega)).mp hk2
    rw [(pos_inj hb9 hb hz9 hz (by omega)).2]

set_option maxHeartbeats 4000000 in
set_option maxRecDepth 100000 in
/-- at(i, j) -/
theorem met_X1_at (l : Launch) (D : va_G) (d : ClassId) (Z : Nat → Prop) {o : Nat} {nr nc cp : Nat} {T : Nat → Nat → Int32} {P : List Tr} {x y : Nat → Int32} (i j : Int32) : Met l yX1_at (ws_ yX1_at cX1_at 4 (some .int)) ({ frames := 1, cells := 0, slots := 0, locals := 25 } : Room) (pc_ [.ref o, .int i, .int j] D d (RSok D d Z o nr nc cp T P x y)) (vp_Si (fun v => v = if inR i nr ∧ inR j nc then T i.toNatClampNeg j.toNatClampNeg else 0)) 0 0 (fun _ => False) := by
  refine mt_ofW (own := RX1) rfl (by decide) (Nat.le_of_ble_eq_true rfl) (fun p e s m below meth c C hnm hX ls hl => ?_)
  obtain ⟨hx, hb, -⟩ := C.1
  have hl : lv_has ls 4 [(0, .ref o), (1, .int i), (2, .int j)] := hl
  obtain ⟨ad, sc, F, hP, hD, hI⟩ := hX
  obtain ⟨⟨i1, i2, i3, i4, i5, i6⟩, hc, htot, hpl, hhd, hpr, hxx, hyy⟩ := id hI
  have hw : Wd D Z s.heap [cO o 0 [.int (nI cp), .ref (ad 1), .ref (ad 5), .ref (ad 9), .ref (ad 13), .ref (ad 17), .ref (ad 21), .ref (ad 22), .ref (ad 23), .ref (ad 24)], cO (ad 1) 1 [.ref (ad 2), .ref (ad 3), .ref (ad 4), .int (nI nr), .int (nI nc)], cA d (ad 2) 61 (F 2), cA d (ad 3) 1000 (F 3), cA d (ad 4) 1000 (F 4), cO (ad 5) 1 [.ref (ad 6), .ref (ad 7), .ref (ad 8), .int (sc 1), .int (sc 2)], cA d (ad 6) 61 (F 6), cA d (ad 7) 1000 (F 7), cA d (ad 8) 1000 (F 8), cO (ad 9) 2 [.ref (ad 10), .ref (ad 11), .ref (ad 12), .int (nI P.length)], cA d (ad 10) 2000 (F 10), cA d (ad 11) 2000 (F 11), cA d (ad 12) 2000 (F 12), cO (ad 13) 2 [.ref (ad 14), .ref (ad 15), .ref (ad 16), .int (sc 3)], cA d (ad 14) 2000 (F 14), cA d (ad 15) 2000 (F 15), cA d (ad 16) 2000 (F 16), cO (ad 17) 2 [.ref (ad 18), .ref (ad 19), .ref (ad 20), .int (sc 4)], cA d (ad 18) 2000 (F 18), cA d (ad 19) 2000 (F 19), cA d (ad 20) 2000 (F 20), cA d (ad 21) 61 (F 21), cA d (ad 22) 60 (F 22), cA d (ad 23) 60 (F 23), cA d (ad 24) 60 (F 24)] s.heap [] := ⟨hP, hD, va_S.rf⟩
  refine lv_iload_n hx hb dX1_at_0 rfl (lv_at hl 1 rfl) ?_
  refine lv_iconst (v := nI 0) hx hb dX1_at_1 (by decide) ?_
  refine lv_aload_n hx hb dX1_at_2 rfl (lv_at hl 0 rfl) ?_
  refine g_X1_12 C hw 0 rfl rfl dX1_at_3 ?_
  refine g_X1_62 C hw 1 rfl rfl dX1_at_6 ?_
  refine lv_iconst (v := nI 1) hx hb dX1_at_9 (by decide) ?_
  refine lv_isub hx hb dX1_at_10 ?_
  refine c_rdS (As := [.int i, .int (nI 0), .int ((nI nr) - (nI 1))]) (rest := []) C (met_X1_in l D d i (nI 0) (nI (nr) - nI 1)) (va_cwS 3 C.1.2.2.2.2 (lw_S q117 q118 q8 q119) rfl rfl rfl (by decide +kernel) ⟨Nat.le_of_ble_eq_true rfl, Nat.le_of_ble_eq_true rfl⟩) (trivial) rfl hl.1 rfl (Nat.le_of_ble_eq_true rfl) dX1_at_11 ⟨Nat.le_of_ble_eq_true rfl, Nat.le_of_ble_eq_true rfl⟩ (fun r1 hr1 => ?_)
  have hr1 := in_subR (by omega) hr1
  refine lv_if_eq (tgt := 34) hx hb dX1_at_14 (by decide) (fun c1 => ?_) (fun c1 => ?_)
  · refine lv_iconst (v := nI 0) hx hb dX1_at_34 (by decide) ?_
    exact rd_iret C (by rw [if_neg (fun q => hr1.1 c1 q.1)]; exact nI_0) dX1_at_35
  · refine lv_iload_n hx hb dX1_at_17 rfl (lv_at hl 2 rfl) ?_
    refine lv_iconst (v := nI 0) hx hb dX1_at_18 (by decide) ?_
    refine lv_aload_n hx hb dX1_at_19 rfl (lv_at hl 0 rfl) ?_
    refine g_X1_12 C hw 0 rfl rfl dX1_at_20 ?_
    refine g_X1_69 C hw 1 rfl rfl dX1_at_23 ?_
    refine lv_iconst (v := nI 1) hx hb dX1_at_26 (by decide) ?_
    refine lv_isub hx hb dX1_at_27 ?_
    refine c_rdS (As := [.int j, .int (nI 0), .int ((nI nc) - (nI 1))]) (rest := []) C (met_X1_in l D d j (nI 0) (nI (nc) - nI 1)) (va_cwS 3 C.1.2.2.2.2 (lw_S q117 q118 q8 q119) rfl rfl rfl (by decide +kernel) ⟨Nat.le_of_ble_eq_true rfl, Nat.le_of_ble_eq_true rfl⟩) (trivial) rfl hl.1 rfl (Nat.le_of_ble_eq_true rfl) dX1_at_28 ⟨Nat.le_of_ble_eq_true rfl, Nat.le_of_ble_eq_true rfl⟩ (fun r2 hr2 => ?_)
    have hr2 := in_subR (by omega) hr2
    refine lv_if_ne (tgt := 36) hx hb dX1_at_31 (by decide) (fun c2 => ?_) (fun c2 => ?_)
    · rw [if_pos ⟨hr1.2 c1, hr2.2 c2⟩]
      obtain ⟨ki, hki, rfl⟩ := inR_nI (hr1.2 c1) (by omega)
      obtain ⟨kj, hkj, rfl⟩ := inR_nI (hr2.2 c2) (by omega)
      rw [nI_clamp (by omega : ki < 2 ^ 31), nI_clamp (by omega : kj < 2 ^ 31)]
      refine lv_aload_n hx hb dX1_at_36 rfl (lv_at hl 0 rfl) ?_
      refine g_X1_12 C hw 0 rfl rfl dX1_at_37 ?_
      refine lv_iload_n hx hb dX1_at_40 rfl (lv_at hl 1 rfl) ?_
      refine lv_iload_n hx hb dX1_at_41 rfl (lv_at hl 2 rfl) ?_
      refine c_rdV (As := [.int (nI ki), .int (nI kj)]) (rest := []) C (met_find l D d hc hki i2 hkj i4 (by omega)) (cwV 2 C.1.2.2.2.2 (lw_V q156 q157 q158 q9 q159) rfl rfl rfl (by decide +kernel) ⟨Nat.le_of_ble_eq_true rfl, Nat.le_of_ble_eq_true rfl⟩) (va_recv C.2.1.1 hw.1 (ci := 1) (q0 := 1) rfl rfl) (w_cut hw [1, 2, 3] (by decide) rfl) rfl hl.1 rfl (Nat.le_of_ble_eq_true rfl) dX1_at_42 ⟨Nat.le_of_ble_eq_true rfl, Nat.le_of_ble_eq_true rfl⟩ (fun r3 hr3 => ?_)
      by_cases hz : T ki kj = 0
      · rw [if_pos hz] at hr3
        subst hr3
        refine lv_istore_n (lv' := [(3, .int (-1)), (0, .ref o), (1, .int (nI ki)), (2, .int (nI kj))]) hx hb dX1_at_45 rfl hl (by decide) rfl (fun ls hl => ?_)
        refine lv_iload_n hx hb dX1_at_46 rfl (lv_at hl 0 rfl) ?_
        refine lv_iconst (v := (-1)) hx hb dX1_at_47 (by decide) ?_
        refine lv_icmp_ne (tgt := 55) hx hb dX1_at_48 (by decide) (fun c3 => ?_) (fun c3 => ?_)
        · exact absurd rfl c3
        · refine lv_iconst (v := nI 0) hx hb dX1_at_51 (by decide) ?_
          refine lv_goto (tgt := 64) hx hb dX1_at_52 (by decide) ?_
          exact rd_iret C (by rw [hz]; exact nI_0) dX1_at_64
      · rw [if_neg hz] at hr3
        have hps := pos_lt hki hkj hz
        obtain ⟨q, hq⟩ : ∃ q, q = of_ T nc ki + rk_ T ki kj := ⟨_, rfl⟩
        rw [← hq] at hr3 hps
        subst hr3
        refine lv_istore_n (lv' := [(3, .int (nI q)), (0, .ref o), (1, .int (nI ki)), (2, .int (nI kj))]) hx hb dX1_at_45 rfl hl (by decide) rfl (fun ls hl => ?_)
        refine lv_iload_n hx hb dX1_at_46 rfl (lv_at hl 0 rfl) ?_
        refine lv_iconst (v := (-1)) hx hb dX1_at_47 (by decide) ?_
        refine lv_icmp_ne (tgt := 55) hx hb dX1_at_48 (by decide) (fun c3 => ?_) (fun c3 => ?_)
        · refine lv_aload_n hx hb dX1_at_55 rfl (lv_at hl 1 rfl) ?_
          refine g_X1_12 C hw 0 rfl rfl dX1_at_56 ?_
          refine g_X1_88 C hw 1 rfl rfl dX1_at_59 ?_
          refine lv_iload_n hx hb dX1_at_62 rfl (lv_at hl 0 rfl) ?_
          refine w_iald C hw 4 rfl (by omega) dX1_at_63 ?_
          refine w_top (y := T ki kj) (by rw [hq]; exact (hc.2 ki kj hki hkj hz).2) ?_
          exact rd_iret C rfl dX1_at_64
        · exact absurd c3 (fun z => nI_pos (n := q) (by omega) (by rw [z]; decide))
    · refine lv_iconst (v := nI 0) hx hb dX1_at_34 (by decide) ?_
      exact rd_iret C (by rw [if_neg (fun q => hr2.1 c2 q.2)]; exact nI_0) dX1_at_35

set_option maxHeartbeats 4000000 in
set_option maxRecDepth 100000 in
/-- count(what) -/
theorem met_X1_count (l : Launch) (D : va_G) (d : ClassId) (Z : Nat → Prop) {o : Nat} {nr nc cp : Nat} {T : Nat → Nat → Int32} {P : List Tr} {x y : Nat → Int32} (k0 : Int32) : Met l yX1_count (ws_ yX1_count cX1_count 2 (some .int)) ({ frames := 0, cells := 0, slots := 0, locals := 0 } : Room) (pc_ [.ref o, .int k0] D d (RSok D d Z o nr nc cp T P x y)) (vp_Si (fun v => v = if k0 = 0 then nI nr else if k0 = 1 then nI nc else if k0 = 2 then nI cp else if k0 = 3 then nI P.length else -1)) 0 0 (fun _ => False) := by
  refine mt_ofW (own := RX1) rfl (by decide) (Nat.le_of_ble_eq_true rfl) (fun p e s m below meth c C hnm hX ls hl => ?_)
  obtain ⟨hx, hb, -⟩ := C.1
  have hl : lv_has ls 2 [(0, .ref o), (1, .int k0)] := hl
  obtain ⟨ad, sc, F, hP, hD, hI⟩ := hX
  obtain ⟨⟨i1, i2, i3, i4, i5, i6⟩, hc, htot, hpl, hhd, hpr, hxx, hyy⟩ := id hI
  have hw : Wd D Z s.heap [cO o 0 [.int (nI cp), .ref (ad 1), .ref (ad 5), .ref (ad 9), .ref (ad 13), .ref (ad 17), .ref (ad 21), .ref (ad 22), .ref (ad 23), .ref (ad 24)], cO (ad 1) 1 [.ref (ad 2), .ref (ad 3), .ref (ad 4), .int (nI nr), .int (nI nc)], cA d (ad 2) 61 (F 2), cA d (ad 3) 1000 (F 3), cA d (ad 4) 1000 (F 4), cO (ad 5) 1 [.ref (ad 6), .ref (ad 7), .ref (ad 8), .int (sc 1), .int (sc 2)], cA d (ad 6) 61 (F 6), cA d (ad 7) 1000 (F 7), cA d (ad 8) 1000 (F 8), cO (ad 9) 2 [.ref (ad 10), .ref (ad 11), .ref (ad 12), .int (nI P.length)], cA d (ad 10) 2000 (F 10), cA d (ad 11) 2000 (F 11), cA d (ad 12) 2000 (F 12), cO (ad 13) 2 [.ref (ad 14), .ref (ad 15), .ref (ad 16), .int (sc 3)], cA d (ad 14) 2000 (F 14), cA d (ad 15) 2000 (F 15), cA d (ad 16) 2000 (F 16), cO (ad 17) 2 [.ref (ad 18), .ref (ad 19), .ref (ad 20), .int (sc 4)], cA d (ad 18) 2000 (F 18), cA d (ad 19) 2000 (F 19), cA d (ad 20) 2000 (F 20), cA d (ad 21) 61 (F 21), cA d (ad 22) 60 (F 22), cA d (ad 23) 60 (F 23), cA d (ad 24) 60 (F 24)] s.heap [] := ⟨hP, hD, va_S.rf⟩
  refine lv_iload_n hx hb dX1_count_0 rfl (lv_at hl 1 rfl) ?_
  by_cases q0 : k0 = 0
  · subst q0
    refine lv_tableIn (off := 31) (tgt := 32) hx hb dX1_count_1 (by decide) (by decide) (by decide) (by decide) ?_
    refine lv_aload_n hx hb dX1_count_32 rfl (lv_at hl 0 rfl) ?_
    refine g_X1_12 C hw 0 rfl rfl dX1_count_33 ?_
    refine g_X1_62 C hw 1 rfl rfl dX1_count_36 ?_
    exact rd_iret C (by simp) dX1_count_39
  by_cases q1 : k0 = 1
  · subst q1
    refine lv_tableIn (off := 39) (tgt := 40) hx hb dX1_count_1 (by decide) (by decide) (by decide) (by decide) ?_
    refine lv_aload_n hx hb dX1_count_40 rfl (lv_at hl 0 rfl) ?_
    refine g_X1_12 C hw 0 rfl rfl dX1_count_41 ?_
    refine g_X1_69 C hw 1 rfl rfl dX1_count_44 ?_
    exact rd_iret C (by simp) dX1_count_47
  by_cases q2 : k0 = 2
  · subst q2
    refine lv_tableIn (off := 47) (tgt := 48) hx hb dX1_count_1 (by decide) (by decide) (by decide) (by decide) ?_
    refine lv_aload_n hx hb dX1_count_48 rfl (lv_at hl 0 rfl) ?_
    refine g_X1_54 C hw 0 rfl rfl dX1_count_49 ?_
    exact rd_iret C (by simp) dX1_count_52
  by_cases q3 : k0 = 3
  · subst q3
    refine lv_tableIn (off := 52) (tgt := 53) hx hb dX1_count_1 (by decide) (by decide) (by decide) (by decide) ?_
    refine lv_aload_n hx hb dX1_count_53 rfl (lv_at hl 0 rfl) ?_
    refine g_X1_22 C hw 0 rfl rfl dX1_count_54 ?_
    refine g_X1_72 C hw 9 rfl rfl dX1_count_57 ?_
    exact rd_iret C (by simp) dX1_count_60
  refine lv_tableOut (tgt := 61) hx hb dX1_count_1 ?_ (by decide) ?_
  · have e0 := lv_neT q0 (a := 0) (by decide)
    have e1 := lv_neT q1 (a := 1) (by decide)
    have e2 := lv_neT q2 (a := 2) (by decide)
    have e3 := lv_neT q3 (a := 3) (by decide)
    omega
  · refine lv_iconst (v := (-1)) hx hb dX1_count_61 (by decide) ?_
    exact rd_iret C (by rw [if_neg q0, if_neg q1, if_neg q2, if_neg q3]) dX1_count_62

set_option maxHeartbeats 4000000 in
set_option maxRecDepth 100000 in
/-- setX(j, v) -/
theorem met_X1_setX (l : Launch) (D : va_G) (d : ClassId) (Z : Nat → Prop) {o : Nat} {nr nc cp : Nat} {T : Nat → Nat → Int32} {P : List Tr} {x y : Nat → Int32} (j v0 : Int32) : Met l yX1_setX (ws_ yX1_setX cX1_setX 3 (some .boolean)) ({ frames := 1, cells := 0, slots := 0, locals := 22 } : Room) (pc_ [.ref o, .int j, .int v0] D d (RSok D d Z o nr nc cp T P x y)) (va_Qi (fun v (_ : Unit) => v = if inR j nc then 1 else 0) (fun (_ : Unit) t9 => RSok D d Z o nr nc cp T P (if inR j nc then upd x j.toNatClampNeg v0 else x) y t9.heap) (Z)) 0 0 (Z) := by
  refine mt_ofW (own := RX1) rfl (by decide) (Nat.le_of_ble_eq_true rfl) (fun p e s m below meth c C hnm hX ls hl => ?_)
  obtain ⟨hx, hb, -⟩ := C.1
  have hl : lv_has ls 3 [(0, .ref o), (1, .int j), (2, .int v0)] := hl
  obtain ⟨ad, sc, F, hP, hD, hI⟩ := hX
  obtain ⟨⟨i1, i2, i3, i4, i5, i6⟩, hc, htot, hpl, hhd, hpr, hxx, hyy⟩ := id hI
  have hw : Wd D Z s.heap [cO o 0 [.int (nI cp), .ref (ad 1), .ref (ad 5), .ref (ad 9), .ref (ad 13), .ref (ad 17), .ref (ad 21), .ref (ad 22), .ref (ad 23), .ref (ad 24)], cO (ad 1) 1 [.ref (ad 2), .ref (ad 3), .ref (ad 4), .int (nI nr), .int (nI nc)], cA d (ad 2) 61 (F 2), cA d (ad 3) 1000 (F 3), cA d (ad 4) 1000 (F 4), cO (ad 5) 1 [.ref (ad 6), .ref (ad 7), .ref (ad 8), .int (sc 1), .int (sc 2)], cA d (ad 6) 61 (F 6), cA d (ad 7) 1000 (F 7), cA d (ad 8) 1000 (F 8), cO (ad 9) 2 [.ref (ad 10), .ref (ad 11), .ref (ad 12), .int (nI P.length)], cA d (ad 10) 2000 (F 10), cA d (ad 11) 2000 (F 11), cA d (ad 12) 2000 (F 12), cO (ad 13) 2 [.ref (ad 14), .ref (ad 15), .ref (ad 16), .int (sc 3)], cA d (ad 14) 2000 (F 14), cA d (ad 15) 2000 (F 15), cA d (ad 16) 2000 (F 16), cO (ad 17) 2 [.ref (ad 18), .ref (ad 19), .ref (ad 20), .int (sc 4)], cA d (ad 18) 2000 (F 18), cA d (ad 19) 2000 (F 19), cA d (ad 20) 2000 (F 20), cA d (ad 21) 61 (F 21), cA d (ad 22) 60 (F 22), cA d (ad 23) 60 (F 23), cA d (ad 24) 60 (F 24)] s.heap [] := ⟨hP, hD, va_S.rf⟩
  refine lv_iload_n hx hb dX1_setX_0 rfl (lv_at hl 1 rfl) ?_
  refine lv_iconst (v := nI 0) hx hb dX1_setX_1 (by decide) ?_
  refine lv_aload_n hx hb dX1_setX_2 rfl (lv_at hl 0 rfl) ?_
  refine g_X1_12 C hw 0 rfl rfl dX1_setX_3 ?_
  refine g_X1_69 C hw 1 rfl rfl dX1_setX_6 ?_
  refine lv_iconst (v := nI 1) hx hb dX1_setX_9 (by decide) ?_
  refine lv_isub hx hb dX1_setX_10 ?_
  refine c_rdS (As := [.int j, .int (nI 0), .int ((nI nc) - (nI 1))]) (rest := []) C (met_X1_in l D d j (nI 0) (nI (nc) - nI 1)) (va_cwS 3 C.1.2.2.2.2 (lw_S q117 q118 q8 q119) rfl rfl rfl (by decide +kernel) ⟨Nat.le_of_ble_eq_true rfl, Nat.le_of_ble_eq_true rfl⟩) (trivial) rfl hl.1 rfl (Nat.le_of_ble_eq_true rfl) dX1_setX_11 ⟨Nat.le_of_ble_eq_true rfl, Nat.le_of_ble_eq_true rfl⟩ (fun r1 hr1 => ?_)
  have hr1 := in_subR (by omega) hr1
  refine lv_if_ne (tgt := 19) hx hb dX1_setX_14 (by decide) (fun c1 => ?_) (fun c1 => ?_)
  · have h9 := hr1.2 c1
    obtain ⟨k, hk, rfl⟩ := inR_nI h9 (by omega)
    refine lv_aload_n hx hb dX1_setX_19 rfl (lv_at hl 0 rfl) ?_
    refine g_X1_36 C hw 0 rfl rfl dX1_setX_20 ?_
    refine lv_iload_n hx hb dX1_setX_23 rfl (lv_at hl 1 rfl) ?_
    refine lv_iload_n hx hb dX1_setX_24 rfl (lv_at hl 2 rfl) ?_
    refine w_iast C hw 22 rfl (by omega) dX1_setX_25 (fun H locs hw => ?_)
    have hw : Wd D Z s.heap [cO o 0 [.int (nI cp), .ref (ad 1), .ref (ad 5), .ref (ad 9), .ref (ad 13), .ref (ad 17), .ref (ad 21), .ref (ad 22), .ref (ad 23), .ref (ad 24)], cO (ad 1) 1 [.ref (ad 2), .ref (ad 3), .ref (ad 4), .int (nI nr), .int (nI nc)], cA d (ad 2) 61 (F 2), cA d (ad 3) 1000 (F 3), cA d (ad 4) 1000 (F 4), cO (ad 5) 1 [.ref (ad 6), .ref (ad 7), .ref (ad 8), .int (sc 1), .int (sc 2)], cA d (ad 6) 61 (F 6), cA d (ad 7) 1000 (F 7), cA d (ad 8) 1000 (F 8), cO (ad 9) 2 [.ref (ad 10), .ref (ad 11), .ref (ad 12), .int (nI P.length)], cA d (ad 10) 2000 (F 10), cA d (ad 11) 2000 (F 11), cA d (ad 12) 2000 (F 12), cO (ad 13) 2 [.ref (ad 14), .ref (ad 15), .ref (ad 16), .int (sc 3)], cA d (ad 14) 2000 (F 14), cA d (ad 15) 2000 (F 15), cA d (ad 16) 2000 (F 16), cO (ad 17) 2 [.ref (ad 18), .ref (ad 19), .ref (ad 20), .int (sc 4)], cA d (ad 18) 2000 (F 18), cA d (ad 19) 2000 (F 19), cA d (ad 20) 2000 (F 20), cA d (ad 21) 61 (F 21), cA d (ad 22) 60 (upd (F 22) k v0), cA d (ad 23) 60 (F 23), cA d (ad 24) 60 (F 24)] H locs := hw
    refine lv_iconst (v := nI 1) hx hb dX1_setX_26 (by decide) ?_
    refine mu_zret (v := nI 1) (Y := fun _ h => RSok D d Z o nr nc cp T P (if inR (nI k) nc then upd x (nI k).toNatClampNeg v0 else x) y h) C hw.2.2 rfl () (by rw [if_pos h9]; rfl) ?_ dX1_setX_27
    rw [if_pos h9, nI_clamp (by omega)]
    refine rs_mk hw.1 hw.2.1 ⟨⟨i1, i2, i3, i4, i5, i6⟩, hc, htot, hpl, hhd, hpr, fun a ha => ?_, hyy⟩
    by_cases q : a = k
    · rw [q, pk_us, pk_us]
    · rw [pk_un q, pk_un q]; exact hxx a ha
  · have h9 := hr1.1 c1
    refine lv_iconst (v := nI 0) hx hb dX1_setX_17 (by decide) ?_
    refine mu_zret (v := nI 0) (Y := fun _ h => RSok D d Z o nr nc cp T P (if inR j nc then upd x j.toNatClampNeg v0 else x) y h) C hw.2.2 rfl () (by rw [if_neg h9]; exact nI_0) ?_ dX1_setX_18
    rw [if_neg h9]
    exact rs_mk hw.1 hw.2.1 hI

set_option maxHeartbeats 4000000 in
set_option maxRecDepth 100000 in
/-- add(i, j, v) -/
theorem met_X1_add (l : Launch) (D : va_G) (d : ClassId) (Z : Nat → Prop) {o : Nat} {nr nc cp : Nat} {T : Nat → Nat → Int32} {P : List Tr} {x y : Nat → Int32} (i j v0 : Int32) : Met l yX1_add (ws_ yX1_add cX1_add 4 (some .boolean)) ({ frames := 1, cells := 0, slots := 0, locals := 23 } : Room) (pc_ [.ref o, .int i, .int j, .int v0] D d (RSok D d Z o nr nc cp T P x y)) (va_Qi (fun v (_ : Unit) => v = if inR i nr ∧ inR j nc ∧ P.length ≠ cp then 1 else 0) (fun (_ : Unit) t9 => RSok D d Z o nr nc cp T (if inR i nr ∧ inR j nc ∧ P.length ≠ cp then P ++ [(i.toNatClampNeg, j.toNatClampNeg, v0)] else P) x y t9.heap) (Z)) 0 0 (Z) := by
  refine mt_ofW (own := RX1) rfl (by decide) (Nat.le_of_ble_eq_true rfl) (fun p e s m below meth c C hnm hX ls hl => ?_)
  obtain ⟨hx, hb, -⟩ := C.1
  have hl : lv_has ls 4 [(0, .ref o), (1, .int i), (2, .int j), (3, .int v0)] := hl
  obtain ⟨ad, sc, F, hP, hD, hI⟩ := hX
  obtain ⟨⟨i1, i2, i3, i4, i5, i6⟩, hc, htot, hpl, hhd, hpr, hxx, hyy⟩ := id hI
  have hw : Wd D Z s.heap [cO o 0 [.int (nI cp), .ref (ad 1), .ref (ad 5), .ref (ad 9), .ref (ad 13), .ref (ad 17), .ref (ad 21), .ref (ad 22), .ref (ad 23), .ref (ad 24)], cO (ad 1) 1 [.ref (ad 2), .ref (ad 3), .ref (ad 4), .int (nI nr), .int (nI nc)], cA d (ad 2) 61 (F 2), cA d (ad 3) 1000 (F 3), cA d (ad 4) 1000 (F 4), cO (ad 5) 1 [.ref (ad 6), .ref (ad 7), .ref (ad 8), .int (sc 1), .int (sc 2)], cA d (ad 6) 61 (F 6), cA d (ad 7) 1000 (F 7), cA d (ad 8) 1000 (F 8), cO (ad 9) 2 [.ref (ad 10), .ref (ad 11), .ref (ad 12), .int (nI P.length)], cA d (ad 10) 2000 (F 10), cA d (ad 11) 2000 (F 11), cA d (ad 12) 2000 (F 12), cO (ad 13) 2 [.ref (ad 14), .ref (ad 15), .ref (ad 16), .int (sc 3)], cA d (ad 14) 2000 (F 14), cA d (ad 15) 2000 (F 15), cA d (ad 16) 2000 (F 16), cO (ad 17) 2 [.ref (ad 18), .ref (ad 19), .ref (ad 20), .int (sc 4)], cA d (ad 18) 2000 (F 18), cA d (ad 19) 2000 (F 19), cA d (ad 20) 2000 (F 20), cA d (ad 21) 61 (F 21), cA d (ad 22) 60 (F 22), cA d (ad 23) 60 (F 23), cA d (ad 24) 60 (F 24)] s.heap [] := ⟨hP, hD, va_S.rf⟩
  refine lv_iload_n hx hb dX1_add_0 rfl (lv_at hl 1 rfl) ?_
  refine lv_iconst (v := nI 0) hx hb dX1_add_1 (by decide) ?_
  refine lv_aload_n hx hb dX1_add_2 rfl (lv_at hl 0 rfl) ?_
  refine g_X1_12 C hw 0 rfl rfl dX1_add_3 ?_
  refine g_X1_62 C hw 1 rfl rfl dX1_add_6 ?_
  refine lv_iconst (v := nI 1) hx hb dX1_add_9 (by decide) ?_
  refine lv_isub hx hb dX1_add_10 ?_
  refine c_rdS (As := [.int i, .int (nI 0), .int ((nI nr) - (nI 1))]) (rest := []) C (met_X1_in l D d i (nI 0) (nI (nr) - nI 1)) (va_cwS 3 C.1.2.2.2.2 (lw_S q117 q118 q8 q119) rfl rfl rfl (by decide +kernel) ⟨Nat.le_of_ble_eq_true rfl, Nat.le_of_ble_eq_true rfl⟩) (trivial) rfl hl.1 rfl (Nat.le_of_ble_eq_true rfl) dX1_add_11 ⟨Nat.le_of_ble_eq_true rfl, Nat.le_of_ble_eq_true rfl⟩ (fun r1 hr1 => ?_)
  have hr1 := in_subR (by omega) hr1
  refine lv_if_eq (tgt := 48) hx hb dX1_add_14 (by decide) (fun c1 => ?_) (fun c1 => ?_)
  · have h9 : ¬ (inR i nr ∧ inR j nc ∧ P.length ≠ cp) := fun q => hr1.1 c1 q.1
    refine lv_iconst (v := nI 0) hx hb dX1_add_48 (by decide) ?_
    refine mu_zret (v := nI 0) (Y := fun _ h => RSok D d Z o nr nc cp T (if inR i nr ∧ inR j nc ∧ P.length ≠ cp then P ++ [(i.toNatClampNeg, j.toNatClampNeg, v0)] else P) x y h) C hw.2.2 rfl () (by rw [if_neg h9]; exact nI_0) ?_ dX1_add_49
    rw [if_neg h9]
    exact rs_mk hw.1 hw.2.1 hI
  · refine lv_iload_n hx hb dX1_add_17 rfl (lv_at hl 2 rfl) ?_
    refine lv_iconst (v := nI 0) hx hb dX1_add_18 (by decide) ?_
    refine lv_aload_n hx hb dX1_add_19 rfl (lv_at hl 0 rfl) ?_
    refine g_X1_12 C hw 0 rfl rfl dX1_add_20 ?_
    refine g_X1_69 C hw 1 rfl rfl dX1_add_23 ?_
    refine lv_iconst (v := nI 1) hx hb dX1_add_26 (by decide) ?_
    refine lv_isub hx hb dX1_add_27 ?_
    refine c_rdS (As := [.int j, .int (nI 0), .int ((nI nc) - (nI 1))]) (rest := []) C (met_X1_in l D d j (nI 0) (nI (nc) - nI 1)) (va_cwS 3 C.1.2.2.2.2 (lw_S q117 q118 q8 q119) rfl rfl rfl (by decide +kernel) ⟨Nat.le_of_ble_eq_true rfl, Nat.le_of_ble_eq_true rfl⟩) (trivial) rfl hl.1 rfl (Nat.le_of_ble_eq_true rfl) dX1_add_28 ⟨Nat.le_of_ble_eq_true rfl, Nat.le_of_ble_eq_true rfl⟩ (fun r2 hr2 => ?_)
    have hr2 := in_subR (by omega) hr2
    refine lv_if_eq (tgt := 48) hx hb dX1_add_31 (by decide) (fun c2 => ?_) (fun c2 => ?_)
    · have h9 : ¬ (inR i nr ∧ inR j nc ∧ P.length ≠ cp) := fun q => hr2.1 c2 q.2.1
      refine lv_iconst (v := nI 0) hx hb dX1_add_48 (by decide) ?_
      refine mu_zret (v := nI 0) (Y := fun _ h => RSok D d Z o nr nc cp T (if inR i nr ∧ inR j nc ∧ P.length ≠ cp then P ++ [(i.toNatClampNeg, j.toNatClampNeg, v0)] else P) x y h) C hw.2.2 rfl () (by rw [if_neg h9]; exact nI_0) ?_ dX1_add_49
      rw [if_neg h9]
      exact rs_mk hw.1 hw.2.1 hI
    · refine lv_aload_n hx hb dX1_add_34 rfl (lv_at hl 0 rfl) ?_
      refine g_X1_22 C hw 0 rfl rfl dX1_add_35 ?_
      refine g_X1_72 C hw 9 rfl rfl dX1_add_38 ?_
      refine lv_aload_n hx hb dX1_add_41 rfl (lv_at hl 0 rfl) ?_
      refine g_X1_54 C hw 0 rfl rfl dX1_add_42 ?_
      refine w_icmp_ne C (tgt := 50) (by omega) (by omega) dX1_add_45 (by decide) (fun c3 => ?_) (fun c3 => ?_)
      · have h9 : inR i nr ∧ inR j nc ∧ P.length ≠ cp := ⟨hr1.2 c1, hr2.2 c2, c3⟩
        obtain ⟨ki, hki, rfl⟩ := inR_nI (hr1.2 c1) (by omega)
        obtain ⟨kj, hkj, rfl⟩ := inR_nI (hr2.2 c2) (by omega)
        refine lv_aload_n hx hb dX1_add_50 rfl (lv_at hl 0 rfl) ?_
        refine g_X1_22 C hw 0 rfl rfl dX1_add_51 ?_
        refine lv_iload_n hx hb dX1_add_54 rfl (lv_at hl 1 rfl) ?_
        refine lv_iload_n hx hb dX1_add_55 rfl (lv_at hl 2 rfl) ?_
        refine lv_iload_n hx hb dX1_add_56 rfl (lv_at hl 3 rfl) ?_
        refine c_wVv (As := [.int (nI ki), .int (nI kj), .int v0]) (rest := []) C hw [9, 10, 11, 12] (met_adds l D d (n := P.length) (nI ki) (nI kj) v0 (by omega)) (by decide) rfl (fun _ => rfl) (cwV 3 C.1.2.2.2.2 (lw_V q120 q121 q122 q10 q123) rfl rfl rfl (by decide +kernel) ⟨Nat.le_of_ble_eq_true rfl, Nat.le_of_ble_eq_true rfl⟩) (va_recv C.2.1.1 hw.1 (ci := 2) (q0 := 9) rfl rfl) rfl hl.1 rfl (Nat.le_of_ble_eq_true rfl) dX1_add_57 ⟨Nat.le_of_ble_eq_true rfl, Nat.le_of_ble_eq_true rfl⟩ (fun u H locs _ hw => ?_)
        have hw : Wd D Z s.heap [cO o 0 [.int (nI cp), .ref (ad 1), .ref (ad 5), .ref (ad 9), .ref (ad 13), .ref (ad 17), .ref (ad 21), .ref (ad 22), .ref (ad 23), .ref (ad 24)], cO (ad 1) 1 [.ref (ad 2), .ref (ad 3), .ref (ad 4), .int (nI nr), .int (nI nc)], cA d (ad 2) 61 (F 2), cA d (ad 3) 1000 (F 3), cA d (ad 4) 1000 (F 4), cO (ad 5) 1 [.ref (ad 6), .ref (ad 7), .ref (ad 8), .int (sc 1), .int (sc 2)], cA d (ad 6) 61 (F 6), cA d (ad 7) 1000 (F 7), cA d (ad 8) 1000 (F 8), cO (ad 9) 2 [.ref (ad 10), .ref (ad 11), .ref (ad 12), .int (nI (P.length + 1))], cA d (ad 10) 2000 (upd (F 10) P.length (nI ki)), cA d (ad 11) 2000 (upd (F 11) P.length (nI kj)), cA d (ad 12) 2000 (upd (F 12) P.length v0), cO (ad 13) 2 [.ref (ad 14), .ref (ad 15), .ref (ad 16), .int (sc 3)], cA d (ad 14) 2000 (F 14), cA d (ad 15) 2000 (F 15), cA d (ad 16) 2000 (F 16), cO (ad 17) 2 [.ref (ad 18), .ref (ad 19), .ref (ad 20), .int (sc 4)], cA d (ad 18) 2000 (F 18), cA d (ad 19) 2000 (F 19), cA d (ad 20) 2000 (F 20), cA d (ad 21) 61 (F 21), cA d (ad 22) 60 (F 22), cA d (ad 23) 60 (F 23), cA d (ad 24) 60 (F 24)] H locs := hw
        refine lv_iconst (v := nI 1) hx hb dX1_add_60 (by decide) ?_
        refine mu_zret (v := nI 1) (Y := fun _ h => RSok D d Z o nr nc cp T (if inR (nI ki) nr ∧ inR (nI kj) nc ∧ P.length ≠ cp then P ++ [((nI ki).toNatClampNeg, (nI kj).toNatClampNeg, v0)] else P) x y h) C hw.2.2 rfl () (by rw [if_pos h9]; rfl) ?_ dX1_add_61
        rw [if_pos h9, nI_clamp (by omega), nI_clamp (by omega)]
        have hlen : (P ++ [(ki, kj, v0)]).length = P.length + 1 := by simp
        have hw1 := hw.1
        have hw2 := hw.2.1
        rw [← hlen] at hw1 hw2
        refine rs_mk hw1 hw2 ⟨⟨i1, i2, i3, i4, i5, i6⟩, hc, htot, by rw [hlen]; omega, hd_push hhd, fun e he => ?_, hxx, hyy⟩
        rcases List.mem_append.mp he with h | h
        · exact hpr e h
        · rw [List.mem_singleton.mp h]; exact ⟨hki, hkj⟩
      · have h9 : ¬ (inR i nr ∧ inR j nc ∧ P.length ≠ cp) := fun q => q.2.2 c3
        refine lv_iconst (v := nI 0) hx hb dX1_add_48 (by decide) ?_
        refine mu_zret (v := nI 0) (Y := fun _ h => RSok D d Z o nr nc cp T (if inR i nr ∧ inR j nc ∧ P.length ≠ cp then P ++ [(i.toNatClampNeg, j.toNatClampNeg, v0)] else P) x y h) C hw.2.2 rfl () (by rw [if_neg h9]; exact nI_0) ?_ dX1_add_49
        rw [if_neg h9]
        exact rs_mk hw.1 hw.2.1 hI
end
section
/-! RowSparse: turns, gathers, multiplyVector (walks printed by gen/rs2.py) -/
set_option maxRecDepth 100000
theorem w_perm {D : va_G} {A : Nat → Prop} {H0 H : Heap} {locs : List Loc} {ws ws2 : va_W} (hw : Wd D A H0 ws H locs) (is : List Nat) (hn : va_nd is = true) (hC : is.map (fun i => ws[i]?) = ws2.map some) : Wd D A H0 ws2 H locs := ⟨(w_cut hw is hn hC).1, hw.2.1.sub is hn hC, hw.2.2⟩
set_option maxHeartbeats 4000000 in
set_option maxRecDepth 100000 in
/-- turns(): the other matrix is the one now -/
theorem met_X1_turns (l : Launch) (D : va_G) (d : ClassId) {o n1 n2 sa ca va kr : Nat} {kc : Int32} {w0 w3 w4 w5 w6 w7 w8 w9 : Value} {st : Nat → Int32} (hkr : kr ≤ 60) : Met l yX1_turns (ws_ yX1_turns cX1_turns 2 (some .int)) ({ frames := 1, cells := 0, slots := 0, locals := 20 } : Room) (pc_ [.ref o] D d (xw D [cO o 0 [w0, .ref n1, .ref n2, w3, w4, w5, w6, w7, w8, w9], cO n2 1 [.ref sa, .ref ca, .ref va, .int (nI kr), .int kc], cA d sa 61 st])) (va_Qi (fun v (_ : Unit) => v = st kr) (fun (_ : Unit) t9 => va_P D vwCl [cO o 0 [w0, .ref n2, .ref n1, w3, w4, w5, w6, w7, w8, w9], cO n2 1 [.ref sa, .ref ca, .ref va, .int (nI kr), .int kc], cA d sa 61 st] t9.heap) (zs [cO o 0 [w0, .ref n1, .ref n2, w3, w4, w5, w6, w7, w8, w9], cO n2 1 [.ref sa, .ref ca, .ref va, .int (nI kr), .int kc], cA d sa 61 st])) 0 0 (zs [cO o 0 [w0, .ref n1, .ref n2, w3, w4, w5, w6, w7, w8, w9], cO n2 1 [.ref sa, .ref ca, .ref va, .int (nI kr), .int kc], cA d sa 61 st]) := by
  refine mt_ofW (own := RX1) rfl (by decide) (Nat.le_of_ble_eq_true rfl) (fun p e s m below meth c C hnm hX ls hl => ?_)
  obtain ⟨hx, hb, -⟩ := C.1
  have hl : lv_has ls 2 [(0, .ref o)] := hl
  have hw : Wd D (zs [cO o 0 [w0, .ref n1, .ref n2, w3, w4, w5, w6, w7, w8, w9], cO n2 1 [.ref sa, .ref ca, .ref va, .int (nI kr), .int kc], cA d sa 61 st]) s.heap [cO o 0 [w0, .ref n1, .ref n2, w3, w4, w5, w6, w7, w8, w9], cO n2 1 [.ref sa, .ref ca, .ref va, .int (nI kr), .int kc], cA d sa 61 st] s.heap [] := ⟨hX.1, zs_self hX.2, va_S.rf⟩
  generalize zs [cO o 0 [w0, .ref n1, .ref n2, w3, w4, w5, w6, w7, w8, w9], cO n2 1 [.ref sa, .ref ca, .ref va, .int (nI kr), .int kc], cA d sa 61 st] = A at hw ⊢
  refine lv_aload_n hx hb dX1_turns_0 rfl (lv_at hl 0 rfl) ?_
  refine g_X1_12 C hw 0 rfl rfl dX1_turns_1 ?_
  refine lv_astore_n (lv' := [(1, .ref n1), (0, .ref o)]) hx hb dX1_turns_4 rfl hl (by decide) rfl (fun ls hl => ?_)
  refine lv_aload_n hx hb dX1_turns_5 rfl (lv_at hl 1 rfl) ?_
  refine lv_aload_n hx hb dX1_turns_6 rfl (lv_at hl 1 rfl) ?_
  refine g_X1_16 C hw 0 rfl rfl dX1_turns_7 ?_
  refine p_X1_12 C hw 0 rfl (Nat.le_of_ble_eq_true rfl) dX1_turns_10 (fun H locs hw => ?_)
  have hw : Wd D A s.heap [cO o 0 [w0, .ref n2, .ref n2, w3, w4, w5, w6, w7, w8, w9], cO n2 1 [.ref sa, .ref ca, .ref va, .int (nI kr), .int kc], cA d sa 61 st] H locs := hw
  refine lv_aload_n hx hb dX1_turns_13 rfl (lv_at hl 1 rfl) ?_
  refine lv_aload_n hx hb dX1_turns_14 rfl (lv_at hl 0 rfl) ?_
  refine p_X1_16 C hw 0 rfl (Nat.le_of_ble_eq_true rfl) dX1_turns_15 (fun H locs hw => ?_)
  have hw : Wd D A s.heap [cO o 0 [w0, .ref n2, .ref n1, w3, w4, w5, w6, w7, w8, w9], cO n2 1 [.ref sa, .ref ca, .ref va, .int (nI kr), .int kc], cA d sa 61 st] H locs := hw
  refine lv_aload_n hx hb dX1_turns_18 rfl (lv_at hl 1 rfl) ?_
  refine g_X1_12 C hw 0 rfl rfl dX1_turns_19 ?_
  refine c_rdV (As := []) (rest := []) C (met_size l D d hkr) (cwV 0 C.1.2.2.2.2 (lw_V q144 q145 q146 q9 q147) rfl rfl rfl (by decide +kernel) ⟨Nat.le_of_ble_eq_true rfl, Nat.le_of_ble_eq_true rfl⟩) (va_recv C.2.1.1 hw.1 (ci := 1) (q0 := 1) rfl rfl) (w_cut hw [1, 2] (by decide) rfl) rfl hl.1 rfl (Nat.le_of_ble_eq_true rfl) dX1_turns_22 ⟨Nat.le_of_ble_eq_true rfl, Nat.le_of_ble_eq_true rfl⟩ (fun r hr => ?_)
  subst hr
  exact mu_iret (Y := fun _ h => va_P D vwCl [cO o 0 [w0, .ref n2, .ref n1, w3, w4, w5, w6, w7, w8, w9], cO n2 1 [.ref sa, .ref ca, .ref va, .int (nI kr), .int kc], cA d sa 61 st] h) C hw.2.2 () rfl hw.1 dX1_turns_25

theorem ga_z {T : Nat → Nat → Int32} {su : Nat → Int32} {nc i k j : Nat} (hz : T k j = 0) (h : ∀ b, b < nc → su b = dot_ T (fun q => T q b) i k + (if b < j then T i k * T k b else 0)) : ∀ b, b < nc → su b = dot_ T (fun q => T q b) i k + (if b < j + 1 then T i k * T k b else 0) := by
  intro b hb
  rw [h b hb]
  by_cases q : b < j
  · rw [if_pos q, if_pos (by omega)]
  · rw [if_neg q]
    by_cases q2 : b < j + 1
    · have : b = j := by omega
      rw [if_pos q2, this, hz]; grind
    · rw [if_neg q2]
theorem ga_s {T : Nat → Nat → Int32} {su : Nat → Int32} {nc i k j : Nat} (hj : j < nc) (h : ∀ b, b < nc → su b = dot_ T (fun q => T q b) i k + (if b < j then T i k * T k b else 0)) : ∀ b, b < nc → upd su j (su j + T i k * T k j) b = dot_ T (fun q => T q b) i k + (if b < j + 1 then T i k * T k b else 0) := by
  intro b hb
  by_cases q : b = j
  · subst q
    rw [pk_us, h b hb, if_neg (by omega), if_pos (by omega)]; grind
  · rw [pk_un q, h b hb]
    by_cases q2 : b < j
    · rw [if_pos q2, if_pos (by omega)]
    · rw [if_neg q2, if_neg (by omega)]
theorem ga_e {T : Nat → Nat → Int32} {su : Nat → Int32} {nc i k : Nat} (h : ∀ b, b < nc → su b = dot_ T (fun q => T q b) i k + (if b < nc then T i k * T k b else 0)) : ∀ b, b < nc → su b = dot_ T (fun q => T q b) i (k + 1) := by
  intro b hb
  rw [h b hb, if_pos hb]
  rfl
theorem ga_b {T : Nat → Nat → Int32} {su : Nat → Int32} {nc i k : Nat} (h : ∀ b, b < nc → su b = dot_ T (fun q => T q b) i k) : ∀ b, b < nc → su b = dot_ T (fun q => T q b) i k + (if b < 0 then T i k * T k b else 0) := by
  intro b hb
  rw [h b hb, if_neg (by omega)]; grind
section GA
variable {p : Program} {l : Launch} {e : Env} {R : Room} {s : State} {m : MethodId} {args : Array Value} {below : List Frame} {meth : Method} {c : Code} {Q : State → Prop}
variable {D : va_G} {d : ClassId} {A : Nat → Prop} {H0 : Heap} {ret : Option FieldType}
set_option maxHeartbeats 4000000 in
set_option maxRecDepth 100000 in
theorem lp_ga1 {o n1 sa ca va sm nr nc i : Nat} {w0 w2 w3 w4 w5 w6 w7 w8 : Value} {st co vv : Nat → Int32} {T : Nat → Nat → Int32} (C : Cx p s m args meth c cX1_gathers 5 RX1 ret D d) (hnc : nc ≤ 60) (K : ∀ (su : Nat → Int32) (H : Heap) (locs : List Loc) (ls : Array Slot), (∀ b, b < nc → su b = 0) → Wd D A H0 [cO o 0 [w0, .ref n1, w2, w3, w4, w5, w6, w7, w8, .ref sm], cO n1 1 [.ref sa, .ref ca, .ref va, .int (nI nr), .int (nI nc)], cA d sa 61 st, cA d ca 1000 co, cA d va 1000 vv, cA d sm 60 su] H locs → lv_has ls 5 [(0, .ref o), (1, .int (nI i))] → W p l e R s m args below meth c H locs 0 0 Q (F0 m 26 ls [])) :
    ∀ (n j : Nat) (su : Nat → Int32) (H : Heap) (locs : List Loc) (ls : Array Slot), j ≤ nc → nc < j + n → (∀ b, b < j → su b = 0) → Wd D A H0 [cO o 0 [w0, .ref n1, w2, w3, w4, w5, w6, w7, w8, .ref sm], cO n1 1 [.ref sa, .ref ca, .ref va, .int (nI nr), .int (nI nc)], cA d sa 61 st, cA d ca 1000 co, cA d va 1000 vv, cA d sm 60 su] H locs → lv_has ls 5 [(0, .ref o), (1, .int (nI i)), (2, .int (nI j))] → W p l e R s m args below meth c H locs 0 0 Q (F0 m 2 ls []) := by
  obtain ⟨hx, hb, -⟩ := C.1
  intro n
  induction n with
  | zero => intro j su H locs ls h1 h2; omega
  | succ n ih =>
    intro j su H locs ls h1 h2 h3 hw hl
    refine lv_iload_n hx hb dX1_gathers_2 rfl (lv_at hl 2 rfl) ?_
    refine lv_aload_n hx hb dX1_gathers_3 rfl (lv_at hl 0 rfl) ?_
    refine g_X1_12 C hw 0 rfl rfl dX1_gathers_4 ?_
    refine g_X1_69 C hw 1 rfl rfl dX1_gathers_7 ?_
    refine w_icmp_ge C (tgt := 26) (by omega) (by omega) dX1_gathers_10 (by decide) (fun c1 => ?_) (fun c1 => ?_)
    · exact K su H locs ls (fun b hb => h3 b (by omega)) hw (lv_sub hl [0, 1] rfl)
    · refine lv_aload_n hx hb dX1_gathers_13 rfl (lv_at hl 0 rfl) ?_
      refine g_X1_42 C hw 0 rfl rfl dX1_gathers_14 ?_
      refine lv_iload_n hx hb dX1_gathers_17 rfl (lv_at hl 2 rfl) ?_
      refine lv_iconst (v := nI 0) hx hb dX1_gathers_18 (by decide) ?_
      refine w_iast C hw 5 rfl (by omega) dX1_gathers_19 (fun H locs hw => ?_)
      have hw : Wd D A H0 [cO o 0 [w0, .ref n1, w2, w3, w4, w5, w6, w7, w8, .ref sm], cO n1 1 [.ref sa, .ref ca, .ref va, .int (nI nr), .int (nI nc)], cA d sa 61 st, cA d ca 1000 co, cA d va 1000 vv, cA d sm 60 (upd su j (nI 0))] H locs := hw
      refine lv_iinc (v := nI (j + 1)) (lv' := [(2, .int (nI (j + 1))), (0, .ref o), (1, .int (nI i))]) hx hb dX1_gathers_20 hl (k := 2) rfl (nI_1 _) (by decide) rfl (fun ls hl => ?_)
      refine lv_goto (tgt := 2) hx hb dX1_gathers_23 (by decide) ?_
      exact ih (j + 1) _ H locs ls (by omega) (by omega) (al_s nI_0 h3) hw (lv_sub hl [1, 2, 0] rfl)

set_option maxHeartbeats 4000000 in
set_option maxRecDepth 100000 in
theorem lp_ga3 {o n1 sa ca va sm nr nc i : Nat} {w0 w2 w3 w4 w5 w6 w7 w8 : Value} {st co vv : Nat → Int32} {T : Nat → Nat → Int32} {k : Nat} (C : Cx p s m args meth c cX1_gathers 5 RX1 ret D d) (hc : Csr st co vv nr nc T) (hi : i < nr) (hnr : nr ≤ 60) (hnc : nc ≤ 60) (hsq : nr = nc) (htot : of_ T nc nr ≤ 1000) (hk : k < nc) (hzk : T i k ≠ 0) (K : ∀ (su : Nat → Int32) (H : Heap) (locs : List Loc) (ls : Array Slot), (∀ b, b < nc → su b = dot_ T (fun q => T q b) i (k + 1)) → Wd D A H0 [cO o 0 [w0, .ref n1, w2, w3, w4, w5, w6, w7, w8, .ref sm], cO n1 1 [.ref sa, .ref ca, .ref va, .int (nI nr), .int (nI nc)], cA d sa 61 st, cA d ca 1000 co, cA d va 1000 vv, cA d sm 60 su] H locs → lv_has ls 5 [(0, .ref o), (1, .int (nI i)), (2, .int (nI (of_ T nc i + rk_ T i k))), (3, .int (nI k))] → W p l e R s m args below meth c H locs 0 0 Q (F0 m 132 ls [])) :
    ∀ (n j : Nat) (su : Nat → Int32) (H : Heap) (locs : List Loc) (ls : Array Slot), j ≤ nc → nc < j + n → (∀ b, b < nc → su b = dot_ T (fun q => T q b) i k + (if b < j then T i k * T k b else 0)) → Wd D A H0 [cO o 0 [w0, .ref n1, w2, w3, w4, w5, w6, w7, w8, .ref sm], cO n1 1 [.ref sa, .ref ca, .ref va, .int (nI nr), .int (nI nc)], cA d sa 61 st, cA d ca 1000 co, cA d va 1000 vv, cA d sm 60 su] H locs → lv_has ls 5 [(0, .ref o), (1, .int (nI i)), (2, .int (nI (of_ T nc i + rk_ T i k))), (3, .int (nI k)), (4, .int (nI (of_ T nc k + rk_ T k j)))] → W p l e R s m args below meth c H locs 0 0 Q (F0 m 72 ls []) := by
  obtain ⟨hx, hb, -⟩ := C.1
  have hpk := pos_lt hi hk hzk
  have hro : of_ T nc (k + 1) ≤ of_ T nc nr := of_mono (by omega)
  intro n
  induction n with
  | zero => intro j su H locs ls h1 h2; omega
  | succ n ih =>
    intro j su H locs ls h1 h2 h3 hw hl
    by_cases hj : j = nc
    · have h9 : of_ T nc (k + 1) = of_ T nc k + rk_ T k j := by rw [hj]; rfl
      refine lv_iload hx hb dX1_gathers_72 (lv_at hl 4 rfl) ?_
      refine lv_aload_n hx hb dX1_gathers_74 rfl (lv_at hl 0 rfl) ?_
      refine g_X1_12 C hw 0 rfl rfl dX1_gathers_75 ?_
      refine g_X1_82 C hw 1 rfl rfl dX1_gathers_78 ?_
      refine lv_iload_n hx hb dX1_gathers_81 rfl (lv_at hl 3 rfl) ?_
      refine lv_iconst (v := nI 1) hx hb dX1_gathers_82 (by decide) ?_
      refine w_iadd C dX1_gathers_83 ?_
      refine w_iald C hw 2 rfl (by omega) dX1_gathers_84 ?_
      refine w_top (y := nI (of_ T nc (k + 1))) (hc.1 (k + 1) (by omega)) ?_
      refine w_icmp_ge C (tgt := 132) (by omega) (by omega) dX1_gathers_85 (by decide) (fun c1 => ?_) (fun c1 => ?_)
      · rw [hj] at h3
        exact K su H locs ls (ga_e h3) hw (lv_sub hl [0, 1, 2, 3] rfl)
      · omega
    · by_cases hz : T k j = 0
      · exact ih (j + 1) su H locs ls (by omega) (by omega) (ga_z hz h3) hw (by rw [rk_z hz]; exact hl)
      · have h9 := pos_row (T := T) (c := nc) (i := k) (j := j) (by omega) hz
        refine lv_iload hx hb dX1_gathers_72 (lv_at hl 4 rfl) ?_
        refine lv_aload_n hx hb dX1_gathers_74 rfl (lv_at hl 0 rfl) ?_
        refine g_X1_12 C hw 0 rfl rfl dX1_gathers_75 ?_
        refine g_X1_82 C hw 1 rfl rfl dX1_gathers_78 ?_
        refine lv_iload_n hx hb dX1_gathers_81 rfl (lv_at hl 3 rfl) ?_
        refine lv_iconst (v := nI 1) hx hb dX1_gathers_82 (by decide) ?_
        refine w_iadd C dX1_gathers_83 ?_
        refine w_iald C hw 2 rfl (by omega) dX1_gathers_84 ?_
        refine w_top (y := nI (of_ T nc (k + 1))) (hc.1 (k + 1) (by omega)) ?_
        refine w_icmp_ge C (tgt := 132) (by omega) (by omega) dX1_gathers_85 (by decide) (fun c1 => ?_) (fun c1 => ?_)
        · omega
        · refine lv_aload_n hx hb dX1_gathers_88 rfl (lv_at hl 0 rfl) ?_
          refine g_X1_42 C hw 0 rfl rfl dX1_gathers_89 ?_
          refine lv_aload_n hx hb dX1_gathers_92 rfl (lv_at hl 0 rfl) ?_
          refine g_X1_12 C hw 0 rfl rfl dX1_gathers_93 ?_
          refine g_X1_85 C hw 1 rfl rfl dX1_gathers_96 ?_
          refine lv_iload hx hb dX1_gathers_99 (lv_at hl 4 rfl) ?_
          refine w_iald C hw 3 rfl (by omega) dX1_gathers_101 ?_
          refine w_top (y := nI j) ((hc.2 k j (by omega) (by omega) hz).1) ?_
          refine lv_dup2_11 hx hb dX1_gathers_102 rfl rfl ?_
          refine w_iald C hw 5 rfl (by omega) dX1_gathers_103 ?_
          refine lv_aload_n hx hb dX1_gathers_104 rfl (lv_at hl 0 rfl) ?_
          refine g_X1_12 C hw 0 rfl rfl dX1_gathers_105 ?_
          refine g_X1_88 C hw 1 rfl rfl dX1_gathers_108 ?_
          refine lv_iload_n hx hb dX1_gathers_111 rfl (lv_at hl 2 rfl) ?_
          refine w_iald C hw 4 rfl (by omega) dX1_gathers_112 ?_
          refine w_top (y := T i k) ((hc.2 i k hi hk hzk).2) ?_
          refine lv_aload_n hx hb dX1_gathers_113 rfl (lv_at hl 0 rfl) ?_
          refine g_X1_12 C hw 0 rfl rfl dX1_gathers_114 ?_
          refine g_X1_88 C hw 1 rfl rfl dX1_gathers_117 ?_
          refine lv_iload hx hb dX1_gathers_120 (lv_at hl 4 rfl) ?_
          refine w_iald C hw 4 rfl (by omega) dX1_gathers_122 ?_
          refine w_top (y := T k j) ((hc.2 k j (by omega) (by omega) hz).2) ?_
          refine lv_imul hx hb dX1_gathers_123 ?_
          refine lv_iadd hx hb dX1_gathers_124 ?_
          refine w_iast C hw 5 rfl (by omega) dX1_gathers_125 (fun H locs hw => ?_)
          have hw : Wd D A H0 [cO o 0 [w0, .ref n1, w2, w3, w4, w5, w6, w7, w8, .ref sm], cO n1 1 [.ref sa, .ref ca, .ref va, .int (nI nr), .int (nI nc)], cA d sa 61 st, cA d ca 1000 co, cA d va 1000 vv, cA d sm 60 (upd su j ((su j) + ((T i k) * (T k j))))] H locs := hw
          refine lv_iinc (v := nI (of_ T nc k + rk_ T k j + 1)) (lv' := [(4, .int (nI (of_ T nc k + rk_ T k j + 1))), (0, .ref o), (1, .int (nI i)), (2, .int (nI (of_ T nc i + rk_ T i k))), (3, .int (nI k))]) hx hb dX1_gathers_126 hl (k := 4) rfl (nI_1 _) (by decide) rfl (fun ls hl => ?_)
          refine lv_goto (tgt := 72) hx hb dX1_gathers_129 (by decide) ?_
          exact ih (j + 1) _ H locs ls (by omega) (by omega) (ga_s (by omega) h3) hw (by rw [rk_s hz]; exact (lv_sub hl [1, 2, 3, 4, 0] rfl))

set_option maxHeartbeats 4000000 in
set_option maxRecDepth 100000 in
theorem lp_ga2 {o n1 sa ca va sm nr nc i : Nat} {w0 w2 w3 w4 w5 w6 w7 w8 : Value} {st co vv : Nat → Int32} {T : Nat → Nat → Int32} (C : Cx p s m args meth c cX1_gathers 5 RX1 ret D d) (hc : Csr st co vv nr nc T) (hi : i < nr) (hnr : nr ≤ 60) (hnc : nc ≤ 60) (hsq : nr = nc) (htot : of_ T nc nr ≤ 1000) (K : ∀ (su : Nat → Int32) (H : Heap) (locs : List Loc) (ls : Array Slot), (∀ b, b < nc → su b = dot_ T (fun q => T q b) i nc) → Wd D A H0 [cO o 0 [w0, .ref n1, w2, w3, w4, w5, w6, w7, w8, .ref sm], cO n1 1 [.ref sa, .ref ca, .ref va, .int (nI nr), .int (nI nc)], cA d sa 61 st, cA d ca 1000 co, cA d va 1000 vv, cA d sm 60 su] H locs → W p l e R s m args below meth c H locs 0 0 Q (F0 m 138 ls [])) :
    ∀ (n k : Nat) (su : Nat → Int32) (H : Heap) (locs : List Loc) (ls : Array Slot), k ≤ nc → nc < k + n → (∀ b, b < nc → su b = dot_ T (fun q => T q b) i k) → Wd D A H0 [cO o 0 [w0, .ref n1, w2, w3, w4, w5, w6, w7, w8, .ref sm], cO n1 1 [.ref sa, .ref ca, .ref va, .int (nI nr), .int (nI nc)], cA d sa 61 st, cA d ca 1000 co, cA d va 1000 vv, cA d sm 60 su] H locs → lv_has ls 5 [(0, .ref o), (1, .int (nI i)), (2, .int (nI (of_ T nc i + rk_ T i k)))] → W p l e R s m args below meth c H locs 0 0 Q (F0 m 36 ls []) := by
  obtain ⟨hx, hb, -⟩ := C.1
  have hro : of_ T nc (i + 1) ≤ of_ T nc nr := of_mono hi
  intro n
  induction n with
  | zero => intro k su H locs ls h1 h2; omega
  | succ n ih =>
    intro k su H locs ls h1 h2 h3 hw hl
    by_cases hk : k = nc
    · have h9 : of_ T nc (i + 1) = of_ T nc i + rk_ T i k := by rw [hk]; rfl
      refine lv_iload_n hx hb dX1_gathers_36 rfl (lv_at hl 2 rfl) ?_
      refine lv_aload_n hx hb dX1_gathers_37 rfl (lv_at hl 0 rfl) ?_
      refine g_X1_12 C hw 0 rfl rfl dX1_gathers_38 ?_
      refine g_X1_82 C hw 1 rfl rfl dX1_gathers_41 ?_
      refine lv_iload_n hx hb dX1_gathers_44 rfl (lv_at hl 1 rfl) ?_
      refine lv_iconst (v := nI 1) hx hb dX1_gathers_45 (by decide) ?_
      refine w_iadd C dX1_gathers_46 ?_
      refine w_iald C hw 2 rfl (by omega) dX1_gathers_47 ?_
      refine w_top (y := nI (of_ T nc (i + 1))) (hc.1 (i + 1) (by omega)) ?_
      refine w_icmp_ge C (tgt := 138) (by omega) (by omega) dX1_gathers_48 (by decide) (fun c1 => ?_) (fun c1 => ?_)
      · rw [hk] at h3
        exact K su H locs ls h3 hw
      · omega
    · by_cases hz : T i k = 0
      · exact ih (k + 1) su H locs ls (by omega) (by omega) (fun q hq => by rw [h3 q hq, dot_z hz]) hw (by rw [rk_z hz]; exact hl)
      · have h9 := pos_row (T := T) (c := nc) (i := i) (j := k) (by omega) hz
        refine lv_iload_n hx hb dX1_gathers_36 rfl (lv_at hl 2 rfl) ?_
        refine lv_aload_n hx hb dX1_gathers_37 rfl (lv_at hl 0 rfl) ?_
        refine g_X1_12 C hw 0 rfl rfl dX1_gathers_38 ?_
        refine g_X1_82 C hw 1 rfl rfl dX1_gathers_41 ?_
        refine lv_iload_n hx hb dX1_gathers_44 rfl (lv_at hl 1 rfl) ?_
        refine lv_iconst (v := nI 1) hx hb dX1_gathers_45 (by decide) ?_
        refine w_iadd C dX1_gathers_46 ?_
        refine w_iald C hw 2 rfl (by omega) dX1_gathers_47 ?_
        refine w_top (y := nI (of_ T nc (i + 1))) (hc.1 (i + 1) (by omega)) ?_
        refine w_icmp_ge C (tgt := 138) (by omega) (by omega) dX1_gathers_48 (by decide) (fun c1 => ?_) (fun c1 => ?_)
        · omega
        · refine lv_aload_n hx hb dX1_gathers_51 rfl (lv_at hl 0 rfl) ?_
          refine g_X1_12 C hw 0 rfl rfl dX1_gathers_52 ?_
          refine g_X1_85 C hw 1 rfl rfl dX1_gathers_55 ?_
          refine lv_iload_n hx hb dX1_gathers_58 rfl (lv_at hl 2 rfl) ?_
          refine w_iald C hw 3 rfl (by omega) dX1_gathers_59 ?_
          refine w_top (y := nI k) ((hc.2 i k hi (by omega) hz).1) ?_
          refine lv_istore_n (lv' := [(3, .int (nI k)), (0, .ref o), (1, .int (nI i)), (2, .int (nI (of_ T nc i + rk_ T i k)))]) hx hb dX1_gathers_60 rfl hl (by decide) rfl (fun ls hl => ?_)
          refine lv_aload_n hx hb dX1_gathers_61 rfl (lv_at hl 1 rfl) ?_
          refine g_X1_12 C hw 0 rfl rfl dX1_gathers_62 ?_
          refine g_X1_82 C hw 1 rfl rfl dX1_gathers_65 ?_
          refine lv_iload_n hx hb dX1_gathers_68 rfl (lv_at hl 0 rfl) ?_
          refine w_iald C hw 2 rfl (by omega) dX1_gathers_69 ?_
          refine w_top (y := nI (of_ T nc k)) (hc.1 k (by omega)) ?_
          refine lv_istore (lv' := [(4, .int (nI (of_ T nc k))), (3, .int (nI k)), (0, .ref o), (1, .int (nI i)), (2, .int (nI (of_ T nc i + rk_ T i k)))]) hx hb dX1_gathers_70 hl (by decide) rfl (fun ls hl => ?_)
          refine lp_ga3 C hc hi hnr hnc hsq htot (by omega) hz (fun su H locs ls h5 hw hl => ?_) (nc + 1) 0 su H locs ls (by omega) (by omega) (ga_b h3) hw (lv_sub hl [2, 3, 4, 1, 0] rfl)
          refine lv_iinc (v := nI (of_ T nc i + rk_ T i k + 1)) (lv' := [(2, .int (nI (of_ T nc i + rk_ T i k + 1))), (0, .ref o), (1, .int (nI i)), (3, .int (nI k))]) hx hb dX1_gathers_132 hl (k := 2) rfl (nI_1 _) (by decide) rfl (fun ls hl => ?_)
          refine lv_goto (tgt := 36) hx hb dX1_gathers_135 (by decide) ?_
          exact ih (k + 1) su H locs ls (by omega) (by omega) h5 hw (by rw [rk_s hz]; exact (lv_sub hl [1, 2, 0] rfl))
end GA
set_option maxHeartbeats 4000000 in
set_option maxRecDepth 100000 in
/-- gathers(i): the i-th row of the product -/
theorem met_gathers (l : Launch) (D : va_G) (d : ClassId) {o n1 sa ca va sm nr nc i : Nat} {w0 w2 w3 w4 w5 w6 w7 w8 : Value} {st co vv : Nat → Int32} {T : Nat → Nat → Int32} {su : Nat → Int32} (hc : Csr st co vv nr nc T) (hi : i < nr) (hnr : nr ≤ 60) (hnc : nc ≤ 60) (hsq : nr = nc) (htot : of_ T nc nr ≤ 1000) : Met l yX1_gathers (ws_ yX1_gathers cX1_gathers 5 none) ({ frames := 0, cells := 0, slots := 0, locals := 0 } : Room) (pc_ [.ref o, .int (nI i)] D d (xw D [cO o 0 [w0, .ref n1, w2, w3, w4, w5, w6, w7, w8, .ref sm], cO n1 1 [.ref sa, .ref ca, .ref va, .int (nI nr), .int (nI nc)], cA d sa 61 st, cA d ca 1000 co, cA d va 1000 vv, cA d sm 60 su])) (va_Qv (fun (f : Nat → Int32) => ∀ b, b < nc → f b = dot_ T (fun q => T q b) i nc) (fun (f : Nat → Int32) t9 => va_P D vwCl [cO o 0 [w0, .ref n1, w2, w3, w4, w5, w6, w7, w8, .ref sm], cO n1 1 [.ref sa, .ref ca, .ref va, .int (nI nr), .int (nI nc)], cA d sa 61 st, cA d ca 1000 co, cA d va 1000 vv, cA d sm 60 f] t9.heap) (zs [cO o 0 [w0, .ref n1, w2, w3, w4, w5, w6, w7, w8, .ref sm], cO n1 1 [.ref sa, .ref ca, .ref va, .int (nI nr), .int (nI nc)], cA d sa 61 st, cA d ca 1000 co, cA d va 1000 vv, cA d sm 60 su])) 0 0 (zs [cO o 0 [w0, .ref n1, w2, w3, w4, w5, w6, w7, w8, .ref sm], cO n1 1 [.ref sa, .ref ca, .ref va, .int (nI nr), .int (nI nc)], cA d sa 61 st, cA d ca 1000 co, cA d va 1000 vv, cA d sm 60 su]) := by
  refine mt_ofW (own := RX1) rfl (by decide) (Nat.le_of_ble_eq_true rfl) (fun p e s m below meth c C hnm hX ls hl => ?_)
  obtain ⟨hx, hb, -⟩ := C.1
  have hl : lv_has ls 5 [(0, .ref o), (1, .int (nI i))] := hl
  have hw : Wd D (zs [cO o 0 [w0, .ref n1, w2, w3, w4, w5, w6, w7, w8, .ref sm], cO n1 1 [.ref sa, .ref ca, .ref va, .int (nI nr), .int (nI nc)], cA d sa 61 st, cA d ca 1000 co, cA d va 1000 vv, cA d sm 60 su]) s.heap [cO o 0 [w0, .ref n1, w2, w3, w4, w5, w6, w7, w8, .ref sm], cO n1 1 [.ref sa, .ref ca, .ref va, .int (nI nr), .int (nI nc)], cA d sa 61 st, cA d ca 1000 co, cA d va 1000 vv, cA d sm 60 su] s.heap [] := ⟨hX.1, zs_self hX.2, va_S.rf⟩
  generalize zs [cO o 0 [w0, .ref n1, w2, w3, w4, w5, w6, w7, w8, .ref sm], cO n1 1 [.ref sa, .ref ca, .ref va, .int (nI nr), .int (nI nc)], cA d sa 61 st, cA d ca 1000 co, cA d va 1000 vv, cA d sm 60 su] = A at hw ⊢
  refine lv_iconst (v := nI 0) hx hb dX1_gathers_0 (by decide) ?_
  refine lv_istore_n (lv' := [(2, .int (nI 0)), (0, .ref o), (1, .int (nI i))]) hx hb dX1_gathers_1 rfl hl (by decide) rfl (fun ls hl => ?_)
  refine lp_ga1 (T := T) C hnc (fun su H locs ls h5 hw hl => ?_) (nc + 1) 0 su _ _ ls (by omega) (by omega) (fun b hb => by omega) hw (lv_sub hl [1, 2, 0] rfl)
  refine lv_aload_n hx hb dX1_gathers_26 rfl (lv_at hl 0 rfl) ?_
  refine g_X1_12 C hw 0 rfl rfl dX1_gathers_27 ?_
  refine g_X1_82 C hw 1 rfl rfl dX1_gathers_30 ?_
  refine lv_iload_n hx hb dX1_gathers_33 rfl (lv_at hl 1 rfl) ?_
  refine w_iald C hw 2 rfl (by omega) dX1_gathers_34 ?_
  refine w_top (y := nI (of_ T nc i)) (hc.1 i (by omega)) ?_
  refine lv_istore_n (lv' := [(2, .int (nI (of_ T nc i))), (0, .ref o), (1, .int (nI i))]) hx hb dX1_gathers_35 rfl hl (by decide) rfl (fun ls hl => ?_)
  exact lp_ga2 C hc hi hnr hnc hsq htot (fun f H locs ls h6 hw => mu_vret (Y := fun f h => va_P D vwCl [cO o 0 [w0, .ref n1, w2, w3, w4, w5, w6, w7, w8, .ref sm], cO n1 1 [.ref sa, .ref ca, .ref va, .int (nI nr), .int (nI nc)], cA d sa 61 st, cA d ca 1000 co, cA d va 1000 vv, cA d sm 60 f] h) C hw.2.2 f h6 hw.1 dX1_gathers_138) (nc + 1) 0 su H locs ls (by omega) (by omega) (fun b hb => h5 b hb) hw (lv_sub hl [1, 2, 0] rfl)

section MV
variable {p : Program} {l : Launch} {e : Env} {R : Room} {s : State} {m : MethodId} {args : Array Value} {below : List Frame} {meth : Method} {c : Code} {Q : State → Prop}
variable {D : va_G} {d : ClassId} {A : Nat → Prop} {H0 : Heap} {ret : Option FieldType}
set_option maxHeartbeats 4000000 in
set_option maxRecDepth 100000 in
theorem lp_mv1 {o nr nc cp : Nat} {T : Nat → Nat → Int32} {P : List Tr} {x y : Nat → Int32} {ad : Nat → Nat} {sc : Nat → Int32} {F : Nat → Nat → Int32} {i : Nat} {yv : Nat → Int32} {H : Heap} {locs : List Loc} (C : Cx p s m args meth c cX1_multiplyVector 4 RX1 ret D d) (hc : Csr (F 2) (F 3) (F 4) nr nc T) (hi : i < nr) (hnr : nr ≤ 60) (hnc : nc ≤ 60) (htot : of_ T nc nr ≤ 1000) (hxx : ∀ k, k < 60 → F 22 k = x k) (hw : Wd D A H0 [cO o 0 [.int (nI cp), .ref (ad 1), .ref (ad 5), .ref (ad 9), .ref (ad 13), .ref (ad 17), .ref (ad 21), .ref (ad 22), .ref (ad 23), .ref (ad 24)], cO (ad 1) 1 [.ref (ad 2), .ref (ad 3), .ref (ad 4), .int (nI nr), .int (nI nc)], cA d (ad 2) 61 (F 2), cA d (ad 3) 1000 (F 3), cA d (ad 4) 1000 (F 4), cO (ad 5) 1 [.ref (ad 6), .ref (ad 7), .ref (ad 8), .int (sc 1), .int (sc 2)], cA d (ad 6) 61 (F 6), cA d (ad 7) 1000 (F 7), cA d (ad 8) 1000 (F 8), cO (ad 9) 2 [.ref (ad 10), .ref (ad 11), .ref (ad 12), .int (nI P.length)], cA d (ad 10) 2000 (F 10), cA d (ad 11) 2000 (F 11), cA d (ad 12) 2000 (F 12), cO (ad 13) 2 [.ref (ad 14), .ref (ad 15), .ref (ad 16), .int (sc 3)], cA d (ad 14) 2000 (F 14), cA d (ad 15) 2000 (F 15), cA d (ad 16) 2000 (F 16), cO (ad 17) 2 [.ref (ad 18), .ref (ad 19), .ref (ad 20), .int (sc 4)], cA d (ad 18) 2000 (F 18), cA d (ad 19) 2000 (F 19), cA d (ad 20) 2000 (F 20), cA d (ad 21) 61 (F 21), cA d (ad 22) 60 (F 22), cA d (ad 23) 60 yv, cA d (ad 24) 60 (F 24)] H locs) (K : ∀ (ls : Array Slot), lv_has ls 4 [(0, .ref o), (1, .int (nI i)), (2, .int (dot_ T x i nc))] → W p l e R s m args below meth c H locs 0 0 Q (F0 m 73 ls [])) :
    ∀ (n j : Nat) (ls : Array Slot), j ≤ nc → nc < j + n → lv_has ls 4 [(0, .ref o), (1, .int (nI i)), (2, .int (dot_ T x i j)), (3, .int (nI (of_ T nc i + rk_ T i j)))] → W p l e R s m args below meth c H locs 0 0 Q (F0 m 25 ls []) := by
  obtain ⟨hx, hb, -⟩ := C.1
  have hro : of_ T nc (i + 1) ≤ of_ T nc nr := of_mono hi
  intro n
  induction n with
  | zero => intro j ls h1 h2; omega
  | succ n ih =>
    intro j ls h1 h2 hl
    by_cases hj : j = nc
    · have h9 : of_ T nc (i + 1) = of_ T nc i + rk_ T i j := by rw [hj]; rfl
      refine lv_iload_n hx hb dX1_multiplyVector_25 rfl (lv_at hl 3 rfl) ?_
      refine lv_aload_n hx hb dX1_multiplyVector_26 rfl (lv_at hl 0 rfl) ?_
      refine g_X1_12 C hw 0 rfl rfl dX1_multiplyVector_27 ?_
      refine g_X1_82 C hw 1 rfl rfl dX1_multiplyVector_30 ?_
      refine lv_iload_n hx hb dX1_multiplyVector_33 rfl (lv_at hl 1 rfl) ?_
      refine lv_iconst (v := nI 1) hx hb dX1_multiplyVector_34 (by decide) ?_
      refine w_iadd C dX1_multiplyVector_35 ?_
      refine w_iald C hw 2 rfl (by omega) dX1_multiplyVector_36 ?_
      refine w_top (y := nI (of_ T nc (i + 1))) (hc.1 (i + 1) (by omega)) ?_
      refine w_icmp_ge C (tgt := 73) (by omega) (by omega) dX1_multiplyVector_37 (by decide) (fun c1 => ?_) (fun c1 => ?_)
      · rw [hj] at hl
        exact K ls (lv_sub hl [0, 1, 2] rfl)
      · omega
    · by_cases hz : T i j = 0
      · exact ih (j + 1) ls (by omega) (by omega) (by rw [rk_z hz, dot_z hz]; exact hl)
      · have h9 := pos_row (T := T) (c := nc) (i := i) (j := j) (by omega) hz
        refine lv_iload_n hx hb dX1_multiplyVector_25 rfl (lv_at hl 3 rfl) ?_
        refine lv_aload_n hx hb dX1_multiplyVector_26 rfl (lv_at hl 0 rfl) ?_
        refine g_X1_12 C hw 0 rfl rfl dX1_multiplyVector_27 ?_
        refine g_X1_82 C hw 1 rfl rfl dX1_multiplyVector_30 ?_
        refine lv_iload_n hx hb dX1_multiplyVector_33 rfl (lv_at hl 1 rfl) ?_
        refine lv_iconst (v := nI 1) hx hb dX1_multiplyVector_34 (by decide) ?_
        refine w_iadd C dX1_multiplyVector_35 ?_
        refine w_iald C hw 2 rfl (by omega) dX1_multiplyVector_36 ?_
        refine w_top (y := nI (of_ T nc (i + 1))) (hc.1 (i + 1) (by omega)) ?_
        refine w_icmp_ge C (tgt := 73) (by omega) (by omega) dX1_multiplyVector_37 (by decide) (fun c1 => ?_) (fun c1 => ?_)
        · omega
        · refine lv_iload_n hx hb dX1_multiplyVector_40 rfl (lv_at hl 2 rfl) ?_
          refine lv_aload_n hx hb dX1_multiplyVector_41 rfl (lv_at hl 0 rfl) ?_
          refine g_X1_12 C hw 0 rfl rfl dX1_multiplyVector_42 ?_
          refine g_X1_88 C hw 1 rfl rfl dX1_multiplyVector_45 ?_
          refine lv_iload_n hx hb dX1_multiplyVector_48 rfl (lv_at hl 3 rfl) ?_
          refine w_iald C hw 4 rfl (by omega) dX1_multiplyVector_49 ?_
          refine w_top (y := T i j) ((hc.2 i j hi (by omega) hz).2) ?_
          refine lv_aload_n hx hb dX1_multiplyVector_50 rfl (lv_at hl 0 rfl) ?_
          refine g_X1_36 C hw 0 rfl rfl dX1_multiplyVector_51 ?_
          refine lv_aload_n hx hb dX1_multiplyVector_54 rfl (lv_at hl 0 rfl) ?_
          refine g_X1_12 C hw 0 rfl rfl dX1_multiplyVector_55 ?_
          refine g_X1_85 C hw 1 rfl rfl dX1_multiplyVector_58 ?_
          refine lv_iload_n hx hb dX1_multiplyVector_61 rfl (lv_at hl 3 rfl) ?_
          refine w_iald C hw 3 rfl (by omega) dX1_multiplyVector_62 ?_
          refine w_top (y := nI j) ((hc.2 i j hi (by omega) hz).1) ?_
          refine w_iald C hw 22 rfl (by omega) dX1_multiplyVector_63 ?_
          refine w_top (y := x j) (hxx j (by omega)) ?_
          refine lv_imul hx hb dX1_multiplyVector_64 ?_
          refine lv_iadd hx hb dX1_multiplyVector_65 ?_
          refine lv_istore_n (lv' := [(2, .int ((dot_ T x i j) + ((T i j) * (x j)))), (0, .ref o), (1, .int (nI i)), (3, .int (nI (of_ T nc i + rk_ T i j)))]) hx hb dX1_multiplyVector_66 rfl hl (by decide) rfl (fun ls hl => ?_)
          refine lv_iinc (v := nI (of_ T nc i + rk_ T i j + 1)) (lv' := [(3, .int (nI (of_ T nc i + rk_ T i j + 1))), (2, .int ((dot_ T x i j) + ((T i j) * (x j)))), (0, .ref o), (1, .int (nI i))]) hx hb dX1_multiplyVector_67 hl (k := 3) rfl (nI_1 _) (by decide) rfl (fun ls hl => ?_)
          refine lv_goto (tgt := 25) hx hb dX1_multiplyVector_70 (by decide) ?_
          exact ih (j + 1) ls (by omega) (by omega) (by rw [rk_s hz]; exact (lv_sub hl [2, 3, 1, 0] rfl))

set_option maxHeartbeats 4000000 in
set_option maxRecDepth 100000 in
theorem lp_mv2 {o nr nc cp : Nat} {T : Nat → Nat → Int32} {P : List Tr} {x y : Nat → Int32} {ad : Nat → Nat} {sc : Nat → Int32} {F : Nat → Nat → Int32} (C : Cx p s m args meth c cX1_multiplyVector 4 RX1 ret D d) (hc : Csr (F 2) (F 3) (F 4) nr nc T) (hnr : nr ≤ 60) (hnc : nc ≤ 60) (htot : of_ T nc nr ≤ 1000) (hxx : ∀ k, k < 60 → F 22 k = x k) (K : ∀ (yv : Nat → Int32) (H : Heap) (locs : List Loc) (ls : Array Slot), (∀ a, a < nr → yv a = dot_ T x a nc) → (∀ a, nr ≤ a → a < 60 → yv a = y a) → Wd D A H0 [cO o 0 [.int (nI cp), .ref (ad 1), .ref (ad 5), .ref (ad 9), .ref (ad 13), .ref (ad 17), .ref (ad 21), .ref (ad 22), .ref (ad 23), .ref (ad 24)], cO (ad 1) 1 [.ref (ad 2), .ref (ad 3), .ref (ad 4), .int (nI nr), .int (nI nc)], cA d (ad 2) 61 (F 2), cA d (ad 3) 1000 (F 3), cA d (ad 4) 1000 (F 4), cO (ad 5) 1 [.ref (ad 6), .ref (ad 7), .ref (ad 8), .int (sc 1), .int (sc 2)], cA d (ad 6) 61 (F 6), cA d (ad 7) 1000 (F 7), cA d (ad 8) 1000 (F 8), cO (ad 9) 2 [.ref (ad 10), .ref (ad 11), .ref (ad 12), .int (nI P.length)], cA d (ad 10) 2000 (F 10), cA d (ad 11) 2000 (F 11), cA d (ad 12) 2000 (F 12), cO (ad 13) 2 [.ref (ad 14), .ref (ad 15), .ref (ad 16), .int (sc 3)], cA d (ad 14) 2000 (F 14), cA d (ad 15) 2000 (F 15), cA d (ad 16) 2000 (F 16), cO (ad 17) 2 [.ref (ad 18), .ref (ad 19), .ref (ad 20), .int (sc 4)], cA d (ad 18) 2000 (F 18), cA d (ad 19) 2000 (F 19), cA d (ad 20) 2000 (F 20), cA d (ad 21) 61 (F 21), cA d (ad 22) 60 (F 22), cA d (ad 23) 60 yv, cA d (ad 24) 60 (F 24)] H locs → W p l e R s m args below meth c H locs 0 0 Q (F0 m 86 ls [])) :
    ∀ (n i : Nat) (yv : Nat → Int32) (H : Heap) (locs : List Loc) (ls : Array Slot), i ≤ nr → nr < i + n → (∀ a, a < i → yv a = dot_ T x a nc) → (∀ a, i ≤ a → a < 60 → yv a = y a) → Wd D A H0 [cO o 0 [.int (nI cp), .ref (ad 1), .ref (ad 5), .ref (ad 9), .ref (ad 13), .ref (ad 17), .ref (ad 21), .ref (ad 22), .ref (ad 23), .ref (ad 24)], cO (ad 1) 1 [.ref (ad 2), .ref (ad 3), .ref (ad 4), .int (nI nr), .int (nI nc)], cA d (ad 2) 61 (F 2), cA d (ad 3) 1000 (F 3), cA d (ad 4) 1000 (F 4), cO (ad 5) 1 [.ref (ad 6), .ref (ad 7), .ref (ad 8), .int (sc 1), .int (sc 2)], cA d (ad 6) 61 (F 6), cA d (ad 7) 1000 (F 7), cA d (ad 8) 1000 (F 8), cO (ad 9) 2 [.ref (ad 10), .ref (ad 11), .ref (ad 12), .int (nI P.length)], cA d (ad 10) 2000 (F 10), cA d (ad 11) 2000 (F 11), cA d (ad 12) 2000 (F 12), cO (ad 13) 2 [.ref (ad 14), .ref (ad 15), .ref (ad 16), .int (sc 3)], cA d (ad 14) 2000 (F 14), cA d (ad 15) 2000 (F 15), cA d (ad 16) 2000 (F 16), cO (ad 17) 2 [.ref (ad 18), .ref (ad 19), .ref (ad 20), .int (sc 4)], cA d (ad 18) 2000 (F 18), cA d (ad 19) 2000 (F 19), cA d (ad 20) 2000 (F 20), cA d (ad 21) 61 (F 21), cA d (ad 22) 60 (F 22), cA d (ad 23) 60 yv, cA d (ad 24) 60 (F 24)] H locs → lv_has ls 4 [(0, .ref o), (1, .int (nI i))] → W p l e R s m args below meth c H locs 0 0 Q (F0 m 2 ls []) := by
  obtain ⟨hx, hb, -⟩ := C.1
  intro n
  induction n with
  | zero => intro i yv H locs ls h1 h2; omega
  | succ n ih =>
    intro i yv H locs ls h1 h2 h3 h4 hw hl
    refine lv_iload_n hx hb dX1_multiplyVector_2 rfl (lv_at hl 1 rfl) ?_
    refine lv_aload_n hx hb dX1_multiplyVector_3 rfl (lv_at hl 0 rfl) ?_
    refine g_X1_12 C hw 0 rfl rfl dX1_multiplyVector_4 ?_
    refine g_X1_62 C hw 1 rfl rfl dX1_multiplyVector_7 ?_
    refine w_icmp_ge C (tgt := 86) (by omega) (by omega) dX1_multiplyVector_10 (by decide) (fun c1 => ?_) (fun c1 => ?_)
    · have : i = nr := by omega
      subst this
      exact K yv H locs ls h3 h4 hw
    · refine lv_iconst (v := nI 0) hx hb dX1_multiplyVector_13 (by decide) ?_
      refine lv_istore_n (lv' := [(2, .int (nI 0)), (0, .ref o), (1, .int (nI i))]) hx hb dX1_multiplyVector_14 rfl hl (by decide) rfl (fun ls hl => ?_)
      refine lv_aload_n hx hb dX1_multiplyVector_15 rfl (lv_at hl 1 rfl) ?_
      refine g_X1_12 C hw 0 rfl rfl dX1_multiplyVector_16 ?_
      refine g_X1_82 C hw 1 rfl rfl dX1_multiplyVector_19 ?_
      refine lv_iload_n hx hb dX1_multiplyVector_22 rfl (lv_at hl 2 rfl) ?_
      refine w_iald C hw 2 rfl (by omega) dX1_multiplyVector_23 ?_
      refine w_top (y := nI (of_ T nc i)) (hc.1 i (by omega)) ?_
      refine lv_istore_n (lv' := [(3, .int (nI (of_ T nc i))), (2, .int (nI 0)), (0, .ref o), (1, .int (nI i))]) hx hb dX1_multiplyVector_24 rfl hl (by decide) rfl (fun ls hl => ?_)
      refine lp_mv1 (y := y) C hc c1 hnr hnc htot hxx hw (fun ls hl => ?_) (nc + 1) 0 ls (by omega) (by omega) (lv_sub hl [2, 3, 1, 0] rfl)
      refine lv_aload_n hx hb dX1_multiplyVector_73 rfl (lv_at hl 0 rfl) ?_
      refine g_X1_39 C hw 0 rfl rfl dX1_multiplyVector_74 ?_
      refine lv_iload_n hx hb dX1_multiplyVector_77 rfl (lv_at hl 1 rfl) ?_
      refine lv_iload_n hx hb dX1_multiplyVector_78 rfl (lv_at hl 2 rfl) ?_
      refine w_iast C hw 23 rfl (by omega) dX1_multiplyVector_79 (fun H locs hw => ?_)
      have hw : Wd D A H0 [cO o 0 [.int (nI cp), .ref (ad 1), .ref (ad 5), .ref (ad 9), .ref (ad 13), .ref (ad 17), .ref (ad 21), .ref (ad 22), .ref (ad 23), .ref (ad 24)], cO (ad 1) 1 [.ref (ad 2), .ref (ad 3), .ref (ad 4), .int (nI nr), .int (nI nc)], cA d (ad 2) 61 (F 2), cA d (ad 3) 1000 (F 3), cA d (ad 4) 1000 (F 4), cO (ad 5) 1 [.ref (ad 6), .ref (ad 7), .ref (ad 8), .int (sc 1), .int (sc 2)], cA d (ad 6) 61 (F 6), cA d (ad 7) 1000 (F 7), cA d (ad 8) 1000 (F 8), cO (ad 9) 2 [.ref (ad 10), .ref (ad 11), .ref (ad 12), .int (nI P.length)], cA d (ad 10) 2000 (F 10), cA d (ad 11) 2000 (F 11), cA d (ad 12) 2000 (F 12), cO (ad 13) 2 [.ref (ad 14), .ref (ad 15), .ref (ad 16), .int (sc 3)], cA d (ad 14) 2000 (F 14), cA d (ad 15) 2000 (F 15), cA d (ad 16) 2000 (F 16), cO (ad 17) 2 [.ref (ad 18), .ref (ad 19), .ref (ad 20), .int (sc 4)], cA d (ad 18) 2000 (F 18), cA d (ad 19) 2000 (F 19), cA d (ad 20) 2000 (F 20), cA d (ad 21) 61 (F 21), cA d (ad 22) 60 (F 22), cA d (ad 23) 60 (upd yv i (dot_ T x i nc)), cA d (ad 24) 60 (F 24)] H locs := hw
      refine lv_iinc (v := nI (i + 1)) (lv' := [(1, .int (nI (i + 1))), (0, .ref o), (2, .int (dot_ T x i nc))]) hx hb dX1_multiplyVector_80 hl (k := 1) rfl (nI_1 _) (by decide) rfl (fun ls hl => ?_)
      refine lv_goto (tgt := 2) hx hb dX1_multiplyVector_83 (by decide) ?_
      refine ih (i + 1) _ H locs ls (by omega) (by omega) (fun a ha => ?_) (fun a ha ha2 => ?_) hw (lv_sub hl [1, 0] rfl)
      · by_cases q : a = i
        · rw [q, pk_us]
        · rw [pk_un q]; exact h3 a (by omega)
      · rw [pk_un (by omega)]; exact h4 a (by omega) ha2
end MV
set_option maxHeartbeats 4000000 in
set_option maxRecDepth 100000 in
/-- multiplyVector() -/
theorem met_X1_multiplyVector (l : Launch) (D : va_G) (d : ClassId) (Z : Nat → Prop) {o : Nat} {nr nc cp : Nat} {T : Nat → Nat → Int32} {P : List Tr} {x y : Nat → Int32}  : Met l yX1_multiplyVector (ws_ yX1_multiplyVector cX1_multiplyVector 4 (some .boolean)) ({ frames := 0, cells := 0, slots := 0, locals := 0 } : Room) (pc_ [.ref o] D d (RSok D d Z o nr nc cp T P x y)) (va_Qi (fun v (_ : Unit) => v = 1) (fun (_ : Unit) t9 => RSok D d Z o nr nc cp T P x (fun a => if a < nr then dot_ T x a nc else y a) t9.heap) (Z)) 0 0 (Z) := by
  refine mt_ofW (own := RX1) rfl (by decide) (Nat.le_of_ble_eq_true rfl) (fun p e s m below meth c C hnm hX ls hl => ?_)
  obtain ⟨hx, hb, -⟩ := C.1
  have hl : lv_has ls 4 [(0, .ref o)] := hl
  obtain ⟨ad, sc, F, hP, hD, hI⟩ := hX
  obtain ⟨⟨i1, i2, i3, i4, i5, i6⟩, hc, htot, hpl, hhd, hpr, hxx, hyy⟩ := id hI
  have hw : Wd D Z s.heap [cO o 0 [.int (nI cp), .ref (ad 1), .ref (ad 5), .ref (ad 9), .ref (ad 13), .ref (ad 17), .ref (ad 21), .ref (ad 22), .ref (ad 23), .ref (ad 24)], cO (ad 1) 1 [.ref (ad 2), .ref (ad 3), .ref (ad 4), .int (nI nr), .int (nI nc)], cA d (ad 2) 61 (F 2), cA d (ad 3) 1000 (F 3), cA d (ad 4) 1000 (F 4), cO (ad 5) 1 [.ref (ad 6), .ref (ad 7), .ref (ad 8), .int (sc 1), .int (sc 2)], cA d (ad 6) 61 (F 6), cA d (ad 7) 1000 (F 7), cA d (ad 8) 1000 (F 8), cO (ad 9) 2 [.ref (ad 10), .ref (ad 11), .ref (ad 12), .int (nI P.length)], cA d (ad 10) 2000 (F 10), cA d (ad 11) 2000 (F 11), cA d (ad 12) 2000 (F 12), cO (ad 13) 2 [.ref (ad 14), .ref (ad 15), .ref (ad 16), .int (sc 3)], cA d (ad 14) 2000 (F 14), cA d (ad 15) 2000 (F 15), cA d (ad 16) 2000 (F 16), cO (ad 17) 2 [.ref (ad 18), .ref (ad 19), .ref (ad 20), .int (sc 4)], cA d (ad 18) 2000 (F 18), cA d (ad 19) 2000 (F 19), cA d (ad 20) 2000 (F 20), cA d (ad 21) 61 (F 21), cA d (ad 22) 60 (F 22), cA d (ad 23) 60 (F 23), cA d (ad 24) 60 (F 24)] s.heap [] := ⟨hP, hD, va_S.rf⟩
  refine lv_iconst (v := nI 0) hx hb dX1_multiplyVector_0 (by decide) ?_
  refine lv_istore_n (lv' := [(1, .int (nI 0)), (0, .ref o)]) hx hb dX1_multiplyVector_1 rfl hl (by decide) rfl (fun ls hl => ?_)
  refine lp_mv2 (y := y) C hc i2 i4 (by omega) hxx (fun yv H locs ls h5 h6 hw => ?_) (nr + 1) 0 (F 23) _ _ ls (by omega) (by omega) (fun a ha => by omega) (fun a _ ha => hyy a ha) hw (lv_sub hl [1, 0] rfl)
  refine lv_iconst (v := nI 1) hx hb dX1_multiplyVector_86 (by decide) ?_
  refine mu_zret (v := nI 1) (Y := fun _ h => RSok D d Z o nr nc cp T P x (fun a => if a < nr then dot_ T x a nc else y a) h) C hw.2.2 rfl () rfl ?_ dX1_multiplyVector_87
  refine rs_mk hw.1 hw.2.1 ⟨⟨i1, i2, i3, i4, i5, i6⟩, hc, htot, hpl, hhd, hpr, hxx, fun a ha => ?_⟩
  show yv a = if a < nr then dot_ T x a nc else y a
  by_cases q : a < nr
  · rw [if_pos q]; exact h5 a q
  · rw [if_neg q]; exact h6 a (by omega) ha
end
section
/-! RowSparse: square, transpose (walks printed by gen/rs3.py) -/
set_option maxRecDepth 100000
abbrev rmSq : Room := { frames := 2, cells := 0, slots := 0, locals := 41 }
def sqT (T : Nat → Nat → Int32) (nc : Nat) : Nat → Nat → Int32 := fun a b => dot_ T (fun q => T q b) a nc
section SQ
variable {p : Program} {l : Launch} {e : Env} {R : Room} {s : State} {m : MethodId} {args : Array Value} {below : List Frame} {meth : Method} {c : Code} {Q : State → Prop}
variable {D : va_G} {d : ClassId} {A : Nat → Prop} {H0 : Heap} {ret : Option FieldType}
set_option maxHeartbeats 4000000 in
set_option maxRecDepth 100000 in
theorem lp_sq1 {o nr nc cp : Nat} {T : Nat → Nat → Int32} {P : List Tr} {ad : Nat → Nat} {sc : Nat → Int32} {F : Nat → Nat → Int32} {T2 : Nat → Nat → Int32} {i : Nat} {st su : Nat → Int32} (C : Cx p s m args meth c cX1_square 4 RX1 ret D d) (hi : i < nr) (hnr : nr ≤ 60) (hnc : nc ≤ 60) (hcp : cp ≤ 1000) (hsu : ∀ b, b < nc → su b = T2 i b)
    (K1 : ∀ (co va : Nat → Int32) (H : Heap) (locs : List Loc) (ls : Array Slot), Bld st co va T2 nc i nc → of_ T2 nc i + rk_ T2 i nc ≤ cp → Wd D A H0 [cO o 0 [.int (nI cp), .ref (ad 1), .ref (ad 5), .ref (ad 9), .ref (ad 13), .ref (ad 17), .ref (ad 21), .ref (ad 22), .ref (ad 23), .ref (ad 24)], cO (ad 1) 1 [.ref (ad 2), .ref (ad 3), .ref (ad 4), .int (nI nr), .int (nI nc)], cA d (ad 2) 61 (F 2), cA d (ad 3) 1000 (F 3), cA d (ad 4) 1000 (F 4), cO (ad 5) 1 [.ref (ad 6), .ref (ad 7), .ref (ad 8), .int (nI nr), .int (nI nc)], cA d (ad 6) 61 st, cA d (ad 7) 1000 co, cA d (ad 8) 1000 va, cO (ad 9) 2 [.ref (ad 10), .ref (ad 11), .ref (ad 12), .int (nI P.length)], cA d (ad 10) 2000 (F 10), cA d (ad 11) 2000 (F 11), cA d (ad 12) 2000 (F 12), cO (ad 13) 2 [.ref (ad 14), .ref (ad 15), .ref (ad 16), .int (sc 3)], cA d (ad 14) 2000 (F 14), cA d (ad 15) 2000 (F 15), cA d (ad 16) 2000 (F 16), cO (ad 17) 2 [.ref (ad 18), .ref (ad 19), .ref (ad 20), .int (sc 4)], cA d (ad 18) 2000 (F 18), cA d (ad 19) 2000 (F 19), cA d (ad 20) 2000 (F 20), cA d (ad 21) 61 (F 21), cA d (ad 22) 60 (F 22), cA d (ad 23) 60 (F 23), cA d (ad 24) 60 su] H locs → lv_has ls 4 [(0, .ref o), (1, .int (nI (of_ T2 nc i + rk_ T2 i nc))), (2, .int (nI i))] → W p l e rmSq s m args below meth c H locs 0 0 Q (F0 m 119 ls []))
    (K2 : ∀ (co va : Nat → Int32) (H : Heap) (locs : List Loc) (ls : Array Slot), cp < of_ T2 nc nr → Wd D A H0 [cO o 0 [.int (nI cp), .ref (ad 1), .ref (ad 5), .ref (ad 9), .ref (ad 13), .ref (ad 17), .ref (ad 21), .ref (ad 22), .ref (ad 23), .ref (ad 24)], cO (ad 1) 1 [.ref (ad 2), .ref (ad 3), .ref (ad 4), .int (nI nr), .int (nI nc)], cA d (ad 2) 61 (F 2), cA d (ad 3) 1000 (F 3), cA d (ad 4) 1000 (F 4), cO (ad 5) 1 [.ref (ad 6), .ref (ad 7), .ref (ad 8), .int (nI nr), .int (nI nc)], cA d (ad 6) 61 st, cA d (ad 7) 1000 co, cA d (ad 8) 1000 va, cO (ad 9) 2 [.ref (ad 10), .ref (ad 11), .ref (ad 12), .int (nI P.length)], cA d (ad 10) 2000 (F 10), cA d (ad 11) 2000 (F 11), cA d (ad 12) 2000 (F 12), cO (ad 13) 2 [.ref (ad 14), .ref (ad 15), .ref (ad 16), .int (sc 3)], cA d (ad 14) 2000 (F 14), cA d (ad 15) 2000 (F 15), cA d (ad 16) 2000 (F 16), cO (ad 17) 2 [.ref (ad 18), .ref (ad 19), .ref (ad 20), .int (sc 4)], cA d (ad 18) 2000 (F 18), cA d (ad 19) 2000 (F 19), cA d (ad 20) 2000 (F 20), cA d (ad 21) 61 (F 21), cA d (ad 22) 60 (F 22), cA d (ad 23) 60 (F 23), cA d (ad 24) 60 su] H locs → W p l e rmSq s m args below meth c H locs 0 0 Q (F0 m 108 ls [])) :
    ∀ (n j : Nat) (co va : Nat → Int32) (H : Heap) (locs : List Loc) (ls : Array Slot), j ≤ nc → nc < j + n → Bld st co va T2 nc i j → of_ T2 nc i + rk_ T2 i j ≤ cp → Wd D A H0 [cO o 0 [.int (nI cp), .ref (ad 1), .ref (ad 5), .ref (ad 9), .ref (ad 13), .ref (ad 17), .ref (ad 21), .ref (ad 22), .ref (ad 23), .ref (ad 24)], cO (ad 1) 1 [.ref (ad 2), .ref (ad 3), .ref (ad 4), .int (nI nr), .int (nI nc)], cA d (ad 2) 61 (F 2), cA d (ad 3) 1000 (F 3), cA d (ad 4) 1000 (F 4), cO (ad 5) 1 [.ref (ad 6), .ref (ad 7), .ref (ad 8), .int (nI nr), .int (nI nc)], cA d (ad 6) 61 st, cA d (ad 7) 1000 co, cA d (ad 8) 1000 va, cO (ad 9) 2 [.ref (ad 10), .ref (ad 11), .ref (ad 12), .int (nI P.length)], cA d (ad 10) 2000 (F 10), cA d (ad 11) 2000 (F 11), cA d (ad 12) 2000 (F 12), cO (ad 13) 2 [.ref (ad 14), .ref (ad 15), .ref (ad 16), .int (sc 3)], cA d (ad 14) 2000 (F 14), cA d (ad 15) 2000 (F 15), cA d (ad 16) 2000 (F 16), cO (ad 17) 2 [.ref (ad 18), .ref (ad 19), .ref (ad 20), .int (sc 4)], cA d (ad 18) 2000 (F 18), cA d (ad 19) 2000 (F 19), cA d (ad 20) 2000 (F 20), cA d (ad 21) 61 (F 21), cA d (ad 22) 60 (F 22), cA d (ad 23) 60 (F 23), cA d (ad 24) 60 su] H locs → lv_has ls 4 [(0, .ref o), (1, .int (nI (of_ T2 nc i + rk_ T2 i j))), (2, .int (nI i)), (3, .int (nI j))] → W p l e rmSq s m args below meth c H locs 0 0 Q (F0 m 63 ls []) := by
  obtain ⟨hx, hb, -⟩ := C.1
  intro n
  induction n with
  | zero => intro j co va H locs ls h1 h2; omega
  | succ n ih =>
    intro j co va H locs ls h1 h2 h3 h4 hw hl
    refine lv_iload_n hx hb dX1_square_63 rfl (lv_at hl 3 rfl) ?_
    refine lv_aload_n hx hb dX1_square_64 rfl (lv_at hl 0 rfl) ?_
    refine g_X1_12 C hw 0 rfl rfl dX1_square_65 ?_
    refine g_X1_69 C hw 1 rfl rfl dX1_square_68 ?_
    refine w_icmp_ge C (tgt := 119) (by omega) (by omega) dX1_square_71 (by decide) (fun c1 => ?_) (fun c1 => ?_)
    · have hj : j = nc := by omega
      rw [hj] at h3 h4 hl
      exact K1 co va H locs ls h3 h4 hw (lv_sub hl [0, 1, 2] rfl)
    · refine lv_aload_n hx hb dX1_square_74 rfl (lv_at hl 0 rfl) ?_
      refine g_X1_42 C hw 0 rfl rfl dX1_square_75 ?_
      refine lv_iload_n hx hb dX1_square_78 rfl (lv_at hl 3 rfl) ?_
      refine w_iald C hw 24 rfl (by omega) dX1_square_79 ?_
      refine w_top (y := T2 i j) (hsu j c1) ?_
      refine lv_if_ne (tgt := 86) hx hb dX1_square_80 (by decide) (fun hz => ?_) (fun hz => ?_)
      · have hps := pos_lt (T := T2) hi c1 hz
        by_cases hat : of_ T2 nc i + rk_ T2 i j = cp
        · rw [hat] at hl hps
          refine lv_aload_n hx hb dX1_square_86 rfl (lv_at hl 0 rfl) ?_
          refine g_X1_16 C hw 0 rfl rfl dX1_square_87 ?_
          refine lv_iload_n hx hb dX1_square_90 rfl (lv_at hl 1 rfl) ?_
          refine lv_aload_n hx hb dX1_square_91 rfl (lv_at hl 0 rfl) ?_
          refine g_X1_54 C hw 0 rfl rfl dX1_square_92 ?_
          refine lv_iload_n hx hb dX1_square_95 rfl (lv_at hl 3 rfl) ?_
          refine lv_aload_n hx hb dX1_square_96 rfl (lv_at hl 0 rfl) ?_
          refine g_X1_42 C hw 0 rfl rfl dX1_square_97 ?_
          refine lv_iload_n hx hb dX1_square_100 rfl (lv_at hl 3 rfl) ?_
          refine w_iald C hw 24 rfl (by omega) dX1_square_101 ?_
          refine w_top (y := T2 i j) (hsu j c1) ?_
          refine c_rdV (As := [.int (nI cp), .int (nI cp), .int (nI j), .int (T2 i j)]) (rest := []) C (met_puts_no l D d (nI j) (T2 i j) hcp) (cwV 4 C.1.2.2.2.2 (lw_V q136 q137 q138 q9 q139) rfl rfl rfl (by decide +kernel) ⟨Nat.le_of_ble_eq_true rfl, Nat.le_of_ble_eq_true rfl⟩) (va_recv C.2.1.1 hw.1 (ci := 1) (q0 := 5) rfl rfl) (w_cut hw [5, 7, 8] (by decide) rfl) rfl hl.1 rfl (Nat.le_of_ble_eq_true rfl) dX1_square_102 ⟨Nat.le_of_ble_eq_true rfl, Nat.le_of_ble_eq_true rfl⟩ (fun r hr => ?_)
          subst hr
          refine lv_if_ne (tgt := 110) hx hb dX1_square_105 (by decide) (fun c3 => ?_) (fun c3 => ?_)
          · exact absurd rfl c3
          · exact K2 co va H locs ls hps hw
        · have hat : of_ T2 nc i + rk_ T2 i j < cp := by omega
          refine lv_aload_n hx hb dX1_square_86 rfl (lv_at hl 0 rfl) ?_
          refine g_X1_16 C hw 0 rfl rfl dX1_square_87 ?_
          refine lv_iload_n hx hb dX1_square_90 rfl (lv_at hl 1 rfl) ?_
          refine lv_aload_n hx hb dX1_square_91 rfl (lv_at hl 0 rfl) ?_
          refine g_X1_54 C hw 0 rfl rfl dX1_square_92 ?_
          refine lv_iload_n hx hb dX1_square_95 rfl (lv_at hl 3 rfl) ?_
          refine lv_aload_n hx hb dX1_square_96 rfl (lv_at hl 0 rfl) ?_
          refine g_X1_42 C hw 0 rfl rfl dX1_square_97 ?_
          refine lv_iload_n hx hb dX1_square_100 rfl (lv_at hl 3 rfl) ?_
          refine w_iald C hw 24 rfl (by omega) dX1_square_101 ?_
          refine w_top (y := T2 i j) (hsu j c1) ?_
          refine c_wVi (As := [.int (nI (of_ T2 nc i + rk_ T2 i j)), .int (nI cp), .int (nI j), .int (T2 i j)]) (rest := []) C hw [5, 7, 8] (met_puts_yes l D d (nI j) (T2 i j) hat hcp) (by decide) rfl (fun _ => rfl) (cwV 4 C.1.2.2.2.2 (lw_V q136 q137 q138 q9 q139) rfl rfl rfl (by decide +kernel) ⟨Nat.le_of_ble_eq_true rfl, Nat.le_of_ble_eq_true rfl⟩) (va_recv C.2.1.1 hw.1 (ci := 1) (q0 := 5) rfl rfl) rfl hl.1 rfl (Nat.le_of_ble_eq_true rfl) dX1_square_102 ⟨Nat.le_of_ble_eq_true rfl, Nat.le_of_ble_eq_true rfl⟩ (fun r u H locs hr hw => ?_)
          have hw : Wd D A H0 [cO o 0 [.int (nI cp), .ref (ad 1), .ref (ad 5), .ref (ad 9), .ref (ad 13), .ref (ad 17), .ref (ad 21), .ref (ad 22), .ref (ad 23), .ref (ad 24)], cO (ad 1) 1 [.ref (ad 2), .ref (ad 3), .ref (ad 4), .int (nI nr), .int (nI nc)], cA d (ad 2) 61 (F 2), cA d (ad 3) 1000 (F 3), cA d (ad 4) 1000 (F 4), cO (ad 5) 1 [.ref (ad 6), .ref (ad 7), .ref (ad 8), .int (nI nr), .int (nI nc)], cA d (ad 6) 61 st, cA d (ad 7) 1000 (upd co (of_ T2 nc i + rk_ T2 i j) (nI j)), cA d (ad 8) 1000 (upd va (of_ T2 nc i + rk_ T2 i j) (T2 i j)), cO (ad 9) 2 [.ref (ad 10), .ref (ad 11), .ref (ad 12), .int (nI P.length)], cA d (ad 10) 2000 (F 10), cA d (ad 11) 2000 (F 11), cA d (ad 12) 2000 (F 12), cO (ad 13) 2 [.ref (ad 14), .ref (ad 15), .ref (ad 16), .int (sc 3)], cA d (ad 14) 2000 (F 14), cA d (ad 15) 2000 (F 15), cA d (ad 16) 2000 (F 16), cO (ad 17) 2 [.ref (ad 18), .ref (ad 19), .ref (ad 20), .int (sc 4)], cA d (ad 18) 2000 (F 18), cA d (ad 19) 2000 (F 19), cA d (ad 20) 2000 (F 20), cA d (ad 21) 61 (F 21), cA d (ad 22) 60 (F 22), cA d (ad 23) 60 (F 23), cA d (ad 24) 60 su] H locs := hw
          subst hr
          refine lv_if_ne (tgt := 110) hx hb dX1_square_105 (by decide) (fun c3 => ?_) (fun c3 => ?_)
          · refine lv_iinc (v := nI (of_ T2 nc i + rk_ T2 i j + 1)) (lv' := [(1, .int (nI (of_ T2 nc i + rk_ T2 i j + 1))), (0, .ref o), (2, .int (nI i)), (3, .int (nI j))]) hx hb dX1_square_110 hl (k := 1) rfl (nI_1 _) (by decide) rfl (fun ls hl => ?_)
            refine lv_iinc (v := nI (j + 1)) (lv' := [(3, .int (nI (j + 1))), (1, .int (nI (of_ T2 nc i + rk_ T2 i j + 1))), (0, .ref o), (2, .int (nI i))]) hx hb dX1_square_113 hl (k := 3) rfl (nI_1 _) (by decide) rfl (fun ls hl => ?_)
            refine lv_goto (tgt := 63) hx hb dX1_square_116 (by decide) ?_
            exact ih (j + 1) _ _ H locs ls (by omega) (by omega) (bld_p hz c1 h3) (by rw [rk_s hz]; omega) hw (by rw [rk_s hz]; exact (lv_sub hl [2, 1, 3, 0] rfl))
          · exact absurd c3 (by decide)
      · refine lv_goto (tgt := 113) hx hb dX1_square_83 (by decide) ?_
        refine lv_iinc (v := nI (j + 1)) (lv' := [(3, .int (nI (j + 1))), (0, .ref o), (1, .int (nI (of_ T2 nc i + rk_ T2 i j))), (2, .int (nI i))]) hx hb dX1_square_113 hl (k := 3) rfl (nI_1 _) (by decide) rfl (fun ls hl => ?_)
        refine lv_goto (tgt := 63) hx hb dX1_square_116 (by decide) ?_
        exact ih (j + 1) co va H locs ls (by omega) (by omega) (bld_z hz h3) (by rw [rk_z hz]; exact h4) hw (by rw [rk_z hz]; exact (lv_sub hl [1, 2, 3, 0] rfl))

set_option maxHeartbeats 4000000 in
set_option maxRecDepth 100000 in
theorem lp_sq2 {o nr nc cp : Nat} {T : Nat → Nat → Int32} {P : List Tr} {ad : Nat → Nat} {sc : Nat → Int32} {F : Nat → Nat → Int32} {T2 : Nat → Nat → Int32} (C : Cx p s m args meth c cX1_square 4 RX1 ret D d) (hT2 : T2 = sqT T nc) (hc : Csr (F 2) (F 3) (F 4) nr nc T) (hnr : nr ≤ 60) (hnc : nc ≤ 60) (hsq : nr = nc) (htot : of_ T nc nr ≤ 1000) (hcp : cp ≤ 1000)
    (K1 : ∀ (st co va su : Nat → Int32) (H : Heap) (locs : List Loc) (ls : Array Slot), Bld st co va T2 nc nr 0 → of_ T2 nc nr ≤ cp → Wd D A H0 [cO o 0 [.int (nI cp), .ref (ad 1), .ref (ad 5), .ref (ad 9), .ref (ad 13), .ref (ad 17), .ref (ad 21), .ref (ad 22), .ref (ad 23), .ref (ad 24)], cO (ad 1) 1 [.ref (ad 2), .ref (ad 3), .ref (ad 4), .int (nI nr), .int (nI nc)], cA d (ad 2) 61 (F 2), cA d (ad 3) 1000 (F 3), cA d (ad 4) 1000 (F 4), cO (ad 5) 1 [.ref (ad 6), .ref (ad 7), .ref (ad 8), .int (nI nr), .int (nI nc)], cA d (ad 6) 61 st, cA d (ad 7) 1000 co, cA d (ad 8) 1000 va, cO (ad 9) 2 [.ref (ad 10), .ref (ad 11), .ref (ad 12), .int (nI P.length)], cA d (ad 10) 2000 (F 10), cA d (ad 11) 2000 (F 11), cA d (ad 12) 2000 (F 12), cO (ad 13) 2 [.ref (ad 14), .ref (ad 15), .ref (ad 16), .int (sc 3)], cA d (ad 14) 2000 (F 14), cA d (ad 15) 2000 (F 15), cA d (ad 16) 2000 (F 16), cO (ad 17) 2 [.ref (ad 18), .ref (ad 19), .ref (ad 20), .int (sc 4)], cA d (ad 18) 2000 (F 18), cA d (ad 19) 2000 (F 19), cA d (ad 20) 2000 (F 20), cA d (ad 21) 61 (F 21), cA d (ad 22) 60 (F 22), cA d (ad 23) 60 (F 23), cA d (ad 24) 60 su] H locs → lv_has ls 4 [(0, .ref o)] → W p l e rmSq s m args below meth c H locs 0 0 Q (F0 m 137 ls []))
    (K2 : ∀ (st co va su : Nat → Int32) (H : Heap) (locs : List Loc) (ls : Array Slot), cp < of_ T2 nc nr → Wd D A H0 [cO o 0 [.int (nI cp), .ref (ad 1), .ref (ad 5), .ref (ad 9), .ref (ad 13), .ref (ad 17), .ref (ad 21), .ref (ad 22), .ref (ad 23), .ref (ad 24)], cO (ad 1) 1 [.ref (ad 2), .ref (ad 3), .ref (ad 4), .int (nI nr), .int (nI nc)], cA d (ad 2) 61 (F 2), cA d (ad 3) 1000 (F 3), cA d (ad 4) 1000 (F 4), cO (ad 5) 1 [.ref (ad 6), .ref (ad 7), .ref (ad 8), .int (nI nr), .int (nI nc)], cA d (ad 6) 61 st, cA d (ad 7) 1000 co, cA d (ad 8) 1000 va, cO (ad 9) 2 [.ref (ad 10), .ref (ad 11), .ref (ad 12), .int (nI P.length)], cA d (ad 10) 2000 (F 10), cA d (ad 11) 2000 (F 11), cA d (ad 12) 2000 (F 12), cO (ad 13) 2 [.ref (ad 14), .ref (ad 15), .ref (ad 16), .int (sc 3)], cA d (ad 14) 2000 (F 14), cA d (ad 15) 2000 (F 15), cA d (ad 16) 2000 (F 16), cO (ad 17) 2 [.ref (ad 18), .ref (ad 19), .ref (ad 20), .int (sc 4)], cA d (ad 18) 2000 (F 18), cA d (ad 19) 2000 (F 19), cA d (ad 20) 2000 (F 20), cA d (ad 21) 61 (F 21), cA d (ad 22) 60 (F 22), cA d (ad 23) 60 (F 23), cA d (ad 24) 60 su] H locs → W p l e rmSq s m args below meth c H locs 0 0 Q (F0 m 108 ls [])) :
    ∀ (n i : Nat) (st co va su : Nat → Int32) (H : Heap) (locs : List Loc) (ls : Array Slot), i ≤ nr → nr < i + n → Bld st co va T2 nc i 0 → of_ T2 nc i ≤ cp → Wd D A H0 [cO o 0 [.int (nI cp), .ref (ad 1), .ref (ad 5), .ref (ad 9), .ref (ad 13), .ref (ad 17), .ref (ad 21), .ref (ad 22), .ref (ad 23), .ref (ad 24)], cO (ad 1) 1 [.ref (ad 2), .ref (ad 3), .ref (ad 4), .int (nI nr), .int (nI nc)], cA d (ad 2) 61 (F 2), cA d (ad 3) 1000 (F 3), cA d (ad 4) 1000 (F 4), cO (ad 5) 1 [.ref (ad 6), .ref (ad 7), .ref (ad 8), .int (nI nr), .int (nI nc)], cA d (ad 6) 61 st, cA d (ad 7) 1000 co, cA d (ad 8) 1000 va, cO (ad 9) 2 [.ref (ad 10), .ref (ad 11), .ref (ad 12), .int (nI P.length)], cA d (ad 10) 2000 (F 10), cA d (ad 11) 2000 (F 11), cA d (ad 12) 2000 (F 12), cO (ad 13) 2 [.ref (ad 14), .ref (ad 15), .ref (ad 16), .int (sc 3)], cA d (ad 14) 2000 (F 14), cA d (ad 15) 2000 (F 15), cA d (ad 16) 2000 (F 16), cO (ad 17) 2 [.ref (ad 18), .ref (ad 19), .ref (ad 20), .int (sc 4)], cA d (ad 18) 2000 (F 18), cA d (ad 19) 2000 (F 19), cA d (ad 20) 2000 (F 20), cA d (ad 21) 61 (F 21), cA d (ad 22) 60 (F 22), cA d (ad 23) 60 (F 23), cA d (ad 24) 60 su] H locs → lv_has ls 4 [(0, .ref o), (1, .int (nI (of_ T2 nc i))), (2, .int (nI i))] → W p l e rmSq s m args below meth c H locs 0 0 Q (F0 m 45 ls []) := by
  obtain ⟨hx, hb, -⟩ := C.1
  intro n
  induction n with
  | zero => intro i st co va su H locs ls h1 h2; omega
  | succ n ih =>
    intro i st co va su H locs ls h1 h2 h3 h4 hw hl
    refine lv_iload_n hx hb dX1_square_45 rfl (lv_at hl 2 rfl) ?_
    refine lv_aload_n hx hb dX1_square_46 rfl (lv_at hl 0 rfl) ?_
    refine g_X1_12 C hw 0 rfl rfl dX1_square_47 ?_
    refine g_X1_62 C hw 1 rfl rfl dX1_square_50 ?_
    refine w_icmp_ge C (tgt := 137) (by omega) (by omega) dX1_square_53 (by decide) (fun c1 => ?_) (fun c1 => ?_)
    · have hi : i = nr := by omega
      rw [hi] at h3 h4
      exact K1 st co va su H locs ls h3 h4 hw (lv_sub hl [0] rfl)
    · refine lv_aload_n hx hb dX1_square_56 rfl (lv_at hl 0 rfl) ?_
      refine lv_iload_n hx hb dX1_square_57 rfl (lv_at hl 2 rfl) ?_
      refine c_wVv (As := [.int (nI i)]) (rest := []) C hw [0, 1, 2, 3, 4, 24] (met_gathers l D d hc c1 hnr hnc hsq htot) (by decide) rfl (fun _ => rfl) (cwV 1 C.1.2.2.2.2 (lw_V q188 q190 qs2 q8 q191) rfl rfl rfl (by decide +kernel) ⟨Nat.le_of_ble_eq_true rfl, Nat.le_of_ble_eq_true rfl⟩) (va_recv C.2.1.1 hw.1 (ci := 0) (q0 := 0) rfl rfl) rfl hl.1 rfl (Nat.le_of_ble_eq_true rfl) dX1_square_58 ⟨Nat.le_of_ble_eq_true rfl, Nat.le_of_ble_eq_true rfl⟩ (fun sv H locs h5 hw => ?_)
      have hw : Wd D A H0 [cO o 0 [.int (nI cp), .ref (ad 1), .ref (ad 5), .ref (ad 9), .ref (ad 13), .ref (ad 17), .ref (ad 21), .ref (ad 22), .ref (ad 23), .ref (ad 24)], cO (ad 1) 1 [.ref (ad 2), .ref (ad 3), .ref (ad 4), .int (nI nr), .int (nI nc)], cA d (ad 2) 61 (F 2), cA d (ad 3) 1000 (F 3), cA d (ad 4) 1000 (F 4), cO (ad 5) 1 [.ref (ad 6), .ref (ad 7), .ref (ad 8), .int (nI nr), .int (nI nc)], cA d (ad 6) 61 st, cA d (ad 7) 1000 co, cA d (ad 8) 1000 va, cO (ad 9) 2 [.ref (ad 10), .ref (ad 11), .ref (ad 12), .int (nI P.length)], cA d (ad 10) 2000 (F 10), cA d (ad 11) 2000 (F 11), cA d (ad 12) 2000 (F 12), cO (ad 13) 2 [.ref (ad 14), .ref (ad 15), .ref (ad 16), .int (sc 3)], cA d (ad 14) 2000 (F 14), cA d (ad 15) 2000 (F 15), cA d (ad 16) 2000 (F 16), cO (ad 17) 2 [.ref (ad 18), .ref (ad 19), .ref (ad 20), .int (sc 4)], cA d (ad 18) 2000 (F 18), cA d (ad 19) 2000 (F 19), cA d (ad 20) 2000 (F 20), cA d (ad 21) 61 (F 21), cA d (ad 22) 60 (F 22), cA d (ad 23) 60 (F 23), cA d (ad 24) 60 sv] H locs := hw
      refine lv_iconst (v := nI 0) hx hb dX1_square_61 (by decide) ?_
      refine lv_istore_n (lv' := [(3, .int (nI 0)), (0, .ref o), (1, .int (nI (of_ T2 nc i))), (2, .int (nI i))]) hx hb dX1_square_62 rfl hl (by decide) rfl (fun ls hl => ?_)
      refine lp_sq1 (T := T) C c1 hnr hnc hcp (fun b hb => by rw [h5 b hb, hT2]; rfl) (fun co va H locs ls h6 h7 hw hl => ?_) (fun co va H locs ls h6 hw => K2 st co va sv H locs ls h6 hw) (nc + 1) 0 co va H locs ls (by omega) (by omega) h3 h4 hw (lv_sub hl [1, 2, 3, 0] rfl)
      refine lv_aload_n hx hb dX1_square_119 rfl (lv_at hl 0 rfl) ?_
      refine g_X1_16 C hw 0 rfl rfl dX1_square_120 ?_
      refine g_X1_82 C hw 5 rfl rfl dX1_square_123 ?_
      refine lv_iload_n hx hb dX1_square_126 rfl (lv_at hl 2 rfl) ?_
      refine lv_iconst (v := nI 1) hx hb dX1_square_127 (by decide) ?_
      refine w_iadd C dX1_square_128 ?_
      refine lv_iload_n hx hb dX1_square_129 rfl (lv_at hl 1 rfl) ?_
      refine w_iast C hw 6 rfl (by omega) dX1_square_130 (fun H locs hw => ?_)
      have hw : Wd D A H0 [cO o 0 [.int (nI cp), .ref (ad 1), .ref (ad 5), .ref (ad 9), .ref (ad 13), .ref (ad 17), .ref (ad 21), .ref (ad 22), .ref (ad 23), .ref (ad 24)], cO (ad 1) 1 [.ref (ad 2), .ref (ad 3), .ref (ad 4), .int (nI nr), .int (nI nc)], cA d (ad 2) 61 (F 2), cA d (ad 3) 1000 (F 3), cA d (ad 4) 1000 (F 4), cO (ad 5) 1 [.ref (ad 6), .ref (ad 7), .ref (ad 8), .int (nI nr), .int (nI nc)], cA d (ad 6) 61 (upd st (i + 1) (nI (of_ T2 nc i + rk_ T2 i nc))), cA d (ad 7) 1000 co, cA d (ad 8) 1000 va, cO (ad 9) 2 [.ref (ad 10), .ref (ad 11), .ref (ad 12), .int (nI P.length)], cA d (ad 10) 2000 (F 10), cA d (ad 11) 2000 (F 11), cA d (ad 12) 2000 (F 12), cO (ad 13) 2 [.ref (ad 14), .ref (ad 15), .ref (ad 16), .int (sc 3)], cA d (ad 14) 2000 (F 14), cA d (ad 15) 2000 (F 15), cA d (ad 16) 2000 (F 16), cO (ad 17) 2 [.ref (ad 18), .ref (ad 19), .ref (ad 20), .int (sc 4)], cA d (ad 18) 2000 (F 18), cA d (ad 19) 2000 (F 19), cA d (ad 20) 2000 (F 20), cA d (ad 21) 61 (F 21), cA d (ad 22) 60 (F 22), cA d (ad 23) 60 (F 23), cA d (ad 24) 60 sv] H locs := hw
      refine lv_iinc (v := nI (i + 1)) (lv' := [(2, .int (nI (i + 1))), (0, .ref o), (1, .int (nI (of_ T2 nc i + rk_ T2 i nc)))]) hx hb dX1_square_131 hl (k := 2) rfl (nI_1 _) (by decide) rfl (fun ls hl => ?_)
      refine lv_goto (tgt := 45) hx hb dX1_square_134 (by decide) ?_
      exact ih (i + 1) _ co va sv H locs ls (by omega) (by omega) (bld_r h6) h7 hw (lv_sub hl [1, 2, 0] rfl)
end SQ
set_option maxHeartbeats 4000000 in
set_option maxRecDepth 100000 in
/-- square() of a matrix that is not square -/
theorem met_X1_square_ne (l : Launch) (D : va_G) (d : ClassId) (Z : Nat → Prop) {o : Nat} {nr nc cp : Nat} {T : Nat → Nat → Int32} {P : List Tr} {x y : Nat → Int32} (hsq : nr ≠ nc) : Met l yX1_square (ws_ yX1_square cX1_square 4 (some .int)) rmSq (pc_ [.ref o] D d (RSok D d Z o nr nc cp T P x y)) (vp_Si (fun v => v = -2)) 0 0 (fun _ => False) := by
  refine mt_ofW (own := RX1) rfl (by decide) (Nat.le_of_ble_eq_true rfl) (fun p e s m below meth c C hnm hX ls hl => ?_)
  obtain ⟨hx, hb, -⟩ := C.1
  have hl : lv_has ls 4 [(0, .ref o)] := hl
  obtain ⟨ad, sc, F, hP, hD, hI⟩ := hX
  obtain ⟨⟨i1, i2, i3, i4, i5, i6⟩, hc, htot, hpl, hhd, hpr, hxx, hyy⟩ := id hI
  have hw : Wd D Z s.heap [cO o 0 [.int (nI cp), .ref (ad 1), .ref (ad 5), .ref (ad 9), .ref (ad 13), .ref (ad 17), .ref (ad 21), .ref (ad 22), .ref (ad 23), .ref (ad 24)], cO (ad 1) 1 [.ref (ad 2), .ref (ad 3), .ref (ad 4), .int (nI nr), .int (nI nc)], cA d (ad 2) 61 (F 2), cA d (ad 3) 1000 (F 3), cA d (ad 4) 1000 (F 4), cO (ad 5) 1 [.ref (ad 6), .ref (ad 7), .ref (ad 8), .int (sc 1), .int (sc 2)], cA d (ad 6) 61 (F 6), cA d (ad 7) 1000 (F 7), cA d (ad 8) 1000 (F 8), cO (ad 9) 2 [.ref (ad 10), .ref (ad 11), .ref (ad 12), .int (nI P.length)], cA d (ad 10) 2000 (F 10), cA d (ad 11) 2000 (F 11), cA d (ad 12) 2000 (F 12), cO (ad 13) 2 [.ref (ad 14), .ref (ad 15), .ref (ad 16), .int (sc 3)], cA d (ad 14) 2000 (F 14), cA d (ad 15) 2000 (F 15), cA d (ad 16) 2000 (F 16), cO (ad 17) 2 [.ref (ad 18), .ref (ad 19), .ref (ad 20), .int (sc 4)], cA d (ad 18) 2000 (F 18), cA d (ad 19) 2000 (F 19), cA d (ad 20) 2000 (F 20), cA d (ad 21) 61 (F 21), cA d (ad 22) 60 (F 22), cA d (ad 23) 60 (F 23), cA d (ad 24) 60 (F 24)] s.heap [] := ⟨hP, hD, va_S.rf⟩
  refine lv_aload_n hx hb dX1_square_0 rfl (lv_at hl 0 rfl) ?_
  refine g_X1_12 C hw 0 rfl rfl dX1_square_1 ?_
  refine g_X1_62 C hw 1 rfl rfl dX1_square_4 ?_
  refine lv_aload_n hx hb dX1_square_7 rfl (lv_at hl 0 rfl) ?_
  refine g_X1_12 C hw 0 rfl rfl dX1_square_8 ?_
  refine g_X1_69 C hw 1 rfl rfl dX1_square_11 ?_
  refine w_icmp_eq C (tgt := 20) (by omega) (by omega) dX1_square_14 (by decide) (fun c1 => ?_) (fun c1 => ?_)
  · exact absurd c1 hsq
  · refine lv_bipush (v := (-2)) hx hb dX1_square_17 (by decide) ?_
    exact rd_iret C rfl dX1_square_19

set_option maxHeartbeats 4000000 in
set_option maxRecDepth 100000 in
/-- square() -/
theorem met_X1_square_eq (l : Launch) (D : va_G) (d : ClassId) (Z : Nat → Prop) {o : Nat} {nr nc cp : Nat} {T : Nat → Nat → Int32} {P : List Tr} {x y : Nat → Int32} (hsq : nr = nc) : Met l yX1_square (ws_ yX1_square cX1_square 4 (some .int)) rmSq (pc_ [.ref o] D d (RSok D d Z o nr nc cp T P x y)) (va_Qi (fun v (_ : Unit) => v = if of_ (sqT T nc) nc nr ≤ cp then nI (of_ (sqT T nc) nc nr) else -1) (fun (_ : Unit) t9 => RSok D d Z o nr nc cp (if of_ (sqT T nc) nc nr ≤ cp then sqT T nc else T) P x y t9.heap) (Z)) 0 0 (Z) := by
  refine mt_ofW (own := RX1) rfl (by decide) (Nat.le_of_ble_eq_true rfl) (fun p e s m below meth c C hnm hX ls hl => ?_)
  obtain ⟨hx, hb, -⟩ := C.1
  have hl : lv_has ls 4 [(0, .ref o)] := hl
  obtain ⟨ad, sc, F, hP, hD, hI⟩ := hX
  obtain ⟨⟨i1, i2, i3, i4, i5, i6⟩, hc, htot, hpl, hhd, hpr, hxx, hyy⟩ := id hI
  have hw : Wd D Z s.heap [cO o 0 [.int (nI cp), .ref (ad 1), .ref (ad 5), .ref (ad 9), .ref (ad 13), .ref (ad 17), .ref (ad 21), .ref (ad 22), .ref (ad 23), .ref (ad 24)], cO (ad 1) 1 [.ref (ad 2), .ref (ad 3), .ref (ad 4), .int (nI nr), .int (nI nc)], cA d (ad 2) 61 (F 2), cA d (ad 3) 1000 (F 3), cA d (ad 4) 1000 (F 4), cO (ad 5) 1 [.ref (ad 6), .ref (ad 7), .ref (ad 8), .int (sc 1), .int (sc 2)], cA d (ad 6) 61 (F 6), cA d (ad 7) 1000 (F 7), cA d (ad 8) 1000 (F 8), cO (ad 9) 2 [.ref (ad 10), .ref (ad 11), .ref (ad 12), .int (nI P.length)], cA d (ad 10) 2000 (F 10), cA d (ad 11) 2000 (F 11), cA d (ad 12) 2000 (F 12), cO (ad 13) 2 [.ref (ad 14), .ref (ad 15), .ref (ad 16), .int (sc 3)], cA d (ad 14) 2000 (F 14), cA d (ad 15) 2000 (F 15), cA d (ad 16) 2000 (F 16), cO (ad 17) 2 [.ref (ad 18), .ref (ad 19), .ref (ad 20), .int (sc 4)], cA d (ad 18) 2000 (F 18), cA d (ad 19) 2000 (F 19), cA d (ad 20) 2000 (F 20), cA d (ad 21) 61 (F 21), cA d (ad 22) 60 (F 22), cA d (ad 23) 60 (F 23), cA d (ad 24) 60 (F 24)] s.heap [] := ⟨hP, hD, va_S.rf⟩
  refine lv_aload_n hx hb dX1_square_0 rfl (lv_at hl 0 rfl) ?_
  refine g_X1_12 C hw 0 rfl rfl dX1_square_1 ?_
  refine g_X1_62 C hw 1 rfl rfl dX1_square_4 ?_
  refine lv_aload_n hx hb dX1_square_7 rfl (lv_at hl 0 rfl) ?_
  refine g_X1_12 C hw 0 rfl rfl dX1_square_8 ?_
  refine g_X1_69 C hw 1 rfl rfl dX1_square_11 ?_
  refine w_icmp_eq C (tgt := 20) (by omega) (by omega) dX1_square_14 (by decide) (fun c1 => ?_) (fun c1 => ?_)
  · refine lv_aload_n hx hb dX1_square_20 rfl (lv_at hl 0 rfl) ?_
    refine g_X1_16 C hw 0 rfl rfl dX1_square_21 ?_
    refine lv_aload_n hx hb dX1_square_24 rfl (lv_at hl 0 rfl) ?_
    refine g_X1_12 C hw 0 rfl rfl dX1_square_25 ?_
    refine g_X1_62 C hw 1 rfl rfl dX1_square_28 ?_
    refine lv_aload_n hx hb dX1_square_31 rfl (lv_at hl 0 rfl) ?_
    refine g_X1_12 C hw 0 rfl rfl dX1_square_32 ?_
    refine g_X1_69 C hw 1 rfl rfl dX1_square_35 ?_
    refine c_wVv (As := [.int (nI nr), .int (nI nc)]) (rest := []) C hw [5, 6] (met_be l D d (nI nr) (nI nc)) (by decide) rfl (fun _ => rfl) (cwV 2 C.1.2.2.2.2 (lw_V q78 q79 q80 q9 q81) rfl rfl rfl (by decide +kernel) ⟨Nat.le_of_ble_eq_true rfl, Nat.le_of_ble_eq_true rfl⟩) (va_recv C.2.1.1 hw.1 (ci := 1) (q0 := 5) rfl rfl) rfl hl.1 rfl (Nat.le_of_ble_eq_true rfl) dX1_square_38 ⟨Nat.le_of_ble_eq_true rfl, Nat.le_of_ble_eq_true rfl⟩ (fun st H locs hbe hw => ?_)
    have hw : Wd D Z s.heap [cO o 0 [.int (nI cp), .ref (ad 1), .ref (ad 5), .ref (ad 9), .ref (ad 13), .ref (ad 17), .ref (ad 21), .ref (ad 22), .ref (ad 23), .ref (ad 24)], cO (ad 1) 1 [.ref (ad 2), .ref (ad 3), .ref (ad 4), .int (nI nr), .int (nI nc)], cA d (ad 2) 61 (F 2), cA d (ad 3) 1000 (F 3), cA d (ad 4) 1000 (F 4), cO (ad 5) 1 [.ref (ad 6), .ref (ad 7), .ref (ad 8), .int (nI nr), .int (nI nc)], cA d (ad 6) 61 st, cA d (ad 7) 1000 (F 7), cA d (ad 8) 1000 (F 8), cO (ad 9) 2 [.ref (ad 10), .ref (ad 11), .ref (ad 12), .int (nI P.length)], cA d (ad 10) 2000 (F 10), cA d (ad 11) 2000 (F 11), cA d (ad 12) 2000 (F 12), cO (ad 13) 2 [.ref (ad 14), .ref (ad 15), .ref (ad 16), .int (sc 3)], cA d (ad 14) 2000 (F 14), cA d (ad 15) 2000 (F 15), cA d (ad 16) 2000 (F 16), cO (ad 17) 2 [.ref (ad 18), .ref (ad 19), .ref (ad 20), .int (sc 4)], cA d (ad 18) 2000 (F 18), cA d (ad 19) 2000 (F 19), cA d (ad 20) 2000 (F 20), cA d (ad 21) 61 (F 21), cA d (ad 22) 60 (F 22), cA d (ad 23) 60 (F 23), cA d (ad 24) 60 (F 24)] H locs := hw
    refine lv_iconst (v := nI 0) hx hb dX1_square_41 (by decide) ?_
    refine lv_istore_n (lv' := [(1, .int (nI 0)), (0, .ref o)]) hx hb dX1_square_42 rfl hl (by decide) rfl (fun ls hl => ?_)
    refine lv_iconst (v := nI 0) hx hb dX1_square_43 (by decide) ?_
    refine lv_istore_n (lv' := [(2, .int (nI 0)), (1, .int (nI 0)), (0, .ref o)]) hx hb dX1_square_44 rfl hl (by decide) rfl (fun ls hl => ?_)
    refine lp_sq2 (T := T) (P := P) C rfl hc i2 i4 hsq (by omega) i6 (fun st co va su H locs ls h6 h7 hw hl => ?_) (fun st co va su H locs ls h6 hw => ?_) (nr + 1) 0 st (F 7) (F 8) (F 24) H locs ls (by omega) (by omega) (bld_0 hbe) (by show 0 ≤ cp; omega) hw (lv_sub hl [2, 1, 0] rfl)
    · refine lv_aload_n hx hb dX1_square_137 rfl (lv_at hl 0 rfl) ?_
      refine c_wVi (As := []) (rest := []) C hw [0, 5, 6] (met_X1_turns l D d (kr := nr) i2) (by decide) rfl (fun _ => rfl) (cwV 0 C.1.2.2.2.2 (lw_V q140 q142 qs1 q8 q143) rfl rfl rfl (by decide +kernel) ⟨Nat.le_of_ble_eq_true rfl, Nat.le_of_ble_eq_true rfl⟩) (va_recv C.2.1.1 hw.1 (ci := 0) (q0 := 0) rfl rfl) rfl hl.1 rfl (Nat.le_of_ble_eq_true rfl) dX1_square_138 ⟨Nat.le_of_ble_eq_true rfl, Nat.le_of_ble_eq_true rfl⟩ (fun r u H locs hr hw => ?_)
      have hw : Wd D Z s.heap [cO o 0 [.int (nI cp), .ref (ad 5), .ref (ad 1), .ref (ad 9), .ref (ad 13), .ref (ad 17), .ref (ad 21), .ref (ad 22), .ref (ad 23), .ref (ad 24)], cO (ad 1) 1 [.ref (ad 2), .ref (ad 3), .ref (ad 4), .int (nI nr), .int (nI nc)], cA d (ad 2) 61 (F 2), cA d (ad 3) 1000 (F 3), cA d (ad 4) 1000 (F 4), cO (ad 5) 1 [.ref (ad 6), .ref (ad 7), .ref (ad 8), .int (nI nr), .int (nI nc)], cA d (ad 6) 61 st, cA d (ad 7) 1000 co, cA d (ad 8) 1000 va, cO (ad 9) 2 [.ref (ad 10), .ref (ad 11), .ref (ad 12), .int (nI P.length)], cA d (ad 10) 2000 (F 10), cA d (ad 11) 2000 (F 11), cA d (ad 12) 2000 (F 12), cO (ad 13) 2 [.ref (ad 14), .ref (ad 15), .ref (ad 16), .int (sc 3)], cA d (ad 14) 2000 (F 14), cA d (ad 15) 2000 (F 15), cA d (ad 16) 2000 (F 16), cO (ad 17) 2 [.ref (ad 18), .ref (ad 19), .ref (ad 20), .int (sc 4)], cA d (ad 18) 2000 (F 18), cA d (ad 19) 2000 (F 19), cA d (ad 20) 2000 (F 20), cA d (ad 21) 61 (F 21), cA d (ad 22) 60 (F 22), cA d (ad 23) 60 (F 23), cA d (ad 24) 60 su] H locs := hw
      rw [(bld_csr h6).1 nr (Nat.le_refl _)] at hr
      refine mu_iret (Y := fun _ h => RSok D d Z o nr nc cp (if of_ (sqT T nc) nc nr ≤ cp then sqT T nc else T) P x y h) C hw.2.2 () (by rw [if_pos h7]; exact hr) ?_ dX1_square_141
      rw [if_pos h7]
      have hw : Wd D Z s.heap [cO o 0 [.int (nI cp), .ref (ad 5), .ref (ad 1), .ref (ad 9), .ref (ad 13), .ref (ad 17), .ref (ad 21), .ref (ad 22), .ref (ad 23), .ref (ad 24)], cO (ad 5) 1 [.ref (ad 6), .ref (ad 7), .ref (ad 8), .int (nI nr), .int (nI nc)], cA d (ad 6) 61 st, cA d (ad 7) 1000 co, cA d (ad 8) 1000 va, cO (ad 1) 1 [.ref (ad 2), .ref (ad 3), .ref (ad 4), .int (nI nr), .int (nI nc)], cA d (ad 2) 61 (F 2), cA d (ad 3) 1000 (F 3), cA d (ad 4) 1000 (F 4), cO (ad 9) 2 [.ref (ad 10), .ref (ad 11), .ref (ad 12), .int (nI P.length)], cA d (ad 10) 2000 (F 10), cA d (ad 11) 2000 (F 11), cA d (ad 12) 2000 (F 12), cO (ad 13) 2 [.ref (ad 14), .ref (ad 15), .ref (ad 16), .int (sc 3)], cA d (ad 14) 2000 (F 14), cA d (ad 15) 2000 (F 15), cA d (ad 16) 2000 (F 16), cO (ad 17) 2 [.ref (ad 18), .ref (ad 19), .ref (ad 20), .int (sc 4)], cA d (ad 18) 2000 (F 18), cA d (ad 19) 2000 (F 19), cA d (ad 20) 2000 (F 20), cA d (ad 21) 61 (F 21), cA d (ad 22) 60 (F 22), cA d (ad 23) 60 (F 23), cA d (ad 24) 60 su] H locs := w_perm hw [0, 5, 6, 7, 8, 1, 2, 3, 4, 9, 10, 11, 12, 13, 14, 15, 16, 17, 18, 19, 20, 21, 22, 23, 24] (by decide) rfl
      exact rs_mk hw.1 hw.2.1 ⟨⟨i1, i2, i3, i4, i5, i6⟩, bld_csr h6, h7, hpl, hhd, hpr, hxx, hyy⟩
    · refine lv_iconst (v := (-1)) hx hb dX1_square_108 (by decide) ?_
      have h9 : ¬ of_ (sqT T nc) nc nr ≤ cp := by omega
      refine mu_iret (Y := fun _ h => RSok D d Z o nr nc cp (if of_ (sqT T nc) nc nr ≤ cp then sqT T nc else T) P x y h) C hw.2.2 () (by rw [if_neg h9]) ?_ dX1_square_109
      rw [if_neg h9]
      exact rs_mk hw.1 hw.2.1 hI
  · exact absurd hsq c1

section TP
variable {p : Program} {l : Launch} {e : Env} {R : Room} {s : State} {m : MethodId} {args : Array Value} {below : List Frame} {meth : Method} {c : Code} {Q : State → Prop}
variable {D : va_G} {d : ClassId} {A : Nat → Prop} {H0 : Heap} {ret : Option FieldType}
set_option maxHeartbeats 4000000 in
set_option maxRecDepth 100000 in
theorem lp_tr1a {o nr nc cp : Nat} {T : Nat → Nat → Int32} {P : List Tr} {ad : Nat → Nat} {sc : Nat → Int32} {F : Nat → Nat → Int32} {i : Nat} (C : Cx p s m args meth c cX1_transpose 5 RX1 ret D d) (hc : Csr (F 2) (F 3) (F 4) nr nc T) (hnr : nr ≤ 60) (hnc : nc ≤ 60) (htot : of_ T nc nr ≤ 1000) (hi : i < nr) (K : ∀ (st : Nat → Int32) (H : Heap) (locs : List Loc) (ls : Array Slot), Tu1 st T nc (i + 1) 0 → Wd D A H0 [cO o 0 [.int (nI cp), .ref (ad 1), .ref (ad 5), .ref (ad 9), .ref (ad 13), .ref (ad 17), .ref (ad 21), .ref (ad 22), .ref (ad 23), .ref (ad 24)], cO (ad 1) 1 [.ref (ad 2), .ref (ad 3), .ref (ad 4), .int (nI nr), .int (nI nc)], cA d (ad 2) 61 (F 2), cA d (ad 3) 1000 (F 3), cA d (ad 4) 1000 (F 4), cO (ad 5) 1 [.ref (ad 6), .ref (ad 7), .ref (ad 8), .int (nI nc), .int (nI nr)], cA d (ad 6) 61 st, cA d (ad 7) 1000 (F 7), cA d (ad 8) 1000 (F 8), cO (ad 9) 2 [.ref (ad 10), .ref (ad 11), .ref (ad 12), .int (nI P.length)], cA d (ad 10) 2000 (F 10), cA d (ad 11) 2000 (F 11), cA d (ad 12) 2000 (F 12), cO (ad 13) 2 [.ref (ad 14), .ref (ad 15), .ref (ad 16), .int (sc 3)], cA d (ad 14) 2000 (F 14), cA d (ad 15) 2000 (F 15), cA d (ad 16) 2000 (F 16), cO (ad 17) 2 [.ref (ad 18), .ref (ad 19), .ref (ad 20), .int (sc 4)], cA d (ad 18) 2000 (F 18), cA d (ad 19) 2000 (F 19), cA d (ad 20) 2000 (F 20), cA d (ad 21) 61 (F 21), cA d (ad 22) 60 (F 22), cA d (ad 23) 60 (F 23), cA d (ad 24) 60 (F 24)] H locs → lv_has ls 5 [(0, .ref o), (1, .int (nI (of_ T nc nr))), (2, .int (nI (of_ T nc (i + 1))))] → W p l e rmSq s m args below meth c H locs 0 0 Q (F0 m 43 ls [])) :
    ∀ (n j : Nat) (st : Nat → Int32) (H : Heap) (locs : List Loc) (ls : Array Slot), j ≤ nc → nc < j + n → Tu1 st T nc i j → Wd D A H0 [cO o 0 [.int (nI cp), .ref (ad 1), .ref (ad 5), .ref (ad 9), .ref (ad 13), .ref (ad 17), .ref (ad 21), .ref (ad 22), .ref (ad 23), .ref (ad 24)], cO (ad 1) 1 [.ref (ad 2), .ref (ad 3), .ref (ad 4), .int (nI nr), .int (nI nc)], cA d (ad 2) 61 (F 2), cA d (ad 3) 1000 (F 3), cA d (ad 4) 1000 (F 4), cO (ad 5) 1 [.ref (ad 6), .ref (ad 7), .ref (ad 8), .int (nI nc), .int (nI nr)], cA d (ad 6) 61 st, cA d (ad 7) 1000 (F 7), cA d (ad 8) 1000 (F 8), cO (ad 9) 2 [.ref (ad 10), .ref (ad 11), .ref (ad 12), .int (nI P.length)], cA d (ad 10) 2000 (F 10), cA d (ad 11) 2000 (F 11), cA d (ad 12) 2000 (F 12), cO (ad 13) 2 [.ref (ad 14), .ref (ad 15), .ref (ad 16), .int (sc 3)], cA d (ad 14) 2000 (F 14), cA d (ad 15) 2000 (F 15), cA d (ad 16) 2000 (F 16), cO (ad 17) 2 [.ref (ad 18), .ref (ad 19), .ref (ad 20), .int (sc 4)], cA d (ad 18) 2000 (F 18), cA d (ad 19) 2000 (F 19), cA d (ad 20) 2000 (F 20), cA d (ad 21) 61 (F 21), cA d (ad 22) 60 (F 22), cA d (ad 23) 60 (F 23), cA d (ad 24) 60 (F 24)] H locs → lv_has ls 5 [(0, .ref o), (1, .int (nI (of_ T nc nr))), (2, .int (nI (of_ T nc i + rk_ T i j)))] → W p l e rmSq s m args below meth c H locs 0 0 Q (F0 m 43 ls []) := by
  obtain ⟨hx, hb, -⟩ := C.1
  intro n
  induction n with
  | zero => intro j st H locs ls h1 h2; omega
  | succ n ih =>
    intro j st H locs ls h1 h2 h3 hw hl
    by_cases hj : j = nc
    · rw [hj] at h3 hl
      exact K st H locs ls (tu1_r h3) hw hl
    · by_cases hz : T i j = 0
      · exact ih (j + 1) st H locs ls (by omega) (by omega) (tu1_z hz h3) hw (by rw [rk_z hz]; exact hl)
      · have h9 := pos_lt (T := T) (c := nc) hi (by omega : j < nc) hz
        refine lv_iload_n hx hb dX1_transpose_43 rfl (lv_at hl 2 rfl) ?_
        refine lv_iload_n hx hb dX1_transpose_44 rfl (lv_at hl 1 rfl) ?_
        refine w_icmp_ge C (tgt := 77) (by omega) (by omega) dX1_transpose_45 (by decide) (fun c1 => ?_) (fun c1 => ?_)
        · omega
        · refine lv_aload_n hx hb dX1_transpose_48 rfl (lv_at hl 0 rfl) ?_
          refine g_X1_16 C hw 0 rfl rfl dX1_transpose_49 ?_
          refine g_X1_82 C hw 5 rfl rfl dX1_transpose_52 ?_
          refine lv_aload_n hx hb dX1_transpose_55 rfl (lv_at hl 0 rfl) ?_
          refine g_X1_12 C hw 0 rfl rfl dX1_transpose_56 ?_
          refine g_X1_85 C hw 1 rfl rfl dX1_transpose_59 ?_
          refine lv_iload_n hx hb dX1_transpose_62 rfl (lv_at hl 2 rfl) ?_
          refine w_iald C hw 3 rfl (by omega) dX1_transpose_63 ?_
          refine w_top (y := nI j) ((hc.2 i j hi (by omega) hz).1) ?_
          refine lv_iconst (v := nI 1) hx hb dX1_transpose_64 (by decide) ?_
          refine w_iadd C dX1_transpose_65 ?_
          refine lv_dup2_11 hx hb dX1_transpose_66 rfl rfl ?_
          refine w_iald C hw 6 rfl (by omega) dX1_transpose_67 ?_
          refine lv_iconst (v := nI 1) hx hb dX1_transpose_68 (by decide) ?_
          refine lv_iadd hx hb dX1_transpose_69 ?_
          refine w_iast C hw 6 rfl (by omega) dX1_transpose_70 (fun H locs hw => ?_)
          have hw : Wd D A H0 [cO o 0 [.int (nI cp), .ref (ad 1), .ref (ad 5), .ref (ad 9), .ref (ad 13), .ref (ad 17), .ref (ad 21), .ref (ad 22), .ref (ad 23), .ref (ad 24)], cO (ad 1) 1 [.ref (ad 2), .ref (ad 3), .ref (ad 4), .int (nI nr), .int (nI nc)], cA d (ad 2) 61 (F 2), cA d (ad 3) 1000 (F 3), cA d (ad 4) 1000 (F 4), cO (ad 5) 1 [.ref (ad 6), .ref (ad 7), .ref (ad 8), .int (nI nc), .int (nI nr)], cA d (ad 6) 61 (upd st (j + 1) ((st (j + 1)) + (nI 1))), cA d (ad 7) 1000 (F 7), cA d (ad 8) 1000 (F 8), cO (ad 9) 2 [.ref (ad 10), .ref (ad 11), .ref (ad 12), .int (nI P.length)], cA d (ad 10) 2000 (F 10), cA d (ad 11) 2000 (F 11), cA d (ad 12) 2000 (F 12), cO (ad 13) 2 [.ref (ad 14), .ref (ad 15), .ref (ad 16), .int (sc 3)], cA d (ad 14) 2000 (F 14), cA d (ad 15) 2000 (F 15), cA d (ad 16) 2000 (F 16), cO (ad 17) 2 [.ref (ad 18), .ref (ad 19), .ref (ad 20), .int (sc 4)], cA d (ad 18) 2000 (F 18), cA d (ad 19) 2000 (F 19), cA d (ad 20) 2000 (F 20), cA d (ad 21) 61 (F 21), cA d (ad 22) 60 (F 22), cA d (ad 23) 60 (F 23), cA d (ad 24) 60 (F 24)] H locs := hw
          refine lv_iinc (v := nI (of_ T nc i + rk_ T i j + 1)) (lv' := [(2, .int (nI (of_ T nc i + rk_ T i j + 1))), (0, .ref o), (1, .int (nI (of_ T nc nr)))]) hx hb dX1_transpose_71 hl (k := 2) rfl (nI_1 _) (by decide) rfl (fun ls hl => ?_)
          refine lv_goto (tgt := 43) hx hb dX1_transpose_74 (by decide) ?_
          exact ih (j + 1) _ H locs ls (by omega) (by omega) (tu1_s hz (by omega) h3) hw (by rw [rk_s hz]; exact (lv_sub hl [1, 2, 0] rfl))

set_option maxHeartbeats 4000000 in
set_option maxRecDepth 100000 in
theorem lp_tr1 {o nr nc cp : Nat} {T : Nat → Nat → Int32} {P : List Tr} {ad : Nat → Nat} {sc : Nat → Int32} {F : Nat → Nat → Int32} (C : Cx p s m args meth c cX1_transpose 5 RX1 ret D d) (hc : Csr (F 2) (F 3) (F 4) nr nc T) (hnr : nr ≤ 60) (hnc : nc ≤ 60) (htot : of_ T nc nr ≤ 1000) (K : ∀ (st : Nat → Int32) (H : Heap) (locs : List Loc) (ls : Array Slot), Tu1 st T nc nr 0 → Wd D A H0 [cO o 0 [.int (nI cp), .ref (ad 1), .ref (ad 5), .ref (ad 9), .ref (ad 13), .ref (ad 17), .ref (ad 21), .ref (ad 22), .ref (ad 23), .ref (ad 24)], cO (ad 1) 1 [.ref (ad 2), .ref (ad 3), .ref (ad 4), .int (nI nr), .int (nI nc)], cA d (ad 2) 61 (F 2), cA d (ad 3) 1000 (F 3), cA d (ad 4) 1000 (F 4), cO (ad 5) 1 [.ref (ad 6), .ref (ad 7), .ref (ad 8), .int (nI nc), .int (nI nr)], cA d (ad 6) 61 st, cA d (ad 7) 1000 (F 7), cA d (ad 8) 1000 (F 8), cO (ad 9) 2 [.ref (ad 10), .ref (ad 11), .ref (ad 12), .int (nI P.length)], cA d (ad 10) 2000 (F 10), cA d (ad 11) 2000 (F 11), cA d (ad 12) 2000 (F 12), cO (ad 13) 2 [.ref (ad 14), .ref (ad 15), .ref (ad 16), .int (sc 3)], cA d (ad 14) 2000 (F 14), cA d (ad 15) 2000 (F 15), cA d (ad 16) 2000 (F 16), cO (ad 17) 2 [.ref (ad 18), .ref (ad 19), .ref (ad 20), .int (sc 4)], cA d (ad 18) 2000 (F 18), cA d (ad 19) 2000 (F 19), cA d (ad 20) 2000 (F 20), cA d (ad 21) 61 (F 21), cA d (ad 22) 60 (F 22), cA d (ad 23) 60 (F 23), cA d (ad 24) 60 (F 24)] H locs → lv_has ls 5 [(0, .ref o)] → W p l e rmSq s m args below meth c H locs 0 0 Q (F0 m 77 ls [])) :
    ∀ (n i : Nat) (st : Nat → Int32) (H : Heap) (locs : List Loc) (ls : Array Slot), i ≤ nr → nr < i + n → Tu1 st T nc i 0 → Wd D A H0 [cO o 0 [.int (nI cp), .ref (ad 1), .ref (ad 5), .ref (ad 9), .ref (ad 13), .ref (ad 17), .ref (ad 21), .ref (ad 22), .ref (ad 23), .ref (ad 24)], cO (ad 1) 1 [.ref (ad 2), .ref (ad 3), .ref (ad 4), .int (nI nr), .int (nI nc)], cA d (ad 2) 61 (F 2), cA d (ad 3) 1000 (F 3), cA d (ad 4) 1000 (F 4), cO (ad 5) 1 [.ref (ad 6), .ref (ad 7), .ref (ad 8), .int (nI nc), .int (nI nr)], cA d (ad 6) 61 st, cA d (ad 7) 1000 (F 7), cA d (ad 8) 1000 (F 8), cO (ad 9) 2 [.ref (ad 10), .ref (ad 11), .ref (ad 12), .int (nI P.length)], cA d (ad 10) 2000 (F 10), cA d (ad 11) 2000 (F 11), cA d (ad 12) 2000 (F 12), cO (ad 13) 2 [.ref (ad 14), .ref (ad 15), .ref (ad 16), .int (sc 3)], cA d (ad 14) 2000 (F 14), cA d (ad 15) 2000 (F 15), cA d (ad 16) 2000 (F 16), cO (ad 17) 2 [.ref (ad 18), .ref (ad 19), .ref (ad 20), .int (sc 4)], cA d (ad 18) 2000 (F 18), cA d (ad 19) 2000 (F 19), cA d (ad 20) 2000 (F 20), cA d (ad 21) 61 (F 21), cA d (ad 22) 60 (F 22), cA d (ad 23) 60 (F 23), cA d (ad 24) 60 (F 24)] H locs → lv_has ls 5 [(0, .ref o), (1, .int (nI (of_ T nc nr))), (2, .int (nI (of_ T nc i)))] → W p l e rmSq s m args below meth c H locs 0 0 Q (F0 m 43 ls []) := by
  obtain ⟨hx, hb, -⟩ := C.1
  intro n
  induction n with
  | zero => intro i st H locs ls h1 h2; omega
  | succ n ih =>
    intro i st H locs ls h1 h2 h3 hw hl
    by_cases hi : i = nr
    · rw [hi] at h3 hl
      refine lv_iload_n hx hb dX1_transpose_43 rfl (lv_at hl 2 rfl) ?_
      refine lv_iload_n hx hb dX1_transpose_44 rfl (lv_at hl 1 rfl) ?_
      refine w_icmp_ge C (tgt := 77) (by omega) (by omega) dX1_transpose_45 (by decide) (fun c1 => ?_) (fun c1 => ?_)
      · exact K st H locs ls h3 hw (lv_sub hl [0] rfl)
      · omega
    · exact lp_tr1a C hc hnr hnc htot (by omega) (fun st H locs ls h5 hw hl => ih (i + 1) st H locs ls (by omega) (by omega) h5 hw hl) (nc + 1) 0 st H locs ls (by omega) (by omega) h3 hw hl

set_option maxHeartbeats 4000000 in
set_option maxRecDepth 100000 in
theorem lp_tr2 {o nr nc cp : Nat} {T : Nat → Nat → Int32} {P : List Tr} {ad : Nat → Nat} {sc : Nat → Int32} {F : Nat → Nat → Int32} (C : Cx p s m args meth c cX1_transpose 5 RX1 ret D d) (hnr : nr ≤ 60) (hnc : nc ≤ 60) (K : ∀ (st : Nat → Int32) (H : Heap) (locs : List Loc) (ls : Array Slot), Tu2 st T nr nc nc → Wd D A H0 [cO o 0 [.int (nI cp), .ref (ad 1), .ref (ad 5), .ref (ad 9), .ref (ad 13), .ref (ad 17), .ref (ad 21), .ref (ad 22), .ref (ad 23), .ref (ad 24)], cO (ad 1) 1 [.ref (ad 2), .ref (ad 3), .ref (ad 4), .int (nI nr), .int (nI nc)], cA d (ad 2) 61 (F 2), cA d (ad 3) 1000 (F 3), cA d (ad 4) 1000 (F 4), cO (ad 5) 1 [.ref (ad 6), .ref (ad 7), .ref (ad 8), .int (nI nc), .int (nI nr)], cA d (ad 6) 61 st, cA d (ad 7) 1000 (F 7), cA d (ad 8) 1000 (F 8), cO (ad 9) 2 [.ref (ad 10), .ref (ad 11), .ref (ad 12), .int (nI P.length)], cA d (ad 10) 2000 (F 10), cA d (ad 11) 2000 (F 11), cA d (ad 12) 2000 (F 12), cO (ad 13) 2 [.ref (ad 14), .ref (ad 15), .ref (ad 16), .int (sc 3)], cA d (ad 14) 2000 (F 14), cA d (ad 15) 2000 (F 15), cA d (ad 16) 2000 (F 16), cO (ad 17) 2 [.ref (ad 18), .ref (ad 19), .ref (ad 20), .int (sc 4)], cA d (ad 18) 2000 (F 18), cA d (ad 19) 2000 (F 19), cA d (ad 20) 2000 (F 20), cA d (ad 21) 61 (F 21), cA d (ad 22) 60 (F 22), cA d (ad 23) 60 (F 23), cA d (ad 24) 60 (F 24)] H locs → lv_has ls 5 [(0, .ref o)] → W p l e rmSq s m args below meth c H locs 0 0 Q (F0 m 119 ls [])) :
    ∀ (n i : Nat) (st : Nat → Int32) (H : Heap) (locs : List Loc) (ls : Array Slot), i ≤ nc → nc < i + n → Tu2 st T nr nc i → Wd D A H0 [cO o 0 [.int (nI cp), .ref (ad 1), .ref (ad 5), .ref (ad 9), .ref (ad 13), .ref (ad 17), .ref (ad 21), .ref (ad 22), .ref (ad 23), .ref (ad 24)], cO (ad 1) 1 [.ref (ad 2), .ref (ad 3), .ref (ad 4), .int (nI nr), .int (nI nc)], cA d (ad 2) 61 (F 2), cA d (ad 3) 1000 (F 3), cA d (ad 4) 1000 (F 4), cO (ad 5) 1 [.ref (ad 6), .ref (ad 7), .ref (ad 8), .int (nI nc), .int (nI nr)], cA d (ad 6) 61 st, cA d (ad 7) 1000 (F 7), cA d (ad 8) 1000 (F 8), cO (ad 9) 2 [.ref (ad 10), .ref (ad 11), .ref (ad 12), .int (nI P.length)], cA d (ad 10) 2000 (F 10), cA d (ad 11) 2000 (F 11), cA d (ad 12) 2000 (F 12), cO (ad 13) 2 [.ref (ad 14), .ref (ad 15), .ref (ad 16), .int (sc 3)], cA d (ad 14) 2000 (F 14), cA d (ad 15) 2000 (F 15), cA d (ad 16) 2000 (F 16), cO (ad 17) 2 [.ref (ad 18), .ref (ad 19), .ref (ad 20), .int (sc 4)], cA d (ad 18) 2000 (F 18), cA d (ad 19) 2000 (F 19), cA d (ad 20) 2000 (F 20), cA d (ad 21) 61 (F 21), cA d (ad 22) 60 (F 22), cA d (ad 23) 60 (F 23), cA d (ad 24) 60 (F 24)] H locs → lv_has ls 5 [(0, .ref o), (2, .int (nI i))] → W p l e rmSq s m args below meth c H locs 0 0 Q (F0 m 79 ls []) := by
  obtain ⟨hx, hb, -⟩ := C.1
  intro n
  induction n with
  | zero => intro i st H locs ls h1 h2; omega
  | succ n ih =>
    intro i st H locs ls h1 h2 h3 hw hl
    refine lv_iload_n hx hb dX1_transpose_79 rfl (lv_at hl 1 rfl) ?_
    refine lv_aload_n hx hb dX1_transpose_80 rfl (lv_at hl 0 rfl) ?_
    refine g_X1_16 C hw 0 rfl rfl dX1_transpose_81 ?_
    refine g_X1_62 C hw 5 rfl rfl dX1_transpose_84 ?_
    refine w_icmp_ge C (tgt := 119) (by omega) (by omega) dX1_transpose_87 (by decide) (fun c1 => ?_) (fun c1 => ?_)
    · have hi : i = nc := by omega
      rw [hi] at h3
      exact K st H locs ls h3 hw (lv_sub hl [0] rfl)
    · refine lv_aload_n hx hb dX1_transpose_90 rfl (lv_at hl 0 rfl) ?_
      refine g_X1_16 C hw 0 rfl rfl dX1_transpose_91 ?_
      refine g_X1_82 C hw 5 rfl rfl dX1_transpose_94 ?_
      refine lv_iload_n hx hb dX1_transpose_97 rfl (lv_at hl 1 rfl) ?_
      refine lv_iconst (v := nI 1) hx hb dX1_transpose_98 (by decide) ?_
      refine w_iadd C dX1_transpose_99 ?_
      refine lv_dup2_11 hx hb dX1_transpose_100 rfl rfl ?_
      refine w_iald C hw 6 rfl (by omega) dX1_transpose_101 ?_
      refine lv_aload_n hx hb dX1_transpose_102 rfl (lv_at hl 0 rfl) ?_
      refine g_X1_16 C hw 0 rfl rfl dX1_transpose_103 ?_
      refine g_X1_82 C hw 5 rfl rfl dX1_transpose_106 ?_
      refine lv_iload_n hx hb dX1_transpose_109 rfl (lv_at hl 1 rfl) ?_
      refine w_iald C hw 6 rfl (by omega) dX1_transpose_110 ?_
      refine lv_iadd hx hb dX1_transpose_111 ?_
      refine w_iast C hw 6 rfl (by omega) dX1_transpose_112 (fun H locs hw => ?_)
      have hw : Wd D A H0 [cO o 0 [.int (nI cp), .ref (ad 1), .ref (ad 5), .ref (ad 9), .ref (ad 13), .ref (ad 17), .ref (ad 21), .ref (ad 22), .ref (ad 23), .ref (ad 24)], cO (ad 1) 1 [.ref (ad 2), .ref (ad 3), .ref (ad 4), .int (nI nr), .int (nI nc)], cA d (ad 2) 61 (F 2), cA d (ad 3) 1000 (F 3), cA d (ad 4) 1000 (F 4), cO (ad 5) 1 [.ref (ad 6), .ref (ad 7), .ref (ad 8), .int (nI nc), .int (nI nr)], cA d (ad 6) 61 (upd st (i + 1) ((st (i + 1)) + (st i))), cA d (ad 7) 1000 (F 7), cA d (ad 8) 1000 (F 8), cO (ad 9) 2 [.ref (ad 10), .ref (ad 11), .ref (ad 12), .int (nI P.length)], cA d (ad 10) 2000 (F 10), cA d (ad 11) 2000 (F 11), cA d (ad 12) 2000 (F 12), cO (ad 13) 2 [.ref (ad 14), .ref (ad 15), .ref (ad 16), .int (sc 3)], cA d (ad 14) 2000 (F 14), cA d (ad 15) 2000 (F 15), cA d (ad 16) 2000 (F 16), cO (ad 17) 2 [.ref (ad 18), .ref (ad 19), .ref (ad 20), .int (sc 4)], cA d (ad 18) 2000 (F 18), cA d (ad 19) 2000 (F 19), cA d (ad 20) 2000 (F 20), cA d (ad 21) 61 (F 21), cA d (ad 22) 60 (F 22), cA d (ad 23) 60 (F 23), cA d (ad 24) 60 (F 24)] H locs := hw
      refine lv_iinc (v := nI (i + 1)) (lv' := [(2, .int (nI (i + 1))), (0, .ref o)]) hx hb dX1_transpose_113 hl (k := 1) rfl (nI_1 _) (by decide) rfl (fun ls hl => ?_)
      refine lv_goto (tgt := 79) hx hb dX1_transpose_116 (by decide) ?_
      exact ih (i + 1) _ H locs ls (by omega) (by omega) (tu2_s c1 h3) hw (lv_sub hl [1, 0] rfl)

set_option maxHeartbeats 4000000 in
set_option maxRecDepth 100000 in
theorem lp_tr3 {o nr nc cp : Nat} {T : Nat → Nat → Int32} {P : List Tr} {ad : Nat → Nat} {sc : Nat → Int32} {F : Nat → Nat → Int32} {st : Nat → Int32} (C : Cx p s m args meth c cX1_transpose 5 RX1 ret D d) (hnr : nr ≤ 60) (hnc : nc ≤ 60) (K : ∀ (ct : Nat → Int32) (H : Heap) (locs : List Loc) (ls : Array Slot), (∀ v, v < nc → ct v = st v) → Wd D A H0 [cO o 0 [.int (nI cp), .ref (ad 1), .ref (ad 5), .ref (ad 9), .ref (ad 13), .ref (ad 17), .ref (ad 21), .ref (ad 22), .ref (ad 23), .ref (ad 24)], cO (ad 1) 1 [.ref (ad 2), .ref (ad 3), .ref (ad 4), .int (nI nr), .int (nI nc)], cA d (ad 2) 61 (F 2), cA d (ad 3) 1000 (F 3), cA d (ad 4) 1000 (F 4), cO (ad 5) 1 [.ref (ad 6), .ref (ad 7), .ref (ad 8), .int (nI nc), .int (nI nr)], cA d (ad 6) 61 st, cA d (ad 7) 1000 (F 7), cA d (ad 8) 1000 (F 8), cO (ad 9) 2 [.ref (ad 10), .ref (ad 11), .ref (ad 12), .int (nI P.length)], cA d (ad 10) 2000 (F 10), cA d (ad 11) 2000 (F 11), cA d (ad 12) 2000 (F 12), cO (ad 13) 2 [.ref (ad 14), .ref (ad 15), .ref (ad 16), .int (sc 3)], cA d (ad 14) 2000 (F 14), cA d (ad 15) 2000 (F 15), cA d (ad 16) 2000 (F 16), cO (ad 17) 2 [.ref (ad 18), .ref (ad 19), .ref (ad 20), .int (sc 4)], cA d (ad 18) 2000 (F 18), cA d (ad 19) 2000 (F 19), cA d (ad 20) 2000 (F 20), cA d (ad 21) 61 ct, cA d (ad 22) 60 (F 22), cA d (ad 23) 60 (F 23), cA d (ad 24) 60 (F 24)] H locs → lv_has ls 5 [(0, .ref o)] → W p l e rmSq s m args below meth c H locs 0 0 Q (F0 m 153 ls [])) :
    ∀ (n i : Nat) (ct : Nat → Int32) (H : Heap) (locs : List Loc) (ls : Array Slot), i ≤ nc → nc < i + n → (∀ v, v < i → ct v = st v) → Wd D A H0 [cO o 0 [.int (nI cp), .ref (ad 1), .ref (ad 5), .ref (ad 9), .ref (ad 13), .ref (ad 17), .ref (ad 21), .ref (ad 22), .ref (ad 23), .ref (ad 24)], cO (ad 1) 1 [.ref (ad 2), .ref (ad 3), .ref (ad 4), .int (nI nr), .int (nI nc)], cA d (ad 2) 61 (F 2), cA d (ad 3) 1000 (F 3), cA d (ad 4) 1000 (F 4), cO (ad 5) 1 [.ref (ad 6), .ref (ad 7), .ref (ad 8), .int (nI nc), .int (nI nr)], cA d (ad 6) 61 st, cA d (ad 7) 1000 (F 7), cA d (ad 8) 1000 (F 8), cO (ad 9) 2 [.ref (ad 10), .ref (ad 11), .ref (ad 12), .int (nI P.length)], cA d (ad 10) 2000 (F 10), cA d (ad 11) 2000 (F 11), cA d (ad 12) 2000 (F 12), cO (ad 13) 2 [.ref (ad 14), .ref (ad 15), .ref (ad 16), .int (sc 3)], cA d (ad 14) 2000 (F 14), cA d (ad 15) 2000 (F 15), cA d (ad 16) 2000 (F 16), cO (ad 17) 2 [.ref (ad 18), .ref (ad 19), .ref (ad 20), .int (sc 4)], cA d (ad 18) 2000 (F 18), cA d (ad 19) 2000 (F 19), cA d (ad 20) 2000 (F 20), cA d (ad 21) 61 ct, cA d (ad 22) 60 (F 22), cA d (ad 23) 60 (F 23), cA d (ad 24) 60 (F 24)] H locs → lv_has ls 5 [(0, .ref o), (2, .int (nI i))] → W p l e rmSq s m args below meth c H locs 0 0 Q (F0 m 121 ls []) := by
  obtain ⟨hx, hb, -⟩ := C.1
  intro n
  induction n with
  | zero => intro i ct H locs ls h1 h2; omega
  | succ n ih =>
    intro i ct H locs ls h1 h2 h3 hw hl
    refine lv_iload_n hx hb dX1_transpose_121 rfl (lv_at hl 1 rfl) ?_
    refine lv_aload_n hx hb dX1_transpose_122 rfl (lv_at hl 0 rfl) ?_
    refine g_X1_16 C hw 0 rfl rfl dX1_transpose_123 ?_
    refine g_X1_62 C hw 5 rfl rfl dX1_transpose_126 ?_
    refine w_icmp_ge C (tgt := 153) (by omega) (by omega) dX1_transpose_129 (by decide) (fun c1 => ?_) (fun c1 => ?_)
    · have hi : i = nc := by omega
      rw [hi] at h3
      exact K ct H locs ls h3 hw (lv_sub hl [0] rfl)
    · refine lv_aload_n hx hb dX1_transpose_132 rfl (lv_at hl 0 rfl) ?_
      refine g_X1_32 C hw 0 rfl rfl dX1_transpose_133 ?_
      refine lv_iload_n hx hb dX1_transpose_136 rfl (lv_at hl 1 rfl) ?_
      refine lv_aload_n hx hb dX1_transpose_137 rfl (lv_at hl 0 rfl) ?_
      refine g_X1_16 C hw 0 rfl rfl dX1_transpose_138 ?_
      refine g_X1_82 C hw 5 rfl rfl dX1_transpose_141 ?_
      refine lv_iload_n hx hb dX1_transpose_144 rfl (lv_at hl 1 rfl) ?_
      refine w_iald C hw 6 rfl (by omega) dX1_transpose_145 ?_
      refine w_iast C hw 21 rfl (by omega) dX1_transpose_146 (fun H locs hw => ?_)
      have hw : Wd D A H0 [cO o 0 [.int (nI cp), .ref (ad 1), .ref (ad 5), .ref (ad 9), .ref (ad 13), .ref (ad 17), .ref (ad 21), .ref (ad 22), .ref (ad 23), .ref (ad 24)], cO (ad 1) 1 [.ref (ad 2), .ref (ad 3), .ref (ad 4), .int (nI nr), .int (nI nc)], cA d (ad 2) 61 (F 2), cA d (ad 3) 1000 (F 3), cA d (ad 4) 1000 (F 4), cO (ad 5) 1 [.ref (ad 6), .ref (ad 7), .ref (ad 8), .int (nI nc), .int (nI nr)], cA d (ad 6) 61 st, cA d (ad 7) 1000 (F 7), cA d (ad 8) 1000 (F 8), cO (ad 9) 2 [.ref (ad 10), .ref (ad 11), .ref (ad 12), .int (nI P.length)], cA d (ad 10) 2000 (F 10), cA d (ad 11) 2000 (F 11), cA d (ad 12) 2000 (F 12), cO (ad 13) 2 [.ref (ad 14), .ref (ad 15), .ref (ad 16), .int (sc 3)], cA d (ad 14) 2000 (F 14), cA d (ad 15) 2000 (F 15), cA d (ad 16) 2000 (F 16), cO (ad 17) 2 [.ref (ad 18), .ref (ad 19), .ref (ad 20), .int (sc 4)], cA d (ad 18) 2000 (F 18), cA d (ad 19) 2000 (F 19), cA d (ad 20) 2000 (F 20), cA d (ad 21) 61 (upd ct i (st i)), cA d (ad 22) 60 (F 22), cA d (ad 23) 60 (F 23), cA d (ad 24) 60 (F 24)] H locs := hw
      refine lv_iinc (v := nI (i + 1)) (lv' := [(2, .int (nI (i + 1))), (0, .ref o)]) hx hb dX1_transpose_147 hl (k := 1) rfl (nI_1 _) (by decide) rfl (fun ls hl => ?_)
      refine lv_goto (tgt := 121) hx hb dX1_transpose_150 (by decide) ?_
      refine ih (i + 1) _ H locs ls (by omega) (by omega) (fun v hv => ?_) hw (lv_sub hl [1, 0] rfl)
      by_cases q : v = i
      · rw [q, pk_us]
      · rw [pk_un q]; exact h3 v (by omega)

set_option maxHeartbeats 4000000 in
set_option maxRecDepth 100000 in
theorem lp_tr4a {o nr nc cp : Nat} {T : Nat → Nat → Int32} {P : List Tr} {ad : Nat → Nat} {sc : Nat → Int32} {F : Nat → Nat → Int32} {i : Nat} {st : Nat → Int32} (C : Cx p s m args meth c cX1_transpose 5 RX1 ret D d) (hc : Csr (F 2) (F 3) (F 4) nr nc T) (hnr : nr ≤ 60) (hnc : nc ≤ 60) (htot : of_ T nc nr ≤ 1000) (hi : i < nr) (K : ∀ (ct co va : Nat → Int32) (H : Heap) (locs : List Loc) (ls : Array Slot), Tu4 ct co va T nr nc (i + 1) 0 → Wd D A H0 [cO o 0 [.int (nI cp), .ref (ad 1), .ref (ad 5), .ref (ad 9), .ref (ad 13), .ref (ad 17), .ref (ad 21), .ref (ad 22), .ref (ad 23), .ref (ad 24)], cO (ad 1) 1 [.ref (ad 2), .ref (ad 3), .ref (ad 4), .int (nI nr), .int (nI nc)], cA d (ad 2) 61 (F 2), cA d (ad 3) 1000 (F 3), cA d (ad 4) 1000 (F 4), cO (ad 5) 1 [.ref (ad 6), .ref (ad 7), .ref (ad 8), .int (nI nc), .int (nI nr)], cA d (ad 6) 61 st, cA d (ad 7) 1000 co, cA d (ad 8) 1000 va, cO (ad 9) 2 [.ref (ad 10), .ref (ad 11), .ref (ad 12), .int (nI P.length)], cA d (ad 10) 2000 (F 10), cA d (ad 11) 2000 (F 11), cA d (ad 12) 2000 (F 12), cO (ad 13) 2 [.ref (ad 14), .ref (ad 15), .ref (ad 16), .int (sc 3)], cA d (ad 14) 2000 (F 14), cA d (ad 15) 2000 (F 15), cA d (ad 16) 2000 (F 16), cO (ad 17) 2 [.ref (ad 18), .ref (ad 19), .ref (ad 20), .int (sc 4)], cA d (ad 18) 2000 (F 18), cA d (ad 19) 2000 (F 19), cA d (ad 20) 2000 (F 20), cA d (ad 21) 61 ct, cA d (ad 22) 60 (F 22), cA d (ad 23) 60 (F 23), cA d (ad 24) 60 (F 24)] H locs → lv_has ls 5 [(0, .ref o), (2, .int (nI i))] → W p l e rmSq s m args below meth c H locs 0 0 Q (F0 m 248 ls [])) :
    ∀ (n j : Nat) (ct co va : Nat → Int32) (H : Heap) (locs : List Loc) (ls : Array Slot), j ≤ nc → nc < j + n → Tu4 ct co va T nr nc i j → Wd D A H0 [cO o 0 [.int (nI cp), .ref (ad 1), .ref (ad 5), .ref (ad 9), .ref (ad 13), .ref (ad 17), .ref (ad 21), .ref (ad 22), .ref (ad 23), .ref (ad 24)], cO (ad 1) 1 [.ref (ad 2), .ref (ad 3), .ref (ad 4), .int (nI nr), .int (nI nc)], cA d (ad 2) 61 (F 2), cA d (ad 3) 1000 (F 3), cA d (ad 4) 1000 (F 4), cO (ad 5) 1 [.ref (ad 6), .ref (ad 7), .ref (ad 8), .int (nI nc), .int (nI nr)], cA d (ad 6) 61 st, cA d (ad 7) 1000 co, cA d (ad 8) 1000 va, cO (ad 9) 2 [.ref (ad 10), .ref (ad 11), .ref (ad 12), .int (nI P.length)], cA d (ad 10) 2000 (F 10), cA d (ad 11) 2000 (F 11), cA d (ad 12) 2000 (F 12), cO (ad 13) 2 [.ref (ad 14), .ref (ad 15), .ref (ad 16), .int (sc 3)], cA d (ad 14) 2000 (F 14), cA d (ad 15) 2000 (F 15), cA d (ad 16) 2000 (F 16), cO (ad 17) 2 [.ref (ad 18), .ref (ad 19), .ref (ad 20), .int (sc 4)], cA d (ad 18) 2000 (F 18), cA d (ad 19) 2000 (F 19), cA d (ad 20) 2000 (F 20), cA d (ad 21) 61 ct, cA d (ad 22) 60 (F 22), cA d (ad 23) 60 (F 23), cA d (ad 24) 60 (F 24)] H locs → lv_has ls 5 [(0, .ref o), (2, .int (nI i)), (3, .int (nI (of_ T nc i + rk_ T i j)))] → W p l e rmSq s m args below meth c H locs 0 0 Q (F0 m 176 ls []) := by
  obtain ⟨hx, hb, -⟩ := C.1
  have hro : of_ T nc (i + 1) ≤ of_ T nc nr := of_mono hi
  intro n
  induction n with
  | zero => intro j ct co va H locs ls h1 h2; omega
  | succ n ih =>
    intro j ct co va H locs ls h1 h2 h3 hw hl
    by_cases hj : j = nc
    · have h9 : of_ T nc (i + 1) = of_ T nc i + rk_ T i j := by rw [hj]; rfl
      refine lv_iload_n hx hb dX1_transpose_176 rfl (lv_at hl 2 rfl) ?_
      refine lv_aload_n hx hb dX1_transpose_177 rfl (lv_at hl 0 rfl) ?_
      refine g_X1_12 C hw 0 rfl rfl dX1_transpose_178 ?_
      refine g_X1_82 C hw 1 rfl rfl dX1_transpose_181 ?_
      refine lv_iload_n hx hb dX1_transpose_184 rfl (lv_at hl 1 rfl) ?_
      refine lv_iconst (v := nI 1) hx hb dX1_transpose_185 (by decide) ?_
      refine w_iadd C dX1_transpose_186 ?_
      refine w_iald C hw 2 rfl (by omega) dX1_transpose_187 ?_
      refine w_top (y := nI (of_ T nc (i + 1))) (hc.1 (i + 1) (by omega)) ?_
      refine w_icmp_ge C (tgt := 248) (by omega) (by omega) dX1_transpose_188 (by decide) (fun c1 => ?_) (fun c1 => ?_)
      · rw [hj] at h3
        exact K ct co va H locs ls (tu4_r h3) hw (lv_sub hl [0, 1] rfl)
      · omega
    · by_cases hz : T i j = 0
      · exact ih (j + 1) ct co va H locs ls (by omega) (by omega) (tu4_z hz h3) hw (by rw [rk_z hz]; exact hl)
      · have h9 := pos_row (T := T) (c := nc) (i := i) (j := j) (by omega) hz
        have h8 := pos_lt (T := tt_ T) (c := nr) (r := nc) (i := j) (j := i) (by omega) hi hz
        rw [tu_cnt (T := T) (r := nr) (c := nc)] at h8
        obtain ⟨nn, hnn⟩ : ∃ q, q = of_ (tt_ T) nr j + rk_ (tt_ T) j i := ⟨_, rfl⟩
        rw [← hnn] at h8
        refine lv_iload_n hx hb dX1_transpose_176 rfl (lv_at hl 2 rfl) ?_
        refine lv_aload_n hx hb dX1_transpose_177 rfl (lv_at hl 0 rfl) ?_
        refine g_X1_12 C hw 0 rfl rfl dX1_transpose_178 ?_
        refine g_X1_82 C hw 1 rfl rfl dX1_transpose_181 ?_
        refine lv_iload_n hx hb dX1_transpose_184 rfl (lv_at hl 1 rfl) ?_
        refine lv_iconst (v := nI 1) hx hb dX1_transpose_185 (by decide) ?_
        refine w_iadd C dX1_transpose_186 ?_
        refine w_iald C hw 2 rfl (by omega) dX1_transpose_187 ?_
        refine w_top (y := nI (of_ T nc (i + 1))) (hc.1 (i + 1) (by omega)) ?_
        refine w_icmp_ge C (tgt := 248) (by omega) (by omega) dX1_transpose_188 (by decide) (fun c1 => ?_) (fun c1 => ?_)
        · omega
        · refine lv_aload_n hx hb dX1_transpose_191 rfl (lv_at hl 0 rfl) ?_
          refine g_X1_32 C hw 0 rfl rfl dX1_transpose_192 ?_
          refine lv_aload_n hx hb dX1_transpose_195 rfl (lv_at hl 0 rfl) ?_
          refine g_X1_12 C hw 0 rfl rfl dX1_transpose_196 ?_
          refine g_X1_85 C hw 1 rfl rfl dX1_transpose_199 ?_
          refine lv_iload_n hx hb dX1_transpose_202 rfl (lv_at hl 2 rfl) ?_
          refine w_iald C hw 3 rfl (by omega) dX1_transpose_203 ?_
          refine w_top (y := nI j) ((hc.2 i j hi (by omega) hz).1) ?_
          refine lv_dup2_11 hx hb dX1_transpose_204 rfl rfl ?_
          refine w_iald C hw 21 rfl (by omega) dX1_transpose_205 ?_
          refine w_top (y := nI nn) (by rw [hnn, h3.1 j (by omega), if_neg (Nat.lt_irrefl j)]) ?_
          refine lv_dup_x2 hx hb dX1_transpose_206 rfl rfl rfl ?_
          refine lv_iconst (v := nI 1) hx hb dX1_transpose_207 (by decide) ?_
          refine w_iadd C dX1_transpose_208 ?_
          refine w_iast C hw 21 rfl (by omega) dX1_transpose_209 (fun H locs hw => ?_)
          have hw : Wd D A H0 [cO o 0 [.int (nI cp), .ref (ad 1), .ref (ad 5), .ref (ad 9), .ref (ad 13), .ref (ad 17), .ref (ad 21), .ref (ad 22), .ref (ad 23), .ref (ad 24)], cO (ad 1) 1 [.ref (ad 2), .ref (ad 3), .ref (ad 4), .int (nI nr), .int (nI nc)], cA d (ad 2) 61 (F 2), cA d (ad 3) 1000 (F 3), cA d (ad 4) 1000 (F 4), cO (ad 5) 1 [.ref (ad 6), .ref (ad 7), .ref (ad 8), .int (nI nc), .int (nI nr)], cA d (ad 6) 61 st, cA d (ad 7) 1000 co, cA d (ad 8) 1000 va, cO (ad 9) 2 [.ref (ad 10), .ref (ad 11), .ref (ad 12), .int (nI P.length)], cA d (ad 10) 2000 (F 10), cA d (ad 11) 2000 (F 11), cA d (ad 12) 2000 (F 12), cO (ad 13) 2 [.ref (ad 14), .ref (ad 15), .ref (ad 16), .int (sc 3)], cA d (ad 14) 2000 (F 14), cA d (ad 15) 2000 (F 15), cA d (ad 16) 2000 (F 16), cO (ad 17) 2 [.ref (ad 18), .ref (ad 19), .ref (ad 20), .int (sc 4)], cA d (ad 18) 2000 (F 18), cA d (ad 19) 2000 (F 19), cA d (ad 20) 2000 (F 20), cA d (ad 21) 61 (upd ct j (nI (nn + 1))), cA d (ad 22) 60 (F 22), cA d (ad 23) 60 (F 23), cA d (ad 24) 60 (F 24)] H locs := hw
          refine lv_istore (lv' := [(4, .int (nI nn)), (0, .ref o), (2, .int (nI i)), (3, .int (nI (of_ T nc i + rk_ T i j)))]) hx hb dX1_transpose_210 hl (by decide) rfl (fun ls hl => ?_)
          refine lv_aload_n hx hb dX1_transpose_212 rfl (lv_at hl 1 rfl) ?_
          refine g_X1_16 C hw 0 rfl rfl dX1_transpose_213 ?_
          refine g_X1_85 C hw 5 rfl rfl dX1_transpose_216 ?_
          refine lv_iload hx hb dX1_transpose_219 (lv_at hl 0 rfl) ?_
          refine lv_iload_n hx hb dX1_transpose_221 rfl (lv_at hl 2 rfl) ?_
          refine w_iast C hw 7 rfl (by omega) dX1_transpose_222 (fun H locs hw => ?_)
          have hw : Wd D A H0 [cO o 0 [.int (nI cp), .ref (ad 1), .ref (ad 5), .ref (ad 9), .ref (ad 13), .ref (ad 17), .ref (ad 21), .ref (ad 22), .ref (ad 23), .ref (ad 24)], cO (ad 1) 1 [.ref (ad 2), .ref (ad 3), .ref (ad 4), .int (nI nr), .int (nI nc)], cA d (ad 2) 61 (F 2), cA d (ad 3) 1000 (F 3), cA d (ad 4) 1000 (F 4), cO (ad 5) 1 [.ref (ad 6), .ref (ad 7), .ref (ad 8), .int (nI nc), .int (nI nr)], cA d (ad 6) 61 st, cA d (ad 7) 1000 (upd co nn (nI i)), cA d (ad 8) 1000 va, cO (ad 9) 2 [.ref (ad 10), .ref (ad 11), .ref (ad 12), .int (nI P.length)], cA d (ad 10) 2000 (F 10), cA d (ad 11) 2000 (F 11), cA d (ad 12) 2000 (F 12), cO (ad 13) 2 [.ref (ad 14), .ref (ad 15), .ref (ad 16), .int (sc 3)], cA d (ad 14) 2000 (F 14), cA d (ad 15) 2000 (F 15), cA d (ad 16) 2000 (F 16), cO (ad 17) 2 [.ref (ad 18), .ref (ad 19), .ref (ad 20), .int (sc 4)], cA d (ad 18) 2000 (F 18), cA d (ad 19) 2000 (F 19), cA d (ad 20) 2000 (F 20), cA d (ad 21) 61 (upd ct j (nI (nn + 1))), cA d (ad 22) 60 (F 22), cA d (ad 23) 60 (F 23), cA d (ad 24) 60 (F 24)] H locs := hw
          refine lv_aload_n hx hb dX1_transpose_223 rfl (lv_at hl 1 rfl) ?_
          refine g_X1_16 C hw 0 rfl rfl dX1_transpose_224 ?_
          refine g_X1_88 C hw 5 rfl rfl dX1_transpose_227 ?_
          refine lv_iload hx hb dX1_transpose_230 (lv_at hl 0 rfl) ?_
          refine lv_aload_n hx hb dX1_transpose_232 rfl (lv_at hl 1 rfl) ?_
          refine g_X1_12 C hw 0 rfl rfl dX1_transpose_233 ?_
          refine g_X1_88 C hw 1 rfl rfl dX1_transpose_236 ?_
          refine lv_iload_n hx hb dX1_transpose_239 rfl (lv_at hl 3 rfl) ?_
          refine w_iald C hw 4 rfl (by omega) dX1_transpose_240 ?_
          refine w_top (y := T i j) ((hc.2 i j hi (by omega) hz).2) ?_
          refine w_iast C hw 8 rfl (by omega) dX1_transpose_241 (fun H locs hw => ?_)
          have hw : Wd D A H0 [cO o 0 [.int (nI cp), .ref (ad 1), .ref (ad 5), .ref (ad 9), .ref (ad 13), .ref (ad 17), .ref (ad 21), .ref (ad 22), .ref (ad 23), .ref (ad 24)], cO (ad 1) 1 [.ref (ad 2), .ref (ad 3), .ref (ad 4), .int (nI nr), .int (nI nc)], cA d (ad 2) 61 (F 2), cA d (ad 3) 1000 (F 3), cA d (ad 4) 1000 (F 4), cO (ad 5) 1 [.ref (ad 6), .ref (ad 7), .ref (ad 8), .int (nI nc), .int (nI nr)], cA d (ad 6) 61 st, cA d (ad 7) 1000 (upd co nn (nI i)), cA d (ad 8) 1000 (upd va nn (T i j)), cO (ad 9) 2 [.ref (ad 10), .ref (ad 11), .ref (ad 12), .int (nI P.length)], cA d (ad 10) 2000 (F 10), cA d (ad 11) 2000 (F 11), cA d (ad 12) 2000 (F 12), cO (ad 13) 2 [.ref (ad 14), .ref (ad 15), .ref (ad 16), .int (sc 3)], cA d (ad 14) 2000 (F 14), cA d (ad 15) 2000 (F 15), cA d (ad 16) 2000 (F 16), cO (ad 17) 2 [.ref (ad 18), .ref (ad 19), .ref (ad 20), .int (sc 4)], cA d (ad 18) 2000 (F 18), cA d (ad 19) 2000 (F 19), cA d (ad 20) 2000 (F 20), cA d (ad 21) 61 (upd ct j (nI (nn + 1))), cA d (ad 22) 60 (F 22), cA d (ad 23) 60 (F 23), cA d (ad 24) 60 (F 24)] H locs := hw
          refine lv_iinc (v := nI (of_ T nc i + rk_ T i j + 1)) (lv' := [(3, .int (nI (of_ T nc i + rk_ T i j + 1))), (4, .int (nI nn)), (0, .ref o), (2, .int (nI i))]) hx hb dX1_transpose_242 hl (k := 3) rfl (nI_1 _) (by decide) rfl (fun ls hl => ?_)
          refine lv_goto (tgt := 176) hx hb dX1_transpose_245 (by decide) ?_
          exact ih (j + 1) _ _ _ H locs ls (by omega) (by omega) (tu4_s hz hi (by omega) h3 hnn) hw (by rw [rk_s hz]; exact (lv_sub hl [2, 3, 0] rfl))

set_option maxHeartbeats 4000000 in
set_option maxRecDepth 100000 in
theorem lp_tr4 {o nr nc cp : Nat} {T : Nat → Nat → Int32} {P : List Tr} {ad : Nat → Nat} {sc : Nat → Int32} {F : Nat → Nat → Int32} {st : Nat → Int32} (C : Cx p s m args meth c cX1_transpose 5 RX1 ret D d) (hc : Csr (F 2) (F 3) (F 4) nr nc T) (hnr : nr ≤ 60) (hnc : nc ≤ 60) (htot : of_ T nc nr ≤ 1000) (K : ∀ (ct co va : Nat → Int32) (H : Heap) (locs : List Loc) (ls : Array Slot), Tu4 ct co va T nr nc nr 0 → Wd D A H0 [cO o 0 [.int (nI cp), .ref (ad 1), .ref (ad 5), .ref (ad 9), .ref (ad 13), .ref (ad 17), .ref (ad 21), .ref (ad 22), .ref (ad 23), .ref (ad 24)], cO (ad 1) 1 [.ref (ad 2), .ref (ad 3), .ref (ad 4), .int (nI nr), .int (nI nc)], cA d (ad 2) 61 (F 2), cA d (ad 3) 1000 (F 3), cA d (ad 4) 1000 (F 4), cO (ad 5) 1 [.ref (ad 6), .ref (ad 7), .ref (ad 8), .int (nI nc), .int (nI nr)], cA d (ad 6) 61 st, cA d (ad 7) 1000 co, cA d (ad 8) 1000 va, cO (ad 9) 2 [.ref (ad 10), .ref (ad 11), .ref (ad 12), .int (nI P.length)], cA d (ad 10) 2000 (F 10), cA d (ad 11) 2000 (F 11), cA d (ad 12) 2000 (F 12), cO (ad 13) 2 [.ref (ad 14), .ref (ad 15), .ref (ad 16), .int (sc 3)], cA d (ad 14) 2000 (F 14), cA d (ad 15) 2000 (F 15), cA d (ad 16) 2000 (F 16), cO (ad 17) 2 [.ref (ad 18), .ref (ad 19), .ref (ad 20), .int (sc 4)], cA d (ad 18) 2000 (F 18), cA d (ad 19) 2000 (F 19), cA d (ad 20) 2000 (F 20), cA d (ad 21) 61 ct, cA d (ad 22) 60 (F 22), cA d (ad 23) 60 (F 23), cA d (ad 24) 60 (F 24)] H locs → lv_has ls 5 [(0, .ref o)] → W p l e rmSq s m args below meth c H locs 0 0 Q (F0 m 254 ls [])) :
    ∀ (n i : Nat) (ct co va : Nat → Int32) (H : Heap) (locs : List Loc) (ls : Array Slot), i ≤ nr → nr < i + n → Tu4 ct co va T nr nc i 0 → Wd D A H0 [cO o 0 [.int (nI cp), .ref (ad 1), .ref (ad 5), .ref (ad 9), .ref (ad 13), .ref (ad 17), .ref (ad 21), .ref (ad 22), .ref (ad 23), .ref (ad 24)], cO (ad 1) 1 [.ref (ad 2), .ref (ad 3), .ref (ad 4), .int (nI nr), .int (nI nc)], cA d (ad 2) 61 (F 2), cA d (ad 3) 1000 (F 3), cA d (ad 4) 1000 (F 4), cO (ad 5) 1 [.ref (ad 6), .ref (ad 7), .ref (ad 8), .int (nI nc), .int (nI nr)], cA d (ad 6) 61 st, cA d (ad 7) 1000 co, cA d (ad 8) 1000 va, cO (ad 9) 2 [.ref (ad 10), .ref (ad 11), .ref (ad 12), .int (nI P.length)], cA d (ad 10) 2000 (F 10), cA d (ad 11) 2000 (F 11), cA d (ad 12) 2000 (F 12), cO (ad 13) 2 [.ref (ad 14), .ref (ad 15), .ref (ad 16), .int (sc 3)], cA d (ad 14) 2000 (F 14), cA d (ad 15) 2000 (F 15), cA d (ad 16) 2000 (F 16), cO (ad 17) 2 [.ref (ad 18), .ref (ad 19), .ref (ad 20), .int (sc 4)], cA d (ad 18) 2000 (F 18), cA d (ad 19) 2000 (F 19), cA d (ad 20) 2000 (F 20), cA d (ad 21) 61 ct, cA d (ad 22) 60 (F 22), cA d (ad 23) 60 (F 23), cA d (ad 24) 60 (F 24)] H locs → lv_has ls 5 [(0, .ref o), (2, .int (nI i))] → W p l e rmSq s m args below meth c H locs 0 0 Q (F0 m 155 ls []) := by
  obtain ⟨hx, hb, -⟩ := C.1
  intro n
  induction n with
  | zero => intro i ct co va H locs ls h1 h2; omega
  | succ n ih =>
    intro i ct co va H locs ls h1 h2 h3 hw hl
    refine lv_iload_n hx hb dX1_transpose_155 rfl (lv_at hl 1 rfl) ?_
    refine lv_aload_n hx hb dX1_transpose_156 rfl (lv_at hl 0 rfl) ?_
    refine g_X1_12 C hw 0 rfl rfl dX1_transpose_157 ?_
    refine g_X1_62 C hw 1 rfl rfl dX1_transpose_160 ?_
    refine w_icmp_ge C (tgt := 254) (by omega) (by omega) dX1_transpose_163 (by decide) (fun c1 => ?_) (fun c1 => ?_)
    · have hi : i = nr := by omega
      rw [hi] at h3
      exact K ct co va H locs ls h3 hw (lv_sub hl [0] rfl)
    · refine lv_aload_n hx hb dX1_transpose_166 rfl (lv_at hl 0 rfl) ?_
      refine g_X1_12 C hw 0 rfl rfl dX1_transpose_167 ?_
      refine g_X1_82 C hw 1 rfl rfl dX1_transpose_170 ?_
      refine lv_iload_n hx hb dX1_transpose_173 rfl (lv_at hl 1 rfl) ?_
      refine w_iald C hw 2 rfl (by omega) dX1_transpose_174 ?_
      refine w_top (y := nI (of_ T nc i)) (hc.1 i (by omega)) ?_
      refine lv_istore_n (lv' := [(3, .int (nI (of_ T nc i))), (0, .ref o), (2, .int (nI i))]) hx hb dX1_transpose_175 rfl hl (by decide) rfl (fun ls hl => ?_)
      refine lp_tr4a C hc hnr hnc htot c1 (fun ct co va H locs ls h5 hw hl => ?_) (nc + 1) 0 ct co va H locs ls (by omega) (by omega) h3 hw (lv_sub hl [1, 2, 0] rfl)
      refine lv_iinc (v := nI (i + 1)) (lv' := [(2, .int (nI (i + 1))), (0, .ref o)]) hx hb dX1_transpose_248 hl (k := 1) rfl (nI_1 _) (by decide) rfl (fun ls hl => ?_)
      refine lv_goto (tgt := 155) hx hb dX1_transpose_251 (by decide) ?_
      exact ih (i + 1) ct co va H locs ls (by omega) (by omega) h5 hw (lv_sub hl [1, 0] rfl)

set_option maxHeartbeats 4000000 in
set_option maxRecDepth 100000 in
theorem lp_tr5 {o nr nc cp : Nat} {T : Nat → Nat → Int32} {P : List Tr} {ad : Nat → Nat} {sc : Nat → Int32} {F : Nat → Nat → Int32} {st co va ct : Nat → Int32} (C : Cx p s m args meth c cX1_transpose 5 RX1 ret D d) (K : ∀ (xv yv : Nat → Int32) (H : Heap) (locs : List Loc) (ls : Array Slot), (∀ v, v < 60 → xv v = 0) → (∀ v, v < 60 → yv v = 0) → Wd D A H0 [cO o 0 [.int (nI cp), .ref (ad 5), .ref (ad 1), .ref (ad 9), .ref (ad 13), .ref (ad 17), .ref (ad 21), .ref (ad 22), .ref (ad 23), .ref (ad 24)], cO (ad 1) 1 [.ref (ad 2), .ref (ad 3), .ref (ad 4), .int (nI nr), .int (nI nc)], cA d (ad 2) 61 (F 2), cA d (ad 3) 1000 (F 3), cA d (ad 4) 1000 (F 4), cO (ad 5) 1 [.ref (ad 6), .ref (ad 7), .ref (ad 8), .int (nI nc), .int (nI nr)], cA d (ad 6) 61 st, cA d (ad 7) 1000 co, cA d (ad 8) 1000 va, cO (ad 9) 2 [.ref (ad 10), .ref (ad 11), .ref (ad 12), .int (nI P.length)], cA d (ad 10) 2000 (F 10), cA d (ad 11) 2000 (F 11), cA d (ad 12) 2000 (F 12), cO (ad 13) 2 [.ref (ad 14), .ref (ad 15), .ref (ad 16), .int (sc 3)], cA d (ad 14) 2000 (F 14), cA d (ad 15) 2000 (F 15), cA d (ad 16) 2000 (F 16), cO (ad 17) 2 [.ref (ad 18), .ref (ad 19), .ref (ad 20), .int (sc 4)], cA d (ad 18) 2000 (F 18), cA d (ad 19) 2000 (F 19), cA d (ad 20) 2000 (F 20), cA d (ad 21) 61 ct, cA d (ad 22) 60 xv, cA d (ad 23) 60 yv, cA d (ad 24) 60 (F 24)] H locs → W p l e rmSq s m args below meth c H locs 0 0 Q (F0 m 287 ls [])) :
    ∀ (n i : Nat) (xv yv : Nat → Int32) (H : Heap) (locs : List Loc) (ls : Array Slot), i ≤ 60 → 60 < i + n → (∀ v, v < i → xv v = 0) → (∀ v, v < i → yv v = 0) → Wd D A H0 [cO o 0 [.int (nI cp), .ref (ad 5), .ref (ad 1), .ref (ad 9), .ref (ad 13), .ref (ad 17), .ref (ad 21), .ref (ad 22), .ref (ad 23), .ref (ad 24)], cO (ad 1) 1 [.ref (ad 2), .ref (ad 3), .ref (ad 4), .int (nI nr), .int (nI nc)], cA d (ad 2) 61 (F 2), cA d (ad 3) 1000 (F 3), cA d (ad 4) 1000 (F 4), cO (ad 5) 1 [.ref (ad 6), .ref (ad 7), .ref (ad 8), .int (nI nc), .int (nI nr)], cA d (ad 6) 61 st, cA d (ad 7) 1000 co, cA d (ad 8) 1000 va, cO (ad 9) 2 [.ref (ad 10), .ref (ad 11), .ref (ad 12), .int (nI P.length)], cA d (ad 10) 2000 (F 10), cA d (ad 11) 2000 (F 11), cA d (ad 12) 2000 (F 12), cO (ad 13) 2 [.ref (ad 14), .ref (ad 15), .ref (ad 16), .int (sc 3)], cA d (ad 14) 2000 (F 14), cA d (ad 15) 2000 (F 15), cA d (ad 16) 2000 (F 16), cO (ad 17) 2 [.ref (ad 18), .ref (ad 19), .ref (ad 20), .int (sc 4)], cA d (ad 18) 2000 (F 18), cA d (ad 19) 2000 (F 19), cA d (ad 20) 2000 (F 20), cA d (ad 21) 61 ct, cA d (ad 22) 60 xv, cA d (ad 23) 60 yv, cA d (ad 24) 60 (F 24)] H locs → lv_has ls 5 [(0, .ref o), (2, .int (nI i))] → W p l e rmSq s m args below meth c H locs 0 0 Q (F0 m 261 ls []) := by
  obtain ⟨hx, hb, -⟩ := C.1
  intro n
  induction n with
  | zero => intro i xv yv H locs ls h1 h2; omega
  | succ n ih =>
    intro i xv yv H locs ls h1 h2 h3 h4 hw hl
    refine lv_iload_n hx hb dX1_transpose_261 rfl (lv_at hl 1 rfl) ?_
    refine lv_bipush (v := nI 60) hx hb dX1_transpose_262 (by decide) ?_
    refine w_icmp_ge C (tgt := 287) (by omega) (by omega) dX1_transpose_264 (by decide) (fun c1 => ?_) (fun c1 => ?_)
    · have hi : i = 60 := by omega
      rw [hi] at h3 h4
      exact K xv yv H locs ls h3 h4 hw
    · refine lv_aload_n hx hb dX1_transpose_267 rfl (lv_at hl 0 rfl) ?_
      refine g_X1_36 C hw 0 rfl rfl dX1_transpose_268 ?_
      refine lv_iload_n hx hb dX1_transpose_271 rfl (lv_at hl 1 rfl) ?_
      refine lv_iconst (v := nI 0) hx hb dX1_transpose_272 (by decide) ?_
      refine w_iast C hw 22 rfl (by omega) dX1_transpose_273 (fun H locs hw => ?_)
      have hw : Wd D A H0 [cO o 0 [.int (nI cp), .ref (ad 5), .ref (ad 1), .ref (ad 9), .ref (ad 13), .ref (ad 17), .ref (ad 21), .ref (ad 22), .ref (ad 23), .ref (ad 24)], cO (ad 1) 1 [.ref (ad 2), .ref (ad 3), .ref (ad 4), .int (nI nr), .int (nI nc)], cA d (ad 2) 61 (F 2), cA d (ad 3) 1000 (F 3), cA d (ad 4) 1000 (F 4), cO (ad 5) 1 [.ref (ad 6), .ref (ad 7), .ref (ad 8), .int (nI nc), .int (nI nr)], cA d (ad 6) 61 st, cA d (ad 7) 1000 co, cA d (ad 8) 1000 va, cO (ad 9) 2 [.ref (ad 10), .ref (ad 11), .ref (ad 12), .int (nI P.length)], cA d (ad 10) 2000 (F 10), cA d (ad 11) 2000 (F 11), cA d (ad 12) 2000 (F 12), cO (ad 13) 2 [.ref (ad 14), .ref (ad 15), .ref (ad 16), .int (sc 3)], cA d (ad 14) 2000 (F 14), cA d (ad 15) 2000 (F 15), cA d (ad 16) 2000 (F 16), cO (ad 17) 2 [.ref (ad 18), .ref (ad 19), .ref (ad 20), .int (sc 4)], cA d (ad 18) 2000 (F 18), cA d (ad 19) 2000 (F 19), cA d (ad 20) 2000 (F 20), cA d (ad 21) 61 ct, cA d (ad 22) 60 (upd xv i (nI 0)), cA d (ad 23) 60 yv, cA d (ad 24) 60 (F 24)] H locs := hw
      refine lv_aload_n hx hb dX1_transpose_274 rfl (lv_at hl 0 rfl) ?_
      refine g_X1_39 C hw 0 rfl rfl dX1_transpose_275 ?_
      refine lv_iload_n hx hb dX1_transpose_278 rfl (lv_at hl 1 rfl) ?_
      refine lv_iconst (v := nI 0) hx hb dX1_transpose_279 (by decide) ?_
      refine w_iast C hw 23 rfl (by omega) dX1_transpose_280 (fun H locs hw => ?_)
      have hw : Wd D A H0 [cO o 0 [.int (nI cp), .ref (ad 5), .ref (ad 1), .ref (ad 9), .ref (ad 13), .ref (ad 17), .ref (ad 21), .ref (ad 22), .ref (ad 23), .ref (ad 24)], cO (ad 1) 1 [.ref (ad 2), .ref (ad 3), .ref (ad 4), .int (nI nr), .int (nI nc)], cA d (ad 2) 61 (F 2), cA d (ad 3) 1000 (F 3), cA d (ad 4) 1000 (F 4), cO (ad 5) 1 [.ref (ad 6), .ref (ad 7), .ref (ad 8), .int (nI nc), .int (nI nr)], cA d (ad 6) 61 st, cA d (ad 7) 1000 co, cA d (ad 8) 1000 va, cO (ad 9) 2 [.ref (ad 10), .ref (ad 11), .ref (ad 12), .int (nI P.length)], cA d (ad 10) 2000 (F 10), cA d (ad 11) 2000 (F 11), cA d (ad 12) 2000 (F 12), cO (ad 13) 2 [.ref (ad 14), .ref (ad 15), .ref (ad 16), .int (sc 3)], cA d (ad 14) 2000 (F 14), cA d (ad 15) 2000 (F 15), cA d (ad 16) 2000 (F 16), cO (ad 17) 2 [.ref (ad 18), .ref (ad 19), .ref (ad 20), .int (sc 4)], cA d (ad 18) 2000 (F 18), cA d (ad 19) 2000 (F 19), cA d (ad 20) 2000 (F 20), cA d (ad 21) 61 ct, cA d (ad 22) 60 (upd xv i (nI 0)), cA d (ad 23) 60 (upd yv i (nI 0)), cA d (ad 24) 60 (F 24)] H locs := hw
      refine lv_iinc (v := nI (i + 1)) (lv' := [(2, .int (nI (i + 1))), (0, .ref o)]) hx hb dX1_transpose_281 hl (k := 1) rfl (nI_1 _) (by decide) rfl (fun ls hl => ?_)
      refine lv_goto (tgt := 261) hx hb dX1_transpose_284 (by decide) ?_
      exact ih (i + 1) _ _ H locs ls (by omega) (by omega) (al_s nI_0 h3) (al_s nI_0 h4) hw (lv_sub hl [1, 0] rfl)
end TP
set_option maxHeartbeats 4000000 in
set_option maxRecDepth 100000 in
/-- transpose() with something pending -/
theorem met_X1_transpose_no (l : Launch) (D : va_G) (d : ClassId) (Z : Nat → Prop) {o : Nat} {nr nc cp : Nat} {T : Nat → Nat → Int32} {P : List Tr} {x y : Nat → Int32} (hp : 0 < P.length) : Met l yX1_transpose (ws_ yX1_transpose cX1_transpose 5 (some .boolean)) rmSq (pc_ [.ref o] D d (RSok D d Z o nr nc cp T P x y)) (vp_Si (fun v => v = 0)) 0 0 (fun _ => False) := by
  refine mt_ofW (own := RX1) rfl (by decide) (Nat.le_of_ble_eq_true rfl) (fun p e s m below meth c C hnm hX ls hl => ?_)
  obtain ⟨hx, hb, -⟩ := C.1
  have hl : lv_has ls 5 [(0, .ref o)] := hl
  obtain ⟨ad, sc, F, hP, hD, hI⟩ := hX
  obtain ⟨⟨i1, i2, i3, i4, i5, i6⟩, hc, htot, hpl, hhd, hpr, hxx, hyy⟩ := id hI
  have hw : Wd D Z s.heap [cO o 0 [.int (nI cp), .ref (ad 1), .ref (ad 5), .ref (ad 9), .ref (ad 13), .ref (ad 17), .ref (ad 21), .ref (ad 22), .ref (ad 23), .ref (ad 24)], cO (ad 1) 1 [.ref (ad 2), .ref (ad 3), .ref (ad 4), .int (nI nr), .int (nI nc)], cA d (ad 2) 61 (F 2), cA d (ad 3) 1000 (F 3), cA d (ad 4) 1000 (F 4), cO (ad 5) 1 [.ref (ad 6), .ref (ad 7), .ref (ad 8), .int (sc 1), .int (sc 2)], cA d (ad 6) 61 (F 6), cA d (ad 7) 1000 (F 7), cA d (ad 8) 1000 (F 8), cO (ad 9) 2 [.ref (ad 10), .ref (ad 11), .ref (ad 12), .int (nI P.length)], cA d (ad 10) 2000 (F 10), cA d (ad 11) 2000 (F 11), cA d (ad 12) 2000 (F 12), cO (ad 13) 2 [.ref (ad 14), .ref (ad 15), .ref (ad 16), .int (sc 3)], cA d (ad 14) 2000 (F 14), cA d (ad 15) 2000 (F 15), cA d (ad 16) 2000 (F 16), cO (ad 17) 2 [.ref (ad 18), .ref (ad 19), .ref (ad 20), .int (sc 4)], cA d (ad 18) 2000 (F 18), cA d (ad 19) 2000 (F 19), cA d (ad 20) 2000 (F 20), cA d (ad 21) 61 (F 21), cA d (ad 22) 60 (F 22), cA d (ad 23) 60 (F 23), cA d (ad 24) 60 (F 24)] s.heap [] := ⟨hP, hD, va_S.rf⟩
  refine lv_aload_n hx hb dX1_transpose_0 rfl (lv_at hl 0 rfl) ?_
  refine g_X1_22 C hw 0 rfl rfl dX1_transpose_1 ?_
  refine g_X1_72 C hw 9 rfl rfl dX1_transpose_4 ?_
  refine lv_if_le (tgt := 12) hx hb dX1_transpose_7 (by decide) (fun c1 => ?_) (fun c1 => ?_)
  · exact absurd c1 (nI_nle hp (by omega))
  · refine lv_iconst (v := nI 0) hx hb dX1_transpose_10 (by decide) ?_
    exact rd_zret (v := nI 0) C rfl nI_0 dX1_transpose_11

set_option maxHeartbeats 4000000 in
set_option maxRecDepth 100000 in
/-- transpose() -/
theorem met_X1_transpose_yes (l : Launch) (D : va_G) (d : ClassId) (Z : Nat → Prop) {o : Nat} {nr nc cp : Nat} {T : Nat → Nat → Int32} {P : List Tr} {x y : Nat → Int32} (hp : P = []) : Met l yX1_transpose (ws_ yX1_transpose cX1_transpose 5 (some .boolean)) rmSq (pc_ [.ref o] D d (RSok D d Z o nr nc cp T P x y)) (va_Qi (fun v (_ : Unit) => v = 1) (fun (_ : Unit) t9 => RSok D d Z o nc nr cp (tt_ T) P (fun _ => 0) (fun _ => 0) t9.heap) (Z)) 0 0 (Z) := by
  refine mt_ofW (own := RX1) rfl (by decide) (Nat.le_of_ble_eq_true rfl) (fun p e s m below meth c C hnm hX ls hl => ?_)
  obtain ⟨hx, hb, -⟩ := C.1
  have hl : lv_has ls 5 [(0, .ref o)] := hl
  obtain ⟨ad, sc, F, hP, hD, hI⟩ := hX
  obtain ⟨⟨i1, i2, i3, i4, i5, i6⟩, hc, htot, hpl, hhd, hpr, hxx, hyy⟩ := id hI
  have hw : Wd D Z s.heap [cO o 0 [.int (nI cp), .ref (ad 1), .ref (ad 5), .ref (ad 9), .ref (ad 13), .ref (ad 17), .ref (ad 21), .ref (ad 22), .ref (ad 23), .ref (ad 24)], cO (ad 1) 1 [.ref (ad 2), .ref (ad 3), .ref (ad 4), .int (nI nr), .int (nI nc)], cA d (ad 2) 61 (F 2), cA d (ad 3) 1000 (F 3), cA d (ad 4) 1000 (F 4), cO (ad 5) 1 [.ref (ad 6), .ref (ad 7), .ref (ad 8), .int (sc 1), .int (sc 2)], cA d (ad 6) 61 (F 6), cA d (ad 7) 1000 (F 7), cA d (ad 8) 1000 (F 8), cO (ad 9) 2 [.ref (ad 10), .ref (ad 11), .ref (ad 12), .int (nI P.length)], cA d (ad 10) 2000 (F 10), cA d (ad 11) 2000 (F 11), cA d (ad 12) 2000 (F 12), cO (ad 13) 2 [.ref (ad 14), .ref (ad 15), .ref (ad 16), .int (sc 3)], cA d (ad 14) 2000 (F 14), cA d (ad 15) 2000 (F 15), cA d (ad 16) 2000 (F 16), cO (ad 17) 2 [.ref (ad 18), .ref (ad 19), .ref (ad 20), .int (sc 4)], cA d (ad 18) 2000 (F 18), cA d (ad 19) 2000 (F 19), cA d (ad 20) 2000 (F 20), cA d (ad 21) 61 (F 21), cA d (ad 22) 60 (F 22), cA d (ad 23) 60 (F 23), cA d (ad 24) 60 (F 24)] s.heap [] := ⟨hP, hD, va_S.rf⟩
  have hp0 : P.length = 0 := by rw [hp]; rfl
  refine lv_aload_n hx hb dX1_transpose_0 rfl (lv_at hl 0 rfl) ?_
  refine g_X1_22 C hw 0 rfl rfl dX1_transpose_1 ?_
  refine g_X1_72 C hw 9 rfl rfl dX1_transpose_4 ?_
  refine lv_if_le (tgt := 12) hx hb dX1_transpose_7 (by decide) (fun c1 => ?_) (fun c1 => ?_)
  · refine lv_aload_n hx hb dX1_transpose_12 rfl (lv_at hl 0 rfl) ?_
    refine g_X1_16 C hw 0 rfl rfl dX1_transpose_13 ?_
    refine lv_aload_n hx hb dX1_transpose_16 rfl (lv_at hl 0 rfl) ?_
    refine g_X1_12 C hw 0 rfl rfl dX1_transpose_17 ?_
    refine g_X1_69 C hw 1 rfl rfl dX1_transpose_20 ?_
    refine lv_aload_n hx hb dX1_transpose_23 rfl (lv_at hl 0 rfl) ?_
    refine g_X1_12 C hw 0 rfl rfl dX1_transpose_24 ?_
    refine g_X1_62 C hw 1 rfl rfl dX1_transpose_27 ?_
    refine c_wVv (As := [.int (nI nc), .int (nI nr)]) (rest := []) C hw [5, 6] (met_be l D d (nI nc) (nI nr)) (by decide) rfl (fun _ => rfl) (cwV 2 C.1.2.2.2.2 (lw_V q78 q79 q80 q9 q81) rfl rfl rfl (by decide +kernel) ⟨Nat.le_of_ble_eq_true rfl, Nat.le_of_ble_eq_true rfl⟩) (va_recv C.2.1.1 hw.1 (ci := 1) (q0 := 5) rfl rfl) rfl hl.1 rfl (Nat.le_of_ble_eq_true rfl) dX1_transpose_30 ⟨Nat.le_of_ble_eq_true rfl, Nat.le_of_ble_eq_true rfl⟩ (fun st H locs hbe hw => ?_)
    have hw : Wd D Z s.heap [cO o 0 [.int (nI cp), .ref (ad 1), .ref (ad 5), .ref (ad 9), .ref (ad 13), .ref (ad 17), .ref (ad 21), .ref (ad 22), .ref (ad 23), .ref (ad 24)], cO (ad 1) 1 [.ref (ad 2), .ref (ad 3), .ref (ad 4), .int (nI nr), .int (nI nc)], cA d (ad 2) 61 (F 2), cA d (ad 3) 1000 (F 3), cA d (ad 4) 1000 (F 4), cO (ad 5) 1 [.ref (ad 6), .ref (ad 7), .ref (ad 8), .int (nI nc), .int (nI nr)], cA d (ad 6) 61 st, cA d (ad 7) 1000 (F 7), cA d (ad 8) 1000 (F 8), cO (ad 9) 2 [.ref (ad 10), .ref (ad 11), .ref (ad 12), .int (nI P.length)], cA d (ad 10) 2000 (F 10), cA d (ad 11) 2000 (F 11), cA d (ad 12) 2000 (F 12), cO (ad 13) 2 [.ref (ad 14), .ref (ad 15), .ref (ad 16), .int (sc 3)], cA d (ad 14) 2000 (F 14), cA d (ad 15) 2000 (F 15), cA d (ad 16) 2000 (F 16), cO (ad 17) 2 [.ref (ad 18), .ref (ad 19), .ref (ad 20), .int (sc 4)], cA d (ad 18) 2000 (F 18), cA d (ad 19) 2000 (F 19), cA d (ad 20) 2000 (F 20), cA d (ad 21) 61 (F 21), cA d (ad 22) 60 (F 22), cA d (ad 23) 60 (F 23), cA d (ad 24) 60 (F 24)] H locs := hw
    refine lv_aload_n hx hb dX1_transpose_33 rfl (lv_at hl 0 rfl) ?_
    refine g_X1_12 C hw 0 rfl rfl dX1_transpose_34 ?_
    refine c_rdV (As := []) (rest := []) C (met_size l D d i2) (cwV 0 C.1.2.2.2.2 (lw_V q144 q145 q146 q9 q147) rfl rfl rfl (by decide +kernel) ⟨Nat.le_of_ble_eq_true rfl, Nat.le_of_ble_eq_true rfl⟩) (va_recv C.2.1.1 hw.1 (ci := 1) (q0 := 1) rfl rfl) (w_cut hw [1, 2] (by decide) rfl) rfl hl.1 rfl (Nat.le_of_ble_eq_true rfl) dX1_transpose_37 ⟨Nat.le_of_ble_eq_true rfl, Nat.le_of_ble_eq_true rfl⟩ (fun r hr => ?_)
    refine w_top (y := nI (of_ T nc nr)) (by rw [hr]; exact hc.1 nr (Nat.le_refl _)) ?_
    refine lv_istore_n (lv' := [(1, .int (nI (of_ T nc nr))), (0, .ref o)]) hx hb dX1_transpose_40 rfl hl (by decide) rfl (fun ls hl => ?_)
    refine lv_iconst (v := nI 0) hx hb dX1_transpose_41 (by decide) ?_
    refine lv_istore_n (lv' := [(2, .int (nI 0)), (1, .int (nI (of_ T nc nr))), (0, .ref o)]) hx hb dX1_transpose_42 rfl hl (by decide) rfl (fun ls hl => ?_)
    refine lp_tr1 (P := P) C hc i2 i4 (by omega) (fun st H locs ls h5 hw hl => ?_) (nr + 1) 0 st H locs ls (by omega) (by omega) (tu1_0 i4 hbe) hw (lv_sub hl [2, 1, 0] rfl)
    refine lv_iconst (v := nI 0) hx hb dX1_transpose_77 (by decide) ?_
    refine lv_istore_n (lv' := [(2, .int (nI 0)), (0, .ref o)]) hx hb dX1_transpose_78 rfl hl (by decide) rfl (fun ls hl => ?_)
    refine lp_tr2 (P := P) C i2 i4 (fun st H locs ls h6 hw hl => ?_) (nc + 1) 0 st H locs ls (by omega) (by omega) (tu2_0 h5) hw (lv_sub hl [1, 0] rfl)
    refine lv_iconst (v := nI 0) hx hb dX1_transpose_119 (by decide) ?_
    refine lv_istore_n (lv' := [(2, .int (nI 0)), (0, .ref o)]) hx hb dX1_transpose_120 rfl hl (by decide) rfl (fun ls hl => ?_)
    refine lp_tr3 (T := T) (P := P) C i2 i4 (fun ct H locs ls h7 hw hl => ?_) (nc + 1) 0 (F 21) H locs ls (by omega) (by omega) (fun v hv => by omega) hw (lv_sub hl [1, 0] rfl)
    refine lv_iconst (v := nI 0) hx hb dX1_transpose_153 (by decide) ?_
    refine lv_istore_n (lv' := [(2, .int (nI 0)), (0, .ref o)]) hx hb dX1_transpose_154 rfl hl (by decide) rfl (fun ls hl => ?_)
    refine lp_tr4 (P := P) C hc i2 i4 (by omega) (fun ct co va H locs ls h8 hw hl => ?_) (nr + 1) 0 ct (F 7) (F 8) H locs ls (by omega) (by omega) (tu4_0 h6 h7) hw (lv_sub hl [1, 0] rfl)
    refine lv_aload_n hx hb dX1_transpose_254 rfl (lv_at hl 0 rfl) ?_
    refine c_wVi (As := []) (rest := []) C hw [0, 5, 6] (met_X1_turns l D d (kr := nc) i4) (by decide) rfl (fun _ => rfl) (cwV 0 C.1.2.2.2.2 (lw_V q140 q142 qs1 q8 q143) rfl rfl rfl (by decide +kernel) ⟨Nat.le_of_ble_eq_true rfl, Nat.le_of_ble_eq_true rfl⟩) (va_recv C.2.1.1 hw.1 (ci := 0) (q0 := 0) rfl rfl) rfl hl.1 rfl (Nat.le_of_ble_eq_true rfl) dX1_transpose_255 ⟨Nat.le_of_ble_eq_true rfl, Nat.le_of_ble_eq_true rfl⟩ (fun r u H locs hr hw => ?_)
    have hw : Wd D Z s.heap [cO o 0 [.int (nI cp), .ref (ad 5), .ref (ad 1), .ref (ad 9), .ref (ad 13), .ref (ad 17), .ref (ad 21), .ref (ad 22), .ref (ad 23), .ref (ad 24)], cO (ad 1) 1 [.ref (ad 2), .ref (ad 3), .ref (ad 4), .int (nI nr), .int (nI nc)], cA d (ad 2) 61 (F 2), cA d (ad 3) 1000 (F 3), cA d (ad 4) 1000 (F 4), cO (ad 5) 1 [.ref (ad 6), .ref (ad 7), .ref (ad 8), .int (nI nc), .int (nI nr)], cA d (ad 6) 61 st, cA d (ad 7) 1000 co, cA d (ad 8) 1000 va, cO (ad 9) 2 [.ref (ad 10), .ref (ad 11), .ref (ad 12), .int (nI P.length)], cA d (ad 10) 2000 (F 10), cA d (ad 11) 2000 (F 11), cA d (ad 12) 2000 (F 12), cO (ad 13) 2 [.ref (ad 14), .ref (ad 15), .ref (ad 16), .int (sc 3)], cA d (ad 14) 2000 (F 14), cA d (ad 15) 2000 (F 15), cA d (ad 16) 2000 (F 16), cO (ad 17) 2 [.ref (ad 18), .ref (ad 19), .ref (ad 20), .int (sc 4)], cA d (ad 18) 2000 (F 18), cA d (ad 19) 2000 (F 19), cA d (ad 20) 2000 (F 20), cA d (ad 21) 61 ct, cA d (ad 22) 60 (F 22), cA d (ad 23) 60 (F 23), cA d (ad 24) 60 (F 24)] H locs := hw
    refine lv_pop hx hb dX1_transpose_258 rfl ?_
    refine lv_iconst (v := nI 0) hx hb dX1_transpose_259 (by decide) ?_
    refine lv_istore_n (lv' := [(2, .int (nI 0)), (0, .ref o)]) hx hb dX1_transpose_260 rfl hl (by decide) rfl (fun ls hl => ?_)
    refine lp_tr5 (T := T) (P := P) C (fun xv yv H locs ls h9 h10 hw => ?_) 61 0 (F 22) (F 23) H locs ls (by omega) (by omega) (fun v hv => by omega) (fun v hv => by omega) hw (lv_sub hl [1, 0] rfl)
    refine lv_iconst (v := nI 1) hx hb dX1_transpose_287 (by decide) ?_
    refine mu_zret (v := nI 1) (Y := fun _ h => RSok D d Z o nc nr cp (tt_ T) P (fun _ => 0) (fun _ => 0) h) C hw.2.2 rfl () rfl ?_ dX1_transpose_288
    have hw : Wd D Z s.heap [cO o 0 [.int (nI cp), .ref (ad 5), .ref (ad 1), .ref (ad 9), .ref (ad 13), .ref (ad 17), .ref (ad 21), .ref (ad 22), .ref (ad 23), .ref (ad 24)], cO (ad 5) 1 [.ref (ad 6), .ref (ad 7), .ref (ad 8), .int (nI nc), .int (nI nr)], cA d (ad 6) 61 st, cA d (ad 7) 1000 co, cA d (ad 8) 1000 va, cO (ad 1) 1 [.ref (ad 2), .ref (ad 3), .ref (ad 4), .int (nI nr), .int (nI nc)], cA d (ad 2) 61 (F 2), cA d (ad 3) 1000 (F 3), cA d (ad 4) 1000 (F 4), cO (ad 9) 2 [.ref (ad 10), .ref (ad 11), .ref (ad 12), .int (nI P.length)], cA d (ad 10) 2000 (F 10), cA d (ad 11) 2000 (F 11), cA d (ad 12) 2000 (F 12), cO (ad 13) 2 [.ref (ad 14), .ref (ad 15), .ref (ad 16), .int (sc 3)], cA d (ad 14) 2000 (F 14), cA d (ad 15) 2000 (F 15), cA d (ad 16) 2000 (F 16), cO (ad 17) 2 [.ref (ad 18), .ref (ad 19), .ref (ad 20), .int (sc 4)], cA d (ad 18) 2000 (F 18), cA d (ad 19) 2000 (F 19), cA d (ad 20) 2000 (F 20), cA d (ad 21) 61 ct, cA d (ad 22) 60 xv, cA d (ad 23) 60 yv, cA d (ad 24) 60 (F 24)] H locs := w_perm hw [0, 5, 6, 7, 8, 1, 2, 3, 4, 9, 10, 11, 12, 13, 14, 15, 16, 17, 18, 19, 20, 21, 22, 23, 24] (by decide) rfl
    exact rs_mk hw.1 hw.2.1 ⟨⟨i3, i4, i1, i2, i5, i6⟩, tu4_csr h6 h8, by rw [tu_cnt]; exact htot, hpl, hhd, fun e he => by (rw [hp] at he; cases he), h9, h10⟩
  · exact absurd (by rw [hp0]; decide) c1
end
section
/-! RowSparse: merges (walks printed by gen/rs4.py) -/
set_option maxRecDepth 100000
abbrev rmMe : Room := { frames := 1, cells := 0, slots := 0, locals := 24 }
theorem gs_add {L : List Tr} {i : Nat} : ∀ (m n j : Nat), gs_ L i j (m + n) = gs_ L i j m ++ gs_ L i (j + m) n
  | 0, n, j => by simp [gs_]
  | m + 1, n, j => by
    have h := gs_add (L := L) (i := i) m n (j + 1)
    rw [show m + 1 + n = (m + n) + 1 by omega, gs_, h, gs_, List.append_assoc, show j + 1 + m = j + (m + 1) by omega]
theorem gp_nil {L : List Tr} {i j nc : Nat} (h : ∀ e ∈ L, e.2.1 < nc) (hj : nc ≤ j) : gp_ L i j = [] := by
  rcases hg : gp_ L i j with _ | ⟨e, l⟩
  · rfl
  · have := mem_gp (L := L) (i := i) (j := j) (e := e) (by rw [hg]; exact List.mem_cons_self)
    have := h e this.1
    omega
theorem gs_nil {L : List Tr} {i nc : Nat} (h : ∀ e ∈ L, e.2.1 < nc) : ∀ (n j : Nat), nc ≤ j → gs_ L i j n = []
  | 0, _, _ => rfl
  | n + 1, j, hj => by rw [gs_, gp_nil h hj, gs_nil h n (j + 1) (by omega)]; rfl
theorem gs_cut {L : List Tr} {i nc : Nat} (h : ∀ e ∈ L, e.2.1 < nc) (hnc : nc ≤ 60) : gs_ L i 0 60 = gs_ L i 0 nc := by
  have h1 := gs_add (L := L) (i := i) nc (60 - nc) 0
  rw [show nc + (60 - nc) = 60 by omega, gs_nil h (60 - nc) (0 + nc) (by omega), List.append_nil] at h1
  exact h1
section ME
variable {p : Program} {l : Launch} {e : Env} {R : Room} {s : State} {m : MethodId} {args : Array Value} {below : List Frame} {meth : Method} {c : Code} {Q : State → Prop}
variable {D : va_G} {d : ClassId} {A : Nat → Prop} {H0 : Heap} {ret : Option FieldType}
set_option maxHeartbeats 4000000 in
set_option maxRecDepth 100000 in
theorem lp_me3 {o n1 n2 hp_ sa ca va_ ra rc rv nr nc cp : Nat} {w3 w5 w6 w7 w8 w9 z0 z1 z2 : Value} {ro rco rvv : Nat → Int32} {L RL : List Tr} {i j at_ : Nat} {tot : Int32} {rest2 : List Tr} {st co va : Nat → Int32} {H : Heap} {locs : List Loc} (C : Cx p s m args meth c cX1_merges 6 RX1 ret D d) (hlen : RL.length ≤ 2000) (hm : ∀ e ∈ RL, e.1 < 60 ∧ e.2.1 < 60) (hh : Hd ro rco rvv RL) (hi : i < 60) (hj : j < 60) (hr2 : ∀ e l, rest2 = e :: l → ¬ (e.1 = i ∧ e.2.1 = j)) (hw : Wd D A H0 [cO o 0 [.int (nI cp), .ref n1, .ref n2, w3, .ref hp_, w5, w6, w7, w8, w9], cO n1 1 [z0, z1, z2, .int (nI nr), .int (nI nc)], cO n2 1 [.ref sa, .ref ca, .ref va_, .int (nI nr), .int (nI nc)], cA d sa 61 st, cA d ca 1000 co, cA d va_ 1000 va, cO hp_ 2 [.ref ra, .ref rc, .ref rv, .int (nI RL.length)], cA d ra 2000 ro, cA d rc 2000 rco, cA d rv 2000 rvv] H locs)
    (K : ∀ (kk : Nat) (ls : Array Slot), RL.drop kk = rest2 → kk ≤ RL.length → lv_has ls 6 [(0, .ref o), (1, .int (nI at_)), (2, .int (nI kk)), (3, .int (nI i)), (4, .int (nI j)), (5, .int tot)] → W p l e rmMe s m args below meth c H locs 0 0 Q (F0 m 134 ls [])) :
    ∀ (g : List Tr) (kk : Nat) (v : Int32) (ls : Array Slot), RL.drop kk = g ++ rest2 → kk ≤ RL.length → (∀ e ∈ g, e.1 = i ∧ e.2.1 = j) → v + su_ g = tot → lv_has ls 6 [(0, .ref o), (1, .int (nI at_)), (2, .int (nI kk)), (3, .int (nI i)), (4, .int (nI j)), (5, .int v)] → W p l e rmMe s m args below meth c H locs 0 0 Q (F0 m 76 ls []) := by
  obtain ⟨hx, hb, -⟩ := C.1
  intro g
  induction g with
  | nil =>
    intro kk v ls h1 h2 h3 h4 hl
    have h1 : RL.drop kk = rest2 := h1
    have h4 : v = tot := by rw [← h4]; simp only [su_]; grind
    subst h4
    rcases hr : rest2 with _ | ⟨e0, l0⟩
    · have h5 := dr_nil (h1.trans hr)
      refine lv_iload_n hx hb dX1_merges_76 rfl (lv_at hl 2 rfl) ?_
      refine lv_aload_n hx hb dX1_merges_77 rfl (lv_at hl 0 rfl) ?_
      refine g_X1_26 C hw 0 rfl rfl dX1_merges_78 ?_
      refine g_X1_72 C hw 6 rfl rfl dX1_merges_81 ?_
      refine w_icmp_ge C (tgt := 134) (by omega) (by omega) dX1_merges_84 (by decide) (fun c1 => ?_) (fun c1 => ?_)
      · exact K kk ls h1 h2 (lv_sub hl [0, 1, 2, 3, 4, 5] rfl)
      · omega
    · obtain ⟨h5, h6, h7⟩ := dr_cons (h1.trans hr)
      obtain ⟨q1, q2, q3⟩ := hh kk e0 h6
      obtain ⟨m1, m2⟩ := hm e0 (List.mem_of_getElem? h6)
      refine lv_iload_n hx hb dX1_merges_76 rfl (lv_at hl 2 rfl) ?_
      refine lv_aload_n hx hb dX1_merges_77 rfl (lv_at hl 0 rfl) ?_
      refine g_X1_26 C hw 0 rfl rfl dX1_merges_78 ?_
      refine g_X1_72 C hw 6 rfl rfl dX1_merges_81 ?_
      refine w_icmp_ge C (tgt := 134) (by omega) (by omega) dX1_merges_84 (by decide) (fun c1 => ?_) (fun c1 => ?_)
      · omega
      · refine lv_aload_n hx hb dX1_merges_87 rfl (lv_at hl 0 rfl) ?_
        refine g_X1_26 C hw 0 rfl rfl dX1_merges_88 ?_
        refine g_X1_91 C hw 6 rfl rfl dX1_merges_91 ?_
        refine lv_iload_n hx hb dX1_merges_94 rfl (lv_at hl 2 rfl) ?_
        refine w_iald C hw 7 rfl (by omega) dX1_merges_95 ?_
        refine w_top (y := nI e0.1) (q1) ?_
        refine lv_iload_n hx hb dX1_merges_96 rfl (lv_at hl 3 rfl) ?_
        refine w_icmp_ne C (tgt := 134) (by omega) (by omega) dX1_merges_97 (by decide) (fun c2 => ?_) (fun c2 => ?_)
        · exact K kk ls h1 h2 (lv_sub hl [0, 1, 2, 3, 4, 5] rfl)
        · refine lv_aload_n hx hb dX1_merges_100 rfl (lv_at hl 0 rfl) ?_
          refine g_X1_26 C hw 0 rfl rfl dX1_merges_101 ?_
          refine g_X1_94 C hw 6 rfl rfl dX1_merges_104 ?_
          refine lv_iload_n hx hb dX1_merges_107 rfl (lv_at hl 2 rfl) ?_
          refine w_iald C hw 8 rfl (by omega) dX1_merges_108 ?_
          refine w_top (y := nI e0.2.1) (q2) ?_
          refine lv_iload hx hb dX1_merges_109 (lv_at hl 4 rfl) ?_
          refine w_icmp_ne C (tgt := 134) (by omega) (by omega) dX1_merges_111 (by decide) (fun c3 => ?_) (fun c3 => ?_)
          · exact K kk ls h1 h2 (lv_sub hl [0, 1, 2, 3, 4, 5] rfl)
          · exact absurd ⟨c2, c3⟩ (hr2 e0 l0 hr)
  | cons e0 g ih =>
    intro kk v ls h1 h2 h3 h4 hl
    obtain ⟨h5, h6, h7⟩ := dr_cons (e := e0) (l := g ++ rest2) h1
    obtain ⟨q1, q2, q3⟩ := hh kk e0 h6
    obtain ⟨g1, g2⟩ := h3 e0 List.mem_cons_self
    rw [g1] at q1
    rw [g2] at q2
    refine lv_iload_n hx hb dX1_merges_76 rfl (lv_at hl 2 rfl) ?_
    refine lv_aload_n hx hb dX1_merges_77 rfl (lv_at hl 0 rfl) ?_
    refine g_X1_26 C hw 0 rfl rfl dX1_merges_78 ?_
    refine g_X1_72 C hw 6 rfl rfl dX1_merges_81 ?_
    refine w_icmp_ge C (tgt := 134) (by omega) (by omega) dX1_merges_84 (by decide) (fun c1 => ?_) (fun c1 => ?_)
    · omega
    · refine lv_aload_n hx hb dX1_merges_87 rfl (lv_at hl 0 rfl) ?_
      refine g_X1_26 C hw 0 rfl rfl dX1_merges_88 ?_
      refine g_X1_91 C hw 6 rfl rfl dX1_merges_91 ?_
      refine lv_iload_n hx hb dX1_merges_94 rfl (lv_at hl 2 rfl) ?_
      refine w_iald C hw 7 rfl (by omega) dX1_merges_95 ?_
      refine w_top (y := nI i) (q1) ?_
      refine lv_iload_n hx hb dX1_merges_96 rfl (lv_at hl 3 rfl) ?_
      refine w_icmp_ne C (tgt := 134) (by omega) (by omega) dX1_merges_97 (by decide) (fun c2 => ?_) (fun c2 => ?_)
      · exact absurd rfl c2
      · refine lv_aload_n hx hb dX1_merges_100 rfl (lv_at hl 0 rfl) ?_
        refine g_X1_26 C hw 0 rfl rfl dX1_merges_101 ?_
        refine g_X1_94 C hw 6 rfl rfl dX1_merges_104 ?_
        refine lv_iload_n hx hb dX1_merges_107 rfl (lv_at hl 2 rfl) ?_
        refine w_iald C hw 8 rfl (by omega) dX1_merges_108 ?_
        refine w_top (y := nI j) (q2) ?_
        refine lv_iload hx hb dX1_merges_109 (lv_at hl 4 rfl) ?_
        refine w_icmp_ne C (tgt := 134) (by omega) (by omega) dX1_merges_111 (by decide) (fun c3 => ?_) (fun c3 => ?_)
        · exact absurd rfl c3
        · refine lv_iload hx hb dX1_merges_114 (lv_at hl 5 rfl) ?_
          refine lv_aload_n hx hb dX1_merges_116 rfl (lv_at hl 0 rfl) ?_
          refine g_X1_26 C hw 0 rfl rfl dX1_merges_117 ?_
          refine g_X1_95 C hw 6 rfl rfl dX1_merges_120 ?_
          refine lv_iload_n hx hb dX1_merges_123 rfl (lv_at hl 2 rfl) ?_
          refine w_iald C hw 9 rfl (by omega) dX1_merges_124 ?_
          refine w_top (y := e0.2.2) (q3) ?_
          refine lv_iadd hx hb dX1_merges_125 ?_
          refine lv_istore (lv' := [(5, .int (v + e0.2.2)), (0, .ref o), (1, .int (nI at_)), (2, .int (nI kk)), (3, .int (nI i)), (4, .int (nI j))]) hx hb dX1_merges_126 hl (by decide) rfl (fun ls hl => ?_)
          refine lv_iinc (v := nI (kk + 1)) (lv' := [(2, .int (nI (kk + 1))), (5, .int (v + e0.2.2)), (0, .ref o), (1, .int (nI at_)), (3, .int (nI i)), (4, .int (nI j))]) hx hb dX1_merges_128 hl (k := 3) rfl (nI_1 _) (by decide) rfl (fun ls hl => ?_)
          refine lv_goto (tgt := 76) hx hb dX1_merges_131 (by decide) ?_
          exact ih (kk + 1) _ ls h7 (by omega) (fun e he => h3 e (List.mem_cons_of_mem _ he)) (by rw [← h4]; simp only [su_]; grind) (lv_sub hl [2, 3, 0, 4, 5, 1] rfl)

set_option maxHeartbeats 4000000 in
set_option maxRecDepth 100000 in
theorem lp_me2 {o n1 n2 hp_ sa ca va_ ra rc rv nr nc cp : Nat} {w3 w5 w6 w7 w8 w9 z0 z1 z2 : Value} {ro rco rvv : Nat → Int32} {L RL : List Tr} {i : Nat} {rest : List Tr} {st : Nat → Int32} (C : Cx p s m args meth c cX1_merges 6 RX1 ret D d) (hlen : RL.length ≤ 2000) (hm : ∀ e ∈ RL, e.1 < 60 ∧ e.2.1 < 60) (hh : Hd ro rco rvv RL) (hi : i < nr) (hnr : nr ≤ 60) (hnc : nc ≤ 60) (hcp : cp ≤ 1000) (hrest : ∀ e ∈ rest, i + 1 ≤ e.1)
    (K1 : ∀ (kk : Nat) (co va : Nat → Int32) (H : Heap) (locs : List Loc) (ls : Array Slot), RL.drop kk = rest → kk ≤ RL.length → Bld st co va (ps_ L) nc i nc → of_ (ps_ L) nc i + rk_ (ps_ L) i nc ≤ cp → Wd D A H0 [cO o 0 [.int (nI cp), .ref n1, .ref n2, w3, .ref hp_, w5, w6, w7, w8, w9], cO n1 1 [z0, z1, z2, .int (nI nr), .int (nI nc)], cO n2 1 [.ref sa, .ref ca, .ref va_, .int (nI nr), .int (nI nc)], cA d sa 61 st, cA d ca 1000 co, cA d va_ 1000 va, cO hp_ 2 [.ref ra, .ref rc, .ref rv, .int (nI RL.length)], cA d ra 2000 ro, cA d rc 2000 rco, cA d rv 2000 rvv] H locs → lv_has ls 6 [(0, .ref o), (1, .int (nI (of_ (ps_ L) nc i + rk_ (ps_ L) i nc))), (2, .int (nI kk)), (3, .int (nI i))] → W p l e rmMe s m args below meth c H locs 0 0 Q (F0 m 169 ls []))
    (K2 : ∀ (co va : Nat → Int32) (H : Heap) (locs : List Loc) (ls : Array Slot), cp < of_ (ps_ L) nc nr → Wd D A H0 [cO o 0 [.int (nI cp), .ref n1, .ref n2, w3, .ref hp_, w5, w6, w7, w8, w9], cO n1 1 [z0, z1, z2, .int (nI nr), .int (nI nc)], cO n2 1 [.ref sa, .ref ca, .ref va_, .int (nI nr), .int (nI nc)], cA d sa 61 st, cA d ca 1000 co, cA d va_ 1000 va, cO hp_ 2 [.ref ra, .ref rc, .ref rv, .int (nI RL.length)], cA d ra 2000 ro, cA d rc 2000 rco, cA d rv 2000 rvv] H locs → W p l e rmMe s m args below meth c H locs 0 0 Q (F0 m 161 ls [])) :
    ∀ (n j kk : Nat) (co va : Nat → Int32) (H : Heap) (locs : List Loc) (ls : Array Slot), j + n = nc → RL.drop kk = gs_ L i j n ++ rest → kk ≤ RL.length → Bld st co va (ps_ L) nc i j → of_ (ps_ L) nc i + rk_ (ps_ L) i j ≤ cp → Wd D A H0 [cO o 0 [.int (nI cp), .ref n1, .ref n2, w3, .ref hp_, w5, w6, w7, w8, w9], cO n1 1 [z0, z1, z2, .int (nI nr), .int (nI nc)], cO n2 1 [.ref sa, .ref ca, .ref va_, .int (nI nr), .int (nI nc)], cA d sa 61 st, cA d ca 1000 co, cA d va_ 1000 va, cO hp_ 2 [.ref ra, .ref rc, .ref rv, .int (nI RL.length)], cA d ra 2000 ro, cA d rc 2000 rco, cA d rv 2000 rvv] H locs → lv_has ls 6 [(0, .ref o), (1, .int (nI (of_ (ps_ L) nc i + rk_ (ps_ L) i j))), (2, .int (nI kk)), (3, .int (nI i))] → W p l e rmMe s m args below meth c H locs 0 0 Q (F0 m 38 ls []) := by
  obtain ⟨hx, hb, -⟩ := C.1
  intro n
  induction n with
  | zero =>
    intro j kk co va H locs ls h1 h2 h3 h4 h5 hw hl
    have h2 : RL.drop kk = rest := h2
    have hj : j = nc := by omega
    rw [hj] at h4 h5 hl
    rcases hr : rest with _ | ⟨e0, l0⟩
    · have h6 := dr_nil (h2.trans hr)
      refine lv_iload_n hx hb dX1_merges_38 rfl (lv_at hl 2 rfl) ?_
      refine lv_aload_n hx hb dX1_merges_39 rfl (lv_at hl 0 rfl) ?_
      refine g_X1_26 C hw 0 rfl rfl dX1_merges_40 ?_
      refine g_X1_72 C hw 6 rfl rfl dX1_merges_43 ?_
      refine w_icmp_ge C (tgt := 169) (by omega) (by omega) dX1_merges_46 (by decide) (fun c1 => ?_) (fun c1 => ?_)
      · exact K1 kk co va H locs ls h2 h3 h4 h5 hw (lv_sub hl [0, 1, 2, 3] rfl)
      · omega
    · obtain ⟨h6, h7, h8⟩ := dr_cons (h2.trans hr)
      obtain ⟨q1, q2, q3⟩ := hh kk e0 h7
      obtain ⟨m1, m2⟩ := hm e0 (List.mem_of_getElem? h7)
      have h9 := hrest e0 (by rw [hr]; exact List.mem_cons_self)
      refine lv_iload_n hx hb dX1_merges_38 rfl (lv_at hl 2 rfl) ?_
      refine lv_aload_n hx hb dX1_merges_39 rfl (lv_at hl 0 rfl) ?_
      refine g_X1_26 C hw 0 rfl rfl dX1_merges_40 ?_
      refine g_X1_72 C hw 6 rfl rfl dX1_merges_43 ?_
      refine w_icmp_ge C (tgt := 169) (by omega) (by omega) dX1_merges_46 (by decide) (fun c1 => ?_) (fun c1 => ?_)
      · omega
      · refine lv_aload_n hx hb dX1_merges_49 rfl (lv_at hl 0 rfl) ?_
        refine g_X1_26 C hw 0 rfl rfl dX1_merges_50 ?_
        refine g_X1_91 C hw 6 rfl rfl dX1_merges_53 ?_
        refine lv_iload_n hx hb dX1_merges_56 rfl (lv_at hl 2 rfl) ?_
        refine w_iald C hw 7 rfl (by omega) dX1_merges_57 ?_
        refine w_top (y := nI e0.1) (q1) ?_
        refine lv_iload_n hx hb dX1_merges_58 rfl (lv_at hl 3 rfl) ?_
        refine w_icmp_ne C (tgt := 169) (by omega) (by omega) dX1_merges_59 (by decide) (fun c2 => ?_) (fun c2 => ?_)
        · exact K1 kk co va H locs ls h2 h3 h4 h5 hw (lv_sub hl [0, 1, 2, 3] rfl)
        · omega
  | succ n ih =>
    intro j kk co va H locs ls h1 h2 h3 h4 h5 hw hl
    have h2 : RL.drop kk = (gp_ L i j ++ gs_ L i (j + 1) n) ++ rest := h2
    rw [List.append_assoc] at h2
    have hsu := su_gp L i j
    rcases hg : gp_ L i j with _ | ⟨e0, g0⟩
    · rw [hg] at h2 hsu
      have hz : ps_ L i j = 0 := hsu.symm
      exact ih (j + 1) kk co va H locs ls (by omega) h2 h3 (bld_z hz h4) (by rw [rk_z hz]; exact h5) hw (by rw [rk_z hz]; exact hl)
    · have h2b := h2
      rw [hg] at h2b
      obtain ⟨h6, h7, h8⟩ := dr_cons (e := e0) (l := g0 ++ (gs_ L i (j + 1) n ++ rest)) h2b
      obtain ⟨q1, q2, q3⟩ := hh kk e0 h7
      have hgm : ∀ e ∈ gp_ L i j, e.1 = i ∧ e.2.1 = j := fun e he => (mem_gp he).2
      obtain ⟨g1, g2⟩ := hgm e0 (by rw [hg]; exact List.mem_cons_self)
      rw [g1] at q1
      rw [g2] at q2
      refine lv_iload_n hx hb dX1_merges_38 rfl (lv_at hl 2 rfl) ?_
      refine lv_aload_n hx hb dX1_merges_39 rfl (lv_at hl 0 rfl) ?_
      refine g_X1_26 C hw 0 rfl rfl dX1_merges_40 ?_
      refine g_X1_72 C hw 6 rfl rfl dX1_merges_43 ?_
      refine w_icmp_ge C (tgt := 169) (by omega) (by omega) dX1_merges_46 (by decide) (fun c1 => ?_) (fun c1 => ?_)
      · omega
      · refine lv_aload_n hx hb dX1_merges_49 rfl (lv_at hl 0 rfl) ?_
        refine g_X1_26 C hw 0 rfl rfl dX1_merges_50 ?_
        refine g_X1_91 C hw 6 rfl rfl dX1_merges_53 ?_
        refine lv_iload_n hx hb dX1_merges_56 rfl (lv_at hl 2 rfl) ?_
        refine w_iald C hw 7 rfl (by omega) dX1_merges_57 ?_
        refine w_top (y := nI i) (q1) ?_
        refine lv_iload_n hx hb dX1_merges_58 rfl (lv_at hl 3 rfl) ?_
        refine w_icmp_ne C (tgt := 169) (by omega) (by omega) dX1_merges_59 (by decide) (fun c2 => ?_) (fun c2 => ?_)
        · exact absurd rfl c2
        · refine lv_aload_n hx hb dX1_merges_62 rfl (lv_at hl 0 rfl) ?_
          refine g_X1_26 C hw 0 rfl rfl dX1_merges_63 ?_
          refine g_X1_94 C hw 6 rfl rfl dX1_merges_66 ?_
          refine lv_iload_n hx hb dX1_merges_69 rfl (lv_at hl 2 rfl) ?_
          refine w_iald C hw 8 rfl (by omega) dX1_merges_70 ?_
          refine w_top (y := nI j) (q2) ?_
          refine lv_istore (lv' := [(4, .int (nI j)), (0, .ref o), (1, .int (nI (of_ (ps_ L) nc i + rk_ (ps_ L) i j))), (2, .int (nI kk)), (3, .int (nI i))]) hx hb dX1_merges_71 hl (by decide) rfl (fun ls hl => ?_)
          refine lv_iconst (v := nI 0) hx hb dX1_merges_73 (by decide) ?_
          refine lv_istore (lv' := [(5, .int (nI 0)), (4, .int (nI j)), (0, .ref o), (1, .int (nI (of_ (ps_ L) nc i + rk_ (ps_ L) i j))), (2, .int (nI kk)), (3, .int (nI i))]) hx hb dX1_merges_74 hl (by decide) rfl (fun ls hl => ?_)
          have hr2 : ∀ e l, gs_ L i (j + 1) n ++ rest = e :: l → ¬ (e.1 = i ∧ e.2.1 = j) := by
            intro e l he hq
            have hmem : e ∈ gs_ L i (j + 1) n ++ rest := by rw [he]; exact List.mem_cons_self
            rcases List.mem_append.mp hmem with z | z
            · have := mem_gs z; omega
            · have := hrest e z; omega
          refine lp_me3 (L := L) C hlen hm hh (by omega) (by omega) hr2 hw (fun kk ls h9 h10 hl => ?_) (gp_ L i j) kk (nI 0) ls h2 h3 hgm (by rw [nI_0, hsu]; grind : nI 0 + su_ (gp_ L i j) = ps_ L i j) (lv_sub hl [2, 3, 4, 5, 1, 0] rfl)
          refine lv_iload hx hb dX1_merges_134 (lv_at hl 5 rfl) ?_
          refine lv_if_ne (tgt := 142) hx hb dX1_merges_136 (by decide) (fun hz => ?_) (fun hz => ?_)
          · have hps := pos_lt (T := ps_ L) (c := nc) hi (by omega : j < nc) hz
            by_cases hat : of_ (ps_ L) nc i + rk_ (ps_ L) i j = cp
            · rw [hat] at hl hps
              refine lv_aload_n hx hb dX1_merges_142 rfl (lv_at hl 0 rfl) ?_
              refine g_X1_16 C hw 0 rfl rfl dX1_merges_143 ?_
              refine lv_iload_n hx hb dX1_merges_146 rfl (lv_at hl 1 rfl) ?_
              refine lv_aload_n hx hb dX1_merges_147 rfl (lv_at hl 0 rfl) ?_
              refine g_X1_54 C hw 0 rfl rfl dX1_merges_148 ?_
              refine lv_iload hx hb dX1_merges_151 (lv_at hl 4 rfl) ?_
              refine lv_iload hx hb dX1_merges_153 (lv_at hl 5 rfl) ?_
              refine c_rdV (As := [.int (nI cp), .int (nI cp), .int (nI j), .int (ps_ L i j)]) (rest := []) C (met_puts_no l D d (nI j) (ps_ L i j) hcp) (cwV 4 C.1.2.2.2.2 (lw_V q136 q137 q138 q9 q139) rfl rfl rfl (by decide +kernel) ⟨Nat.le_of_ble_eq_true rfl, Nat.le_of_ble_eq_true rfl⟩) (va_recv C.2.1.1 hw.1 (ci := 1) (q0 := 2) rfl rfl) (w_cut hw [2, 4, 5] (by decide) rfl) rfl hl.1 rfl (Nat.le_of_ble_eq_true rfl) dX1_merges_155 ⟨Nat.le_of_ble_eq_true rfl, Nat.le_of_ble_eq_true rfl⟩ (fun r hr => ?_)
              subst hr
              refine lv_if_ne (tgt := 163) hx hb dX1_merges_158 (by decide) (fun c3 => ?_) (fun c3 => ?_)
              · exact absurd rfl c3
              · exact K2 co va H locs ls hps hw
            · have hat : of_ (ps_ L) nc i + rk_ (ps_ L) i j < cp := by omega
              refine lv_aload_n hx hb dX1_merges_142 rfl (lv_at hl 0 rfl) ?_
              refine g_X1_16 C hw 0 rfl rfl dX1_merges_143 ?_
              refine lv_iload_n hx hb dX1_merges_146 rfl (lv_at hl 1 rfl) ?_
              refine lv_aload_n hx hb dX1_merges_147 rfl (lv_at hl 0 rfl) ?_
              refine g_X1_54 C hw 0 rfl rfl dX1_merges_148 ?_
              refine lv_iload hx hb dX1_merges_151 (lv_at hl 4 rfl) ?_
              refine lv_iload hx hb dX1_merges_153 (lv_at hl 5 rfl) ?_
              refine c_wVi (As := [.int (nI (of_ (ps_ L) nc i + rk_ (ps_ L) i j)), .int (nI cp), .int (nI j), .int (ps_ L i j)]) (rest := []) C hw [2, 4, 5] (met_puts_yes l D d (nI j) (ps_ L i j) hat hcp) (by decide) rfl (fun _ => rfl) (cwV 4 C.1.2.2.2.2 (lw_V q136 q137 q138 q9 q139) rfl rfl rfl (by decide +kernel) ⟨Nat.le_of_ble_eq_true rfl, Nat.le_of_ble_eq_true rfl⟩) (va_recv C.2.1.1 hw.1 (ci := 1) (q0 := 2) rfl rfl) rfl hl.1 rfl (Nat.le_of_ble_eq_true rfl) dX1_merges_155 ⟨Nat.le_of_ble_eq_true rfl, Nat.le_of_ble_eq_true rfl⟩ (fun r u H locs hr hw => ?_)
              have hw : Wd D A H0 [cO o 0 [.int (nI cp), .ref n1, .ref n2, w3, .ref hp_, w5, w6, w7, w8, w9], cO n1 1 [z0, z1, z2, .int (nI nr), .int (nI nc)], cO n2 1 [.ref sa, .ref ca, .ref va_, .int (nI nr), .int (nI nc)], cA d sa 61 st, cA d ca 1000 (upd co (of_ (ps_ L) nc i + rk_ (ps_ L) i j) (nI j)), cA d va_ 1000 (upd va (of_ (ps_ L) nc i + rk_ (ps_ L) i j) (ps_ L i j)), cO hp_ 2 [.ref ra, .ref rc, .ref rv, .int (nI RL.length)], cA d ra 2000 ro, cA d rc 2000 rco, cA d rv 2000 rvv] H locs := hw
              subst hr
              refine lv_if_ne (tgt := 163) hx hb dX1_merges_158 (by decide) (fun c3 => ?_) (fun c3 => ?_)
              · refine lv_iinc (v := nI (of_ (ps_ L) nc i + rk_ (ps_ L) i j + 1)) (lv' := [(1, .int (nI (of_ (ps_ L) nc i + rk_ (ps_ L) i j + 1))), (0, .ref o), (2, .int (nI kk)), (3, .int (nI i)), (4, .int (nI j)), (5, .int (ps_ L i j))]) hx hb dX1_merges_163 hl (k := 1) rfl (nI_1 _) (by decide) rfl (fun ls hl => ?_)
                refine lv_goto (tgt := 38) hx hb dX1_merges_166 (by decide) ?_
                exact ih (j + 1) kk _ _ H locs ls (by omega) h9 h10 (bld_p hz (by omega) h4) (by rw [rk_s hz]; omega) hw (by rw [rk_s hz]; exact (lv_sub hl [1, 0, 2, 3] rfl))
              · exact absurd c3 (by decide)
          · refine lv_goto (tgt := 38) hx hb dX1_merges_139 (by decide) ?_
            exact ih (j + 1) kk co va H locs ls (by omega) h9 h10 (bld_z hz h4) (by rw [rk_z hz]; exact h5) hw (by rw [rk_z hz]; exact (lv_sub hl [0, 1, 2, 3] rfl))

set_option maxHeartbeats 4000000 in
set_option maxRecDepth 100000 in
theorem lp_me1 {o n1 n2 hp_ sa ca va_ ra rc rv nr nc cp : Nat} {w3 w5 w6 w7 w8 w9 z0 z1 z2 : Value} {ro rco rvv : Nat → Int32} {L RL : List Tr} (C : Cx p s m args meth c cX1_merges 6 RX1 ret D d) (hlen : RL.length ≤ 2000) (hm : ∀ e ∈ RL, e.1 < 60 ∧ e.2.1 < 60) (hh : Hd ro rco rvv RL) (hLr : ∀ e ∈ L, e.1 < nr ∧ e.2.1 < nc) (hnr : nr ≤ 60) (hnc : nc ≤ 60) (hcp : cp ≤ 1000)
    (K1 : ∀ (st co va : Nat → Int32) (H : Heap) (locs : List Loc) (ls : Array Slot), Bld st co va (ps_ L) nc nr 0 → of_ (ps_ L) nc nr ≤ cp → Wd D A H0 [cO o 0 [.int (nI cp), .ref n1, .ref n2, w3, .ref hp_, w5, w6, w7, w8, w9], cO n1 1 [z0, z1, z2, .int (nI nr), .int (nI nc)], cO n2 1 [.ref sa, .ref ca, .ref va_, .int (nI nr), .int (nI nc)], cA d sa 61 st, cA d ca 1000 co, cA d va_ 1000 va, cO hp_ 2 [.ref ra, .ref rc, .ref rv, .int (nI RL.length)], cA d ra 2000 ro, cA d rc 2000 rco, cA d rv 2000 rvv] H locs → W p l e rmMe s m args below meth c H locs 0 0 Q (F0 m 187 ls []))
    (K2 : ∀ (st co va : Nat → Int32) (H : Heap) (locs : List Loc) (ls : Array Slot), cp < of_ (ps_ L) nc nr → Wd D A H0 [cO o 0 [.int (nI cp), .ref n1, .ref n2, w3, .ref hp_, w5, w6, w7, w8, w9], cO n1 1 [z0, z1, z2, .int (nI nr), .int (nI nc)], cO n2 1 [.ref sa, .ref ca, .ref va_, .int (nI nr), .int (nI nc)], cA d sa 61 st, cA d ca 1000 co, cA d va_ 1000 va, cO hp_ 2 [.ref ra, .ref rc, .ref rv, .int (nI RL.length)], cA d ra 2000 ro, cA d rc 2000 rco, cA d rv 2000 rvv] H locs → W p l e rmMe s m args below meth c H locs 0 0 Q (F0 m 161 ls [])) :
    ∀ (n i q kk : Nat) (st co va : Nat → Int32) (H : Heap) (locs : List Loc) (ls : Array Slot), i ≤ nr → nr < i + n → i + q = 60 → RL.drop kk = rs_ L i q → kk ≤ RL.length → Bld st co va (ps_ L) nc i 0 → of_ (ps_ L) nc i ≤ cp → Wd D A H0 [cO o 0 [.int (nI cp), .ref n1, .ref n2, w3, .ref hp_, w5, w6, w7, w8, w9], cO n1 1 [z0, z1, z2, .int (nI nr), .int (nI nc)], cO n2 1 [.ref sa, .ref ca, .ref va_, .int (nI nr), .int (nI nc)], cA d sa 61 st, cA d ca 1000 co, cA d va_ 1000 va, cO hp_ 2 [.ref ra, .ref rc, .ref rv, .int (nI RL.length)], cA d ra 2000 ro, cA d rc 2000 rco, cA d rv 2000 rvv] H locs → lv_has ls 6 [(0, .ref o), (1, .int (nI (of_ (ps_ L) nc i))), (2, .int (nI kk)), (3, .int (nI i))] → W p l e rmMe s m args below meth c H locs 0 0 Q (F0 m 27 ls []) := by
  obtain ⟨hx, hb, -⟩ := C.1
  intro n
  induction n with
  | zero => intro i q kk st co va H locs ls h1 h2; omega
  | succ n ih =>
    intro i q kk st co va H locs ls h1 h2 h3 h4 h5 h6 h7 hw hl
    refine lv_iload_n hx hb dX1_merges_27 rfl (lv_at hl 3 rfl) ?_
    refine lv_aload_n hx hb dX1_merges_28 rfl (lv_at hl 0 rfl) ?_
    refine g_X1_12 C hw 0 rfl rfl dX1_merges_29 ?_
    refine g_X1_62 C hw 1 rfl rfl dX1_merges_32 ?_
    refine w_icmp_ge C (tgt := 187) (by omega) (by omega) dX1_merges_35 (by decide) (fun c1 => ?_) (fun c1 => ?_)
    · have hi : i = nr := by omega
      rw [hi] at h6 h7
      exact K1 st co va H locs ls h6 h7 hw
    · obtain ⟨q1, rfl⟩ : ∃ q1, q = q1 + 1 := ⟨q - 1, by omega⟩
      have h4 : RL.drop kk = gs_ L i 0 60 ++ rs_ L (i + 1) q1 := h4
      rw [gs_cut (fun e he => (hLr e he).2) hnc] at h4
      refine lp_me2 C hlen hm hh c1 hnr hnc hcp (fun e he => (mem_rs he).2) (fun kk co va H locs ls h9 h10 h11 h12 hw hl => ?_) (fun co va H locs ls h9 hw => K2 st co va H locs ls h9 hw) nc 0 kk co va H locs ls (by omega) h4 h5 h6 h7 hw (lv_sub hl [0, 1, 2, 3] rfl)
      refine lv_aload_n hx hb dX1_merges_169 rfl (lv_at hl 0 rfl) ?_
      refine g_X1_16 C hw 0 rfl rfl dX1_merges_170 ?_
      refine g_X1_82 C hw 2 rfl rfl dX1_merges_173 ?_
      refine lv_iload_n hx hb dX1_merges_176 rfl (lv_at hl 3 rfl) ?_
      refine lv_iconst (v := nI 1) hx hb dX1_merges_177 (by decide) ?_
      refine w_iadd C dX1_merges_178 ?_
      refine lv_iload_n hx hb dX1_merges_179 rfl (lv_at hl 1 rfl) ?_
      refine w_iast C hw 3 rfl (by omega) dX1_merges_180 (fun H locs hw => ?_)
      have hw : Wd D A H0 [cO o 0 [.int (nI cp), .ref n1, .ref n2, w3, .ref hp_, w5, w6, w7, w8, w9], cO n1 1 [z0, z1, z2, .int (nI nr), .int (nI nc)], cO n2 1 [.ref sa, .ref ca, .ref va_, .int (nI nr), .int (nI nc)], cA d sa 61 (upd st (i + 1) (nI (of_ (ps_ L) nc i + rk_ (ps_ L) i nc))), cA d ca 1000 co, cA d va_ 1000 va, cO hp_ 2 [.ref ra, .ref rc, .ref rv, .int (nI RL.length)], cA d ra 2000 ro, cA d rc 2000 rco, cA d rv 2000 rvv] H locs := hw
      refine lv_iinc (v := nI (i + 1)) (lv' := [(3, .int (nI (i + 1))), (0, .ref o), (1, .int (nI (of_ (ps_ L) nc i + rk_ (ps_ L) i nc))), (2, .int (nI kk))]) hx hb dX1_merges_181 hl (k := 3) rfl (nI_1 _) (by decide) rfl (fun ls hl => ?_)
      refine lv_goto (tgt := 27) hx hb dX1_merges_184 (by decide) ?_
      exact ih (i + 1) q1 kk _ co va H locs ls (by omega) (by omega) (by omega) h9 h10 (bld_r h11) h12 hw (lv_sub hl [1, 2, 3, 0] rfl)
end ME
set_option maxHeartbeats 4000000 in
set_option maxRecDepth 100000 in
/-- merges(): like places as one, without those that are 0 -/
theorem met_merges (l : Launch) (D : va_G) (d : ClassId) {o n1 n2 hp_ sa ca va_ ra rc rv nr nc cp : Nat} {w3 w5 w6 w7 w8 w9 z0 z1 z2 : Value} {ro rco rvv : Nat → Int32} {L RL : List Tr} {st0 co0 va0 : Nat → Int32} {r0 c0 : Int32} (hlen : RL.length ≤ 2000) (hm : ∀ e ∈ RL, e.1 < 60 ∧ e.2.1 < 60) (hh : Hd ro rco rvv RL) (hRL : RL = rs_ L 0 60) (hLr : ∀ e ∈ L, e.1 < nr ∧ e.2.1 < nc) (hnr : nr ≤ 60) (hnc : nc ≤ 60) (hcp : cp ≤ 1000) : Met l yX1_merges (ws_ yX1_merges cX1_merges 6 (some .boolean)) rmMe (pc_ [.ref o] D d (xw D [cO o 0 [.int (nI cp), .ref n1, .ref n2, w3, .ref hp_, w5, w6, w7, w8, w9], cO n1 1 [z0, z1, z2, .int (nI nr), .int (nI nc)], cO n2 1 [.ref sa, .ref ca, .ref va_, .int r0, .int c0], cA d sa 61 st0, cA d ca 1000 co0, cA d va_ 1000 va0, cO hp_ 2 [.ref ra, .ref rc, .ref rv, .int (nI RL.length)], cA d ra 2000 ro, cA d rc 2000 rco, cA d rv 2000 rvv])) (va_Qi (fun v (u : (Nat → Int32) × (Nat → Int32) × (Nat → Int32)) => (v = 1 ∧ Csr u.1 u.2.1 u.2.2 nr nc (ps_ L) ∧ of_ (ps_ L) nc nr ≤ cp) ∨ (v = 0 ∧ cp < of_ (ps_ L) nc nr)) (fun (u : (Nat → Int32) × (Nat → Int32) × (Nat → Int32)) t9 => va_P D vwCl [cO o 0 [.int (nI cp), .ref n1, .ref n2, w3, .ref hp_, w5, w6, w7, w8, w9], cO n1 1 [z0, z1, z2, .int (nI nr), .int (nI nc)], cO n2 1 [.ref sa, .ref ca, .ref va_, .int (nI nr), .int (nI nc)], cA d sa 61 u.1, cA d ca 1000 u.2.1, cA d va_ 1000 u.2.2, cO hp_ 2 [.ref ra, .ref rc, .ref rv, .int (nI RL.length)], cA d ra 2000 ro, cA d rc 2000 rco, cA d rv 2000 rvv] t9.heap) (zs [cO o 0 [.int (nI cp), .ref n1, .ref n2, w3, .ref hp_, w5, w6, w7, w8, w9], cO n1 1 [z0, z1, z2, .int (nI nr), .int (nI nc)], cO n2 1 [.ref sa, .ref ca, .ref va_, .int r0, .int c0], cA d sa 61 st0, cA d ca 1000 co0, cA d va_ 1000 va0, cO hp_ 2 [.ref ra, .ref rc, .ref rv, .int (nI RL.length)], cA d ra 2000 ro, cA d rc 2000 rco, cA d rv 2000 rvv])) 0 0 (zs [cO o 0 [.int (nI cp), .ref n1, .ref n2, w3, .ref hp_, w5, w6, w7, w8, w9], cO n1 1 [z0, z1, z2, .int (nI nr), .int (nI nc)], cO n2 1 [.ref sa, .ref ca, .ref va_, .int r0, .int c0], cA d sa 61 st0, cA d ca 1000 co0, cA d va_ 1000 va0, cO hp_ 2 [.ref ra, .ref rc, .ref rv, .int (nI RL.length)], cA d ra 2000 ro, cA d rc 2000 rco, cA d rv 2000 rvv]) := by
  refine mt_ofW (own := RX1) rfl (by decide) (Nat.le_of_ble_eq_true rfl) (fun p e s m below meth c C hnm hX ls hl => ?_)
  obtain ⟨hx, hb, -⟩ := C.1
  have hl : lv_has ls 6 [(0, .ref o)] := hl
  have hw : Wd D (zs [cO o 0 [.int (nI cp), .ref n1, .ref n2, w3, .ref hp_, w5, w6, w7, w8, w9], cO n1 1 [z0, z1, z2, .int (nI nr), .int (nI nc)], cO n2 1 [.ref sa, .ref ca, .ref va_, .int r0, .int c0], cA d sa 61 st0, cA d ca 1000 co0, cA d va_ 1000 va0, cO hp_ 2 [.ref ra, .ref rc, .ref rv, .int (nI RL.length)], cA d ra 2000 ro, cA d rc 2000 rco, cA d rv 2000 rvv]) s.heap [cO o 0 [.int (nI cp), .ref n1, .ref n2, w3, .ref hp_, w5, w6, w7, w8, w9], cO n1 1 [z0, z1, z2, .int (nI nr), .int (nI nc)], cO n2 1 [.ref sa, .ref ca, .ref va_, .int r0, .int c0], cA d sa 61 st0, cA d ca 1000 co0, cA d va_ 1000 va0, cO hp_ 2 [.ref ra, .ref rc, .ref rv, .int (nI RL.length)], cA d ra 2000 ro, cA d rc 2000 rco, cA d rv 2000 rvv] s.heap [] := ⟨hX.1, zs_self hX.2, va_S.rf⟩
  generalize zs [cO o 0 [.int (nI cp), .ref n1, .ref n2, w3, .ref hp_, w5, w6, w7, w8, w9], cO n1 1 [z0, z1, z2, .int (nI nr), .int (nI nc)], cO n2 1 [.ref sa, .ref ca, .ref va_, .int r0, .int c0], cA d sa 61 st0, cA d ca 1000 co0, cA d va_ 1000 va0, cO hp_ 2 [.ref ra, .ref rc, .ref rv, .int (nI RL.length)], cA d ra 2000 ro, cA d rc 2000 rco, cA d rv 2000 rvv] = A at hw ⊢
  refine lv_aload_n hx hb dX1_merges_0 rfl (lv_at hl 0 rfl) ?_
  refine g_X1_16 C hw 0 rfl rfl dX1_merges_1 ?_
  refine lv_aload_n hx hb dX1_merges_4 rfl (lv_at hl 0 rfl) ?_
  refine g_X1_12 C hw 0 rfl rfl dX1_merges_5 ?_
  refine g_X1_62 C hw 1 rfl rfl dX1_merges_8 ?_
  refine lv_aload_n hx hb dX1_merges_11 rfl (lv_at hl 0 rfl) ?_
  refine g_X1_12 C hw 0 rfl rfl dX1_merges_12 ?_
  refine g_X1_69 C hw 1 rfl rfl dX1_merges_15 ?_
  refine c_wVv (As := [.int (nI nr), .int (nI nc)]) (rest := []) C hw [2, 3] (met_be l D d (nI nr) (nI nc)) (by decide) rfl (fun _ => rfl) (cwV 2 C.1.2.2.2.2 (lw_V q78 q79 q80 q9 q81) rfl rfl rfl (by decide +kernel) ⟨Nat.le_of_ble_eq_true rfl, Nat.le_of_ble_eq_true rfl⟩) (va_recv C.2.1.1 hw.1 (ci := 1) (q0 := 2) rfl rfl) rfl hl.1 rfl (Nat.le_of_ble_eq_true rfl) dX1_merges_18 ⟨Nat.le_of_ble_eq_true rfl, Nat.le_of_ble_eq_true rfl⟩ (fun st H locs hbe hw => ?_)
  have hw : Wd D A s.heap [cO o 0 [.int (nI cp), .ref n1, .ref n2, w3, .ref hp_, w5, w6, w7, w8, w9], cO n1 1 [z0, z1, z2, .int (nI nr), .int (nI nc)], cO n2 1 [.ref sa, .ref ca, .ref va_, .int (nI nr), .int (nI nc)], cA d sa 61 st, cA d ca 1000 co0, cA d va_ 1000 va0, cO hp_ 2 [.ref ra, .ref rc, .ref rv, .int (nI RL.length)], cA d ra 2000 ro, cA d rc 2000 rco, cA d rv 2000 rvv] H locs := hw
  refine lv_iconst (v := nI 0) hx hb dX1_merges_21 (by decide) ?_
  refine lv_istore_n (lv' := [(1, .int (nI 0)), (0, .ref o)]) hx hb dX1_merges_22 rfl hl (by decide) rfl (fun ls hl => ?_)
  refine lv_iconst (v := nI 0) hx hb dX1_merges_23 (by decide) ?_
  refine lv_istore_n (lv' := [(2, .int (nI 0)), (1, .int (nI 0)), (0, .ref o)]) hx hb dX1_merges_24 rfl hl (by decide) rfl (fun ls hl => ?_)
  refine lv_iconst (v := nI 0) hx hb dX1_merges_25 (by decide) ?_
  refine lv_istore_n (lv' := [(3, .int (nI 0)), (2, .int (nI 0)), (1, .int (nI 0)), (0, .ref o)]) hx hb dX1_merges_26 rfl hl (by decide) rfl (fun ls hl => ?_)
  refine lp_me1 (L := L) C hlen hm hh hLr hnr hnc hcp (fun st co va H locs ls h6 h7 hw => ?_) (fun st co va H locs ls h6 hw => ?_) (nr + 1) 0 60 0 st co0 va0 H locs ls (by omega) (by omega) rfl (by rw [← hRL]; rfl) (by omega) (bld_0 hbe) (by show 0 ≤ cp; omega) hw (lv_sub hl [3, 2, 1, 0] rfl)
  · refine lv_iconst (v := nI 1) hx hb dX1_merges_187 (by decide) ?_
    refine mu_zret (v := nI 1) (Y := fun u h => va_P D vwCl [cO o 0 [.int (nI cp), .ref n1, .ref n2, w3, .ref hp_, w5, w6, w7, w8, w9], cO n1 1 [z0, z1, z2, .int (nI nr), .int (nI nc)], cO n2 1 [.ref sa, .ref ca, .ref va_, .int (nI nr), .int (nI nc)], cA d sa 61 u.1, cA d ca 1000 u.2.1, cA d va_ 1000 u.2.2, cO hp_ 2 [.ref ra, .ref rc, .ref rv, .int (nI RL.length)], cA d ra 2000 ro, cA d rc 2000 rco, cA d rv 2000 rvv] h) C hw.2.2 rfl (st, co, va) ?_ hw.1 dX1_merges_188
    exact Or.inl ⟨rfl, bld_csr h6, h7⟩
  · refine lv_iconst (v := nI 0) hx hb dX1_merges_161 (by decide) ?_
    refine mu_zret (v := nI 0) (Y := fun u h => va_P D vwCl [cO o 0 [.int (nI cp), .ref n1, .ref n2, w3, .ref hp_, w5, w6, w7, w8, w9], cO n1 1 [z0, z1, z2, .int (nI nr), .int (nI nc)], cO n2 1 [.ref sa, .ref ca, .ref va_, .int (nI nr), .int (nI nc)], cA d sa 61 u.1, cA d ca 1000 u.2.1, cA d va_ 1000 u.2.2, cO hp_ 2 [.ref ra, .ref rc, .ref rv, .int (nI RL.length)], cA d ra 2000 ro, cA d rc 2000 rco, cA d rv 2000 rvv] h) C hw.2.2 rfl (st, co, va) ?_ hw.1 dX1_merges_162
    exact Or.inr ⟨nI_0, h6⟩
end
section
/-! RowSparse: build (walks printed by gen/rs5.py) -/
set_option maxRecDepth 100000
abbrev rmBu : Room := { frames := 2, cells := 0, slots := 0, locals := 49 }
def bdT (T : Nat → Nat → Int32) (P : List Tr) : Nat → Nat → Int32 := fun a b => T a b + ps_ P a b
theorem bd_eq {T : Nat → Nat → Int32} {P : List Tr} {nr nc a b : Nat} (ha : a < nr) (hb : b < nc) : ps_ (er_ T nc nr ++ P) a b = bdT T P a b := by
  rw [ps_app, er_ps, if_pos ⟨ha, hb⟩]; rfl
theorem bu_push {ro co va : Nat → Int32} {L M : List Tr} {i j n : Nat} {v : Int32} (h : Hd ro co va (L ++ M)) (hn : (L ++ M).length = n) : Hd (upd ro n (nI i)) (upd co n (nI j)) (upd va n v) (L ++ (M ++ [(i, j, v)])) := by
  rw [← List.append_assoc, ← hn]; exact hd_push h
section BU
variable {p : Program} {l : Launch} {e : Env} {R : Room} {s : State} {m : MethodId} {args : Array Value} {below : List Frame} {meth : Method} {c : Code} {Q : State → Prop}
variable {D : va_G} {d : ClassId} {A : Nat → Prop} {H0 : Heap} {ret : Option FieldType}
set_option maxHeartbeats 4000000 in
set_option maxRecDepth 100000 in
theorem lp_bu1 {o nr nc cp : Nat} {T : Nat → Nat → Int32} {P : List Tr} {ad : Nat → Nat} {sc : Nat → Int32} {F : Nat → Nat → Int32} {i : Nat} (C : Cx p s m args meth c cX1_build 3 RX1 ret D d) (hc : Csr (F 2) (F 3) (F 4) nr nc T) (hnr : nr ≤ 60) (hnc : nc ≤ 60) (htot : of_ T nc nr ≤ 1000) (hi : i < nr)
    (K : ∀ (ro co va : Nat → Int32) (H : Heap) (locs : List Loc) (ls : Array Slot), Hd ro co va (er_ T nc i ++ en_ T i nc) → Wd D A H0 [cO o 0 [.int (nI cp), .ref (ad 1), .ref (ad 5), .ref (ad 9), .ref (ad 13), .ref (ad 17), .ref (ad 21), .ref (ad 22), .ref (ad 23), .ref (ad 24)], cO (ad 1) 1 [.ref (ad 2), .ref (ad 3), .ref (ad 4), .int (nI nr), .int (nI nc)], cA d (ad 2) 61 (F 2), cA d (ad 3) 1000 (F 3), cA d (ad 4) 1000 (F 4), cO (ad 5) 1 [.ref (ad 6), .ref (ad 7), .ref (ad 8), .int (sc 1), .int (sc 2)], cA d (ad 6) 61 (F 6), cA d (ad 7) 1000 (F 7), cA d (ad 8) 1000 (F 8), cO (ad 9) 2 [.ref (ad 10), .ref (ad 11), .ref (ad 12), .int (nI P.length)], cA d (ad 10) 2000 (F 10), cA d (ad 11) 2000 (F 11), cA d (ad 12) 2000 (F 12), cO (ad 13) 2 [.ref (ad 14), .ref (ad 15), .ref (ad 16), .int (nI (of_ T nc i + rk_ T i nc))], cA d (ad 14) 2000 ro, cA d (ad 15) 2000 co, cA d (ad 16) 2000 va, cO (ad 17) 2 [.ref (ad 18), .ref (ad 19), .ref (ad 20), .int (sc 4)], cA d (ad 18) 2000 (F 18), cA d (ad 19) 2000 (F 19), cA d (ad 20) 2000 (F 20), cA d (ad 21) 61 (F 21), cA d (ad 22) 60 (F 22), cA d (ad 23) 60 (F 23), cA d (ad 24) 60 (F 24)] H locs → lv_has ls 3 [(0, .ref o), (1, .int (nI i))] → W p l e rmBu s m args below meth c H locs 0 0 Q (F0 m 78 ls [])) :
    ∀ (n j : Nat) (ro co va : Nat → Int32) (H : Heap) (locs : List Loc) (ls : Array Slot), j ≤ nc → nc < j + n → Hd ro co va (er_ T nc i ++ en_ T i j) → Wd D A H0 [cO o 0 [.int (nI cp), .ref (ad 1), .ref (ad 5), .ref (ad 9), .ref (ad 13), .ref (ad 17), .ref (ad 21), .ref (ad 22), .ref (ad 23), .ref (ad 24)], cO (ad 1) 1 [.ref (ad 2), .ref (ad 3), .ref (ad 4), .int (nI nr), .int (nI nc)], cA d (ad 2) 61 (F 2), cA d (ad 3) 1000 (F 3), cA d (ad 4) 1000 (F 4), cO (ad 5) 1 [.ref (ad 6), .ref (ad 7), .ref (ad 8), .int (sc 1), .int (sc 2)], cA d (ad 6) 61 (F 6), cA d (ad 7) 1000 (F 7), cA d (ad 8) 1000 (F 8), cO (ad 9) 2 [.ref (ad 10), .ref (ad 11), .ref (ad 12), .int (nI P.length)], cA d (ad 10) 2000 (F 10), cA d (ad 11) 2000 (F 11), cA d (ad 12) 2000 (F 12), cO (ad 13) 2 [.ref (ad 14), .ref (ad 15), .ref (ad 16), .int (nI (of_ T nc i + rk_ T i j))], cA d (ad 14) 2000 ro, cA d (ad 15) 2000 co, cA d (ad 16) 2000 va, cO (ad 17) 2 [.ref (ad 18), .ref (ad 19), .ref (ad 20), .int (sc 4)], cA d (ad 18) 2000 (F 18), cA d (ad 19) 2000 (F 19), cA d (ad 20) 2000 (F 20), cA d (ad 21) 61 (F 21), cA d (ad 22) 60 (F 22), cA d (ad 23) 60 (F 23), cA d (ad 24) 60 (F 24)] H locs → lv_has ls 3 [(0, .ref o), (1, .int (nI i)), (2, .int (nI (of_ T nc i + rk_ T i j)))] → W p l e rmBu s m args below meth c H locs 0 0 Q (F0 m 31 ls []) := by
  obtain ⟨hx, hb, -⟩ := C.1
  have hro : of_ T nc (i + 1) ≤ of_ T nc nr := of_mono hi
  intro n
  induction n with
  | zero => intro j ro co va H locs ls h1 h2; omega
  | succ n ih =>
    intro j ro co va H locs ls h1 h2 h3 hw hl
    by_cases hj : j = nc
    · have h9 : of_ T nc (i + 1) = of_ T nc i + rk_ T i j := by rw [hj]; rfl
      refine lv_iload_n hx hb dX1_build_31 rfl (lv_at hl 2 rfl) ?_
      refine lv_aload_n hx hb dX1_build_32 rfl (lv_at hl 0 rfl) ?_
      refine g_X1_12 C hw 0 rfl rfl dX1_build_33 ?_
      refine g_X1_82 C hw 1 rfl rfl dX1_build_36 ?_
      refine lv_iload_n hx hb dX1_build_39 rfl (lv_at hl 1 rfl) ?_
      refine lv_iconst (v := nI 1) hx hb dX1_build_40 (by decide) ?_
      refine w_iadd C dX1_build_41 ?_
      refine w_iald C hw 2 rfl (by omega) dX1_build_42 ?_
      refine w_top (y := nI (of_ T nc (i + 1))) (hc.1 (i + 1) (by omega)) ?_
      refine w_icmp_ge C (tgt := 78) (by omega) (by omega) dX1_build_43 (by decide) (fun c1 => ?_) (fun c1 => ?_)
      · rw [hj] at h3 hw
        exact K ro co va H locs ls h3 hw (lv_sub hl [0, 1] rfl)
      · omega
    · by_cases hz : T i j = 0
      · exact ih (j + 1) ro co va H locs ls (by omega) (by omega) (by rw [en_z hz]; exact h3) (by rw [rk_z hz]; exact hw) (by rw [rk_z hz]; exact hl)
      · have h9 := pos_row (T := T) (c := nc) (i := i) (j := j) (by omega) hz
        refine lv_iload_n hx hb dX1_build_31 rfl (lv_at hl 2 rfl) ?_
        refine lv_aload_n hx hb dX1_build_32 rfl (lv_at hl 0 rfl) ?_
        refine g_X1_12 C hw 0 rfl rfl dX1_build_33 ?_
        refine g_X1_82 C hw 1 rfl rfl dX1_build_36 ?_
        refine lv_iload_n hx hb dX1_build_39 rfl (lv_at hl 1 rfl) ?_
        refine lv_iconst (v := nI 1) hx hb dX1_build_40 (by decide) ?_
        refine w_iadd C dX1_build_41 ?_
        refine w_iald C hw 2 rfl (by omega) dX1_build_42 ?_
        refine w_top (y := nI (of_ T nc (i + 1))) (hc.1 (i + 1) (by omega)) ?_
        refine w_icmp_ge C (tgt := 78) (by omega) (by omega) dX1_build_43 (by decide) (fun c1 => ?_) (fun c1 => ?_)
        · omega
        · refine lv_aload_n hx hb dX1_build_46 rfl (lv_at hl 0 rfl) ?_
          refine g_X1_26 C hw 0 rfl rfl dX1_build_47 ?_
          refine lv_iload_n hx hb dX1_build_50 rfl (lv_at hl 1 rfl) ?_
          refine lv_aload_n hx hb dX1_build_51 rfl (lv_at hl 0 rfl) ?_
          refine g_X1_12 C hw 0 rfl rfl dX1_build_52 ?_
          refine g_X1_85 C hw 1 rfl rfl dX1_build_55 ?_
          refine lv_iload_n hx hb dX1_build_58 rfl (lv_at hl 2 rfl) ?_
          refine w_iald C hw 3 rfl (by omega) dX1_build_59 ?_
          refine w_top (y := nI j) ((hc.2 i j hi (by omega) hz).1) ?_
          refine lv_aload_n hx hb dX1_build_60 rfl (lv_at hl 0 rfl) ?_
          refine g_X1_12 C hw 0 rfl rfl dX1_build_61 ?_
          refine g_X1_88 C hw 1 rfl rfl dX1_build_64 ?_
          refine lv_iload_n hx hb dX1_build_67 rfl (lv_at hl 2 rfl) ?_
          refine w_iald C hw 4 rfl (by omega) dX1_build_68 ?_
          refine w_top (y := T i j) ((hc.2 i j hi (by omega) hz).2) ?_
          refine c_wVv (As := [.int (nI i), .int (nI j), .int (T i j)]) (rest := []) C hw [13, 14, 15, 16] (met_adds l D d (n := of_ T nc i + rk_ T i j) (nI i) (nI j) (T i j) (by omega)) (by decide) rfl (fun _ => rfl) (cwV 3 C.1.2.2.2.2 (lw_V q120 q121 q122 q10 q123) rfl rfl rfl (by decide +kernel) ⟨Nat.le_of_ble_eq_true rfl, Nat.le_of_ble_eq_true rfl⟩) (va_recv C.2.1.1 hw.1 (ci := 2) (q0 := 13) rfl rfl) rfl hl.1 rfl (Nat.le_of_ble_eq_true rfl) dX1_build_69 ⟨Nat.le_of_ble_eq_true rfl, Nat.le_of_ble_eq_true rfl⟩ (fun u H locs _ hw => ?_)
          have hw : Wd D A H0 [cO o 0 [.int (nI cp), .ref (ad 1), .ref (ad 5), .ref (ad 9), .ref (ad 13), .ref (ad 17), .ref (ad 21), .ref (ad 22), .ref (ad 23), .ref (ad 24)], cO (ad 1) 1 [.ref (ad 2), .ref (ad 3), .ref (ad 4), .int (nI nr), .int (nI nc)], cA d (ad 2) 61 (F 2), cA d (ad 3) 1000 (F 3), cA d (ad 4) 1000 (F 4), cO (ad 5) 1 [.ref (ad 6), .ref (ad 7), .ref (ad 8), .int (sc 1), .int (sc 2)], cA d (ad 6) 61 (F 6), cA d (ad 7) 1000 (F 7), cA d (ad 8) 1000 (F 8), cO (ad 9) 2 [.ref (ad 10), .ref (ad 11), .ref (ad 12), .int (nI P.length)], cA d (ad 10) 2000 (F 10), cA d (ad 11) 2000 (F 11), cA d (ad 12) 2000 (F 12), cO (ad 13) 2 [.ref (ad 14), .ref (ad 15), .ref (ad 16), .int (nI (of_ T nc i + rk_ T i j + 1))], cA d (ad 14) 2000 (upd ro (of_ T nc i + rk_ T i j) (nI i)), cA d (ad 15) 2000 (upd co (of_ T nc i + rk_ T i j) (nI j)), cA d (ad 16) 2000 (upd va (of_ T nc i + rk_ T i j) (T i j)), cO (ad 17) 2 [.ref (ad 18), .ref (ad 19), .ref (ad 20), .int (sc 4)], cA d (ad 18) 2000 (F 18), cA d (ad 19) 2000 (F 19), cA d (ad 20) 2000 (F 20), cA d (ad 21) 61 (F 21), cA d (ad 22) 60 (F 22), cA d (ad 23) 60 (F 23), cA d (ad 24) 60 (F 24)] H locs := hw
          refine lv_iinc (v := nI (of_ T nc i + rk_ T i j + 1)) (lv' := [(2, .int (nI (of_ T nc i + rk_ T i j + 1))), (0, .ref o), (1, .int (nI i))]) hx hb dX1_build_72 hl (k := 2) rfl (nI_1 _) (by decide) rfl (fun ls hl => ?_)
          refine lv_goto (tgt := 31) hx hb dX1_build_75 (by decide) ?_
          exact ih (j + 1) _ _ _ H locs ls (by omega) (by omega) (by rw [en_s hz]; exact bu_push h3 (by rw [List.length_append, er_len, en_len])) (by rw [rk_s hz]; exact hw) (by rw [rk_s hz]; exact (lv_sub hl [1, 2, 0] rfl))

set_option maxHeartbeats 4000000 in
set_option maxRecDepth 100000 in
theorem lp_bu2 {o nr nc cp : Nat} {T : Nat → Nat → Int32} {P : List Tr} {ad : Nat → Nat} {sc : Nat → Int32} {F : Nat → Nat → Int32} (C : Cx p s m args meth c cX1_build 3 RX1 ret D d) (hc : Csr (F 2) (F 3) (F 4) nr nc T) (hnr : nr ≤ 60) (hnc : nc ≤ 60) (htot : of_ T nc nr ≤ 1000)
    (K : ∀ (ro co va : Nat → Int32) (H : Heap) (locs : List Loc) (ls : Array Slot), Hd ro co va (er_ T nc nr) → Wd D A H0 [cO o 0 [.int (nI cp), .ref (ad 1), .ref (ad 5), .ref (ad 9), .ref (ad 13), .ref (ad 17), .ref (ad 21), .ref (ad 22), .ref (ad 23), .ref (ad 24)], cO (ad 1) 1 [.ref (ad 2), .ref (ad 3), .ref (ad 4), .int (nI nr), .int (nI nc)], cA d (ad 2) 61 (F 2), cA d (ad 3) 1000 (F 3), cA d (ad 4) 1000 (F 4), cO (ad 5) 1 [.ref (ad 6), .ref (ad 7), .ref (ad 8), .int (sc 1), .int (sc 2)], cA d (ad 6) 61 (F 6), cA d (ad 7) 1000 (F 7), cA d (ad 8) 1000 (F 8), cO (ad 9) 2 [.ref (ad 10), .ref (ad 11), .ref (ad 12), .int (nI P.length)], cA d (ad 10) 2000 (F 10), cA d (ad 11) 2000 (F 11), cA d (ad 12) 2000 (F 12), cO (ad 13) 2 [.ref (ad 14), .ref (ad 15), .ref (ad 16), .int (nI (of_ T nc nr))], cA d (ad 14) 2000 ro, cA d (ad 15) 2000 co, cA d (ad 16) 2000 va, cO (ad 17) 2 [.ref (ad 18), .ref (ad 19), .ref (ad 20), .int (sc 4)], cA d (ad 18) 2000 (F 18), cA d (ad 19) 2000 (F 19), cA d (ad 20) 2000 (F 20), cA d (ad 21) 61 (F 21), cA d (ad 22) 60 (F 22), cA d (ad 23) 60 (F 23), cA d (ad 24) 60 (F 24)] H locs → lv_has ls 3 [(0, .ref o)] → W p l e rmBu s m args below meth c H locs 0 0 Q (F0 m 84 ls [])) :
    ∀ (n i : Nat) (ro co va : Nat → Int32) (H : Heap) (locs : List Loc) (ls : Array Slot), i ≤ nr → nr < i + n → Hd ro co va (er_ T nc i) → Wd D A H0 [cO o 0 [.int (nI cp), .ref (ad 1), .ref (ad 5), .ref (ad 9), .ref (ad 13), .ref (ad 17), .ref (ad 21), .ref (ad 22), .ref (ad 23), .ref (ad 24)], cO (ad 1) 1 [.ref (ad 2), .ref (ad 3), .ref (ad 4), .int (nI nr), .int (nI nc)], cA d (ad 2) 61 (F 2), cA d (ad 3) 1000 (F 3), cA d (ad 4) 1000 (F 4), cO (ad 5) 1 [.ref (ad 6), .ref (ad 7), .ref (ad 8), .int (sc 1), .int (sc 2)], cA d (ad 6) 61 (F 6), cA d (ad 7) 1000 (F 7), cA d (ad 8) 1000 (F 8), cO (ad 9) 2 [.ref (ad 10), .ref (ad 11), .ref (ad 12), .int (nI P.length)], cA d (ad 10) 2000 (F 10), cA d (ad 11) 2000 (F 11), cA d (ad 12) 2000 (F 12), cO (ad 13) 2 [.ref (ad 14), .ref (ad 15), .ref (ad 16), .int (nI (of_ T nc i))], cA d (ad 14) 2000 ro, cA d (ad 15) 2000 co, cA d (ad 16) 2000 va, cO (ad 17) 2 [.ref (ad 18), .ref (ad 19), .ref (ad 20), .int (sc 4)], cA d (ad 18) 2000 (F 18), cA d (ad 19) 2000 (F 19), cA d (ad 20) 2000 (F 20), cA d (ad 21) 61 (F 21), cA d (ad 22) 60 (F 22), cA d (ad 23) 60 (F 23), cA d (ad 24) 60 (F 24)] H locs → lv_has ls 3 [(0, .ref o), (1, .int (nI i))] → W p l e rmBu s m args below meth c H locs 0 0 Q (F0 m 10 ls []) := by
  obtain ⟨hx, hb, -⟩ := C.1
  intro n
  induction n with
  | zero => intro i ro co va H locs ls h1 h2; omega
  | succ n ih =>
    intro i ro co va H locs ls h1 h2 h3 hw hl
    refine lv_iload_n hx hb dX1_build_10 rfl (lv_at hl 1 rfl) ?_
    refine lv_aload_n hx hb dX1_build_11 rfl (lv_at hl 0 rfl) ?_
    refine g_X1_12 C hw 0 rfl rfl dX1_build_12 ?_
    refine g_X1_62 C hw 1 rfl rfl dX1_build_15 ?_
    refine w_icmp_ge C (tgt := 84) (by omega) (by omega) dX1_build_18 (by decide) (fun c1 => ?_) (fun c1 => ?_)
    · have hi : i = nr := by omega
      rw [hi] at h3 hw
      exact K ro co va H locs ls h3 hw (lv_sub hl [0] rfl)
    · refine lv_aload_n hx hb dX1_build_21 rfl (lv_at hl 0 rfl) ?_
      refine g_X1_12 C hw 0 rfl rfl dX1_build_22 ?_
      refine g_X1_82 C hw 1 rfl rfl dX1_build_25 ?_
      refine lv_iload_n hx hb dX1_build_28 rfl (lv_at hl 1 rfl) ?_
      refine w_iald C hw 2 rfl (by omega) dX1_build_29 ?_
      refine w_top (y := nI (of_ T nc i)) (hc.1 i (by omega)) ?_
      refine lv_istore_n (lv' := [(2, .int (nI (of_ T nc i))), (0, .ref o), (1, .int (nI i))]) hx hb dX1_build_30 rfl hl (by decide) rfl (fun ls hl => ?_)
      refine lp_bu1 C hc hnr hnc htot c1 (fun ro co va H locs ls h5 hw hl => ?_) (nc + 1) 0 ro co va H locs ls (by omega) (by omega) (by simpa [en_] using h3) hw (lv_sub hl [1, 2, 0] rfl)
      refine lv_iinc (v := nI (i + 1)) (lv' := [(1, .int (nI (i + 1))), (0, .ref o)]) hx hb dX1_build_78 hl (k := 1) rfl (nI_1 _) (by decide) rfl (fun ls hl => ?_)
      refine lv_goto (tgt := 10) hx hb dX1_build_81 (by decide) ?_
      exact ih (i + 1) ro co va H locs ls (by omega) (by omega) h5 hw (lv_sub hl [1, 0] rfl)

set_option maxHeartbeats 4000000 in
set_option maxRecDepth 100000 in
theorem lp_bu3 {o nr nc cp : Nat} {T : Nat → Nat → Int32} {P : List Tr} {ad : Nat → Nat} {sc : Nat → Int32} {F : Nat → Nat → Int32} (C : Cx p s m args meth c cX1_build 3 RX1 ret D d) (htot : of_ T nc nr ≤ 1000) (hpl : P.length ≤ 1000) (hpr : ∀ e ∈ P, e.1 < 60 ∧ e.2.1 < 60) (hhd : Hd (F 10) (F 11) (F 12) P)
    (K : ∀ (ro co va : Nat → Int32) (H : Heap) (locs : List Loc) (ls : Array Slot), Hd ro co va (er_ T nc nr ++ P) → Wd D A H0 [cO o 0 [.int (nI cp), .ref (ad 1), .ref (ad 5), .ref (ad 9), .ref (ad 13), .ref (ad 17), .ref (ad 21), .ref (ad 22), .ref (ad 23), .ref (ad 24)], cO (ad 1) 1 [.ref (ad 2), .ref (ad 3), .ref (ad 4), .int (nI nr), .int (nI nc)], cA d (ad 2) 61 (F 2), cA d (ad 3) 1000 (F 3), cA d (ad 4) 1000 (F 4), cO (ad 5) 1 [.ref (ad 6), .ref (ad 7), .ref (ad 8), .int (sc 1), .int (sc 2)], cA d (ad 6) 61 (F 6), cA d (ad 7) 1000 (F 7), cA d (ad 8) 1000 (F 8), cO (ad 9) 2 [.ref (ad 10), .ref (ad 11), .ref (ad 12), .int (nI P.length)], cA d (ad 10) 2000 (F 10), cA d (ad 11) 2000 (F 11), cA d (ad 12) 2000 (F 12), cO (ad 13) 2 [.ref (ad 14), .ref (ad 15), .ref (ad 16), .int (nI (of_ T nc nr + P.length))], cA d (ad 14) 2000 ro, cA d (ad 15) 2000 co, cA d (ad 16) 2000 va, cO (ad 17) 2 [.ref (ad 18), .ref (ad 19), .ref (ad 20), .int (sc 4)], cA d (ad 18) 2000 (F 18), cA d (ad 19) 2000 (F 19), cA d (ad 20) 2000 (F 20), cA d (ad 21) 61 (F 21), cA d (ad 22) 60 (F 22), cA d (ad 23) 60 (F 23), cA d (ad 24) 60 (F 24)] H locs → lv_has ls 3 [(0, .ref o)] → W p l e rmBu s m args below meth c H locs 0 0 Q (F0 m 137 ls [])) :
    ∀ (n k : Nat) (ro co va : Nat → Int32) (H : Heap) (locs : List Loc) (ls : Array Slot), k ≤ P.length → P.length < k + n → Hd ro co va (er_ T nc nr ++ P.take k) → Wd D A H0 [cO o 0 [.int (nI cp), .ref (ad 1), .ref (ad 5), .ref (ad 9), .ref (ad 13), .ref (ad 17), .ref (ad 21), .ref (ad 22), .ref (ad 23), .ref (ad 24)], cO (ad 1) 1 [.ref (ad 2), .ref (ad 3), .ref (ad 4), .int (nI nr), .int (nI nc)], cA d (ad 2) 61 (F 2), cA d (ad 3) 1000 (F 3), cA d (ad 4) 1000 (F 4), cO (ad 5) 1 [.ref (ad 6), .ref (ad 7), .ref (ad 8), .int (sc 1), .int (sc 2)], cA d (ad 6) 61 (F 6), cA d (ad 7) 1000 (F 7), cA d (ad 8) 1000 (F 8), cO (ad 9) 2 [.ref (ad 10), .ref (ad 11), .ref (ad 12), .int (nI P.length)], cA d (ad 10) 2000 (F 10), cA d (ad 11) 2000 (F 11), cA d (ad 12) 2000 (F 12), cO (ad 13) 2 [.ref (ad 14), .ref (ad 15), .ref (ad 16), .int (nI (of_ T nc nr + k))], cA d (ad 14) 2000 ro, cA d (ad 15) 2000 co, cA d (ad 16) 2000 va, cO (ad 17) 2 [.ref (ad 18), .ref (ad 19), .ref (ad 20), .int (sc 4)], cA d (ad 18) 2000 (F 18), cA d (ad 19) 2000 (F 19), cA d (ad 20) 2000 (F 20), cA d (ad 21) 61 (F 21), cA d (ad 22) 60 (F 22), cA d (ad 23) 60 (F 23), cA d (ad 24) 60 (F 24)] H locs → lv_has ls 3 [(0, .ref o), (1, .int (nI k))] → W p l e rmBu s m args below meth c H locs 0 0 Q (F0 m 86 ls []) := by
  obtain ⟨hx, hb, -⟩ := C.1
  intro n
  induction n with
  | zero => intro k ro co va H locs ls h1 h2; omega
  | succ n ih =>
    intro k ro co va H locs ls h1 h2 h3 hw hl
    refine lv_iload_n hx hb dX1_build_86 rfl (lv_at hl 1 rfl) ?_
    refine lv_aload_n hx hb dX1_build_87 rfl (lv_at hl 0 rfl) ?_
    refine g_X1_22 C hw 0 rfl rfl dX1_build_88 ?_
    refine g_X1_72 C hw 9 rfl rfl dX1_build_91 ?_
    refine w_icmp_ge C (tgt := 137) (by omega) (by omega) dX1_build_94 (by decide) (fun c1 => ?_) (fun c1 => ?_)
    · have hk : k = P.length := by omega
      rw [hk] at h3 hw
      rw [List.take_length] at h3
      exact K ro co va H locs ls h3 hw (lv_sub hl [0] rfl)
    · obtain ⟨e0, he⟩ : ∃ e0, P[k]? = some e0 := ⟨_, List.getElem?_eq_getElem c1⟩
      obtain ⟨q1, q2, q3⟩ := hhd k e0 he
      refine lv_aload_n hx hb dX1_build_97 rfl (lv_at hl 0 rfl) ?_
      refine g_X1_26 C hw 0 rfl rfl dX1_build_98 ?_
      refine lv_aload_n hx hb dX1_build_101 rfl (lv_at hl 0 rfl) ?_
      refine g_X1_22 C hw 0 rfl rfl dX1_build_102 ?_
      refine g_X1_91 C hw 9 rfl rfl dX1_build_105 ?_
      refine lv_iload_n hx hb dX1_build_108 rfl (lv_at hl 1 rfl) ?_
      refine w_iald C hw 10 rfl (by omega) dX1_build_109 ?_
      refine w_top (y := nI e0.1) (q1) ?_
      refine lv_aload_n hx hb dX1_build_110 rfl (lv_at hl 0 rfl) ?_
      refine g_X1_22 C hw 0 rfl rfl dX1_build_111 ?_
      refine g_X1_94 C hw 9 rfl rfl dX1_build_114 ?_
      refine lv_iload_n hx hb dX1_build_117 rfl (lv_at hl 1 rfl) ?_
      refine w_iald C hw 11 rfl (by omega) dX1_build_118 ?_
      refine w_top (y := nI e0.2.1) (q2) ?_
      refine lv_aload_n hx hb dX1_build_119 rfl (lv_at hl 0 rfl) ?_
      refine g_X1_22 C hw 0 rfl rfl dX1_build_120 ?_
      refine g_X1_95 C hw 9 rfl rfl dX1_build_123 ?_
      refine lv_iload_n hx hb dX1_build_126 rfl (lv_at hl 1 rfl) ?_
      refine w_iald C hw 12 rfl (by omega) dX1_build_127 ?_
      refine w_top (y := e0.2.2) (q3) ?_
      refine c_wVv (As := [.int (nI e0.1), .int (nI e0.2.1), .int e0.2.2]) (rest := []) C hw [13, 14, 15, 16] (met_adds l D d (n := of_ T nc nr + k) (nI e0.1) (nI e0.2.1) e0.2.2 (by omega)) (by decide) rfl (fun _ => rfl) (cwV 3 C.1.2.2.2.2 (lw_V q120 q121 q122 q10 q123) rfl rfl rfl (by decide +kernel) ⟨Nat.le_of_ble_eq_true rfl, Nat.le_of_ble_eq_true rfl⟩) (va_recv C.2.1.1 hw.1 (ci := 2) (q0 := 13) rfl rfl) rfl hl.1 rfl (Nat.le_of_ble_eq_true rfl) dX1_build_128 ⟨Nat.le_of_ble_eq_true rfl, Nat.le_of_ble_eq_true rfl⟩ (fun u H locs _ hw => ?_)
      have hw : Wd D A H0 [cO o 0 [.int (nI cp), .ref (ad 1), .ref (ad 5), .ref (ad 9), .ref (ad 13), .ref (ad 17), .ref (ad 21), .ref (ad 22), .ref (ad 23), .ref (ad 24)], cO (ad 1) 1 [.ref (ad 2), .ref (ad 3), .ref (ad 4), .int (nI nr), .int (nI nc)], cA d (ad 2) 61 (F 2), cA d (ad 3) 1000 (F 3), cA d (ad 4) 1000 (F 4), cO (ad 5) 1 [.ref (ad 6), .ref (ad 7), .ref (ad 8), .int (sc 1), .int (sc 2)], cA d (ad 6) 61 (F 6), cA d (ad 7) 1000 (F 7), cA d (ad 8) 1000 (F 8), cO (ad 9) 2 [.ref (ad 10), .ref (ad 11), .ref (ad 12), .int (nI P.length)], cA d (ad 10) 2000 (F 10), cA d (ad 11) 2000 (F 11), cA d (ad 12) 2000 (F 12), cO (ad 13) 2 [.ref (ad 14), .ref (ad 15), .ref (ad 16), .int (nI (of_ T nc nr + k + 1))], cA d (ad 14) 2000 (upd ro (of_ T nc nr + k) (nI e0.1)), cA d (ad 15) 2000 (upd co (of_ T nc nr + k) (nI e0.2.1)), cA d (ad 16) 2000 (upd va (of_ T nc nr + k) e0.2.2), cO (ad 17) 2 [.ref (ad 18), .ref (ad 19), .ref (ad 20), .int (sc 4)], cA d (ad 18) 2000 (F 18), cA d (ad 19) 2000 (F 19), cA d (ad 20) 2000 (F 20), cA d (ad 21) 61 (F 21), cA d (ad 22) 60 (F 22), cA d (ad 23) 60 (F 23), cA d (ad 24) 60 (F 24)] H locs := hw
      refine lv_iinc (v := nI (k + 1)) (lv' := [(1, .int (nI (k + 1))), (0, .ref o)]) hx hb dX1_build_131 hl (k := 1) rfl (nI_1 _) (by decide) rfl (fun ls hl => ?_)
      refine lv_goto (tgt := 86) hx hb dX1_build_134 (by decide) ?_
      have htk : P.take (k + 1) = P.take k ++ [(e0.1, e0.2.1, e0.2.2)] := by rw [List.take_succ, he]; rfl
      exact ih (k + 1) _ _ _ H locs ls (by omega) (by omega) (by rw [htk]; exact bu_push h3 (by rw [List.length_append, er_len, List.length_take]; omega)) hw (lv_sub hl [1, 0] rfl)
end BU
set_option maxHeartbeats 4000000 in
set_option maxRecDepth 100000 in
/-- build() -/
theorem met_X1_build (l : Launch) (D : va_G) (d : ClassId) (Z : Nat → Prop) {o : Nat} {nr nc cp : Nat} {T : Nat → Nat → Int32} {P : List Tr} {x y : Nat → Int32}  : Met l yX1_build (ws_ yX1_build cX1_build 3 (some .int)) rmBu (pc_ [.ref o] D d (RSok D d Z o nr nc cp T P x y)) (va_Qi (fun v (_ : Unit) => v = if of_ (bdT T P) nc nr ≤ cp then nI (of_ (bdT T P) nc nr) else -1) (fun (_ : Unit) t9 => RSok D d Z o nr nc cp (if of_ (bdT T P) nc nr ≤ cp then bdT T P else T) (if of_ (bdT T P) nc nr ≤ cp then [] else P) x y t9.heap) (Z)) 0 0 (Z) := by
  refine mt_ofW (own := RX1) rfl (by decide) (Nat.le_of_ble_eq_true rfl) (fun p e s m below meth c C hnm hX ls hl => ?_)
  obtain ⟨hx, hb, -⟩ := C.1
  have hl : lv_has ls 3 [(0, .ref o)] := hl
  obtain ⟨ad, sc, F, hP, hD, hI⟩ := hX
  obtain ⟨⟨i1, i2, i3, i4, i5, i6⟩, hc, htot, hpl, hhd, hpr, hxx, hyy⟩ := id hI
  have hw : Wd D Z s.heap [cO o 0 [.int (nI cp), .ref (ad 1), .ref (ad 5), .ref (ad 9), .ref (ad 13), .ref (ad 17), .ref (ad 21), .ref (ad 22), .ref (ad 23), .ref (ad 24)], cO (ad 1) 1 [.ref (ad 2), .ref (ad 3), .ref (ad 4), .int (nI nr), .int (nI nc)], cA d (ad 2) 61 (F 2), cA d (ad 3) 1000 (F 3), cA d (ad 4) 1000 (F 4), cO (ad 5) 1 [.ref (ad 6), .ref (ad 7), .ref (ad 8), .int (sc 1), .int (sc 2)], cA d (ad 6) 61 (F 6), cA d (ad 7) 1000 (F 7), cA d (ad 8) 1000 (F 8), cO (ad 9) 2 [.ref (ad 10), .ref (ad 11), .ref (ad 12), .int (nI P.length)], cA d (ad 10) 2000 (F 10), cA d (ad 11) 2000 (F 11), cA d (ad 12) 2000 (F 12), cO (ad 13) 2 [.ref (ad 14), .ref (ad 15), .ref (ad 16), .int (sc 3)], cA d (ad 14) 2000 (F 14), cA d (ad 15) 2000 (F 15), cA d (ad 16) 2000 (F 16), cO (ad 17) 2 [.ref (ad 18), .ref (ad 19), .ref (ad 20), .int (sc 4)], cA d (ad 18) 2000 (F 18), cA d (ad 19) 2000 (F 19), cA d (ad 20) 2000 (F 20), cA d (ad 21) 61 (F 21), cA d (ad 22) 60 (F 22), cA d (ad 23) 60 (F 23), cA d (ad 24) 60 (F 24)] s.heap [] := ⟨hP, hD, va_S.rf⟩
  refine lv_aload_n hx hb dX1_build_0 rfl (lv_at hl 0 rfl) ?_
  refine g_X1_26 C hw 0 rfl rfl dX1_build_1 ?_
  refine lv_iconst (v := nI 0) hx hb dX1_build_4 (by decide) ?_
  refine p_X1_72 C hw 13 rfl (Nat.le_of_ble_eq_true rfl) dX1_build_5 (fun H locs hw => ?_)
  have hw : Wd D Z s.heap [cO o 0 [.int (nI cp), .ref (ad 1), .ref (ad 5), .ref (ad 9), .ref (ad 13), .ref (ad 17), .ref (ad 21), .ref (ad 22), .ref (ad 23), .ref (ad 24)], cO (ad 1) 1 [.ref (ad 2), .ref (ad 3), .ref (ad 4), .int (nI nr), .int (nI nc)], cA d (ad 2) 61 (F 2), cA d (ad 3) 1000 (F 3), cA d (ad 4) 1000 (F 4), cO (ad 5) 1 [.ref (ad 6), .ref (ad 7), .ref (ad 8), .int (sc 1), .int (sc 2)], cA d (ad 6) 61 (F 6), cA d (ad 7) 1000 (F 7), cA d (ad 8) 1000 (F 8), cO (ad 9) 2 [.ref (ad 10), .ref (ad 11), .ref (ad 12), .int (nI P.length)], cA d (ad 10) 2000 (F 10), cA d (ad 11) 2000 (F 11), cA d (ad 12) 2000 (F 12), cO (ad 13) 2 [.ref (ad 14), .ref (ad 15), .ref (ad 16), .int (nI 0)], cA d (ad 14) 2000 (F 14), cA d (ad 15) 2000 (F 15), cA d (ad 16) 2000 (F 16), cO (ad 17) 2 [.ref (ad 18), .ref (ad 19), .ref (ad 20), .int (sc 4)], cA d (ad 18) 2000 (F 18), cA d (ad 19) 2000 (F 19), cA d (ad 20) 2000 (F 20), cA d (ad 21) 61 (F 21), cA d (ad 22) 60 (F 22), cA d (ad 23) 60 (F 23), cA d (ad 24) 60 (F 24)] H locs := hw
  refine lv_iconst (v := nI 0) hx hb dX1_build_8 (by decide) ?_
  refine lv_istore_n (lv' := [(1, .int (nI 0)), (0, .ref o)]) hx hb dX1_build_9 rfl hl (by decide) rfl (fun ls hl => ?_)
  refine lp_bu2 C hc i2 i4 (by omega) (fun ro co va H locs ls h5 hw hl => ?_) (nr + 1) 0 (F 14) (F 15) (F 16) H locs ls (by omega) (by omega) hd_nil hw (lv_sub hl [1, 0] rfl)
  refine lv_iconst (v := nI 0) hx hb dX1_build_84 (by decide) ?_
  refine lv_istore_n (lv' := [(1, .int (nI 0)), (0, .ref o)]) hx hb dX1_build_85 rfl hl (by decide) rfl (fun ls hl => ?_)
  refine lp_bu3 C (by omega) (by omega) (fun e he => by have := hpr e he; omega) hhd (fun ro co va H locs ls h6 hw hl => ?_) (P.length + 1) 0 ro co va H locs ls (by omega) (by omega) (by simpa using h5) hw (lv_sub hl [1, 0] rfl)
  obtain ⟨LL, hLL⟩ : ∃ q, q = er_ T nc nr ++ P := ⟨_, rfl⟩
  have hlen : LL.length = of_ T nc nr + P.length := by rw [hLL, List.length_append, er_len]
  have hmem : ∀ e ∈ LL, e.1 < nr ∧ e.2.1 < nc := by
    intro e he
    rw [hLL] at he
    rcases List.mem_append.mp he with z | z
    · exact er_mem z
    · exact hpr e z
  rw [← hLL] at h6
  rw [← hlen] at hw
  refine lv_aload_n hx hb dX1_build_137 rfl (lv_at hl 0 rfl) ?_
  refine g_X1_26 C hw 0 rfl rfl dX1_build_138 ?_
  refine lv_aload_n hx hb dX1_build_141 rfl (lv_at hl 0 rfl) ?_
  refine g_X1_29 C hw 0 rfl rfl dX1_build_142 ?_
  refine lv_aload_n hx hb dX1_build_145 rfl (lv_at hl 0 rfl) ?_
  refine g_X1_32 C hw 0 rfl rfl dX1_build_146 ?_
  refine lv_iconst (v := nI 0) hx hb dX1_build_149 (by decide) ?_
  refine c_wVv (As := [.ref (ad 17), .ref (ad 21), .int (nI 0)]) (rest := []) C hw [13, 14, 15, 16, 17, 18, 19, 20, 21] (met_sorts l D d (L := LL) false (nI 0) (by decide) (by omega) (fun e he => by have := hmem e he; show e.2.1 < 60; omega) h6) (by decide) rfl (fun _ => rfl) (cwV 3 C.1.2.2.2.2 (lw_V q128 q129 q130 q10 q131) rfl rfl rfl (by decide +kernel) ⟨Nat.le_of_ble_eq_true rfl, Nat.le_of_ble_eq_true rfl⟩) (va_recv C.2.1.1 hw.1 (ci := 2) (q0 := 13) rfl rfl) rfl hl.1 rfl (Nat.le_of_ble_eq_true rfl) dX1_build_150 ⟨Nat.le_of_ble_eq_true rfl, Nat.le_of_ble_eq_true rfl⟩ (fun u H locs hs1 hw => ?_)
  obtain ⟨ct2, ro2, co2, va2⟩ := u
  have hs1 : Hd ro2 co2 va2 (cs_ false LL 0 60) := hs1
  have hw : Wd D Z s.heap [cO o 0 [.int (nI cp), .ref (ad 1), .ref (ad 5), .ref (ad 9), .ref (ad 13), .ref (ad 17), .ref (ad 21), .ref (ad 22), .ref (ad 23), .ref (ad 24)], cO (ad 1) 1 [.ref (ad 2), .ref (ad 3), .ref (ad 4), .int (nI nr), .int (nI nc)], cA d (ad 2) 61 (F 2), cA d (ad 3) 1000 (F 3), cA d (ad 4) 1000 (F 4), cO (ad 5) 1 [.ref (ad 6), .ref (ad 7), .ref (ad 8), .int (sc 1), .int (sc 2)], cA d (ad 6) 61 (F 6), cA d (ad 7) 1000 (F 7), cA d (ad 8) 1000 (F 8), cO (ad 9) 2 [.ref (ad 10), .ref (ad 11), .ref (ad 12), .int (nI P.length)], cA d (ad 10) 2000 (F 10), cA d (ad 11) 2000 (F 11), cA d (ad 12) 2000 (F 12), cO (ad 13) 2 [.ref (ad 14), .ref (ad 15), .ref (ad 16), .int (nI LL.length)], cA d (ad 14) 2000 ro, cA d (ad 15) 2000 co, cA d (ad 16) 2000 va, cO (ad 17) 2 [.ref (ad 18), .ref (ad 19), .ref (ad 20), .int (nI LL.length)], cA d (ad 18) 2000 ro2, cA d (ad 19) 2000 co2, cA d (ad 20) 2000 va2, cA d (ad 21) 61 ct2, cA d (ad 22) 60 (F 22), cA d (ad 23) 60 (F 23), cA d (ad 24) 60 (F 24)] H locs := hw
  obtain ⟨L2, hL2⟩ : ∃ q, q = cs_ false LL 0 60 := ⟨_, rfl⟩
  rw [← hL2] at hs1
  have hlen2 : L2.length = LL.length := by rw [hL2]; exact cs_total (b := false) (fun e he => by have := hmem e he; show e.2.1 < 60; omega)
  have hmem2 : ∀ e ∈ L2, e.1 < nr ∧ e.2.1 < nc := fun e he => hmem e (by rw [hL2] at he; exact mem_cs he)
  rw [← hlen2] at hw
  refine lv_aload_n hx hb dX1_build_153 rfl (lv_at hl 0 rfl) ?_
  refine g_X1_29 C hw 0 rfl rfl dX1_build_154 ?_
  refine lv_aload_n hx hb dX1_build_157 rfl (lv_at hl 0 rfl) ?_
  refine g_X1_26 C hw 0 rfl rfl dX1_build_158 ?_
  refine lv_aload_n hx hb dX1_build_161 rfl (lv_at hl 0 rfl) ?_
  refine g_X1_32 C hw 0 rfl rfl dX1_build_162 ?_
  refine lv_iconst (v := nI 1) hx hb dX1_build_165 (by decide) ?_
  refine c_wVv (As := [.ref (ad 13), .ref (ad 21), .int (nI 1)]) (rest := []) C hw [17, 18, 19, 20, 13, 14, 15, 16, 21] (met_sorts l D d (L := L2) true (nI 1) (by decide) (by omega) (fun e he => by have := hmem2 e he; show e.1 < 60; omega) hs1) (by decide) rfl (fun _ => rfl) (cwV 3 C.1.2.2.2.2 (lw_V q128 q129 q130 q10 q131) rfl rfl rfl (by decide +kernel) ⟨Nat.le_of_ble_eq_true rfl, Nat.le_of_ble_eq_true rfl⟩) (va_recv C.2.1.1 hw.1 (ci := 2) (q0 := 17) rfl rfl) rfl hl.1 rfl (Nat.le_of_ble_eq_true rfl) dX1_build_166 ⟨Nat.le_of_ble_eq_true rfl, Nat.le_of_ble_eq_true rfl⟩ (fun u H locs hs2 hw => ?_)
  obtain ⟨ct3, ro3, co3, va3⟩ := u
  have hs2 : Hd ro3 co3 va3 (cs_ true L2 0 60) := hs2
  have hw : Wd D Z s.heap [cO o 0 [.int (nI cp), .ref (ad 1), .ref (ad 5), .ref (ad 9), .ref (ad 13), .ref (ad 17), .ref (ad 21), .ref (ad 22), .ref (ad 23), .ref (ad 24)], cO (ad 1) 1 [.ref (ad 2), .ref (ad 3), .ref (ad 4), .int (nI nr), .int (nI nc)], cA d (ad 2) 61 (F 2), cA d (ad 3) 1000 (F 3), cA d (ad 4) 1000 (F 4), cO (ad 5) 1 [.ref (ad 6), .ref (ad 7), .ref (ad 8), .int (sc 1), .int (sc 2)], cA d (ad 6) 61 (F 6), cA d (ad 7) 1000 (F 7), cA d (ad 8) 1000 (F 8), cO (ad 9) 2 [.ref (ad 10), .ref (ad 11), .ref (ad 12), .int (nI P.length)], cA d (ad 10) 2000 (F 10), cA d (ad 11) 2000 (F 11), cA d (ad 12) 2000 (F 12), cO (ad 13) 2 [.ref (ad 14), .ref (ad 15), .ref (ad 16), .int (nI L2.length)], cA d (ad 14) 2000 ro3, cA d (ad 15) 2000 co3, cA d (ad 16) 2000 va3, cO (ad 17) 2 [.ref (ad 18), .ref (ad 19), .ref (ad 20), .int (nI L2.length)], cA d (ad 18) 2000 ro2, cA d (ad 19) 2000 co2, cA d (ad 20) 2000 va2, cA d (ad 21) 61 ct3, cA d (ad 22) 60 (F 22), cA d (ad 23) 60 (F 23), cA d (ad 24) 60 (F 24)] H locs := hw
  obtain ⟨RL, hRL⟩ : ∃ q, q = rs_ LL 0 60 := ⟨_, rfl⟩
  have hs3 : Hd ro3 co3 va3 RL := by rw [hRL, ← cs_rs, ← hL2]; exact hs2
  have hlen3 : RL.length = L2.length := by rw [hRL, hlen2]; exact rs_total (fun e he => by have := hmem e he; omega) (fun e he => by have := hmem e he; omega)
  have hmem3 : ∀ e ∈ RL, e.1 < 60 ∧ e.2.1 < 60 := fun e he => by have := hmem e (by rw [hRL] at he; exact (mem_rs he).1); omega
  rw [← hlen3] at hw
  refine lv_aload_n hx hb dX1_build_169 rfl (lv_at hl 0 rfl) ?_
  refine c_wVi (As := []) (rest := []) C hw [0, 1, 5, 6, 7, 8, 13, 14, 15, 16] (met_merges l D d (L := LL) (RL := RL) (by omega) hmem3 hs3 hRL hmem i2 i4 i6) (by decide) rfl (fun _ => rfl) (cwV 0 C.1.2.2.2.2 (lw_V q132 q134 qs0 q8 q135) rfl rfl rfl (by decide +kernel) ⟨Nat.le_of_ble_eq_true rfl, Nat.le_of_ble_eq_true rfl⟩) (va_recv C.2.1.1 hw.1 (ci := 0) (q0 := 0) rfl rfl) rfl hl.1 rfl (Nat.le_of_ble_eq_true rfl) dX1_build_170 ⟨Nat.le_of_ble_eq_true rfl, Nat.le_of_ble_eq_true rfl⟩ (fun r u H locs hme hw => ?_)
  obtain ⟨st4, co4, va4⟩ := u
  have hme : (r = 1 ∧ Csr st4 co4 va4 nr nc (ps_ LL) ∧ of_ (ps_ LL) nc nr ≤ cp) ∨ (r = 0 ∧ cp < of_ (ps_ LL) nc nr) := hme
  have hw : Wd D Z s.heap [cO o 0 [.int (nI cp), .ref (ad 1), .ref (ad 5), .ref (ad 9), .ref (ad 13), .ref (ad 17), .ref (ad 21), .ref (ad 22), .ref (ad 23), .ref (ad 24)], cO (ad 1) 1 [.ref (ad 2), .ref (ad 3), .ref (ad 4), .int (nI nr), .int (nI nc)], cA d (ad 2) 61 (F 2), cA d (ad 3) 1000 (F 3), cA d (ad 4) 1000 (F 4), cO (ad 5) 1 [.ref (ad 6), .ref (ad 7), .ref (ad 8), .int (nI nr), .int (nI nc)], cA d (ad 6) 61 st4, cA d (ad 7) 1000 co4, cA d (ad 8) 1000 va4, cO (ad 9) 2 [.ref (ad 10), .ref (ad 11), .ref (ad 12), .int (nI P.length)], cA d (ad 10) 2000 (F 10), cA d (ad 11) 2000 (F 11), cA d (ad 12) 2000 (F 12), cO (ad 13) 2 [.ref (ad 14), .ref (ad 15), .ref (ad 16), .int (nI RL.length)], cA d (ad 14) 2000 ro3, cA d (ad 15) 2000 co3, cA d (ad 16) 2000 va3, cO (ad 17) 2 [.ref (ad 18), .ref (ad 19), .ref (ad 20), .int (nI RL.length)], cA d (ad 18) 2000 ro2, cA d (ad 19) 2000 co2, cA d (ad 20) 2000 va2, cA d (ad 21) 61 ct3, cA d (ad 22) 60 (F 22), cA d (ad 23) 60 (F 23), cA d (ad 24) 60 (F 24)] H locs := hw
  have hof : of_ (ps_ LL) nc nr = of_ (bdT T P) nc nr := of_congr (fun a b ha hb => by rw [hLL]; exact bd_eq ha hb)
  rcases hme with ⟨rfl, hcs, hle⟩ | ⟨rfl, hgt⟩
  · refine lv_if_ne (tgt := 178) hx hb dX1_build_173 (by decide) (fun c1 => ?_) (fun c1 => ?_)
    · have h9 : of_ (bdT T P) nc nr ≤ cp := by rw [← hof]; exact hle
      refine lv_aload_n hx hb dX1_build_178 rfl (lv_at hl 0 rfl) ?_
      refine g_X1_22 C hw 0 rfl rfl dX1_build_179 ?_
      refine lv_iconst (v := nI 0) hx hb dX1_build_182 (by decide) ?_
      refine p_X1_72 C hw 9 rfl (Nat.le_of_ble_eq_true rfl) dX1_build_183 (fun H locs hw => ?_)
      have hw : Wd D Z s.heap [cO o 0 [.int (nI cp), .ref (ad 1), .ref (ad 5), .ref (ad 9), .ref (ad 13), .ref (ad 17), .ref (ad 21), .ref (ad 22), .ref (ad 23), .ref (ad 24)], cO (ad 1) 1 [.ref (ad 2), .ref (ad 3), .ref (ad 4), .int (nI nr), .int (nI nc)], cA d (ad 2) 61 (F 2), cA d (ad 3) 1000 (F 3), cA d (ad 4) 1000 (F 4), cO (ad 5) 1 [.ref (ad 6), .ref (ad 7), .ref (ad 8), .int (nI nr), .int (nI nc)], cA d (ad 6) 61 st4, cA d (ad 7) 1000 co4, cA d (ad 8) 1000 va4, cO (ad 9) 2 [.ref (ad 10), .ref (ad 11), .ref (ad 12), .int (nI 0)], cA d (ad 10) 2000 (F 10), cA d (ad 11) 2000 (F 11), cA d (ad 12) 2000 (F 12), cO (ad 13) 2 [.ref (ad 14), .ref (ad 15), .ref (ad 16), .int (nI RL.length)], cA d (ad 14) 2000 ro3, cA d (ad 15) 2000 co3, cA d (ad 16) 2000 va3, cO (ad 17) 2 [.ref (ad 18), .ref (ad 19), .ref (ad 20), .int (nI RL.length)], cA d (ad 18) 2000 ro2, cA d (ad 19) 2000 co2, cA d (ad 20) 2000 va2, cA d (ad 21) 61 ct3, cA d (ad 22) 60 (F 22), cA d (ad 23) 60 (F 23), cA d (ad 24) 60 (F 24)] H locs := hw
      refine lv_aload_n hx hb dX1_build_186 rfl (lv_at hl 0 rfl) ?_
      refine c_wVi (As := []) (rest := []) C hw [0, 5, 6] (met_X1_turns l D d (kr := nr) i2) (by decide) rfl (fun _ => rfl) (cwV 0 C.1.2.2.2.2 (lw_V q140 q142 qs1 q8 q143) rfl rfl rfl (by decide +kernel) ⟨Nat.le_of_ble_eq_true rfl, Nat.le_of_ble_eq_true rfl⟩) (va_recv C.2.1.1 hw.1 (ci := 0) (q0 := 0) rfl rfl) rfl hl.1 rfl (Nat.le_of_ble_eq_true rfl) dX1_build_187 ⟨Nat.le_of_ble_eq_true rfl, Nat.le_of_ble_eq_true rfl⟩ (fun r u H locs hr hw => ?_)
      have hw : Wd D Z s.heap [cO o 0 [.int (nI cp), .ref (ad 5), .ref (ad 1), .ref (ad 9), .ref (ad 13), .ref (ad 17), .ref (ad 21), .ref (ad 22), .ref (ad 23), .ref (ad 24)], cO (ad 1) 1 [.ref (ad 2), .ref (ad 3), .ref (ad 4), .int (nI nr), .int (nI nc)], cA d (ad 2) 61 (F 2), cA d (ad 3) 1000 (F 3), cA d (ad 4) 1000 (F 4), cO (ad 5) 1 [.ref (ad 6), .ref (ad 7), .ref (ad 8), .int (nI nr), .int (nI nc)], cA d (ad 6) 61 st4, cA d (ad 7) 1000 co4, cA d (ad 8) 1000 va4, cO (ad 9) 2 [.ref (ad 10), .ref (ad 11), .ref (ad 12), .int (nI 0)], cA d (ad 10) 2000 (F 10), cA d (ad 11) 2000 (F 11), cA d (ad 12) 2000 (F 12), cO (ad 13) 2 [.ref (ad 14), .ref (ad 15), .ref (ad 16), .int (nI RL.length)], cA d (ad 14) 2000 ro3, cA d (ad 15) 2000 co3, cA d (ad 16) 2000 va3, cO (ad 17) 2 [.ref (ad 18), .ref (ad 19), .ref (ad 20), .int (nI RL.length)], cA d (ad 18) 2000 ro2, cA d (ad 19) 2000 co2, cA d (ad 20) 2000 va2, cA d (ad 21) 61 ct3, cA d (ad 22) 60 (F 22), cA d (ad 23) 60 (F 23), cA d (ad 24) 60 (F 24)] H locs := hw
      rw [hcs.1 nr (Nat.le_refl _), hof] at hr
      refine mu_iret (Y := fun _ h => RSok D d Z o nr nc cp (if of_ (bdT T P) nc nr ≤ cp then bdT T P else T) (if of_ (bdT T P) nc nr ≤ cp then [] else P) x y h) C hw.2.2 () (by rw [if_pos h9]; exact hr) ?_ dX1_build_190
      rw [if_pos h9, if_pos h9]
      have hw : Wd D Z s.heap [cO o 0 [.int (nI cp), .ref (ad 5), .ref (ad 1), .ref (ad 9), .ref (ad 13), .ref (ad 17), .ref (ad 21), .ref (ad 22), .ref (ad 23), .ref (ad 24)], cO (ad 5) 1 [.ref (ad 6), .ref (ad 7), .ref (ad 8), .int (nI nr), .int (nI nc)], cA d (ad 6) 61 st4, cA d (ad 7) 1000 co4, cA d (ad 8) 1000 va4, cO (ad 1) 1 [.ref (ad 2), .ref (ad 3), .ref (ad 4), .int (nI nr), .int (nI nc)], cA d (ad 2) 61 (F 2), cA d (ad 3) 1000 (F 3), cA d (ad 4) 1000 (F 4), cO (ad 9) 2 [.ref (ad 10), .ref (ad 11), .ref (ad 12), .int (nI 0)], cA d (ad 10) 2000 (F 10), cA d (ad 11) 2000 (F 11), cA d (ad 12) 2000 (F 12), cO (ad 13) 2 [.ref (ad 14), .ref (ad 15), .ref (ad 16), .int (nI RL.length)], cA d (ad 14) 2000 ro3, cA d (ad 15) 2000 co3, cA d (ad 16) 2000 va3, cO (ad 17) 2 [.ref (ad 18), .ref (ad 19), .ref (ad 20), .int (nI RL.length)], cA d (ad 18) 2000 ro2, cA d (ad 19) 2000 co2, cA d (ad 20) 2000 va2, cA d (ad 21) 61 ct3, cA d (ad 22) 60 (F 22), cA d (ad 23) 60 (F 23), cA d (ad 24) 60 (F 24)] H locs := w_perm hw [0, 5, 6, 7, 8, 1, 2, 3, 4, 9, 10, 11, 12, 13, 14, 15, 16, 17, 18, 19, 20, 21, 22, 23, 24] (by decide) rfl
      refine rs_mk (P := []) hw.1 hw.2.1 ⟨⟨i1, i2, i3, i4, i5, i6⟩, ?_, h9, Nat.zero_le _, hd_nil, (fun e he => absurd he List.not_mem_nil), hxx, hyy⟩
      exact csr_congr (fun a b ha hb => by rw [hLL]; exact bd_eq ha hb) hcs
    · exact absurd c1 (by decide)
  · refine lv_if_ne (tgt := 178) hx hb dX1_build_173 (by decide) (fun c1 => ?_) (fun c1 => ?_)
    · exact absurd rfl c1
    · have h9 : ¬ of_ (bdT T P) nc nr ≤ cp := by rw [← hof]; omega
      refine lv_iconst (v := (-1)) hx hb dX1_build_176 (by decide) ?_
      refine mu_iret (Y := fun _ h => RSok D d Z o nr nc cp (if of_ (bdT T P) nc nr ≤ cp then bdT T P else T) (if of_ (bdT T P) nc nr ≤ cp then [] else P) x y h) C hw.2.2 () (by rw [if_neg h9]) ?_ dX1_build_177
      rw [if_neg h9, if_neg h9]
      exact rs_mk hw.1 hw.2.1 hI
end
section
/-! RowSparseModel: within, isPlace, many, turns, becomes, and the reading methods, add, setX (walks printed by gen/mo1.py) -/
set_option maxRecDepth 100000
theorem of_3600 {T : Nat → Nat → Int32} {c i : Nat} (hi : i ≤ 60) (hc : c ≤ 60) : of_ T c i ≤ 3600 := Nat.le_trans of_le (Nat.le_trans (Nat.mul_le_mul hi hc) (by decide))
set_option maxHeartbeats 4000000 in
set_option maxRecDepth 100000 in
/-- within(v, most) -/
theorem met_within (l : Launch) (D : va_G) (d : ClassId) (v0 mo : Int32) : Met l yX4_within (ws_ yX4_within cX4_within 2 (some .int)) ({ frames := 0, cells := 0, slots := 0, locals := 0 } : Room) (pc_ [.int v0, .int mo] D d (fun _ => True)) (vp_Si (fun v => v = if v0 < 1 then 1 else if mo < v0 then mo else v0)) 0 0 (fun _ => False) := by
  refine mt_ofW (own := RX4) rfl (by decide) (Nat.le_of_ble_eq_true rfl) (fun p e s m below meth c C hnm hX ls hl => ?_)
  obtain ⟨hx, hb, -⟩ := C.1
  have hl : lv_has ls 2 [(0, .int v0), (1, .int mo)] := hl
  refine lv_iload_n hx hb dX4_within_0 rfl (lv_at hl 0 rfl) ?_
  refine lv_iconst (v := nI 1) hx hb dX4_within_1 (by decide) ?_
  refine lv_icmp_ge (tgt := 9) hx hb dX4_within_2 (by decide) (fun c1 => ?_) (fun c1 => ?_)
  · have c1 : ¬ v0 < 1 := Int32.not_lt.mpr c1
    rw [if_neg c1]
    refine lv_iload_n hx hb dX4_within_9 rfl (lv_at hl 0 rfl) ?_
    refine lv_iload_n hx hb dX4_within_10 rfl (lv_at hl 1 rfl) ?_
    refine lv_icmp_le (tgt := 18) hx hb dX4_within_11 (by decide) (fun c2 => ?_) (fun c2 => ?_)
    · refine lv_iload_n hx hb dX4_within_18 rfl (lv_at hl 0 rfl) ?_
      exact rd_iret C (by rw [if_neg (Int32.not_lt.mpr c2)]) dX4_within_19
    · refine lv_iload_n hx hb dX4_within_14 rfl (lv_at hl 1 rfl) ?_
      refine lv_goto (tgt := 19) hx hb dX4_within_15 (by decide) ?_
      exact rd_iret C (by rw [if_pos (Int32.not_le.mp c2)]) dX4_within_19
  · have c1 : v0 < 1 := Int32.not_le.mp c1
    refine lv_iconst (v := nI 1) hx hb dX4_within_5 (by decide) ?_
    refine lv_goto (tgt := 19) hx hb dX4_within_6 (by decide) ?_
    exact rd_iret C (by rw [if_pos c1]; rfl) dX4_within_19

set_option maxHeartbeats 4000000 in
set_option maxRecDepth 100000 in
/-- isPlace(i, j) -/
theorem met_isPlace (l : Launch) (D : va_G) (d : ClassId) {o nr nc : Nat} {w0 w3 w4 w5 w6 w7 w8 : Value} (i j : Int32) (hnr : nr ≤ 60) (hnc : nc ≤ 60) : Met l yX4_isPlace (ws_ yX4_isPlace cX4_isPlace 3 (some .boolean)) ({ frames := 1, cells := 0, slots := 0, locals := 22 } : Room) (pc_ [.ref o, .int i, .int j] D d (xw D [cO o 3 [w0, .int (nI nr), .int (nI nc), w3, w4, w5, w6, w7, w8]])) (vp_Si (fun v => v = if inR i nr ∧ inR j nc then 1 else 0)) 0 0 (fun _ => False) := by
  refine mt_ofW (own := RX4) rfl (by decide) (Nat.le_of_ble_eq_true rfl) (fun p e s m below meth c C hnm hX ls hl => ?_)
  obtain ⟨hx, hb, -⟩ := C.1
  have hl : lv_has ls 3 [(0, .ref o), (1, .int i), (2, .int j)] := hl
  have hw : Wd D (fun _ => True) s.heap [cO o 3 [w0, .int (nI nr), .int (nI nc), w3, w4, w5, w6, w7, w8]] s.heap [] := ⟨hX.1, hX.2, va_S.rf⟩
  refine lv_iload_n hx hb dX4_isPlace_0 rfl (lv_at hl 1 rfl) ?_
  refine lv_iconst (v := nI 0) hx hb dX4_isPlace_1 (by decide) ?_
  refine lv_aload_n hx hb dX4_isPlace_2 rfl (lv_at hl 0 rfl) ?_
  refine g_X4_29 C hw 0 rfl rfl dX4_isPlace_3 ?_
  refine lv_iconst (v := nI 1) hx hb dX4_isPlace_6 (by decide) ?_
  refine lv_isub hx hb dX4_isPlace_7 ?_
  refine c_rdS (As := [.int i, .int (nI 0), .int ((nI nr) - (nI 1))]) (rest := []) C (met_X4_in l D d i (nI 0) (nI (nr) - nI 1)) (va_cwS 3 C.1.2.2.2.2 (lw_S q244 q245 q12 q246) rfl rfl rfl (by decide +kernel) ⟨Nat.le_of_ble_eq_true rfl, Nat.le_of_ble_eq_true rfl⟩) (trivial) rfl hl.1 rfl (Nat.le_of_ble_eq_true rfl) dX4_isPlace_8 ⟨Nat.le_of_ble_eq_true rfl, Nat.le_of_ble_eq_true rfl⟩ (fun r1 hr1 => ?_)
  have hr1 := in_subR (by omega) hr1
  refine lv_if_eq (tgt := 32) hx hb dX4_isPlace_11 (by decide) (fun c1 => ?_) (fun c1 => ?_)
  · refine lv_iconst (v := nI 0) hx hb dX4_isPlace_32 (by decide) ?_
    exact rd_zret (v := nI 0) C rfl (by rw [if_neg (fun q => hr1.1 c1 q.1)]; exact nI_0) dX4_isPlace_33
  · refine lv_iload_n hx hb dX4_isPlace_14 rfl (lv_at hl 2 rfl) ?_
    refine lv_iconst (v := nI 0) hx hb dX4_isPlace_15 (by decide) ?_
    refine lv_aload_n hx hb dX4_isPlace_16 rfl (lv_at hl 0 rfl) ?_
    refine g_X4_33 C hw 0 rfl rfl dX4_isPlace_17 ?_
    refine lv_iconst (v := nI 1) hx hb dX4_isPlace_20 (by decide) ?_
    refine lv_isub hx hb dX4_isPlace_21 ?_
    refine c_rdS (As := [.int j, .int (nI 0), .int ((nI nc) - (nI 1))]) (rest := []) C (met_X4_in l D d j (nI 0) (nI (nc) - nI 1)) (va_cwS 3 C.1.2.2.2.2 (lw_S q244 q245 q12 q246) rfl rfl rfl (by decide +kernel) ⟨Nat.le_of_ble_eq_true rfl, Nat.le_of_ble_eq_true rfl⟩) (trivial) rfl hl.1 rfl (Nat.le_of_ble_eq_true rfl) dX4_isPlace_22 ⟨Nat.le_of_ble_eq_true rfl, Nat.le_of_ble_eq_true rfl⟩ (fun r2 hr2 => ?_)
    have hr2 := in_subR (by omega) hr2
    refine lv_if_eq (tgt := 32) hx hb dX4_isPlace_25 (by decide) (fun c2 => ?_) (fun c2 => ?_)
    · refine lv_iconst (v := nI 0) hx hb dX4_isPlace_32 (by decide) ?_
      exact rd_zret (v := nI 0) C rfl (by rw [if_neg (fun q => hr2.1 c2 q.2)]; exact nI_0) dX4_isPlace_33
    · refine lv_iconst (v := nI 1) hx hb dX4_isPlace_28 (by decide) ?_
      refine lv_goto (tgt := 33) hx hb dX4_isPlace_29 (by decide) ?_
      exact rd_zret (v := nI 1) C rfl (by rw [if_pos ⟨hr1.2 c1, hr2.2 c2⟩]; rfl) dX4_isPlace_33

section MN
variable {p : Program} {l : Launch} {e : Env} {R : Room} {s : State} {m : MethodId} {args : Array Value} {below : List Frame} {meth : Method} {c : Code} {Q : State → Prop}
variable {D : va_G} {d : ClassId} {A : Nat → Prop} {H0 : Heap} {ret : Option FieldType}
set_option maxHeartbeats 4000000 in
set_option maxRecDepth 100000 in
theorem lp_mn1 {o b nc up : Nat} {w0 w1 w3 w4 w5 w6 w7 w8 : Value} {g : Nat → Int32} {T : Nat → Nat → Int32} {i : Nat} {H : Heap} {locs : List Loc} (C : Cx p s m args meth c cX4_many 6 RX4 ret D d) (hg : ∀ a b, a < up → b < nc → g (60 * a + b) = T a b) (hup : up ≤ 60) (hnc : nc ≤ 60) (hi : i < up) (hw : Wd D A H0 [cO o 3 [w0, w1, .int (nI nc), w3, w4, w5, w6, w7, w8], cA d b 3600 g] H locs) (K : ∀ (ls : Array Slot), lv_has ls 6 [(0, .ref o), (1, .ref b), (2, .int (nI up)), (3, .int (nI (of_ T nc i + rk_ T i nc))), (4, .int (nI i))] → W p l e R s m args below meth c H locs 0 0 Q (F0 m 50 ls [])) :
    ∀ (n j : Nat) (ls : Array Slot), j ≤ nc → nc < j + n → lv_has ls 6 [(0, .ref o), (1, .ref b), (2, .int (nI up)), (3, .int (nI (of_ T nc i + rk_ T i j))), (4, .int (nI i)), (5, .int (nI j))] → W p l e R s m args below meth c H locs 0 0 Q (F0 m 14 ls []) := by
  obtain ⟨hx, hb, -⟩ := C.1
  intro n
  induction n with
  | zero => intro j ls h1 h2; omega
  | succ n ih =>
    intro j ls h1 h2 hl
    refine lv_iload hx hb dX4_many_14 (lv_at hl 5 rfl) ?_
    refine lv_aload_n hx hb dX4_many_16 rfl (lv_at hl 0 rfl) ?_
    refine g_X4_33 C hw 0 rfl rfl dX4_many_17 ?_
    refine w_icmp_ge C (tgt := 50) (by omega) (by omega) dX4_many_20 (by decide) (fun c1 => ?_) (fun c1 => ?_)
    · have hj : j = nc := by omega
      rw [hj] at hl
      exact K ls (lv_sub hl [0, 1, 2, 3, 4] rfl)
    · refine lv_iload_n hx hb dX4_many_23 rfl (lv_at hl 3 rfl) ?_
      refine lv_aload_n hx hb dX4_many_24 rfl (lv_at hl 1 rfl) ?_
      refine lv_bipush (v := nI 60) hx hb dX4_many_25 (by decide) ?_
      refine lv_iload hx hb dX4_many_27 (lv_at hl 4 rfl) ?_
      refine w_imul C dX4_many_29 ?_
      refine lv_iload hx hb dX4_many_30 (lv_at hl 5 rfl) ?_
      refine w_iadd C dX4_many_32 ?_
      refine w_iald C hw 1 rfl (by omega) dX4_many_33 ?_
      refine w_top (y := T i j) (hg i j hi c1) ?_
      refine lv_if_eq (tgt := 41) hx hb dX4_many_34 (by decide) (fun hz => ?_) (fun hz => ?_)
      · refine lv_iconst (v := nI 0) hx hb dX4_many_41 (by decide) ?_
        refine w_iadd C dX4_many_42 ?_
        refine lv_istore_n (lv' := [(3, .int (nI ((of_ T nc i + rk_ T i j) + 0))), (0, .ref o), (1, .ref b), (2, .int (nI up)), (4, .int (nI i)), (5, .int (nI j))]) hx hb dX4_many_43 rfl hl (by decide) rfl (fun ls hl => ?_)
        refine lv_iinc (v := nI (j + 1)) (lv' := [(5, .int (nI (j + 1))), (3, .int (nI ((of_ T nc i + rk_ T i j) + 0))), (0, .ref o), (1, .ref b), (2, .int (nI up)), (4, .int (nI i))]) hx hb dX4_many_44 hl (k := 5) rfl (nI_1 _) (by decide) rfl (fun ls hl => ?_)
        refine lv_goto (tgt := 14) hx hb dX4_many_47 (by decide) ?_
        exact ih (j + 1) ls (by omega) (by omega) (by rw [rk_z hz]; exact (lv_sub hl [2, 3, 4, 1, 5, 0] rfl))
      · refine lv_iconst (v := nI 1) hx hb dX4_many_37 (by decide) ?_
        refine lv_goto (tgt := 42) hx hb dX4_many_38 (by decide) ?_
        refine w_iadd C dX4_many_42 ?_
        refine lv_istore_n (lv' := [(3, .int (nI ((of_ T nc i + rk_ T i j) + 1))), (0, .ref o), (1, .ref b), (2, .int (nI up)), (4, .int (nI i)), (5, .int (nI j))]) hx hb dX4_many_43 rfl hl (by decide) rfl (fun ls hl => ?_)
        refine lv_iinc (v := nI (j + 1)) (lv' := [(5, .int (nI (j + 1))), (3, .int (nI ((of_ T nc i + rk_ T i j) + 1))), (0, .ref o), (1, .ref b), (2, .int (nI up)), (4, .int (nI i))]) hx hb dX4_many_44 hl (k := 5) rfl (nI_1 _) (by decide) rfl (fun ls hl => ?_)
        refine lv_goto (tgt := 14) hx hb dX4_many_47 (by decide) ?_
        exact ih (j + 1) ls (by omega) (by omega) (by rw [rk_s hz]; exact (lv_sub hl [2, 3, 4, 1, 5, 0] rfl))

set_option maxHeartbeats 4000000 in
set_option maxRecDepth 100000 in
theorem lp_mn2 {o b nc up : Nat} {w0 w1 w3 w4 w5 w6 w7 w8 : Value} {g : Nat → Int32} {T : Nat → Nat → Int32} {H : Heap} {locs : List Loc} (C : Cx p s m args meth c cX4_many 6 RX4 ret D d) (hg : ∀ a b, a < up → b < nc → g (60 * a + b) = T a b) (hup : up ≤ 60) (hnc : nc ≤ 60) (hw : Wd D A H0 [cO o 3 [w0, w1, .int (nI nc), w3, w4, w5, w6, w7, w8], cA d b 3600 g] H locs) (K : ∀ (ls : Array Slot), lv_has ls 6 [(3, .int (nI (of_ T nc up)))] → W p l e R s m args below meth c H locs 0 0 Q (F0 m 56 ls [])) :
    ∀ (n i : Nat) (ls : Array Slot), i ≤ up → up < i + n → lv_has ls 6 [(0, .ref o), (1, .ref b), (2, .int (nI up)), (3, .int (nI (of_ T nc i))), (4, .int (nI i))] → W p l e R s m args below meth c H locs 0 0 Q (F0 m 5 ls []) := by
  obtain ⟨hx, hb, -⟩ := C.1
  intro n
  induction n with
  | zero => intro i ls h1 h2; omega
  | succ n ih =>
    intro i ls h1 h2 hl
    refine lv_iload hx hb dX4_many_5 (lv_at hl 4 rfl) ?_
    refine lv_iload_n hx hb dX4_many_7 rfl (lv_at hl 2 rfl) ?_
    refine w_icmp_ge C (tgt := 56) (by omega) (by omega) dX4_many_8 (by decide) (fun c1 => ?_) (fun c1 => ?_)
    · have hi : i = up := by omega
      rw [hi] at hl
      exact K ls (lv_sub hl [3] rfl)
    · refine lv_iconst (v := nI 0) hx hb dX4_many_11 (by decide) ?_
      refine lv_istore (lv' := [(5, .int (nI 0)), (0, .ref o), (1, .ref b), (2, .int (nI up)), (3, .int (nI (of_ T nc i))), (4, .int (nI i))]) hx hb dX4_many_12 hl (by decide) rfl (fun ls hl => ?_)
      refine lp_mn1 C hg hup hnc c1 hw (fun ls hl => ?_) (nc + 1) 0 ls (by omega) (by omega) (lv_sub hl [1, 2, 3, 4, 5, 0] rfl)
      refine lv_iinc (v := nI (i + 1)) (lv' := [(4, .int (nI (i + 1))), (0, .ref o), (1, .ref b), (2, .int (nI up)), (3, .int (nI (of_ T nc i + rk_ T i nc)))]) hx hb dX4_many_50 hl (k := 4) rfl (nI_1 _) (by decide) rfl (fun ls hl => ?_)
      refine lv_goto (tgt := 5) hx hb dX4_many_53 (by decide) ?_
      exact ih (i + 1) ls (by omega) (by omega) (lv_sub hl [1, 2, 3, 4, 0] rfl)
end MN
set_option maxHeartbeats 4000000 in
set_option maxRecDepth 100000 in
/-- many(t, upTo) -/
theorem met_many (l : Launch) (D : va_G) (d : ClassId) {o b nc up : Nat} {w0 w1 w3 w4 w5 w6 w7 w8 : Value} {g : Nat → Int32} {T : Nat → Nat → Int32} (hg : ∀ a b, a < up → b < nc → g (60 * a + b) = T a b) (hup : up ≤ 60) (hnc : nc ≤ 60) : Met l yX4_many (ws_ yX4_many cX4_many 6 (some .int)) ({ frames := 0, cells := 0, slots := 0, locals := 0 } : Room) (pc_ [.ref o, .ref b, .int (nI up)] D d (xw D [cO o 3 [w0, w1, .int (nI nc), w3, w4, w5, w6, w7, w8], cA d b 3600 g])) (vp_Si (fun v => v = nI (of_ T nc up))) 0 0 (fun _ => False) := by
  refine mt_ofW (own := RX4) rfl (by decide) (Nat.le_of_ble_eq_true rfl) (fun p e s m below meth c C hnm hX ls hl => ?_)
  obtain ⟨hx, hb, -⟩ := C.1
  have hl : lv_has ls 6 [(0, .ref o), (1, .ref b), (2, .int (nI up))] := hl
  have hw : Wd D (fun _ => True) s.heap [cO o 3 [w0, w1, .int (nI nc), w3, w4, w5, w6, w7, w8], cA d b 3600 g] s.heap [] := ⟨hX.1, hX.2, va_S.rf⟩
  refine lv_iconst (v := nI 0) hx hb dX4_many_0 (by decide) ?_
  refine lv_istore_n (lv' := [(3, .int (nI 0)), (0, .ref o), (1, .ref b), (2, .int (nI up))]) hx hb dX4_many_1 rfl hl (by decide) rfl (fun ls hl => ?_)
  refine lv_iconst (v := nI 0) hx hb dX4_many_2 (by decide) ?_
  refine lv_istore (lv' := [(4, .int (nI 0)), (3, .int (nI 0)), (0, .ref o), (1, .ref b), (2, .int (nI up))]) hx hb dX4_many_3 hl (by decide) rfl (fun ls hl => ?_)
  refine lp_mn2 C hg hup hnc hw (fun ls hl => ?_) (up + 1) 0 ls (by omega) (by omega) (lv_sub hl [2, 3, 4, 1, 0] rfl)
  refine lv_iload_n hx hb dX4_many_56 rfl (lv_at hl 0 rfl) ?_
  exact rd_iret C rfl dX4_many_57

set_option maxHeartbeats 4000000 in
set_option maxRecDepth 100000 in
/-- turns() -/
theorem met_X4_turns (l : Launch) (D : va_G) (d : ClassId) {o b1 b2 : Nat} {w0 w1 w2 w3 w6 w7 w8 : Value} : Met l yX4_turns (ws_ yX4_turns cX4_turns 2 none) ({ frames := 0, cells := 0, slots := 0, locals := 0 } : Room) (pc_ [.ref o] D d (xw D [cO o 3 [w0, w1, w2, w3, .ref b1, .ref b2, w6, w7, w8]])) (va_Qv (fun (_ : Unit) => True) (fun (_ : Unit) t9 => va_P D vwCl [cO o 3 [w0, w1, w2, w3, .ref b2, .ref b1, w6, w7, w8]] t9.heap) (zs [cO o 3 [w0, w1, w2, w3, .ref b1, .ref b2, w6, w7, w8]])) 0 0 (zs [cO o 3 [w0, w1, w2, w3, .ref b1, .ref b2, w6, w7, w8]]) := by
  refine mt_ofW (own := RX4) rfl (by decide) (Nat.le_of_ble_eq_true rfl) (fun p e s m below meth c C hnm hX ls hl => ?_)
  obtain ⟨hx, hb, -⟩ := C.1
  have hl : lv_has ls 2 [(0, .ref o)] := hl
  have hw : Wd D (zs [cO o 3 [w0, w1, w2, w3, .ref b1, .ref b2, w6, w7, w8]]) s.heap [cO o 3 [w0, w1, w2, w3, .ref b1, .ref b2, w6, w7, w8]] s.heap [] := ⟨hX.1, zs_self hX.2, va_S.rf⟩
  generalize zs [cO o 3 [w0, w1, w2, w3, .ref b1, .ref b2, w6, w7, w8]] = A at hw ⊢
  refine lv_aload_n hx hb dX4_turns_0 rfl (lv_at hl 0 rfl) ?_
  refine g_X4_7 C hw 0 rfl rfl dX4_turns_1 ?_
  refine lv_astore_n (lv' := [(1, .ref b1), (0, .ref o)]) hx hb dX4_turns_4 rfl hl (by decide) rfl (fun ls hl => ?_)
  refine lv_aload_n hx hb dX4_turns_5 rfl (lv_at hl 1 rfl) ?_
  refine lv_aload_n hx hb dX4_turns_6 rfl (lv_at hl 1 rfl) ?_
  refine g_X4_13 C hw 0 rfl rfl dX4_turns_7 ?_
  refine p_X4_7 C hw 0 rfl (Nat.le_of_ble_eq_true rfl) dX4_turns_10 (fun H locs hw => ?_)
  have hw : Wd D A s.heap [cO o 3 [w0, w1, w2, w3, .ref b2, .ref b2, w6, w7, w8]] H locs := hw
  refine lv_aload_n hx hb dX4_turns_13 rfl (lv_at hl 1 rfl) ?_
  refine lv_aload_n hx hb dX4_turns_14 rfl (lv_at hl 0 rfl) ?_
  refine p_X4_13 C hw 0 rfl (Nat.le_of_ble_eq_true rfl) dX4_turns_15 (fun H locs hw => ?_)
  have hw : Wd D A s.heap [cO o 3 [w0, w1, w2, w3, .ref b2, .ref b1, w6, w7, w8]] H locs := hw
  exact mu_vret (Y := fun _ h => va_P D vwCl [cO o 3 [w0, w1, w2, w3, .ref b2, .ref b1, w6, w7, w8]] h) C hw.2.2 () trivial hw.1 dX4_turns_18

set_option maxHeartbeats 4000000 in
set_option maxRecDepth 100000 in
/-- becomes() -/
theorem met_becomes (l : Launch) (D : va_G) (d : ClassId) {o b1 b2 nr nc cp : Nat} {w3 w6 w7 w8 : Value} {g : Nat → Int32} {T : Nat → Nat → Int32} (hg : ∀ a b, a < nr → b < nc → g (60 * a + b) = T a b) (hnr : nr ≤ 60) (hnc : nc ≤ 60) (hcp : cp ≤ 1000) : Met l yX4_becomes (ws_ yX4_becomes cX4_becomes 2 (some .int)) ({ frames := 1, cells := 0, slots := 0, locals := 25 } : Room) (pc_ [.ref o] D d (xw D [cO o 3 [.int (nI cp), .int (nI nr), .int (nI nc), w3, .ref b1, .ref b2, w6, w7, w8], cA d b2 3600 g])) (va_Qi (fun v (u : Nat × Nat) => (of_ T nc nr ≤ cp ∧ v = nI (of_ T nc nr) ∧ u = (b2, b1)) ∨ (¬ of_ T nc nr ≤ cp ∧ v = -1 ∧ u = (b1, b2))) (fun (u : Nat × Nat) t9 => va_P D vwCl [cO o 3 [.int (nI cp), .int (nI nr), .int (nI nc), w3, .ref u.1, .ref u.2, w6, w7, w8], cA d b2 3600 g] t9.heap) (zs [cO o 3 [.int (nI cp), .int (nI nr), .int (nI nc), w3, .ref b1, .ref b2, w6, w7, w8], cA d b2 3600 g])) 0 0 (zs [cO o 3 [.int (nI cp), .int (nI nr), .int (nI nc), w3, .ref b1, .ref b2, w6, w7, w8], cA d b2 3600 g]) := by
  refine mt_ofW (own := RX4) rfl (by decide) (Nat.le_of_ble_eq_true rfl) (fun p e s m below meth c C hnm hX ls hl => ?_)
  obtain ⟨hx, hb, -⟩ := C.1
  have hl : lv_has ls 2 [(0, .ref o)] := hl
  have hw : Wd D (zs [cO o 3 [.int (nI cp), .int (nI nr), .int (nI nc), w3, .ref b1, .ref b2, w6, w7, w8], cA d b2 3600 g]) s.heap [cO o 3 [.int (nI cp), .int (nI nr), .int (nI nc), w3, .ref b1, .ref b2, w6, w7, w8], cA d b2 3600 g] s.heap [] := ⟨hX.1, zs_self hX.2, va_S.rf⟩
  generalize zs [cO o 3 [.int (nI cp), .int (nI nr), .int (nI nc), w3, .ref b1, .ref b2, w6, w7, w8], cA d b2 3600 g] = A at hw ⊢
  have hbd := of_3600 (T := T) hnr hnc
  refine lv_aload_n hx hb dX4_becomes_0 rfl (lv_at hl 0 rfl) ?_
  refine lv_aload_n hx hb dX4_becomes_1 rfl (lv_at hl 0 rfl) ?_
  refine g_X4_13 C hw 0 rfl rfl dX4_becomes_2 ?_
  refine lv_aload_n hx hb dX4_becomes_5 rfl (lv_at hl 0 rfl) ?_
  refine g_X4_29 C hw 0 rfl rfl dX4_becomes_6 ?_
  refine c_rdV (As := [.ref b2, .int (nI nr)]) (rest := []) C (met_many l D d hg hnr hnc) (cwV 2 C.1.2.2.2.2 (lw_V q255 q257 qs5 q12 q258) rfl rfl rfl (by decide +kernel) ⟨Nat.le_of_ble_eq_true rfl, Nat.le_of_ble_eq_true rfl⟩) (va_recv C.2.1.1 hw.1 (ci := 3) (q0 := 0) rfl rfl) (w_cut hw [0, 1] (by decide) rfl) rfl hl.1 rfl (Nat.le_of_ble_eq_true rfl) dX4_becomes_9 ⟨Nat.le_of_ble_eq_true rfl, Nat.le_of_ble_eq_true rfl⟩ (fun r hr => ?_)
  refine w_top (y := nI (of_ T nc nr)) (hr) ?_
  refine lv_istore_n (lv' := [(1, .int (nI (of_ T nc nr))), (0, .ref o)]) hx hb dX4_becomes_12 rfl hl (by decide) rfl (fun ls hl => ?_)
  refine lv_iload_n hx hb dX4_becomes_13 rfl (lv_at hl 0 rfl) ?_
  refine lv_aload_n hx hb dX4_becomes_14 rfl (lv_at hl 1 rfl) ?_
  refine g_X4_36 C hw 0 rfl rfl dX4_becomes_15 ?_
  refine w_icmp_le C (tgt := 23) (by omega) (by omega) dX4_becomes_18 (by decide) (fun c1 => ?_) (fun c1 => ?_)
  · refine lv_aload_n hx hb dX4_becomes_23 rfl (lv_at hl 1 rfl) ?_
    refine c_wVv (As := []) (rest := []) C hw [0] (met_X4_turns l D d) (by decide) rfl (fun _ => rfl) (cwV 0 C.1.2.2.2.2 (lw_V q259 q261 qs6 q12 q262) rfl rfl rfl (by decide +kernel) ⟨Nat.le_of_ble_eq_true rfl, Nat.le_of_ble_eq_true rfl⟩) (va_recv C.2.1.1 hw.1 (ci := 3) (q0 := 0) rfl rfl) rfl hl.1 rfl (Nat.le_of_ble_eq_true rfl) dX4_becomes_24 ⟨Nat.le_of_ble_eq_true rfl, Nat.le_of_ble_eq_true rfl⟩ (fun u H locs _ hw => ?_)
    have hw : Wd D A s.heap [cO o 3 [.int (nI cp), .int (nI nr), .int (nI nc), w3, .ref b2, .ref b1, w6, w7, w8], cA d b2 3600 g] H locs := hw
    refine lv_iload_n hx hb dX4_becomes_27 rfl (lv_at hl 0 rfl) ?_
    refine mu_iret (Y := fun u h => va_P D vwCl [cO o 3 [.int (nI cp), .int (nI nr), .int (nI nc), w3, .ref u.1, .ref u.2, w6, w7, w8], cA d b2 3600 g] h) C hw.2.2 (b2, b1) ?_ hw.1 dX4_becomes_28
    exact Or.inl ⟨c1, rfl, rfl⟩
  · refine lv_iconst (v := (-1)) hx hb dX4_becomes_21 (by decide) ?_
    refine mu_iret (Y := fun u h => va_P D vwCl [cO o 3 [.int (nI cp), .int (nI nr), .int (nI nc), w3, .ref u.1, .ref u.2, w6, w7, w8], cA d b2 3600 g] h) C hw.2.2 (b1, b2) ?_ hw.1 dX4_becomes_22
    exact Or.inr ⟨by omega, rfl, rfl⟩

set_option maxHeartbeats 4000000 in
set_option maxRecDepth 100000 in
/-- nnz() -/
theorem met_X4_nnz (l : Launch) (D : va_G) (d : ClassId) (Z : Nat → Prop) {o : Nat} {nr nc cp : Nat} {T : Nat → Nat → Int32} {P : List Tr} {x y : Nat → Int32}  : Met l yX4_nnz (ws_ yX4_nnz cX4_nnz 1 (some .int)) ({ frames := 1, cells := 0, slots := 0, locals := 25 } : Room) (pc_ [.ref o] D d (MOok D d Z o nr nc cp T P x y)) (vp_Si (fun v => v = nI (of_ T nc nr))) 0 0 (fun _ => False) := by
  refine mt_ofW (own := RX4) rfl (by decide) (Nat.le_of_ble_eq_true rfl) (fun p e s m below meth c C hnm hX ls hl => ?_)
  obtain ⟨hx, hb, -⟩ := C.1
  have hl : lv_has ls 1 [(0, .ref o)] := hl
  obtain ⟨b1, b2, b3, b4, b5, g1, g2, g3, g4, g5, hP, hD, hI⟩ := hX
  obtain ⟨⟨i1, i2, i3, i4, i5, i6⟩, htb, hpl, hmo, hxx, hyy, htot⟩ := id hI
  have hw : Wd D Z s.heap [cO o 3 [.int (nI cp), .int (nI nr), .int (nI nc), .int (nI P.length), .ref b1, .ref b2, .ref b3, .ref b4, .ref b5], cA d b1 3600 g1, cA d b2 3600 g2, cA d b3 3600 g3, cA d b4 60 g4, cA d b5 60 g5] s.heap [] := ⟨hP, hD, va_S.rf⟩
  refine lv_aload_n hx hb dX4_nnz_0 rfl (lv_at hl 0 rfl) ?_
  refine lv_aload_n hx hb dX4_nnz_1 rfl (lv_at hl 0 rfl) ?_
  refine g_X4_7 C hw 0 rfl rfl dX4_nnz_2 ?_
  refine lv_aload_n hx hb dX4_nnz_5 rfl (lv_at hl 0 rfl) ?_
  refine g_X4_29 C hw 0 rfl rfl dX4_nnz_6 ?_
  refine c_rdV (As := [.ref b1, .int (nI nr)]) (rest := []) C (met_many l D d htb i2 i4) (cwV 2 C.1.2.2.2.2 (lw_V q255 q257 qs5 q12 q258) rfl rfl rfl (by decide +kernel) ⟨Nat.le_of_ble_eq_true rfl, Nat.le_of_ble_eq_true rfl⟩) (va_recv C.2.1.1 hw.1 (ci := 3) (q0 := 0) rfl rfl) (w_cut hw [0, 1] (by decide) rfl) rfl hl.1 rfl (Nat.le_of_ble_eq_true rfl) dX4_nnz_9 ⟨Nat.le_of_ble_eq_true rfl, Nat.le_of_ble_eq_true rfl⟩ (fun r hr => ?_)
  exact rd_iret C hr dX4_nnz_12

set_option maxHeartbeats 4000000 in
set_option maxRecDepth 100000 in
/-- rowStart(i) -/
theorem met_X4_rowStart (l : Launch) (D : va_G) (d : ClassId) (Z : Nat → Prop) {o : Nat} {nr nc cp : Nat} {T : Nat → Nat → Int32} {P : List Tr} {x y : Nat → Int32} (i : Int32) : Met l yX4_rowStart (ws_ yX4_rowStart cX4_rowStart 2 (some .int)) ({ frames := 1, cells := 0, slots := 0, locals := 25 } : Room) (pc_ [.ref o, .int i] D d (MOok D d Z o nr nc cp T P x y)) (vp_Si (fun v => v = if inR i (nr + 1) then nI (of_ T nc i.toNatClampNeg) else -1)) 0 0 (fun _ => False) := by
  refine mt_ofW (own := RX4) rfl (by decide) (Nat.le_of_ble_eq_true rfl) (fun p e s m below meth c C hnm hX ls hl => ?_)
  obtain ⟨hx, hb, -⟩ := C.1
  have hl : lv_has ls 2 [(0, .ref o), (1, .int i)] := hl
  obtain ⟨b1, b2, b3, b4, b5, g1, g2, g3, g4, g5, hP, hD, hI⟩ := hX
  obtain ⟨⟨i1, i2, i3, i4, i5, i6⟩, htb, hpl, hmo, hxx, hyy, htot⟩ := id hI
  have hw : Wd D Z s.heap [cO o 3 [.int (nI cp), .int (nI nr), .int (nI nc), .int (nI P.length), .ref b1, .ref b2, .ref b3, .ref b4, .ref b5], cA d b1 3600 g1, cA d b2 3600 g2, cA d b3 3600 g3, cA d b4 60 g4, cA d b5 60 g5] s.heap [] := ⟨hP, hD, va_S.rf⟩
  refine lv_iload_n hx hb dX4_rowStart_0 rfl (lv_at hl 1 rfl) ?_
  refine lv_iconst (v := nI 0) hx hb dX4_rowStart_1 (by decide) ?_
  refine lv_aload_n hx hb dX4_rowStart_2 rfl (lv_at hl 0 rfl) ?_
  refine g_X4_29 C hw 0 rfl rfl dX4_rowStart_3 ?_
  refine c_rdS (As := [.int i, .int (nI 0), .int (nI nr)]) (rest := []) C (met_X4_in l D d i (nI 0) (nI (nr))) (va_cwS 3 C.1.2.2.2.2 (lw_S q244 q245 q12 q246) rfl rfl rfl (by decide +kernel) ⟨Nat.le_of_ble_eq_true rfl, Nat.le_of_ble_eq_true rfl⟩) (trivial) rfl hl.1 rfl (Nat.le_of_ble_eq_true rfl) dX4_rowStart_6 ⟨Nat.le_of_ble_eq_true rfl, Nat.le_of_ble_eq_true rfl⟩ (fun r1 hr1 => ?_)
  have hr1 := in_leR (by omega) hr1
  refine lv_if_eq (tgt := 24) hx hb dX4_rowStart_9 (by decide) (fun c1 => ?_) (fun c1 => ?_)
  · refine lv_iconst (v := (-1)) hx hb dX4_rowStart_24 (by decide) ?_
    exact rd_iret C (by rw [if_neg (hr1.1 c1)]) dX4_rowStart_25
  · have h9 := hr1.2 c1
    rw [if_pos h9]
    obtain ⟨k, hk, rfl⟩ := inR_nI h9 (by omega)
    refine lv_aload_n hx hb dX4_rowStart_12 rfl (lv_at hl 0 rfl) ?_
    refine lv_aload_n hx hb dX4_rowStart_13 rfl (lv_at hl 0 rfl) ?_
    refine g_X4_7 C hw 0 rfl rfl dX4_rowStart_14 ?_
    refine lv_iload_n hx hb dX4_rowStart_17 rfl (lv_at hl 1 rfl) ?_
    refine c_rdV (As := [.ref b1, .int (nI k)]) (rest := []) C (met_many l D d (fun a b ha hb => htb a b (Nat.lt_of_lt_of_le ha (Nat.le_of_lt_succ hk)) hb) (by omega : k ≤ 60) i4) (cwV 2 C.1.2.2.2.2 (lw_V q255 q257 qs5 q12 q258) rfl rfl rfl (by decide +kernel) ⟨Nat.le_of_ble_eq_true rfl, Nat.le_of_ble_eq_true rfl⟩) (va_recv C.2.1.1 hw.1 (ci := 3) (q0 := 0) rfl rfl) (w_cut hw [0, 1] (by decide) rfl) rfl hl.1 rfl (Nat.le_of_ble_eq_true rfl) dX4_rowStart_18 ⟨Nat.le_of_ble_eq_true rfl, Nat.le_of_ble_eq_true rfl⟩ (fun r hr => ?_)
    refine lv_goto (tgt := 25) hx hb dX4_rowStart_21 (by decide) ?_
    exact rd_iret C (by rw [nI_clamp (by omega)]; exact hr) dX4_rowStart_25

set_option maxHeartbeats 4000000 in
set_option maxRecDepth 100000 in
/-- y(i) -/
theorem met_X4_y (l : Launch) (D : va_G) (d : ClassId) (Z : Nat → Prop) {o : Nat} {nr nc cp : Nat} {T : Nat → Nat → Int32} {P : List Tr} {x y : Nat → Int32} (i : Int32) : Met l yX4_y (ws_ yX4_y cX4_y 2 (some .int)) ({ frames := 1, cells := 0, slots := 0, locals := 22 } : Room) (pc_ [.ref o, .int i] D d (MOok D d Z o nr nc cp T P x y)) (vp_Si (fun v => v = if inR i nr then y i.toNatClampNeg else 0)) 0 0 (fun _ => False) := by
  refine mt_ofW (own := RX4) rfl (by decide) (Nat.le_of_ble_eq_true rfl) (fun p e s m below meth c C hnm hX ls hl => ?_)
  obtain ⟨hx, hb, -⟩ := C.1
  have hl : lv_has ls 2 [(0, .ref o), (1, .int i)] := hl
  obtain ⟨b1, b2, b3, b4, b5, g1, g2, g3, g4, g5, hP, hD, hI⟩ := hX
  obtain ⟨⟨i1, i2, i3, i4, i5, i6⟩, htb, hpl, hmo, hxx, hyy, htot⟩ := id hI
  have hw : Wd D Z s.heap [cO o 3 [.int (nI cp), .int (nI nr), .int (nI nc), .int (nI P.length), .ref b1, .ref b2, .ref b3, .ref b4, .ref b5], cA d b1 3600 g1, cA d b2 3600 g2, cA d b3 3600 g3, cA d b4 60 g4, cA d b5 60 g5] s.heap [] := ⟨hP, hD, va_S.rf⟩
  refine lv_iload_n hx hb dX4_y_0 rfl (lv_at hl 1 rfl) ?_
  refine lv_iconst (v := nI 0) hx hb dX4_y_1 (by decide) ?_
  refine lv_aload_n hx hb dX4_y_2 rfl (lv_at hl 0 rfl) ?_
  refine g_X4_29 C hw 0 rfl rfl dX4_y_3 ?_
  refine lv_iconst (v := nI 1) hx hb dX4_y_6 (by decide) ?_
  refine lv_isub hx hb dX4_y_7 ?_
  refine c_rdS (As := [.int i, .int (nI 0), .int ((nI nr) - (nI 1))]) (rest := []) C (met_X4_in l D d i (nI 0) (nI (nr) - nI 1)) (va_cwS 3 C.1.2.2.2.2 (lw_S q244 q245 q12 q246) rfl rfl rfl (by decide +kernel) ⟨Nat.le_of_ble_eq_true rfl, Nat.le_of_ble_eq_true rfl⟩) (trivial) rfl hl.1 rfl (Nat.le_of_ble_eq_true rfl) dX4_y_8 ⟨Nat.le_of_ble_eq_true rfl, Nat.le_of_ble_eq_true rfl⟩ (fun r1 hr1 => ?_)
  have hr1 := in_subR (by omega) hr1
  refine lv_if_eq (tgt := 23) hx hb dX4_y_11 (by decide) (fun c1 => ?_) (fun c1 => ?_)
  · refine lv_iconst (v := nI 0) hx hb dX4_y_23 (by decide) ?_
    exact rd_iret C (by rw [if_neg (hr1.1 c1)]; exact nI_0) dX4_y_24
  · have h9 := hr1.2 c1
    rw [if_pos h9]
    obtain ⟨k, hk, rfl⟩ := inR_nI h9 (by omega)
    refine lv_aload_n hx hb dX4_y_14 rfl (lv_at hl 0 rfl) ?_
    refine g_X4_22 C hw 0 rfl rfl dX4_y_15 ?_
    refine lv_iload_n hx hb dX4_y_18 rfl (lv_at hl 1 rfl) ?_
    refine w_iald C hw 5 rfl (by omega) dX4_y_19 ?_
    refine lv_goto (tgt := 24) hx hb dX4_y_20 (by decide) ?_
    exact rd_iret C (by rw [nI_clamp (by omega)]; exact hyy k (by omega)) dX4_y_24

set_option maxHeartbeats 4000000 in
set_option maxRecDepth 100000 in
/-- at(i, j) -/
theorem met_X4_at (l : Launch) (D : va_G) (d : ClassId) (Z : Nat → Prop) {o : Nat} {nr nc cp : Nat} {T : Nat → Nat → Int32} {P : List Tr} {x y : Nat → Int32} (i j : Int32) : Met l yX4_at (ws_ yX4_at cX4_at 3 (some .int)) ({ frames := 2, cells := 0, slots := 0, locals := 44 } : Room) (pc_ [.ref o, .int i, .int j] D d (MOok D d Z o nr nc cp T P x y)) (vp_Si (fun v => v = if inR i nr ∧ inR j nc then T i.toNatClampNeg j.toNatClampNeg else 0)) 0 0 (fun _ => False) := by
  refine mt_ofW (own := RX4) rfl (by decide) (Nat.le_of_ble_eq_true rfl) (fun p e s m below meth c C hnm hX ls hl => ?_)
  obtain ⟨hx, hb, -⟩ := C.1
  have hl : lv_has ls 3 [(0, .ref o), (1, .int i), (2, .int j)] := hl
  obtain ⟨b1, b2, b3, b4, b5, g1, g2, g3, g4, g5, hP, hD, hI⟩ := hX
  obtain ⟨⟨i1, i2, i3, i4, i5, i6⟩, htb, hpl, hmo, hxx, hyy, htot⟩ := id hI
  have hw : Wd D Z s.heap [cO o 3 [.int (nI cp), .int (nI nr), .int (nI nc), .int (nI P.length), .ref b1, .ref b2, .ref b3, .ref b4, .ref b5], cA d b1 3600 g1, cA d b2 3600 g2, cA d b3 3600 g3, cA d b4 60 g4, cA d b5 60 g5] s.heap [] := ⟨hP, hD, va_S.rf⟩
  refine lv_aload_n hx hb dX4_at_0 rfl (lv_at hl 0 rfl) ?_
  refine lv_iload_n hx hb dX4_at_1 rfl (lv_at hl 1 rfl) ?_
  refine lv_iload_n hx hb dX4_at_2 rfl (lv_at hl 2 rfl) ?_
  refine c_rdV (As := [.int i, .int j]) (rest := []) C (met_isPlace l D d i j i2 i4) (cwV 2 C.1.2.2.2.2 (lw_V q240 q242 qs3 q12 q243) rfl rfl rfl (by decide +kernel) ⟨Nat.le_of_ble_eq_true rfl, Nat.le_of_ble_eq_true rfl⟩) (va_recv C.2.1.1 hw.1 (ci := 3) (q0 := 0) rfl rfl) (w_cut hw [0] (by decide) rfl) rfl hl.1 rfl (Nat.le_of_ble_eq_true rfl) dX4_at_3 ⟨Nat.le_of_ble_eq_true rfl, Nat.le_of_ble_eq_true rfl⟩ (fun r hr => ?_)
  have hr := if_01 hr
  refine lv_if_eq (tgt := 23) hx hb dX4_at_6 (by decide) (fun c1 => ?_) (fun c1 => ?_)
  · refine lv_iconst (v := nI 0) hx hb dX4_at_23 (by decide) ?_
    exact rd_iret C (by rw [if_neg (hr.1 c1)]; exact nI_0) dX4_at_24
  · have h9 := hr.2 c1
    rw [if_pos h9]
    obtain ⟨ki, hki, rfl⟩ := inR_nI h9.1 (by omega)
    obtain ⟨kj, hkj, rfl⟩ := inR_nI h9.2 (by omega)
    refine lv_aload_n hx hb dX4_at_9 rfl (lv_at hl 0 rfl) ?_
    refine g_X4_7 C hw 0 rfl rfl dX4_at_10 ?_
    refine lv_bipush (v := nI 60) hx hb dX4_at_13 (by decide) ?_
    refine lv_iload_n hx hb dX4_at_15 rfl (lv_at hl 1 rfl) ?_
    refine w_imul C dX4_at_16 ?_
    refine lv_iload_n hx hb dX4_at_17 rfl (lv_at hl 2 rfl) ?_
    refine w_iadd C dX4_at_18 ?_
    refine w_iald C hw 1 rfl (by omega) dX4_at_19 ?_
    refine lv_goto (tgt := 24) hx hb dX4_at_20 (by decide) ?_
    exact rd_iret C (by rw [nI_clamp (by omega), nI_clamp (by omega)]; exact htb ki kj hki hkj) dX4_at_24

set_option maxHeartbeats 4000000 in
set_option maxRecDepth 100000 in
/-- count(what) -/
theorem met_X4_count (l : Launch) (D : va_G) (d : ClassId) (Z : Nat → Prop) {o : Nat} {nr nc cp : Nat} {T : Nat → Nat → Int32} {P : List Tr} {x y : Nat → Int32} (k0 : Int32) : Met l yX4_count (ws_ yX4_count cX4_count 2 (some .int)) ({ frames := 0, cells := 0, slots := 0, locals := 0 } : Room) (pc_ [.ref o, .int k0] D d (MOok D d Z o nr nc cp T P x y)) (vp_Si (fun v => v = if k0 = 0 then nI nr else if k0 = 1 then nI nc else if k0 = 2 then nI cp else if k0 = 3 then nI P.length else -1)) 0 0 (fun _ => False) := by
  refine mt_ofW (own := RX4) rfl (by decide) (Nat.le_of_ble_eq_true rfl) (fun p e s m below meth c C hnm hX ls hl => ?_)
  obtain ⟨hx, hb, -⟩ := C.1
  have hl : lv_has ls 2 [(0, .ref o), (1, .int k0)] := hl
  obtain ⟨b1, b2, b3, b4, b5, g1, g2, g3, g4, g5, hP, hD, hI⟩ := hX
  obtain ⟨⟨i1, i2, i3, i4, i5, i6⟩, htb, hpl, hmo, hxx, hyy, htot⟩ := id hI
  have hw : Wd D Z s.heap [cO o 3 [.int (nI cp), .int (nI nr), .int (nI nc), .int (nI P.length), .ref b1, .ref b2, .ref b3, .ref b4, .ref b5], cA d b1 3600 g1, cA d b2 3600 g2, cA d b3 3600 g3, cA d b4 60 g4, cA d b5 60 g5] s.heap [] := ⟨hP, hD, va_S.rf⟩
  refine lv_iload_n hx hb dX4_count_0 rfl (lv_at hl 1 rfl) ?_
  refine lv_if_ne (tgt := 11) hx hb dX4_count_1 (by decide) (fun q0 => ?_) (fun q0 => ?_)
  · refine lv_iload_n hx hb dX4_count_11 rfl (lv_at hl 1 rfl) ?_
    refine lv_iconst (v := nI 1) hx hb dX4_count_12 (by decide) ?_
    refine lv_icmp_ne (tgt := 23) hx hb dX4_count_13 (by decide) (fun q1 => ?_) (fun q1 => ?_)
    · have q1 : ¬ k0 = 1 := q1
      refine lv_iload_n hx hb dX4_count_23 rfl (lv_at hl 1 rfl) ?_
      refine lv_iconst (v := nI 2) hx hb dX4_count_24 (by decide) ?_
      refine lv_icmp_ne (tgt := 35) hx hb dX4_count_25 (by decide) (fun q2 => ?_) (fun q2 => ?_)
      · have q2 : ¬ k0 = 2 := q2
        refine lv_iload_n hx hb dX4_count_35 rfl (lv_at hl 1 rfl) ?_
        refine lv_iconst (v := nI 3) hx hb dX4_count_36 (by decide) ?_
        refine lv_icmp_ne (tgt := 47) hx hb dX4_count_37 (by decide) (fun q3 => ?_) (fun q3 => ?_)
        · have q3 : ¬ k0 = 3 := q3
          refine lv_iconst (v := (-1)) hx hb dX4_count_47 (by decide) ?_
          exact rd_iret C (by rw [if_neg q0, if_neg q1, if_neg q2, if_neg q3]) dX4_count_48
        · have q3 : k0 = 3 := q3
          refine lv_aload_n hx hb dX4_count_40 rfl (lv_at hl 0 rfl) ?_
          refine g_X4_47 C hw 0 rfl rfl dX4_count_41 ?_
          refine lv_goto (tgt := 48) hx hb dX4_count_44 (by decide) ?_
          exact rd_iret C (by rw [if_neg q0, if_neg q1, if_neg q2, if_pos q3]) dX4_count_48
      · have q2 : k0 = 2 := q2
        refine lv_aload_n hx hb dX4_count_28 rfl (lv_at hl 0 rfl) ?_
        refine g_X4_36 C hw 0 rfl rfl dX4_count_29 ?_
        refine lv_goto (tgt := 48) hx hb dX4_count_32 (by decide) ?_
        exact rd_iret C (by rw [if_neg q0, if_neg q1, if_pos q2]) dX4_count_48
    · have q1 : k0 = 1 := q1
      refine lv_aload_n hx hb dX4_count_16 rfl (lv_at hl 0 rfl) ?_
      refine g_X4_33 C hw 0 rfl rfl dX4_count_17 ?_
      refine lv_goto (tgt := 48) hx hb dX4_count_20 (by decide) ?_
      exact rd_iret C (by rw [if_neg q0, if_pos q1]) dX4_count_48
  · refine lv_aload_n hx hb dX4_count_4 rfl (lv_at hl 0 rfl) ?_
    refine g_X4_29 C hw 0 rfl rfl dX4_count_5 ?_
    refine lv_goto (tgt := 48) hx hb dX4_count_8 (by decide) ?_
    exact rd_iret C (by rw [if_pos q0]) dX4_count_48

set_option maxHeartbeats 4000000 in
set_option maxRecDepth 100000 in
/-- setX(j, v) -/
theorem met_X4_setX (l : Launch) (D : va_G) (d : ClassId) (Z : Nat → Prop) {o : Nat} {nr nc cp : Nat} {T : Nat → Nat → Int32} {P : List Tr} {x y : Nat → Int32} (j v0 : Int32) : Met l yX4_setX (ws_ yX4_setX cX4_setX 3 (some .boolean)) ({ frames := 1, cells := 0, slots := 0, locals := 22 } : Room) (pc_ [.ref o, .int j, .int v0] D d (MOok D d Z o nr nc cp T P x y)) (va_Qi (fun v (_ : Unit) => v = if inR j nc then 1 else 0) (fun (_ : Unit) t9 => MOok D d Z o nr nc cp T P (if inR j nc then upd x j.toNatClampNeg v0 else x) y t9.heap) (Z)) 0 0 (Z) := by
  refine mt_ofW (own := RX4) rfl (by decide) (Nat.le_of_ble_eq_true rfl) (fun p e s m below meth c C hnm hX ls hl => ?_)
  obtain ⟨hx, hb, -⟩ := C.1
  have hl : lv_has ls 3 [(0, .ref o), (1, .int j), (2, .int v0)] := hl
  obtain ⟨b1, b2, b3, b4, b5, g1, g2, g3, g4, g5, hP, hD, hI⟩ := hX
  obtain ⟨⟨i1, i2, i3, i4, i5, i6⟩, htb, hpl, hmo, hxx, hyy, htot⟩ := id hI
  have hw : Wd D Z s.heap [cO o 3 [.int (nI cp), .int (nI nr), .int (nI nc), .int (nI P.length), .ref b1, .ref b2, .ref b3, .ref b4, .ref b5], cA d b1 3600 g1, cA d b2 3600 g2, cA d b3 3600 g3, cA d b4 60 g4, cA d b5 60 g5] s.heap [] := ⟨hP, hD, va_S.rf⟩
  refine lv_iload_n hx hb dX4_setX_0 rfl (lv_at hl 1 rfl) ?_
  refine lv_iconst (v := nI 0) hx hb dX4_setX_1 (by decide) ?_
  refine lv_aload_n hx hb dX4_setX_2 rfl (lv_at hl 0 rfl) ?_
  refine g_X4_33 C hw 0 rfl rfl dX4_setX_3 ?_
  refine lv_iconst (v := nI 1) hx hb dX4_setX_6 (by decide) ?_
  refine lv_isub hx hb dX4_setX_7 ?_
  refine c_rdS (As := [.int j, .int (nI 0), .int ((nI nc) - (nI 1))]) (rest := []) C (met_X4_in l D d j (nI 0) (nI (nc) - nI 1)) (va_cwS 3 C.1.2.2.2.2 (lw_S q244 q245 q12 q246) rfl rfl rfl (by decide +kernel) ⟨Nat.le_of_ble_eq_true rfl, Nat.le_of_ble_eq_true rfl⟩) (trivial) rfl hl.1 rfl (Nat.le_of_ble_eq_true rfl) dX4_setX_8 ⟨Nat.le_of_ble_eq_true rfl, Nat.le_of_ble_eq_true rfl⟩ (fun r1 hr1 => ?_)
  have hr1 := in_subR (by omega) hr1
  refine lv_if_ne (tgt := 16) hx hb dX4_setX_11 (by decide) (fun c1 => ?_) (fun c1 => ?_)
  · have h9 := hr1.2 c1
    obtain ⟨k, hk, rfl⟩ := inR_nI h9 (by omega)
    refine lv_aload_n hx hb dX4_setX_16 rfl (lv_at hl 0 rfl) ?_
    refine g_X4_19 C hw 0 rfl rfl dX4_setX_17 ?_
    refine lv_iload_n hx hb dX4_setX_20 rfl (lv_at hl 1 rfl) ?_
    refine lv_iload_n hx hb dX4_setX_21 rfl (lv_at hl 2 rfl) ?_
    refine w_iast C hw 4 rfl (by omega) dX4_setX_22 (fun H locs hw => ?_)
    have hw : Wd D Z s.heap [cO o 3 [.int (nI cp), .int (nI nr), .int (nI nc), .int (nI P.length), .ref b1, .ref b2, .ref b3, .ref b4, .ref b5], cA d b1 3600 g1, cA d b2 3600 g2, cA d b3 3600 g3, cA d b4 60 (upd g4 k v0), cA d b5 60 g5] H locs := hw
    refine lv_iconst (v := nI 1) hx hb dX4_setX_23 (by decide) ?_
    refine mu_zret (v := nI 1) (Y := fun _ h => MOok D d Z o nr nc cp T P (if inR (nI k) nc then upd x (nI k).toNatClampNeg v0 else x) y h) C hw.2.2 rfl () (by rw [if_pos h9]; rfl) ?_ dX4_setX_24
    rw [if_pos h9, nI_clamp (by omega)]
    refine mo_mk hw.1 hw.2.1 ⟨⟨i1, i2, i3, i4, i5, i6⟩, htb, hpl, hmo, fun a ha => ?_, hyy, htot⟩
    by_cases q : a = k
    · rw [q, pk_us, pk_us]
    · rw [pk_un q, pk_un q]; exact hxx a ha
  · have h9 := hr1.1 c1
    refine lv_iconst (v := nI 0) hx hb dX4_setX_14 (by decide) ?_
    refine mu_zret (v := nI 0) (Y := fun _ h => MOok D d Z o nr nc cp T P (if inR j nc then upd x j.toNatClampNeg v0 else x) y h) C hw.2.2 rfl () (by rw [if_neg h9]; exact nI_0) ?_ dX4_setX_15
    rw [if_neg h9]
    exact mo_mk hw.1 hw.2.1 hI

set_option maxHeartbeats 4000000 in
set_option maxRecDepth 100000 in
/-- add(i, j, v) -/
theorem met_X4_add (l : Launch) (D : va_G) (d : ClassId) (Z : Nat → Prop) {o : Nat} {nr nc cp : Nat} {T : Nat → Nat → Int32} {P : List Tr} {x y : Nat → Int32} (i j v0 : Int32) : Met l yX4_add (ws_ yX4_add cX4_add 4 (some .boolean)) ({ frames := 2, cells := 0, slots := 0, locals := 44 } : Room) (pc_ [.ref o, .int i, .int j, .int v0] D d (MOok D d Z o nr nc cp T P x y)) (va_Qi (fun v (_ : Unit) => v = if inR i nr ∧ inR j nc ∧ P.length ≠ cp then 1 else 0) (fun (_ : Unit) t9 => MOok D d Z o nr nc cp T (if inR i nr ∧ inR j nc ∧ P.length ≠ cp then P ++ [(i.toNatClampNeg, j.toNatClampNeg, v0)] else P) x y t9.heap) (Z)) 0 0 (Z) := by
  refine mt_ofW (own := RX4) rfl (by decide) (Nat.le_of_ble_eq_true rfl) (fun p e s m below meth c C hnm hX ls hl => ?_)
  obtain ⟨hx, hb, -⟩ := C.1
  have hl : lv_has ls 4 [(0, .ref o), (1, .int i), (2, .int j), (3, .int v0)] := hl
  obtain ⟨b1, b2, b3, b4, b5, g1, g2, g3, g4, g5, hP, hD, hI⟩ := hX
  obtain ⟨⟨i1, i2, i3, i4, i5, i6⟩, htb, hpl, hmo, hxx, hyy, htot⟩ := id hI
  have hw : Wd D Z s.heap [cO o 3 [.int (nI cp), .int (nI nr), .int (nI nc), .int (nI P.length), .ref b1, .ref b2, .ref b3, .ref b4, .ref b5], cA d b1 3600 g1, cA d b2 3600 g2, cA d b3 3600 g3, cA d b4 60 g4, cA d b5 60 g5] s.heap [] := ⟨hP, hD, va_S.rf⟩
  refine lv_aload_n hx hb dX4_add_0 rfl (lv_at hl 0 rfl) ?_
  refine lv_iload_n hx hb dX4_add_1 rfl (lv_at hl 1 rfl) ?_
  refine lv_iload_n hx hb dX4_add_2 rfl (lv_at hl 2 rfl) ?_
  refine c_rdV (As := [.int i, .int j]) (rest := []) C (met_isPlace l D d i j i2 i4) (cwV 2 C.1.2.2.2.2 (lw_V q240 q242 qs3 q12 q243) rfl rfl rfl (by decide +kernel) ⟨Nat.le_of_ble_eq_true rfl, Nat.le_of_ble_eq_true rfl⟩) (va_recv C.2.1.1 hw.1 (ci := 3) (q0 := 0) rfl rfl) (w_cut hw [0] (by decide) rfl) rfl hl.1 rfl (Nat.le_of_ble_eq_true rfl) dX4_add_3 ⟨Nat.le_of_ble_eq_true rfl, Nat.le_of_ble_eq_true rfl⟩ (fun r hr => ?_)
  have hr := if_01 hr
  refine lv_if_eq (tgt := 20) hx hb dX4_add_6 (by decide) (fun c1 => ?_) (fun c1 => ?_)
  · have h9 : ¬ (inR i nr ∧ inR j nc ∧ P.length ≠ cp) := fun q => hr.1 c1 ⟨q.1, q.2.1⟩
    refine lv_iconst (v := nI 0) hx hb dX4_add_20 (by decide) ?_
    refine mu_zret (v := nI 0) (Y := fun _ h => MOok D d Z o nr nc cp T (if inR i nr ∧ inR j nc ∧ P.length ≠ cp then P ++ [(i.toNatClampNeg, j.toNatClampNeg, v0)] else P) x y h) C hw.2.2 rfl () (by rw [if_neg h9]; exact nI_0) ?_ dX4_add_21
    rw [if_neg h9]
    exact mo_mk hw.1 hw.2.1 hI
  · refine lv_aload_n hx hb dX4_add_9 rfl (lv_at hl 0 rfl) ?_
    refine g_X4_47 C hw 0 rfl rfl dX4_add_10 ?_
    refine lv_aload_n hx hb dX4_add_13 rfl (lv_at hl 0 rfl) ?_
    refine g_X4_36 C hw 0 rfl rfl dX4_add_14 ?_
    refine w_icmp_ne C (tgt := 22) (by omega) (by omega) dX4_add_17 (by decide) (fun c3 => ?_) (fun c3 => ?_)
    · have h8 := hr.2 c1
      have h9 : inR i nr ∧ inR j nc ∧ P.length ≠ cp := ⟨h8.1, h8.2, c3⟩
      obtain ⟨ki, hki, rfl⟩ := inR_nI h8.1 (by omega)
      obtain ⟨kj, hkj, rfl⟩ := inR_nI h8.2 (by omega)
      refine lv_aload_n hx hb dX4_add_22 rfl (lv_at hl 0 rfl) ?_
      refine g_X4_16 C hw 0 rfl rfl dX4_add_23 ?_
      refine lv_bipush (v := nI 60) hx hb dX4_add_26 (by decide) ?_
      refine lv_iload_n hx hb dX4_add_28 rfl (lv_at hl 1 rfl) ?_
      refine w_imul C dX4_add_29 ?_
      refine lv_iload_n hx hb dX4_add_30 rfl (lv_at hl 2 rfl) ?_
      refine w_iadd C dX4_add_31 ?_
      refine lv_dup2_11 hx hb dX4_add_32 rfl rfl ?_
      refine w_iald C hw 3 rfl (by omega) dX4_add_33 ?_
      refine lv_iload_n hx hb dX4_add_34 rfl (lv_at hl 3 rfl) ?_
      refine lv_iadd hx hb dX4_add_35 ?_
      refine w_iast C hw 3 rfl (by omega) dX4_add_36 (fun H locs hw => ?_)
      have hw : Wd D Z s.heap [cO o 3 [.int (nI cp), .int (nI nr), .int (nI nc), .int (nI P.length), .ref b1, .ref b2, .ref b3, .ref b4, .ref b5], cA d b1 3600 g1, cA d b2 3600 g2, cA d b3 3600 (upd g3 ((60 * ki) + kj) ((g3 ((60 * ki) + kj)) + v0)), cA d b4 60 g4, cA d b5 60 g5] H locs := hw
      refine lv_aload_n hx hb dX4_add_37 rfl (lv_at hl 0 rfl) ?_
      refine lv_dup hx hb dX4_add_38 rfl ?_
      refine g_X4_47 C hw 0 rfl rfl dX4_add_39 ?_
      refine lv_iconst (v := nI 1) hx hb dX4_add_42 (by decide) ?_
      refine w_iadd C dX4_add_43 ?_
      refine p_X4_47 C hw 0 rfl (Nat.le_of_ble_eq_true rfl) dX4_add_44 (fun H locs hw => ?_)
      have hw : Wd D Z s.heap [cO o 3 [.int (nI cp), .int (nI nr), .int (nI nc), .int (nI (P.length + 1)), .ref b1, .ref b2, .ref b3, .ref b4, .ref b5], cA d b1 3600 g1, cA d b2 3600 g2, cA d b3 3600 (upd g3 ((60 * ki) + kj) ((g3 ((60 * ki) + kj)) + v0)), cA d b4 60 g4, cA d b5 60 g5] H locs := hw
      refine lv_iconst (v := nI 1) hx hb dX4_add_47 (by decide) ?_
      refine mu_zret (v := nI 1) (Y := fun _ h => MOok D d Z o nr nc cp T (if inR (nI ki) nr ∧ inR (nI kj) nc ∧ P.length ≠ cp then P ++ [((nI ki).toNatClampNeg, (nI kj).toNatClampNeg, v0)] else P) x y h) C hw.2.2 rfl () (by rw [if_pos h9]; rfl) ?_ dX4_add_48
      rw [if_pos h9, nI_clamp (by omega), nI_clamp (by omega)]
      have hlen : (P ++ [(ki, kj, v0)]).length = P.length + 1 := by simp
      have hw1 := hw.1
      have hw2 := hw.2.1
      rw [← hlen] at hw1 hw2
      refine mo_mk hw1 hw2 ⟨⟨i1, i2, i3, i4, i5, i6⟩, htb, by rw [hlen]; omega, fun a b ha hb => ?_, hxx, hyy, htot⟩
      rw [ps_app, ps_one]
      show _ = _ + if ki = a ∧ kj = b then v0 else 0
      by_cases q : ki = a ∧ kj = b
      · obtain ⟨rfl, rfl⟩ := q; rw [pk_us, if_pos ⟨rfl, rfl⟩, hmo ki kj (by omega) (by omega)]
      · rw [pk_un (by omega), if_neg q, hmo a b ha hb]; grind
    · have h9 : ¬ (inR i nr ∧ inR j nc ∧ P.length ≠ cp) := fun q => q.2.2 c3
      refine lv_iconst (v := nI 0) hx hb dX4_add_20 (by decide) ?_
      refine mu_zret (v := nI 0) (Y := fun _ h => MOok D d Z o nr nc cp T (if inR i nr ∧ inR j nc ∧ P.length ≠ cp then P ++ [(i.toNatClampNeg, j.toNatClampNeg, v0)] else P) x y h) C hw.2.2 rfl () (by rw [if_neg h9]; exact nI_0) ?_ dX4_add_21
      rw [if_neg h9]
      exact mo_mk hw.1 hw.2.1 hI
end
section
/-! RowSparseModel: colAt, multiplyVector, square, transpose, build (walks printed by gen/mo2.py) -/
set_option maxRecDepth 100000
abbrev rmMs : Room := { frames := 2, cells := 0, slots := 0, locals := 46 }
section CA
variable {p : Program} {l : Launch} {e : Env} {R : Room} {s : State} {m : MethodId} {args : Array Value} {below : List Frame} {meth : Method} {c : Code} {Q : State → Prop}
variable {D : va_G} {d : ClassId} {A : Nat → Prop} {H0 : Heap} {ret : Option FieldType}
set_option maxHeartbeats 4000000 in
set_option maxRecDepth 100000 in
theorem lp_ca1 {o b1 b2 b3 b4 b5 nr nc cp : Nat} {T : Nat → Nat → Int32} {P : List Tr} {g1 g2 g3 g4 g5 : Nat → Int32} {k0 : Int32} {i : Nat} {H : Heap} {locs : List Loc} (C : Cx p s m args meth c cX4_colAt 5 RX4 ret D d) (htb : ∀ a b, a < nr → b < nc → g1 (60 * a + b) = T a b) (hnr : nr ≤ 60) (hnc : nc ≤ 60) (hi : i < nr) (hw : Wd D A H0 [cO o 3 [.int (nI cp), .int (nI nr), .int (nI nc), .int (nI P.length), .ref b1, .ref b2, .ref b3, .ref b4, .ref b5], cA d b1 3600 g1, cA d b2 3600 g2, cA d b3 3600 g3, cA d b4 60 g4, cA d b5 60 g5] H locs)
    (K1 : ∀ (ls : Array Slot), (∀ a b, (a < i ∨ (a = i ∧ b < nc)) → b < nc → T a b ≠ 0 → ¬ k0 = nI (of_ T nc a + rk_ T a b)) → lv_has ls 5 [(0, .ref o), (1, .int k0), (2, .int (nI (of_ T nc i + rk_ T i nc))), (3, .int (nI i))] → W p l e R s m args below meth c H locs 0 0 Q (F0 m 59 ls []))
    (K2 : ∀ (j : Nat) (ls : Array Slot), j < nc → T i j ≠ 0 → nI (of_ T nc i + rk_ T i j) = k0 → W p l e R s m args below meth c H locs 0 0 Q (F0 m 49 ls [.int (nI j)])) :
    ∀ (n j : Nat) (ls : Array Slot), j ≤ nc → nc < j + n → (∀ a b, (a < i ∨ (a = i ∧ b < j)) → b < nc → T a b ≠ 0 → ¬ k0 = nI (of_ T nc a + rk_ T a b)) → lv_has ls 5 [(0, .ref o), (1, .int k0), (2, .int (nI (of_ T nc i + rk_ T i j))), (3, .int (nI i)), (4, .int (nI j))] → W p l e R s m args below meth c H locs 0 0 Q (F0 m 15 ls []) := by
  obtain ⟨hx, hb, -⟩ := C.1
  have hbd := of_3600 (T := T) hnr hnc
  intro n
  induction n with
  | zero => intro j ls h1 h2; omega
  | succ n ih =>
    intro j ls h1 h2 h3 hl
    refine lv_iload hx hb dX4_colAt_15 (lv_at hl 4 rfl) ?_
    refine lv_aload_n hx hb dX4_colAt_17 rfl (lv_at hl 0 rfl) ?_
    refine g_X4_33 C hw 0 rfl rfl dX4_colAt_18 ?_
    refine w_icmp_ge C (tgt := 59) (by omega) (by omega) dX4_colAt_21 (by decide) (fun c1 => ?_) (fun c1 => ?_)
    · have hj : j = nc := by omega
      rw [hj] at h3 hl
      exact K1 ls h3 (lv_sub hl [0, 1, 2, 3] rfl)
    · refine lv_aload_n hx hb dX4_colAt_24 rfl (lv_at hl 0 rfl) ?_
      refine g_X4_7 C hw 0 rfl rfl dX4_colAt_25 ?_
      refine lv_bipush (v := nI 60) hx hb dX4_colAt_28 (by decide) ?_
      refine lv_iload_n hx hb dX4_colAt_30 rfl (lv_at hl 3 rfl) ?_
      refine w_imul C dX4_colAt_31 ?_
      refine lv_iload hx hb dX4_colAt_32 (lv_at hl 4 rfl) ?_
      refine w_iadd C dX4_colAt_34 ?_
      refine w_iald C hw 1 rfl (by omega) dX4_colAt_35 ?_
      refine w_top (y := T i j) (htb i j hi c1) ?_
      refine lv_if_ne (tgt := 42) hx hb dX4_colAt_36 (by decide) (fun hz => ?_) (fun hz => ?_)
      · refine lv_iload_n hx hb dX4_colAt_42 rfl (lv_at hl 2 rfl) ?_
        refine lv_iload_n hx hb dX4_colAt_43 rfl (lv_at hl 1 rfl) ?_
        refine lv_icmp_ne (tgt := 50) hx hb dX4_colAt_44 (by decide) (fun c2 => ?_) (fun c2 => ?_)
        · refine lv_iinc (v := nI (of_ T nc i + rk_ T i j + 1)) (lv' := [(2, .int (nI (of_ T nc i + rk_ T i j + 1))), (0, .ref o), (1, .int k0), (3, .int (nI i)), (4, .int (nI j))]) hx hb dX4_colAt_50 hl (k := 2) rfl (nI_1 _) (by decide) rfl (fun ls hl => ?_)
          refine lv_iinc (v := nI (j + 1)) (lv' := [(4, .int (nI (j + 1))), (2, .int (nI (of_ T nc i + rk_ T i j + 1))), (0, .ref o), (1, .int k0), (3, .int (nI i))]) hx hb dX4_colAt_53 hl (k := 4) rfl (nI_1 _) (by decide) rfl (fun ls hl => ?_)
          refine lv_goto (tgt := 15) hx hb dX4_colAt_56 (by decide) ?_
          refine ih (j + 1) ls (by omega) (by omega) (fun a b hab hb hn => ?_) (by rw [rk_s hz]; exact (lv_sub hl [2, 3, 1, 4, 0] rfl))
          by_cases q : a = i ∧ b = j
          · rw [q.1, q.2]; exact fun z => c2 z.symm
          · exact h3 a b (by omega) hb hn
        · refine lv_iload hx hb dX4_colAt_47 (lv_at hl 4 rfl) ?_
          exact K2 j ls c1 hz c2
      · refine lv_goto (tgt := 53) hx hb dX4_colAt_39 (by decide) ?_
        refine lv_iinc (v := nI (j + 1)) (lv' := [(4, .int (nI (j + 1))), (0, .ref o), (1, .int k0), (2, .int (nI (of_ T nc i + rk_ T i j))), (3, .int (nI i))]) hx hb dX4_colAt_53 hl (k := 4) rfl (nI_1 _) (by decide) rfl (fun ls hl => ?_)
        refine lv_goto (tgt := 15) hx hb dX4_colAt_56 (by decide) ?_
        refine ih (j + 1) ls (by omega) (by omega) (fun a b hab hb hn => ?_) (by rw [rk_z hz]; exact (lv_sub hl [1, 2, 3, 4, 0] rfl))
        by_cases q : a = i ∧ b = j
        · rw [q.1, q.2] at hn; exact absurd hz hn
        · exact h3 a b (by omega) hb hn

set_option maxHeartbeats 4000000 in
set_option maxRecDepth 100000 in
theorem lp_ca2 {o b1 b2 b3 b4 b5 nr nc cp : Nat} {T : Nat → Nat → Int32} {P : List Tr} {g1 g2 g3 g4 g5 : Nat → Int32} {k0 : Int32} {H : Heap} {locs : List Loc} (C : Cx p s m args meth c cX4_colAt 5 RX4 ret D d) (htb : ∀ a b, a < nr → b < nc → g1 (60 * a + b) = T a b) (hnr : nr ≤ 60) (hnc : nc ≤ 60) (hw : Wd D A H0 [cO o 3 [.int (nI cp), .int (nI nr), .int (nI nc), .int (nI P.length), .ref b1, .ref b2, .ref b3, .ref b4, .ref b5], cA d b1 3600 g1, cA d b2 3600 g2, cA d b3 3600 g3, cA d b4 60 g4, cA d b5 60 g5] H locs)
    (K1 : ∀ (ls : Array Slot), (∀ a b, (a < nr ∨ (a = nr ∧ b < 0)) → b < nc → T a b ≠ 0 → ¬ k0 = nI (of_ T nc a + rk_ T a b)) → W p l e R s m args below meth c H locs 0 0 Q (F0 m 65 ls []))
    (K2 : ∀ (i j : Nat) (ls : Array Slot), i < nr → j < nc → T i j ≠ 0 → nI (of_ T nc i + rk_ T i j) = k0 → W p l e R s m args below meth c H locs 0 0 Q (F0 m 49 ls [.int (nI j)])) :
    ∀ (n i : Nat) (ls : Array Slot), i ≤ nr → nr < i + n → (∀ a b, (a < i ∨ (a = i ∧ b < 0)) → b < nc → T a b ≠ 0 → ¬ k0 = nI (of_ T nc a + rk_ T a b)) → lv_has ls 5 [(0, .ref o), (1, .int k0), (2, .int (nI (of_ T nc i))), (3, .int (nI i))] → W p l e R s m args below meth c H locs 0 0 Q (F0 m 4 ls []) := by
  obtain ⟨hx, hb, -⟩ := C.1
  intro n
  induction n with
  | zero => intro i ls h1 h2; omega
  | succ n ih =>
    intro i ls h1 h2 h3 hl
    refine lv_iload_n hx hb dX4_colAt_4 rfl (lv_at hl 3 rfl) ?_
    refine lv_aload_n hx hb dX4_colAt_5 rfl (lv_at hl 0 rfl) ?_
    refine g_X4_29 C hw 0 rfl rfl dX4_colAt_6 ?_
    refine w_icmp_ge C (tgt := 65) (by omega) (by omega) dX4_colAt_9 (by decide) (fun c1 => ?_) (fun c1 => ?_)
    · have hi : i = nr := by omega
      rw [hi] at h3
      exact K1 ls h3
    · refine lv_iconst (v := nI 0) hx hb dX4_colAt_12 (by decide) ?_
      refine lv_istore (lv' := [(4, .int (nI 0)), (0, .ref o), (1, .int k0), (2, .int (nI (of_ T nc i))), (3, .int (nI i))]) hx hb dX4_colAt_13 hl (by decide) rfl (fun ls hl => ?_)
      refine lp_ca1 (P := P) C htb hnr hnc c1 hw (fun ls h5 hl => ?_) (fun j ls h5 h6 h7 => K2 i j ls c1 h5 h6 h7) (nc + 1) 0 ls (by omega) (by omega) h3 (lv_sub hl [1, 2, 3, 4, 0] rfl)
      refine lv_iinc (v := nI (i + 1)) (lv' := [(3, .int (nI (i + 1))), (0, .ref o), (1, .int k0), (2, .int (nI (of_ T nc i + rk_ T i nc)))]) hx hb dX4_colAt_59 hl (k := 3) rfl (nI_1 _) (by decide) rfl (fun ls hl => ?_)
      refine lv_goto (tgt := 4) hx hb dX4_colAt_62 (by decide) ?_
      exact ih (i + 1) ls (by omega) (by omega) (fun a b hab hb hn => h5 a b (by omega) hb hn) (lv_sub hl [1, 2, 3, 0] rfl)
end CA
set_option maxHeartbeats 4000000 in
set_option maxRecDepth 100000 in
/-- colAt(k) -/
theorem met_X4_colAt (l : Launch) (D : va_G) (d : ClassId) (Z : Nat → Prop) {o : Nat} {nr nc cp : Nat} {T : Nat → Nat → Int32} {P : List Tr} {x y : Nat → Int32} (k0 : Int32) : Met l yX4_colAt (ws_ yX4_colAt cX4_colAt 5 (some .int)) ({ frames := 0, cells := 0, slots := 0, locals := 0 } : Room) (pc_ [.ref o, .int k0] D d (MOok D d Z o nr nc cp T P x y)) (vp_Si (fun v => Cat T nc nr k0 v)) 0 0 (fun _ => False) := by
  refine mt_ofW (own := RX4) rfl (by decide) (Nat.le_of_ble_eq_true rfl) (fun p e s m below meth c C hnm hX ls hl => ?_)
  obtain ⟨hx, hb, -⟩ := C.1
  have hl : lv_has ls 5 [(0, .ref o), (1, .int k0)] := hl
  obtain ⟨b1, b2, b3, b4, b5, g1, g2, g3, g4, g5, hP, hD, hI⟩ := hX
  obtain ⟨⟨i1, i2, i3, i4, i5, i6⟩, htb, hpl, hmo, hxx, hyy, htot⟩ := id hI
  have hw : Wd D Z s.heap [cO o 3 [.int (nI cp), .int (nI nr), .int (nI nc), .int (nI P.length), .ref b1, .ref b2, .ref b3, .ref b4, .ref b5], cA d b1 3600 g1, cA d b2 3600 g2, cA d b3 3600 g3, cA d b4 60 g4, cA d b5 60 g5] s.heap [] := ⟨hP, hD, va_S.rf⟩
  have hbd := of_3600 (T := T) i2 i4
  refine lv_iconst (v := nI 0) hx hb dX4_colAt_0 (by decide) ?_
  refine lv_istore_n (lv' := [(2, .int (nI 0)), (0, .ref o), (1, .int k0)]) hx hb dX4_colAt_1 rfl hl (by decide) rfl (fun ls hl => ?_)
  refine lv_iconst (v := nI 0) hx hb dX4_colAt_2 (by decide) ?_
  refine lv_istore_n (lv' := [(3, .int (nI 0)), (2, .int (nI 0)), (0, .ref o), (1, .int k0)]) hx hb dX4_colAt_3 rfl hl (by decide) rfl (fun ls hl => ?_)
  refine lp_ca2 (P := P) C htb i2 i4 hw (fun ls h5 => ?_) (fun i j ls h5 h6 h7 h8 => ?_) (nr + 1) 0 ls (by omega) (by omega) (fun a b hab => by omega) (lv_sub hl [2, 3, 1, 0] rfl)
  · refine lv_iconst (v := (-1)) hx hb dX4_colAt_65 (by decide) ?_
    refine rd_iret C ?_ dX4_colAt_66
    exact ⟨fun a b ha hb hz hk => absurd hk (h5 a b (Or.inl ha) hb hz), fun _ => rfl⟩
  · refine rd_iret C ?_ dX4_colAt_49
    refine ⟨fun a b ha hb hz hk => ?_, fun q => absurd h8.symm (q i j h5 h6 h7)⟩
    have e1 := pos_lt ha hb hz
    have e2 := pos_lt (T := T) h5 h6 h7
    have e3 := (nI_eq (by omega) (by omega)).mp (h8.trans hk)
    rw [(pos_inj h6 hb h7 hz e3).2]

section MM
variable {p : Program} {l : Launch} {e : Env} {R : Room} {s : State} {m : MethodId} {args : Array Value} {below : List Frame} {meth : Method} {c : Code} {Q : State → Prop}
variable {D : va_G} {d : ClassId} {A : Nat → Prop} {H0 : Heap} {ret : Option FieldType}
set_option maxHeartbeats 4000000 in
set_option maxRecDepth 100000 in
theorem lp_mm1 {o b1 b2 b3 b4 b5 nr nc cp : Nat} {T : Nat → Nat → Int32} {P : List Tr} {g1 g2 g3 g4 : Nat → Int32} {x yv : Nat → Int32} {i : Nat} {H : Heap} {locs : List Loc} (C : Cx p s m args meth c cX4_multiplyVector 4 RX4 ret D d) (htb : ∀ a b, a < nr → b < nc → g1 (60 * a + b) = T a b) (hnr : nr ≤ 60) (hnc : nc ≤ 60) (hi : i < nr) (hxx : ∀ k, k < 60 → g4 k = x k) (hw : Wd D A H0 [cO o 3 [.int (nI cp), .int (nI nr), .int (nI nc), .int (nI P.length), .ref b1, .ref b2, .ref b3, .ref b4, .ref b5], cA d b1 3600 g1, cA d b2 3600 g2, cA d b3 3600 g3, cA d b4 60 g4, cA d b5 60 yv] H locs) (K : ∀ (ls : Array Slot), lv_has ls 4 [(0, .ref o), (1, .int (nI i)), (2, .int (dot_ T x i nc))] → W p l e R s m args below meth c H locs 0 0 Q (F0 m 49 ls [])) :
    ∀ (n j : Nat) (ls : Array Slot), j ≤ nc → nc < j + n → lv_has ls 4 [(0, .ref o), (1, .int (nI i)), (2, .int (dot_ T x i j)), (3, .int (nI j))] → W p l e R s m args below meth c H locs 0 0 Q (F0 m 14 ls []) := by
  obtain ⟨hx, hb, -⟩ := C.1
  intro n
  induction n with
  | zero => intro j ls h1 h2; omega
  | succ n ih =>
    intro j ls h1 h2 hl
    refine lv_iload_n hx hb dX4_multiplyVector_14 rfl (lv_at hl 3 rfl) ?_
    refine lv_aload_n hx hb dX4_multiplyVector_15 rfl (lv_at hl 0 rfl) ?_
    refine g_X4_33 C hw 0 rfl rfl dX4_multiplyVector_16 ?_
    refine w_icmp_ge C (tgt := 49) (by omega) (by omega) dX4_multiplyVector_19 (by decide) (fun c1 => ?_) (fun c1 => ?_)
    · have hj : j = nc := by omega
      rw [hj] at hl
      exact K ls (lv_sub hl [0, 1, 2] rfl)
    · refine lv_iload_n hx hb dX4_multiplyVector_22 rfl (lv_at hl 2 rfl) ?_
      refine lv_aload_n hx hb dX4_multiplyVector_23 rfl (lv_at hl 0 rfl) ?_
      refine g_X4_7 C hw 0 rfl rfl dX4_multiplyVector_24 ?_
      refine lv_bipush (v := nI 60) hx hb dX4_multiplyVector_27 (by decide) ?_
      refine lv_iload_n hx hb dX4_multiplyVector_29 rfl (lv_at hl 1 rfl) ?_
      refine w_imul C dX4_multiplyVector_30 ?_
      refine lv_iload_n hx hb dX4_multiplyVector_31 rfl (lv_at hl 3 rfl) ?_
      refine w_iadd C dX4_multiplyVector_32 ?_
      refine w_iald C hw 1 rfl (by omega) dX4_multiplyVector_33 ?_
      refine w_top (y := T i j) (htb i j hi c1) ?_
      refine lv_aload_n hx hb dX4_multiplyVector_34 rfl (lv_at hl 0 rfl) ?_
      refine g_X4_19 C hw 0 rfl rfl dX4_multiplyVector_35 ?_
      refine lv_iload_n hx hb dX4_multiplyVector_38 rfl (lv_at hl 3 rfl) ?_
      refine w_iald C hw 4 rfl (by omega) dX4_multiplyVector_39 ?_
      refine w_top (y := x j) (hxx j (by omega)) ?_
      refine lv_imul hx hb dX4_multiplyVector_40 ?_
      refine lv_iadd hx hb dX4_multiplyVector_41 ?_
      refine lv_istore_n (lv' := [(2, .int ((dot_ T x i j) + ((T i j) * (x j)))), (0, .ref o), (1, .int (nI i)), (3, .int (nI j))]) hx hb dX4_multiplyVector_42 rfl hl (by decide) rfl (fun ls hl => ?_)
      refine lv_iinc (v := nI (j + 1)) (lv' := [(3, .int (nI (j + 1))), (2, .int ((dot_ T x i j) + ((T i j) * (x j)))), (0, .ref o), (1, .int (nI i))]) hx hb dX4_multiplyVector_43 hl (k := 3) rfl (nI_1 _) (by decide) rfl (fun ls hl => ?_)
      refine lv_goto (tgt := 14) hx hb dX4_multiplyVector_46 (by decide) ?_
      exact ih (j + 1) ls (by omega) (by omega) (lv_sub hl [2, 3, 1, 0] rfl)

set_option maxHeartbeats 4000000 in
set_option maxRecDepth 100000 in
theorem lp_mm2 {o b1 b2 b3 b4 b5 nr nc cp : Nat} {T : Nat → Nat → Int32} {P : List Tr} {g1 g2 g3 g4 : Nat → Int32} {x y : Nat → Int32} (C : Cx p s m args meth c cX4_multiplyVector 4 RX4 ret D d) (htb : ∀ a b, a < nr → b < nc → g1 (60 * a + b) = T a b) (hnr : nr ≤ 60) (hnc : nc ≤ 60) (hxx : ∀ k, k < 60 → g4 k = x k) (K : ∀ (yv : Nat → Int32) (H : Heap) (locs : List Loc) (ls : Array Slot), (∀ a, a < nr → yv a = dot_ T x a nc) → (∀ a, nr ≤ a → a < 60 → yv a = y a) → Wd D A H0 [cO o 3 [.int (nI cp), .int (nI nr), .int (nI nc), .int (nI P.length), .ref b1, .ref b2, .ref b3, .ref b4, .ref b5], cA d b1 3600 g1, cA d b2 3600 g2, cA d b3 3600 g3, cA d b4 60 g4, cA d b5 60 yv] H locs → W p l e R s m args below meth c H locs 0 0 Q (F0 m 62 ls [])) :
    ∀ (n i : Nat) (yv : Nat → Int32) (H : Heap) (locs : List Loc) (ls : Array Slot), i ≤ nr → nr < i + n → (∀ a, a < i → yv a = dot_ T x a nc) → (∀ a, i ≤ a → a < 60 → yv a = y a) → Wd D A H0 [cO o 3 [.int (nI cp), .int (nI nr), .int (nI nc), .int (nI P.length), .ref b1, .ref b2, .ref b3, .ref b4, .ref b5], cA d b1 3600 g1, cA d b2 3600 g2, cA d b3 3600 g3, cA d b4 60 g4, cA d b5 60 yv] H locs → lv_has ls 4 [(0, .ref o), (1, .int (nI i))] → W p l e R s m args below meth c H locs 0 0 Q (F0 m 2 ls []) := by
  obtain ⟨hx, hb, -⟩ := C.1
  intro n
  induction n with
  | zero => intro i yv H locs ls h1 h2; omega
  | succ n ih =>
    intro i yv H locs ls h1 h2 h3 h4 hw hl
    refine lv_iload_n hx hb dX4_multiplyVector_2 rfl (lv_at hl 1 rfl) ?_
    refine lv_aload_n hx hb dX4_multiplyVector_3 rfl (lv_at hl 0 rfl) ?_
    refine g_X4_29 C hw 0 rfl rfl dX4_multiplyVector_4 ?_
    refine w_icmp_ge C (tgt := 62) (by omega) (by omega) dX4_multiplyVector_7 (by decide) (fun c1 => ?_) (fun c1 => ?_)
    · have : i = nr := by omega
      subst this
      exact K yv H locs ls h3 h4 hw
    · refine lv_iconst (v := nI 0) hx hb dX4_multiplyVector_10 (by decide) ?_
      refine lv_istore_n (lv' := [(2, .int (nI 0)), (0, .ref o), (1, .int (nI i))]) hx hb dX4_multiplyVector_11 rfl hl (by decide) rfl (fun ls hl => ?_)
      refine lv_iconst (v := nI 0) hx hb dX4_multiplyVector_12 (by decide) ?_
      refine lv_istore_n (lv' := [(3, .int (nI 0)), (2, .int (nI 0)), (0, .ref o), (1, .int (nI i))]) hx hb dX4_multiplyVector_13 rfl hl (by decide) rfl (fun ls hl => ?_)
      refine lp_mm1 (P := P) C htb hnr hnc c1 hxx hw (fun ls hl => ?_) (nc + 1) 0 ls (by omega) (by omega) (lv_sub hl [2, 3, 1, 0] rfl)
      refine lv_aload_n hx hb dX4_multiplyVector_49 rfl (lv_at hl 0 rfl) ?_
      refine g_X4_22 C hw 0 rfl rfl dX4_multiplyVector_50 ?_
      refine lv_iload_n hx hb dX4_multiplyVector_53 rfl (lv_at hl 1 rfl) ?_
      refine lv_iload_n hx hb dX4_multiplyVector_54 rfl (lv_at hl 2 rfl) ?_
      refine w_iast C hw 5 rfl (by omega) dX4_multiplyVector_55 (fun H locs hw => ?_)
      have hw : Wd D A H0 [cO o 3 [.int (nI cp), .int (nI nr), .int (nI nc), .int (nI P.length), .ref b1, .ref b2, .ref b3, .ref b4, .ref b5], cA d b1 3600 g1, cA d b2 3600 g2, cA d b3 3600 g3, cA d b4 60 g4, cA d b5 60 (upd yv i (dot_ T x i nc))] H locs := hw
      refine lv_iinc (v := nI (i + 1)) (lv' := [(1, .int (nI (i + 1))), (0, .ref o), (2, .int (dot_ T x i nc))]) hx hb dX4_multiplyVector_56 hl (k := 1) rfl (nI_1 _) (by decide) rfl (fun ls hl => ?_)
      refine lv_goto (tgt := 2) hx hb dX4_multiplyVector_59 (by decide) ?_
      refine ih (i + 1) _ H locs ls (by omega) (by omega) (fun a ha => ?_) (fun a ha ha2 => ?_) hw (lv_sub hl [1, 0] rfl)
      · by_cases q : a = i
        · rw [q, pk_us]
        · rw [pk_un q]; exact h3 a (by omega)
      · rw [pk_un (by omega)]; exact h4 a (by omega) ha2
end MM
set_option maxHeartbeats 4000000 in
set_option maxRecDepth 100000 in
/-- multiplyVector() -/
theorem met_X4_multiplyVector (l : Launch) (D : va_G) (d : ClassId) (Z : Nat → Prop) {o : Nat} {nr nc cp : Nat} {T : Nat → Nat → Int32} {P : List Tr} {x y : Nat → Int32}  : Met l yX4_multiplyVector (ws_ yX4_multiplyVector cX4_multiplyVector 4 (some .boolean)) ({ frames := 0, cells := 0, slots := 0, locals := 0 } : Room) (pc_ [.ref o] D d (MOok D d Z o nr nc cp T P x y)) (va_Qi (fun v (_ : Unit) => v = 1) (fun (_ : Unit) t9 => MOok D d Z o nr nc cp T P x (fun a => if a < nr then dot_ T x a nc else y a) t9.heap) (Z)) 0 0 (Z) := by
  refine mt_ofW (own := RX4) rfl (by decide) (Nat.le_of_ble_eq_true rfl) (fun p e s m below meth c C hnm hX ls hl => ?_)
  obtain ⟨hx, hb, -⟩ := C.1
  have hl : lv_has ls 4 [(0, .ref o)] := hl
  obtain ⟨b1, b2, b3, b4, b5, g1, g2, g3, g4, g5, hP, hD, hI⟩ := hX
  obtain ⟨⟨i1, i2, i3, i4, i5, i6⟩, htb, hpl, hmo, hxx, hyy, htot⟩ := id hI
  have hw : Wd D Z s.heap [cO o 3 [.int (nI cp), .int (nI nr), .int (nI nc), .int (nI P.length), .ref b1, .ref b2, .ref b3, .ref b4, .ref b5], cA d b1 3600 g1, cA d b2 3600 g2, cA d b3 3600 g3, cA d b4 60 g4, cA d b5 60 g5] s.heap [] := ⟨hP, hD, va_S.rf⟩
  refine lv_iconst (v := nI 0) hx hb dX4_multiplyVector_0 (by decide) ?_
  refine lv_istore_n (lv' := [(1, .int (nI 0)), (0, .ref o)]) hx hb dX4_multiplyVector_1 rfl hl (by decide) rfl (fun ls hl => ?_)
  refine lp_mm2 (P := P) (y := y) C htb i2 i4 hxx (fun yv H locs ls h5 h6 hw => ?_) (nr + 1) 0 g5 _ _ ls (by omega) (by omega) (fun a ha => by omega) (fun a _ ha => hyy a ha) hw (lv_sub hl [1, 0] rfl)
  refine lv_iconst (v := nI 1) hx hb dX4_multiplyVector_62 (by decide) ?_
  refine mu_zret (v := nI 1) (Y := fun _ h => MOok D d Z o nr nc cp T P x (fun a => if a < nr then dot_ T x a nc else y a) h) C hw.2.2 rfl () rfl ?_ dX4_multiplyVector_63
  refine mo_mk hw.1 hw.2.1 ⟨⟨i1, i2, i3, i4, i5, i6⟩, htb, hpl, hmo, hxx, fun a ha => ?_, htot⟩
  show yv a = if a < nr then dot_ T x a nc else y a
  by_cases q : a < nr
  · rw [if_pos q]; exact h5 a q
  · rw [if_neg q]; exact h6 a (by omega) ha

section MS
variable {p : Program} {l : Launch} {e : Env} {R : Room} {s : State} {m : MethodId} {args : Array Value} {below : List Frame} {meth : Method} {c : Code} {Q : State → Prop}
variable {D : va_G} {d : ClassId} {A : Nat → Prop} {H0 : Heap} {ret : Option FieldType}
set_option maxHeartbeats 4000000 in
set_option maxRecDepth 100000 in
theorem lp_ms1 {o b1 b2 b3 b4 b5 nr nc cp : Nat} {T : Nat → Nat → Int32} {P : List Tr} {g1 g3 g4 g5 : Nat → Int32} {ot : Nat → Int32} {i j : Nat} {H : Heap} {locs : List Loc} (C : Cx p s m args meth c cX4_square 5 RX4 ret D d) (htb : ∀ a b, a < nr → b < nc → g1 (60 * a + b) = T a b) (hnr : nr ≤ 60) (hnc : nc ≤ 60) (hsq : nr = nc) (hi : i < nr) (hj : j < nc) (hw : Wd D A H0 [cO o 3 [.int (nI cp), .int (nI nr), .int (nI nc), .int (nI P.length), .ref b1, .ref b2, .ref b3, .ref b4, .ref b5], cA d b1 3600 g1, cA d b2 3600 ot, cA d b3 3600 g3, cA d b4 60 g4, cA d b5 60 g5] H locs) (K : ∀ (ls : Array Slot), lv_has ls 5 [(0, .ref o), (1, .int (nI i)), (2, .int (nI j)), (3, .int (dot_ T (fun q => T q j) i nc))] → W p l e rmMs s m args below meth c H locs 0 0 Q (F0 m 82 ls [])) :
    ∀ (n k : Nat) (ls : Array Slot), k ≤ nc → nc < k + n → lv_has ls 5 [(0, .ref o), (1, .int (nI i)), (2, .int (nI j)), (3, .int (dot_ T (fun q => T q j) i k)), (4, .int (nI k))] → W p l e rmMs s m args below meth c H locs 0 0 Q (F0 m 39 ls []) := by
  obtain ⟨hx, hb, -⟩ := C.1
  intro n
  induction n with
  | zero => intro k ls h1 h2; omega
  | succ n ih =>
    intro k ls h1 h2 hl
    refine lv_iload hx hb dX4_square_39 (lv_at hl 4 rfl) ?_
    refine lv_aload_n hx hb dX4_square_41 rfl (lv_at hl 0 rfl) ?_
    refine g_X4_33 C hw 0 rfl rfl dX4_square_42 ?_
    refine w_icmp_ge C (tgt := 82) (by omega) (by omega) dX4_square_45 (by decide) (fun c1 => ?_) (fun c1 => ?_)
    · have hk : k = nc := by omega
      rw [hk] at hl
      exact K ls (lv_sub hl [0, 1, 2, 3] rfl)
    · refine lv_iload_n hx hb dX4_square_48 rfl (lv_at hl 3 rfl) ?_
      refine lv_aload_n hx hb dX4_square_49 rfl (lv_at hl 0 rfl) ?_
      refine g_X4_7 C hw 0 rfl rfl dX4_square_50 ?_
      refine lv_bipush (v := nI 60) hx hb dX4_square_53 (by decide) ?_
      refine lv_iload_n hx hb dX4_square_55 rfl (lv_at hl 1 rfl) ?_
      refine w_imul C dX4_square_56 ?_
      refine lv_iload hx hb dX4_square_57 (lv_at hl 4 rfl) ?_
      refine w_iadd C dX4_square_59 ?_
      refine w_iald C hw 1 rfl (by omega) dX4_square_60 ?_
      refine w_top (y := T i k) (htb i k hi c1) ?_
      refine lv_aload_n hx hb dX4_square_61 rfl (lv_at hl 0 rfl) ?_
      refine g_X4_7 C hw 0 rfl rfl dX4_square_62 ?_
      refine lv_bipush (v := nI 60) hx hb dX4_square_65 (by decide) ?_
      refine lv_iload hx hb dX4_square_67 (lv_at hl 4 rfl) ?_
      refine w_imul C dX4_square_69 ?_
      refine lv_iload_n hx hb dX4_square_70 rfl (lv_at hl 2 rfl) ?_
      refine w_iadd C dX4_square_71 ?_
      refine w_iald C hw 1 rfl (by omega) dX4_square_72 ?_
      refine w_top (y := T k j) (htb k j (by omega) hj) ?_
      refine lv_imul hx hb dX4_square_73 ?_
      refine lv_iadd hx hb dX4_square_74 ?_
      refine lv_istore_n (lv' := [(3, .int ((dot_ T (fun q => T q j) i k) + ((T i k) * (T k j)))), (0, .ref o), (1, .int (nI i)), (2, .int (nI j)), (4, .int (nI k))]) hx hb dX4_square_75 rfl hl (by decide) rfl (fun ls hl => ?_)
      refine lv_iinc (v := nI (k + 1)) (lv' := [(4, .int (nI (k + 1))), (3, .int ((dot_ T (fun q => T q j) i k) + ((T i k) * (T k j)))), (0, .ref o), (1, .int (nI i)), (2, .int (nI j))]) hx hb dX4_square_76 hl (k := 4) rfl (nI_1 _) (by decide) rfl (fun ls hl => ?_)
      refine lv_goto (tgt := 39) hx hb dX4_square_79 (by decide) ?_
      exact ih (k + 1) ls (by omega) (by omega) (lv_sub hl [2, 3, 4, 1, 0] rfl)
set_option maxHeartbeats 4000000 in
set_option maxRecDepth 100000 in
theorem lp_ms2 {o b1 b2 b3 b4 b5 nr nc cp : Nat} {T : Nat → Nat → Int32} {P : List Tr} {g1 g3 g4 g5 : Nat → Int32} {i : Nat} (C : Cx p s m args meth c cX4_square 5 RX4 ret D d) (htb : ∀ a b, a < nr → b < nc → g1 (60 * a + b) = T a b) (hnr : nr ≤ 60) (hnc : nc ≤ 60) (hsq : nr = nc) (hi : i < nr) (K : ∀ (ot : Nat → Int32) (H : Heap) (locs : List Loc) (ls : Array Slot), Fi ot (sqT T nc) nc (i + 1) 0 → Wd D A H0 [cO o 3 [.int (nI cp), .int (nI nr), .int (nI nc), .int (nI P.length), .ref b1, .ref b2, .ref b3, .ref b4, .ref b5], cA d b1 3600 g1, cA d b2 3600 ot, cA d b3 3600 g3, cA d b4 60 g4, cA d b5 60 g5] H locs → lv_has ls 5 [(0, .ref o), (1, .int (nI i))] → W p l e rmMs s m args below meth c H locs 0 0 Q (F0 m 100 ls [])) :
    ∀ (n j : Nat) (ot : Nat → Int32) (H : Heap) (locs : List Loc) (ls : Array Slot), j ≤ nc → nc < j + n → Fi ot (sqT T nc) nc i j → Wd D A H0 [cO o 3 [.int (nI cp), .int (nI nr), .int (nI nc), .int (nI P.length), .ref b1, .ref b2, .ref b3, .ref b4, .ref b5], cA d b1 3600 g1, cA d b2 3600 ot, cA d b3 3600 g3, cA d b4 60 g4, cA d b5 60 g5] H locs → lv_has ls 5 [(0, .ref o), (1, .int (nI i)), (2, .int (nI j))] → W p l e rmMs s m args below meth c H locs 0 0 Q (F0 m 26 ls []) := by
  obtain ⟨hx, hb, -⟩ := C.1
  intro n
  induction n with
  | zero => intro j ot H locs ls h1 h2; omega
  | succ n ih =>
    intro j ot H locs ls h1 h2 h3 hw hl
    refine lv_iload_n hx hb dX4_square_26 rfl (lv_at hl 2 rfl) ?_
    refine lv_aload_n hx hb dX4_square_27 rfl (lv_at hl 0 rfl) ?_
    refine g_X4_33 C hw 0 rfl rfl dX4_square_28 ?_
    refine w_icmp_ge C (tgt := 100) (by omega) (by omega) dX4_square_31 (by decide) (fun c1 => ?_) (fun c1 => ?_)
    · have hj : j = nc := by omega
      rw [hj] at h3
      exact K ot H locs ls (fi_r h3) hw (lv_sub hl [0, 1] rfl)
    · refine lv_iconst (v := nI 0) hx hb dX4_square_34 (by decide) ?_
      refine lv_istore_n (lv' := [(3, .int (nI 0)), (0, .ref o), (1, .int (nI i)), (2, .int (nI j))]) hx hb dX4_square_35 rfl hl (by decide) rfl (fun ls hl => ?_)
      refine lv_iconst (v := nI 0) hx hb dX4_square_36 (by decide) ?_
      refine lv_istore (lv' := [(4, .int (nI 0)), (3, .int (nI 0)), (0, .ref o), (1, .int (nI i)), (2, .int (nI j))]) hx hb dX4_square_37 hl (by decide) rfl (fun ls hl => ?_)
      refine lp_ms1 (P := P) C htb hnr hnc hsq hi c1 hw (fun ls hl => ?_) (nc + 1) 0 ls (by omega) (by omega) (lv_sub hl [2, 3, 4, 1, 0] rfl)
      refine lv_aload_n hx hb dX4_square_82 rfl (lv_at hl 0 rfl) ?_
      refine g_X4_13 C hw 0 rfl rfl dX4_square_83 ?_
      refine lv_bipush (v := nI 60) hx hb dX4_square_86 (by decide) ?_
      refine lv_iload_n hx hb dX4_square_88 rfl (lv_at hl 1 rfl) ?_
      refine w_imul C dX4_square_89 ?_
      refine lv_iload_n hx hb dX4_square_90 rfl (lv_at hl 2 rfl) ?_
      refine w_iadd C dX4_square_91 ?_
      refine lv_iload_n hx hb dX4_square_92 rfl (lv_at hl 3 rfl) ?_
      refine w_iast C hw 2 rfl (by omega) dX4_square_93 (fun H locs hw => ?_)
      have hw : Wd D A H0 [cO o 3 [.int (nI cp), .int (nI nr), .int (nI nc), .int (nI P.length), .ref b1, .ref b2, .ref b3, .ref b4, .ref b5], cA d b1 3600 g1, cA d b2 3600 (upd ot ((60 * i) + j) (dot_ T (fun q => T q j) i nc)), cA d b3 3600 g3, cA d b4 60 g4, cA d b5 60 g5] H locs := hw
      refine lv_iinc (v := nI (j + 1)) (lv' := [(2, .int (nI (j + 1))), (0, .ref o), (1, .int (nI i)), (3, .int (dot_ T (fun q => T q j) i nc))]) hx hb dX4_square_94 hl (k := 2) rfl (nI_1 _) (by decide) rfl (fun ls hl => ?_)
      refine lv_goto (tgt := 26) hx hb dX4_square_97 (by decide) ?_
      exact ih (j + 1) _ H locs ls (by omega) (by omega) (fi_s hnc c1 h3 rfl) hw (lv_sub hl [1, 2, 0] rfl)
set_option maxHeartbeats 4000000 in
set_option maxRecDepth 100000 in
theorem lp_ms3 {o b1 b2 b3 b4 b5 nr nc cp : Nat} {T : Nat → Nat → Int32} {P : List Tr} {g1 g3 g4 g5 : Nat → Int32} (C : Cx p s m args meth c cX4_square 5 RX4 ret D d) (htb : ∀ a b, a < nr → b < nc → g1 (60 * a + b) = T a b) (hnr : nr ≤ 60) (hnc : nc ≤ 60) (hsq : nr = nc) (K : ∀ (ot : Nat → Int32) (H : Heap) (locs : List Loc) (ls : Array Slot), Fi ot (sqT T nc) nc nr 0 → Wd D A H0 [cO o 3 [.int (nI cp), .int (nI nr), .int (nI nc), .int (nI P.length), .ref b1, .ref b2, .ref b3, .ref b4, .ref b5], cA d b1 3600 g1, cA d b2 3600 ot, cA d b3 3600 g3, cA d b4 60 g4, cA d b5 60 g5] H locs → lv_has ls 5 [(0, .ref o)] → W p l e rmMs s m args below meth c H locs 0 0 Q (F0 m 106 ls [])) :
    ∀ (n i : Nat) (ot : Nat → Int32) (H : Heap) (locs : List Loc) (ls : Array Slot), i ≤ nr → nr < i + n → Fi ot (sqT T nc) nc i 0 → Wd D A H0 [cO o 3 [.int (nI cp), .int (nI nr), .int (nI nc), .int (nI P.length), .ref b1, .ref b2, .ref b3, .ref b4, .ref b5], cA d b1 3600 g1, cA d b2 3600 ot, cA d b3 3600 g3, cA d b4 60 g4, cA d b5 60 g5] H locs → lv_has ls 5 [(0, .ref o), (1, .int (nI i))] → W p l e rmMs s m args below meth c H locs 0 0 Q (F0 m 16 ls []) := by
  obtain ⟨hx, hb, -⟩ := C.1
  intro n
  induction n with
  | zero => intro i ot H locs ls h1 h2; omega
  | succ n ih =>
    intro i ot H locs ls h1 h2 h3 hw hl
    refine lv_iload_n hx hb dX4_square_16 rfl (lv_at hl 1 rfl) ?_
    refine lv_aload_n hx hb dX4_square_17 rfl (lv_at hl 0 rfl) ?_
    refine g_X4_29 C hw 0 rfl rfl dX4_square_18 ?_
    refine w_icmp_ge C (tgt := 106) (by omega) (by omega) dX4_square_21 (by decide) (fun c1 => ?_) (fun c1 => ?_)
    · have hi : i = nr := by omega
      rw [hi] at h3
      exact K ot H locs ls h3 hw (lv_sub hl [0] rfl)
    · refine lv_iconst (v := nI 0) hx hb dX4_square_24 (by decide) ?_
      refine lv_istore_n (lv' := [(2, .int (nI 0)), (0, .ref o), (1, .int (nI i))]) hx hb dX4_square_25 rfl hl (by decide) rfl (fun ls hl => ?_)
      refine lp_ms2 (P := P) C htb hnr hnc hsq c1 (fun ot H locs ls h5 hw hl => ?_) (nc + 1) 0 ot H locs ls (by omega) (by omega) h3 hw (lv_sub hl [1, 2, 0] rfl)
      refine lv_iinc (v := nI (i + 1)) (lv' := [(1, .int (nI (i + 1))), (0, .ref o)]) hx hb dX4_square_100 hl (k := 1) rfl (nI_1 _) (by decide) rfl (fun ls hl => ?_)
      refine lv_goto (tgt := 16) hx hb dX4_square_103 (by decide) ?_
      exact ih (i + 1) ot H locs ls (by omega) (by omega) h5 hw (lv_sub hl [1, 0] rfl)
end MS
set_option maxHeartbeats 4000000 in
set_option maxRecDepth 100000 in
/-- square() of a matrix that is not square -/
theorem met_X4_square_ne (l : Launch) (D : va_G) (d : ClassId) (Z : Nat → Prop) {o : Nat} {nr nc cp : Nat} {T : Nat → Nat → Int32} {P : List Tr} {x y : Nat → Int32} (hsq : nr ≠ nc) : Met l yX4_square (ws_ yX4_square cX4_square 5 (some .int)) rmMs (pc_ [.ref o] D d (MOok D d Z o nr nc cp T P x y)) (vp_Si (fun v => v = -2)) 0 0 (fun _ => False) := by
  refine mt_ofW (own := RX4) rfl (by decide) (Nat.le_of_ble_eq_true rfl) (fun p e s m below meth c C hnm hX ls hl => ?_)
  obtain ⟨hx, hb, -⟩ := C.1
  have hl : lv_has ls 5 [(0, .ref o)] := hl
  obtain ⟨b1, b2, b3, b4, b5, g1, g2, g3, g4, g5, hP, hD, hI⟩ := hX
  obtain ⟨⟨i1, i2, i3, i4, i5, i6⟩, htb, hpl, hmo, hxx, hyy, htot⟩ := id hI
  have hw : Wd D Z s.heap [cO o 3 [.int (nI cp), .int (nI nr), .int (nI nc), .int (nI P.length), .ref b1, .ref b2, .ref b3, .ref b4, .ref b5], cA d b1 3600 g1, cA d b2 3600 g2, cA d b3 3600 g3, cA d b4 60 g4, cA d b5 60 g5] s.heap [] := ⟨hP, hD, va_S.rf⟩
  refine lv_aload_n hx hb dX4_square_0 rfl (lv_at hl 0 rfl) ?_
  refine g_X4_29 C hw 0 rfl rfl dX4_square_1 ?_
  refine lv_aload_n hx hb dX4_square_4 rfl (lv_at hl 0 rfl) ?_
  refine g_X4_33 C hw 0 rfl rfl dX4_square_5 ?_
  refine w_icmp_eq C (tgt := 14) (by omega) (by omega) dX4_square_8 (by decide) (fun c1 => ?_) (fun c1 => ?_)
  · exact absurd c1 hsq
  · refine lv_bipush (v := (-2)) hx hb dX4_square_11 (by decide) ?_
    exact rd_iret C rfl dX4_square_13

set_option maxHeartbeats 4000000 in
set_option maxRecDepth 100000 in
/-- square() -/
theorem met_X4_square_eq (l : Launch) (D : va_G) (d : ClassId) (Z : Nat → Prop) {o : Nat} {nr nc cp : Nat} {T : Nat → Nat → Int32} {P : List Tr} {x y : Nat → Int32} (hsq : nr = nc) : Met l yX4_square (ws_ yX4_square cX4_square 5 (some .int)) rmMs (pc_ [.ref o] D d (MOok D d Z o nr nc cp T P x y)) (va_Qi (fun v (_ : Unit) => v = if of_ (sqT T nc) nc nr ≤ cp then nI (of_ (sqT T nc) nc nr) else -1) (fun (_ : Unit) t9 => MOok D d Z o nr nc cp (if of_ (sqT T nc) nc nr ≤ cp then sqT T nc else T) P x y t9.heap) (Z)) 0 0 (Z) := by
  refine mt_ofW (own := RX4) rfl (by decide) (Nat.le_of_ble_eq_true rfl) (fun p e s m below meth c C hnm hX ls hl => ?_)
  obtain ⟨hx, hb, -⟩ := C.1
  have hl : lv_has ls 5 [(0, .ref o)] := hl
  obtain ⟨b1, b2, b3, b4, b5, g1, g2, g3, g4, g5, hP, hD, hI⟩ := hX
  obtain ⟨⟨i1, i2, i3, i4, i5, i6⟩, htb, hpl, hmo, hxx, hyy, htot⟩ := id hI
  have hw : Wd D Z s.heap [cO o 3 [.int (nI cp), .int (nI nr), .int (nI nc), .int (nI P.length), .ref b1, .ref b2, .ref b3, .ref b4, .ref b5], cA d b1 3600 g1, cA d b2 3600 g2, cA d b3 3600 g3, cA d b4 60 g4, cA d b5 60 g5] s.heap [] := ⟨hP, hD, va_S.rf⟩
  refine lv_aload_n hx hb dX4_square_0 rfl (lv_at hl 0 rfl) ?_
  refine g_X4_29 C hw 0 rfl rfl dX4_square_1 ?_
  refine lv_aload_n hx hb dX4_square_4 rfl (lv_at hl 0 rfl) ?_
  refine g_X4_33 C hw 0 rfl rfl dX4_square_5 ?_
  refine w_icmp_eq C (tgt := 14) (by omega) (by omega) dX4_square_8 (by decide) (fun c1 => ?_) (fun c1 => ?_)
  · refine lv_iconst (v := nI 0) hx hb dX4_square_14 (by decide) ?_
    refine lv_istore_n (lv' := [(1, .int (nI 0)), (0, .ref o)]) hx hb dX4_square_15 rfl hl (by decide) rfl (fun ls hl => ?_)
    refine lp_ms3 (P := P) C htb i2 i4 hsq (fun ot H locs ls h5 hw hl => ?_) (nr + 1) 0 g2 _ _ ls (by omega) (by omega) fi_0 hw (lv_sub hl [1, 0] rfl)
    refine lv_aload_n hx hb dX4_square_106 rfl (lv_at hl 0 rfl) ?_
    refine c_wVi (As := []) (rest := []) C hw [0, 2] (met_becomes l D d (T := (sqT T nc)) (fun a b ha hb => h5 a b hb (Or.inl ha)) i2 i4 i6) (by decide) rfl (fun _ => rfl) (cwV 0 C.1.2.2.2.2 (lw_V q251 q253 qs4 q12 q254) rfl rfl rfl (by decide +kernel) ⟨Nat.le_of_ble_eq_true rfl, Nat.le_of_ble_eq_true rfl⟩) (va_recv C.2.1.1 hw.1 (ci := 3) (q0 := 0) rfl rfl) rfl hl.1 rfl (Nat.le_of_ble_eq_true rfl) dX4_square_107 ⟨Nat.le_of_ble_eq_true rfl, Nat.le_of_ble_eq_true rfl⟩ (fun r u H locs hbe hw => ?_)
    have hw : Wd D Z s.heap [cO o 3 [.int (nI cp), .int (nI nr), .int (nI nc), .int (nI P.length), .ref u.1, .ref u.2, .ref b3, .ref b4, .ref b5], cA d b1 3600 g1, cA d b2 3600 ot, cA d b3 3600 g3, cA d b4 60 g4, cA d b5 60 g5] H locs := hw
    rcases hbe with ⟨h9, rfl, rfl⟩ | ⟨h9, rfl, rfl⟩
    · have hw : Wd D Z s.heap [cO o 3 [.int (nI cp), .int (nI nr), .int (nI nc), .int (nI P.length), .ref b2, .ref b1, .ref b3, .ref b4, .ref b5], cA d b1 3600 g1, cA d b2 3600 ot, cA d b3 3600 g3, cA d b4 60 g4, cA d b5 60 g5] H locs := hw
      refine mu_iret (Y := fun _ h => MOok D d Z o nr nc cp (if of_ (sqT T nc) nc nr ≤ cp then sqT T nc else T) P x y h) C hw.2.2 () (by rw [if_pos h9]) ?_ dX4_square_110
      rw [if_pos h9]
      have hw : Wd D Z s.heap [cO o 3 [.int (nI cp), .int (nI nr), .int (nI nc), .int (nI P.length), .ref b2, .ref b1, .ref b3, .ref b4, .ref b5], cA d b2 3600 ot, cA d b1 3600 g1, cA d b3 3600 g3, cA d b4 60 g4, cA d b5 60 g5] H locs := w_perm hw [0, 2, 1, 3, 4, 5] (by decide) rfl
      exact mo_mk hw.1 hw.2.1 ⟨⟨i1, i2, i3, i4, i5, i6⟩, fun a b ha hb => h5 a b hb (Or.inl ha), hpl, hmo, hxx, hyy, h9⟩
    · have hw : Wd D Z s.heap [cO o 3 [.int (nI cp), .int (nI nr), .int (nI nc), .int (nI P.length), .ref b1, .ref b2, .ref b3, .ref b4, .ref b5], cA d b1 3600 g1, cA d b2 3600 ot, cA d b3 3600 g3, cA d b4 60 g4, cA d b5 60 g5] H locs := hw
      refine mu_iret (Y := fun _ h => MOok D d Z o nr nc cp (if of_ (sqT T nc) nc nr ≤ cp then sqT T nc else T) P x y h) C hw.2.2 () (by rw [if_neg h9]) ?_ dX4_square_110
      rw [if_neg h9]
      exact mo_mk hw.1 hw.2.1 hI
  · exact absurd hsq c1

section MB
variable {p : Program} {l : Launch} {e : Env} {R : Room} {s : State} {m : MethodId} {args : Array Value} {below : List Frame} {meth : Method} {c : Code} {Q : State → Prop}
variable {D : va_G} {d : ClassId} {A : Nat → Prop} {H0 : Heap} {ret : Option FieldType}
set_option maxHeartbeats 4000000 in
set_option maxRecDepth 100000 in
theorem lp_mb2 {o b1 b2 b3 b4 b5 nr nc cp : Nat} {T : Nat → Nat → Int32} {P : List Tr} {g1 g3 g4 g5 : Nat → Int32} {i : Nat} (C : Cx p s m args meth c cX4_build 3 RX4 ret D d) (htb : ∀ a b, a < nr → b < nc → g1 (60 * a + b) = T a b) (hnr : nr ≤ 60) (hnc : nc ≤ 60) (hmo : ∀ a b, a < 60 → b < 60 → g3 (60 * a + b) = ps_ P a b) (hi : i < nr) (K : ∀ (ot : Nat → Int32) (H : Heap) (locs : List Loc) (ls : Array Slot), Fi ot (bdT T P) nc (i + 1) 0 → Wd D A H0 [cO o 3 [.int (nI cp), .int (nI nr), .int (nI nc), .int (nI P.length), .ref b1, .ref b2, .ref b3, .ref b4, .ref b5], cA d b1 3600 g1, cA d b2 3600 ot, cA d b3 3600 g3, cA d b4 60 g4, cA d b5 60 g5] H locs → lv_has ls 3 [(0, .ref o), (1, .int (nI i))] → W p l e rmMs s m args below meth c H locs 0 0 Q (F0 m 60 ls [])) :
    ∀ (n j : Nat) (ot : Nat → Int32) (H : Heap) (locs : List Loc) (ls : Array Slot), j ≤ nc → nc < j + n → Fi ot (bdT T P) nc i j → Wd D A H0 [cO o 3 [.int (nI cp), .int (nI nr), .int (nI nc), .int (nI P.length), .ref b1, .ref b2, .ref b3, .ref b4, .ref b5], cA d b1 3600 g1, cA d b2 3600 ot, cA d b3 3600 g3, cA d b4 60 g4, cA d b5 60 g5] H locs → lv_has ls 3 [(0, .ref o), (1, .int (nI i)), (2, .int (nI j))] → W p l e rmMs s m args below meth c H locs 0 0 Q (F0 m 12 ls []) := by
  obtain ⟨hx, hb, -⟩ := C.1
  intro n
  induction n with
  | zero => intro j ot H locs ls h1 h2; omega
  | succ n ih =>
    intro j ot H locs ls h1 h2 h3 hw hl
    refine lv_iload_n hx hb dX4_build_12 rfl (lv_at hl 2 rfl) ?_
    refine lv_aload_n hx hb dX4_build_13 rfl (lv_at hl 0 rfl) ?_
    refine g_X4_33 C hw 0 rfl rfl dX4_build_14 ?_
    refine w_icmp_ge C (tgt := 60) (by omega) (by omega) dX4_build_17 (by decide) (fun c1 => ?_) (fun c1 => ?_)
    · have hj : j = nc := by omega
      rw [hj] at h3
      exact K ot H locs ls (fi_r h3) hw (lv_sub hl [0, 1] rfl)
    · refine lv_aload_n hx hb dX4_build_20 rfl (lv_at hl 0 rfl) ?_
      refine g_X4_13 C hw 0 rfl rfl dX4_build_21 ?_
      refine lv_bipush (v := nI 60) hx hb dX4_build_24 (by decide) ?_
      refine lv_iload_n hx hb dX4_build_26 rfl (lv_at hl 1 rfl) ?_
      refine w_imul C dX4_build_27 ?_
      refine lv_iload_n hx hb dX4_build_28 rfl (lv_at hl 2 rfl) ?_
      refine w_iadd C dX4_build_29 ?_
      refine lv_aload_n hx hb dX4_build_30 rfl (lv_at hl 0 rfl) ?_
      refine g_X4_7 C hw 0 rfl rfl dX4_build_31 ?_
      refine lv_bipush (v := nI 60) hx hb dX4_build_34 (by decide) ?_
      refine lv_iload_n hx hb dX4_build_36 rfl (lv_at hl 1 rfl) ?_
      refine w_imul C dX4_build_37 ?_
      refine lv_iload_n hx hb dX4_build_38 rfl (lv_at hl 2 rfl) ?_
      refine w_iadd C dX4_build_39 ?_
      refine w_iald C hw 1 rfl (by omega) dX4_build_40 ?_
      refine w_top (y := T i j) (htb i j hi c1) ?_
      refine lv_aload_n hx hb dX4_build_41 rfl (lv_at hl 0 rfl) ?_
      refine g_X4_16 C hw 0 rfl rfl dX4_build_42 ?_
      refine lv_bipush (v := nI 60) hx hb dX4_build_45 (by decide) ?_
      refine lv_iload_n hx hb dX4_build_47 rfl (lv_at hl 1 rfl) ?_
      refine w_imul C dX4_build_48 ?_
      refine lv_iload_n hx hb dX4_build_49 rfl (lv_at hl 2 rfl) ?_
      refine w_iadd C dX4_build_50 ?_
      refine w_iald C hw 3 rfl (by omega) dX4_build_51 ?_
      refine w_top (y := ps_ P i j) (hmo i j (by omega) (by omega)) ?_
      refine lv_iadd hx hb dX4_build_52 ?_
      refine w_iast C hw 2 rfl (by omega) dX4_build_53 (fun H locs hw => ?_)
      have hw : Wd D A H0 [cO o 3 [.int (nI cp), .int (nI nr), .int (nI nc), .int (nI P.length), .ref b1, .ref b2, .ref b3, .ref b4, .ref b5], cA d b1 3600 g1, cA d b2 3600 (upd ot ((60 * i) + j) ((T i j) + (ps_ P i j))), cA d b3 3600 g3, cA d b4 60 g4, cA d b5 60 g5] H locs := hw
      refine lv_iinc (v := nI (j + 1)) (lv' := [(2, .int (nI (j + 1))), (0, .ref o), (1, .int (nI i))]) hx hb dX4_build_54 hl (k := 2) rfl (nI_1 _) (by decide) rfl (fun ls hl => ?_)
      refine lv_goto (tgt := 12) hx hb dX4_build_57 (by decide) ?_
      exact ih (j + 1) _ H locs ls (by omega) (by omega) (fi_s hnc c1 h3 rfl) hw (lv_sub hl [1, 2, 0] rfl)
set_option maxHeartbeats 4000000 in
set_option maxRecDepth 100000 in
theorem lp_mb3 {o b1 b2 b3 b4 b5 nr nc cp : Nat} {T : Nat → Nat → Int32} {P : List Tr} {g1 g3 g4 g5 : Nat → Int32} (C : Cx p s m args meth c cX4_build 3 RX4 ret D d) (htb : ∀ a b, a < nr → b < nc → g1 (60 * a + b) = T a b) (hnr : nr ≤ 60) (hnc : nc ≤ 60) (hmo : ∀ a b, a < 60 → b < 60 → g3 (60 * a + b) = ps_ P a b) (K : ∀ (ot : Nat → Int32) (H : Heap) (locs : List Loc) (ls : Array Slot), Fi ot (bdT T P) nc nr 0 → Wd D A H0 [cO o 3 [.int (nI cp), .int (nI nr), .int (nI nc), .int (nI P.length), .ref b1, .ref b2, .ref b3, .ref b4, .ref b5], cA d b1 3600 g1, cA d b2 3600 ot, cA d b3 3600 g3, cA d b4 60 g4, cA d b5 60 g5] H locs → lv_has ls 3 [(0, .ref o)] → W p l e rmMs s m args below meth c H locs 0 0 Q (F0 m 66 ls [])) :
    ∀ (n i : Nat) (ot : Nat → Int32) (H : Heap) (locs : List Loc) (ls : Array Slot), i ≤ nr → nr < i + n → Fi ot (bdT T P) nc i 0 → Wd D A H0 [cO o 3 [.int (nI cp), .int (nI nr), .int (nI nc), .int (nI P.length), .ref b1, .ref b2, .ref b3, .ref b4, .ref b5], cA d b1 3600 g1, cA d b2 3600 ot, cA d b3 3600 g3, cA d b4 60 g4, cA d b5 60 g5] H locs → lv_has ls 3 [(0, .ref o), (1, .int (nI i))] → W p l e rmMs s m args below meth c H locs 0 0 Q (F0 m 2 ls []) := by
  obtain ⟨hx, hb, -⟩ := C.1
  intro n
  induction n with
  | zero => intro i ot H locs ls h1 h2; omega
  | succ n ih =>
    intro i ot H locs ls h1 h2 h3 hw hl
    refine lv_iload_n hx hb dX4_build_2 rfl (lv_at hl 1 rfl) ?_
    refine lv_aload_n hx hb dX4_build_3 rfl (lv_at hl 0 rfl) ?_
    refine g_X4_29 C hw 0 rfl rfl dX4_build_4 ?_
    refine w_icmp_ge C (tgt := 66) (by omega) (by omega) dX4_build_7 (by decide) (fun c1 => ?_) (fun c1 => ?_)
    · have hi : i = nr := by omega
      rw [hi] at h3
      exact K ot H locs ls h3 hw (lv_sub hl [0] rfl)
    · refine lv_iconst (v := nI 0) hx hb dX4_build_10 (by decide) ?_
      refine lv_istore_n (lv' := [(2, .int (nI 0)), (0, .ref o), (1, .int (nI i))]) hx hb dX4_build_11 rfl hl (by decide) rfl (fun ls hl => ?_)
      refine lp_mb2 C htb hnr hnc hmo c1 (fun ot H locs ls h5 hw hl => ?_) (nc + 1) 0 ot H locs ls (by omega) (by omega) h3 hw (lv_sub hl [1, 2, 0] rfl)
      refine lv_iinc (v := nI (i + 1)) (lv' := [(1, .int (nI (i + 1))), (0, .ref o)]) hx hb dX4_build_60 hl (k := 1) rfl (nI_1 _) (by decide) rfl (fun ls hl => ?_)
      refine lv_goto (tgt := 2) hx hb dX4_build_63 (by decide) ?_
      exact ih (i + 1) ot H locs ls (by omega) (by omega) h5 hw (lv_sub hl [1, 0] rfl)
set_option maxHeartbeats 4000000 in
set_option maxRecDepth 100000 in
theorem lp_mb4 {o b1 b2 b3 b4 b5 nr nc cp : Nat} {T : Nat → Nat → Int32} {P : List Tr} {tt : Nat} {g1 g4 g5 : Nat → Int32} {ot : Nat → Int32} (C : Cx p s m args meth c cX4_build 3 RX4 ret D d) (K : ∀ (mz : Nat → Int32) (H : Heap) (locs : List Loc) (ls : Array Slot), (∀ v, v < 3600 → mz v = 0) → Wd D A H0 [cO o 3 [.int (nI cp), .int (nI nr), .int (nI nc), .int (nI P.length), .ref b2, .ref b1, .ref b3, .ref b4, .ref b5], cA d b1 3600 g1, cA d b2 3600 ot, cA d b3 3600 mz, cA d b4 60 g4, cA d b5 60 g5] H locs → lv_has ls 3 [(0, .ref o), (1, .int (nI tt))] → W p l e rmMs s m args below meth c H locs 0 0 Q (F0 m 100 ls [])) :
    ∀ (n k : Nat) (mz : Nat → Int32) (H : Heap) (locs : List Loc) (ls : Array Slot), k ≤ 3600 → 3600 < k + n → (∀ v, v < k → mz v = 0) → Wd D A H0 [cO o 3 [.int (nI cp), .int (nI nr), .int (nI nc), .int (nI P.length), .ref b2, .ref b1, .ref b3, .ref b4, .ref b5], cA d b1 3600 g1, cA d b2 3600 ot, cA d b3 3600 mz, cA d b4 60 g4, cA d b5 60 g5] H locs → lv_has ls 3 [(0, .ref o), (1, .int (nI tt)), (2, .int (nI k))] → W p l e rmMs s m args below meth c H locs 0 0 Q (F0 m 80 ls []) := by
  obtain ⟨hx, hb, -⟩ := C.1
  intro n
  induction n with
  | zero => intro k mz H locs ls h1 h2; omega
  | succ n ih =>
    intro k mz H locs ls h1 h2 h3 hw hl
    refine lv_iload_n hx hb dX4_build_80 rfl (lv_at hl 2 rfl) ?_
    refine lv_sipush (v := nI 3600) hx hb dX4_build_81 (by decide) ?_
    refine w_icmp_ge C (tgt := 100) (by omega) (by omega) dX4_build_84 (by decide) (fun c1 => ?_) (fun c1 => ?_)
    · have hk : k = 3600 := by omega
      rw [hk] at h3
      exact K mz H locs ls h3 hw (lv_sub hl [0, 1] rfl)
    · refine lv_aload_n hx hb dX4_build_87 rfl (lv_at hl 0 rfl) ?_
      refine g_X4_16 C hw 0 rfl rfl dX4_build_88 ?_
      refine lv_iload_n hx hb dX4_build_91 rfl (lv_at hl 2 rfl) ?_
      refine lv_iconst (v := nI 0) hx hb dX4_build_92 (by decide) ?_
      refine w_iast C hw 3 rfl (by omega) dX4_build_93 (fun H locs hw => ?_)
      have hw : Wd D A H0 [cO o 3 [.int (nI cp), .int (nI nr), .int (nI nc), .int (nI P.length), .ref b2, .ref b1, .ref b3, .ref b4, .ref b5], cA d b1 3600 g1, cA d b2 3600 ot, cA d b3 3600 (upd mz k (nI 0)), cA d b4 60 g4, cA d b5 60 g5] H locs := hw
      refine lv_iinc (v := nI (k + 1)) (lv' := [(2, .int (nI (k + 1))), (0, .ref o), (1, .int (nI tt))]) hx hb dX4_build_94 hl (k := 2) rfl (nI_1 _) (by decide) rfl (fun ls hl => ?_)
      refine lv_goto (tgt := 80) hx hb dX4_build_97 (by decide) ?_
      exact ih (k + 1) _ H locs ls (by omega) (by omega) (al_s nI_0 h3) hw (lv_sub hl [1, 2, 0] rfl)
end MB
set_option maxHeartbeats 4000000 in
set_option maxRecDepth 100000 in
/-- build() -/
theorem met_X4_build (l : Launch) (D : va_G) (d : ClassId) (Z : Nat → Prop) {o : Nat} {nr nc cp : Nat} {T : Nat → Nat → Int32} {P : List Tr} {x y : Nat → Int32}  : Met l yX4_build (ws_ yX4_build cX4_build 3 (some .int)) rmMs (pc_ [.ref o] D d (MOok D d Z o nr nc cp T P x y)) (va_Qi (fun v (_ : Unit) => v = if of_ (bdT T P) nc nr ≤ cp then nI (of_ (bdT T P) nc nr) else -1) (fun (_ : Unit) t9 => MOok D d Z o nr nc cp (if of_ (bdT T P) nc nr ≤ cp then bdT T P else T) (if of_ (bdT T P) nc nr ≤ cp then [] else P) x y t9.heap) (Z)) 0 0 (Z) := by
  refine mt_ofW (own := RX4) rfl (by decide) (Nat.le_of_ble_eq_true rfl) (fun p e s m below meth c C hnm hX ls hl => ?_)
  obtain ⟨hx, hb, -⟩ := C.1
  have hl : lv_has ls 3 [(0, .ref o)] := hl
  obtain ⟨b1, b2, b3, b4, b5, g1, g2, g3, g4, g5, hP, hD, hI⟩ := hX
  obtain ⟨⟨i1, i2, i3, i4, i5, i6⟩, htb, hpl, hmo, hxx, hyy, htot⟩ := id hI
  have hw : Wd D Z s.heap [cO o 3 [.int (nI cp), .int (nI nr), .int (nI nc), .int (nI P.length), .ref b1, .ref b2, .ref b3, .ref b4, .ref b5], cA d b1 3600 g1, cA d b2 3600 g2, cA d b3 3600 g3, cA d b4 60 g4, cA d b5 60 g5] s.heap [] := ⟨hP, hD, va_S.rf⟩
  have hbd := of_3600 (T := bdT T P) i2 i4
  refine lv_iconst (v := nI 0) hx hb dX4_build_0 (by decide) ?_
  refine lv_istore_n (lv' := [(1, .int (nI 0)), (0, .ref o)]) hx hb dX4_build_1 rfl hl (by decide) rfl (fun ls hl => ?_)
  refine lp_mb3 C htb i2 i4 hmo (fun ot H locs ls h5 hw hl => ?_) (nr + 1) 0 g2 _ _ ls (by omega) (by omega) fi_0 hw (lv_sub hl [1, 0] rfl)
  refine lv_aload_n hx hb dX4_build_66 rfl (lv_at hl 0 rfl) ?_
  refine c_wVi (As := []) (rest := []) C hw [0, 2] (met_becomes l D d (T := (bdT T P)) (fun a b ha hb => h5 a b hb (Or.inl ha)) i2 i4 i6) (by decide) rfl (fun _ => rfl) (cwV 0 C.1.2.2.2.2 (lw_V q251 q253 qs4 q12 q254) rfl rfl rfl (by decide +kernel) ⟨Nat.le_of_ble_eq_true rfl, Nat.le_of_ble_eq_true rfl⟩) (va_recv C.2.1.1 hw.1 (ci := 3) (q0 := 0) rfl rfl) rfl hl.1 rfl (Nat.le_of_ble_eq_true rfl) dX4_build_67 ⟨Nat.le_of_ble_eq_true rfl, Nat.le_of_ble_eq_true rfl⟩ (fun r u H locs hbe hw => ?_)
  have hw : Wd D Z s.heap [cO o 3 [.int (nI cp), .int (nI nr), .int (nI nc), .int (nI P.length), .ref u.1, .ref u.2, .ref b3, .ref b4, .ref b5], cA d b1 3600 g1, cA d b2 3600 ot, cA d b3 3600 g3, cA d b4 60 g4, cA d b5 60 g5] H locs := hw
  rcases hbe with ⟨h9, rfl, rfl⟩ | ⟨h9, rfl, rfl⟩
  · have hw : Wd D Z s.heap [cO o 3 [.int (nI cp), .int (nI nr), .int (nI nc), .int (nI P.length), .ref b2, .ref b1, .ref b3, .ref b4, .ref b5], cA d b1 3600 g1, cA d b2 3600 ot, cA d b3 3600 g3, cA d b4 60 g4, cA d b5 60 g5] H locs := hw
    refine lv_istore_n (lv' := [(1, .int (nI (of_ (bdT T P) nc nr))), (0, .ref o)]) hx hb dX4_build_70 rfl hl (by decide) rfl (fun ls hl => ?_)
    refine lv_iload_n hx hb dX4_build_71 rfl (lv_at hl 0 rfl) ?_
    refine lv_iconst (v := (-1)) hx hb dX4_build_72 (by decide) ?_
    refine lv_icmp_ne (tgt := 78) hx hb dX4_build_73 (by decide) (fun c1 => ?_) (fun c1 => ?_)
    · refine lv_iconst (v := nI 0) hx hb dX4_build_78 (by decide) ?_
      refine lv_istore_n (lv' := [(2, .int (nI 0)), (1, .int (nI (of_ (bdT T P) nc nr))), (0, .ref o)]) hx hb dX4_build_79 rfl hl (by decide) rfl (fun ls hl => ?_)
      refine lp_mb4 (T := T) (P := P) C (fun mz H locs ls h10 hw hl => ?_) 3601 0 g3 H locs ls (by omega) (by omega) (fun v hv => by omega) hw (lv_sub hl [2, 1, 0] rfl)
      refine lv_aload_n hx hb dX4_build_100 rfl (lv_at hl 0 rfl) ?_
      refine lv_iconst (v := nI 0) hx hb dX4_build_101 (by decide) ?_
      refine p_X4_47 C hw 0 rfl (Nat.le_of_ble_eq_true rfl) dX4_build_102 (fun H locs hw => ?_)
      have hw : Wd D Z s.heap [cO o 3 [.int (nI cp), .int (nI nr), .int (nI nc), .int (nI 0), .ref b2, .ref b1, .ref b3, .ref b4, .ref b5], cA d b1 3600 g1, cA d b2 3600 ot, cA d b3 3600 mz, cA d b4 60 g4, cA d b5 60 g5] H locs := hw
      refine lv_iload_n hx hb dX4_build_105 rfl (lv_at hl 1 rfl) ?_
      refine mu_iret (Y := fun _ h => MOok D d Z o nr nc cp (if of_ (bdT T P) nc nr ≤ cp then bdT T P else T) (if of_ (bdT T P) nc nr ≤ cp then [] else P) x y h) C hw.2.2 () (by rw [if_pos h9]) ?_ dX4_build_106
      rw [if_pos h9, if_pos h9]
      have hw : Wd D Z s.heap [cO o 3 [.int (nI cp), .int (nI nr), .int (nI nc), .int (nI 0), .ref b2, .ref b1, .ref b3, .ref b4, .ref b5], cA d b2 3600 ot, cA d b1 3600 g1, cA d b3 3600 mz, cA d b4 60 g4, cA d b5 60 g5] H locs := w_perm hw [0, 2, 1, 3, 4, 5] (by decide) rfl
      exact mo_mk (P := []) hw.1 hw.2.1 ⟨⟨i1, i2, i3, i4, i5, i6⟩, fun a b ha hb => h5 a b hb (Or.inl ha), Nat.zero_le _, fun a b ha hb => h10 _ (by omega), hxx, hyy, h9⟩
    · exact absurd c1 (fun z => nI_pos (n := of_ (bdT T P) nc nr) (by omega) (by rw [z]; decide))
  · have hw : Wd D Z s.heap [cO o 3 [.int (nI cp), .int (nI nr), .int (nI nc), .int (nI P.length), .ref b1, .ref b2, .ref b3, .ref b4, .ref b5], cA d b1 3600 g1, cA d b2 3600 ot, cA d b3 3600 g3, cA d b4 60 g4, cA d b5 60 g5] H locs := hw
    refine lv_istore_n (lv' := [(1, .int (-1)), (0, .ref o)]) hx hb dX4_build_70 rfl hl (by decide) rfl (fun ls hl => ?_)
    refine lv_iload_n hx hb dX4_build_71 rfl (lv_at hl 0 rfl) ?_
    refine lv_iconst (v := (-1)) hx hb dX4_build_72 (by decide) ?_
    refine lv_icmp_ne (tgt := 78) hx hb dX4_build_73 (by decide) (fun c1 => ?_) (fun c1 => ?_)
    · exact absurd rfl c1
    · refine lv_iconst (v := (-1)) hx hb dX4_build_76 (by decide) ?_
      refine mu_iret (Y := fun _ h => MOok D d Z o nr nc cp (if of_ (bdT T P) nc nr ≤ cp then bdT T P else T) (if of_ (bdT T P) nc nr ≤ cp then [] else P) x y h) C hw.2.2 () (by rw [if_neg h9]) ?_ dX4_build_77
      rw [if_neg h9, if_neg h9]
      exact mo_mk hw.1 hw.2.1 hI

section MT
variable {p : Program} {l : Launch} {e : Env} {R : Room} {s : State} {m : MethodId} {args : Array Value} {below : List Frame} {meth : Method} {c : Code} {Q : State → Prop}
variable {D : va_G} {d : ClassId} {A : Nat → Prop} {H0 : Heap} {ret : Option FieldType}
set_option maxHeartbeats 4000000 in
set_option maxRecDepth 100000 in
theorem lp_mt2 {o b1 b2 b3 b4 b5 nr nc cp : Nat} {T : Nat → Nat → Int32} {P : List Tr} {g1 g3 g4 g5 : Nat → Int32} {i : Nat} (C : Cx p s m args meth c cX4_transpose 3 RX4 ret D d) (htb : ∀ a b, a < nr → b < nc → g1 (60 * a + b) = T a b) (hnr : nr ≤ 60) (hnc : nc ≤ 60) (hi : i < nr) (K : ∀ (ot : Nat → Int32) (H : Heap) (locs : List Loc) (ls : Array Slot), Ft ot T nc (i + 1) 0 → Wd D A H0 [cO o 3 [.int (nI cp), .int (nI nr), .int (nI nc), .int (nI P.length), .ref b1, .ref b2, .ref b3, .ref b4, .ref b5], cA d b1 3600 g1, cA d b2 3600 ot, cA d b3 3600 g3, cA d b4 60 g4, cA d b5 60 g5] H locs → lv_has ls 3 [(0, .ref o), (1, .int (nI i))] → W p l e rmMs s m args below meth c H locs 0 0 Q (F0 m 57 ls [])) :
    ∀ (n j : Nat) (ot : Nat → Int32) (H : Heap) (locs : List Loc) (ls : Array Slot), j ≤ nc → nc < j + n → Ft ot T nc i j → Wd D A H0 [cO o 3 [.int (nI cp), .int (nI nr), .int (nI nc), .int (nI P.length), .ref b1, .ref b2, .ref b3, .ref b4, .ref b5], cA d b1 3600 g1, cA d b2 3600 ot, cA d b3 3600 g3, cA d b4 60 g4, cA d b5 60 g5] H locs → lv_has ls 3 [(0, .ref o), (1, .int (nI i)), (2, .int (nI j))] → W p l e rmMs s m args below meth c H locs 0 0 Q (F0 m 21 ls []) := by
  obtain ⟨hx, hb, -⟩ := C.1
  intro n
  induction n with
  | zero => intro j ot H locs ls h1 h2; omega
  | succ n ih =>
    intro j ot H locs ls h1 h2 h3 hw hl
    refine lv_iload_n hx hb dX4_transpose_21 rfl (lv_at hl 2 rfl) ?_
    refine lv_aload_n hx hb dX4_transpose_22 rfl (lv_at hl 0 rfl) ?_
    refine g_X4_33 C hw 0 rfl rfl dX4_transpose_23 ?_
    refine w_icmp_ge C (tgt := 57) (by omega) (by omega) dX4_transpose_26 (by decide) (fun c1 => ?_) (fun c1 => ?_)
    · have hj : j = nc := by omega
      rw [hj] at h3
      exact K ot H locs ls (ft_r h3) hw (lv_sub hl [0, 1] rfl)
    · refine lv_aload_n hx hb dX4_transpose_29 rfl (lv_at hl 0 rfl) ?_
      refine g_X4_13 C hw 0 rfl rfl dX4_transpose_30 ?_
      refine lv_bipush (v := nI 60) hx hb dX4_transpose_33 (by decide) ?_
      refine lv_iload_n hx hb dX4_transpose_35 rfl (lv_at hl 2 rfl) ?_
      refine w_imul C dX4_transpose_36 ?_
      refine lv_iload_n hx hb dX4_transpose_37 rfl (lv_at hl 1 rfl) ?_
      refine w_iadd C dX4_transpose_38 ?_
      refine lv_aload_n hx hb dX4_transpose_39 rfl (lv_at hl 0 rfl) ?_
      refine g_X4_7 C hw 0 rfl rfl dX4_transpose_40 ?_
      refine lv_bipush (v := nI 60) hx hb dX4_transpose_43 (by decide) ?_
      refine lv_iload_n hx hb dX4_transpose_45 rfl (lv_at hl 1 rfl) ?_
      refine w_imul C dX4_transpose_46 ?_
      refine lv_iload_n hx hb dX4_transpose_47 rfl (lv_at hl 2 rfl) ?_
      refine w_iadd C dX4_transpose_48 ?_
      refine w_iald C hw 1 rfl (by omega) dX4_transpose_49 ?_
      refine w_top (y := T i j) (htb i j hi c1) ?_
      refine w_iast C hw 2 rfl (by omega) dX4_transpose_50 (fun H locs hw => ?_)
      have hw : Wd D A H0 [cO o 3 [.int (nI cp), .int (nI nr), .int (nI nc), .int (nI P.length), .ref b1, .ref b2, .ref b3, .ref b4, .ref b5], cA d b1 3600 g1, cA d b2 3600 (upd ot ((60 * j) + i) (T i j)), cA d b3 3600 g3, cA d b4 60 g4, cA d b5 60 g5] H locs := hw
      refine lv_iinc (v := nI (j + 1)) (lv' := [(2, .int (nI (j + 1))), (0, .ref o), (1, .int (nI i))]) hx hb dX4_transpose_51 hl (k := 2) rfl (nI_1 _) (by decide) rfl (fun ls hl => ?_)
      refine lv_goto (tgt := 21) hx hb dX4_transpose_54 (by decide) ?_
      exact ih (j + 1) _ H locs ls (by omega) (by omega) (ft_s (by omega) c1 h3 rfl) hw (lv_sub hl [1, 2, 0] rfl)
set_option maxHeartbeats 4000000 in
set_option maxRecDepth 100000 in
theorem lp_mt3 {o b1 b2 b3 b4 b5 nr nc cp : Nat} {T : Nat → Nat → Int32} {P : List Tr} {g1 g3 g4 g5 : Nat → Int32} (C : Cx p s m args meth c cX4_transpose 3 RX4 ret D d) (htb : ∀ a b, a < nr → b < nc → g1 (60 * a + b) = T a b) (hnr : nr ≤ 60) (hnc : nc ≤ 60) (K : ∀ (ot : Nat → Int32) (H : Heap) (locs : List Loc) (ls : Array Slot), Ft ot T nc nr 0 → Wd D A H0 [cO o 3 [.int (nI cp), .int (nI nr), .int (nI nc), .int (nI P.length), .ref b1, .ref b2, .ref b3, .ref b4, .ref b5], cA d b1 3600 g1, cA d b2 3600 ot, cA d b3 3600 g3, cA d b4 60 g4, cA d b5 60 g5] H locs → lv_has ls 3 [(0, .ref o)] → W p l e rmMs s m args below meth c H locs 0 0 Q (F0 m 63 ls [])) :
    ∀ (n i : Nat) (ot : Nat → Int32) (H : Heap) (locs : List Loc) (ls : Array Slot), i ≤ nr → nr < i + n → Ft ot T nc i 0 → Wd D A H0 [cO o 3 [.int (nI cp), .int (nI nr), .int (nI nc), .int (nI P.length), .ref b1, .ref b2, .ref b3, .ref b4, .ref b5], cA d b1 3600 g1, cA d b2 3600 ot, cA d b3 3600 g3, cA d b4 60 g4, cA d b5 60 g5] H locs → lv_has ls 3 [(0, .ref o), (1, .int (nI i))] → W p l e rmMs s m args below meth c H locs 0 0 Q (F0 m 11 ls []) := by
  obtain ⟨hx, hb, -⟩ := C.1
  intro n
  induction n with
  | zero => intro i ot H locs ls h1 h2; omega
  | succ n ih =>
    intro i ot H locs ls h1 h2 h3 hw hl
    refine lv_iload_n hx hb dX4_transpose_11 rfl (lv_at hl 1 rfl) ?_
    refine lv_aload_n hx hb dX4_transpose_12 rfl (lv_at hl 0 rfl) ?_
    refine g_X4_29 C hw 0 rfl rfl dX4_transpose_13 ?_
    refine w_icmp_ge C (tgt := 63) (by omega) (by omega) dX4_transpose_16 (by decide) (fun c1 => ?_) (fun c1 => ?_)
    · have hi : i = nr := by omega
      rw [hi] at h3
      exact K ot H locs ls h3 hw (lv_sub hl [0] rfl)
    · refine lv_iconst (v := nI 0) hx hb dX4_transpose_19 (by decide) ?_
      refine lv_istore_n (lv' := [(2, .int (nI 0)), (0, .ref o), (1, .int (nI i))]) hx hb dX4_transpose_20 rfl hl (by decide) rfl (fun ls hl => ?_)
      refine lp_mt2 (P := P) C htb hnr hnc c1 (fun ot H locs ls h5 hw hl => ?_) (nc + 1) 0 ot H locs ls (by omega) (by omega) h3 hw (lv_sub hl [1, 2, 0] rfl)
      refine lv_iinc (v := nI (i + 1)) (lv' := [(1, .int (nI (i + 1))), (0, .ref o)]) hx hb dX4_transpose_57 hl (k := 1) rfl (nI_1 _) (by decide) rfl (fun ls hl => ?_)
      refine lv_goto (tgt := 11) hx hb dX4_transpose_60 (by decide) ?_
      exact ih (i + 1) ot H locs ls (by omega) (by omega) h5 hw (lv_sub hl [1, 0] rfl)
set_option maxHeartbeats 4000000 in
set_option maxRecDepth 100000 in
theorem lp_mt4 {o b1 b2 b3 b4 b5 nr nc cp : Nat} {T : Nat → Nat → Int32} {P : List Tr} {g1 g3 : Nat → Int32} {ot : Nat → Int32} (C : Cx p s m args meth c cX4_transpose 3 RX4 ret D d) (K : ∀ (xv yv : Nat → Int32) (H : Heap) (locs : List Loc) (ls : Array Slot), (∀ v, v < 60 → xv v = 0) → (∀ v, v < 60 → yv v = 0) → Wd D A H0 [cO o 3 [.int (nI cp), .int (nI nc), .int (nI nr), .int (nI P.length), .ref b2, .ref b1, .ref b3, .ref b4, .ref b5], cA d b1 3600 g1, cA d b2 3600 ot, cA d b3 3600 g3, cA d b4 60 xv, cA d b5 60 yv] H locs → W p l e rmMs s m args below meth c H locs 0 0 Q (F0 m 113 ls [])) :
    ∀ (n k : Nat) (xv yv : Nat → Int32) (H : Heap) (locs : List Loc) (ls : Array Slot), k ≤ 60 → 60 < k + n → (∀ v, v < k → xv v = 0) → (∀ v, v < k → yv v = 0) → Wd D A H0 [cO o 3 [.int (nI cp), .int (nI nc), .int (nI nr), .int (nI P.length), .ref b2, .ref b1, .ref b3, .ref b4, .ref b5], cA d b1 3600 g1, cA d b2 3600 ot, cA d b3 3600 g3, cA d b4 60 xv, cA d b5 60 yv] H locs → lv_has ls 3 [(0, .ref o), (2, .int (nI k))] → W p l e rmMs s m args below meth c H locs 0 0 Q (F0 m 87 ls []) := by
  obtain ⟨hx, hb, -⟩ := C.1
  intro n
  induction n with
  | zero => intro k xv yv H locs ls h1 h2; omega
  | succ n ih =>
    intro k xv yv H locs ls h1 h2 h3 h4 hw hl
    refine lv_iload_n hx hb dX4_transpose_87 rfl (lv_at hl 1 rfl) ?_
    refine lv_bipush (v := nI 60) hx hb dX4_transpose_88 (by decide) ?_
    refine w_icmp_ge C (tgt := 113) (by omega) (by omega) dX4_transpose_90 (by decide) (fun c1 => ?_) (fun c1 => ?_)
    · have hk : k = 60 := by omega
      rw [hk] at h3 h4
      exact K xv yv H locs ls h3 h4 hw
    · refine lv_aload_n hx hb dX4_transpose_93 rfl (lv_at hl 0 rfl) ?_
      refine g_X4_19 C hw 0 rfl rfl dX4_transpose_94 ?_
      refine lv_iload_n hx hb dX4_transpose_97 rfl (lv_at hl 1 rfl) ?_
      refine lv_iconst (v := nI 0) hx hb dX4_transpose_98 (by decide) ?_
      refine w_iast C hw 4 rfl (by omega) dX4_transpose_99 (fun H locs hw => ?_)
      have hw : Wd D A H0 [cO o 3 [.int (nI cp), .int (nI nc), .int (nI nr), .int (nI P.length), .ref b2, .ref b1, .ref b3, .ref b4, .ref b5], cA d b1 3600 g1, cA d b2 3600 ot, cA d b3 3600 g3, cA d b4 60 (upd xv k (nI 0)), cA d b5 60 yv] H locs := hw
      refine lv_aload_n hx hb dX4_transpose_100 rfl (lv_at hl 0 rfl) ?_
      refine g_X4_22 C hw 0 rfl rfl dX4_transpose_101 ?_
      refine lv_iload_n hx hb dX4_transpose_104 rfl (lv_at hl 1 rfl) ?_
      refine lv_iconst (v := nI 0) hx hb dX4_transpose_105 (by decide) ?_
      refine w_iast C hw 5 rfl (by omega) dX4_transpose_106 (fun H locs hw => ?_)
      have hw : Wd D A H0 [cO o 3 [.int (nI cp), .int (nI nc), .int (nI nr), .int (nI P.length), .ref b2, .ref b1, .ref b3, .ref b4, .ref b5], cA d b1 3600 g1, cA d b2 3600 ot, cA d b3 3600 g3, cA d b4 60 (upd xv k (nI 0)), cA d b5 60 (upd yv k (nI 0))] H locs := hw
      refine lv_iinc (v := nI (k + 1)) (lv' := [(2, .int (nI (k + 1))), (0, .ref o)]) hx hb dX4_transpose_107 hl (k := 1) rfl (nI_1 _) (by decide) rfl (fun ls hl => ?_)
      refine lv_goto (tgt := 87) hx hb dX4_transpose_110 (by decide) ?_
      exact ih (k + 1) _ _ H locs ls (by omega) (by omega) (al_s nI_0 h3) (al_s nI_0 h4) hw (lv_sub hl [1, 0] rfl)
end MT
set_option maxHeartbeats 4000000 in
set_option maxRecDepth 100000 in
/-- transpose() with something pending -/
theorem met_X4_transpose_no (l : Launch) (D : va_G) (d : ClassId) (Z : Nat → Prop) {o : Nat} {nr nc cp : Nat} {T : Nat → Nat → Int32} {P : List Tr} {x y : Nat → Int32} (hp : 0 < P.length) : Met l yX4_transpose (ws_ yX4_transpose cX4_transpose 3 (some .boolean)) rmMs (pc_ [.ref o] D d (MOok D d Z o nr nc cp T P x y)) (vp_Si (fun v => v = 0)) 0 0 (fun _ => False) := by
  refine mt_ofW (own := RX4) rfl (by decide) (Nat.le_of_ble_eq_true rfl) (fun p e s m below meth c C hnm hX ls hl => ?_)
  obtain ⟨hx, hb, -⟩ := C.1
  have hl : lv_has ls 3 [(0, .ref o)] := hl
  obtain ⟨b1, b2, b3, b4, b5, g1, g2, g3, g4, g5, hP, hD, hI⟩ := hX
  obtain ⟨⟨i1, i2, i3, i4, i5, i6⟩, htb, hpl, hmo, hxx, hyy, htot⟩ := id hI
  have hw : Wd D Z s.heap [cO o 3 [.int (nI cp), .int (nI nr), .int (nI nc), .int (nI P.length), .ref b1, .ref b2, .ref b3, .ref b4, .ref b5], cA d b1 3600 g1, cA d b2 3600 g2, cA d b3 3600 g3, cA d b4 60 g4, cA d b5 60 g5] s.heap [] := ⟨hP, hD, va_S.rf⟩
  refine lv_aload_n hx hb dX4_transpose_0 rfl (lv_at hl 0 rfl) ?_
  refine g_X4_47 C hw 0 rfl rfl dX4_transpose_1 ?_
  refine lv_if_le (tgt := 9) hx hb dX4_transpose_4 (by decide) (fun c1 => ?_) (fun c1 => ?_)
  · exact absurd c1 (nI_nle hp (by omega))
  · refine lv_iconst (v := nI 0) hx hb dX4_transpose_7 (by decide) ?_
    exact rd_zret (v := nI 0) C rfl nI_0 dX4_transpose_8

set_option maxHeartbeats 4000000 in
set_option maxRecDepth 100000 in
/-- transpose() -/
theorem met_X4_transpose_yes (l : Launch) (D : va_G) (d : ClassId) (Z : Nat → Prop) {o : Nat} {nr nc cp : Nat} {T : Nat → Nat → Int32} {P : List Tr} {x y : Nat → Int32} (hp : P = []) : Met l yX4_transpose (ws_ yX4_transpose cX4_transpose 3 (some .boolean)) rmMs (pc_ [.ref o] D d (MOok D d Z o nr nc cp T P x y)) (va_Qi (fun v (_ : Unit) => v = 1) (fun (_ : Unit) t9 => MOok D d Z o nc nr cp (tt_ T) P (fun _ => 0) (fun _ => 0) t9.heap) (Z)) 0 0 (Z) := by
  refine mt_ofW (own := RX4) rfl (by decide) (Nat.le_of_ble_eq_true rfl) (fun p e s m below meth c C hnm hX ls hl => ?_)
  obtain ⟨hx, hb, -⟩ := C.1
  have hl : lv_has ls 3 [(0, .ref o)] := hl
  obtain ⟨b1, b2, b3, b4, b5, g1, g2, g3, g4, g5, hP, hD, hI⟩ := hX
  obtain ⟨⟨i1, i2, i3, i4, i5, i6⟩, htb, hpl, hmo, hxx, hyy, htot⟩ := id hI
  have hw : Wd D Z s.heap [cO o 3 [.int (nI cp), .int (nI nr), .int (nI nc), .int (nI P.length), .ref b1, .ref b2, .ref b3, .ref b4, .ref b5], cA d b1 3600 g1, cA d b2 3600 g2, cA d b3 3600 g3, cA d b4 60 g4, cA d b5 60 g5] s.heap [] := ⟨hP, hD, va_S.rf⟩
  have hp0 : P.length = 0 := by rw [hp]; rfl
  refine lv_aload_n hx hb dX4_transpose_0 rfl (lv_at hl 0 rfl) ?_
  refine g_X4_47 C hw 0 rfl rfl dX4_transpose_1 ?_
  refine lv_if_le (tgt := 9) hx hb dX4_transpose_4 (by decide) (fun c1 => ?_) (fun c1 => ?_)
  · refine lv_iconst (v := nI 0) hx hb dX4_transpose_9 (by decide) ?_
    refine lv_istore_n (lv' := [(1, .int (nI 0)), (0, .ref o)]) hx hb dX4_transpose_10 rfl hl (by decide) rfl (fun ls hl => ?_)
    refine lp_mt3 (P := P) C htb i2 i4 (fun ot H locs ls h5 hw hl => ?_) (nr + 1) 0 g2 _ _ ls (by omega) (by omega) ft_0 hw (lv_sub hl [1, 0] rfl)
    refine lv_aload_n hx hb dX4_transpose_63 rfl (lv_at hl 0 rfl) ?_
    refine c_wVv (As := []) (rest := []) C hw [0] (met_X4_turns l D d) (by decide) rfl (fun _ => rfl) (cwV 0 C.1.2.2.2.2 (lw_V q259 q261 qs6 q12 q262) rfl rfl rfl (by decide +kernel) ⟨Nat.le_of_ble_eq_true rfl, Nat.le_of_ble_eq_true rfl⟩) (va_recv C.2.1.1 hw.1 (ci := 3) (q0 := 0) rfl rfl) rfl hl.1 rfl (Nat.le_of_ble_eq_true rfl) dX4_transpose_64 ⟨Nat.le_of_ble_eq_true rfl, Nat.le_of_ble_eq_true rfl⟩ (fun u H locs _ hw => ?_)
    have hw : Wd D Z s.heap [cO o 3 [.int (nI cp), .int (nI nr), .int (nI nc), .int (nI P.length), .ref b2, .ref b1, .ref b3, .ref b4, .ref b5], cA d b1 3600 g1, cA d b2 3600 ot, cA d b3 3600 g3, cA d b4 60 g4, cA d b5 60 g5] H locs := hw
    refine lv_aload_n hx hb dX4_transpose_67 rfl (lv_at hl 0 rfl) ?_
    refine g_X4_29 C hw 0 rfl rfl dX4_transpose_68 ?_
    refine lv_istore_n (lv' := [(1, .int (nI nr)), (0, .ref o)]) hx hb dX4_transpose_71 rfl hl (by decide) rfl (fun ls hl => ?_)
    refine lv_aload_n hx hb dX4_transpose_72 rfl (lv_at hl 1 rfl) ?_
    refine lv_aload_n hx hb dX4_transpose_73 rfl (lv_at hl 1 rfl) ?_
    refine g_X4_33 C hw 0 rfl rfl dX4_transpose_74 ?_
    refine p_X4_29 C hw 0 rfl (Nat.le_of_ble_eq_true rfl) dX4_transpose_77 (fun H locs hw => ?_)
    have hw : Wd D Z s.heap [cO o 3 [.int (nI cp), .int (nI nc), .int (nI nc), .int (nI P.length), .ref b2, .ref b1, .ref b3, .ref b4, .ref b5], cA d b1 3600 g1, cA d b2 3600 ot, cA d b3 3600 g3, cA d b4 60 g4, cA d b5 60 g5] H locs := hw
    refine lv_aload_n hx hb dX4_transpose_80 rfl (lv_at hl 1 rfl) ?_
    refine lv_iload_n hx hb dX4_transpose_81 rfl (lv_at hl 0 rfl) ?_
    refine p_X4_33 C hw 0 rfl (Nat.le_of_ble_eq_true rfl) dX4_transpose_82 (fun H locs hw => ?_)
    have hw : Wd D Z s.heap [cO o 3 [.int (nI cp), .int (nI nc), .int (nI nr), .int (nI P.length), .ref b2, .ref b1, .ref b3, .ref b4, .ref b5], cA d b1 3600 g1, cA d b2 3600 ot, cA d b3 3600 g3, cA d b4 60 g4, cA d b5 60 g5] H locs := hw
    refine lv_iconst (v := nI 0) hx hb dX4_transpose_85 (by decide) ?_
    refine lv_istore_n (lv' := [(2, .int (nI 0)), (1, .int (nI nr)), (0, .ref o)]) hx hb dX4_transpose_86 rfl hl (by decide) rfl (fun ls hl => ?_)
    refine lp_mt4 (T := T) (P := P) C (fun xv yv H locs ls h6 h7 hw => ?_) 61 0 g4 g5 H locs ls (by omega) (by omega) (fun v hv => by omega) (fun v hv => by omega) hw (lv_sub hl [2, 0] rfl)
    refine lv_iconst (v := nI 1) hx hb dX4_transpose_113 (by decide) ?_
    refine mu_zret (v := nI 1) (Y := fun _ h => MOok D d Z o nc nr cp (tt_ T) P (fun _ => 0) (fun _ => 0) h) C hw.2.2 rfl () rfl ?_ dX4_transpose_114
    have hw : Wd D Z s.heap [cO o 3 [.int (nI cp), .int (nI nc), .int (nI nr), .int (nI P.length), .ref b2, .ref b1, .ref b3, .ref b4, .ref b5], cA d b2 3600 ot, cA d b1 3600 g1, cA d b3 3600 g3, cA d b4 60 xv, cA d b5 60 yv] H locs := w_perm hw [0, 2, 1, 3, 4, 5] (by decide) rfl
    exact mo_mk hw.1 hw.2.1 ⟨⟨i3, i4, i1, i2, i5, i6⟩, fun a b ha hb => h5 b a ha (Or.inl hb), hpl, hmo, h6, h7, by rw [tu_cnt]; exact htot⟩
  · exact absurd (by rw [hp0]; decide) c1
end
section
/-! constructors: rows that make cells, Math.min and max, Matrix(), Heap(), RowSparse(..), RowSparseModel(..) (walks printed by gen/ctor.py) -/
set_option maxRecDepth 100000
section MK
variable {p : Program} {l : Launch} {e : Env} {R : Room} {s : State} {m : MethodId} {args : Array Value} {below : List Frame} {meth : Method} {c : Code} {H : Heap} {locs : List Loc} {cells slots : Nat} {Q : State → Prop}
variable {cc : ByteArray} {pc : Nat} {ls : Array Slot} {rest : List Value} {D : va_G} {d : ClassId} {A : Nat → Prop} {a : Nat} {ws : va_W} {H0 : Heap} {nL : Nat} {own : String} {ret : Option FieldType}
theorem ra_int {s : State} {cB : ClassId} (h1 : va_K D vwCl [(d, .int)] s) (h2 : va_K D vwCl ([(d, .int)] ++ [(cB, .int)]) s) : cB = d := by
  have e1 : s.vm.findClass ("[" ++ FieldType.int.toString) = some d := (h1.2 0 _ rfl).2
  have e2 : s.vm.findClass ("[" ++ FieldType.int.toString) = some cB := (h2.2 1 _ rfl).2
  exact Option.some.inj (e2.symm.trans e1)
theorem w_newa (C : Cx p s m args meth c cc nL own ret D d) (hw : Wd D A H0 ws H locs) (hA : ∀ q, H0.size ≤ q → A q) {N : Nat} (hcells : cells + 1 ≤ R.cells) (hslots : slots + N ≤ R.slots) (hN : N < 2 ^ 31) (hby : N * componentBytes .int ≤ 536870912) (hdg : decode cc pc = .ok (.newarray .int, 2))
    (kk : ∀ (q : Nat) (H1 : Heap), Wd D A H0 (ws ++ [cA d q N (fun _ => 0)]) H1 locs → W p l e R s m args below meth c H1 locs (cells + 1) (slots + N) Q (F0 m (pc + 2) ls (.ref q :: rest))) : W p l e R s m args below meth c H locs cells slots Q (F0 m pc ls (.int (nI N) :: rest)) := by
  refine va_newa (atype := .int) (ty := .int) (a0 := (N, .inl (fun _ => 0))) C.1.1 C.1.2.1 (C.1.2.2.2.2 _ q48) rfl C.2.1.1 hw.1 hw.2.1 hw.2.2 hA (fun _ => rfl) (nI_pos hN) (nI_clamp hN) hby hcells hslots hdg (fun q cB H1 hK hP hD hS => ?_)
  have e := ra_int C.2.1.1 hK
  subst e
  exact kk q H1 ⟨hP, hD, hS⟩
theorem w_new (C : Cx p s m args meth c cc nL own ret D d) (hw : Wd D A H0 ws H locs) (hA : ∀ q, H0.size ≤ q → A q) {ci : Nat} {Cn : String} {T : u_T} {N : Nat} (hin : ∀ w ∈ u_ws Cn T N, w ∈ lw_all) (ty : Nat → FieldType) (hty : ∀ k, k < N → parseFieldDescriptor (T k).2.2.1 = some (ty k)) {index : Nat} (hcl : Cond.classLink own index Cn ∈ lw_all) (hinst : Cond.instantiable Cn N ∈ lw_all) (hini : Cond.initialized Cn ∈ lw_all) (hc : vwCl[ci]? = some (Cn, T, N)) {fs : List Value} (hfs : ∀ j, j < N → defaultValue (ty j) = vp_V fs j) (hcells : cells + 1 ≤ R.cells) (hslots : slots + N ≤ R.slots) (hdg : decode cc pc = .ok (.new index, 3))
    (kk : ∀ (q : Nat) (H1 : Heap), Wd D A H0 (ws ++ [cO q ci fs]) H1 locs → W p l e R s m args below meth c H1 locs (cells + 1) (slots + N) Q (F0 m (pc + 3) ls (.ref q :: rest))) : W p l e R s m args below meth c H locs cells slots Q (F0 m pc ls rest) :=
  va_new C.1.1 C.1.2.1 C.1.2.2.2.2 hin ty hty C.1.2.2.2.1 (C.1.2.2.2.2 _ hcl) (C.1.2.2.2.2 _ hinst) (C.1.2.2.2.2 _ hini) C.2.1.1 hw.1 hw.2.1 hw.2.2 hA hc hfs hcells hslots hdg (fun q H1 hP hD hS => kk q H1 ⟨hP, hD, hS⟩)
theorem w_putF (C : Cx p s m args meth c cc nL own ret D d) (hnm : meth.name = "<init>") (hw : Wd D A H0 ws H locs) (q0 : Nat) {ci : Nat} {fs : List Value} (he : ws[q0]? = some (a, .inr (ci, fs))) {Cn : String} {T : u_T} {N : Nat} (hin : ∀ w ∈ u_ws Cn T N, w ∈ lw_all) (ty0 : Nat → FieldType) (hty : ∀ k, k < N → parseFieldDescriptor (T k).2.2.1 = some (ty0 k)) (hn2 : ∀ a, a < N → ∀ b, b < N → a ≠ b → (T a).2.1 ≠ (T b).2.1) (hc : vwCl[ci]? = some (Cn, T, N)) (k : Nat) (hk : k < N) {index : Nat} (hlink : (Cond.fieldLink own index (T k).1 (T k).2.1 (T k).2.2.1) ∈ lw_all) (hfin : (T k).2.2.2 = true) (hdecl : (T k).1 = own) {v : Value} (hn : narrow (ty0 k) v = v) (hfit : fits (ty0 k) v = true) (hl : k < fs.length) (hdg : decode cc pc = .ok (.putfield index, 3))
    (kk : ∀ (H1 : Heap) (locs1 : List Loc), Wd D A H0 (ws.set q0 (a, .inr (ci, fs.set k v))) H1 locs1 → W p l e R s m args below meth c H1 locs1 cells slots Q (F0 m (pc + 3) ls rest)) : W p l e R s m args below meth c H locs cells slots Q (F0 m pc ls (v :: .ref a :: rest)) :=
  va_putF C.1.1 C.1.2.1 C.1.2.2.2.2 hin ty0 hty hn2 C.1.2.2.2.1 C.2.1.1 hw.1 hw.2.1 hw.2.2 q0 he hc k hk (C.1.2.2.2.2 _ hlink) (fun _ h9 => h9) hfin hnm hdecl (hty k hk) hn hfit hl hdg (fun H1 locs1 h1 h2 h3 => kk H1 locs1 ⟨h1, h2, h3⟩)
abbrev xn (D : va_G) (ws : va_W) (sz : Nat) : Heap → Prop := fun H => H.size = sz ∧ va_P D vwCl ws H ∧ va_D (fun _ => True) ws
variable {y : MethodName} {bytes : ByteArray} {maxL n index mc ms : Nat} {wsl : List Cond} {rm : Room} {b ci : Nat} {As st0 fs : List Value} {X : Heap → Prop} {wr : va_W}
/-- a nest mate's constructor -/
theorem c_initN {S : Type} {post : S → Prop} {w1 : S → va_W} (C : Cx p s m args meth c cc nL RX1 ret D d) (hw : Wd D A H0 ws H locs) (hA : ∀ q, H0.size ≤ q → A q) (k : Nat) (isR : List Nat)
    (hM : Met l y wsl rm (pc_ [.ref b] D d (xn D [cO b ci fs] H.size)) (va_Qv post (fun u t => va_P D vwCl (w1 u) t.heap ∧ va_D (va_A [cO b ci fs] H.size) (w1 u)) (va_A [cO b ci fs] H.size)) mc ms (va_A [cO b ci fs] H.size))
    (hC : [k].map (fun i => ws[i]?) = [cO b ci fs].map some) (hR : isR.map (fun i => ws[i]?) = wr.map some) (hn : va_nd isR = true) (hdis : ∀ i ∈ isR, i ∉ [k])
    (cw : va_CN R s args RX1 index y RX1 bytes maxL none wsl rm mc ms 0 ∧ y.name = "<init>" ∧ (Cond.instanceMethod y).before args s = true)
    (hsize : ls.size = nL) (hW : (rest.map fun v => v.category).sum ≤ 8) (hdg : decode cc pc = .ok (.invokespecial index, 3)) (hf : cells + mc ≤ R.cells ∧ slots + ms ≤ R.slots)
    (kk : ∀ (u : S) (H1 : Heap) (locs1 : List Loc), post u → Wd D A H0 (wr ++ w1 u) H1 locs1 → W p l e R s m args below meth c H1 locs1 (cells + mc) (slots + ms) Q (F0 m (pc + 3) ls rest)) : W p l e R s m args below meth c H locs cells slots Q (F0 m pc ls (.ref b :: rest)) := by
  have hPc := w_cut hw [k] (by simp [va_nd]) hC
  have hFc := va_free (wc := [cO b ci fs]) hw.2.1 hw.2.2 hA [k] hC
  refine va_callv (va_runIN (As := []) C.1 hM cw ⟨pc_blind, fun U hU hW => ⟨rfl, ⟨by rw [hU], by rw [hU]; exact hPc.1, hPc.2⟩, C.2.1.warm hW⟩⟩ rfl rfl hsize rfl (lv_room hW) hdg hf) hw.2.2 (fun q _ h => hFc q h) hFc (fun u t H1 locs1 ht hvm hp hB hz1 hk1 hS1 => ?_)
  obtain ⟨hP1, hD1⟩ := hB
  rw [ht] at hP1
  obtain ⟨hP, hD⟩ := va_join hw.1 hw.2.1 [k] isR hC hR hn hdis hk1 hFc hP1 hD1
  exact kk u H1 locs1 hp ⟨hP, hD, hS1⟩
/-- a constructor, by anything that may be said of the heap -/
theorem c_initP {S : Type} {post : S → Prop} {Y : S → Heap → Prop} {Z : Nat → Prop} (C : Cx p s m args meth c cc nL own ret D d) (hM : Met l y wsl rm (pc_ (.ref b :: As) D d X) (va_Qv post (fun u t => Y u t.heap) Z) mc ms Z) (cw : CallB R s args own index y bytes maxL none wsl rm mc ms n ∧ y.name = "<init>" ∧ (Cond.instanceMethod y).before args s = true) (hX : X H) (hS : va_S A H0 H locs) (hZ : ∀ q, Z q → A q)
    (hn : As.length = n) (hsize : ls.size = nL) (hst : st0 = As.reverse ++ .ref b :: rest) (hW : (rest.map fun v => v.category).sum ≤ 8) (hdg : decode cc pc = .ok (.invokespecial index, 3)) (hf : cells + mc ≤ R.cells ∧ slots + ms ≤ R.slots)
    (kk : ∀ (u : S) (H1 : Heap) (locs1 : List Loc), post u → Y u H1 → H.size ≤ H1.size → (∀ q : Nat, q < H.size → ¬ Z q → H1[q]? = H[q]?) → va_S A H0 H1 locs1 → W p l e R s m args below meth c H1 locs1 (cells + mc) (slots + ms) Q (F0 m (pc + 3) ls rest)) : W p l e R s m args below meth c H locs cells slots Q (F0 m pc ls st0) :=
  va_callv (va_runI C.1 hM cw ⟨pc_blind, fun U hU hW => ⟨rfl, by rw [hU]; exact hX, C.2.1.warm hW⟩⟩ rfl hn hsize hst (lv_room hW) hdg hf) hS (fun q _ h => hZ q h) hZ (fun u t H1 locs1 ht _ hp hY hz hk hS1 => kk u H1 locs1 hp (by rw [← ht]; exact hY) hz hk hS1)
theorem df_X1 : ∀ j, j < 10 → defaultValue (tyX1 j) = vp_V [.int 0, .null, .null, .null, .null, .null, .null, .null, .null, .null] j := by
  intro j hj
  match j, hj with
  | 0, _ => rfl
  | 1, _ => rfl
  | 2, _ => rfl
  | 3, _ => rfl
  | 4, _ => rfl
  | 5, _ => rfl
  | 6, _ => rfl
  | 7, _ => rfl
  | 8, _ => rfl
  | 9, _ => rfl
  | k + 10, hk => omega
theorem df_X2 : ∀ j, j < 5 → defaultValue (tyX2 j) = vp_V [.null, .null, .null, .int 0, .int 0] j := by
  intro j hj
  match j, hj with
  | 0, _ => rfl
  | 1, _ => rfl
  | 2, _ => rfl
  | 3, _ => rfl
  | 4, _ => rfl
  | k + 5, hk => omega
theorem df_X3 : ∀ j, j < 4 → defaultValue (tyX3 j) = vp_V [.null, .null, .null, .int 0] j := by
  intro j hj
  match j, hj with
  | 0, _ => rfl
  | 1, _ => rfl
  | 2, _ => rfl
  | 3, _ => rfl
  | k + 4, hk => omega
theorem df_X4 : ∀ j, j < 9 → defaultValue (tyX4 j) = vp_V [.int 0, .int 0, .int 0, .int 0, .null, .null, .null, .null, .null] j := by
  intro j hj
  match j, hj with
  | 0, _ => rfl
  | 1, _ => rfl
  | 2, _ => rfl
  | 3, _ => rfl
  | 4, _ => rfl
  | 5, _ => rfl
  | 6, _ => rfl
  | 7, _ => rfl
  | 8, _ => rfl
  | k + 9, hk => omega
theorem n_X1_9 (C : Cx p s m args meth c cc nL RX1 ret D d) (hw : Wd D A H0 ws H locs) (hA : ∀ q, H0.size ≤ q → A q) (hcells : cells + 1 ≤ R.cells) (hslots : slots + 5 ≤ R.slots) (hdg : decode cc pc = .ok (.new 9, 3)) (kk : ∀ (q : Nat) (H1 : Heap), Wd D A H0 (ws ++ [cO q 1 [.null, .null, .null, .int 0, .int 0]]) H1 locs → W p l e R s m args below meth c H1 locs (cells + 1) (slots + 5) Q (F0 m (pc + 3) ls (.ref q :: rest))) : W p l e R s m args below meth c H locs cells slots Q (F0 m pc ls rest) := w_new C hw hA in_X2 tyX2 tyX2_ok q21 q22 q9 rfl df_X2 hcells hslots hdg kk
theorem n_X1_19 (C : Cx p s m args meth c cc nL RX1 ret D d) (hw : Wd D A H0 ws H locs) (hA : ∀ q, H0.size ≤ q → A q) (hcells : cells + 1 ≤ R.cells) (hslots : slots + 4 ≤ R.slots) (hdg : decode cc pc = .ok (.new 19, 3)) (kk : ∀ (q : Nat) (H1 : Heap), Wd D A H0 (ws ++ [cO q 2 [.null, .null, .null, .int 0]]) H1 locs → W p l e R s m args below meth c H1 locs (cells + 1) (slots + 4) Q (F0 m (pc + 3) ls (.ref q :: rest))) : W p l e R s m args below meth c H locs cells slots Q (F0 m pc ls rest) := w_new C hw hA in_X3 tyX3 tyX3_ok q49 q50 q10 rfl df_X3 hcells hslots hdg kk
theorem n_X0_7 (C : Cx p s m args meth c cc nL RX0 ret D d) (hw : Wd D A H0 ws H locs) (hA : ∀ q, H0.size ≤ q → A q) (hcells : cells + 1 ≤ R.cells) (hslots : slots + 10 ≤ R.slots) (hdg : decode cc pc = .ok (.new 7, 3)) (kk : ∀ (q : Nat) (H1 : Heap), Wd D A H0 (ws ++ [cO q 0 [.int 0, .null, .null, .null, .null, .null, .null, .null, .null, .null]]) H1 locs → W p l e R s m args below meth c H1 locs (cells + 1) (slots + 10) Q (F0 m (pc + 3) ls (.ref q :: rest))) : W p l e R s m args below meth c H locs cells slots Q (F0 m pc ls rest) := w_new C hw hA in_X1 tyX1 tyX1_ok q13 q14 q8 rfl df_X1 hcells hslots hdg kk
theorem n_X0_18 (C : Cx p s m args meth c cc nL RX0 ret D d) (hw : Wd D A H0 ws H locs) (hA : ∀ q, H0.size ≤ q → A q) (hcells : cells + 1 ≤ R.cells) (hslots : slots + 9 ≤ R.slots) (hdg : decode cc pc = .ok (.new 18, 3)) (kk : ∀ (q : Nat) (H1 : Heap), Wd D A H0 (ws ++ [cO q 3 [.int 0, .int 0, .int 0, .int 0, .null, .null, .null, .null, .null]]) H1 locs → W p l e R s m args below meth c H1 locs (cells + 1) (slots + 9) Q (F0 m (pc + 3) ls (.ref q :: rest))) : W p l e R s m args below meth c H locs cells slots Q (F0 m pc ls rest) := w_new C hw hA in_X4 tyX4 tyX4_ok q199 q200 q12 rfl df_X4 hcells hslots hdg kk
theorem f_X1_22 (C : Cx p s m args meth c cc nL RX1 ret D d) (hnm : meth.name = "<init>") (hw : Wd D A H0 ws H locs) (q0 : Nat) {fs : List Value} (he : ws[q0]? = some (a, .inr (0, fs))) (hl : 3 < fs.length) {x : Nat} (hdg : decode cc pc = .ok (.putfield 22, 3)) (kk : ∀ (H1 : Heap) (locs1 : List Loc), Wd D A H0 (ws.set q0 (a, .inr (0, fs.set 3 (.ref x)))) H1 locs1 → W p l e R s m args below meth c H1 locs1 cells slots Q (F0 m (pc + 3) ls rest)) : W p l e R s m args below meth c H locs cells slots Q (F0 m pc ls (.ref x :: .ref a :: rest)) := w_putF C hnm hw q0 he in_X1 tyX1 tyX1_ok nmX1 rfl 3 (by decide) q85 rfl rfl rfl rfl hl hdg kk
theorem f_X1_26 (C : Cx p s m args meth c cc nL RX1 ret D d) (hnm : meth.name = "<init>") (hw : Wd D A H0 ws H locs) (q0 : Nat) {fs : List Value} (he : ws[q0]? = some (a, .inr (0, fs))) (hl : 4 < fs.length) {x : Nat} (hdg : decode cc pc = .ok (.putfield 26, 3)) (kk : ∀ (H1 : Heap) (locs1 : List Loc), Wd D A H0 (ws.set q0 (a, .inr (0, fs.set 4 (.ref x)))) H1 locs1 → W p l e R s m args below meth c H1 locs1 cells slots Q (F0 m (pc + 3) ls rest)) : W p l e R s m args below meth c H locs cells slots Q (F0 m pc ls (.ref x :: .ref a :: rest)) := w_putF C hnm hw q0 he in_X1 tyX1 tyX1_ok nmX1 rfl 4 (by decide) q86 rfl rfl rfl rfl hl hdg kk
theorem f_X1_29 (C : Cx p s m args meth c cc nL RX1 ret D d) (hnm : meth.name = "<init>") (hw : Wd D A H0 ws H locs) (q0 : Nat) {fs : List Value} (he : ws[q0]? = some (a, .inr (0, fs))) (hl : 5 < fs.length) {x : Nat} (hdg : decode cc pc = .ok (.putfield 29, 3)) (kk : ∀ (H1 : Heap) (locs1 : List Loc), Wd D A H0 (ws.set q0 (a, .inr (0, fs.set 5 (.ref x)))) H1 locs1 → W p l e R s m args below meth c H1 locs1 cells slots Q (F0 m (pc + 3) ls rest)) : W p l e R s m args below meth c H locs cells slots Q (F0 m pc ls (.ref x :: .ref a :: rest)) := w_putF C hnm hw q0 he in_X1 tyX1 tyX1_ok nmX1 rfl 5 (by decide) q87 rfl rfl rfl rfl hl hdg kk
theorem f_X1_32 (C : Cx p s m args meth c cc nL RX1 ret D d) (hnm : meth.name = "<init>") (hw : Wd D A H0 ws H locs) (q0 : Nat) {fs : List Value} (he : ws[q0]? = some (a, .inr (0, fs))) (hl : 6 < fs.length) {x : Nat} (hdg : decode cc pc = .ok (.putfield 32, 3)) (kk : ∀ (H1 : Heap) (locs1 : List Loc), Wd D A H0 (ws.set q0 (a, .inr (0, fs.set 6 (.ref x)))) H1 locs1 → W p l e R s m args below meth c H1 locs1 cells slots Q (F0 m (pc + 3) ls rest)) : W p l e R s m args below meth c H locs cells slots Q (F0 m pc ls (.ref x :: .ref a :: rest)) := w_putF C hnm hw q0 he in_X1 tyX1 tyX1_ok nmX1 rfl 6 (by decide) q88 rfl rfl rfl rfl hl hdg kk
theorem f_X1_36 (C : Cx p s m args meth c cc nL RX1 ret D d) (hnm : meth.name = "<init>") (hw : Wd D A H0 ws H locs) (q0 : Nat) {fs : List Value} (he : ws[q0]? = some (a, .inr (0, fs))) (hl : 7 < fs.length) {x : Nat} (hdg : decode cc pc = .ok (.putfield 36, 3)) (kk : ∀ (H1 : Heap) (locs1 : List Loc), Wd D A H0 (ws.set q0 (a, .inr (0, fs.set 7 (.ref x)))) H1 locs1 → W p l e R s m args below meth c H1 locs1 cells slots Q (F0 m (pc + 3) ls rest)) : W p l e R s m args below meth c H locs cells slots Q (F0 m pc ls (.ref x :: .ref a :: rest)) := w_putF C hnm hw q0 he in_X1 tyX1 tyX1_ok nmX1 rfl 7 (by decide) q89 rfl rfl rfl rfl hl hdg kk
theorem f_X1_39 (C : Cx p s m args meth c cc nL RX1 ret D d) (hnm : meth.name = "<init>") (hw : Wd D A H0 ws H locs) (q0 : Nat) {fs : List Value} (he : ws[q0]? = some (a, .inr (0, fs))) (hl : 8 < fs.length) {x : Nat} (hdg : decode cc pc = .ok (.putfield 39, 3)) (kk : ∀ (H1 : Heap) (locs1 : List Loc), Wd D A H0 (ws.set q0 (a, .inr (0, fs.set 8 (.ref x)))) H1 locs1 → W p l e R s m args below meth c H1 locs1 cells slots Q (F0 m (pc + 3) ls rest)) : W p l e R s m args below meth c H locs cells slots Q (F0 m pc ls (.ref x :: .ref a :: rest)) := w_putF C hnm hw q0 he in_X1 tyX1 tyX1_ok nmX1 rfl 8 (by decide) q90 rfl rfl rfl rfl hl hdg kk
theorem f_X1_42 (C : Cx p s m args meth c cc nL RX1 ret D d) (hnm : meth.name = "<init>") (hw : Wd D A H0 ws H locs) (q0 : Nat) {fs : List Value} (he : ws[q0]? = some (a, .inr (0, fs))) (hl : 9 < fs.length) {x : Nat} (hdg : decode cc pc = .ok (.putfield 42, 3)) (kk : ∀ (H1 : Heap) (locs1 : List Loc), Wd D A H0 (ws.set q0 (a, .inr (0, fs.set 9 (.ref x)))) H1 locs1 → W p l e R s m args below meth c H1 locs1 cells slots Q (F0 m (pc + 3) ls rest)) : W p l e R s m args below meth c H locs cells slots Q (F0 m pc ls (.ref x :: .ref a :: rest)) := w_putF C hnm hw q0 he in_X1 tyX1 tyX1_ok nmX1 rfl 9 (by decide) q91 rfl rfl rfl rfl hl hdg kk
theorem f_X1_54 (C : Cx p s m args meth c cc nL RX1 ret D d) (hnm : meth.name = "<init>") (hw : Wd D A H0 ws H locs) (q0 : Nat) {fs : List Value} (he : ws[q0]? = some (a, .inr (0, fs))) (hl : 0 < fs.length) {x : Int32} (hdg : decode cc pc = .ok (.putfield 54, 3)) (kk : ∀ (H1 : Heap) (locs1 : List Loc), Wd D A H0 (ws.set q0 (a, .inr (0, fs.set 0 (.int x)))) H1 locs1 → W p l e R s m args below meth c H1 locs1 cells slots Q (F0 m (pc + 3) ls rest)) : W p l e R s m args below meth c H locs cells slots Q (F0 m pc ls (.int x :: .ref a :: rest)) := w_putF C hnm hw q0 he in_X1 tyX1 tyX1_ok nmX1 rfl 0 (by decide) q82 rfl rfl rfl rfl hl hdg kk
theorem f_X2_9 (C : Cx p s m args meth c cc nL RX2 ret D d) (hnm : meth.name = "<init>") (hw : Wd D A H0 ws H locs) (q0 : Nat) {fs : List Value} (he : ws[q0]? = some (a, .inr (1, fs))) (hl : 0 < fs.length) {x : Nat} (hdg : decode cc pc = .ok (.putfield 9, 3)) (kk : ∀ (H1 : Heap) (locs1 : List Loc), Wd D A H0 (ws.set q0 (a, .inr (1, fs.set 0 (.ref x)))) H1 locs1 → W p l e R s m args below meth c H1 locs1 cells slots Q (F0 m (pc + 3) ls rest)) : W p l e R s m args below meth c H locs cells slots Q (F0 m pc ls (.ref x :: .ref a :: rest)) := w_putF C hnm hw q0 he in_X2 tyX2 tyX2_ok nmX2 rfl 0 (by decide) q27 rfl rfl rfl rfl hl hdg kk
theorem f_X2_15 (C : Cx p s m args meth c cc nL RX2 ret D d) (hnm : meth.name = "<init>") (hw : Wd D A H0 ws H locs) (q0 : Nat) {fs : List Value} (he : ws[q0]? = some (a, .inr (1, fs))) (hl : 1 < fs.length) {x : Nat} (hdg : decode cc pc = .ok (.putfield 15, 3)) (kk : ∀ (H1 : Heap) (locs1 : List Loc), Wd D A H0 (ws.set q0 (a, .inr (1, fs.set 1 (.ref x)))) H1 locs1 → W p l e R s m args below meth c H1 locs1 cells slots Q (F0 m (pc + 3) ls rest)) : W p l e R s m args below meth c H locs cells slots Q (F0 m pc ls (.ref x :: .ref a :: rest)) := w_putF C hnm hw q0 he in_X2 tyX2 tyX2_ok nmX2 rfl 1 (by decide) q29 rfl rfl rfl rfl hl hdg kk
theorem f_X2_18 (C : Cx p s m args meth c cc nL RX2 ret D d) (hnm : meth.name = "<init>") (hw : Wd D A H0 ws H locs) (q0 : Nat) {fs : List Value} (he : ws[q0]? = some (a, .inr (1, fs))) (hl : 2 < fs.length) {x : Nat} (hdg : decode cc pc = .ok (.putfield 18, 3)) (kk : ∀ (H1 : Heap) (locs1 : List Loc), Wd D A H0 (ws.set q0 (a, .inr (1, fs.set 2 (.ref x)))) H1 locs1 → W p l e R s m args below meth c H1 locs1 cells slots Q (F0 m (pc + 3) ls rest)) : W p l e R s m args below meth c H locs cells slots Q (F0 m pc ls (.ref x :: .ref a :: rest)) := w_putF C hnm hw q0 he in_X2 tyX2 tyX2_ok nmX2 rfl 2 (by decide) q31 rfl rfl rfl rfl hl hdg kk
theorem f_X3_9 (C : Cx p s m args meth c cc nL RX3 ret D d) (hnm : meth.name = "<init>") (hw : Wd D A H0 ws H locs) (q0 : Nat) {fs : List Value} (he : ws[q0]? = some (a, .inr (2, fs))) (hl : 0 < fs.length) {x : Nat} (hdg : decode cc pc = .ok (.putfield 9, 3)) (kk : ∀ (H1 : Heap) (locs1 : List Loc), Wd D A H0 (ws.set q0 (a, .inr (2, fs.set 0 (.ref x)))) H1 locs1 → W p l e R s m args below meth c H1 locs1 cells slots Q (F0 m (pc + 3) ls rest)) : W p l e R s m args below meth c H locs cells slots Q (F0 m pc ls (.ref x :: .ref a :: rest)) := w_putF C hnm hw q0 he in_X3 tyX3 tyX3_ok nmX3 rfl 0 (by decide) q55 rfl rfl rfl rfl hl hdg kk
theorem f_X3_15 (C : Cx p s m args meth c cc nL RX3 ret D d) (hnm : meth.name = "<init>") (hw : Wd D A H0 ws H locs) (q0 : Nat) {fs : List Value} (he : ws[q0]? = some (a, .inr (2, fs))) (hl : 1 < fs.length) {x : Nat} (hdg : decode cc pc = .ok (.putfield 15, 3)) (kk : ∀ (H1 : Heap) (locs1 : List Loc), Wd D A H0 (ws.set q0 (a, .inr (2, fs.set 1 (.ref x)))) H1 locs1 → W p l e R s m args below meth c H1 locs1 cells slots Q (F0 m (pc + 3) ls rest)) : W p l e R s m args below meth c H locs cells slots Q (F0 m pc ls (.ref x :: .ref a :: rest)) := w_putF C hnm hw q0 he in_X3 tyX3 tyX3_ok nmX3 rfl 1 (by decide) q57 rfl rfl rfl rfl hl hdg kk
theorem f_X3_18 (C : Cx p s m args meth c cc nL RX3 ret D d) (hnm : meth.name = "<init>") (hw : Wd D A H0 ws H locs) (q0 : Nat) {fs : List Value} (he : ws[q0]? = some (a, .inr (2, fs))) (hl : 2 < fs.length) {x : Nat} (hdg : decode cc pc = .ok (.putfield 18, 3)) (kk : ∀ (H1 : Heap) (locs1 : List Loc), Wd D A H0 (ws.set q0 (a, .inr (2, fs.set 2 (.ref x)))) H1 locs1 → W p l e R s m args below meth c H1 locs1 cells slots Q (F0 m (pc + 3) ls rest)) : W p l e R s m args below meth c H locs cells slots Q (F0 m pc ls (.ref x :: .ref a :: rest)) := w_putF C hnm hw q0 he in_X3 tyX3 tyX3_ok nmX3 rfl 2 (by decide) q59 rfl rfl rfl rfl hl hdg kk
theorem f_X4_16 (C : Cx p s m args meth c cc nL RX4 ret D d) (hnm : meth.name = "<init>") (hw : Wd D A H0 ws H locs) (q0 : Nat) {fs : List Value} (he : ws[q0]? = some (a, .inr (3, fs))) (hl : 6 < fs.length) {x : Nat} (hdg : decode cc pc = .ok (.putfield 16, 3)) (kk : ∀ (H1 : Heap) (locs1 : List Loc), Wd D A H0 (ws.set q0 (a, .inr (3, fs.set 6 (.ref x)))) H1 locs1 → W p l e R s m args below meth c H1 locs1 cells slots Q (F0 m (pc + 3) ls rest)) : W p l e R s m args below meth c H locs cells slots Q (F0 m pc ls (.ref x :: .ref a :: rest)) := w_putF C hnm hw q0 he in_X4 tyX4 tyX4_ok nmX4 rfl 6 (by decide) q214 rfl rfl rfl rfl hl hdg kk
theorem f_X4_19 (C : Cx p s m args meth c cc nL RX4 ret D d) (hnm : meth.name = "<init>") (hw : Wd D A H0 ws H locs) (q0 : Nat) {fs : List Value} (he : ws[q0]? = some (a, .inr (3, fs))) (hl : 7 < fs.length) {x : Nat} (hdg : decode cc pc = .ok (.putfield 19, 3)) (kk : ∀ (H1 : Heap) (locs1 : List Loc), Wd D A H0 (ws.set q0 (a, .inr (3, fs.set 7 (.ref x)))) H1 locs1 → W p l e R s m args below meth c H1 locs1 cells slots Q (F0 m (pc + 3) ls rest)) : W p l e R s m args below meth c H locs cells slots Q (F0 m pc ls (.ref x :: .ref a :: rest)) := w_putF C hnm hw q0 he in_X4 tyX4 tyX4_ok nmX4 rfl 7 (by decide) q215 rfl rfl rfl rfl hl hdg kk
theorem f_X4_22 (C : Cx p s m args meth c cc nL RX4 ret D d) (hnm : meth.name = "<init>") (hw : Wd D A H0 ws H locs) (q0 : Nat) {fs : List Value} (he : ws[q0]? = some (a, .inr (3, fs))) (hl : 8 < fs.length) {x : Nat} (hdg : decode cc pc = .ok (.putfield 22, 3)) (kk : ∀ (H1 : Heap) (locs1 : List Loc), Wd D A H0 (ws.set q0 (a, .inr (3, fs.set 8 (.ref x)))) H1 locs1 → W p l e R s m args below meth c H1 locs1 cells slots Q (F0 m (pc + 3) ls rest)) : W p l e R s m args below meth c H locs cells slots Q (F0 m pc ls (.ref x :: .ref a :: rest)) := w_putF C hnm hw q0 he in_X4 tyX4 tyX4_ok nmX4 rfl 8 (by decide) q216 rfl rfl rfl rfl hl hdg kk
theorem f_X4_36 (C : Cx p s m args meth c cc nL RX4 ret D d) (hnm : meth.name = "<init>") (hw : Wd D A H0 ws H locs) (q0 : Nat) {fs : List Value} (he : ws[q0]? = some (a, .inr (3, fs))) (hl : 0 < fs.length) {x : Int32} (hdg : decode cc pc = .ok (.putfield 36, 3)) (kk : ∀ (H1 : Heap) (locs1 : List Loc), Wd D A H0 (ws.set q0 (a, .inr (3, fs.set 0 (.int x)))) H1 locs1 → W p l e R s m args below meth c H1 locs1 cells slots Q (F0 m (pc + 3) ls rest)) : W p l e R s m args below meth c H locs cells slots Q (F0 m pc ls (.int x :: .ref a :: rest)) := w_putF C hnm hw q0 he in_X4 tyX4 tyX4_ok nmX4 rfl 0 (by decide) q208 rfl rfl rfl rfl hl hdg kk
end MK
set_option maxHeartbeats 4000000 in
set_option maxRecDepth 100000 in
/-- Matrix() -/
theorem met_X2_init (l : Launch) (D : va_G) (d : ClassId) {a : Nat} (sz : Nat) : Met l yX2_init (ws_ yX2_init cX2_init 1 none) ({ frames := 1, cells := 3, slots := 2061, locals := 12 } : Room) (pc_ [.ref a] D d (xn D [cO a 1 [.null, .null, .null, .int 0, .int 0]] sz)) (va_Qv (fun (_ : Nat × Nat × Nat) => True) (fun u t9 => va_P D vwCl [cO a 1 [.ref u.1, .ref u.2.1, .ref u.2.2, .int 0, .int 0], cA d u.1 61 (fun _ => 0), cA d u.2.1 1000 (fun _ => 0), cA d u.2.2 1000 (fun _ => 0)] t9.heap ∧ va_D (va_A [cO a 1 [.null, .null, .null, .int 0, .int 0]] sz) [cO a 1 [.ref u.1, .ref u.2.1, .ref u.2.2, .int 0, .int 0], cA d u.1 61 (fun _ => 0), cA d u.2.1 1000 (fun _ => 0), cA d u.2.2 1000 (fun _ => 0)]) (va_A [cO a 1 [.null, .null, .null, .int 0, .int 0]] sz)) 3 2061 (va_A [cO a 1 [.null, .null, .null, .int 0, .int 0]] sz) := by
  refine mt_ofW (own := RX2) rfl (by decide) (Nat.le_of_ble_eq_true rfl) (fun p e s m below meth c C hnm hX ls hl => ?_)
  obtain ⟨hx, hb, -⟩ := C.1
  have hl : lv_has ls 1 [(0, .ref a)] := hl
  obtain ⟨hsz, hP, hD0⟩ := hX
  subst hsz
  have hw : Wd D (va_A [cO a 1 [.null, .null, .null, .int 0, .int 0]] s.heap.size) s.heap [cO a 1 [.null, .null, .null, .int 0, .int 0]] s.heap [] := ⟨hP, hD0.self, va_S.rf⟩
  have hA : ∀ q, s.heap.size ≤ q → va_A [cO a 1 [.null, .null, .null, .int 0, .int 0]] s.heap.size q := fun q h => Or.inr h
  generalize va_A [cO a 1 [.null, .null, .null, .int 0, .int 0]] s.heap.size = A at hw hA ⊢
  have hnm : meth.name = "<init>" := hnm
  refine lv_aload_n hx hb dX2_init_0 rfl (lv_at hl 0 rfl) ?_
  refine W.objInit hx hb C.1.2.2.2.1 (C.1.2.2.2.2 _ q26) (C.1.2.2.2.2 _ q19) (C.1.2.2.2.2 _ q20) rfl (by rw [C.1.2.2.1]; exact hl.1) rfl dX2_init_1 (Nat.le_of_ble_eq_true rfl) (Nat.le_of_ble_eq_true rfl) ?_
  refine W.eq (g2 := F0 m 4 ls []) rfl ?_
  have hlocs : True := trivial
  refine lv_aload_n hx hb dX2_init_4 rfl (lv_at hl 0 rfl) ?_
  refine lv_bipush (v := nI 61) hx hb dX2_init_5 (by decide) ?_
  refine w_newa (N := 61) C hw hA (Nat.le_of_ble_eq_true rfl) (Nat.le_of_ble_eq_true rfl) (by decide) (by decide) dX2_init_7 (fun q_0 H hw => ?_)
  have hw : Wd D A s.heap [cO a 1 [.null, .null, .null, .int 0, .int 0], cA d q_0 61 (fun _ => 0)] H _ := hw
  refine f_X2_9 C hnm hw 0 rfl (Nat.le_of_ble_eq_true rfl) dX2_init_9 (fun H locs hw => ?_)
  have hw : Wd D A s.heap [cO a 1 [.ref q_0, .null, .null, .int 0, .int 0], cA d q_0 61 (fun _ => 0)] H locs := hw
  refine lv_aload_n hx hb dX2_init_12 rfl (lv_at hl 0 rfl) ?_
  refine lv_sipush (v := nI 1000) hx hb dX2_init_13 (by decide) ?_
  refine w_newa (N := 1000) C hw hA (Nat.le_of_ble_eq_true rfl) (Nat.le_of_ble_eq_true rfl) (by decide) (by decide) dX2_init_16 (fun q_1 H hw => ?_)
  have hw : Wd D A s.heap [cO a 1 [.ref q_0, .null, .null, .int 0, .int 0], cA d q_0 61 (fun _ => 0), cA d q_1 1000 (fun _ => 0)] H locs := hw
  refine f_X2_15 C hnm hw 0 rfl (Nat.le_of_ble_eq_true rfl) dX2_init_18 (fun H locs hw => ?_)
  have hw : Wd D A s.heap [cO a 1 [.ref q_0, .ref q_1, .null, .int 0, .int 0], cA d q_0 61 (fun _ => 0), cA d q_1 1000 (fun _ => 0)] H locs := hw
  refine lv_aload_n hx hb dX2_init_21 rfl (lv_at hl 0 rfl) ?_
  refine lv_sipush (v := nI 1000) hx hb dX2_init_22 (by decide) ?_
  refine w_newa (N := 1000) C hw hA (Nat.le_of_ble_eq_true rfl) (Nat.le_of_ble_eq_true rfl) (by decide) (by decide) dX2_init_25 (fun q_2 H hw => ?_)
  have hw : Wd D A s.heap [cO a 1 [.ref q_0, .ref q_1, .null, .int 0, .int 0], cA d q_0 61 (fun _ => 0), cA d q_1 1000 (fun _ => 0), cA d q_2 1000 (fun _ => 0)] H locs := hw
  refine f_X2_18 C hnm hw 0 rfl (Nat.le_of_ble_eq_true rfl) dX2_init_27 (fun H locs hw => ?_)
  have hw : Wd D A s.heap [cO a 1 [.ref q_0, .ref q_1, .ref q_2, .int 0, .int 0], cA d q_0 61 (fun _ => 0), cA d q_1 1000 (fun _ => 0), cA d q_2 1000 (fun _ => 0)] H locs := hw
  refine W.widen (k := 3) (n := 2061) (Nat.le_of_ble_eq_true rfl) (Nat.le_of_ble_eq_true rfl) ?_
  refine mu_vret (Y := fun u h => va_P D vwCl [cO a 1 [.ref u.1, .ref u.2.1, .ref u.2.2, .int 0, .int 0], cA d u.1 61 (fun _ => 0), cA d u.2.1 1000 (fun _ => 0), cA d u.2.2 1000 (fun _ => 0)] h ∧ va_D A [cO a 1 [.ref u.1, .ref u.2.1, .ref u.2.2, .int 0, .int 0], cA d u.1 61 (fun _ => 0), cA d u.2.1 1000 (fun _ => 0), cA d u.2.2 1000 (fun _ => 0)]) C hw.2.2 (q_0, q_1, q_2) ?_ ⟨hw.1, hw.2.1⟩ dX2_init_30
  trivial

set_option maxHeartbeats 4000000 in
set_option maxRecDepth 100000 in
/-- Heap() -/
theorem met_X3_init (l : Launch) (D : va_G) (d : ClassId) {a : Nat} (sz : Nat) : Met l yX3_init (ws_ yX3_init cX3_init 1 none) ({ frames := 1, cells := 3, slots := 6000, locals := 12 } : Room) (pc_ [.ref a] D d (xn D [cO a 2 [.null, .null, .null, .int 0]] sz)) (va_Qv (fun (_ : Nat × Nat × Nat) => True) (fun u t9 => va_P D vwCl [cO a 2 [.ref u.1, .ref u.2.1, .ref u.2.2, .int 0], cA d u.1 2000 (fun _ => 0), cA d u.2.1 2000 (fun _ => 0), cA d u.2.2 2000 (fun _ => 0)] t9.heap ∧ va_D (va_A [cO a 2 [.null, .null, .null, .int 0]] sz) [cO a 2 [.ref u.1, .ref u.2.1, .ref u.2.2, .int 0], cA d u.1 2000 (fun _ => 0), cA d u.2.1 2000 (fun _ => 0), cA d u.2.2 2000 (fun _ => 0)]) (va_A [cO a 2 [.null, .null, .null, .int 0]] sz)) 3 6000 (va_A [cO a 2 [.null, .null, .null, .int 0]] sz) := by
  refine mt_ofW (own := RX3) rfl (by decide) (Nat.le_of_ble_eq_true rfl) (fun p e s m below meth c C hnm hX ls hl => ?_)
  obtain ⟨hx, hb, -⟩ := C.1
  have hl : lv_has ls 1 [(0, .ref a)] := hl
  obtain ⟨hsz, hP, hD0⟩ := hX
  subst hsz
  have hw : Wd D (va_A [cO a 2 [.null, .null, .null, .int 0]] s.heap.size) s.heap [cO a 2 [.null, .null, .null, .int 0]] s.heap [] := ⟨hP, hD0.self, va_S.rf⟩
  have hA : ∀ q, s.heap.size ≤ q → va_A [cO a 2 [.null, .null, .null, .int 0]] s.heap.size q := fun q h => Or.inr h
  generalize va_A [cO a 2 [.null, .null, .null, .int 0]] s.heap.size = A at hw hA ⊢
  have hnm : meth.name = "<init>" := hnm
  refine lv_aload_n hx hb dX3_init_0 rfl (lv_at hl 0 rfl) ?_
  refine W.objInit hx hb C.1.2.2.2.1 (C.1.2.2.2.2 _ q54) (C.1.2.2.2.2 _ q19) (C.1.2.2.2.2 _ q20) rfl (by rw [C.1.2.2.1]; exact hl.1) rfl dX3_init_1 (Nat.le_of_ble_eq_true rfl) (Nat.le_of_ble_eq_true rfl) ?_
  refine W.eq (g2 := F0 m 4 ls []) rfl ?_
  have hlocs : True := trivial
  refine lv_aload_n hx hb dX3_init_4 rfl (lv_at hl 0 rfl) ?_
  refine lv_sipush (v := nI 2000) hx hb dX3_init_5 (by decide) ?_
  refine w_newa (N := 2000) C hw hA (Nat.le_of_ble_eq_true rfl) (Nat.le_of_ble_eq_true rfl) (by decide) (by decide) dX3_init_8 (fun q_0 H hw => ?_)
  have hw : Wd D A s.heap [cO a 2 [.null, .null, .null, .int 0], cA d q_0 2000 (fun _ => 0)] H _ := hw
  refine f_X3_9 C hnm hw 0 rfl (Nat.le_of_ble_eq_true rfl) dX3_init_10 (fun H locs hw => ?_)
  have hw : Wd D A s.heap [cO a 2 [.ref q_0, .null, .null, .int 0], cA d q_0 2000 (fun _ => 0)] H locs := hw
  refine lv_aload_n hx hb dX3_init_13 rfl (lv_at hl 0 rfl) ?_
  refine lv_sipush (v := nI 2000) hx hb dX3_init_14 (by decide) ?_
  refine w_newa (N := 2000) C hw hA (Nat.le_of_ble_eq_true rfl) (Nat.le_of_ble_eq_true rfl) (by decide) (by decide) dX3_init_17 (fun q_1 H hw => ?_)
  have hw : Wd D A s.heap [cO a 2 [.ref q_0, .null, .null, .int 0], cA d q_0 2000 (fun _ => 0), cA d q_1 2000 (fun _ => 0)] H locs := hw
  refine f_X3_15 C hnm hw 0 rfl (Nat.le_of_ble_eq_true rfl) dX3_init_19 (fun H locs hw => ?_)
  have hw : Wd D A s.heap [cO a 2 [.ref q_0, .ref q_1, .null, .int 0], cA d q_0 2000 (fun _ => 0), cA d q_1 2000 (fun _ => 0)] H locs := hw
  refine lv_aload_n hx hb dX3_init_22 rfl (lv_at hl 0 rfl) ?_
  refine lv_sipush (v := nI 2000) hx hb dX3_init_23 (by decide) ?_
  refine w_newa (N := 2000) C hw hA (Nat.le_of_ble_eq_true rfl) (Nat.le_of_ble_eq_true rfl) (by decide) (by decide) dX3_init_26 (fun q_2 H hw => ?_)
  have hw : Wd D A s.heap [cO a 2 [.ref q_0, .ref q_1, .null, .int 0], cA d q_0 2000 (fun _ => 0), cA d q_1 2000 (fun _ => 0), cA d q_2 2000 (fun _ => 0)] H locs := hw
  refine f_X3_18 C hnm hw 0 rfl (Nat.le_of_ble_eq_true rfl) dX3_init_28 (fun H locs hw => ?_)
  have hw : Wd D A s.heap [cO a 2 [.ref q_0, .ref q_1, .ref q_2, .int 0], cA d q_0 2000 (fun _ => 0), cA d q_1 2000 (fun _ => 0), cA d q_2 2000 (fun _ => 0)] H locs := hw
  refine W.widen (k := 3) (n := 6000) (Nat.le_of_ble_eq_true rfl) (Nat.le_of_ble_eq_true rfl) ?_
  refine mu_vret (Y := fun u h => va_P D vwCl [cO a 2 [.ref u.1, .ref u.2.1, .ref u.2.2, .int 0], cA d u.1 2000 (fun _ => 0), cA d u.2.1 2000 (fun _ => 0), cA d u.2.2 2000 (fun _ => 0)] h ∧ va_D A [cO a 2 [.ref u.1, .ref u.2.1, .ref u.2.2, .int 0], cA d u.1 2000 (fun _ => 0), cA d u.2.1 2000 (fun _ => 0), cA d u.2.2 2000 (fun _ => 0)]) C hw.2.2 (q_0, q_1, q_2) ?_ ⟨hw.1, hw.2.1⟩ dX3_init_31
  trivial

/-- clamped to 1 .. m -/
def clN (v : Int32) (m : Nat) : Nat := if v.toInt < 1 then 1 else if (m : Int) < v.toInt then m else v.toInt.toNat
theorem clN_rng {v : Int32} {m : Nat} (h : 1 ≤ m) : 1 ≤ clN v m ∧ clN v m ≤ m := by
  unfold clN
  split
  · omega
  · split <;> omega
theorem cl_pos {v : Int32} (h : ¬ v.toInt < 1) : ∃ j : Nat, 1 ≤ j ∧ j < 2 ^ 31 ∧ v = nI j := by
  obtain ⟨j, hj, rfl⟩ := nI_of (x := v) (fun q => by rw [Int32.lt_iff_toInt_lt] at q; exact absurd q (by show ¬ v.toInt < 0; omega))
  rw [nI_toInt hj] at h
  exact ⟨j, by omega, hj, rfl⟩
theorem cl_mo {v : Int32} {m : Nat} (hm : 1 ≤ m) (hm2 : m ≤ 1000) : (if v < 1 then 1 else if nI m < v then nI m else v) = nI (clN v m) := by
  have e1 : (v < 1) ↔ v.toInt < 1 := Int32.lt_iff_toInt_lt
  have e2 : (nI m < v) ↔ (m : Int) < v.toInt := by rw [Int32.lt_iff_toInt_lt, nI_toInt (by omega)]
  unfold clN
  by_cases q : v.toInt < 1
  · rw [if_pos q, if_pos (e1.mpr q)]; rfl
  · rw [if_neg q, if_neg (fun z => q (e1.mp z))]
    by_cases q2 : (m : Int) < v.toInt
    · rw [if_pos q2, if_pos (e2.mpr q2)]
    · rw [if_neg q2, if_neg (fun z => q2 (e2.mp z))]
      obtain ⟨j, h1, h2, rfl⟩ := cl_pos q
      rw [nI_toInt h2]; rfl
theorem cl_rs {v : Int32} {m : Nat} (hm : 1 ≤ m) (hm2 : m ≤ 1000) : (if nI 1 < (if v < nI m then v else nI m) then (if v < nI m then v else nI m) else nI 1) = nI (clN v m) := by
  have e2 : (v < nI m) ↔ v.toInt < (m : Int) := by rw [Int32.lt_iff_toInt_lt, nI_toInt (by omega)]
  have e1 : ∀ w : Int32, (nI 1 < w) ↔ 1 < w.toInt := fun w => by rw [Int32.lt_iff_toInt_lt, nI_toInt (by decide)]; rfl
  have em : (nI m).toInt = (m : Int) := nI_toInt (by omega)
  by_cases q2 : v.toInt < (m : Int)
  · rw [if_pos (e2.mpr q2)]
    by_cases q : v.toInt < 1
    · rw [if_neg (fun z => by have := (e1 v).mp z; omega)]
      unfold clN; rw [if_pos q]
    · obtain ⟨j, h1, h2, rfl⟩ := cl_pos q
      have ej : (nI j).toInt = (j : Int) := nI_toInt h2
      have ec : clN (nI j) m = j := by unfold clN; rw [ej, if_neg (by omega), if_neg (by omega)]; rfl
      rw [ec]
      by_cases q3 : j = 1
      · subst q3; rw [if_neg (fun z => by have := (e1 _).mp z; omega)]
      · rw [if_pos ((e1 _).mpr (by omega))]
  · rw [if_neg (fun z => q2 (e2.mp z))]
    have ec : clN v m = m := by
      unfold clN
      rw [if_neg (by omega)]
      split <;> omega
    rw [ec]
    by_cases q3 : m = 1
    · rw [q3, if_neg (fun z => by have := (e1 _).mp z; rw [show (nI 1).toInt = 1 from rfl] at this; omega)]
    · rw [if_pos ((e1 _).mpr (by omega))]
theorem rk_0 {i j : Nat} : rk_ (fun _ _ => (0 : Int32)) i j = 0 := by
  induction j with
  | zero => rfl
  | succ j ih => simp [rk_, ih]
theorem of_0 {c i : Nat} : of_ (fun _ _ => (0 : Int32)) c i = 0 := by
  induction i with
  | zero => rfl
  | succ i ih => simp [of_, ih, rk_0]
theorem csr_0 {st co va : Nat → Int32} {nr nc : Nat} (hnr : nr ≤ 60) (h : ∀ v, v < 61 → st v = 0) : Csr st co va nr nc (fun _ _ => 0) := ⟨fun a ha => by rw [h a (by omega), of_0]; exact nI_0.symm, fun a b _ _ hz => absurd rfl hz⟩
set_option maxHeartbeats 4000000 in
set_option maxRecDepth 100000 in
/-- RowSparse(rows, cols, cap) -/
theorem met_X1_init (l : Launch) (D : va_G) (d : ClassId) {o : Nat} (sz : Nat) (p1 p2 p3 : Int32) : Met l yX1_init (ws_ yX1_init cX1_init 4 none) ({ frames := 2, cells := 24, slots := 22385, locals := 32 } : Room) (pc_ [.ref o, .int p1, .int p2, .int p3] D d (xn D [cO o 0 [.int 0, .null, .null, .null, .null, .null, .null, .null, .null, .null]] sz)) (va_Qv (fun (_ : Unit) => True) (fun _ t9 => RSok D d (va_A [cO o 0 [.int 0, .null, .null, .null, .null, .null, .null, .null, .null, .null]] sz) o (clN p1 60) (clN p2 60) (clN p3 1000) (fun _ _ => 0) [] (fun _ => 0) (fun _ => 0) t9.heap) (va_A [cO o 0 [.int 0, .null, .null, .null, .null, .null, .null, .null, .null, .null]] sz)) 24 22385 (va_A [cO o 0 [.int 0, .null, .null, .null, .null, .null, .null, .null, .null, .null]] sz) := by
  refine mt_ofW (own := RX1) rfl (by decide) (Nat.le_of_ble_eq_true rfl) (fun p e s m below meth c C hnm hX ls hl => ?_)
  obtain ⟨hx, hb, -⟩ := C.1
  have hl : lv_has ls 4 [(0, .ref o), (1, .int p1), (2, .int p2), (3, .int p3)] := hl
  obtain ⟨hsz, hP, hD0⟩ := hX
  subst hsz
  have hw : Wd D (va_A [cO o 0 [.int 0, .null, .null, .null, .null, .null, .null, .null, .null, .null]] s.heap.size) s.heap [cO o 0 [.int 0, .null, .null, .null, .null, .null, .null, .null, .null, .null]] s.heap [] := ⟨hP, hD0.self, va_S.rf⟩
  have hA : ∀ q, s.heap.size ≤ q → va_A [cO o 0 [.int 0, .null, .null, .null, .null, .null, .null, .null, .null, .null]] s.heap.size q := fun q h => Or.inr h
  generalize va_A [cO o 0 [.int 0, .null, .null, .null, .null, .null, .null, .null, .null, .null]] s.heap.size = A at hw hA ⊢
  have hnm : meth.name = "<init>" := hnm
  obtain ⟨r1, r2⟩ := clN_rng (v := p1) (m := 60) (by decide)
  obtain ⟨r3, r4⟩ := clN_rng (v := p2) (m := 60) (by decide)
  obtain ⟨r5, r6⟩ := clN_rng (v := p3) (m := 1000) (by decide)
  refine lv_aload_n hx hb dX1_init_0 rfl (lv_at hl 0 rfl) ?_
  refine W.objInit hx hb C.1.2.2.2.1 (C.1.2.2.2.2 _ q18) (C.1.2.2.2.2 _ q19) (C.1.2.2.2.2 _ q20) rfl (by rw [C.1.2.2.1]; exact hl.1) rfl dX1_init_1 (Nat.le_of_ble_eq_true rfl) (Nat.le_of_ble_eq_true rfl) ?_
  refine W.eq (g2 := F0 m 4 ls []) rfl ?_
  refine lv_aload_n hx hb dX1_init_4 rfl (lv_at hl 0 rfl) ?_
  refine n_X1_9 C hw hA (Nat.le_of_ble_eq_true rfl) (Nat.le_of_ble_eq_true rfl) dX1_init_5 (fun n0 H hw => ?_)
  have hw : Wd D A s.heap [cO o 0 [.int 0, .null, .null, .null, .null, .null, .null, .null, .null, .null], cO n0 1 [.null, .null, .null, .int 0, .int 0]] H _ := hw
  refine lv_dup hx hb dX1_init_8 rfl ?_
  refine c_initN (wr := [cO o 0 [.int 0, .null, .null, .null, .null, .null, .null, .null, .null, .null]]) C hw hA 1 [0] (met_X2_init l D d H.size) rfl rfl (by decide) (by decide) ⟨va_cnB 0 C.1.2.2.2.2 (lw_meth q25) rfl rfl rfl (C.2.1.2.mth 0 rfl) (C.1.2.2.2.2 _ q9) (by decide +kernel) ⟨Nat.le_of_ble_eq_true rfl, Nat.le_of_ble_eq_true rfl⟩, rfl, C.1.2.2.2.2 _ q24⟩ hl.1 (Nat.le_of_ble_eq_true rfl) dX1_init_9 ⟨Nat.le_of_ble_eq_true rfl, Nat.le_of_ble_eq_true rfl⟩ (fun u H locs _ hw => ?_)
  obtain ⟨x0, y0, z0⟩ := u
  have hw : Wd D A s.heap [cO o 0 [.int 0, .null, .null, .null, .null, .null, .null, .null, .null, .null], cO n0 1 [.ref x0, .ref y0, .ref z0, .int 0, .int 0], cA d x0 61 (fun _ => 0), cA d y0 1000 (fun _ => 0), cA d z0 1000 (fun _ => 0)] H locs := hw
  refine p_X1_12 C hw 0 rfl (Nat.le_of_ble_eq_true rfl) dX1_init_12 (fun H locs hw => ?_)
  have hw : Wd D A s.heap [cO o 0 [.int 0, .ref n0, .null, .null, .null, .null, .null, .null, .null, .null], cO n0 1 [.ref x0, .ref y0, .ref z0, .int 0, .int 0], cA d x0 61 (fun _ => 0), cA d y0 1000 (fun _ => 0), cA d z0 1000 (fun _ => 0)] H locs := hw
  refine lv_aload_n hx hb dX1_init_15 rfl (lv_at hl 0 rfl) ?_
  refine n_X1_9 C hw hA (Nat.le_of_ble_eq_true rfl) (Nat.le_of_ble_eq_true rfl) dX1_init_16 (fun n1 H hw => ?_)
  have hw : Wd D A s.heap [cO o 0 [.int 0, .ref n0, .null, .null, .null, .null, .null, .null, .null, .null], cO n0 1 [.ref x0, .ref y0, .ref z0, .int 0, .int 0], cA d x0 61 (fun _ => 0), cA d y0 1000 (fun _ => 0), cA d z0 1000 (fun _ => 0), cO n1 1 [.null, .null, .null, .int 0, .int 0]] H locs := hw
  refine lv_dup hx hb dX1_init_19 rfl ?_
  refine c_initN (wr := [cO o 0 [.int 0, .ref n0, .null, .null, .null, .null, .null, .null, .null, .null], cO n0 1 [.ref x0, .ref y0, .ref z0, .int 0, .int 0], cA d x0 61 (fun _ => 0), cA d y0 1000 (fun _ => 0), cA d z0 1000 (fun _ => 0)]) C hw hA 5 [0, 1, 2, 3, 4] (met_X2_init l D d H.size) rfl rfl (by decide) (by decide) ⟨va_cnB 0 C.1.2.2.2.2 (lw_meth q25) rfl rfl rfl (C.2.1.2.mth 0 rfl) (C.1.2.2.2.2 _ q9) (by decide +kernel) ⟨Nat.le_of_ble_eq_true rfl, Nat.le_of_ble_eq_true rfl⟩, rfl, C.1.2.2.2.2 _ q24⟩ hl.1 (Nat.le_of_ble_eq_true rfl) dX1_init_20 ⟨Nat.le_of_ble_eq_true rfl, Nat.le_of_ble_eq_true rfl⟩ (fun u H locs _ hw => ?_)
  obtain ⟨x1, y1, z1⟩ := u
  have hw : Wd D A s.heap [cO o 0 [.int 0, .ref n0, .null, .null, .null, .null, .null, .null, .null, .null], cO n0 1 [.ref x0, .ref y0, .ref z0, .int 0, .int 0], cA d x0 61 (fun _ => 0), cA d y0 1000 (fun _ => 0), cA d z0 1000 (fun _ => 0), cO n1 1 [.ref x1, .ref y1, .ref z1, .int 0, .int 0], cA d x1 61 (fun _ => 0), cA d y1 1000 (fun _ => 0), cA d z1 1000 (fun _ => 0)] H locs := hw
  refine p_X1_16 C hw 0 rfl (Nat.le_of_ble_eq_true rfl) dX1_init_23 (fun H locs hw => ?_)
  have hw : Wd D A s.heap [cO o 0 [.int 0, .ref n0, .ref n1, .null, .null, .null, .null, .null, .null, .null], cO n0 1 [.ref x0, .ref y0, .ref z0, .int 0, .int 0], cA d x0 61 (fun _ => 0), cA d y0 1000 (fun _ => 0), cA d z0 1000 (fun _ => 0), cO n1 1 [.ref x1, .ref y1, .ref z1, .int 0, .int 0], cA d x1 61 (fun _ => 0), cA d y1 1000 (fun _ => 0), cA d z1 1000 (fun _ => 0)] H locs := hw
  refine lv_aload_n hx hb dX1_init_26 rfl (lv_at hl 0 rfl) ?_
  refine n_X1_19 C hw hA (Nat.le_of_ble_eq_true rfl) (Nat.le_of_ble_eq_true rfl) dX1_init_27 (fun n2 H hw => ?_)
  have hw : Wd D A s.heap [cO o 0 [.int 0, .ref n0, .ref n1, .null, .null, .null, .null, .null, .null, .null], cO n0 1 [.ref x0, .ref y0, .ref z0, .int 0, .int 0], cA d x0 61 (fun _ => 0), cA d y0 1000 (fun _ => 0), cA d z0 1000 (fun _ => 0), cO n1 1 [.ref x1, .ref y1, .ref z1, .int 0, .int 0], cA d x1 61 (fun _ => 0), cA d y1 1000 (fun _ => 0), cA d z1 1000 (fun _ => 0), cO n2 2 [.null, .null, .null, .int 0]] H locs := hw
  refine lv_dup hx hb dX1_init_30 rfl ?_
  refine c_initN (wr := [cO o 0 [.int 0, .ref n0, .ref n1, .null, .null, .null, .null, .null, .null, .null], cO n0 1 [.ref x0, .ref y0, .ref z0, .int 0, .int 0], cA d x0 61 (fun _ => 0), cA d y0 1000 (fun _ => 0), cA d z0 1000 (fun _ => 0), cO n1 1 [.ref x1, .ref y1, .ref z1, .int 0, .int 0], cA d x1 61 (fun _ => 0), cA d y1 1000 (fun _ => 0), cA d z1 1000 (fun _ => 0)]) C hw hA 9 [0, 1, 2, 3, 4, 5, 6, 7, 8] (met_X3_init l D d H.size) rfl rfl (by decide) (by decide) ⟨va_cnB 0 C.1.2.2.2.2 (lw_meth q53) rfl rfl rfl (C.2.1.2.mth 1 rfl) (C.1.2.2.2.2 _ q10) (by decide +kernel) ⟨Nat.le_of_ble_eq_true rfl, Nat.le_of_ble_eq_true rfl⟩, rfl, C.1.2.2.2.2 _ q52⟩ hl.1 (Nat.le_of_ble_eq_true rfl) dX1_init_31 ⟨Nat.le_of_ble_eq_true rfl, Nat.le_of_ble_eq_true rfl⟩ (fun u H locs _ hw => ?_)
  obtain ⟨x2, y2, z2⟩ := u
  have hw : Wd D A s.heap [cO o 0 [.int 0, .ref n0, .ref n1, .null, .null, .null, .null, .null, .null, .null], cO n0 1 [.ref x0, .ref y0, .ref z0, .int 0, .int 0], cA d x0 61 (fun _ => 0), cA d y0 1000 (fun _ => 0), cA d z0 1000 (fun _ => 0), cO n1 1 [.ref x1, .ref y1, .ref z1, .int 0, .int 0], cA d x1 61 (fun _ => 0), cA d y1 1000 (fun _ => 0), cA d z1 1000 (fun _ => 0), cO n2 2 [.ref x2, .ref y2, .ref z2, .int 0], cA d x2 2000 (fun _ => 0), cA d y2 2000 (fun _ => 0), cA d z2 2000 (fun _ => 0)] H locs := hw
  refine f_X1_22 C hnm hw 0 rfl (Nat.le_of_ble_eq_true rfl) dX1_init_34 (fun H locs hw => ?_)
  have hw : Wd D A s.heap [cO o 0 [.int 0, .ref n0, .ref n1, .ref n2, .null, .null, .null, .null, .null, .null], cO n0 1 [.ref x0, .ref y0, .ref z0, .int 0, .int 0], cA d x0 61 (fun _ => 0), cA d y0 1000 (fun _ => 0), cA d z0 1000 (fun _ => 0), cO n1 1 [.ref x1, .ref y1, .ref z1, .int 0, .int 0], cA d x1 61 (fun _ => 0), cA d y1 1000 (fun _ => 0), cA d z1 1000 (fun _ => 0), cO n2 2 [.ref x2, .ref y2, .ref z2, .int 0], cA d x2 2000 (fun _ => 0), cA d y2 2000 (fun _ => 0), cA d z2 2000 (fun _ => 0)] H locs := hw
  refine lv_aload_n hx hb dX1_init_37 rfl (lv_at hl 0 rfl) ?_
  refine n_X1_19 C hw hA (Nat.le_of_ble_eq_true rfl) (Nat.le_of_ble_eq_true rfl) dX1_init_38 (fun n3 H hw => ?_)
  have hw : Wd D A s.heap [cO o 0 [.int 0, .ref n0, .ref n1, .ref n2, .null, .null, .null, .null, .null, .null], cO n0 1 [.ref x0, .ref y0, .ref z0, .int 0, .int 0], cA d x0 61 (fun _ => 0), cA d y0 1000 (fun _ => 0), cA d z0 1000 (fun _ => 0), cO n1 1 [.ref x1, .ref y1, .ref z1, .int 0, .int 0], cA d x1 61 (fun _ => 0), cA d y1 1000 (fun _ => 0), cA d z1 1000 (fun _ => 0), cO n2 2 [.ref x2, .ref y2, .ref z2, .int 0], cA d x2 2000 (fun _ => 0), cA d y2 2000 (fun _ => 0), cA d z2 2000 (fun _ => 0), cO n3 2 [.null, .null, .null, .int 0]] H locs := hw
  refine lv_dup hx hb dX1_init_41 rfl ?_
  refine c_initN (wr := [cO o 0 [.int 0, .ref n0, .ref n1, .ref n2, .null, .null, .null, .null, .null, .null], cO n0 1 [.ref x0, .ref y0, .ref z0, .int 0, .int 0], cA d x0 61 (fun _ => 0), cA d y0 1000 (fun _ => 0), cA d z0 1000 (fun _ => 0), cO n1 1 [.ref x1, .ref y1, .ref z1, .int 0, .int 0], cA d x1 61 (fun _ => 0), cA d y1 1000 (fun _ => 0), cA d z1 1000 (fun _ => 0), cO n2 2 [.ref x2, .ref y2, .ref z2, .int 0], cA d x2 2000 (fun _ => 0), cA d y2 2000 (fun _ => 0), cA d z2 2000 (fun _ => 0)]) C hw hA 13 [0, 1, 2, 3, 4, 5, 6, 7, 8, 9, 10, 11, 12] (met_X3_init l D d H.size) rfl rfl (by decide) (by decide) ⟨va_cnB 0 C.1.2.2.2.2 (lw_meth q53) rfl rfl rfl (C.2.1.2.mth 1 rfl) (C.1.2.2.2.2 _ q10) (by decide +kernel) ⟨Nat.le_of_ble_eq_true rfl, Nat.le_of_ble_eq_true rfl⟩, rfl, C.1.2.2.2.2 _ q52⟩ hl.1 (Nat.le_of_ble_eq_true rfl) dX1_init_42 ⟨Nat.le_of_ble_eq_true rfl, Nat.le_of_ble_eq_true rfl⟩ (fun u H locs _ hw => ?_)
  obtain ⟨x3, y3, z3⟩ := u
  have hw : Wd D A s.heap [cO o 0 [.int 0, .ref n0, .ref n1, .ref n2, .null, .null, .null, .null, .null, .null], cO n0 1 [.ref x0, .ref y0, .ref z0, .int 0, .int 0], cA d x0 61 (fun _ => 0), cA d y0 1000 (fun _ => 0), cA d z0 1000 (fun _ => 0), cO n1 1 [.ref x1, .ref y1, .ref z1, .int 0, .int 0], cA d x1 61 (fun _ => 0), cA d y1 1000 (fun _ => 0), cA d z1 1000 (fun _ => 0), cO n2 2 [.ref x2, .ref y2, .ref z2, .int 0], cA d x2 2000 (fun _ => 0), cA d y2 2000 (fun _ => 0), cA d z2 2000 (fun _ => 0), cO n3 2 [.ref x3, .ref y3, .ref z3, .int 0], cA d x3 2000 (fun _ => 0), cA d y3 2000 (fun _ => 0), cA d z3 2000 (fun _ => 0)] H locs := hw
  refine f_X1_26 C hnm hw 0 rfl (Nat.le_of_ble_eq_true rfl) dX1_init_45 (fun H locs hw => ?_)
  have hw : Wd D A s.heap [cO o 0 [.int 0, .ref n0, .ref n1, .ref n2, .ref n3, .null, .null, .null, .null, .null], cO n0 1 [.ref x0, .ref y0, .ref z0, .int 0, .int 0], cA d x0 61 (fun _ => 0), cA d y0 1000 (fun _ => 0), cA d z0 1000 (fun _ => 0), cO n1 1 [.ref x1, .ref y1, .ref z1, .int 0, .int 0], cA d x1 61 (fun _ => 0), cA d y1 1000 (fun _ => 0), cA d z1 1000 (fun _ => 0), cO n2 2 [.ref x2, .ref y2, .ref z2, .int 0], cA d x2 2000 (fun _ => 0), cA d y2 2000 (fun _ => 0), cA d z2 2000 (fun _ => 0), cO n3 2 [.ref x3, .ref y3, .ref z3, .int 0], cA d x3 2000 (fun _ => 0), cA d y3 2000 (fun _ => 0), cA d z3 2000 (fun _ => 0)] H locs := hw
  refine lv_aload_n hx hb dX1_init_48 rfl (lv_at hl 0 rfl) ?_
  refine n_X1_19 C hw hA (Nat.le_of_ble_eq_true rfl) (Nat.le_of_ble_eq_true rfl) dX1_init_49 (fun n4 H hw => ?_)
  have hw : Wd D A s.heap [cO o 0 [.int 0, .ref n0, .ref n1, .ref n2, .ref n3, .null, .null, .null, .null, .null], cO n0 1 [.ref x0, .ref y0, .ref z0, .int 0, .int 0], cA d x0 61 (fun _ => 0), cA d y0 1000 (fun _ => 0), cA d z0 1000 (fun _ => 0), cO n1 1 [.ref x1, .ref y1, .ref z1, .int 0, .int 0], cA d x1 61 (fun _ => 0), cA d y1 1000 (fun _ => 0), cA d z1 1000 (fun _ => 0), cO n2 2 [.ref x2, .ref y2, .ref z2, .int 0], cA d x2 2000 (fun _ => 0), cA d y2 2000 (fun _ => 0), cA d z2 2000 (fun _ => 0), cO n3 2 [.ref x3, .ref y3, .ref z3, .int 0], cA d x3 2000 (fun _ => 0), cA d y3 2000 (fun _ => 0), cA d z3 2000 (fun _ => 0), cO n4 2 [.null, .null, .null, .int 0]] H locs := hw
  refine lv_dup hx hb dX1_init_52 rfl ?_
  refine c_initN (wr := [cO o 0 [.int 0, .ref n0, .ref n1, .ref n2, .ref n3, .null, .null, .null, .null, .null], cO n0 1 [.ref x0, .ref y0, .ref z0, .int 0, .int 0], cA d x0 61 (fun _ => 0), cA d y0 1000 (fun _ => 0), cA d z0 1000 (fun _ => 0), cO n1 1 [.ref x1, .ref y1, .ref z1, .int 0, .int 0], cA d x1 61 (fun _ => 0), cA d y1 1000 (fun _ => 0), cA d z1 1000 (fun _ => 0), cO n2 2 [.ref x2, .ref y2, .ref z2, .int 0], cA d x2 2000 (fun _ => 0), cA d y2 2000 (fun _ => 0), cA d z2 2000 (fun _ => 0), cO n3 2 [.ref x3, .ref y3, .ref z3, .int 0], cA d x3 2000 (fun _ => 0), cA d y3 2000 (fun _ => 0), cA d z3 2000 (fun _ => 0)]) C hw hA 17 [0, 1, 2, 3, 4, 5, 6, 7, 8, 9, 10, 11, 12, 13, 14, 15, 16] (met_X3_init l D d H.size) rfl rfl (by decide) (by decide) ⟨va_cnB 0 C.1.2.2.2.2 (lw_meth q53) rfl rfl rfl (C.2.1.2.mth 1 rfl) (C.1.2.2.2.2 _ q10) (by decide +kernel) ⟨Nat.le_of_ble_eq_true rfl, Nat.le_of_ble_eq_true rfl⟩, rfl, C.1.2.2.2.2 _ q52⟩ hl.1 (Nat.le_of_ble_eq_true rfl) dX1_init_53 ⟨Nat.le_of_ble_eq_true rfl, Nat.le_of_ble_eq_true rfl⟩ (fun u H locs _ hw => ?_)
  obtain ⟨x4, y4, z4⟩ := u
  have hw : Wd D A s.heap [cO o 0 [.int 0, .ref n0, .ref n1, .ref n2, .ref n3, .null, .null, .null, .null, .null], cO n0 1 [.ref x0, .ref y0, .ref z0, .int 0, .int 0], cA d x0 61 (fun _ => 0), cA d y0 1000 (fun _ => 0), cA d z0 1000 (fun _ => 0), cO n1 1 [.ref x1, .ref y1, .ref z1, .int 0, .int 0], cA d x1 61 (fun _ => 0), cA d y1 1000 (fun _ => 0), cA d z1 1000 (fun _ => 0), cO n2 2 [.ref x2, .ref y2, .ref z2, .int 0], cA d x2 2000 (fun _ => 0), cA d y2 2000 (fun _ => 0), cA d z2 2000 (fun _ => 0), cO n3 2 [.ref x3, .ref y3, .ref z3, .int 0], cA d x3 2000 (fun _ => 0), cA d y3 2000 (fun _ => 0), cA d z3 2000 (fun _ => 0), cO n4 2 [.ref x4, .ref y4, .ref z4, .int 0], cA d x4 2000 (fun _ => 0), cA d y4 2000 (fun _ => 0), cA d z4 2000 (fun _ => 0)] H locs := hw
  refine f_X1_29 C hnm hw 0 rfl (Nat.le_of_ble_eq_true rfl) dX1_init_56 (fun H locs hw => ?_)
  have hw : Wd D A s.heap [cO o 0 [.int 0, .ref n0, .ref n1, .ref n2, .ref n3, .ref n4, .null, .null, .null, .null], cO n0 1 [.ref x0, .ref y0, .ref z0, .int 0, .int 0], cA d x0 61 (fun _ => 0), cA d y0 1000 (fun _ => 0), cA d z0 1000 (fun _ => 0), cO n1 1 [.ref x1, .ref y1, .ref z1, .int 0, .int 0], cA d x1 61 (fun _ => 0), cA d y1 1000 (fun _ => 0), cA d z1 1000 (fun _ => 0), cO n2 2 [.ref x2, .ref y2, .ref z2, .int 0], cA d x2 2000 (fun _ => 0), cA d y2 2000 (fun _ => 0), cA d z2 2000 (fun _ => 0), cO n3 2 [.ref x3, .ref y3, .ref z3, .int 0], cA d x3 2000 (fun _ => 0), cA d y3 2000 (fun _ => 0), cA d z3 2000 (fun _ => 0), cO n4 2 [.ref x4, .ref y4, .ref z4, .int 0], cA d x4 2000 (fun _ => 0), cA d y4 2000 (fun _ => 0), cA d z4 2000 (fun _ => 0)] H locs := hw
  refine lv_aload_n hx hb dX1_init_59 rfl (lv_at hl 0 rfl) ?_
  refine lv_bipush (v := nI 61) hx hb dX1_init_60 (by decide) ?_
  refine w_newa (N := 61) C hw hA (Nat.le_of_ble_eq_true rfl) (Nat.le_of_ble_eq_true rfl) (by decide) (by decide) dX1_init_62 (fun ct H hw => ?_)
  have hw : Wd D A s.heap [cO o 0 [.int 0, .ref n0, .ref n1, .ref n2, .ref n3, .ref n4, .null, .null, .null, .null], cO n0 1 [.ref x0, .ref y0, .ref z0, .int 0, .int 0], cA d x0 61 (fun _ => 0), cA d y0 1000 (fun _ => 0), cA d z0 1000 (fun _ => 0), cO n1 1 [.ref x1, .ref y1, .ref z1, .int 0, .int 0], cA d x1 61 (fun _ => 0), cA d y1 1000 (fun _ => 0), cA d z1 1000 (fun _ => 0), cO n2 2 [.ref x2, .ref y2, .ref z2, .int 0], cA d x2 2000 (fun _ => 0), cA d y2 2000 (fun _ => 0), cA d z2 2000 (fun _ => 0), cO n3 2 [.ref x3, .ref y3, .ref z3, .int 0], cA d x3 2000 (fun _ => 0), cA d y3 2000 (fun _ => 0), cA d z3 2000 (fun _ => 0), cO n4 2 [.ref x4, .ref y4, .ref z4, .int 0], cA d x4 2000 (fun _ => 0), cA d y4 2000 (fun _ => 0), cA d z4 2000 (fun _ => 0), cA d ct 61 (fun _ => 0)] H locs := hw
  refine f_X1_32 C hnm hw 0 rfl (Nat.le_of_ble_eq_true rfl) dX1_init_64 (fun H locs hw => ?_)
  have hw : Wd D A s.heap [cO o 0 [.int 0, .ref n0, .ref n1, .ref n2, .ref n3, .ref n4, .ref ct, .null, .null, .null], cO n0 1 [.ref x0, .ref y0, .ref z0, .int 0, .int 0], cA d x0 61 (fun _ => 0), cA d y0 1000 (fun _ => 0), cA d z0 1000 (fun _ => 0), cO n1 1 [.ref x1, .ref y1, .ref z1, .int 0, .int 0], cA d x1 61 (fun _ => 0), cA d y1 1000 (fun _ => 0), cA d z1 1000 (fun _ => 0), cO n2 2 [.ref x2, .ref y2, .ref z2, .int 0], cA d x2 2000 (fun _ => 0), cA d y2 2000 (fun _ => 0), cA d z2 2000 (fun _ => 0), cO n3 2 [.ref x3, .ref y3, .ref z3, .int 0], cA d x3 2000 (fun _ => 0), cA d y3 2000 (fun _ => 0), cA d z3 2000 (fun _ => 0), cO n4 2 [.ref x4, .ref y4, .ref z4, .int 0], cA d x4 2000 (fun _ => 0), cA d y4 2000 (fun _ => 0), cA d z4 2000 (fun _ => 0), cA d ct 61 (fun _ => 0)] H locs := hw
  refine lv_aload_n hx hb dX1_init_67 rfl (lv_at hl 0 rfl) ?_
  refine lv_bipush (v := nI 60) hx hb dX1_init_68 (by decide) ?_
  refine w_newa (N := 60) C hw hA (Nat.le_of_ble_eq_true rfl) (Nat.le_of_ble_eq_true rfl) (by decide) (by decide) dX1_init_70 (fun xx H hw => ?_)
  have hw : Wd D A s.heap [cO o 0 [.int 0, .ref n0, .ref n1, .ref n2, .ref n3, .ref n4, .ref ct, .null, .null, .null], cO n0 1 [.ref x0, .ref y0, .ref z0, .int 0, .int 0], cA d x0 61 (fun _ => 0), cA d y0 1000 (fun _ => 0), cA d z0 1000 (fun _ => 0), cO n1 1 [.ref x1, .ref y1, .ref z1, .int 0, .int 0], cA d x1 61 (fun _ => 0), cA d y1 1000 (fun _ => 0), cA d z1 1000 (fun _ => 0), cO n2 2 [.ref x2, .ref y2, .ref z2, .int 0], cA d x2 2000 (fun _ => 0), cA d y2 2000 (fun _ => 0), cA d z2 2000 (fun _ => 0), cO n3 2 [.ref x3, .ref y3, .ref z3, .int 0], cA d x3 2000 (fun _ => 0), cA d y3 2000 (fun _ => 0), cA d z3 2000 (fun _ => 0), cO n4 2 [.ref x4, .ref y4, .ref z4, .int 0], cA d x4 2000 (fun _ => 0), cA d y4 2000 (fun _ => 0), cA d z4 2000 (fun _ => 0), cA d ct 61 (fun _ => 0), cA d xx 60 (fun _ => 0)] H locs := hw
  refine f_X1_36 C hnm hw 0 rfl (Nat.le_of_ble_eq_true rfl) dX1_init_72 (fun H locs hw => ?_)
  have hw : Wd D A s.heap [cO o 0 [.int 0, .ref n0, .ref n1, .ref n2, .ref n3, .ref n4, .ref ct, .ref xx, .null, .null], cO n0 1 [.ref x0, .ref y0, .ref z0, .int 0, .int 0], cA d x0 61 (fun _ => 0), cA d y0 1000 (fun _ => 0), cA d z0 1000 (fun _ => 0), cO n1 1 [.ref x1, .ref y1, .ref z1, .int 0, .int 0], cA d x1 61 (fun _ => 0), cA d y1 1000 (fun _ => 0), cA d z1 1000 (fun _ => 0), cO n2 2 [.ref x2, .ref y2, .ref z2, .int 0], cA d x2 2000 (fun _ => 0), cA d y2 2000 (fun _ => 0), cA d z2 2000 (fun _ => 0), cO n3 2 [.ref x3, .ref y3, .ref z3, .int 0], cA d x3 2000 (fun _ => 0), cA d y3 2000 (fun _ => 0), cA d z3 2000 (fun _ => 0), cO n4 2 [.ref x4, .ref y4, .ref z4, .int 0], cA d x4 2000 (fun _ => 0), cA d y4 2000 (fun _ => 0), cA d z4 2000 (fun _ => 0), cA d ct 61 (fun _ => 0), cA d xx 60 (fun _ => 0)] H locs := hw
  refine lv_aload_n hx hb dX1_init_75 rfl (lv_at hl 0 rfl) ?_
  refine lv_bipush (v := nI 60) hx hb dX1_init_76 (by decide) ?_
  refine w_newa (N := 60) C hw hA (Nat.le_of_ble_eq_true rfl) (Nat.le_of_ble_eq_true rfl) (by decide) (by decide) dX1_init_78 (fun yy H hw => ?_)
  have hw : Wd D A s.heap [cO o 0 [.int 0, .ref n0, .ref n1, .ref n2, .ref n3, .ref n4, .ref ct, .ref xx, .null, .null], cO n0 1 [.ref x0, .ref y0, .ref z0, .int 0, .int 0], cA d x0 61 (fun _ => 0), cA d y0 1000 (fun _ => 0), cA d z0 1000 (fun _ => 0), cO n1 1 [.ref x1, .ref y1, .ref z1, .int 0, .int 0], cA d x1 61 (fun _ => 0), cA d y1 1000 (fun _ => 0), cA d z1 1000 (fun _ => 0), cO n2 2 [.ref x2, .ref y2, .ref z2, .int 0], cA d x2 2000 (fun _ => 0), cA d y2 2000 (fun _ => 0), cA d z2 2000 (fun _ => 0), cO n3 2 [.ref x3, .ref y3, .ref z3, .int 0], cA d x3 2000 (fun _ => 0), cA d y3 2000 (fun _ => 0), cA d z3 2000 (fun _ => 0), cO n4 2 [.ref x4, .ref y4, .ref z4, .int 0], cA d x4 2000 (fun _ => 0), cA d y4 2000 (fun _ => 0), cA d z4 2000 (fun _ => 0), cA d ct 61 (fun _ => 0), cA d xx 60 (fun _ => 0), cA d yy 60 (fun _ => 0)] H locs := hw
  refine f_X1_39 C hnm hw 0 rfl (Nat.le_of_ble_eq_true rfl) dX1_init_80 (fun H locs hw => ?_)
  have hw : Wd D A s.heap [cO o 0 [.int 0, .ref n0, .ref n1, .ref n2, .ref n3, .ref n4, .ref ct, .ref xx, .ref yy, .null], cO n0 1 [.ref x0, .ref y0, .ref z0, .int 0, .int 0], cA d x0 61 (fun _ => 0), cA d y0 1000 (fun _ => 0), cA d z0 1000 (fun _ => 0), cO n1 1 [.ref x1, .ref y1, .ref z1, .int 0, .int 0], cA d x1 61 (fun _ => 0), cA d y1 1000 (fun _ => 0), cA d z1 1000 (fun _ => 0), cO n2 2 [.ref x2, .ref y2, .ref z2, .int 0], cA d x2 2000 (fun _ => 0), cA d y2 2000 (fun _ => 0), cA d z2 2000 (fun _ => 0), cO n3 2 [.ref x3, .ref y3, .ref z3, .int 0], cA d x3 2000 (fun _ => 0), cA d y3 2000 (fun _ => 0), cA d z3 2000 (fun _ => 0), cO n4 2 [.ref x4, .ref y4, .ref z4, .int 0], cA d x4 2000 (fun _ => 0), cA d y4 2000 (fun _ => 0), cA d z4 2000 (fun _ => 0), cA d ct 61 (fun _ => 0), cA d xx 60 (fun _ => 0), cA d yy 60 (fun _ => 0)] H locs := hw
  refine lv_aload_n hx hb dX1_init_83 rfl (lv_at hl 0 rfl) ?_
  refine lv_bipush (v := nI 60) hx hb dX1_init_84 (by decide) ?_
  refine w_newa (N := 60) C hw hA (Nat.le_of_ble_eq_true rfl) (Nat.le_of_ble_eq_true rfl) (by decide) (by decide) dX1_init_86 (fun sm H hw => ?_)
  have hw : Wd D A s.heap [cO o 0 [.int 0, .ref n0, .ref n1, .ref n2, .ref n3, .ref n4, .ref ct, .ref xx, .ref yy, .null], cO n0 1 [.ref x0, .ref y0, .ref z0, .int 0, .int 0], cA d x0 61 (fun _ => 0), cA d y0 1000 (fun _ => 0), cA d z0 1000 (fun _ => 0), cO n1 1 [.ref x1, .ref y1, .ref z1, .int 0, .int 0], cA d x1 61 (fun _ => 0), cA d y1 1000 (fun _ => 0), cA d z1 1000 (fun _ => 0), cO n2 2 [.ref x2, .ref y2, .ref z2, .int 0], cA d x2 2000 (fun _ => 0), cA d y2 2000 (fun _ => 0), cA d z2 2000 (fun _ => 0), cO n3 2 [.ref x3, .ref y3, .ref z3, .int 0], cA d x3 2000 (fun _ => 0), cA d y3 2000 (fun _ => 0), cA d z3 2000 (fun _ => 0), cO n4 2 [.ref x4, .ref y4, .ref z4, .int 0], cA d x4 2000 (fun _ => 0), cA d y4 2000 (fun _ => 0), cA d z4 2000 (fun _ => 0), cA d ct 61 (fun _ => 0), cA d xx 60 (fun _ => 0), cA d yy 60 (fun _ => 0), cA d sm 60 (fun _ => 0)] H locs := hw
  refine f_X1_42 C hnm hw 0 rfl (Nat.le_of_ble_eq_true rfl) dX1_init_88 (fun H locs hw => ?_)
  have hw : Wd D A s.heap [cO o 0 [.int 0, .ref n0, .ref n1, .ref n2, .ref n3, .ref n4, .ref ct, .ref xx, .ref yy, .ref sm], cO n0 1 [.ref x0, .ref y0, .ref z0, .int 0, .int 0], cA d x0 61 (fun _ => 0), cA d y0 1000 (fun _ => 0), cA d z0 1000 (fun _ => 0), cO n1 1 [.ref x1, .ref y1, .ref z1, .int 0, .int 0], cA d x1 61 (fun _ => 0), cA d y1 1000 (fun _ => 0), cA d z1 1000 (fun _ => 0), cO n2 2 [.ref x2, .ref y2, .ref z2, .int 0], cA d x2 2000 (fun _ => 0), cA d y2 2000 (fun _ => 0), cA d z2 2000 (fun _ => 0), cO n3 2 [.ref x3, .ref y3, .ref z3, .int 0], cA d x3 2000 (fun _ => 0), cA d y3 2000 (fun _ => 0), cA d z3 2000 (fun _ => 0), cO n4 2 [.ref x4, .ref y4, .ref z4, .int 0], cA d x4 2000 (fun _ => 0), cA d y4 2000 (fun _ => 0), cA d z4 2000 (fun _ => 0), cA d ct 61 (fun _ => 0), cA d xx 60 (fun _ => 0), cA d yy 60 (fun _ => 0), cA d sm 60 (fun _ => 0)] H locs := hw
  refine W.widen (k := 24) (n := 22385) (Nat.le_of_ble_eq_true rfl) (Nat.le_of_ble_eq_true rfl) ?_
  refine lv_aload_n hx hb dX1_init_91 rfl (lv_at hl 0 rfl) ?_
  refine lv_iconst (v := nI 1) hx hb dX1_init_92 (by decide) ?_
  refine lv_sipush (v := nI 1000) hx hb dX1_init_93 (by decide) ?_
  refine lv_iload_n hx hb dX1_init_96 rfl (lv_at hl 3 rfl) ?_
  refine va_mmin hx hb (C.1.2.2.1.trans hl.1.symm) C.1.2.2.2.1 (C.1.2.2.2.2 _ q72) (C.1.2.2.2.2 _ q73) (C.1.2.2.2.2 _ q11) (C.1.2.2.2.2 _ q74) (Nat.le_of_ble_eq_true rfl) (Nat.le_of_ble_eq_true rfl) (Nat.le_of_ble_eq_true rfl) (Nat.le_of_ble_eq_true rfl) dX1_init_97 ?_
  refine va_mmax hx hb (C.1.2.2.1.trans hl.1.symm) C.1.2.2.2.1 (C.1.2.2.2.2 _ q75) (C.1.2.2.2.2 _ q76) (C.1.2.2.2.2 _ q11) (C.1.2.2.2.2 _ q77) (Nat.le_of_ble_eq_true rfl) (Nat.le_of_ble_eq_true rfl) (Nat.le_of_ble_eq_true rfl) (Nat.le_of_ble_eq_true rfl) dX1_init_100 ?_
  refine w_top (y := nI (clN p3 1000)) (cl_rs (by decide) (by decide)) ?_
  refine f_X1_54 C hnm hw 0 rfl (Nat.le_of_ble_eq_true rfl) dX1_init_103 (fun H locs hw => ?_)
  have hw : Wd D A s.heap [cO o 0 [.int (nI (clN p3 1000)), .ref n0, .ref n1, .ref n2, .ref n3, .ref n4, .ref ct, .ref xx, .ref yy, .ref sm], cO n0 1 [.ref x0, .ref y0, .ref z0, .int 0, .int 0], cA d x0 61 (fun _ => 0), cA d y0 1000 (fun _ => 0), cA d z0 1000 (fun _ => 0), cO n1 1 [.ref x1, .ref y1, .ref z1, .int 0, .int 0], cA d x1 61 (fun _ => 0), cA d y1 1000 (fun _ => 0), cA d z1 1000 (fun _ => 0), cO n2 2 [.ref x2, .ref y2, .ref z2, .int 0], cA d x2 2000 (fun _ => 0), cA d y2 2000 (fun _ => 0), cA d z2 2000 (fun _ => 0), cO n3 2 [.ref x3, .ref y3, .ref z3, .int 0], cA d x3 2000 (fun _ => 0), cA d y3 2000 (fun _ => 0), cA d z3 2000 (fun _ => 0), cO n4 2 [.ref x4, .ref y4, .ref z4, .int 0], cA d x4 2000 (fun _ => 0), cA d y4 2000 (fun _ => 0), cA d z4 2000 (fun _ => 0), cA d ct 61 (fun _ => 0), cA d xx 60 (fun _ => 0), cA d yy 60 (fun _ => 0), cA d sm 60 (fun _ => 0)] H locs := hw
  refine lv_aload_n hx hb dX1_init_106 rfl (lv_at hl 0 rfl) ?_
  refine g_X1_12 C hw 0 rfl rfl dX1_init_107 ?_
  refine lv_iconst (v := nI 1) hx hb dX1_init_110 (by decide) ?_
  refine lv_bipush (v := nI 60) hx hb dX1_init_111 (by decide) ?_
  refine lv_iload_n hx hb dX1_init_113 rfl (lv_at hl 1 rfl) ?_
  refine va_mmin hx hb (C.1.2.2.1.trans hl.1.symm) C.1.2.2.2.1 (C.1.2.2.2.2 _ q72) (C.1.2.2.2.2 _ q73) (C.1.2.2.2.2 _ q11) (C.1.2.2.2.2 _ q74) (Nat.le_of_ble_eq_true rfl) (Nat.le_of_ble_eq_true rfl) (Nat.le_of_ble_eq_true rfl) (Nat.le_of_ble_eq_true rfl) dX1_init_114 ?_
  refine va_mmax hx hb (C.1.2.2.1.trans hl.1.symm) C.1.2.2.2.1 (C.1.2.2.2.2 _ q75) (C.1.2.2.2.2 _ q76) (C.1.2.2.2.2 _ q11) (C.1.2.2.2.2 _ q77) (Nat.le_of_ble_eq_true rfl) (Nat.le_of_ble_eq_true rfl) (Nat.le_of_ble_eq_true rfl) (Nat.le_of_ble_eq_true rfl) dX1_init_117 ?_
  refine w_top (y := nI (clN p1 60)) (cl_rs (by decide) (by decide)) ?_
  refine lv_iconst (v := nI 1) hx hb dX1_init_120 (by decide) ?_
  refine lv_bipush (v := nI 60) hx hb dX1_init_121 (by decide) ?_
  refine lv_iload_n hx hb dX1_init_123 rfl (lv_at hl 2 rfl) ?_
  refine va_mmin hx hb (C.1.2.2.1.trans hl.1.symm) C.1.2.2.2.1 (C.1.2.2.2.2 _ q72) (C.1.2.2.2.2 _ q73) (C.1.2.2.2.2 _ q11) (C.1.2.2.2.2 _ q74) (Nat.le_of_ble_eq_true rfl) (Nat.le_of_ble_eq_true rfl) (Nat.le_of_ble_eq_true rfl) (Nat.le_of_ble_eq_true rfl) dX1_init_124 ?_
  refine va_mmax hx hb (C.1.2.2.1.trans hl.1.symm) C.1.2.2.2.1 (C.1.2.2.2.2 _ q75) (C.1.2.2.2.2 _ q76) (C.1.2.2.2.2 _ q11) (C.1.2.2.2.2 _ q77) (Nat.le_of_ble_eq_true rfl) (Nat.le_of_ble_eq_true rfl) (Nat.le_of_ble_eq_true rfl) (Nat.le_of_ble_eq_true rfl) dX1_init_127 ?_
  refine w_top (y := nI (clN p2 60)) (cl_rs (by decide) (by decide)) ?_
  refine c_wVv (As := [.int (nI (clN p1 60)), .int (nI (clN p2 60))]) (rest := []) C hw [1, 2] (met_be l D d (nI (clN p1 60)) (nI (clN p2 60))) (by decide) rfl (fun _ => rfl) (cwV 2 C.1.2.2.2.2 (lw_V q78 q79 q80 q9 q81) rfl rfl rfl (by decide +kernel) ⟨Nat.le_of_ble_eq_true rfl, Nat.le_of_ble_eq_true rfl⟩) (va_recv C.2.1.1 hw.1 (ci := 1) (q0 := 1) rfl rfl) rfl hl.1 rfl (Nat.le_of_ble_eq_true rfl) dX1_init_130 ⟨Nat.le_of_ble_eq_true rfl, Nat.le_of_ble_eq_true rfl⟩ (fun st H locs hbe hw => ?_)
  have hw : Wd D A s.heap [cO o 0 [.int (nI (clN p3 1000)), .ref n0, .ref n1, .ref n2, .ref n3, .ref n4, .ref ct, .ref xx, .ref yy, .ref sm], cO n0 1 [.ref x0, .ref y0, .ref z0, .int (nI (clN p1 60)), .int (nI (clN p2 60))], cA d x0 61 st, cA d y0 1000 (fun _ => 0), cA d z0 1000 (fun _ => 0), cO n1 1 [.ref x1, .ref y1, .ref z1, .int 0, .int 0], cA d x1 61 (fun _ => 0), cA d y1 1000 (fun _ => 0), cA d z1 1000 (fun _ => 0), cO n2 2 [.ref x2, .ref y2, .ref z2, .int 0], cA d x2 2000 (fun _ => 0), cA d y2 2000 (fun _ => 0), cA d z2 2000 (fun _ => 0), cO n3 2 [.ref x3, .ref y3, .ref z3, .int 0], cA d x3 2000 (fun _ => 0), cA d y3 2000 (fun _ => 0), cA d z3 2000 (fun _ => 0), cO n4 2 [.ref x4, .ref y4, .ref z4, .int 0], cA d x4 2000 (fun _ => 0), cA d y4 2000 (fun _ => 0), cA d z4 2000 (fun _ => 0), cA d ct 61 (fun _ => 0), cA d xx 60 (fun _ => 0), cA d yy 60 (fun _ => 0), cA d sm 60 (fun _ => 0)] H locs := hw
  refine mu_vret (Y := fun _ h => RSok D d A o (clN p1 60) (clN p2 60) (clN p3 1000) (fun _ _ => 0) [] (fun _ => 0) (fun _ => 0) h) C hw.2.2 () trivial ?_ dX1_init_133
  exact rs_mk (P := []) hw.1 hw.2.1 ⟨⟨r1, r2, r3, r4, r5, r6⟩, csr_0 r2 hbe, by rw [of_0]; omega, Nat.zero_le _, hd_nil, fun e he => absurd he List.not_mem_nil, fun _ _ => rfl, fun _ _ => rfl⟩

set_option maxHeartbeats 4000000 in
set_option maxRecDepth 100000 in
/-- RowSparseModel(rows, cols, cap) -/
theorem met_X4_init (l : Launch) (D : va_G) (d : ClassId) {o : Nat} (sz : Nat) (p1 p2 p3 : Int32) : Met l yX4_init (ws_ yX4_init cX4_init 4 none) ({ frames := 1, cells := 5, slots := 10920, locals := 21 } : Room) (pc_ [.ref o, .int p1, .int p2, .int p3] D d (xn D [cO o 3 [.int 0, .int 0, .int 0, .int 0, .null, .null, .null, .null, .null]] sz)) (va_Qv (fun (_ : Unit) => True) (fun _ t9 => MOok D d (va_A [cO o 3 [.int 0, .int 0, .int 0, .int 0, .null, .null, .null, .null, .null]] sz) o (clN p1 60) (clN p2 60) (clN p3 1000) (fun _ _ => 0) [] (fun _ => 0) (fun _ => 0) t9.heap) (va_A [cO o 3 [.int 0, .int 0, .int 0, .int 0, .null, .null, .null, .null, .null]] sz)) 5 10920 (va_A [cO o 3 [.int 0, .int 0, .int 0, .int 0, .null, .null, .null, .null, .null]] sz) := by
  refine mt_ofW (own := RX4) rfl (by decide) (Nat.le_of_ble_eq_true rfl) (fun p e s m below meth c C hnm hX ls hl => ?_)
  obtain ⟨hx, hb, -⟩ := C.1
  have hl : lv_has ls 4 [(0, .ref o), (1, .int p1), (2, .int p2), (3, .int p3)] := hl
  obtain ⟨hsz, hP, hD0⟩ := hX
  subst hsz
  have hw : Wd D (va_A [cO o 3 [.int 0, .int 0, .int 0, .int 0, .null, .null, .null, .null, .null]] s.heap.size) s.heap [cO o 3 [.int 0, .int 0, .int 0, .int 0, .null, .null, .null, .null, .null]] s.heap [] := ⟨hP, hD0.self, va_S.rf⟩
  have hA : ∀ q, s.heap.size ≤ q → va_A [cO o 3 [.int 0, .int 0, .int 0, .int 0, .null, .null, .null, .null, .null]] s.heap.size q := fun q h => Or.inr h
  generalize va_A [cO o 3 [.int 0, .int 0, .int 0, .int 0, .null, .null, .null, .null, .null]] s.heap.size = A at hw hA ⊢
  have hnm : meth.name = "<init>" := hnm
  obtain ⟨r1, r2⟩ := clN_rng (v := p1) (m := 60) (by decide)
  obtain ⟨r3, r4⟩ := clN_rng (v := p2) (m := 60) (by decide)
  obtain ⟨r5, r6⟩ := clN_rng (v := p3) (m := 1000) (by decide)
  refine lv_aload_n hx hb dX4_init_0 rfl (lv_at hl 0 rfl) ?_
  refine W.objInit hx hb C.1.2.2.2.1 (C.1.2.2.2.2 _ q204) (C.1.2.2.2.2 _ q19) (C.1.2.2.2.2 _ q20) rfl (by rw [C.1.2.2.1]; exact hl.1) rfl dX4_init_1 (Nat.le_of_ble_eq_true rfl) (Nat.le_of_ble_eq_true rfl) ?_
  refine W.eq (g2 := F0 m 4 ls []) rfl ?_
  refine lv_aload_n hx hb dX4_init_4 rfl (lv_at hl 0 rfl) ?_
  refine lv_sipush (v := nI 3600) hx hb dX4_init_5 (by decide) ?_
  refine w_newa (N := 3600) C hw hA (Nat.le_of_ble_eq_true rfl) (Nat.le_of_ble_eq_true rfl) (by decide) (by decide) dX4_init_8 (fun b1 H hw => ?_)
  have hw : Wd D A s.heap [cO o 3 [.int 0, .int 0, .int 0, .int 0, .null, .null, .null, .null, .null], cA d b1 3600 (fun _ => 0)] H _ := hw
  refine p_X4_7 C hw 0 rfl (Nat.le_of_ble_eq_true rfl) dX4_init_10 (fun H locs hw => ?_)
  have hw : Wd D A s.heap [cO o 3 [.int 0, .int 0, .int 0, .int 0, .ref b1, .null, .null, .null, .null], cA d b1 3600 (fun _ => 0)] H locs := hw
  refine lv_aload_n hx hb dX4_init_13 rfl (lv_at hl 0 rfl) ?_
  refine lv_sipush (v := nI 3600) hx hb dX4_init_14 (by decide) ?_
  refine w_newa (N := 3600) C hw hA (Nat.le_of_ble_eq_true rfl) (Nat.le_of_ble_eq_true rfl) (by decide) (by decide) dX4_init_17 (fun b2 H hw => ?_)
  have hw : Wd D A s.heap [cO o 3 [.int 0, .int 0, .int 0, .int 0, .ref b1, .null, .null, .null, .null], cA d b1 3600 (fun _ => 0), cA d b2 3600 (fun _ => 0)] H locs := hw
  refine p_X4_13 C hw 0 rfl (Nat.le_of_ble_eq_true rfl) dX4_init_19 (fun H locs hw => ?_)
  have hw : Wd D A s.heap [cO o 3 [.int 0, .int 0, .int 0, .int 0, .ref b1, .ref b2, .null, .null, .null], cA d b1 3600 (fun _ => 0), cA d b2 3600 (fun _ => 0)] H locs := hw
  refine lv_aload_n hx hb dX4_init_22 rfl (lv_at hl 0 rfl) ?_
  refine lv_sipush (v := nI 3600) hx hb dX4_init_23 (by decide) ?_
  refine w_newa (N := 3600) C hw hA (Nat.le_of_ble_eq_true rfl) (Nat.le_of_ble_eq_true rfl) (by decide) (by decide) dX4_init_26 (fun b3 H hw => ?_)
  have hw : Wd D A s.heap [cO o 3 [.int 0, .int 0, .int 0, .int 0, .ref b1, .ref b2, .null, .null, .null], cA d b1 3600 (fun _ => 0), cA d b2 3600 (fun _ => 0), cA d b3 3600 (fun _ => 0)] H locs := hw
  refine f_X4_16 C hnm hw 0 rfl (Nat.le_of_ble_eq_true rfl) dX4_init_28 (fun H locs hw => ?_)
  have hw : Wd D A s.heap [cO o 3 [.int 0, .int 0, .int 0, .int 0, .ref b1, .ref b2, .ref b3, .null, .null], cA d b1 3600 (fun _ => 0), cA d b2 3600 (fun _ => 0), cA d b3 3600 (fun _ => 0)] H locs := hw
  refine lv_aload_n hx hb dX4_init_31 rfl (lv_at hl 0 rfl) ?_
  refine lv_bipush (v := nI 60) hx hb dX4_init_32 (by decide) ?_
  refine w_newa (N := 60) C hw hA (Nat.le_of_ble_eq_true rfl) (Nat.le_of_ble_eq_true rfl) (by decide) (by decide) dX4_init_34 (fun b4 H hw => ?_)
  have hw : Wd D A s.heap [cO o 3 [.int 0, .int 0, .int 0, .int 0, .ref b1, .ref b2, .ref b3, .null, .null], cA d b1 3600 (fun _ => 0), cA d b2 3600 (fun _ => 0), cA d b3 3600 (fun _ => 0), cA d b4 60 (fun _ => 0)] H locs := hw
  refine f_X4_19 C hnm hw 0 rfl (Nat.le_of_ble_eq_true rfl) dX4_init_36 (fun H locs hw => ?_)
  have hw : Wd D A s.heap [cO o 3 [.int 0, .int 0, .int 0, .int 0, .ref b1, .ref b2, .ref b3, .ref b4, .null], cA d b1 3600 (fun _ => 0), cA d b2 3600 (fun _ => 0), cA d b3 3600 (fun _ => 0), cA d b4 60 (fun _ => 0)] H locs := hw
  refine lv_aload_n hx hb dX4_init_39 rfl (lv_at hl 0 rfl) ?_
  refine lv_bipush (v := nI 60) hx hb dX4_init_40 (by decide) ?_
  refine w_newa (N := 60) C hw hA (Nat.le_of_ble_eq_true rfl) (Nat.le_of_ble_eq_true rfl) (by decide) (by decide) dX4_init_42 (fun b5 H hw => ?_)
  have hw : Wd D A s.heap [cO o 3 [.int 0, .int 0, .int 0, .int 0, .ref b1, .ref b2, .ref b3, .ref b4, .null], cA d b1 3600 (fun _ => 0), cA d b2 3600 (fun _ => 0), cA d b3 3600 (fun _ => 0), cA d b4 60 (fun _ => 0), cA d b5 60 (fun _ => 0)] H locs := hw
  refine f_X4_22 C hnm hw 0 rfl (Nat.le_of_ble_eq_true rfl) dX4_init_44 (fun H locs hw => ?_)
  have hw : Wd D A s.heap [cO o 3 [.int 0, .int 0, .int 0, .int 0, .ref b1, .ref b2, .ref b3, .ref b4, .ref b5], cA d b1 3600 (fun _ => 0), cA d b2 3600 (fun _ => 0), cA d b3 3600 (fun _ => 0), cA d b4 60 (fun _ => 0), cA d b5 60 (fun _ => 0)] H locs := hw
  refine W.widen (k := 5) (n := 10920) (Nat.le_of_ble_eq_true rfl) (Nat.le_of_ble_eq_true rfl) ?_
  refine lv_aload_n hx hb dX4_init_47 rfl (lv_at hl 0 rfl) ?_
  refine lv_iload_n hx hb dX4_init_48 rfl (lv_at hl 1 rfl) ?_
  refine lv_bipush (v := nI 60) hx hb dX4_init_49 (by decide) ?_
  refine c_rdS (As := [.int p1, .int (nI 60)]) (rest := [.ref o]) C (met_within l D d p1 (nI 60)) (va_cwS 2 C.1.2.2.2.2 (lw_S q205 q206 q12 q207) rfl rfl rfl (by decide +kernel) ⟨Nat.le_of_ble_eq_true rfl, Nat.le_of_ble_eq_true rfl⟩) (trivial) rfl hl.1 rfl (Nat.le_of_ble_eq_true rfl) dX4_init_51 ⟨Nat.le_of_ble_eq_true rfl, Nat.le_of_ble_eq_true rfl⟩ (fun r hr => ?_)
  refine w_top (y := nI (clN p1 60)) (hr.trans (cl_mo (by decide) (by decide))) ?_
  refine p_X4_29 C hw 0 rfl (Nat.le_of_ble_eq_true rfl) dX4_init_54 (fun H locs hw => ?_)
  have hw : Wd D A s.heap [cO o 3 [.int 0, .int (nI (clN p1 60)), .int 0, .int 0, .ref b1, .ref b2, .ref b3, .ref b4, .ref b5], cA d b1 3600 (fun _ => 0), cA d b2 3600 (fun _ => 0), cA d b3 3600 (fun _ => 0), cA d b4 60 (fun _ => 0), cA d b5 60 (fun _ => 0)] H locs := hw
  refine lv_aload_n hx hb dX4_init_57 rfl (lv_at hl 0 rfl) ?_
  refine lv_iload_n hx hb dX4_init_58 rfl (lv_at hl 2 rfl) ?_
  refine lv_bipush (v := nI 60) hx hb dX4_init_59 (by decide) ?_
  refine c_rdS (As := [.int p2, .int (nI 60)]) (rest := [.ref o]) C (met_within l D d p2 (nI 60)) (va_cwS 2 C.1.2.2.2.2 (lw_S q205 q206 q12 q207) rfl rfl rfl (by decide +kernel) ⟨Nat.le_of_ble_eq_true rfl, Nat.le_of_ble_eq_true rfl⟩) (trivial) rfl hl.1 rfl (Nat.le_of_ble_eq_true rfl) dX4_init_61 ⟨Nat.le_of_ble_eq_true rfl, Nat.le_of_ble_eq_true rfl⟩ (fun r hr => ?_)
  refine w_top (y := nI (clN p2 60)) (hr.trans (cl_mo (by decide) (by decide))) ?_
  refine p_X4_33 C hw 0 rfl (Nat.le_of_ble_eq_true rfl) dX4_init_64 (fun H locs hw => ?_)
  have hw : Wd D A s.heap [cO o 3 [.int 0, .int (nI (clN p1 60)), .int (nI (clN p2 60)), .int 0, .ref b1, .ref b2, .ref b3, .ref b4, .ref b5], cA d b1 3600 (fun _ => 0), cA d b2 3600 (fun _ => 0), cA d b3 3600 (fun _ => 0), cA d b4 60 (fun _ => 0), cA d b5 60 (fun _ => 0)] H locs := hw
  refine lv_aload_n hx hb dX4_init_67 rfl (lv_at hl 0 rfl) ?_
  refine lv_iload_n hx hb dX4_init_68 rfl (lv_at hl 3 rfl) ?_
  refine lv_sipush (v := nI 1000) hx hb dX4_init_69 (by decide) ?_
  refine c_rdS (As := [.int p3, .int (nI 1000)]) (rest := [.ref o]) C (met_within l D d p3 (nI 1000)) (va_cwS 2 C.1.2.2.2.2 (lw_S q205 q206 q12 q207) rfl rfl rfl (by decide +kernel) ⟨Nat.le_of_ble_eq_true rfl, Nat.le_of_ble_eq_true rfl⟩) (trivial) rfl hl.1 rfl (Nat.le_of_ble_eq_true rfl) dX4_init_72 ⟨Nat.le_of_ble_eq_true rfl, Nat.le_of_ble_eq_true rfl⟩ (fun r hr => ?_)
  refine w_top (y := nI (clN p3 1000)) (hr.trans (cl_mo (by decide) (by decide))) ?_
  refine f_X4_36 C hnm hw 0 rfl (Nat.le_of_ble_eq_true rfl) dX4_init_75 (fun H locs hw => ?_)
  have hw : Wd D A s.heap [cO o 3 [.int (nI (clN p3 1000)), .int (nI (clN p1 60)), .int (nI (clN p2 60)), .int 0, .ref b1, .ref b2, .ref b3, .ref b4, .ref b5], cA d b1 3600 (fun _ => 0), cA d b2 3600 (fun _ => 0), cA d b3 3600 (fun _ => 0), cA d b4 60 (fun _ => 0), cA d b5 60 (fun _ => 0)] H locs := hw
  refine mu_vret (Y := fun _ h => MOok D d A o (clN p1 60) (clN p2 60) (clN p3 1000) (fun _ _ => 0) [] (fun _ => 0) (fun _ => 0) h) C hw.2.2 () trivial ?_ dX4_init_78
  exact mo_mk (P := []) hw.1 hw.2.1 ⟨⟨r1, r2, r3, r4, r5, r6⟩, fun _ _ _ _ => rfl, Nat.zero_le _, fun _ _ _ _ => rfl, fun _ _ => rfl, fun _ _ => rfl, by rw [of_0]; omega⟩
end
section
/-! the law: its script, its start, its loop (walks printed by gen/law.py) -/
set_option maxRecDepth 100000
section LA
variable {p : Program} {l : Launch} {e : Env} {R : Room} {s : State} {m : MethodId} {args : Array Value} {below : List Frame} {meth : Method} {c : Code} {H : Heap} {locs : List Loc} {cells slots : Nat} {Q : State → Prop}
variable {cc : ByteArray} {pc : Nat} {ls : Array Slot} {rest : List Value} {A : Nat → Prop} {H0 : Heap}
theorem w_sld (hexec : p.tables.exec = Jvm.exec) (hb : c.code = cc) {b L : Nat} {xs : Nat → Int32} (hX : va_X b L xs s H0) (hbl : b < H0.size) (hbA : ¬ A b) (hS : va_S A H0 H locs) {j : Nat} (hj : j < L) (hL : L < 2 ^ 31) (hdg : decode cc pc = .ok (.iaload, 1))
    (kk : W p l e R s m args below meth c H locs cells slots Q (F0 m (pc + 1) ls (.int (xs j) :: rest))) : W p l e R s m args below meth c H locs cells slots Q (F0 m pc ls (.int (nI j) :: .ref b :: rest)) := by
  refine va_sld hexec hb hX hbl hbA hS (vp_in_nI hj hL) hdg ?_
  rw [nI_clamp (by omega)]
  exact kk
theorem w_slen (hexec : p.tables.exec = Jvm.exec) (hb : c.code = cc) {b L : Nat} {xs : Nat → Int32} (hX : va_X b L xs s H0) (hbl : b < H0.size) (hbA : ¬ A b) (hS : va_S A H0 H locs) (hdg : decode cc pc = .ok (.arraylength, 1))
    (kk : W p l e R s m args below meth c H locs cells slots Q (F0 m (pc + 1) ls (.int (nI L) :: rest))) : W p l e R s m args below meth c H locs cells slots Q (F0 m pc ls (.ref b :: rest)) := va_slen hexec hb hX hbl hbA hS hdg kk
end LA
theorem law_gt {L i : Nat} (hL : L ≤ 259) (hi : i ≤ 1000) : nI L - nI 4 < nI i ↔ L < i + 4 := by
  rw [Int32.lt_iff_toInt_lt, pk_sub_toInt (by omega) (by omega), nI_toInt (by omega)]
  omega
theorem X_lt {b L : Nat} {xs : Nat → Int32} {U : State} {H : Heap} (h : va_X b L xs U H) : b < H.size := by
  obtain ⟨scr, h1, -⟩ := h
  exact (Array.getElem?_eq_some_iff.mp h1).1
/-- the script's int, or 0 -/
abbrev sc_ (xs : Nat → Int32) (L k : Nat) : Int32 := if k < L then xs k else 0
set_option maxHeartbeats 4000000 in
set_option maxRecDepth 100000 in
/-- cell(s, k) -/
theorem met_cell (l : Launch) {b L : Nat} {xs : Nat → Int32} (k : Nat) (hL : L ≤ 259) (hk : k ≤ 3) : Met l yX0_cell (ws_ yX0_cell cX0_cell 2 (some .int)) ({ frames := 0, cells := 0, slots := 0, locals := 0 } : Room) (va_Pc [.ref b, .int (nI k)] (fun U => va_X b L xs U U.heap)) (vp_Si (fun v => v = sc_ xs L k)) 0 0 (fun _ => False) := by
  refine Met.ofW (cc := cX0_cell) (maxL := 2) (ret := some .int) (by decide) rfl ?_
  intro p e s m args below meth c s₁ B hml hv
  obtain ⟨rfl, hX⟩ := hv
  have hx := B.exec
  have hb := B.bytes
  have hr := B.returns
  have hlocks := B.notSynchronized
  have hbl := X_lt hX
  have hbA : ¬ (fun _ : Nat => False) b := fun z => z
  have hS : va_S (fun _ : Nat => False) s.heap s.heap [] := va_S.rf
  have hl := lv_entry ([.ref b, .int (nI k)]) (n := 2) (Nat.le_of_ble_eq_true rfl)
  rw [lg_entry_eq]
  generalize (lg_sl ([.ref b, .int (nI k)]) ++ List.replicate (2 - (lg_sl ([.ref b, .int (nI k)])).length) Slot.unset).toArray = ls at hl ⊢
  have hl : lv_has ls 2 [(0, .ref b), (1, .int (nI k))] := hl
  refine lv_iload_n hx hb dX0_cell_0 rfl (lv_at hl 1 rfl) ?_
  refine lv_aload_n hx hb dX0_cell_1 rfl (lv_at hl 0 rfl) ?_
  refine w_slen hx hb hX hbl hbA hS dX0_cell_2 ?_
  refine lv_icmp_ge (tgt := 12) hx hb dX0_cell_3 (by decide) (fun c1 => ?_) (fun c1 => ?_)
  · have c1 := (nI_leI (by omega) (by omega)).mp c1
    refine lv_iconst (v := 0) hx hb dX0_cell_12 (by decide) ?_
    exact W.iret hx hb hr (fun t ht _ => ⟨0, rfl, by rw [sc_, if_neg (by omega)], ht⟩) (fun q hq => by cases hq) dX0_cell_13
  · have c1 : k < L := Nat.lt_of_not_le fun q => c1 ((nI_leI (by omega) (by omega)).mpr q)
    refine lv_aload_n hx hb dX0_cell_6 rfl (lv_at hl 0 rfl) ?_
    refine lv_iload_n hx hb dX0_cell_7 rfl (lv_at hl 1 rfl) ?_
    refine w_sld hx hb hX hbl hbA hS c1 (by omega) dX0_cell_8 ?_
    refine lv_goto (tgt := 13) hx hb dX0_cell_9 (by decide) ?_
    exact W.iret hx hb hr (fun t ht _ => ⟨_, rfl, by rw [sc_, if_pos c1], ht⟩) (fun q hq => by cases hq) dX0_cell_13
/-! THE CLAIM OUT OF ONE WALK OF THE LAW'S BODY. Your part is whole_start (and what it stands on); all else here is the same for every law, but numbers. -/
def R_law : String := "RowSparseLaw"
def lw_P (b : Addr) (xs : List Int32) (args : Array Value) (s : State) : Prop := args = #[.ref b] ∧ s.IntsAt b xs ∧ xs.length ≤ 259 ∧ (Jvm.Cond.and given_1 narrow_1).before args s = true
def lw_Q (_ : Array Value) (s : State) (o : Outcome) (t : State) : Prop := o = .returned (some (.int 1)) ∧ Framed s o t [] 600000 7290000
def lw_Z (below : List Frame) (a : Array Value) (s : State) : State → Prop := fun t => ∃ o, t.status = .running ∧ Ended t below o ∧ lw_Q a s o t
/-- the law's own end, with 1 on the stack, nothing written that was there before, its room as the claim has it -/
theorem lw_ret {p : Program} {l : Launch} {e : Env} {s : State} {m : MethodId} {below : List Frame} {meth : Method} {c : Code} {b : Nat} (hx : p.tables.exec = Jvm.exec) (hb : c.code = code) (hr : meth.sig.returnType = ret) (hlocks : meth.locks = false) {pc : Nat} {H : Heap} {ls : Array Slot} (hdg : decode code pc = .ok (.ireturn, 1)) : W p l e room_1 s m #[Value.ref b] below meth c H [] 600000 7290000 (lw_Z below #[Value.ref b] s) (F0 m pc ls [.int 1]) := by
  intro T hT X
  obtain ⟨fs, hret, hrun, hended, hW, hframe⟩ := X.leave (v := some (.int 1)) (hlocks := hlocks) (fun h => by rw [hr] at h; cases h)
  have hmeth' : T.vm.method? m = some meth := X.method'
  refine ⟨T.setFrames fs, ?_, .returned (some (.int 1)), hrun, hended, rfl, ⟨_, rfl⟩, hW, hframe⟩
  jvm_step X.here [X.here.top, hx, hb, hdg, hmeth', hr, ret, narrow_b1]
  (try refine ⟨rfl, ?_⟩); (try refine ⟨rfl, ?_⟩)
  first | (intro acts; rw [hret _ acts rfl rfl rfl]) | rw [hret _ _ rfl rfl rfl]
  exact Steps.refl _
/-- what holds at the law's entry: the machine, the code, the tables' words (any of lw_tbl by 'hts w (by decide +kernel)'), the script of L ints xs at the cell b, what the Statement gives of the start (any of its parts by flat_of_before) -/
def lw_At (p : Program) (s : State) (m : MethodId) (meth : Method) (c : Code) (b L : Nat) (xs : Nat → Int32) : Prop :=
  p.tables.exec = Jvm.exec ∧ c.code = code ∧ meth.sig.returnType = ret ∧ c.maxLocals = 4 ∧ s.vm.findClass R_law = some m.cls ∧ (∀ w ∈ lw_tbl, w.before #[Value.ref b] s = true) ∧ va_X b L xs s s.heap ∧ b < s.heap.size ∧ meth.locks = false ∧ (Jvm.Cond.and given_1 narrow_1).before #[Value.ref b] s = true

set_option maxHeartbeats 4000000 in
set_option maxRecDepth 100000 in
/-- the law's loop at its head: both objects hold one state -/
theorem law_loop {p : Program} {l : Launch} {e : Env} {s : State} {m : MethodId} {below : List Frame} {meth : Method} {c : Code} {D : va_G} {d : ClassId} {A Z1 Z2 : Nat → Prop} {b L o1 o2 : Nat} {xs : Nat → Int32} (hL : L ≤ 259) (C : Cx p s m #[Value.ref b] meth c code 4 RX0 ret D d) (hX : va_X b L xs s s.heap) (hbl : b < s.heap.size) (hbA : ¬ A b) (hAs : ∀ q, A q → s.heap.size ≤ q) (hZ1 : ∀ q, Z1 q → A q) (hZ2 : ∀ q, Z2 q → A q) (hZd : ∀ q, Z1 q → Z2 q → False) :
    ∀ (n i : Nat) (nr nc cp : Nat) (T : Nat → Nat → Int32) (P : List Tr) (x y : Nat → Int32) (H : Heap) (locs : List Loc) (ls : Array Slot), i ≤ 700 → L < i + n → RSok D d Z1 o1 nr nc cp T P x y H → MOok D d Z2 o2 nr nc cp T P x y H → va_S A s.heap H locs → lv_has ls 4 [(0, .ref b), (1, .ref o1), (2, .ref o2), (3, .int (nI i))] → W p l e room_1 s m #[Value.ref b] below meth c H locs 31 33324 (lw_Z below #[Value.ref b] s) (F0 m 48 ls []) := by
  obtain ⟨hx, hb, -⟩ := C.1
  intro n
  induction n with
  | zero =>
    intro i nr nc cp T P x y H locs ls h1 h2 hRS hMO hS hl
    refine lv_iload_n hx hb dL_law_48 rfl (lv_at hl 3 rfl) ?_
    refine lv_aload_n hx hb dL_law_49 rfl (lv_at hl 0 rfl) ?_
    refine w_slen hx hb hX hbl hbA hS dL_law_50 ?_
    refine lv_iconst (v := nI 4) hx hb dL_law_51 (by decide) ?_
    refine lv_isub hx hb dL_law_52 ?_
    refine lv_icmp_gt (tgt := 396) hx hb dL_law_53 (by decide) (fun c1 => ?_) (fun c1 => ?_)
    · refine lv_iconst (v := 1) hx hb dL_law_396 (by decide) ?_
      refine va_forget (fun q hq => hAs _ (hS.2.2 q hq)) ?_
      refine W.widen (k := 600000) (n := 7290000) (Nat.le_of_ble_eq_true rfl) (Nat.le_of_ble_eq_true rfl) ?_
      exact lw_ret hx hb C.2.2.1 C.2.2.2 dL_law_397
    · exact absurd ((law_gt hL (by omega)).mpr (by omega)) c1
  | succ n ih =>
    intro i nr nc cp T P x y H locs ls h1 h2 hRS hMO hS hl
    refine lv_iload_n hx hb dL_law_48 rfl (lv_at hl 3 rfl) ?_
    refine lv_aload_n hx hb dL_law_49 rfl (lv_at hl 0 rfl) ?_
    refine w_slen hx hb hX hbl hbA hS dL_law_50 ?_
    refine lv_iconst (v := nI 4) hx hb dL_law_51 (by decide) ?_
    refine lv_isub hx hb dL_law_52 ?_
    refine lv_icmp_gt (tgt := 396) hx hb dL_law_53 (by decide) (fun c1 => ?_) (fun c1 => ?_)
    · refine lv_iconst (v := 1) hx hb dL_law_396 (by decide) ?_
      refine va_forget (fun q hq => hAs _ (hS.2.2 q hq)) ?_
      refine W.widen (k := 600000) (n := 7290000) (Nat.le_of_ble_eq_true rfl) (Nat.le_of_ble_eq_true rfl) ?_
      exact lw_ret hx hb C.2.2.1 C.2.2.2 dL_law_397
    · have c1 : i + 4 ≤ L := Nat.le_of_not_lt fun q => c1 ((law_gt hL (by omega)).mpr q)
      refine lv_aload_n hx hb dL_law_56 rfl (lv_at hl 0 rfl) ?_
      refine lv_iload_n hx hb dL_law_57 rfl (lv_at hl 3 rfl) ?_
      refine w_sld hx hb hX hbl hbA hS (by omega) (by omega) dL_law_58 ?_
      refine lv_bipush (v := nI 15) hx hb dL_law_59 (by decide) ?_
      obtain ⟨j, hj, ej⟩ := pk_andE (xs i) (m := nI 15) 4 (by decide)
      refine lv_iand hx hb dL_law_61 ?_
      refine w_top ej ?_
      have K390 : ∀ (nr nc cp : Nat) (T : Nat → Nat → Int32) (P : List Tr) (x y : Nat → Int32) (H : Heap) (locs : List Loc), RSok D d Z1 o1 nr nc cp T P x y H → MOok D d Z2 o2 nr nc cp T P x y H → va_S A s.heap H locs → W p l e room_1 s m #[Value.ref b] below meth c H locs 31 33324 (lw_Z below #[Value.ref b] s) (F0 m 390 ls []) := by
        intro nr nc cp T P x y H locs hRS hMO hS
        refine lv_iinc (v := nI (i + 4)) (lv' := [(3, .int (nI (i + 4))), (0, .ref b), (1, .ref o1), (2, .ref o2)]) hx hb dL_law_390 hl (k := 3) rfl (nI_add _ _) (by decide) rfl (fun ls hl => ?_)
        refine lv_goto (tgt := 48) hx hb dL_law_393 (by decide) ?_
        exact ih (i + 4) nr nc cp T P x y H locs ls (by omega) (by omega) hRS hMO hS (lv_sub hl [1, 2, 3, 0] rfl)
      rcases (show j = 0 ∨ j = 1 ∨ j = 2 ∨ j = 3 ∨ j = 4 ∨ j = 5 ∨ j = 6 ∨ j = 7 ∨ j = 8 ∨ j = 9 ∨ j = 10 ∨ j = 11 ∨ 12 ≤ j by omega) with rfl | rfl | rfl | rfl | rfl | rfl | rfl | rfl | rfl | rfl | rfl | rfl | hj2
      · refine lv_tableIn (off := 62) (tgt := 124) hx hb dL_law_62 (by decide) (by decide) (by decide) (by decide) ?_
        refine lv_aload_n hx hb dL_law_124 rfl (lv_at hl 1 rfl) ?_
        refine lv_aload_n hx hb dL_law_125 rfl (lv_at hl 0 rfl) ?_
        refine lv_iload_n hx hb dL_law_126 rfl (lv_at hl 3 rfl) ?_
        refine lv_iconst (v := nI 1) hx hb dL_law_127 (by decide) ?_
        refine w_iadd C dL_law_128 ?_
        refine w_sld hx hb hX hbl hbA hS (by omega) (by omega) dL_law_129 ?_
        refine lv_aload_n hx hb dL_law_130 rfl (lv_at hl 0 rfl) ?_
        refine lv_iload_n hx hb dL_law_131 rfl (lv_at hl 3 rfl) ?_
        refine lv_iconst (v := nI 2) hx hb dL_law_132 (by decide) ?_
        refine w_iadd C dL_law_133 ?_
        refine w_sld hx hb hX hbl hbA hS (by omega) (by omega) dL_law_134 ?_
        refine lv_aload_n hx hb dL_law_135 rfl (lv_at hl 0 rfl) ?_
        refine lv_iload_n hx hb dL_law_136 rfl (lv_at hl 3 rfl) ?_
        refine lv_iconst (v := nI 3) hx hb dL_law_137 (by decide) ?_
        refine w_iadd C dL_law_138 ?_
        refine w_sld hx hb hX hbl hbA hS (by omega) (by omega) dL_law_139 ?_
        refine c_muVi (As := [.int (xs (i + 1)), .int (xs (i + 2)), .int (xs (i + 3))]) (rest := []) (Y := fun _ h => RSok D d Z1 o1 nr nc cp T (if inR (xs (i + 1)) nr ∧ inR (xs (i + 2)) nc ∧ P.length ≠ cp then P ++ [(Int32.toNatClampNeg (xs (i + 1)), Int32.toNatClampNeg (xs (i + 2)), (xs (i + 3)))] else P) x y h) C (met_X1_add l D d Z1 (xs (i + 1)) (xs (i + 2)) (xs (i + 3))) (cwV 3 C.1.2.2.2.2 (lw_V q113 q114 q115 q8 q116) rfl rfl rfl (by decide +kernel) ⟨Nat.le_of_ble_eq_true rfl, Nat.le_of_ble_eq_true rfl⟩) (hRS.recv C.2.1) hRS hS hZ1 rfl hl.1 rfl (Nat.le_of_ble_eq_true rfl) dL_law_140 ⟨Nat.le_of_ble_eq_true rfl, Nat.le_of_ble_eq_true rfl⟩ (fun r1 _ H1 locs hr1 hRS9 _ hk9 hS => ?_)
        have hMO9 := hMO.kept (H1 := H1) (fun q hq hlt => hk9 q hlt (fun z => hZd q z hq))
        generalize H1 = H at hRS9 hMO9 hS ⊢
        have hRS := hRS9
        have hMO := hMO9
        refine lv_aload_n hx hb dL_law_143 rfl (lv_at hl 2 rfl) ?_
        refine lv_aload_n hx hb dL_law_144 rfl (lv_at hl 0 rfl) ?_
        refine lv_iload_n hx hb dL_law_145 rfl (lv_at hl 3 rfl) ?_
        refine lv_iconst (v := nI 1) hx hb dL_law_146 (by decide) ?_
        refine w_iadd C dL_law_147 ?_
        refine w_sld hx hb hX hbl hbA hS (by omega) (by omega) dL_law_148 ?_
        refine lv_aload_n hx hb dL_law_149 rfl (lv_at hl 0 rfl) ?_
        refine lv_iload_n hx hb dL_law_150 rfl (lv_at hl 3 rfl) ?_
        refine lv_iconst (v := nI 2) hx hb dL_law_151 (by decide) ?_
        refine w_iadd C dL_law_152 ?_
        refine w_sld hx hb hX hbl hbA hS (by omega) (by omega) dL_law_153 ?_
        refine lv_aload_n hx hb dL_law_154 rfl (lv_at hl 0 rfl) ?_
        refine lv_iload_n hx hb dL_law_155 rfl (lv_at hl 3 rfl) ?_
        refine lv_iconst (v := nI 3) hx hb dL_law_156 (by decide) ?_
        refine w_iadd C dL_law_157 ?_
        refine w_sld hx hb hX hbl hbA hS (by omega) (by omega) dL_law_158 ?_
        refine c_muVi (As := [.int (xs (i + 1)), .int (xs (i + 2)), .int (xs (i + 3))]) (rest := [.int r1]) (Y := fun _ h => MOok D d Z2 o2 nr nc cp T (if inR (xs (i + 1)) nr ∧ inR (xs (i + 2)) nc ∧ P.length ≠ cp then P ++ [(Int32.toNatClampNeg (xs (i + 1)), Int32.toNatClampNeg (xs (i + 2)), (xs (i + 3)))] else P) x y h) C (met_X4_add l D d Z2 (xs (i + 1)) (xs (i + 2)) (xs (i + 3))) (cwV 3 C.1.2.2.2.2 (lw_V q236 q237 q238 q12 q239) rfl rfl rfl (by decide +kernel) ⟨Nat.le_of_ble_eq_true rfl, Nat.le_of_ble_eq_true rfl⟩) (hMO.recv C.2.1) hMO hS hZ2 rfl hl.1 rfl (Nat.le_of_ble_eq_true rfl) dL_law_159 ⟨Nat.le_of_ble_eq_true rfl, Nat.le_of_ble_eq_true rfl⟩ (fun r2 _ H1 locs hr2 hMO9 _ hk9 hS => ?_)
        have hRS9 := hRS.kept (H1 := H1) (fun q hq hlt => hk9 q hlt (fun z => hZd q hq z))
        generalize H1 = H at hRS9 hMO9 hS ⊢
        have hRS := hRS9
        have hMO := hMO9
        refine lv_icmp_eq (tgt := 390) hx hb dL_law_162 (by decide) (fun c2 => ?_) (fun c2 => ?_)
        · exact K390 _ _ _ _ _ _ _ H locs hRS hMO hS
        · exact absurd (hr1.trans hr2.symm) c2
      · refine lv_tableIn (off := 105) (tgt := 167) hx hb dL_law_62 (by decide) (by decide) (by decide) (by decide) ?_
        refine lv_aload_n hx hb dL_law_167 rfl (lv_at hl 1 rfl) ?_
        refine c_muVi (As := []) (rest := []) (Y := fun _ h => RSok D d Z1 o1 nr nc cp (if of_ (bdT T P) nc nr ≤ cp then bdT T P else T) (if of_ (bdT T P) nc nr ≤ cp then [] else P) x y h) C (met_X1_build l D d Z1 ) (cwV 0 C.1.2.2.2.2 (lw_V q124 q125 q126 q8 q127) rfl rfl rfl (by decide +kernel) ⟨Nat.le_of_ble_eq_true rfl, Nat.le_of_ble_eq_true rfl⟩) (hRS.recv C.2.1) hRS hS hZ1 rfl hl.1 rfl (Nat.le_of_ble_eq_true rfl) dL_law_168 ⟨Nat.le_of_ble_eq_true rfl, Nat.le_of_ble_eq_true rfl⟩ (fun r1 _ H1 locs hr1 hRS9 _ hk9 hS => ?_)
        have hMO9 := hMO.kept (H1 := H1) (fun q hq hlt => hk9 q hlt (fun z => hZd q z hq))
        generalize H1 = H at hRS9 hMO9 hS ⊢
        have hRS := hRS9
        have hMO := hMO9
        refine lv_aload_n hx hb dL_law_171 rfl (lv_at hl 2 rfl) ?_
        refine c_muVi (As := []) (rest := [.int r1]) (Y := fun _ h => MOok D d Z2 o2 nr nc cp (if of_ (bdT T P) nc nr ≤ cp then bdT T P else T) (if of_ (bdT T P) nc nr ≤ cp then [] else P) x y h) C (met_X4_build l D d Z2 ) (cwV 0 C.1.2.2.2.2 (lw_V q247 q248 q249 q12 q250) rfl rfl rfl (by decide +kernel) ⟨Nat.le_of_ble_eq_true rfl, Nat.le_of_ble_eq_true rfl⟩) (hMO.recv C.2.1) hMO hS hZ2 rfl hl.1 rfl (Nat.le_of_ble_eq_true rfl) dL_law_172 ⟨Nat.le_of_ble_eq_true rfl, Nat.le_of_ble_eq_true rfl⟩ (fun r2 _ H1 locs hr2 hMO9 _ hk9 hS => ?_)
        have hRS9 := hRS.kept (H1 := H1) (fun q hq hlt => hk9 q hlt (fun z => hZd q hq z))
        generalize H1 = H at hRS9 hMO9 hS ⊢
        have hRS := hRS9
        have hMO := hMO9
        refine lv_icmp_eq (tgt := 390) hx hb dL_law_175 (by decide) (fun c2 => ?_) (fun c2 => ?_)
        · exact K390 _ _ _ _ _ _ _ H locs hRS hMO hS
        · exact absurd (hr1.trans hr2.symm) c2
      · refine lv_tableIn (off := 118) (tgt := 180) hx hb dL_law_62 (by decide) (by decide) (by decide) (by decide) ?_
        refine lv_aload_n hx hb dL_law_180 rfl (lv_at hl 1 rfl) ?_
        refine c_rdV (As := []) (rest := []) C (met_X1_nnz l D d Z1 ) (cwV 0 C.1.2.2.2.2 (lw_V q148 q149 q150 q8 q151) rfl rfl rfl (by decide +kernel) ⟨Nat.le_of_ble_eq_true rfl, Nat.le_of_ble_eq_true rfl⟩) (hRS.recv C.2.1) hRS rfl hl.1 rfl (Nat.le_of_ble_eq_true rfl) dL_law_181 ⟨Nat.le_of_ble_eq_true rfl, Nat.le_of_ble_eq_true rfl⟩ (fun r1 hr1 => ?_)
        refine lv_aload_n hx hb dL_law_184 rfl (lv_at hl 2 rfl) ?_
        refine c_rdV (As := []) (rest := [.int r1]) C (met_X4_nnz l D d Z2 ) (cwV 0 C.1.2.2.2.2 (lw_V q263 q264 q265 q12 q266) rfl rfl rfl (by decide +kernel) ⟨Nat.le_of_ble_eq_true rfl, Nat.le_of_ble_eq_true rfl⟩) (hMO.recv C.2.1) hMO rfl hl.1 rfl (Nat.le_of_ble_eq_true rfl) dL_law_185 ⟨Nat.le_of_ble_eq_true rfl, Nat.le_of_ble_eq_true rfl⟩ (fun r2 hr2 => ?_)
        refine lv_icmp_eq (tgt := 390) hx hb dL_law_188 (by decide) (fun c2 => ?_) (fun c2 => ?_)
        · exact K390 _ _ _ _ _ _ _ H locs hRS hMO hS
        · exact absurd (hr1.trans hr2.symm) c2
      · refine lv_tableIn (off := 131) (tgt := 193) hx hb dL_law_62 (by decide) (by decide) (by decide) (by decide) ?_
        refine lv_aload_n hx hb dL_law_193 rfl (lv_at hl 1 rfl) ?_
        refine lv_aload_n hx hb dL_law_194 rfl (lv_at hl 0 rfl) ?_
        refine lv_iload_n hx hb dL_law_195 rfl (lv_at hl 3 rfl) ?_
        refine lv_iconst (v := nI 1) hx hb dL_law_196 (by decide) ?_
        refine w_iadd C dL_law_197 ?_
        refine w_sld hx hb hX hbl hbA hS (by omega) (by omega) dL_law_198 ?_
        refine lv_aload_n hx hb dL_law_199 rfl (lv_at hl 0 rfl) ?_
        refine lv_iload_n hx hb dL_law_200 rfl (lv_at hl 3 rfl) ?_
        refine lv_iconst (v := nI 2) hx hb dL_law_201 (by decide) ?_
        refine w_iadd C dL_law_202 ?_
        refine w_sld hx hb hX hbl hbA hS (by omega) (by omega) dL_law_203 ?_
        refine c_rdV (As := [.int (xs (i + 1)), .int (xs (i + 2))]) (rest := []) C (met_X1_at l D d Z1 (xs (i + 1)) (xs (i + 2))) (cwV 2 C.1.2.2.2.2 (lw_V q152 q153 q154 q8 q155) rfl rfl rfl (by decide +kernel) ⟨Nat.le_of_ble_eq_true rfl, Nat.le_of_ble_eq_true rfl⟩) (hRS.recv C.2.1) hRS rfl hl.1 rfl (Nat.le_of_ble_eq_true rfl) dL_law_204 ⟨Nat.le_of_ble_eq_true rfl, Nat.le_of_ble_eq_true rfl⟩ (fun r1 hr1 => ?_)
        refine lv_aload_n hx hb dL_law_207 rfl (lv_at hl 2 rfl) ?_
        refine lv_aload_n hx hb dL_law_208 rfl (lv_at hl 0 rfl) ?_
        refine lv_iload_n hx hb dL_law_209 rfl (lv_at hl 3 rfl) ?_
        refine lv_iconst (v := nI 1) hx hb dL_law_210 (by decide) ?_
        refine w_iadd C dL_law_211 ?_
        refine w_sld hx hb hX hbl hbA hS (by omega) (by omega) dL_law_212 ?_
        refine lv_aload_n hx hb dL_law_213 rfl (lv_at hl 0 rfl) ?_
        refine lv_iload_n hx hb dL_law_214 rfl (lv_at hl 3 rfl) ?_
        refine lv_iconst (v := nI 2) hx hb dL_law_215 (by decide) ?_
        refine w_iadd C dL_law_216 ?_
        refine w_sld hx hb hX hbl hbA hS (by omega) (by omega) dL_law_217 ?_
        refine c_rdV (As := [.int (xs (i + 1)), .int (xs (i + 2))]) (rest := [.int r1]) C (met_X4_at l D d Z2 (xs (i + 1)) (xs (i + 2))) (cwV 2 C.1.2.2.2.2 (lw_V q267 q268 q269 q12 q270) rfl rfl rfl (by decide +kernel) ⟨Nat.le_of_ble_eq_true rfl, Nat.le_of_ble_eq_true rfl⟩) (hMO.recv C.2.1) hMO rfl hl.1 rfl (Nat.le_of_ble_eq_true rfl) dL_law_218 ⟨Nat.le_of_ble_eq_true rfl, Nat.le_of_ble_eq_true rfl⟩ (fun r2 hr2 => ?_)
        refine lv_icmp_eq (tgt := 390) hx hb dL_law_221 (by decide) (fun c2 => ?_) (fun c2 => ?_)
        · exact K390 _ _ _ _ _ _ _ H locs hRS hMO hS
        · exact absurd (hr1.trans hr2.symm) c2
      · refine lv_tableIn (off := 164) (tgt := 226) hx hb dL_law_62 (by decide) (by decide) (by decide) (by decide) ?_
        refine lv_aload_n hx hb dL_law_226 rfl (lv_at hl 1 rfl) ?_
        refine lv_aload_n hx hb dL_law_227 rfl (lv_at hl 0 rfl) ?_
        refine lv_iload_n hx hb dL_law_228 rfl (lv_at hl 3 rfl) ?_
        refine lv_iconst (v := nI 1) hx hb dL_law_229 (by decide) ?_
        refine w_iadd C dL_law_230 ?_
        refine w_sld hx hb hX hbl hbA hS (by omega) (by omega) dL_law_231 ?_
        refine c_rdV (As := [.int (xs (i + 1))]) (rest := []) C (met_X1_rowStart l D d Z1 (xs (i + 1))) (cwV 1 C.1.2.2.2.2 (lw_V q160 q161 q162 q8 q163) rfl rfl rfl (by decide +kernel) ⟨Nat.le_of_ble_eq_true rfl, Nat.le_of_ble_eq_true rfl⟩) (hRS.recv C.2.1) hRS rfl hl.1 rfl (Nat.le_of_ble_eq_true rfl) dL_law_232 ⟨Nat.le_of_ble_eq_true rfl, Nat.le_of_ble_eq_true rfl⟩ (fun r1 hr1 => ?_)
        refine lv_aload_n hx hb dL_law_235 rfl (lv_at hl 2 rfl) ?_
        refine lv_aload_n hx hb dL_law_236 rfl (lv_at hl 0 rfl) ?_
        refine lv_iload_n hx hb dL_law_237 rfl (lv_at hl 3 rfl) ?_
        refine lv_iconst (v := nI 1) hx hb dL_law_238 (by decide) ?_
        refine w_iadd C dL_law_239 ?_
        refine w_sld hx hb hX hbl hbA hS (by omega) (by omega) dL_law_240 ?_
        refine c_rdV (As := [.int (xs (i + 1))]) (rest := [.int r1]) C (met_X4_rowStart l D d Z2 (xs (i + 1))) (cwV 1 C.1.2.2.2.2 (lw_V q271 q272 q273 q12 q274) rfl rfl rfl (by decide +kernel) ⟨Nat.le_of_ble_eq_true rfl, Nat.le_of_ble_eq_true rfl⟩) (hMO.recv C.2.1) hMO rfl hl.1 rfl (Nat.le_of_ble_eq_true rfl) dL_law_241 ⟨Nat.le_of_ble_eq_true rfl, Nat.le_of_ble_eq_true rfl⟩ (fun r2 hr2 => ?_)
        refine lv_icmp_eq (tgt := 390) hx hb dL_law_244 (by decide) (fun c2 => ?_) (fun c2 => ?_)
        · exact K390 _ _ _ _ _ _ _ H locs hRS hMO hS
        · exact absurd (hr1.trans hr2.symm) c2
      · refine lv_tableIn (off := 187) (tgt := 249) hx hb dL_law_62 (by decide) (by decide) (by decide) (by decide) ?_
        refine lv_aload_n hx hb dL_law_249 rfl (lv_at hl 1 rfl) ?_
        refine lv_aload_n hx hb dL_law_250 rfl (lv_at hl 0 rfl) ?_
        refine lv_iload_n hx hb dL_law_251 rfl (lv_at hl 3 rfl) ?_
        refine lv_iconst (v := nI 1) hx hb dL_law_252 (by decide) ?_
        refine w_iadd C dL_law_253 ?_
        refine w_sld hx hb hX hbl hbA hS (by omega) (by omega) dL_law_254 ?_
        refine c_rdV (As := [.int (xs (i + 1))]) (rest := []) C (met_X1_colAt l D d Z1 (xs (i + 1))) (cwV 1 C.1.2.2.2.2 (lw_V q164 q165 q166 q8 q167) rfl rfl rfl (by decide +kernel) ⟨Nat.le_of_ble_eq_true rfl, Nat.le_of_ble_eq_true rfl⟩) (hRS.recv C.2.1) hRS rfl hl.1 rfl (Nat.le_of_ble_eq_true rfl) dL_law_255 ⟨Nat.le_of_ble_eq_true rfl, Nat.le_of_ble_eq_true rfl⟩ (fun r1 hr1 => ?_)
        refine lv_aload_n hx hb dL_law_258 rfl (lv_at hl 2 rfl) ?_
        refine lv_aload_n hx hb dL_law_259 rfl (lv_at hl 0 rfl) ?_
        refine lv_iload_n hx hb dL_law_260 rfl (lv_at hl 3 rfl) ?_
        refine lv_iconst (v := nI 1) hx hb dL_law_261 (by decide) ?_
        refine w_iadd C dL_law_262 ?_
        refine w_sld hx hb hX hbl hbA hS (by omega) (by omega) dL_law_263 ?_
        refine c_rdV (As := [.int (xs (i + 1))]) (rest := [.int r1]) C (met_X4_colAt l D d Z2 (xs (i + 1))) (cwV 1 C.1.2.2.2.2 (lw_V q275 q276 q277 q12 q278) rfl rfl rfl (by decide +kernel) ⟨Nat.le_of_ble_eq_true rfl, Nat.le_of_ble_eq_true rfl⟩) (hMO.recv C.2.1) hMO rfl hl.1 rfl (Nat.le_of_ble_eq_true rfl) dL_law_264 ⟨Nat.le_of_ble_eq_true rfl, Nat.le_of_ble_eq_true rfl⟩ (fun r2 hr2 => ?_)
        refine lv_icmp_eq (tgt := 390) hx hb dL_law_267 (by decide) (fun c2 => ?_) (fun c2 => ?_)
        · exact K390 _ _ _ _ _ _ _ H locs hRS hMO hS
        · exact absurd (hr1.eq hr2) c2
      · refine lv_tableIn (off := 210) (tgt := 272) hx hb dL_law_62 (by decide) (by decide) (by decide) (by decide) ?_
        refine lv_aload_n hx hb dL_law_272 rfl (lv_at hl 1 rfl) ?_
        refine lv_aload_n hx hb dL_law_273 rfl (lv_at hl 0 rfl) ?_
        refine lv_iload_n hx hb dL_law_274 rfl (lv_at hl 3 rfl) ?_
        refine lv_iconst (v := nI 1) hx hb dL_law_275 (by decide) ?_
        refine w_iadd C dL_law_276 ?_
        refine w_sld hx hb hX hbl hbA hS (by omega) (by omega) dL_law_277 ?_
        refine lv_aload_n hx hb dL_law_278 rfl (lv_at hl 0 rfl) ?_
        refine lv_iload_n hx hb dL_law_279 rfl (lv_at hl 3 rfl) ?_
        refine lv_iconst (v := nI 2) hx hb dL_law_280 (by decide) ?_
        refine w_iadd C dL_law_281 ?_
        refine w_sld hx hb hX hbl hbA hS (by omega) (by omega) dL_law_282 ?_
        refine c_muVi (As := [.int (xs (i + 1)), .int (xs (i + 2))]) (rest := []) (Y := fun _ h => RSok D d Z1 o1 nr nc cp T P (if inR (xs (i + 1)) nc then upd x (Int32.toNatClampNeg (xs (i + 1))) (xs (i + 2)) else x) y h) C (met_X1_setX l D d Z1 (xs (i + 1)) (xs (i + 2))) (cwV 2 C.1.2.2.2.2 (lw_V q168 q169 q170 q8 q171) rfl rfl rfl (by decide +kernel) ⟨Nat.le_of_ble_eq_true rfl, Nat.le_of_ble_eq_true rfl⟩) (hRS.recv C.2.1) hRS hS hZ1 rfl hl.1 rfl (Nat.le_of_ble_eq_true rfl) dL_law_283 ⟨Nat.le_of_ble_eq_true rfl, Nat.le_of_ble_eq_true rfl⟩ (fun r1 _ H1 locs hr1 hRS9 _ hk9 hS => ?_)
        have hMO9 := hMO.kept (H1 := H1) (fun q hq hlt => hk9 q hlt (fun z => hZd q z hq))
        generalize H1 = H at hRS9 hMO9 hS ⊢
        have hRS := hRS9
        have hMO := hMO9
        refine lv_aload_n hx hb dL_law_286 rfl (lv_at hl 2 rfl) ?_
        refine lv_aload_n hx hb dL_law_287 rfl (lv_at hl 0 rfl) ?_
        refine lv_iload_n hx hb dL_law_288 rfl (lv_at hl 3 rfl) ?_
        refine lv_iconst (v := nI 1) hx hb dL_law_289 (by decide) ?_
        refine w_iadd C dL_law_290 ?_
        refine w_sld hx hb hX hbl hbA hS (by omega) (by omega) dL_law_291 ?_
        refine lv_aload_n hx hb dL_law_292 rfl (lv_at hl 0 rfl) ?_
        refine lv_iload_n hx hb dL_law_293 rfl (lv_at hl 3 rfl) ?_
        refine lv_iconst (v := nI 2) hx hb dL_law_294 (by decide) ?_
        refine w_iadd C dL_law_295 ?_
        refine w_sld hx hb hX hbl hbA hS (by omega) (by omega) dL_law_296 ?_
        refine c_muVi (As := [.int (xs (i + 1)), .int (xs (i + 2))]) (rest := [.int r1]) (Y := fun _ h => MOok D d Z2 o2 nr nc cp T P (if inR (xs (i + 1)) nc then upd x (Int32.toNatClampNeg (xs (i + 1))) (xs (i + 2)) else x) y h) C (met_X4_setX l D d Z2 (xs (i + 1)) (xs (i + 2))) (cwV 2 C.1.2.2.2.2 (lw_V q279 q280 q281 q12 q282) rfl rfl rfl (by decide +kernel) ⟨Nat.le_of_ble_eq_true rfl, Nat.le_of_ble_eq_true rfl⟩) (hMO.recv C.2.1) hMO hS hZ2 rfl hl.1 rfl (Nat.le_of_ble_eq_true rfl) dL_law_297 ⟨Nat.le_of_ble_eq_true rfl, Nat.le_of_ble_eq_true rfl⟩ (fun r2 _ H1 locs hr2 hMO9 _ hk9 hS => ?_)
        have hRS9 := hRS.kept (H1 := H1) (fun q hq hlt => hk9 q hlt (fun z => hZd q hq z))
        generalize H1 = H at hRS9 hMO9 hS ⊢
        have hRS := hRS9
        have hMO := hMO9
        refine lv_icmp_eq (tgt := 390) hx hb dL_law_300 (by decide) (fun c2 => ?_) (fun c2 => ?_)
        · exact K390 _ _ _ _ _ _ _ H locs hRS hMO hS
        · exact absurd (hr1.trans hr2.symm) c2
      · refine lv_tableIn (off := 243) (tgt := 305) hx hb dL_law_62 (by decide) (by decide) (by decide) (by decide) ?_
        refine lv_aload_n hx hb dL_law_305 rfl (lv_at hl 1 rfl) ?_
        refine c_muVi (As := []) (rest := []) (Y := fun _ h => RSok D d Z1 o1 nr nc cp T P x (fun a => if a < nr then dot_ T x a nc else y a) h) C (met_X1_multiplyVector l D d Z1 ) (cwV 0 C.1.2.2.2.2 (lw_V q172 q173 q174 q8 q175) rfl rfl rfl (by decide +kernel) ⟨Nat.le_of_ble_eq_true rfl, Nat.le_of_ble_eq_true rfl⟩) (hRS.recv C.2.1) hRS hS hZ1 rfl hl.1 rfl (Nat.le_of_ble_eq_true rfl) dL_law_306 ⟨Nat.le_of_ble_eq_true rfl, Nat.le_of_ble_eq_true rfl⟩ (fun r1 _ H1 locs hr1 hRS9 _ hk9 hS => ?_)
        have hMO9 := hMO.kept (H1 := H1) (fun q hq hlt => hk9 q hlt (fun z => hZd q z hq))
        generalize H1 = H at hRS9 hMO9 hS ⊢
        have hRS := hRS9
        have hMO := hMO9
        refine lv_aload_n hx hb dL_law_309 rfl (lv_at hl 2 rfl) ?_
        refine c_muVi (As := []) (rest := [.int r1]) (Y := fun _ h => MOok D d Z2 o2 nr nc cp T P x (fun a => if a < nr then dot_ T x a nc else y a) h) C (met_X4_multiplyVector l D d Z2 ) (cwV 0 C.1.2.2.2.2 (lw_V q283 q284 q285 q12 q286) rfl rfl rfl (by decide +kernel) ⟨Nat.le_of_ble_eq_true rfl, Nat.le_of_ble_eq_true rfl⟩) (hMO.recv C.2.1) hMO hS hZ2 rfl hl.1 rfl (Nat.le_of_ble_eq_true rfl) dL_law_310 ⟨Nat.le_of_ble_eq_true rfl, Nat.le_of_ble_eq_true rfl⟩ (fun r2 _ H1 locs hr2 hMO9 _ hk9 hS => ?_)
        have hRS9 := hRS.kept (H1 := H1) (fun q hq hlt => hk9 q hlt (fun z => hZd q hq z))
        generalize H1 = H at hRS9 hMO9 hS ⊢
        have hRS := hRS9
        have hMO := hMO9
        refine lv_icmp_eq (tgt := 390) hx hb dL_law_313 (by decide) (fun c2 => ?_) (fun c2 => ?_)
        · exact K390 _ _ _ _ _ _ _ H locs hRS hMO hS
        · exact absurd (hr1.trans hr2.symm) c2
      · refine lv_tableIn (off := 256) (tgt := 318) hx hb dL_law_62 (by decide) (by decide) (by decide) (by decide) ?_
        refine lv_aload_n hx hb dL_law_318 rfl (lv_at hl 1 rfl) ?_
        refine lv_aload_n hx hb dL_law_319 rfl (lv_at hl 0 rfl) ?_
        refine lv_iload_n hx hb dL_law_320 rfl (lv_at hl 3 rfl) ?_
        refine lv_iconst (v := nI 1) hx hb dL_law_321 (by decide) ?_
        refine w_iadd C dL_law_322 ?_
        refine w_sld hx hb hX hbl hbA hS (by omega) (by omega) dL_law_323 ?_
        refine c_rdV (As := [.int (xs (i + 1))]) (rest := []) C (met_X1_y l D d Z1 (xs (i + 1))) (cwV 1 C.1.2.2.2.2 (lw_V q176 q177 q178 q8 q179) rfl rfl rfl (by decide +kernel) ⟨Nat.le_of_ble_eq_true rfl, Nat.le_of_ble_eq_true rfl⟩) (hRS.recv C.2.1) hRS rfl hl.1 rfl (Nat.le_of_ble_eq_true rfl) dL_law_324 ⟨Nat.le_of_ble_eq_true rfl, Nat.le_of_ble_eq_true rfl⟩ (fun r1 hr1 => ?_)
        refine lv_aload_n hx hb dL_law_327 rfl (lv_at hl 2 rfl) ?_
        refine lv_aload_n hx hb dL_law_328 rfl (lv_at hl 0 rfl) ?_
        refine lv_iload_n hx hb dL_law_329 rfl (lv_at hl 3 rfl) ?_
        refine lv_iconst (v := nI 1) hx hb dL_law_330 (by decide) ?_
        refine w_iadd C dL_law_331 ?_
        refine w_sld hx hb hX hbl hbA hS (by omega) (by omega) dL_law_332 ?_
        refine c_rdV (As := [.int (xs (i + 1))]) (rest := [.int r1]) C (met_X4_y l D d Z2 (xs (i + 1))) (cwV 1 C.1.2.2.2.2 (lw_V q287 q288 q289 q12 q290) rfl rfl rfl (by decide +kernel) ⟨Nat.le_of_ble_eq_true rfl, Nat.le_of_ble_eq_true rfl⟩) (hMO.recv C.2.1) hMO rfl hl.1 rfl (Nat.le_of_ble_eq_true rfl) dL_law_333 ⟨Nat.le_of_ble_eq_true rfl, Nat.le_of_ble_eq_true rfl⟩ (fun r2 hr2 => ?_)
        refine lv_icmp_eq (tgt := 390) hx hb dL_law_336 (by decide) (fun c2 => ?_) (fun c2 => ?_)
        · exact K390 _ _ _ _ _ _ _ H locs hRS hMO hS
        · exact absurd (hr1.trans hr2.symm) c2
      · refine lv_tableIn (off := 279) (tgt := 341) hx hb dL_law_62 (by decide) (by decide) (by decide) (by decide) ?_
        by_cases hp : P = []
        · refine lv_aload_n hx hb dL_law_341 rfl (lv_at hl 1 rfl) ?_
          refine c_muVi (As := []) (rest := []) (Y := fun _ h => RSok D d Z1 o1 nc nr cp (tt_ T) P (fun _ => 0) (fun _ => 0) h) C (met_X1_transpose_yes l D d Z1 hp) (cwV 0 C.1.2.2.2.2 (lw_V q180 q181 q182 q8 q183) rfl rfl rfl (by decide +kernel) ⟨Nat.le_of_ble_eq_true rfl, Nat.le_of_ble_eq_true rfl⟩) (hRS.recv C.2.1) hRS hS hZ1 rfl hl.1 rfl (Nat.le_of_ble_eq_true rfl) dL_law_342 ⟨Nat.le_of_ble_eq_true rfl, Nat.le_of_ble_eq_true rfl⟩ (fun r1 _ H1 locs hr1 hRS9 _ hk9 hS => ?_)
          have hMO9 := hMO.kept (H1 := H1) (fun q hq hlt => hk9 q hlt (fun z => hZd q z hq))
          generalize H1 = H at hRS9 hMO9 hS ⊢
          have hRS := hRS9
          have hMO := hMO9
          refine lv_aload_n hx hb dL_law_345 rfl (lv_at hl 2 rfl) ?_
          refine c_muVi (As := []) (rest := [.int r1]) (Y := fun _ h => MOok D d Z2 o2 nc nr cp (tt_ T) P (fun _ => 0) (fun _ => 0) h) C (met_X4_transpose_yes l D d Z2 hp) (cwV 0 C.1.2.2.2.2 (lw_V q291 q292 q293 q12 q294) rfl rfl rfl (by decide +kernel) ⟨Nat.le_of_ble_eq_true rfl, Nat.le_of_ble_eq_true rfl⟩) (hMO.recv C.2.1) hMO hS hZ2 rfl hl.1 rfl (Nat.le_of_ble_eq_true rfl) dL_law_346 ⟨Nat.le_of_ble_eq_true rfl, Nat.le_of_ble_eq_true rfl⟩ (fun r2 _ H1 locs hr2 hMO9 _ hk9 hS => ?_)
          have hRS9 := hRS.kept (H1 := H1) (fun q hq hlt => hk9 q hlt (fun z => hZd q hq z))
          generalize H1 = H at hRS9 hMO9 hS ⊢
          have hRS := hRS9
          have hMO := hMO9
          refine lv_icmp_eq (tgt := 390) hx hb dL_law_349 (by decide) (fun c2 => ?_) (fun c2 => ?_)
          · exact K390 _ _ _ _ _ _ _ H locs hRS hMO hS
          · exact absurd (hr1.trans hr2.symm) c2
        · have hp : 0 < P.length := List.length_pos_iff.mpr hp
          refine lv_aload_n hx hb dL_law_341 rfl (lv_at hl 1 rfl) ?_
          refine c_rdV (As := []) (rest := []) C (met_X1_transpose_no l D d Z1 hp) (cwV 0 C.1.2.2.2.2 (lw_V q180 q181 q182 q8 q183) rfl rfl rfl (by decide +kernel) ⟨Nat.le_of_ble_eq_true rfl, Nat.le_of_ble_eq_true rfl⟩) (hRS.recv C.2.1) hRS rfl hl.1 rfl (Nat.le_of_ble_eq_true rfl) dL_law_342 ⟨Nat.le_of_ble_eq_true rfl, Nat.le_of_ble_eq_true rfl⟩ (fun r1 hr1 => ?_)
          refine lv_aload_n hx hb dL_law_345 rfl (lv_at hl 2 rfl) ?_
          refine c_rdV (As := []) (rest := [.int r1]) C (met_X4_transpose_no l D d Z2 hp) (cwV 0 C.1.2.2.2.2 (lw_V q291 q292 q293 q12 q294) rfl rfl rfl (by decide +kernel) ⟨Nat.le_of_ble_eq_true rfl, Nat.le_of_ble_eq_true rfl⟩) (hMO.recv C.2.1) hMO rfl hl.1 rfl (Nat.le_of_ble_eq_true rfl) dL_law_346 ⟨Nat.le_of_ble_eq_true rfl, Nat.le_of_ble_eq_true rfl⟩ (fun r2 hr2 => ?_)
          refine lv_icmp_eq (tgt := 390) hx hb dL_law_349 (by decide) (fun c2 => ?_) (fun c2 => ?_)
          · exact K390 _ _ _ _ _ _ _ H locs hRS hMO hS
          · exact absurd (hr1.trans hr2.symm) c2
      · refine lv_tableIn (off := 292) (tgt := 354) hx hb dL_law_62 (by decide) (by decide) (by decide) (by decide) ?_
        by_cases hsq : nr = nc
        · refine lv_aload_n hx hb dL_law_354 rfl (lv_at hl 1 rfl) ?_
          refine c_muVi (As := []) (rest := []) (Y := fun _ h => RSok D d Z1 o1 nr nc cp (if of_ (sqT T nc) nc nr ≤ cp then sqT T nc else T) P x y h) C (met_X1_square_eq l D d Z1 hsq) (cwV 0 C.1.2.2.2.2 (lw_V q184 q185 q186 q8 q187) rfl rfl rfl (by decide +kernel) ⟨Nat.le_of_ble_eq_true rfl, Nat.le_of_ble_eq_true rfl⟩) (hRS.recv C.2.1) hRS hS hZ1 rfl hl.1 rfl (Nat.le_of_ble_eq_true rfl) dL_law_355 ⟨Nat.le_of_ble_eq_true rfl, Nat.le_of_ble_eq_true rfl⟩ (fun r1 _ H1 locs hr1 hRS9 _ hk9 hS => ?_)
          have hMO9 := hMO.kept (H1 := H1) (fun q hq hlt => hk9 q hlt (fun z => hZd q z hq))
          generalize H1 = H at hRS9 hMO9 hS ⊢
          have hRS := hRS9
          have hMO := hMO9
          refine lv_aload_n hx hb dL_law_358 rfl (lv_at hl 2 rfl) ?_
          refine c_muVi (As := []) (rest := [.int r1]) (Y := fun _ h => MOok D d Z2 o2 nr nc cp (if of_ (sqT T nc) nc nr ≤ cp then sqT T nc else T) P x y h) C (met_X4_square_eq l D d Z2 hsq) (cwV 0 C.1.2.2.2.2 (lw_V q295 q296 q297 q12 q298) rfl rfl rfl (by decide +kernel) ⟨Nat.le_of_ble_eq_true rfl, Nat.le_of_ble_eq_true rfl⟩) (hMO.recv C.2.1) hMO hS hZ2 rfl hl.1 rfl (Nat.le_of_ble_eq_true rfl) dL_law_359 ⟨Nat.le_of_ble_eq_true rfl, Nat.le_of_ble_eq_true rfl⟩ (fun r2 _ H1 locs hr2 hMO9 _ hk9 hS => ?_)
          have hRS9 := hRS.kept (H1 := H1) (fun q hq hlt => hk9 q hlt (fun z => hZd q hq z))
          generalize H1 = H at hRS9 hMO9 hS ⊢
          have hRS := hRS9
          have hMO := hMO9
          refine lv_icmp_eq (tgt := 390) hx hb dL_law_362 (by decide) (fun c2 => ?_) (fun c2 => ?_)
          · exact K390 _ _ _ _ _ _ _ H locs hRS hMO hS
          · exact absurd (hr1.trans hr2.symm) c2
        · refine lv_aload_n hx hb dL_law_354 rfl (lv_at hl 1 rfl) ?_
          refine c_rdV (As := []) (rest := []) C (met_X1_square_ne l D d Z1 hsq) (cwV 0 C.1.2.2.2.2 (lw_V q184 q185 q186 q8 q187) rfl rfl rfl (by decide +kernel) ⟨Nat.le_of_ble_eq_true rfl, Nat.le_of_ble_eq_true rfl⟩) (hRS.recv C.2.1) hRS rfl hl.1 rfl (Nat.le_of_ble_eq_true rfl) dL_law_355 ⟨Nat.le_of_ble_eq_true rfl, Nat.le_of_ble_eq_true rfl⟩ (fun r1 hr1 => ?_)
          refine lv_aload_n hx hb dL_law_358 rfl (lv_at hl 2 rfl) ?_
          refine c_rdV (As := []) (rest := [.int r1]) C (met_X4_square_ne l D d Z2 hsq) (cwV 0 C.1.2.2.2.2 (lw_V q295 q296 q297 q12 q298) rfl rfl rfl (by decide +kernel) ⟨Nat.le_of_ble_eq_true rfl, Nat.le_of_ble_eq_true rfl⟩) (hMO.recv C.2.1) hMO rfl hl.1 rfl (Nat.le_of_ble_eq_true rfl) dL_law_359 ⟨Nat.le_of_ble_eq_true rfl, Nat.le_of_ble_eq_true rfl⟩ (fun r2 hr2 => ?_)
          refine lv_icmp_eq (tgt := 390) hx hb dL_law_362 (by decide) (fun c2 => ?_) (fun c2 => ?_)
          · exact K390 _ _ _ _ _ _ _ H locs hRS hMO hS
          · exact absurd (hr1.trans hr2.symm) c2
      · refine lv_tableIn (off := 305) (tgt := 367) hx hb dL_law_62 (by decide) (by decide) (by decide) (by decide) ?_
        refine lv_aload_n hx hb dL_law_367 rfl (lv_at hl 1 rfl) ?_
        refine lv_aload_n hx hb dL_law_368 rfl (lv_at hl 0 rfl) ?_
        refine lv_iload_n hx hb dL_law_369 rfl (lv_at hl 3 rfl) ?_
        refine lv_iconst (v := nI 1) hx hb dL_law_370 (by decide) ?_
        refine w_iadd C dL_law_371 ?_
        refine w_sld hx hb hX hbl hbA hS (by omega) (by omega) dL_law_372 ?_
        refine c_rdV (As := [.int (xs (i + 1))]) (rest := []) C (met_X1_count l D d Z1 (xs (i + 1))) (cwV 1 C.1.2.2.2.2 (lw_V q192 q193 q194 q8 q195) rfl rfl rfl (by decide +kernel) ⟨Nat.le_of_ble_eq_true rfl, Nat.le_of_ble_eq_true rfl⟩) (hRS.recv C.2.1) hRS rfl hl.1 rfl (Nat.le_of_ble_eq_true rfl) dL_law_373 ⟨Nat.le_of_ble_eq_true rfl, Nat.le_of_ble_eq_true rfl⟩ (fun r1 hr1 => ?_)
        refine lv_aload_n hx hb dL_law_376 rfl (lv_at hl 2 rfl) ?_
        refine lv_aload_n hx hb dL_law_377 rfl (lv_at hl 0 rfl) ?_
        refine lv_iload_n hx hb dL_law_378 rfl (lv_at hl 3 rfl) ?_
        refine lv_iconst (v := nI 1) hx hb dL_law_379 (by decide) ?_
        refine w_iadd C dL_law_380 ?_
        refine w_sld hx hb hX hbl hbA hS (by omega) (by omega) dL_law_381 ?_
        refine c_rdV (As := [.int (xs (i + 1))]) (rest := [.int r1]) C (met_X4_count l D d Z2 (xs (i + 1))) (cwV 1 C.1.2.2.2.2 (lw_V q299 q300 q301 q12 q302) rfl rfl rfl (by decide +kernel) ⟨Nat.le_of_ble_eq_true rfl, Nat.le_of_ble_eq_true rfl⟩) (hMO.recv C.2.1) hMO rfl hl.1 rfl (Nat.le_of_ble_eq_true rfl) dL_law_382 ⟨Nat.le_of_ble_eq_true rfl, Nat.le_of_ble_eq_true rfl⟩ (fun r2 hr2 => ?_)
        refine lv_icmp_eq (tgt := 390) hx hb dL_law_385 (by decide) (fun c2 => ?_) (fun c2 => ?_)
        · exact K390 _ _ _ _ _ _ _ H locs hRS hMO hS
        · exact absurd (hr1.trans hr2.symm) c2
      · have e9 : (nI j).toInt = (j : Int) := nI_toInt (by omega)
        refine lv_tableOut (tgt := 390) hx hb dL_law_62 (Or.inr (by rw [e9]; omega)) (by decide) ?_
        exact K390 _ _ _ _ _ _ _ H locs hRS hMO hS
end
section
/-! the law from its entry; the claim (the last rows: SKELETON.whole) -/
set_option maxRecDepth 100000
theorem classes_rs {s0 : State} {b0 : Addr} (ht0 : ∀ w ∈ lw_tbl, w.before #[Value.ref b0] s0 = true) : ∃ (dC : Nat → ClassId) (dI : Nat → Nat → Nat), ∀ (k : Nat) (q : vw_C), vwCl[k]? = some q → u_Kn s0 q.1 q.2.1 q.2.2 (dC k) (dI k) := by
  obtain ⟨c0, iS0, h0⟩ := u_known (C := RX1) (T := TX1) (N := 10) (n := 10) ht0 (fun w h => lw_all_tbl (in_X1 w h)) (ht0 _ (lw_all_tbl q14))
  obtain ⟨c1, iS1, h1⟩ := u_known (C := RX2) (T := TX2) (N := 5) (n := 5) ht0 (fun w h => lw_all_tbl (in_X2 w h)) (ht0 _ (lw_all_tbl q22))
  obtain ⟨c2, iS2, h2⟩ := u_known (C := RX3) (T := TX3) (N := 4) (n := 4) ht0 (fun w h => lw_all_tbl (in_X3 w h)) (ht0 _ (lw_all_tbl q50))
  obtain ⟨c3, iS3, h3⟩ := u_known (C := RX4) (T := TX4) (N := 9) (n := 9) ht0 (fun w h => lw_all_tbl (in_X4 w h)) (ht0 _ (lw_all_tbl q200))
  refine ⟨fun k => match k with | 0 => c0 | 1 => c1 | 2 => c2 | _ => c3, fun k => match k with | 0 => iS0 | 1 => iS1 | 2 => iS2 | _ => iS3, ?_⟩
  intro k q hq
  match k, hq with
  | 0, hq => cases hq; exact h0
  | 1, hq => cases hq; exact h1
  | 2, hq => cases hq; exact h2
  | 3, hq => cases hq; exact h3
  | k + 4, hq => simp [vwCl] at hq
theorem int_class {args : Array Value} {s : State} (h : (Cond.arrayClass .int).before args s = true) : ∃ d : ClassId, ArrOfT s d .int ∧ va_RA s d .int := by
  obtain ⟨cB, kB, comp, hfind, hk, hkind⟩ := Cond.arrayClass_spec h
  exact ⟨cB, fun n z => ⟨fun k h => (by cases h), kB, hk, comp, hkind⟩, hfind⟩
theorem nw_of {s0 : State} {b0 : Addr} (ht0 : ∀ w ∈ lw_tbl, w.before #[Value.ref b0] s0 = true) : nw_ s0 := by
  refine ⟨fun q hq => ?_, fun q hq => ?_⟩
  · simp only [nwF, List.mem_cons, List.not_mem_nil, or_false] at hq
    rcases hq with rfl | rfl | rfl | rfl | rfl | rfl | rfl | rfl | rfl
    · exact va_Nw.of rfl (ht0 _ q28)
    · exact va_Nw.of rfl (ht0 _ q30)
    · exact va_Nw.of rfl (ht0 _ q32)
    · exact va_Nw.of rfl (ht0 _ q34)
    · exact va_Nw.of rfl (ht0 _ q36)
    · exact va_Nw.of rfl (ht0 _ q56)
    · exact va_Nw.of rfl (ht0 _ q58)
    · exact va_Nw.of rfl (ht0 _ q60)
    · exact va_Nw.of rfl (ht0 _ q62)
  · simp only [nwM, List.mem_cons, List.not_mem_nil, or_false] at hq
    rcases hq with rfl | rfl
    · exact va_Nw.of rfl (ht0 _ q23)
    · exact va_Nw.of rfl (ht0 _ q51)
theorem d_apart {D : va_G} {A : Nat → Prop} {H0 H : Heap} {locs : List Loc} {ws : va_W} {x : Nat × va_E} (hw : Wd D A H0 (ws ++ [x]) H locs) : va_P D vwCl ws H ∧ va_D (fun q => A q ∧ q < H.size ∧ q ≠ x.1) ws := by
  have hin : ∀ (k : Nat) (q : Nat × va_E), ws[k]? = some q → k < ws.length ∧ (ws ++ [x])[k]? = some q := fun k q h => by
    have hk := (List.getElem?_eq_some_iff.mp h).1
    exact ⟨hk, by rw [List.getElem?_append_left hk]; exact h⟩
  have hx : (ws ++ [x])[ws.length]? = some x := by rw [List.getElem?_append_right (Nat.le_refl _), Nat.sub_self]; rfl
  refine ⟨fun k q h => hw.1 k q (hin k q h).2, ⟨fun i j a b hi hj hab => hw.2.1.1 i j a b (hin i a hi).2 (hin j b hj).2 hab, fun k q h => ⟨hw.2.1.2 k q (hin k q h).2, (hw.1 k q (hin k q h).2).lt, fun z => ?_⟩⟩⟩
  have := hw.2.1.1 k ws.length q x (hin k q h).2 hx z
  have := (hin k q h).1
  omega
theorem cell_blind {b L k : Nat} {xs : Nat → Int32} : FrameBlind (va_Pc [.ref b, .int (nI k)] (fun U => va_X b L xs U U.heap)) := fun a U g mk q => ⟨q.1, va_X.moved (u := U) (U := U.calling g mk a) (Vm.Alike.refl U.vm) q.2⟩
set_option maxHeartbeats 4000000 in
set_option maxRecDepth 100000 in
/-- from the entry, for every script of at most 259 ints, the law comes to its end with true -/
theorem whole_start {p : Program} {e : Env} {s : State} {m : MethodId} {below : List Frame} {meth : Method} {c : Code} (l : Launch) {b L : Nat} {xs : Nat → Int32} (hL : L ≤ 259) (C0 : lw_At p s m meth c b L xs) : W p l e room_1 s m #[Value.ref b] below meth c s.heap [] 0 0 (lw_Z below #[Value.ref b] s) (entryFrame m ([Value.ref b] : List Value).toArray 4) := by
  obtain ⟨hx, hb, hr, hml, hown, hts0, hX, hbl, hlk, hgv⟩ := C0
  have hts : ∀ w ∈ lw_all, w.before #[Value.ref b] s = true := fun w h => hts0 w (lw_all_tbl h)
  obtain ⟨dC, dI, hKc⟩ := classes_rs hts0
  obtain ⟨d, hd1, hd2⟩ := int_class (hts _ q48)
  have hK : va_K (dC, dI) vwCl [(d, .int)] s := ⟨hKc, fun k q hq => by
    match k, hq with
    | 0, hq => cases hq; exact ⟨hd1, hd2⟩
    | k + 1, hq => simp at hq⟩
  have C : Cx p s m #[Value.ref b] meth c code 4 RX0 ret (dC, dI) d := ⟨⟨hx, hb, hml, hown, hts⟩, ⟨hK, nw_of hts0⟩, hr, hlk⟩
  generalize (dC, dI) = D at C
  obtain ⟨A, hAe⟩ : ∃ A : Nat → Prop, A = fun q => s.heap.size ≤ q := ⟨_, rfl⟩
  have hA : ∀ q, s.heap.size ≤ q → A q := fun q h => by rw [hAe]; exact h
  have hAs : ∀ q, A q → s.heap.size ≤ q := fun q h => by rw [hAe] at h; exact h
  have hbA : ¬ A b := fun h => by have := hAs b h; omega
  have hw : Wd D A s.heap [] s.heap [] := ⟨fun k q h => by simp at h, ⟨fun i j p q h => by simp at h, fun k q h => by simp at h⟩, va_S.rf⟩
  have hl := lv_entry ([.ref b]) (n := 4) (Nat.le_of_ble_eq_true rfl)
  rw [lg_entry_eq]
  generalize (lg_sl ([.ref b]) ++ List.replicate (4 - (lg_sl ([.ref b])).length) Slot.unset).toArray = ls at hl ⊢
  have hl : lv_has ls 4 [(0, .ref b)] := hl

  refine n_X0_7 C hw hA (Nat.le_of_ble_eq_true rfl) (Nat.le_of_ble_eq_true rfl) dL_law_0 (fun o1 H hw => ?_)
  have hw : Wd D A s.heap [cO o1 0 [.int 0, .null, .null, .null, .null, .null, .null, .null, .null, .null]] H _ := hw
  refine lv_dup hx hb dL_law_3 rfl ?_
  refine lv_aload_n hx hb dL_law_4 rfl (lv_at hl 0 rfl) ?_
  refine lv_iconst (v := nI 0) hx hb dL_law_5 (by decide) ?_
  refine vp_callSi (va_runS (As := [.ref b, .int (nI 0)]) (rest := [.ref o1, .ref o1]) C.1 (met_cell (xs := xs) l 0 hL (by decide)) (va_cwS 2 C.1.2.2.2.2 (lw_S q196 q197 q7 q198) rfl rfl rfl (by decide +kernel) ⟨Nat.le_of_ble_eq_true rfl, Nat.le_of_ble_eq_true rfl⟩) ⟨cell_blind, fun U hU hW => ⟨rfl, by show va_X b L xs U U.heap; rw [hU]; exact (hX.kept (hw.2.2.2.1 b hbl hbA)).moved hW.alike⟩⟩ rfl rfl hl.1 rfl (lv_room (Nat.le_of_ble_eq_true rfl)) dL_law_6 ⟨Nat.le_of_ble_eq_true rfl, Nat.le_of_ble_eq_true rfl⟩).run (fun r hr9 => ?_)
  subst hr9
  refine lv_aload_n hx hb dL_law_9 rfl (lv_at hl 0 rfl) ?_
  refine lv_iconst (v := nI 1) hx hb dL_law_10 (by decide) ?_
  refine vp_callSi (va_runS (As := [.ref b, .int (nI 1)]) (rest := [.int (sc_ xs L 0), .ref o1, .ref o1]) C.1 (met_cell (xs := xs) l 1 hL (by decide)) (va_cwS 2 C.1.2.2.2.2 (lw_S q196 q197 q7 q198) rfl rfl rfl (by decide +kernel) ⟨Nat.le_of_ble_eq_true rfl, Nat.le_of_ble_eq_true rfl⟩) ⟨cell_blind, fun U hU hW => ⟨rfl, by show va_X b L xs U U.heap; rw [hU]; exact (hX.kept (hw.2.2.2.1 b hbl hbA)).moved hW.alike⟩⟩ rfl rfl hl.1 rfl (lv_room (Nat.le_of_ble_eq_true rfl)) dL_law_11 ⟨Nat.le_of_ble_eq_true rfl, Nat.le_of_ble_eq_true rfl⟩).run (fun r hr9 => ?_)
  subst hr9
  refine lv_aload_n hx hb dL_law_14 rfl (lv_at hl 0 rfl) ?_
  refine lv_iconst (v := nI 2) hx hb dL_law_15 (by decide) ?_
  refine vp_callSi (va_runS (As := [.ref b, .int (nI 2)]) (rest := [.int (sc_ xs L 1), .int (sc_ xs L 0), .ref o1, .ref o1]) C.1 (met_cell (xs := xs) l 2 hL (by decide)) (va_cwS 2 C.1.2.2.2.2 (lw_S q196 q197 q7 q198) rfl rfl rfl (by decide +kernel) ⟨Nat.le_of_ble_eq_true rfl, Nat.le_of_ble_eq_true rfl⟩) ⟨cell_blind, fun U hU hW => ⟨rfl, by show va_X b L xs U U.heap; rw [hU]; exact (hX.kept (hw.2.2.2.1 b hbl hbA)).moved hW.alike⟩⟩ rfl rfl hl.1 rfl (lv_room (Nat.le_of_ble_eq_true rfl)) dL_law_16 ⟨Nat.le_of_ble_eq_true rfl, Nat.le_of_ble_eq_true rfl⟩).run (fun r hr9 => ?_)
  subst hr9
  have hfr := va_free (wc := [cO o1 0 [.int 0, .null, .null, .null, .null, .null, .null, .null, .null, .null]]) hw.2.1 hw.2.2 hA [0] rfl
  have hcut := w_cut (wc := [cO o1 0 [.int 0, .null, .null, .null, .null, .null, .null, .null, .null, .null]]) hw [0] (by decide) rfl
  refine c_initP (As := [.int (sc_ xs L 0), .int (sc_ xs L 1), .int (sc_ xs L 2)]) (rest := [.ref o1]) (Y := fun _ h => RSok D d (va_A [cO o1 0 [.int 0, .null, .null, .null, .null, .null, .null, .null, .null, .null]] H.size) o1 (clN (sc_ xs L 0) 60) (clN (sc_ xs L 1) 60) (clN (sc_ xs L 2) 1000) (fun _ _ => 0) [] (fun _ => 0) (fun _ => 0) h) C (met_X1_init l D d H.size (sc_ xs L 0) (sc_ xs L 1) (sc_ xs L 2)) (cwI 3 C.1.2.2.2.2 (lw_meth q17) rfl rfl rfl (C.1.2.2.2.2 _ q8) (C.1.2.2.2.2 _ q15) (C.1.2.2.2.2 _ q16) rfl (by decide +kernel) ⟨Nat.le_of_ble_eq_true rfl, Nat.le_of_ble_eq_true rfl⟩) ⟨rfl, hcut.1, hcut.2⟩ hw.2.2 hfr rfl hl.1 rfl (Nat.le_of_ble_eq_true rfl) dL_law_19 ⟨Nat.le_of_ble_eq_true rfl, Nat.le_of_ble_eq_true rfl⟩ (fun _ H1 locs _ hOK hz9 hk9 hS => ?_)
  obtain ⟨ad, sc, F, hP, hD, hI⟩ := hOK
  clear hw
  generalize H1 = H at hP hS ⊢
  have hw : Wd D A s.heap [cO o1 0 [.int (nI (clN (sc_ xs L 2) 1000)), .ref (ad 1), .ref (ad 5), .ref (ad 9), .ref (ad 13), .ref (ad 17), .ref (ad 21), .ref (ad 22), .ref (ad 23), .ref (ad 24)], cO (ad 1) 1 [.ref (ad 2), .ref (ad 3), .ref (ad 4), .int (nI (clN (sc_ xs L 0) 60)), .int (nI (clN (sc_ xs L 1) 60))], cA d (ad 2) 61 (F 2), cA d (ad 3) 1000 (F 3), cA d (ad 4) 1000 (F 4), cO (ad 5) 1 [.ref (ad 6), .ref (ad 7), .ref (ad 8), .int (sc 1), .int (sc 2)], cA d (ad 6) 61 (F 6), cA d (ad 7) 1000 (F 7), cA d (ad 8) 1000 (F 8), cO (ad 9) 2 [.ref (ad 10), .ref (ad 11), .ref (ad 12), .int (nI (([] : List Tr).length))], cA d (ad 10) 2000 (F 10), cA d (ad 11) 2000 (F 11), cA d (ad 12) 2000 (F 12), cO (ad 13) 2 [.ref (ad 14), .ref (ad 15), .ref (ad 16), .int (sc 3)], cA d (ad 14) 2000 (F 14), cA d (ad 15) 2000 (F 15), cA d (ad 16) 2000 (F 16), cO (ad 17) 2 [.ref (ad 18), .ref (ad 19), .ref (ad 20), .int (sc 4)], cA d (ad 18) 2000 (F 18), cA d (ad 19) 2000 (F 19), cA d (ad 20) 2000 (F 20), cA d (ad 21) 61 (F 21), cA d (ad 22) 60 (F 22), cA d (ad 23) 60 (F 23), cA d (ad 24) 60 (F 24)] H locs := ⟨hP, hD.weaken (fun _ q _ h => hfr q.1 h), hS⟩
  refine W.widen (k := 25) (n := 22395) (Nat.le_of_ble_eq_true rfl) (Nat.le_of_ble_eq_true rfl) ?_
  refine lv_astore_n (lv' := [(1, .ref o1), (0, .ref b)]) hx hb dL_law_22 rfl hl (by decide) rfl (fun ls hl => ?_)
  refine n_X0_18 C hw hA (Nat.le_of_ble_eq_true rfl) (Nat.le_of_ble_eq_true rfl) dL_law_23 (fun o2 H hw => ?_)
  have hw : Wd D A s.heap [cO o1 0 [.int (nI (clN (sc_ xs L 2) 1000)), .ref (ad 1), .ref (ad 5), .ref (ad 9), .ref (ad 13), .ref (ad 17), .ref (ad 21), .ref (ad 22), .ref (ad 23), .ref (ad 24)], cO (ad 1) 1 [.ref (ad 2), .ref (ad 3), .ref (ad 4), .int (nI (clN (sc_ xs L 0) 60)), .int (nI (clN (sc_ xs L 1) 60))], cA d (ad 2) 61 (F 2), cA d (ad 3) 1000 (F 3), cA d (ad 4) 1000 (F 4), cO (ad 5) 1 [.ref (ad 6), .ref (ad 7), .ref (ad 8), .int (sc 1), .int (sc 2)], cA d (ad 6) 61 (F 6), cA d (ad 7) 1000 (F 7), cA d (ad 8) 1000 (F 8), cO (ad 9) 2 [.ref (ad 10), .ref (ad 11), .ref (ad 12), .int (nI (([] : List Tr).length))], cA d (ad 10) 2000 (F 10), cA d (ad 11) 2000 (F 11), cA d (ad 12) 2000 (F 12), cO (ad 13) 2 [.ref (ad 14), .ref (ad 15), .ref (ad 16), .int (sc 3)], cA d (ad 14) 2000 (F 14), cA d (ad 15) 2000 (F 15), cA d (ad 16) 2000 (F 16), cO (ad 17) 2 [.ref (ad 18), .ref (ad 19), .ref (ad 20), .int (sc 4)], cA d (ad 18) 2000 (F 18), cA d (ad 19) 2000 (F 19), cA d (ad 20) 2000 (F 20), cA d (ad 21) 61 (F 21), cA d (ad 22) 60 (F 22), cA d (ad 23) 60 (F 23), cA d (ad 24) 60 (F 24), cO o2 3 [.int 0, .int 0, .int 0, .int 0, .null, .null, .null, .null, .null]] H locs := hw
  refine lv_dup hx hb dL_law_26 rfl ?_
  refine lv_aload_n hx hb dL_law_27 rfl (lv_at hl 1 rfl) ?_
  refine lv_iconst (v := nI 0) hx hb dL_law_28 (by decide) ?_
  refine vp_callSi (va_runS (As := [.ref b, .int (nI 0)]) (rest := [.ref o2, .ref o2]) C.1 (met_cell (xs := xs) l 0 hL (by decide)) (va_cwS 2 C.1.2.2.2.2 (lw_S q196 q197 q7 q198) rfl rfl rfl (by decide +kernel) ⟨Nat.le_of_ble_eq_true rfl, Nat.le_of_ble_eq_true rfl⟩) ⟨cell_blind, fun U hU hW => ⟨rfl, by show va_X b L xs U U.heap; rw [hU]; exact (hX.kept (hw.2.2.2.1 b hbl hbA)).moved hW.alike⟩⟩ rfl rfl hl.1 rfl (lv_room (Nat.le_of_ble_eq_true rfl)) dL_law_29 ⟨Nat.le_of_ble_eq_true rfl, Nat.le_of_ble_eq_true rfl⟩).run (fun r hr9 => ?_)
  subst hr9
  refine lv_aload_n hx hb dL_law_32 rfl (lv_at hl 1 rfl) ?_
  refine lv_iconst (v := nI 1) hx hb dL_law_33 (by decide) ?_
  refine vp_callSi (va_runS (As := [.ref b, .int (nI 1)]) (rest := [.int (sc_ xs L 0), .ref o2, .ref o2]) C.1 (met_cell (xs := xs) l 1 hL (by decide)) (va_cwS 2 C.1.2.2.2.2 (lw_S q196 q197 q7 q198) rfl rfl rfl (by decide +kernel) ⟨Nat.le_of_ble_eq_true rfl, Nat.le_of_ble_eq_true rfl⟩) ⟨cell_blind, fun U hU hW => ⟨rfl, by show va_X b L xs U U.heap; rw [hU]; exact (hX.kept (hw.2.2.2.1 b hbl hbA)).moved hW.alike⟩⟩ rfl rfl hl.1 rfl (lv_room (Nat.le_of_ble_eq_true rfl)) dL_law_34 ⟨Nat.le_of_ble_eq_true rfl, Nat.le_of_ble_eq_true rfl⟩).run (fun r hr9 => ?_)
  subst hr9
  refine lv_aload_n hx hb dL_law_37 rfl (lv_at hl 1 rfl) ?_
  refine lv_iconst (v := nI 2) hx hb dL_law_38 (by decide) ?_
  refine vp_callSi (va_runS (As := [.ref b, .int (nI 2)]) (rest := [.int (sc_ xs L 1), .int (sc_ xs L 0), .ref o2, .ref o2]) C.1 (met_cell (xs := xs) l 2 hL (by decide)) (va_cwS 2 C.1.2.2.2.2 (lw_S q196 q197 q7 q198) rfl rfl rfl (by decide +kernel) ⟨Nat.le_of_ble_eq_true rfl, Nat.le_of_ble_eq_true rfl⟩) ⟨cell_blind, fun U hU hW => ⟨rfl, by show va_X b L xs U U.heap; rw [hU]; exact (hX.kept (hw.2.2.2.1 b hbl hbA)).moved hW.alike⟩⟩ rfl rfl hl.1 rfl (lv_room (Nat.le_of_ble_eq_true rfl)) dL_law_39 ⟨Nat.le_of_ble_eq_true rfl, Nat.le_of_ble_eq_true rfl⟩).run (fun r hr9 => ?_)
  subst hr9
  refine W.widen (k := 26) (n := 22404) (Nat.le_of_ble_eq_true rfl) (Nat.le_of_ble_eq_true rfl) ?_
  have hfr := va_free (wc := [cO o2 3 [.int 0, .int 0, .int 0, .int 0, .null, .null, .null, .null, .null]]) hw.2.1 hw.2.2 hA [25] rfl
  have hcut := w_cut (wc := [cO o2 3 [.int 0, .int 0, .int 0, .int 0, .null, .null, .null, .null, .null]]) hw [25] (by decide) rfl
  refine c_initP (As := [.int (sc_ xs L 0), .int (sc_ xs L 1), .int (sc_ xs L 2)]) (rest := [.ref o2]) (Y := fun _ h => MOok D d (va_A [cO o2 3 [.int 0, .int 0, .int 0, .int 0, .null, .null, .null, .null, .null]] H.size) o2 (clN (sc_ xs L 0) 60) (clN (sc_ xs L 1) 60) (clN (sc_ xs L 2) 1000) (fun _ _ => 0) [] (fun _ => 0) (fun _ => 0) h) C (met_X4_init l D d H.size (sc_ xs L 0) (sc_ xs L 1) (sc_ xs L 2)) (cwI 3 C.1.2.2.2.2 (lw_meth q203) rfl rfl rfl (C.1.2.2.2.2 _ q12) (C.1.2.2.2.2 _ q201) (C.1.2.2.2.2 _ q202) rfl (by decide +kernel) ⟨Nat.le_of_ble_eq_true rfl, Nat.le_of_ble_eq_true rfl⟩) ⟨rfl, hcut.1, hcut.2⟩ hw.2.2 hfr rfl hl.1 rfl (Nat.le_of_ble_eq_true rfl) dL_law_42 ⟨Nat.le_of_ble_eq_true rfl, Nat.le_of_ble_eq_true rfl⟩ (fun _ H1 locs _ hOK hz9 hk9 hS => ?_)
  obtain ⟨hP2, hD2⟩ := d_apart (ws := [cO o1 0 [.int (nI (clN (sc_ xs L 2) 1000)), .ref (ad 1), .ref (ad 5), .ref (ad 9), .ref (ad 13), .ref (ad 17), .ref (ad 21), .ref (ad 22), .ref (ad 23), .ref (ad 24)], cO (ad 1) 1 [.ref (ad 2), .ref (ad 3), .ref (ad 4), .int (nI (clN (sc_ xs L 0) 60)), .int (nI (clN (sc_ xs L 1) 60))], cA d (ad 2) 61 (F 2), cA d (ad 3) 1000 (F 3), cA d (ad 4) 1000 (F 4), cO (ad 5) 1 [.ref (ad 6), .ref (ad 7), .ref (ad 8), .int (sc 1), .int (sc 2)], cA d (ad 6) 61 (F 6), cA d (ad 7) 1000 (F 7), cA d (ad 8) 1000 (F 8), cO (ad 9) 2 [.ref (ad 10), .ref (ad 11), .ref (ad 12), .int (nI (([] : List Tr).length))], cA d (ad 10) 2000 (F 10), cA d (ad 11) 2000 (F 11), cA d (ad 12) 2000 (F 12), cO (ad 13) 2 [.ref (ad 14), .ref (ad 15), .ref (ad 16), .int (sc 3)], cA d (ad 14) 2000 (F 14), cA d (ad 15) 2000 (F 15), cA d (ad 16) 2000 (F 16), cO (ad 17) 2 [.ref (ad 18), .ref (ad 19), .ref (ad 20), .int (sc 4)], cA d (ad 18) 2000 (F 18), cA d (ad 19) 2000 (F 19), cA d (ad 20) 2000 (F 20), cA d (ad 21) 61 (F 21), cA d (ad 22) 60 (F 22), cA d (ad 23) 60 (F 23), cA d (ad 24) 60 (F 24)]) (x := cO o2 3 [.int 0, .int 0, .int 0, .int 0, .null, .null, .null, .null, .null]) hw
  have hRS : RSok D d (fun q => A q ∧ q < H.size ∧ q ≠ o2) o1 (clN (sc_ xs L 0) 60) (clN (sc_ xs L 1) 60) (clN (sc_ xs L 2) 1000) (fun _ _ => 0) [] (fun _ => 0) (fun _ => 0) H := rs_mk (P := []) hP2 hD2 hI
  have hnz : ∀ q, (A q ∧ q < H.size ∧ q ≠ o2) → ¬ va_A [cO o2 3 [.int 0, .int 0, .int 0, .int 0, .null, .null, .null, .null, .null]] H.size q := by
    rintro q ⟨-, h1, h2⟩ (⟨k, e9, h3⟩ | h3)
    · match k, h3 with
      | 0, h3 => cases h3; exact h2 rfl
      | k + 1, h3 => simp at h3
    · omega
  have hRS := hRS.kept (H1 := H1) (fun q hq hlt => hk9 q hlt (hnz q hq))
  refine W.widen (k := 31) (n := 33324) (Nat.le_of_ble_eq_true rfl) (Nat.le_of_ble_eq_true rfl) ?_
  refine lv_astore_n (lv' := [(2, .ref o2), (1, .ref o1), (0, .ref b)]) hx hb dL_law_45 rfl hl (by decide) rfl (fun ls hl => ?_)
  refine lv_iconst (v := nI 3) hx hb dL_law_46 (by decide) ?_
  refine lv_istore_n (lv' := [(3, .int (nI 3)), (2, .ref o2), (1, .ref o1), (0, .ref b)]) hx hb dL_law_47 rfl hl (by decide) rfl (fun ls hl => ?_)
  exact law_loop hL C hX hbl hbA hAs (fun q h => h.1) hfr (fun q h1 h2 => hnz q h1 h2) (L + 1) 3 _ _ _ _ _ _ _ H1 locs ls (by omega) (by omega) hRS hOK hS (lv_sub hl [3, 2, 1, 0] rfl)

set_option maxHeartbeats 4000000 in
theorem lw_walk (l : Launch) (b : Addr) (xs : List Int32) : MetFree l x (headSpec (Jvm.Cond.code x code maxLocals ret :: tables_1) room_1) (lw_P b xs) (fun _ _ _ _ _ => True) lw_Q := by
  refine MetFree.of_bodyS (code := code) (maxLocals := maxLocals) (ret := ret) (by decide) ?_ ?_
  · intro args s m h hn
    obtain ⟨meth, c, h1, h2, h3, h4, h5, h6, -, -⟩ := Cond.code_spec hn (atoms_spec (ws := Jvm.Cond.code x code maxLocals ret :: tables_1) h _ List.mem_cons_self)
    exact ⟨meth, c, h1, h2, h3, h4, h5, h6⟩
  · intro p e s m args below meth c s₁ B hml0 hP _
    obtain ⟨rfl, hx, hbd, hgv⟩ := hP
    obtain ⟨scr, harrAt, hlist, hof, hsmall⟩ := hx
    obtain ⟨hcb, hkn, -, -⟩ := State.arrayAt?_spec harrAt
    have hown : s.vm.findClass R_law = some m.cls := findClass_of_methodNamed B.named
    have hts0 : ∀ c ∈ (Jvm.Cond.code x code maxLocals ret :: tables_1), c.before #[Value.ref b] s = true := atoms_spec (ws := Jvm.Cond.code x code maxLocals ret :: tables_1) B.pre
    have hts : ∀ w ∈ lw_tbl, w.before #[Value.ref b] s = true := k2_hts_sels lw_privs (fun w hw => hts0 w (List.mem_cons_of_mem _ hw)) lw_privs_ok
    have hml : c.maxLocals = 4 := B.maxLocals_eq (hts0 _ List.mem_cons_self)
    have X₀ : Stand p l e room_1 s m #[Value.ref b] below meth c s₁ [] 0 0 := Stand.of_body B
    have hh0 : s₁.heap = s.heap := by rw [B.state]; rfl
    have hsz : scr.slots.size = xs.length := by rw [← Array.length_toList, hlist, List.length_map]
    have hval : ∀ j : Nat, j < xs.length → scr.slots[j]? = some (.int (xs.getD j 0)) := fun j hj => by
      rw [← Array.getElem?_toList, hlist]
      simp [hj]
    have hbl : b < s.heap.size := (Array.getElem?_eq_some_iff.mp hcb).1
    have hX : va_X b xs.length (fun j => xs.getD j 0) s s.heap := ⟨scr, hcb, hof, hkn, hsz, hval⟩
    have K : W p l e room_1 s m #[Value.ref b] below meth c s₁.heap [] 0 0 (lw_Z below #[Value.ref b] s) (entryFrame m ([Value.ref b] : List Value).toArray 4) := by
      rw [hh0]
      exact whole_start l hbd ⟨B.exec, B.bytes, B.returns, hml, hown, hts, hX, hbl, B.notSynchronized, hgv⟩
    obtain ⟨t, a1, o, b1, b2, b3⟩ := K s₁ rfl X₀
    exact ⟨t, o, a1, b1, b2, b3⟩
theorem lw_pre_spec {args : Array Value} {s : State} (h : (Jvm.Cond.and given_1 narrow_1).before args s = true) (hr : rest_1_c.before args s = true) : ∃ (b : Addr) (xs : List Int32), lw_P b xs args s := by
  have hs := flat_of_before _ h
  have hq := flat_of_before _ hr
  have hc : (Cond.count 1).before args s = true := hs _ (by decide +kernel)
  have harr : (Cond.arrayOf (.arg 0) .int).before args s = true := hs _ (by decide +kernel)
  have hle : (Cond.le (.length (.arg 0)) (.int 259)).before args s = true := hs _ (by decide +kernel)
  have hlen : (Cond.isInt (.length (.arg 0))).before args s = true := hq _ (by decide +kernel)
  have hall : (Cond.all (.arg 0) (.isInt (.elem (.arg 0) (.index 0)))).before args s = true := hq _ (by decide +kernel)
  obtain ⟨b, xs, hb, hx⟩ := State.ints_of_pre rfl harr hlen hall
  have hsm : xs.length < 2 ^ 31 := hx.choose_spec.2.2.2
  have hev : (Term.length (.arg 0)).eval args s none [] s = some (.int xs.length.toInt32) := hx.length_eval hb
  have hv := Cond.le_ints hev (show (Term.int 259).eval args s none [] s = some (.int 259) from rfl)
  have hd : xs.length.toInt32 ≤ 259 := by
    simpa [Cond.before, Cond.holds, hv] using hle
  have hN : xs.length ≤ 259 := (Int32.ofNat_le_ofNat hsm (by decide)).mp (show Int32.ofNat xs.length ≤ Int32.ofNat 259 from hd)
  exact ⟨b, xs, Cond.one_arg hc (show args[0]? = some (.ref b) from hb), hx, hN, h⟩
theorem lw_comes (l : Launch) : Comes l x (Jvm.Cond.code x code maxLocals ret :: tables_1) room_1 (fun tb e args s => Calls_1 tb e args s ∧ rest_1 tb e args s ∧ Pre_1 tb e args s)
    (fun _ _ args s o t => lw_Q args s o t) := by
  intro p e ha hc hk s m args below hf hfit hheap happ hpre
  obtain ⟨b, xs, hP⟩ := lw_pre_spec hpre.2.2 hpre.2.1
  obtain ⟨k, o, h1, h2, h3, hQ⟩ := lw_walk l b xs p e ha hc hk s m args below hf ((Spec.applies_iff_loose hf).mp happ).1 hP trivial
  exact ⟨k, o, h1, h2, h3, hQ⟩
theorem lw_frame {s t : State} {o : Outcome} {args : Array Value} (h : Framed s o t [] 600000 7290000) :
    Framed s o t (fieldLocs frame_1_writes args s ++ arrayLocs frame_1_arrays args s ++ staticLocs frame_1_statics s) 600000 7290000 := h
theorem lw_limb (L : Cond) (hL : ∀ (args : Array Value) (s t : State), L.after args s (.returned (some (.int 1))) t = true) :
    ArmFor flags0 classFile x code maxLocals ret World_1 tables_1 room_1 Calls_1 rest_1 Pre_1
      (fun tb e a s o t => postC L tb e a s o t ∧ Framed s o t (fieldLocs frame_1_writes a s ++ arrayLocs frame_1_arrays a s ++ staticLocs frame_1_statics s) 600000 7290000) := by
  intro l _ _ _ p e ha hc hk s m args below hf hfit hheap happ hpre
  obtain ⟨k, o, h1, h2, h3, rfl, hF⟩ := lw_comes l p e ha hc hk s m args below hf hfit hheap happ hpre
  exact ⟨k, _, h1, h2, h3, hL args s _, lw_frame hF⟩
theorem i_vc : Claimed_1_1 ∧ Claimed_1_2 := ⟨lw_limb limb_1_1 (fun args s t => by simp [limb_1_1, Cond.after, Cond.holds, Cond.value]), lw_limb limb_1_2 (fun args s t => Cond.after_iff.mpr (by
  first | (rw [show limb_1_2 = Cond.eq .result (.int 1) from rfl, Cond.eq_ints (x := 1) (y := 1) rfl rfl]; simp; done) | (simp [limb_1_2, Cond.value, Term.eval]; done)))⟩
end
