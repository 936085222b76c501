section
-- ===== PART A: goes FIRST, ahead of the names: the tables' words, and 'selects' of the private methods out of them =====
/-- a private method of a class that the tables say can be made, by its rows of tables_1 -/
def lw_okq (q : MethodName × Nat) : Prop := (q.1.cls ≠ "java/lang/invoke/MethodHandle" ∧ q.1.cls ≠ "java/lang/invoke/VarHandle") ∧ Cond.instantiable q.1.cls q.2 ∈ tables_1 ∧ Cond.privateMethod q.1 ∈ tables_1 ∧ Cond.instanceMethod q.1 ∈ tables_1
set_option maxRecDepth 100000
theorem lw_t1 {w : Cond} (h : w ∈ tables_1_1) : w ∈ tables_1 := List.mem_append_left _ h
theorem lw_t2 {w : Cond} (h : w ∈ tables_1_2) : w ∈ tables_1 := List.mem_append_right _ h
theorem lw_p0 : lw_okq (⟨"MoveTree", "make", "(IZII)V"⟩, 18) := ⟨⟨by decide +kernel, by decide +kernel⟩, lw_t1 (List.mem_of_getElem? (i := 4) rfl), lw_t1 (List.mem_of_getElem? (i := 76) rfl), lw_t1 (List.mem_of_getElem? (i := 77) rfl)⟩
theorem lw_p1 : lw_okq (⟨"MoveTree", "learn", "(II)V"⟩, 18) := ⟨⟨by decide +kernel, by decide +kernel⟩, lw_t1 (List.mem_of_getElem? (i := 4) rfl), lw_t1 (List.mem_of_getElem? (i := 80) rfl), lw_t1 (List.mem_of_getElem? (i := 81) rfl)⟩
theorem lw_p2 : lw_okq (⟨"MoveTree", "isEarlier", "(II)Z"⟩, 18) := ⟨⟨by decide +kernel, by decide +kernel⟩, lw_t1 (List.mem_of_getElem? (i := 4) rfl), lw_t1 (List.mem_of_getElem? (i := 84) rfl), lw_t1 (List.mem_of_getElem? (i := 85) rfl)⟩
theorem lw_p3 : lw_okq (⟨"MoveTree", "undo", "(II)V"⟩, 18) := ⟨⟨by decide +kernel, by decide +kernel⟩, lw_t1 (List.mem_of_getElem? (i := 4) rfl), lw_t1 (List.mem_of_getElem? (i := 88) rfl), lw_t1 (List.mem_of_getElem? (i := 89) rfl)⟩
theorem lw_p4 : lw_okq (⟨"MoveTree", "carryOut", "(II)V"⟩, 18) := ⟨⟨by decide +kernel, by decide +kernel⟩, lw_t1 (List.mem_of_getElem? (i := 4) rfl), lw_t1 (List.mem_of_getElem? (i := 92) rfl), lw_t1 (List.mem_of_getElem? (i := 93) rfl)⟩
theorem lw_p5 : lw_okq (⟨"MoveTree", "leadsUpTo", "(III)Z"⟩, 18) := ⟨⟨by decide +kernel, by decide +kernel⟩, lw_t1 (List.mem_of_getElem? (i := 4) rfl), lw_t1 (List.mem_of_getElem? (i := 96) rfl), lw_t1 (List.mem_of_getElem? (i := 97) rfl)⟩
theorem lw_p6 : lw_okq (⟨"MoveTree", "isKnown", "(II)Z"⟩, 18) := ⟨⟨by decide +kernel, by decide +kernel⟩, lw_t1 (List.mem_of_getElem? (i := 4) rfl), lw_t1 (List.mem_of_getElem? (i := 112) rfl), lw_t1 (List.mem_of_getElem? (i := 113) rfl)⟩
theorem lw_p7 : lw_okq (⟨"MoveTreeModel", "make", "(IZII)I"⟩, 13) := ⟨⟨by decide +kernel, by decide +kernel⟩, lw_t1 (List.mem_of_getElem? (i := 143) rfl), lw_t1 (List.mem_of_getElem? (i := 199) rfl), lw_t1 (List.mem_of_getElem? (i := 200) rfl)⟩
theorem lw_p8 : lw_okq (⟨"MoveTreeModel", "carryOut", "(II)Z"⟩, 13) := ⟨⟨by decide +kernel, by decide +kernel⟩, lw_t1 (List.mem_of_getElem? (i := 143) rfl), lw_t1 (List.mem_of_getElem? (i := 203) rfl), lw_t1 (List.mem_of_getElem? (i := 204) rfl)⟩
theorem lw_p9 : lw_okq (⟨"MoveTreeModel", "earliest", "(I)I"⟩, 13) := ⟨⟨by decide +kernel, by decide +kernel⟩, lw_t1 (List.mem_of_getElem? (i := 143) rfl), lw_t1 (List.mem_of_getElem? (i := 207) rfl), lw_t1 (List.mem_of_getElem? (i := 208) rfl)⟩
theorem lw_p10 : lw_okq (⟨"MoveTreeModel", "earlier", "(II)Z"⟩, 13) := ⟨⟨by decide +kernel, by decide +kernel⟩, lw_t1 (List.mem_of_getElem? (i := 143) rfl), lw_t1 (List.mem_of_getElem? (i := 211) rfl), lw_t1 (List.mem_of_getElem? (i := 212) rfl)⟩
theorem lw_p11 : lw_okq (⟨"MoveTreeModel", "above", "(II)Z"⟩, 13) := ⟨⟨by decide +kernel, by decide +kernel⟩, lw_t1 (List.mem_of_getElem? (i := 143) rfl), lw_t1 (List.mem_of_getElem? (i := 215) rfl), lw_t1 (List.mem_of_getElem? (i := 216) rfl)⟩
def lw_privs_1 : List (MethodName × Nat) := [(⟨"MoveTree", "make", "(IZII)V"⟩, 18), (⟨"MoveTree", "learn", "(II)V"⟩, 18), (⟨"MoveTree", "isEarlier", "(II)Z"⟩, 18), (⟨"MoveTree", "undo", "(II)V"⟩, 18), (⟨"MoveTree", "carryOut", "(II)V"⟩, 18), (⟨"MoveTree", "leadsUpTo", "(III)Z"⟩, 18), (⟨"MoveTree", "isKnown", "(II)Z"⟩, 18), (⟨"MoveTreeModel", "make", "(IZII)I"⟩, 13), (⟨"MoveTreeModel", "carryOut", "(II)Z"⟩, 13), (⟨"MoveTreeModel", "earliest", "(I)I"⟩, 13), (⟨"MoveTreeModel", "earlier", "(II)Z"⟩, 13), (⟨"MoveTreeModel", "above", "(II)Z"⟩, 13)]
theorem lw_r1 : ∀ q ∈ lw_privs_1, lw_okq q := List.forall_mem_cons.mpr ⟨lw_p0, List.forall_mem_cons.mpr ⟨lw_p1, List.forall_mem_cons.mpr ⟨lw_p2, List.forall_mem_cons.mpr ⟨lw_p3, List.forall_mem_cons.mpr ⟨lw_p4, List.forall_mem_cons.mpr ⟨lw_p5, List.forall_mem_cons.mpr ⟨lw_p6, List.forall_mem_cons.mpr ⟨lw_p7, List.forall_mem_cons.mpr ⟨lw_p8, List.forall_mem_cons.mpr ⟨lw_p9, List.forall_mem_cons.mpr ⟨lw_p10, List.forall_mem_cons.mpr ⟨lw_p11, fun _ h => absurd h List.not_mem_nil⟩⟩⟩⟩⟩⟩⟩⟩⟩⟩⟩⟩
def lw_privs : List (MethodName × Nat) := lw_privs_1
def lw_tbl : List Cond := k2_sels lw_privs ++ tables_1
theorem lw_privs_ok : ∀ q ∈ lw_privs, lw_okq q := lw_r1
-- ===== ONE list of words for every method: the tables' words that hold all through a run =====
def lw_all : List Cond := lw_tbl.filter goodWord
/-- a word of the tables by its place: claim/WORDS.tsv -/
theorem lw_w {w : Cond} (i : Nat) (h : lw_tbl[i]? = some w) (g : goodWord w = true) : w ∈ lw_all := List.mem_filter.mpr ⟨List.mem_of_getElem? h, g⟩
theorem lw_all_tbl {w : Cond} (h : w ∈ lw_all) : w ∈ lw_tbl := (List.mem_filter.mp h).1
theorem lw_self : GoodIn lw_all lw_all := fun w h => ⟨h, good_of_word (List.mem_filter.mp h).2⟩
/-- a class's field words, by their places -/
theorem lw_in (ws : List Cond) (ps : List Nat) (hp : ws = ps.filterMap (fun i => lw_tbl[i]?)) (hg : ws.all goodWord = true) : ∀ w ∈ ws, w ∈ lw_all := by
  intro w h
  have h1 := List.all_eq_true.mp hg w h
  rw [hp] at h
  obtain ⟨i, -, hi⟩ := List.mem_filterMap.mp h
  exact lw_w i hi h1
/-- the words of a contract for the method y with code b, L locals, answer r -/
abbrev ws_ (y : MethodName) (b : ByteArray) (L : Nat) (r : Option FieldType) : List Cond := Cond.code y b L r :: lw_all
theorem lw_meth {y : MethodName} {b : ByteArray} {L : Nat} {r : Option FieldType} (h : Cond.code y b L r ∈ lw_all) : GoodIn lw_all (ws_ y b L r) := by
  intro w hw
  rcases List.mem_cons.mp hw with e | e
  · rw [e]
    exact lw_self _ h
  · exact lw_self _ e
theorem lw_app {a c : List Cond} (ha : ∀ w ∈ a, w ∈ lw_all) (hc : GoodIn lw_all c) : GoodIn lw_all (a ++ c) := by
  intro w hw
  rcases List.mem_append.mp hw with e | e
  · exact lw_self w (ha w e)
  · exact hc w e
/-- what a call through an object asks: cwV n hts (lw_V ..) -/
theorem lw_V {own : String} {idx : Nat} {C : String} {y : MethodName} {b : ByteArray} {L : Nat} {r : Option FieldType} (h1 : Cond.methodLink own idx y ∈ lw_all) (h2 : Cond.instanceMethod y ∈ lw_all) (h3 : Cond.selects C y y ∈ lw_all) (h4 : Cond.initialized C ∈ lw_all) (h5 : Cond.code y b L r ∈ lw_all) : GoodIn lw_all (wsV own idx C y (ws_ y b L r)) := by
  refine lw_app ?_ (lw_meth h5)
  intro w hw
  simp only [List.mem_cons, List.not_mem_nil, or_false] at hw
  rcases hw with e | e | e | e
  · rw [e]; exact h1
  · rw [e]; exact h2
  · rw [e]; exact h3
  · rw [e]; exact h4
/-- what a static call asks: va_cwS n hts (lw_S ..) -/
theorem lw_S {own : String} {idx : Nat} {y : MethodName} {b : ByteArray} {L : Nat} {r : Option FieldType} (h1 : Cond.methodLink own idx y ∈ lw_all) (h2 : Cond.static y ∈ lw_all) (h3 : Cond.initialized y.cls ∈ lw_all) (h4 : Cond.code y b L r ∈ lw_all) : GoodIn lw_all (va_wsS own idx y (ws_ y b L r)) := by
  refine lw_app ?_ (lw_meth h4)
  intro w hw
  simp only [List.mem_cons, List.not_mem_nil, or_false] at hw
  rcases hw with e | e | e
  · rw [e]; exact h1
  · rw [e]; exact h2
  · rw [e]; exact h3
/-- the words of a contract for a method WITH HANDLERS (hh: its table) -/
abbrev wsW_ (y : MethodName) (b : ByteArray) (L : Nat) (r : Option FieldType) (hh : List (Nat × Nat × Nat × Nat)) : List Cond := Cond.codeWith y b L r hh :: lw_all
theorem lw_methW {y : MethodName} {b : ByteArray} {L : Nat} {r : Option FieldType} {hh : List (Nat × Nat × Nat × Nat)} (h : Cond.codeWith y b L r hh ∈ lw_all) : GoodIn lw_all (wsW_ y b L r hh) := by
  intro w hw
  rcases List.mem_cons.mp hw with e | e
  · rw [e]
    exact lw_self _ h
  · exact lw_self _ e
/-- any list of words by their places (lw_in), good -/
theorem lw_good {ws : List Cond} (h : ∀ w ∈ ws, w ∈ lw_all) : GoodIn lw_all ws := fun w hw => lw_self w (h w hw)
/-- what a call of a method with handlers asks: vx_cwVW n hts (lw_VW ..), vx_cwSW n hts (lw_SW ..) -/
theorem lw_VW {own : String} {idx : Nat} {C : String} {y : MethodName} {b : ByteArray} {L : Nat} {r : Option FieldType} {hh : List (Nat × Nat × Nat × Nat)} (h1 : Cond.methodLink own idx y ∈ lw_all) (h2 : Cond.instanceMethod y ∈ lw_all) (h3 : Cond.selects C y y ∈ lw_all) (h4 : Cond.initialized C ∈ lw_all) (h5 : Cond.codeWith y b L r hh ∈ lw_all) : GoodIn lw_all (wsV own idx C y (wsW_ y b L r hh)) := by
  refine lw_app ?_ (lw_methW h5)
  intro w hw
  simp only [List.mem_cons, List.not_mem_nil, or_false] at hw
  rcases hw with e | e | e | e
  · rw [e]; exact h1
  · rw [e]; exact h2
  · rw [e]; exact h3
  · rw [e]; exact h4
theorem lw_SW {own : String} {idx : Nat} {y : MethodName} {b : ByteArray} {L : Nat} {r : Option FieldType} {hh : List (Nat × Nat × Nat × Nat)} (h1 : Cond.methodLink own idx y ∈ lw_all) (h2 : Cond.static y ∈ lw_all) (h3 : Cond.initialized y.cls ∈ lw_all) (h4 : Cond.codeWith y b L r hh ∈ lw_all) : GoodIn lw_all (va_wsS own idx y (wsW_ y b L r hh)) := by
  refine lw_app ?_ (lw_methW h4)
  intro w hw
  simp only [List.mem_cons, List.not_mem_nil, or_false] at hw
  rcases hw with e | e | e
  · rw [e]; exact h1
  · rw [e]; exact h2
  · rw [e]; exact h3
/-- a word by its place in its run of the tables -/
theorem lw_at {r : List Cond} (hr : ∀ w ∈ r, w ∈ lw_tbl) {w : Cond} (i : Nat) (h : r[i]? = some w) : w ∈ lw_tbl := hr w (List.mem_of_getElem? h)
theorem lw_g {w : Cond} (h : w ∈ lw_tbl) (g : goodWord w = true) : w ∈ lw_all := List.mem_filter.mpr ⟨h, g⟩
theorem lw_ms : ∀ w ∈ k2_sels lw_privs, w ∈ lw_tbl := fun w h => show w ∈ k2_sels lw_privs ++ tables_1 from List.mem_append_left _ h
theorem lw_m1 : ∀ w ∈ tables_1_1, w ∈ lw_tbl := fun w h => show w ∈ k2_sels lw_privs ++ tables_1 from List.mem_append_right (k2_sels lw_privs) (show w ∈ tables_1 from List.mem_append_left _ h)
theorem lw_m2 : ∀ w ∈ tables_1_2, w ∈ lw_tbl := fun w h => show w ∈ k2_sels lw_privs ++ tables_1 from List.mem_append_right (k2_sels lw_privs) (show w ∈ tables_1 from List.mem_append_right _ h)
theorem qs0 : (Cond.selects "MoveTree" ⟨"MoveTree", "make", "(IZII)V"⟩ ⟨"MoveTree", "make", "(IZII)V"⟩) ∈ lw_all := lw_g (lw_at lw_ms 0 rfl) rfl
theorem qs1 : (Cond.selects "MoveTree" ⟨"MoveTree", "learn", "(II)V"⟩ ⟨"MoveTree", "learn", "(II)V"⟩) ∈ lw_all := lw_g (lw_at lw_ms 1 rfl) rfl
theorem qs2 : (Cond.selects "MoveTree" ⟨"MoveTree", "isEarlier", "(II)Z"⟩ ⟨"MoveTree", "isEarlier", "(II)Z"⟩) ∈ lw_all := lw_g (lw_at lw_ms 2 rfl) rfl
theorem qs3 : (Cond.selects "MoveTree" ⟨"MoveTree", "undo", "(II)V"⟩ ⟨"MoveTree", "undo", "(II)V"⟩) ∈ lw_all := lw_g (lw_at lw_ms 3 rfl) rfl
theorem qs4 : (Cond.selects "MoveTree" ⟨"MoveTree", "carryOut", "(II)V"⟩ ⟨"MoveTree", "carryOut", "(II)V"⟩) ∈ lw_all := lw_g (lw_at lw_ms 4 rfl) rfl
theorem qs5 : (Cond.selects "MoveTree" ⟨"MoveTree", "leadsUpTo", "(III)Z"⟩ ⟨"MoveTree", "leadsUpTo", "(III)Z"⟩) ∈ lw_all := lw_g (lw_at lw_ms 5 rfl) rfl
theorem qs6 : (Cond.selects "MoveTree" ⟨"MoveTree", "isKnown", "(II)Z"⟩ ⟨"MoveTree", "isKnown", "(II)Z"⟩) ∈ lw_all := lw_g (lw_at lw_ms 6 rfl) rfl
theorem qs7 : (Cond.selects "MoveTreeModel" ⟨"MoveTreeModel", "make", "(IZII)I"⟩ ⟨"MoveTreeModel", "make", "(IZII)I"⟩) ∈ lw_all := lw_g (lw_at lw_ms 7 rfl) rfl
theorem qs8 : (Cond.selects "MoveTreeModel" ⟨"MoveTreeModel", "carryOut", "(II)Z"⟩ ⟨"MoveTreeModel", "carryOut", "(II)Z"⟩) ∈ lw_all := lw_g (lw_at lw_ms 8 rfl) rfl
theorem qs9 : (Cond.selects "MoveTreeModel" ⟨"MoveTreeModel", "earliest", "(I)I"⟩ ⟨"MoveTreeModel", "earliest", "(I)I"⟩) ∈ lw_all := lw_g (lw_at lw_ms 9 rfl) rfl
theorem qs10 : (Cond.selects "MoveTreeModel" ⟨"MoveTreeModel", "earlier", "(II)Z"⟩ ⟨"MoveTreeModel", "earlier", "(II)Z"⟩) ∈ lw_all := lw_g (lw_at lw_ms 10 rfl) rfl
theorem qs11 : (Cond.selects "MoveTreeModel" ⟨"MoveTreeModel", "above", "(II)Z"⟩ ⟨"MoveTreeModel", "above", "(II)Z"⟩) ∈ lw_all := lw_g (lw_at lw_ms 11 rfl) rfl
end
section
set_option maxRecDepth 100000
/-! java/lang/Object -/
def RJ0 : String := "java/lang/Object"
abbrev cJ0_init : ByteArray := object_method_1_code
def yJ0_init : MethodName := ⟨RJ0, "<init>", "()V"⟩
theorem q21 : (Jvm.Cond.instanceMethod ({ cls := "java/lang/Object", name := "<init>", desc := "()V" } : Jvm.MethodName)) ∈ lw_all := lw_g (lw_at lw_m1 9 rfl) rfl
theorem q22 : (Jvm.Cond.code ({ cls := "java/lang/Object", name := "<init>", desc := "()V" } : Jvm.MethodName) object_method_1_code (1 : Nat) (Option.none : Option Jvm.ClassFile.FieldType)) ∈ lw_all := lw_g (lw_at lw_m1 10 rfl) rfl

/-! MoveTree -/
def RX0 : String := "MoveTree"
def TX0 : u_T := fun k => match k with
  | 0 => ("MoveTree", "made", "I", false)
  | 1 => ("MoveTree", "isMove", "[Z", true)
  | 2 => ("MoveTree", "nodeOf", "[I", true)
  | 3 => ("MoveTree", "argument", "[I", true)
  | 4 => ("MoveTree", "stampOf", "[I", true)
  | 5 => ("MoveTree", "originOf", "[I", true)
  | 6 => ("MoveTree", "numberOf", "[I", true)
  | 7 => ("MoveTree", "madeBy", "[I", true)
  | 8 => ("MoveTree", "changeOf", "[I", true)
  | 9 => ("MoveTree", "knows", "[I", true)
  | 10 => ("MoveTree", "greatest", "[I", true)
  | 11 => ("MoveTree", "logLength", "[I", true)
  | 12 => ("MoveTree", "logChange", "[I", true)
  | 13 => ("MoveTree", "before", "[I", true)
  | 14 => ("MoveTree", "skips", "[Z", true)
  | 15 => ("MoveTree", "skipCount", "[I", true)
  | 16 => ("MoveTree", "parentOf", "[I", true)
  | _ => ("MoveTree", "labelOf", "[I", true)
def tyX0 : Nat → FieldType := fun k => match k with
  | 0 => .int
  | 1 => .array .boolean
  | 2 => .array .int
  | 3 => .array .int
  | 4 => .array .int
  | 5 => .array .int
  | 6 => .array .int
  | 7 => .array .int
  | 8 => .array .int
  | 9 => .array .int
  | 10 => .array .int
  | 11 => .array .int
  | 12 => .array .int
  | 13 => .array .int
  | 14 => .array .boolean
  | 15 => .array .int
  | 16 => .array .int
  | _ => .array .int
abbrev wsX00 : List Cond := u_ws RX0 TX0 18
set_option maxRecDepth 100000 in
theorem nmX0 : ∀ a, a < 18 → ∀ b, b < 18 → a ≠ b → (TX0 a).2.1 ≠ (TX0 b).2.1 := by decide +kernel
set_option maxRecDepth 100000 in
theorem tyX0_ok : ∀ k, k < 18 → parseFieldDescriptor (TX0 k).2.2.1 = some (tyX0 k) := by decide +kernel
abbrev cX0_init : ByteArray := prog_1_method_1_code
def yX0_init : MethodName := ⟨RX0, "<init>", "()V"⟩
abbrev cX0_move : ByteArray := prog_1_method_2_code
def yX0_move : MethodName := ⟨RX0, "move", "(III)I"⟩
abbrev cX0_isReplica : ByteArray := prog_1_method_12_code
def yX0_isReplica : MethodName := ⟨RX0, "isReplica", "(I)Z"⟩
abbrev cX0_make : ByteArray := prog_1_method_14_code
def yX0_make : MethodName := ⟨RX0, "make", "(IZII)V"⟩
abbrev cX0_learn : ByteArray := prog_1_method_16_code
def yX0_learn : MethodName := ⟨RX0, "learn", "(II)V"⟩
abbrev cX0_isEarlier : ByteArray := prog_1_method_17_code
def yX0_isEarlier : MethodName := ⟨RX0, "isEarlier", "(II)Z"⟩
abbrev cX0_undo : ByteArray := prog_1_method_19_code
def yX0_undo : MethodName := ⟨RX0, "undo", "(II)V"⟩
abbrev cX0_carryOut : ByteArray := prog_1_method_18_code
def yX0_carryOut : MethodName := ⟨RX0, "carryOut", "(II)V"⟩
abbrev cX0_leadsUpTo : ByteArray := prog_1_method_20_code
def yX0_leadsUpTo : MethodName := ⟨RX0, "leadsUpTo", "(III)Z"⟩
abbrev cX0_name : ByteArray := prog_1_method_3_code
def yX0_name : MethodName := ⟨RX0, "name", "(III)I"⟩
abbrev cX0_deliver : ByteArray := prog_1_method_4_code
def yX0_deliver : MethodName := ⟨RX0, "deliver", "(II)I"⟩
abbrev cX0_sync : ByteArray := prog_1_method_5_code
def yX0_sync : MethodName := ⟨RX0, "sync", "(II)I"⟩
abbrev cX0_isKnown : ByteArray := prog_1_method_15_code
def yX0_isKnown : MethodName := ⟨RX0, "isKnown", "(II)Z"⟩
abbrev cX0_parent : ByteArray := prog_1_method_6_code
def yX0_parent : MethodName := ⟨RX0, "parent", "(II)I"⟩
abbrev cX0_isNode : ByteArray := prog_1_method_13_code
def yX0_isNode : MethodName := ⟨RX0, "isNode", "(I)Z"⟩
abbrev cX0_label : ByteArray := prog_1_method_7_code
def yX0_label : MethodName := ⟨RX0, "label", "(II)I"⟩
abbrev cX0_children : ByteArray := prog_1_method_8_code
def yX0_children : MethodName := ⟨RX0, "children", "(II)I"⟩
abbrev cX0_depth : ByteArray := prog_1_method_9_code
def yX0_depth : MethodName := ⟨RX0, "depth", "(II)I"⟩
abbrev cX0_skipped : ByteArray := prog_1_method_10_code
def yX0_skipped : MethodName := ⟨RX0, "skipped", "(I)I"⟩
abbrev cX0_alike : ByteArray := prog_1_method_11_code
def yX0_alike : MethodName := ⟨RX0, "alike", "(II)I"⟩
theorem q13 : (Jvm.Cond.initialized "MoveTree") ∈ lw_all := lw_g (lw_at lw_m1 1 rfl) rfl
theorem q16 : (Jvm.Cond.instantiable "MoveTree" (18 : Nat)) ∈ lw_all := lw_g (lw_at lw_m1 4 rfl) rfl
theorem q18 : (Jvm.Cond.instanceMethod ({ cls := "MoveTree", name := "<init>", desc := "()V" } : Jvm.MethodName)) ∈ lw_all := lw_g (lw_at lw_m1 6 rfl) rfl
theorem q19 : (Jvm.Cond.code ({ cls := "MoveTree", name := "<init>", desc := "()V" } : Jvm.MethodName) prog_1_method_1_code (2 : Nat) (Option.none : Option Jvm.ClassFile.FieldType)) ∈ lw_all := lw_g (lw_at lw_m1 7 rfl) rfl
theorem q20 : (Jvm.Cond.methodLink "MoveTree" (1 : Nat) ({ cls := "java/lang/Object", name := "<init>", desc := "()V" } : Jvm.MethodName)) ∈ lw_all := lw_g (lw_at lw_m1 8 rfl) rfl
theorem q23 : (Jvm.Cond.fieldLink "MoveTree" (66 : Nat) "MoveTree" "made" "I") ∈ lw_all := lw_g (lw_at lw_m1 11 rfl) rfl
theorem q24 : (Jvm.Cond.fieldLink "MoveTree" (7 : Nat) "MoveTree" "isMove" "[Z") ∈ lw_all := lw_g (lw_at lw_m1 12 rfl) rfl
theorem q25 : (Jvm.Cond.fieldLink "MoveTree" (13 : Nat) "MoveTree" "nodeOf" "[I") ∈ lw_all := lw_g (lw_at lw_m1 13 rfl) rfl
theorem q26 : (Jvm.Cond.fieldLink "MoveTree" (17 : Nat) "MoveTree" "argument" "[I") ∈ lw_all := lw_g (lw_at lw_m1 14 rfl) rfl
theorem q27 : (Jvm.Cond.fieldLink "MoveTree" (20 : Nat) "MoveTree" "stampOf" "[I") ∈ lw_all := lw_g (lw_at lw_m1 15 rfl) rfl
theorem q28 : (Jvm.Cond.fieldLink "MoveTree" (23 : Nat) "MoveTree" "originOf" "[I") ∈ lw_all := lw_g (lw_at lw_m1 16 rfl) rfl
theorem q29 : (Jvm.Cond.fieldLink "MoveTree" (26 : Nat) "MoveTree" "numberOf" "[I") ∈ lw_all := lw_g (lw_at lw_m1 17 rfl) rfl
theorem q30 : (Jvm.Cond.fieldLink "MoveTree" (29 : Nat) "MoveTree" "madeBy" "[I") ∈ lw_all := lw_g (lw_at lw_m1 18 rfl) rfl
theorem q31 : (Jvm.Cond.fieldLink "MoveTree" (32 : Nat) "MoveTree" "changeOf" "[I") ∈ lw_all := lw_g (lw_at lw_m1 19 rfl) rfl
theorem q32 : (Jvm.Cond.fieldLink "MoveTree" (35 : Nat) "MoveTree" "knows" "[I") ∈ lw_all := lw_g (lw_at lw_m1 20 rfl) rfl
theorem q33 : (Jvm.Cond.fieldLink "MoveTree" (38 : Nat) "MoveTree" "greatest" "[I") ∈ lw_all := lw_g (lw_at lw_m1 21 rfl) rfl
theorem q34 : (Jvm.Cond.fieldLink "MoveTree" (41 : Nat) "MoveTree" "logLength" "[I") ∈ lw_all := lw_g (lw_at lw_m1 22 rfl) rfl
theorem q35 : (Jvm.Cond.fieldLink "MoveTree" (44 : Nat) "MoveTree" "logChange" "[I") ∈ lw_all := lw_g (lw_at lw_m1 23 rfl) rfl
theorem q36 : (Jvm.Cond.fieldLink "MoveTree" (47 : Nat) "MoveTree" "before" "[I") ∈ lw_all := lw_g (lw_at lw_m1 24 rfl) rfl
theorem q37 : (Jvm.Cond.fieldLink "MoveTree" (50 : Nat) "MoveTree" "skips" "[Z") ∈ lw_all := lw_g (lw_at lw_m1 25 rfl) rfl
theorem q38 : (Jvm.Cond.fieldLink "MoveTree" (53 : Nat) "MoveTree" "skipCount" "[I") ∈ lw_all := lw_g (lw_at lw_m1 26 rfl) rfl
theorem q39 : (Jvm.Cond.fieldLink "MoveTree" (56 : Nat) "MoveTree" "parentOf" "[I") ∈ lw_all := lw_g (lw_at lw_m1 27 rfl) rfl
theorem q40 : (Jvm.Cond.fieldLink "MoveTree" (59 : Nat) "MoveTree" "labelOf" "[I") ∈ lw_all := lw_g (lw_at lw_m1 28 rfl) rfl
theorem q41 : (Jvm.Cond.lays "MoveTree" "MoveTree" "made" "I") ∈ lw_all := lw_g (lw_at lw_m1 29 rfl) rfl
theorem q42 : (Jvm.Cond.soleField "MoveTree" "made") ∈ lw_all := lw_g (lw_at lw_m1 30 rfl) rfl
theorem q43 : (Jvm.Cond.laysFinal "MoveTree" "MoveTree" "isMove" "[Z") ∈ lw_all := lw_g (lw_at lw_m1 31 rfl) rfl
theorem q44 : (Jvm.Cond.soleField "MoveTree" "isMove") ∈ lw_all := lw_g (lw_at lw_m1 32 rfl) rfl
theorem q45 : (Jvm.Cond.laysFinal "MoveTree" "MoveTree" "nodeOf" "[I") ∈ lw_all := lw_g (lw_at lw_m1 33 rfl) rfl
theorem q46 : (Jvm.Cond.soleField "MoveTree" "nodeOf") ∈ lw_all := lw_g (lw_at lw_m1 34 rfl) rfl
theorem q47 : (Jvm.Cond.laysFinal "MoveTree" "MoveTree" "argument" "[I") ∈ lw_all := lw_g (lw_at lw_m1 35 rfl) rfl
theorem q48 : (Jvm.Cond.soleField "MoveTree" "argument") ∈ lw_all := lw_g (lw_at lw_m1 36 rfl) rfl
theorem q49 : (Jvm.Cond.laysFinal "MoveTree" "MoveTree" "stampOf" "[I") ∈ lw_all := lw_g (lw_at lw_m1 37 rfl) rfl
theorem q50 : (Jvm.Cond.soleField "MoveTree" "stampOf") ∈ lw_all := lw_g (lw_at lw_m1 38 rfl) rfl
theorem q51 : (Jvm.Cond.laysFinal "MoveTree" "MoveTree" "originOf" "[I") ∈ lw_all := lw_g (lw_at lw_m1 39 rfl) rfl
theorem q52 : (Jvm.Cond.soleField "MoveTree" "originOf") ∈ lw_all := lw_g (lw_at lw_m1 40 rfl) rfl
theorem q53 : (Jvm.Cond.laysFinal "MoveTree" "MoveTree" "numberOf" "[I") ∈ lw_all := lw_g (lw_at lw_m1 41 rfl) rfl
theorem q54 : (Jvm.Cond.soleField "MoveTree" "numberOf") ∈ lw_all := lw_g (lw_at lw_m1 42 rfl) rfl
theorem q55 : (Jvm.Cond.laysFinal "MoveTree" "MoveTree" "madeBy" "[I") ∈ lw_all := lw_g (lw_at lw_m1 43 rfl) rfl
theorem q56 : (Jvm.Cond.soleField "MoveTree" "madeBy") ∈ lw_all := lw_g (lw_at lw_m1 44 rfl) rfl
theorem q57 : (Jvm.Cond.laysFinal "MoveTree" "MoveTree" "changeOf" "[I") ∈ lw_all := lw_g (lw_at lw_m1 45 rfl) rfl
theorem q58 : (Jvm.Cond.soleField "MoveTree" "changeOf") ∈ lw_all := lw_g (lw_at lw_m1 46 rfl) rfl
theorem q59 : (Jvm.Cond.laysFinal "MoveTree" "MoveTree" "knows" "[I") ∈ lw_all := lw_g (lw_at lw_m1 47 rfl) rfl
theorem q60 : (Jvm.Cond.soleField "MoveTree" "knows") ∈ lw_all := lw_g (lw_at lw_m1 48 rfl) rfl
theorem q61 : (Jvm.Cond.laysFinal "MoveTree" "MoveTree" "greatest" "[I") ∈ lw_all := lw_g (lw_at lw_m1 49 rfl) rfl
theorem q62 : (Jvm.Cond.soleField "MoveTree" "greatest") ∈ lw_all := lw_g (lw_at lw_m1 50 rfl) rfl
theorem q63 : (Jvm.Cond.laysFinal "MoveTree" "MoveTree" "logLength" "[I") ∈ lw_all := lw_g (lw_at lw_m1 51 rfl) rfl
theorem q64 : (Jvm.Cond.soleField "MoveTree" "logLength") ∈ lw_all := lw_g (lw_at lw_m1 52 rfl) rfl
theorem q65 : (Jvm.Cond.laysFinal "MoveTree" "MoveTree" "logChange" "[I") ∈ lw_all := lw_g (lw_at lw_m1 53 rfl) rfl
theorem q66 : (Jvm.Cond.soleField "MoveTree" "logChange") ∈ lw_all := lw_g (lw_at lw_m1 54 rfl) rfl
theorem q67 : (Jvm.Cond.laysFinal "MoveTree" "MoveTree" "before" "[I") ∈ lw_all := lw_g (lw_at lw_m1 55 rfl) rfl
theorem q68 : (Jvm.Cond.soleField "MoveTree" "before") ∈ lw_all := lw_g (lw_at lw_m1 56 rfl) rfl
theorem q69 : (Jvm.Cond.laysFinal "MoveTree" "MoveTree" "skips" "[Z") ∈ lw_all := lw_g (lw_at lw_m1 57 rfl) rfl
theorem q70 : (Jvm.Cond.soleField "MoveTree" "skips") ∈ lw_all := lw_g (lw_at lw_m1 58 rfl) rfl
theorem q71 : (Jvm.Cond.laysFinal "MoveTree" "MoveTree" "skipCount" "[I") ∈ lw_all := lw_g (lw_at lw_m1 59 rfl) rfl
theorem q72 : (Jvm.Cond.soleField "MoveTree" "skipCount") ∈ lw_all := lw_g (lw_at lw_m1 60 rfl) rfl
theorem q73 : (Jvm.Cond.laysFinal "MoveTree" "MoveTree" "parentOf" "[I") ∈ lw_all := lw_g (lw_at lw_m1 61 rfl) rfl
theorem q74 : (Jvm.Cond.soleField "MoveTree" "parentOf") ∈ lw_all := lw_g (lw_at lw_m1 62 rfl) rfl
theorem q75 : (Jvm.Cond.laysFinal "MoveTree" "MoveTree" "labelOf" "[I") ∈ lw_all := lw_g (lw_at lw_m1 63 rfl) rfl
theorem q76 : (Jvm.Cond.soleField "MoveTree" "labelOf") ∈ lw_all := lw_g (lw_at lw_m1 64 rfl) rfl
theorem q77 : (Jvm.Cond.superclass "MoveTree" "java/lang/Object") ∈ lw_all := lw_g (lw_at lw_m1 65 rfl) rfl
theorem q81 : (Jvm.Cond.instanceMethod ({ cls := "MoveTree", name := "move", desc := "(III)I" } : Jvm.MethodName)) ∈ lw_all := lw_g (lw_at lw_m1 69 rfl) rfl
theorem q82 : (Jvm.Cond.selects "MoveTree" ({ cls := "MoveTree", name := "move", desc := "(III)I" } : Jvm.MethodName) ({ cls := "MoveTree", name := "move", desc := "(III)I" } : Jvm.MethodName)) ∈ lw_all := lw_g (lw_at lw_m1 70 rfl) rfl
theorem q83 : (Jvm.Cond.code ({ cls := "MoveTree", name := "move", desc := "(III)I" } : Jvm.MethodName) prog_1_method_2_code (4 : Nat) (Option.some Jvm.ClassFile.FieldType.int)) ∈ lw_all := lw_g (lw_at lw_m1 71 rfl) rfl
theorem q84 : (Jvm.Cond.methodLink "MoveTree" (62 : Nat) ({ cls := "MoveTree", name := "isReplica", desc := "(I)Z" } : Jvm.MethodName)) ∈ lw_all := lw_g (lw_at lw_m1 72 rfl) rfl
theorem q85 : (Jvm.Cond.static ({ cls := "MoveTree", name := "isReplica", desc := "(I)Z" } : Jvm.MethodName)) ∈ lw_all := lw_g (lw_at lw_m1 73 rfl) rfl
theorem q86 : (Jvm.Cond.code ({ cls := "MoveTree", name := "isReplica", desc := "(I)Z" } : Jvm.MethodName) prog_1_method_12_code (1 : Nat) (Option.some Jvm.ClassFile.FieldType.boolean)) ∈ lw_all := lw_g (lw_at lw_m1 74 rfl) rfl
theorem q87 : (Jvm.Cond.methodLink "MoveTree" (70 : Nat) ({ cls := "MoveTree", name := "make", desc := "(IZII)V" } : Jvm.MethodName)) ∈ lw_all := lw_g (lw_at lw_m1 75 rfl) rfl
theorem q88 : (Jvm.Cond.privateMethod ({ cls := "MoveTree", name := "make", desc := "(IZII)V" } : Jvm.MethodName)) ∈ lw_tbl := lw_at lw_m1 76 rfl
theorem q89 : (Jvm.Cond.instanceMethod ({ cls := "MoveTree", name := "make", desc := "(IZII)V" } : Jvm.MethodName)) ∈ lw_all := lw_g (lw_at lw_m1 77 rfl) rfl
theorem q90 : (Jvm.Cond.code ({ cls := "MoveTree", name := "make", desc := "(IZII)V" } : Jvm.MethodName) prog_1_method_14_code (6 : Nat) (Option.none : Option Jvm.ClassFile.FieldType)) ∈ lw_all := lw_g (lw_at lw_m1 78 rfl) rfl
theorem q91 : (Jvm.Cond.methodLink "MoveTree" (74 : Nat) ({ cls := "MoveTree", name := "learn", desc := "(II)V" } : Jvm.MethodName)) ∈ lw_all := lw_g (lw_at lw_m1 79 rfl) rfl
theorem q92 : (Jvm.Cond.privateMethod ({ cls := "MoveTree", name := "learn", desc := "(II)V" } : Jvm.MethodName)) ∈ lw_tbl := lw_at lw_m1 80 rfl
theorem q93 : (Jvm.Cond.instanceMethod ({ cls := "MoveTree", name := "learn", desc := "(II)V" } : Jvm.MethodName)) ∈ lw_all := lw_g (lw_at lw_m1 81 rfl) rfl
theorem q94 : (Jvm.Cond.code ({ cls := "MoveTree", name := "learn", desc := "(II)V" } : Jvm.MethodName) prog_1_method_16_code (5 : Nat) (Option.none : Option Jvm.ClassFile.FieldType)) ∈ lw_all := lw_g (lw_at lw_m1 82 rfl) rfl
theorem q95 : (Jvm.Cond.methodLink "MoveTree" (85 : Nat) ({ cls := "MoveTree", name := "isEarlier", desc := "(II)Z" } : Jvm.MethodName)) ∈ lw_all := lw_g (lw_at lw_m1 83 rfl) rfl
theorem q96 : (Jvm.Cond.privateMethod ({ cls := "MoveTree", name := "isEarlier", desc := "(II)Z" } : Jvm.MethodName)) ∈ lw_tbl := lw_at lw_m1 84 rfl
theorem q97 : (Jvm.Cond.instanceMethod ({ cls := "MoveTree", name := "isEarlier", desc := "(II)Z" } : Jvm.MethodName)) ∈ lw_all := lw_g (lw_at lw_m1 85 rfl) rfl
theorem q98 : (Jvm.Cond.code ({ cls := "MoveTree", name := "isEarlier", desc := "(II)Z" } : Jvm.MethodName) prog_1_method_17_code (3 : Nat) (Option.some Jvm.ClassFile.FieldType.boolean)) ∈ lw_all := lw_g (lw_at lw_m1 86 rfl) rfl
theorem q99 : (Jvm.Cond.methodLink "MoveTree" (88 : Nat) ({ cls := "MoveTree", name := "undo", desc := "(II)V" } : Jvm.MethodName)) ∈ lw_all := lw_g (lw_at lw_m1 87 rfl) rfl
theorem q100 : (Jvm.Cond.privateMethod ({ cls := "MoveTree", name := "undo", desc := "(II)V" } : Jvm.MethodName)) ∈ lw_tbl := lw_at lw_m1 88 rfl
theorem q101 : (Jvm.Cond.instanceMethod ({ cls := "MoveTree", name := "undo", desc := "(II)V" } : Jvm.MethodName)) ∈ lw_all := lw_g (lw_at lw_m1 89 rfl) rfl
theorem q102 : (Jvm.Cond.code ({ cls := "MoveTree", name := "undo", desc := "(II)V" } : Jvm.MethodName) prog_1_method_19_code (6 : Nat) (Option.none : Option Jvm.ClassFile.FieldType)) ∈ lw_all := lw_g (lw_at lw_m1 90 rfl) rfl
theorem q103 : (Jvm.Cond.methodLink "MoveTree" (91 : Nat) ({ cls := "MoveTree", name := "carryOut", desc := "(II)V" } : Jvm.MethodName)) ∈ lw_all := lw_g (lw_at lw_m1 91 rfl) rfl
theorem q104 : (Jvm.Cond.privateMethod ({ cls := "MoveTree", name := "carryOut", desc := "(II)V" } : Jvm.MethodName)) ∈ lw_tbl := lw_at lw_m1 92 rfl
theorem q105 : (Jvm.Cond.instanceMethod ({ cls := "MoveTree", name := "carryOut", desc := "(II)V" } : Jvm.MethodName)) ∈ lw_all := lw_g (lw_at lw_m1 93 rfl) rfl
theorem q106 : (Jvm.Cond.code ({ cls := "MoveTree", name := "carryOut", desc := "(II)V" } : Jvm.MethodName) prog_1_method_18_code (6 : Nat) (Option.none : Option Jvm.ClassFile.FieldType)) ∈ lw_all := lw_g (lw_at lw_m1 94 rfl) rfl
theorem q107 : (Jvm.Cond.methodLink "MoveTree" (94 : Nat) ({ cls := "MoveTree", name := "leadsUpTo", desc := "(III)Z" } : Jvm.MethodName)) ∈ lw_all := lw_g (lw_at lw_m1 95 rfl) rfl
theorem q108 : (Jvm.Cond.privateMethod ({ cls := "MoveTree", name := "leadsUpTo", desc := "(III)Z" } : Jvm.MethodName)) ∈ lw_tbl := lw_at lw_m1 96 rfl
theorem q109 : (Jvm.Cond.instanceMethod ({ cls := "MoveTree", name := "leadsUpTo", desc := "(III)Z" } : Jvm.MethodName)) ∈ lw_all := lw_g (lw_at lw_m1 97 rfl) rfl
theorem q110 : (Jvm.Cond.code ({ cls := "MoveTree", name := "leadsUpTo", desc := "(III)Z" } : Jvm.MethodName) prog_1_method_20_code (6 : Nat) (Option.some Jvm.ClassFile.FieldType.boolean)) ∈ lw_all := lw_g (lw_at lw_m1 98 rfl) rfl
theorem q112 : (Jvm.Cond.instanceMethod ({ cls := "MoveTree", name := "name", desc := "(III)I" } : Jvm.MethodName)) ∈ lw_all := lw_g (lw_at lw_m1 100 rfl) rfl
theorem q113 : (Jvm.Cond.selects "MoveTree" ({ cls := "MoveTree", name := "name", desc := "(III)I" } : Jvm.MethodName) ({ cls := "MoveTree", name := "name", desc := "(III)I" } : Jvm.MethodName)) ∈ lw_all := lw_g (lw_at lw_m1 101 rfl) rfl
theorem q114 : (Jvm.Cond.code ({ cls := "MoveTree", name := "name", desc := "(III)I" } : Jvm.MethodName) prog_1_method_3_code (4 : Nat) (Option.some Jvm.ClassFile.FieldType.int)) ∈ lw_all := lw_g (lw_at lw_m1 102 rfl) rfl
theorem q116 : (Jvm.Cond.instanceMethod ({ cls := "MoveTree", name := "deliver", desc := "(II)I" } : Jvm.MethodName)) ∈ lw_all := lw_g (lw_at lw_m1 104 rfl) rfl
theorem q117 : (Jvm.Cond.selects "MoveTree" ({ cls := "MoveTree", name := "deliver", desc := "(II)I" } : Jvm.MethodName) ({ cls := "MoveTree", name := "deliver", desc := "(II)I" } : Jvm.MethodName)) ∈ lw_all := lw_g (lw_at lw_m1 105 rfl) rfl
theorem q118 : (Jvm.Cond.code ({ cls := "MoveTree", name := "deliver", desc := "(II)I" } : Jvm.MethodName) prog_1_method_4_code (4 : Nat) (Option.some Jvm.ClassFile.FieldType.int)) ∈ lw_all := lw_g (lw_at lw_m1 106 rfl) rfl
theorem q120 : (Jvm.Cond.instanceMethod ({ cls := "MoveTree", name := "sync", desc := "(II)I" } : Jvm.MethodName)) ∈ lw_all := lw_g (lw_at lw_m1 108 rfl) rfl
theorem q121 : (Jvm.Cond.selects "MoveTree" ({ cls := "MoveTree", name := "sync", desc := "(II)I" } : Jvm.MethodName) ({ cls := "MoveTree", name := "sync", desc := "(II)I" } : Jvm.MethodName)) ∈ lw_all := lw_g (lw_at lw_m1 109 rfl) rfl
theorem q122 : (Jvm.Cond.code ({ cls := "MoveTree", name := "sync", desc := "(II)I" } : Jvm.MethodName) prog_1_method_5_code (5 : Nat) (Option.some Jvm.ClassFile.FieldType.int)) ∈ lw_all := lw_g (lw_at lw_m1 110 rfl) rfl
theorem q123 : (Jvm.Cond.methodLink "MoveTree" (78 : Nat) ({ cls := "MoveTree", name := "isKnown", desc := "(II)Z" } : Jvm.MethodName)) ∈ lw_all := lw_g (lw_at lw_m1 111 rfl) rfl
theorem q124 : (Jvm.Cond.privateMethod ({ cls := "MoveTree", name := "isKnown", desc := "(II)Z" } : Jvm.MethodName)) ∈ lw_tbl := lw_at lw_m1 112 rfl
theorem q125 : (Jvm.Cond.instanceMethod ({ cls := "MoveTree", name := "isKnown", desc := "(II)Z" } : Jvm.MethodName)) ∈ lw_all := lw_g (lw_at lw_m1 113 rfl) rfl
theorem q126 : (Jvm.Cond.code ({ cls := "MoveTree", name := "isKnown", desc := "(II)Z" } : Jvm.MethodName) prog_1_method_15_code (3 : Nat) (Option.some Jvm.ClassFile.FieldType.boolean)) ∈ lw_all := lw_g (lw_at lw_m1 114 rfl) rfl
theorem q128 : (Jvm.Cond.instanceMethod ({ cls := "MoveTree", name := "parent", desc := "(II)I" } : Jvm.MethodName)) ∈ lw_all := lw_g (lw_at lw_m1 116 rfl) rfl
theorem q129 : (Jvm.Cond.selects "MoveTree" ({ cls := "MoveTree", name := "parent", desc := "(II)I" } : Jvm.MethodName) ({ cls := "MoveTree", name := "parent", desc := "(II)I" } : Jvm.MethodName)) ∈ lw_all := lw_g (lw_at lw_m1 117 rfl) rfl
theorem q130 : (Jvm.Cond.code ({ cls := "MoveTree", name := "parent", desc := "(II)I" } : Jvm.MethodName) prog_1_method_6_code (3 : Nat) (Option.some Jvm.ClassFile.FieldType.int)) ∈ lw_all := lw_g (lw_at lw_m1 118 rfl) rfl
theorem q131 : (Jvm.Cond.methodLink "MoveTree" (82 : Nat) ({ cls := "MoveTree", name := "isNode", desc := "(I)Z" } : Jvm.MethodName)) ∈ lw_all := lw_g (lw_at lw_m1 119 rfl) rfl
theorem q132 : (Jvm.Cond.static ({ cls := "MoveTree", name := "isNode", desc := "(I)Z" } : Jvm.MethodName)) ∈ lw_all := lw_g (lw_at lw_m1 120 rfl) rfl
theorem q133 : (Jvm.Cond.code ({ cls := "MoveTree", name := "isNode", desc := "(I)Z" } : Jvm.MethodName) prog_1_method_13_code (1 : Nat) (Option.some Jvm.ClassFile.FieldType.boolean)) ∈ lw_all := lw_g (lw_at lw_m1 121 rfl) rfl
theorem q135 : (Jvm.Cond.instanceMethod ({ cls := "MoveTree", name := "label", desc := "(II)I" } : Jvm.MethodName)) ∈ lw_all := lw_g (lw_at lw_m1 123 rfl) rfl
theorem q136 : (Jvm.Cond.selects "MoveTree" ({ cls := "MoveTree", name := "label", desc := "(II)I" } : Jvm.MethodName) ({ cls := "MoveTree", name := "label", desc := "(II)I" } : Jvm.MethodName)) ∈ lw_all := lw_g (lw_at lw_m1 124 rfl) rfl
theorem q137 : (Jvm.Cond.code ({ cls := "MoveTree", name := "label", desc := "(II)I" } : Jvm.MethodName) prog_1_method_7_code (3 : Nat) (Option.some Jvm.ClassFile.FieldType.int)) ∈ lw_all := lw_g (lw_at lw_m1 125 rfl) rfl
theorem q139 : (Jvm.Cond.instanceMethod ({ cls := "MoveTree", name := "children", desc := "(II)I" } : Jvm.MethodName)) ∈ lw_all := lw_g (lw_at lw_m1 127 rfl) rfl
theorem q140 : (Jvm.Cond.selects "MoveTree" ({ cls := "MoveTree", name := "children", desc := "(II)I" } : Jvm.MethodName) ({ cls := "MoveTree", name := "children", desc := "(II)I" } : Jvm.MethodName)) ∈ lw_all := lw_g (lw_at lw_m1 128 rfl) rfl
theorem q141 : (Jvm.Cond.code ({ cls := "MoveTree", name := "children", desc := "(II)I" } : Jvm.MethodName) prog_1_method_8_code (5 : Nat) (Option.some Jvm.ClassFile.FieldType.int)) ∈ lw_all := lw_g (lw_at lw_m1 129 rfl) rfl
theorem q143 : (Jvm.Cond.instanceMethod ({ cls := "MoveTree", name := "depth", desc := "(II)I" } : Jvm.MethodName)) ∈ lw_all := lw_g (lw_at lw_m1 131 rfl) rfl
theorem q144 : (Jvm.Cond.selects "MoveTree" ({ cls := "MoveTree", name := "depth", desc := "(II)I" } : Jvm.MethodName) ({ cls := "MoveTree", name := "depth", desc := "(II)I" } : Jvm.MethodName)) ∈ lw_all := lw_g (lw_at lw_m1 132 rfl) rfl
theorem q145 : (Jvm.Cond.code ({ cls := "MoveTree", name := "depth", desc := "(II)I" } : Jvm.MethodName) prog_1_method_9_code (6 : Nat) (Option.some Jvm.ClassFile.FieldType.int)) ∈ lw_all := lw_g (lw_at lw_m1 133 rfl) rfl
theorem q147 : (Jvm.Cond.instanceMethod ({ cls := "MoveTree", name := "skipped", desc := "(I)I" } : Jvm.MethodName)) ∈ lw_all := lw_g (lw_at lw_m1 135 rfl) rfl
theorem q148 : (Jvm.Cond.selects "MoveTree" ({ cls := "MoveTree", name := "skipped", desc := "(I)I" } : Jvm.MethodName) ({ cls := "MoveTree", name := "skipped", desc := "(I)I" } : Jvm.MethodName)) ∈ lw_all := lw_g (lw_at lw_m1 136 rfl) rfl
theorem q149 : (Jvm.Cond.code ({ cls := "MoveTree", name := "skipped", desc := "(I)I" } : Jvm.MethodName) prog_1_method_10_code (2 : Nat) (Option.some Jvm.ClassFile.FieldType.int)) ∈ lw_all := lw_g (lw_at lw_m1 137 rfl) rfl
theorem q151 : (Jvm.Cond.instanceMethod ({ cls := "MoveTree", name := "alike", desc := "(II)I" } : Jvm.MethodName)) ∈ lw_all := lw_g (lw_at lw_m1 139 rfl) rfl
theorem q152 : (Jvm.Cond.selects "MoveTree" ({ cls := "MoveTree", name := "alike", desc := "(II)I" } : Jvm.MethodName) ({ cls := "MoveTree", name := "alike", desc := "(II)I" } : Jvm.MethodName)) ∈ lw_all := lw_g (lw_at lw_m1 140 rfl) rfl
theorem q153 : (Jvm.Cond.code ({ cls := "MoveTree", name := "alike", desc := "(II)I" } : Jvm.MethodName) prog_1_method_11_code (4 : Nat) (Option.some Jvm.ClassFile.FieldType.int)) ∈ lw_all := lw_g (lw_at lw_m1 141 rfl) rfl
theorem in_X0 : ∀ w ∈ wsX00, w ∈ lw_all := lw_in wsX00 [41, 43, 45, 47, 49, 51, 53, 55, 57, 59, 61, 63, 65, 67, 69, 71, 73, 75] (by decide +kernel) (by decide +kernel)

/-! MoveTreeModel -/
def RX1 : String := "MoveTreeModel"
def TX1 : u_T := fun k => match k with
  | 0 => ("MoveTreeModel", "made", "I", false)
  | 1 => ("MoveTreeModel", "origins", "[I", true)
  | 2 => ("MoveTreeModel", "stamps", "[I", true)
  | 3 => ("MoveTreeModel", "isMove", "[Z", true)
  | 4 => ("MoveTreeModel", "nodes", "[I", true)
  | 5 => ("MoveTreeModel", "args", "[I", true)
  | 6 => ("MoveTreeModel", "knows", "[Z", true)
  | 7 => ("MoveTreeModel", "parents", "[I", true)
  | 8 => ("MoveTreeModel", "labels", "[I", true)
  | 9 => ("MoveTreeModel", "skips", "I", false)
  | 10 => ("MoveTreeModel", "done", "[Z", true)
  | 11 => ("MoveTreeModel", "otherParents", "[I", true)
  | _ => ("MoveTreeModel", "otherLabels", "[I", true)
def tyX1 : Nat → FieldType := fun k => match k with
  | 0 => .int
  | 1 => .array .int
  | 2 => .array .int
  | 3 => .array .boolean
  | 4 => .array .int
  | 5 => .array .int
  | 6 => .array .boolean
  | 7 => .array .int
  | 8 => .array .int
  | 9 => .int
  | 10 => .array .boolean
  | 11 => .array .int
  | _ => .array .int
abbrev wsX10 : List Cond := u_ws RX1 TX1 13
set_option maxRecDepth 100000 in
theorem nmX1 : ∀ a, a < 13 → ∀ b, b < 13 → a ≠ b → (TX1 a).2.1 ≠ (TX1 b).2.1 := by decide +kernel
set_option maxRecDepth 100000 in
theorem tyX1_ok : ∀ k, k < 13 → parseFieldDescriptor (TX1 k).2.2.1 = some (tyX1 k) := by decide +kernel
abbrev cX1_init : ByteArray := prog_3_method_1_code
def yX1_init : MethodName := ⟨RX1, "<init>", "()V"⟩
abbrev cX1_move : ByteArray := prog_3_method_9_code
def yX1_move : MethodName := ⟨RX1, "move", "(III)I"⟩
abbrev cX1_bad : ByteArray := prog_3_method_2_code
def yX1_bad : MethodName := ⟨RX1, "bad", "(I)Z"⟩
abbrev cX1_badNode : ByteArray := prog_3_method_3_code
def yX1_badNode : MethodName := ⟨RX1, "badNode", "(I)Z"⟩
abbrev cX1_make : ByteArray := prog_3_method_4_code
def yX1_make : MethodName := ⟨RX1, "make", "(IZII)I"⟩
abbrev cX1_carryOut : ByteArray := prog_3_method_8_code
def yX1_carryOut : MethodName := ⟨RX1, "carryOut", "(II)Z"⟩
abbrev cX1_earliest : ByteArray := prog_3_method_6_code
def yX1_earliest : MethodName := ⟨RX1, "earliest", "(I)I"⟩
abbrev cX1_earlier : ByteArray := prog_3_method_5_code
def yX1_earlier : MethodName := ⟨RX1, "earlier", "(II)Z"⟩
abbrev cX1_above : ByteArray := prog_3_method_7_code
def yX1_above : MethodName := ⟨RX1, "above", "(II)Z"⟩
abbrev cX1_name : ByteArray := prog_3_method_10_code
def yX1_name : MethodName := ⟨RX1, "name", "(III)I"⟩
abbrev cX1_deliver : ByteArray := prog_3_method_11_code
def yX1_deliver : MethodName := ⟨RX1, "deliver", "(II)I"⟩
abbrev cX1_skipped : ByteArray := prog_3_method_17_code
def yX1_skipped : MethodName := ⟨RX1, "skipped", "(I)I"⟩
abbrev cX1_sync : ByteArray := prog_3_method_12_code
def yX1_sync : MethodName := ⟨RX1, "sync", "(II)I"⟩
abbrev cX1_parent : ByteArray := prog_3_method_13_code
def yX1_parent : MethodName := ⟨RX1, "parent", "(II)I"⟩
abbrev cX1_label : ByteArray := prog_3_method_14_code
def yX1_label : MethodName := ⟨RX1, "label", "(II)I"⟩
abbrev cX1_children : ByteArray := prog_3_method_15_code
def yX1_children : MethodName := ⟨RX1, "children", "(II)I"⟩
abbrev cX1_depth : ByteArray := prog_3_method_16_code
def yX1_depth : MethodName := ⟨RX1, "depth", "(II)I"⟩
abbrev cX1_alike : ByteArray := prog_3_method_18_code
def yX1_alike : MethodName := ⟨RX1, "alike", "(II)I"⟩
theorem q14 : (Jvm.Cond.initialized "MoveTreeModel") ∈ lw_all := lw_g (lw_at lw_m1 2 rfl) rfl
theorem q155 : (Jvm.Cond.instantiable "MoveTreeModel" (13 : Nat)) ∈ lw_all := lw_g (lw_at lw_m1 143 rfl) rfl
theorem q157 : (Jvm.Cond.instanceMethod ({ cls := "MoveTreeModel", name := "<init>", desc := "()V" } : Jvm.MethodName)) ∈ lw_all := lw_g (lw_at lw_m1 145 rfl) rfl
theorem q158 : (Jvm.Cond.code ({ cls := "MoveTreeModel", name := "<init>", desc := "()V" } : Jvm.MethodName) prog_3_method_1_code (1 : Nat) (Option.none : Option Jvm.ClassFile.FieldType)) ∈ lw_all := lw_g (lw_at lw_m1 146 rfl) rfl
theorem q159 : (Jvm.Cond.methodLink "MoveTreeModel" (1 : Nat) ({ cls := "java/lang/Object", name := "<init>", desc := "()V" } : Jvm.MethodName)) ∈ lw_all := lw_g (lw_at lw_m1 147 rfl) rfl
theorem q160 : (Jvm.Cond.fieldLink "MoveTreeModel" (44 : Nat) "MoveTreeModel" "made" "I") ∈ lw_all := lw_g (lw_at lw_m1 148 rfl) rfl
theorem q161 : (Jvm.Cond.fieldLink "MoveTreeModel" (7 : Nat) "MoveTreeModel" "origins" "[I") ∈ lw_all := lw_g (lw_at lw_m1 149 rfl) rfl
theorem q162 : (Jvm.Cond.fieldLink "MoveTreeModel" (13 : Nat) "MoveTreeModel" "stamps" "[I") ∈ lw_all := lw_g (lw_at lw_m1 150 rfl) rfl
theorem q163 : (Jvm.Cond.fieldLink "MoveTreeModel" (16 : Nat) "MoveTreeModel" "isMove" "[Z") ∈ lw_all := lw_g (lw_at lw_m1 151 rfl) rfl
theorem q164 : (Jvm.Cond.fieldLink "MoveTreeModel" (20 : Nat) "MoveTreeModel" "nodes" "[I") ∈ lw_all := lw_g (lw_at lw_m1 152 rfl) rfl
theorem q165 : (Jvm.Cond.fieldLink "MoveTreeModel" (23 : Nat) "MoveTreeModel" "args" "[I") ∈ lw_all := lw_g (lw_at lw_m1 153 rfl) rfl
theorem q166 : (Jvm.Cond.fieldLink "MoveTreeModel" (26 : Nat) "MoveTreeModel" "knows" "[Z") ∈ lw_all := lw_g (lw_at lw_m1 154 rfl) rfl
theorem q167 : (Jvm.Cond.fieldLink "MoveTreeModel" (29 : Nat) "MoveTreeModel" "parents" "[I") ∈ lw_all := lw_g (lw_at lw_m1 155 rfl) rfl
theorem q168 : (Jvm.Cond.fieldLink "MoveTreeModel" (32 : Nat) "MoveTreeModel" "labels" "[I") ∈ lw_all := lw_g (lw_at lw_m1 156 rfl) rfl
theorem q169 : (Jvm.Cond.fieldLink "MoveTreeModel" (52 : Nat) "MoveTreeModel" "skips" "I") ∈ lw_all := lw_g (lw_at lw_m1 157 rfl) rfl
theorem q170 : (Jvm.Cond.fieldLink "MoveTreeModel" (35 : Nat) "MoveTreeModel" "done" "[Z") ∈ lw_all := lw_g (lw_at lw_m1 158 rfl) rfl
theorem q171 : (Jvm.Cond.fieldLink "MoveTreeModel" (38 : Nat) "MoveTreeModel" "otherParents" "[I") ∈ lw_all := lw_g (lw_at lw_m1 159 rfl) rfl
theorem q172 : (Jvm.Cond.fieldLink "MoveTreeModel" (41 : Nat) "MoveTreeModel" "otherLabels" "[I") ∈ lw_all := lw_g (lw_at lw_m1 160 rfl) rfl
theorem q173 : (Jvm.Cond.lays "MoveTreeModel" "MoveTreeModel" "made" "I") ∈ lw_all := lw_g (lw_at lw_m1 161 rfl) rfl
theorem q174 : (Jvm.Cond.soleField "MoveTreeModel" "made") ∈ lw_all := lw_g (lw_at lw_m1 162 rfl) rfl
theorem q175 : (Jvm.Cond.laysFinal "MoveTreeModel" "MoveTreeModel" "origins" "[I") ∈ lw_all := lw_g (lw_at lw_m1 163 rfl) rfl
theorem q176 : (Jvm.Cond.soleField "MoveTreeModel" "origins") ∈ lw_all := lw_g (lw_at lw_m1 164 rfl) rfl
theorem q177 : (Jvm.Cond.laysFinal "MoveTreeModel" "MoveTreeModel" "stamps" "[I") ∈ lw_all := lw_g (lw_at lw_m1 165 rfl) rfl
theorem q178 : (Jvm.Cond.soleField "MoveTreeModel" "stamps") ∈ lw_all := lw_g (lw_at lw_m1 166 rfl) rfl
theorem q179 : (Jvm.Cond.laysFinal "MoveTreeModel" "MoveTreeModel" "isMove" "[Z") ∈ lw_all := lw_g (lw_at lw_m1 167 rfl) rfl
theorem q180 : (Jvm.Cond.soleField "MoveTreeModel" "isMove") ∈ lw_all := lw_g (lw_at lw_m1 168 rfl) rfl
theorem q181 : (Jvm.Cond.laysFinal "MoveTreeModel" "MoveTreeModel" "nodes" "[I") ∈ lw_all := lw_g (lw_at lw_m1 169 rfl) rfl
theorem q182 : (Jvm.Cond.soleField "MoveTreeModel" "nodes") ∈ lw_all := lw_g (lw_at lw_m1 170 rfl) rfl
theorem q183 : (Jvm.Cond.laysFinal "MoveTreeModel" "MoveTreeModel" "args" "[I") ∈ lw_all := lw_g (lw_at lw_m1 171 rfl) rfl
theorem q184 : (Jvm.Cond.soleField "MoveTreeModel" "args") ∈ lw_all := lw_g (lw_at lw_m1 172 rfl) rfl
theorem q185 : (Jvm.Cond.laysFinal "MoveTreeModel" "MoveTreeModel" "knows" "[Z") ∈ lw_all := lw_g (lw_at lw_m1 173 rfl) rfl
theorem q186 : (Jvm.Cond.soleField "MoveTreeModel" "knows") ∈ lw_all := lw_g (lw_at lw_m1 174 rfl) rfl
theorem q187 : (Jvm.Cond.laysFinal "MoveTreeModel" "MoveTreeModel" "parents" "[I") ∈ lw_all := lw_g (lw_at lw_m1 175 rfl) rfl
theorem q188 : (Jvm.Cond.soleField "MoveTreeModel" "parents") ∈ lw_all := lw_g (lw_at lw_m1 176 rfl) rfl
theorem q189 : (Jvm.Cond.laysFinal "MoveTreeModel" "MoveTreeModel" "labels" "[I") ∈ lw_all := lw_g (lw_at lw_m1 177 rfl) rfl
theorem q190 : (Jvm.Cond.soleField "MoveTreeModel" "labels") ∈ lw_all := lw_g (lw_at lw_m1 178 rfl) rfl
theorem q191 : (Jvm.Cond.lays "MoveTreeModel" "MoveTreeModel" "skips" "I") ∈ lw_all := lw_g (lw_at lw_m1 179 rfl) rfl
theorem q192 : (Jvm.Cond.soleField "MoveTreeModel" "skips") ∈ lw_all := lw_g (lw_at lw_m1 180 rfl) rfl
theorem q193 : (Jvm.Cond.laysFinal "MoveTreeModel" "MoveTreeModel" "done" "[Z") ∈ lw_all := lw_g (lw_at lw_m1 181 rfl) rfl
theorem q194 : (Jvm.Cond.soleField "MoveTreeModel" "done") ∈ lw_all := lw_g (lw_at lw_m1 182 rfl) rfl
theorem q195 : (Jvm.Cond.laysFinal "MoveTreeModel" "MoveTreeModel" "otherParents" "[I") ∈ lw_all := lw_g (lw_at lw_m1 183 rfl) rfl
theorem q196 : (Jvm.Cond.soleField "MoveTreeModel" "otherParents") ∈ lw_all := lw_g (lw_at lw_m1 184 rfl) rfl
theorem q197 : (Jvm.Cond.laysFinal "MoveTreeModel" "MoveTreeModel" "otherLabels" "[I") ∈ lw_all := lw_g (lw_at lw_m1 185 rfl) rfl
theorem q198 : (Jvm.Cond.soleField "MoveTreeModel" "otherLabels") ∈ lw_all := lw_g (lw_at lw_m1 186 rfl) rfl
theorem q199 : (Jvm.Cond.superclass "MoveTreeModel" "java/lang/Object") ∈ lw_all := lw_g (lw_at lw_m1 187 rfl) rfl
theorem q201 : (Jvm.Cond.instanceMethod ({ cls := "MoveTreeModel", name := "move", desc := "(III)I" } : Jvm.MethodName)) ∈ lw_all := lw_g (lw_at lw_m1 189 rfl) rfl
theorem q202 : (Jvm.Cond.selects "MoveTreeModel" ({ cls := "MoveTreeModel", name := "move", desc := "(III)I" } : Jvm.MethodName) ({ cls := "MoveTreeModel", name := "move", desc := "(III)I" } : Jvm.MethodName)) ∈ lw_all := lw_g (lw_at lw_m1 190 rfl) rfl
theorem q203 : (Jvm.Cond.code ({ cls := "MoveTreeModel", name := "move", desc := "(III)I" } : Jvm.MethodName) prog_3_method_9_code (5 : Nat) (Option.some Jvm.ClassFile.FieldType.int)) ∈ lw_all := lw_g (lw_at lw_m1 191 rfl) rfl
theorem q204 : (Jvm.Cond.methodLink "MoveTreeModel" (62 : Nat) ({ cls := "MoveTreeModel", name := "bad", desc := "(I)Z" } : Jvm.MethodName)) ∈ lw_all := lw_g (lw_at lw_m1 192 rfl) rfl
theorem q205 : (Jvm.Cond.static ({ cls := "MoveTreeModel", name := "bad", desc := "(I)Z" } : Jvm.MethodName)) ∈ lw_all := lw_g (lw_at lw_m1 193 rfl) rfl
theorem q206 : (Jvm.Cond.code ({ cls := "MoveTreeModel", name := "bad", desc := "(I)Z" } : Jvm.MethodName) prog_3_method_2_code (1 : Nat) (Option.some Jvm.ClassFile.FieldType.boolean)) ∈ lw_all := lw_g (lw_at lw_m1 194 rfl) rfl
theorem q207 : (Jvm.Cond.methodLink "MoveTreeModel" (66 : Nat) ({ cls := "MoveTreeModel", name := "badNode", desc := "(I)Z" } : Jvm.MethodName)) ∈ lw_all := lw_g (lw_at lw_m1 195 rfl) rfl
theorem q208 : (Jvm.Cond.static ({ cls := "MoveTreeModel", name := "badNode", desc := "(I)Z" } : Jvm.MethodName)) ∈ lw_all := lw_g (lw_at lw_m1 196 rfl) rfl
theorem q209 : (Jvm.Cond.code ({ cls := "MoveTreeModel", name := "badNode", desc := "(I)Z" } : Jvm.MethodName) prog_3_method_3_code (1 : Nat) (Option.some Jvm.ClassFile.FieldType.boolean)) ∈ lw_all := lw_g (lw_at lw_m1 197 rfl) rfl
theorem q210 : (Jvm.Cond.methodLink "MoveTreeModel" (69 : Nat) ({ cls := "MoveTreeModel", name := "make", desc := "(IZII)I" } : Jvm.MethodName)) ∈ lw_all := lw_g (lw_at lw_m1 198 rfl) rfl
theorem q211 : (Jvm.Cond.privateMethod ({ cls := "MoveTreeModel", name := "make", desc := "(IZII)I" } : Jvm.MethodName)) ∈ lw_tbl := lw_at lw_m1 199 rfl
theorem q212 : (Jvm.Cond.instanceMethod ({ cls := "MoveTreeModel", name := "make", desc := "(IZII)I" } : Jvm.MethodName)) ∈ lw_all := lw_g (lw_at lw_m1 200 rfl) rfl
theorem q213 : (Jvm.Cond.code ({ cls := "MoveTreeModel", name := "make", desc := "(IZII)I" } : Jvm.MethodName) prog_3_method_4_code (7 : Nat) (Option.some Jvm.ClassFile.FieldType.int)) ∈ lw_all := lw_g (lw_at lw_m1 201 rfl) rfl
theorem q214 : (Jvm.Cond.methodLink "MoveTreeModel" (73 : Nat) ({ cls := "MoveTreeModel", name := "carryOut", desc := "(II)Z" } : Jvm.MethodName)) ∈ lw_all := lw_g (lw_at lw_m1 202 rfl) rfl
theorem q215 : (Jvm.Cond.privateMethod ({ cls := "MoveTreeModel", name := "carryOut", desc := "(II)Z" } : Jvm.MethodName)) ∈ lw_tbl := lw_at lw_m1 203 rfl
theorem q216 : (Jvm.Cond.instanceMethod ({ cls := "MoveTreeModel", name := "carryOut", desc := "(II)Z" } : Jvm.MethodName)) ∈ lw_all := lw_g (lw_at lw_m1 204 rfl) rfl
theorem q217 : (Jvm.Cond.code ({ cls := "MoveTreeModel", name := "carryOut", desc := "(II)Z" } : Jvm.MethodName) prog_3_method_8_code (7 : Nat) (Option.some Jvm.ClassFile.FieldType.boolean)) ∈ lw_all := lw_g (lw_at lw_m1 205 rfl) rfl
theorem q218 : (Jvm.Cond.methodLink "MoveTreeModel" (55 : Nat) ({ cls := "MoveTreeModel", name := "earliest", desc := "(I)I" } : Jvm.MethodName)) ∈ lw_all := lw_g (lw_at lw_m1 206 rfl) rfl
theorem q219 : (Jvm.Cond.privateMethod ({ cls := "MoveTreeModel", name := "earliest", desc := "(I)I" } : Jvm.MethodName)) ∈ lw_tbl := lw_at lw_m1 207 rfl
theorem q220 : (Jvm.Cond.instanceMethod ({ cls := "MoveTreeModel", name := "earliest", desc := "(I)I" } : Jvm.MethodName)) ∈ lw_all := lw_g (lw_at lw_m1 208 rfl) rfl
theorem q221 : (Jvm.Cond.code ({ cls := "MoveTreeModel", name := "earliest", desc := "(I)I" } : Jvm.MethodName) prog_3_method_6_code (4 : Nat) (Option.some Jvm.ClassFile.FieldType.int)) ∈ lw_all := lw_g (lw_at lw_m1 209 rfl) rfl
theorem q222 : (Jvm.Cond.methodLink "MoveTreeModel" (48 : Nat) ({ cls := "MoveTreeModel", name := "earlier", desc := "(II)Z" } : Jvm.MethodName)) ∈ lw_all := lw_g (lw_at lw_m1 210 rfl) rfl
theorem q223 : (Jvm.Cond.privateMethod ({ cls := "MoveTreeModel", name := "earlier", desc := "(II)Z" } : Jvm.MethodName)) ∈ lw_tbl := lw_at lw_m1 211 rfl
theorem q224 : (Jvm.Cond.instanceMethod ({ cls := "MoveTreeModel", name := "earlier", desc := "(II)Z" } : Jvm.MethodName)) ∈ lw_all := lw_g (lw_at lw_m1 212 rfl) rfl
theorem q225 : (Jvm.Cond.code ({ cls := "MoveTreeModel", name := "earlier", desc := "(II)Z" } : Jvm.MethodName) prog_3_method_5_code (3 : Nat) (Option.some Jvm.ClassFile.FieldType.boolean)) ∈ lw_all := lw_g (lw_at lw_m1 213 rfl) rfl
theorem q226 : (Jvm.Cond.methodLink "MoveTreeModel" (59 : Nat) ({ cls := "MoveTreeModel", name := "above", desc := "(II)Z" } : Jvm.MethodName)) ∈ lw_all := lw_g (lw_at lw_m1 214 rfl) rfl
theorem q227 : (Jvm.Cond.privateMethod ({ cls := "MoveTreeModel", name := "above", desc := "(II)Z" } : Jvm.MethodName)) ∈ lw_tbl := lw_at lw_m1 215 rfl
theorem q228 : (Jvm.Cond.instanceMethod ({ cls := "MoveTreeModel", name := "above", desc := "(II)Z" } : Jvm.MethodName)) ∈ lw_all := lw_g (lw_at lw_m1 216 rfl) rfl
theorem q229 : (Jvm.Cond.code ({ cls := "MoveTreeModel", name := "above", desc := "(II)Z" } : Jvm.MethodName) prog_3_method_7_code (5 : Nat) (Option.some Jvm.ClassFile.FieldType.boolean)) ∈ lw_all := lw_g (lw_at lw_m1 217 rfl) rfl
theorem q231 : (Jvm.Cond.instanceMethod ({ cls := "MoveTreeModel", name := "name", desc := "(III)I" } : Jvm.MethodName)) ∈ lw_all := lw_g (lw_at lw_m1 219 rfl) rfl
theorem q232 : (Jvm.Cond.selects "MoveTreeModel" ({ cls := "MoveTreeModel", name := "name", desc := "(III)I" } : Jvm.MethodName) ({ cls := "MoveTreeModel", name := "name", desc := "(III)I" } : Jvm.MethodName)) ∈ lw_all := lw_g (lw_at lw_m1 220 rfl) rfl
theorem q233 : (Jvm.Cond.code ({ cls := "MoveTreeModel", name := "name", desc := "(III)I" } : Jvm.MethodName) prog_3_method_10_code (4 : Nat) (Option.some Jvm.ClassFile.FieldType.int)) ∈ lw_all := lw_g (lw_at lw_m1 221 rfl) rfl
theorem q235 : (Jvm.Cond.instanceMethod ({ cls := "MoveTreeModel", name := "deliver", desc := "(II)I" } : Jvm.MethodName)) ∈ lw_all := lw_g (lw_at lw_m1 223 rfl) rfl
theorem q236 : (Jvm.Cond.selects "MoveTreeModel" ({ cls := "MoveTreeModel", name := "deliver", desc := "(II)I" } : Jvm.MethodName) ({ cls := "MoveTreeModel", name := "deliver", desc := "(II)I" } : Jvm.MethodName)) ∈ lw_all := lw_g (lw_at lw_m1 224 rfl) rfl
theorem q237 : (Jvm.Cond.code ({ cls := "MoveTreeModel", name := "deliver", desc := "(II)I" } : Jvm.MethodName) prog_3_method_11_code (4 : Nat) (Option.some Jvm.ClassFile.FieldType.int)) ∈ lw_all := lw_g (lw_at lw_m1 225 rfl) rfl
theorem q238 : (Jvm.Cond.methodLink "MoveTreeModel" (76 : Nat) ({ cls := "MoveTreeModel", name := "skipped", desc := "(I)I" } : Jvm.MethodName)) ∈ lw_all := lw_g (lw_at lw_m1 226 rfl) rfl
theorem q239 : (Jvm.Cond.instanceMethod ({ cls := "MoveTreeModel", name := "skipped", desc := "(I)I" } : Jvm.MethodName)) ∈ lw_all := lw_g (lw_at lw_m1 227 rfl) rfl
theorem q240 : (Jvm.Cond.selects "MoveTreeModel" ({ cls := "MoveTreeModel", name := "skipped", desc := "(I)I" } : Jvm.MethodName) ({ cls := "MoveTreeModel", name := "skipped", desc := "(I)I" } : Jvm.MethodName)) ∈ lw_all := lw_g (lw_at lw_m1 228 rfl) rfl
theorem q241 : (Jvm.Cond.code ({ cls := "MoveTreeModel", name := "skipped", desc := "(I)I" } : Jvm.MethodName) prog_3_method_17_code (2 : Nat) (Option.some Jvm.ClassFile.FieldType.int)) ∈ lw_all := lw_g (lw_at lw_m1 229 rfl) rfl
theorem q243 : (Jvm.Cond.instanceMethod ({ cls := "MoveTreeModel", name := "sync", desc := "(II)I" } : Jvm.MethodName)) ∈ lw_all := lw_g (lw_at lw_m1 231 rfl) rfl
theorem q244 : (Jvm.Cond.selects "MoveTreeModel" ({ cls := "MoveTreeModel", name := "sync", desc := "(II)I" } : Jvm.MethodName) ({ cls := "MoveTreeModel", name := "sync", desc := "(II)I" } : Jvm.MethodName)) ∈ lw_all := lw_g (lw_at lw_m1 232 rfl) rfl
theorem q245 : (Jvm.Cond.code ({ cls := "MoveTreeModel", name := "sync", desc := "(II)I" } : Jvm.MethodName) prog_3_method_12_code (5 : Nat) (Option.some Jvm.ClassFile.FieldType.int)) ∈ lw_all := lw_g (lw_at lw_m1 233 rfl) rfl
theorem q247 : (Jvm.Cond.instanceMethod ({ cls := "MoveTreeModel", name := "parent", desc := "(II)I" } : Jvm.MethodName)) ∈ lw_all := lw_g (lw_at lw_m1 235 rfl) rfl
theorem q248 : (Jvm.Cond.selects "MoveTreeModel" ({ cls := "MoveTreeModel", name := "parent", desc := "(II)I" } : Jvm.MethodName) ({ cls := "MoveTreeModel", name := "parent", desc := "(II)I" } : Jvm.MethodName)) ∈ lw_all := lw_g (lw_at lw_m1 236 rfl) rfl
theorem q249 : (Jvm.Cond.code ({ cls := "MoveTreeModel", name := "parent", desc := "(II)I" } : Jvm.MethodName) prog_3_method_13_code (3 : Nat) (Option.some Jvm.ClassFile.FieldType.int)) ∈ lw_all := lw_g (lw_at lw_m1 237 rfl) rfl
theorem q251 : (Jvm.Cond.instanceMethod ({ cls := "MoveTreeModel", name := "label", desc := "(II)I" } : Jvm.MethodName)) ∈ lw_all := lw_g (lw_at lw_m1 239 rfl) rfl
theorem q252 : (Jvm.Cond.selects "MoveTreeModel" ({ cls := "MoveTreeModel", name := "label", desc := "(II)I" } : Jvm.MethodName) ({ cls := "MoveTreeModel", name := "label", desc := "(II)I" } : Jvm.MethodName)) ∈ lw_all := lw_g (lw_at lw_m2 0 rfl) rfl
theorem q253 : (Jvm.Cond.code ({ cls := "MoveTreeModel", name := "label", desc := "(II)I" } : Jvm.MethodName) prog_3_method_14_code (3 : Nat) (Option.some Jvm.ClassFile.FieldType.int)) ∈ lw_all := lw_g (lw_at lw_m2 1 rfl) rfl
theorem q255 : (Jvm.Cond.instanceMethod ({ cls := "MoveTreeModel", name := "children", desc := "(II)I" } : Jvm.MethodName)) ∈ lw_all := lw_g (lw_at lw_m2 3 rfl) rfl
theorem q256 : (Jvm.Cond.selects "MoveTreeModel" ({ cls := "MoveTreeModel", name := "children", desc := "(II)I" } : Jvm.MethodName) ({ cls := "MoveTreeModel", name := "children", desc := "(II)I" } : Jvm.MethodName)) ∈ lw_all := lw_g (lw_at lw_m2 4 rfl) rfl
theorem q257 : (Jvm.Cond.code ({ cls := "MoveTreeModel", name := "children", desc := "(II)I" } : Jvm.MethodName) prog_3_method_15_code (5 : Nat) (Option.some Jvm.ClassFile.FieldType.int)) ∈ lw_all := lw_g (lw_at lw_m2 5 rfl) rfl
theorem q259 : (Jvm.Cond.instanceMethod ({ cls := "MoveTreeModel", name := "depth", desc := "(II)I" } : Jvm.MethodName)) ∈ lw_all := lw_g (lw_at lw_m2 7 rfl) rfl
theorem q260 : (Jvm.Cond.selects "MoveTreeModel" ({ cls := "MoveTreeModel", name := "depth", desc := "(II)I" } : Jvm.MethodName) ({ cls := "MoveTreeModel", name := "depth", desc := "(II)I" } : Jvm.MethodName)) ∈ lw_all := lw_g (lw_at lw_m2 8 rfl) rfl
theorem q261 : (Jvm.Cond.code ({ cls := "MoveTreeModel", name := "depth", desc := "(II)I" } : Jvm.MethodName) prog_3_method_16_code (5 : Nat) (Option.some Jvm.ClassFile.FieldType.int)) ∈ lw_all := lw_g (lw_at lw_m2 9 rfl) rfl
theorem q264 : (Jvm.Cond.instanceMethod ({ cls := "MoveTreeModel", name := "alike", desc := "(II)I" } : Jvm.MethodName)) ∈ lw_all := lw_g (lw_at lw_m2 12 rfl) rfl
theorem q265 : (Jvm.Cond.selects "MoveTreeModel" ({ cls := "MoveTreeModel", name := "alike", desc := "(II)I" } : Jvm.MethodName) ({ cls := "MoveTreeModel", name := "alike", desc := "(II)I" } : Jvm.MethodName)) ∈ lw_all := lw_g (lw_at lw_m2 13 rfl) rfl
theorem q266 : (Jvm.Cond.code ({ cls := "MoveTreeModel", name := "alike", desc := "(II)I" } : Jvm.MethodName) prog_3_method_18_code (4 : Nat) (Option.some Jvm.ClassFile.FieldType.int)) ∈ lw_all := lw_g (lw_at lw_m2 14 rfl) rfl
theorem in_X1 : ∀ w ∈ wsX10, w ∈ lw_all := lw_in wsX10 [173, 175, 177, 179, 181, 183, 185, 187, 189, 191, 193, 195, 197] (by decide +kernel) (by decide +kernel)

theorem q12 : (Jvm.Cond.initialized "MoveTreeLaw") ∈ lw_all := lw_g (lw_at lw_m1 0 rfl) rfl
theorem q15 : (Jvm.Cond.classLink "MoveTreeLaw" (7 : Nat) "MoveTree") ∈ lw_all := lw_g (lw_at lw_m1 3 rfl) rfl
theorem q17 : (Jvm.Cond.methodLink "MoveTreeLaw" (9 : Nat) ({ cls := "MoveTree", name := "<init>", desc := "()V" } : Jvm.MethodName)) ∈ lw_all := lw_g (lw_at lw_m1 5 rfl) rfl
theorem q80 : (Jvm.Cond.methodLink "MoveTreeLaw" (13 : Nat) ({ cls := "MoveTree", name := "move", desc := "(III)I" } : Jvm.MethodName)) ∈ lw_all := lw_g (lw_at lw_m1 68 rfl) rfl
theorem q111 : (Jvm.Cond.methodLink "MoveTreeLaw" (18 : Nat) ({ cls := "MoveTree", name := "name", desc := "(III)I" } : Jvm.MethodName)) ∈ lw_all := lw_g (lw_at lw_m1 99 rfl) rfl
theorem q115 : (Jvm.Cond.methodLink "MoveTreeLaw" (22 : Nat) ({ cls := "MoveTree", name := "deliver", desc := "(II)I" } : Jvm.MethodName)) ∈ lw_all := lw_g (lw_at lw_m1 103 rfl) rfl
theorem q119 : (Jvm.Cond.methodLink "MoveTreeLaw" (27 : Nat) ({ cls := "MoveTree", name := "sync", desc := "(II)I" } : Jvm.MethodName)) ∈ lw_all := lw_g (lw_at lw_m1 107 rfl) rfl
theorem q127 : (Jvm.Cond.methodLink "MoveTreeLaw" (31 : Nat) ({ cls := "MoveTree", name := "parent", desc := "(II)I" } : Jvm.MethodName)) ∈ lw_all := lw_g (lw_at lw_m1 115 rfl) rfl
theorem q134 : (Jvm.Cond.methodLink "MoveTreeLaw" (35 : Nat) ({ cls := "MoveTree", name := "label", desc := "(II)I" } : Jvm.MethodName)) ∈ lw_all := lw_g (lw_at lw_m1 122 rfl) rfl
theorem q138 : (Jvm.Cond.methodLink "MoveTreeLaw" (39 : Nat) ({ cls := "MoveTree", name := "children", desc := "(II)I" } : Jvm.MethodName)) ∈ lw_all := lw_g (lw_at lw_m1 126 rfl) rfl
theorem q142 : (Jvm.Cond.methodLink "MoveTreeLaw" (43 : Nat) ({ cls := "MoveTree", name := "depth", desc := "(II)I" } : Jvm.MethodName)) ∈ lw_all := lw_g (lw_at lw_m1 130 rfl) rfl
theorem q146 : (Jvm.Cond.methodLink "MoveTreeLaw" (47 : Nat) ({ cls := "MoveTree", name := "skipped", desc := "(I)I" } : Jvm.MethodName)) ∈ lw_all := lw_g (lw_at lw_m1 134 rfl) rfl
theorem q150 : (Jvm.Cond.methodLink "MoveTreeLaw" (52 : Nat) ({ cls := "MoveTree", name := "alike", desc := "(II)I" } : Jvm.MethodName)) ∈ lw_all := lw_g (lw_at lw_m1 138 rfl) rfl
theorem q154 : (Jvm.Cond.classLink "MoveTreeLaw" (10 : Nat) "MoveTreeModel") ∈ lw_all := lw_g (lw_at lw_m1 142 rfl) rfl
theorem q156 : (Jvm.Cond.methodLink "MoveTreeLaw" (12 : Nat) ({ cls := "MoveTreeModel", name := "<init>", desc := "()V" } : Jvm.MethodName)) ∈ lw_all := lw_g (lw_at lw_m1 144 rfl) rfl
theorem q200 : (Jvm.Cond.methodLink "MoveTreeLaw" (17 : Nat) ({ cls := "MoveTreeModel", name := "move", desc := "(III)I" } : Jvm.MethodName)) ∈ lw_all := lw_g (lw_at lw_m1 188 rfl) rfl
theorem q230 : (Jvm.Cond.methodLink "MoveTreeLaw" (21 : Nat) ({ cls := "MoveTreeModel", name := "name", desc := "(III)I" } : Jvm.MethodName)) ∈ lw_all := lw_g (lw_at lw_m1 218 rfl) rfl
theorem q234 : (Jvm.Cond.methodLink "MoveTreeLaw" (26 : Nat) ({ cls := "MoveTreeModel", name := "deliver", desc := "(II)I" } : Jvm.MethodName)) ∈ lw_all := lw_g (lw_at lw_m1 222 rfl) rfl
theorem q242 : (Jvm.Cond.methodLink "MoveTreeLaw" (30 : Nat) ({ cls := "MoveTreeModel", name := "sync", desc := "(II)I" } : Jvm.MethodName)) ∈ lw_all := lw_g (lw_at lw_m1 230 rfl) rfl
theorem q246 : (Jvm.Cond.methodLink "MoveTreeLaw" (34 : Nat) ({ cls := "MoveTreeModel", name := "parent", desc := "(II)I" } : Jvm.MethodName)) ∈ lw_all := lw_g (lw_at lw_m1 234 rfl) rfl
theorem q250 : (Jvm.Cond.methodLink "MoveTreeLaw" (38 : Nat) ({ cls := "MoveTreeModel", name := "label", desc := "(II)I" } : Jvm.MethodName)) ∈ lw_all := lw_g (lw_at lw_m1 238 rfl) rfl
theorem q254 : (Jvm.Cond.methodLink "MoveTreeLaw" (42 : Nat) ({ cls := "MoveTreeModel", name := "children", desc := "(II)I" } : Jvm.MethodName)) ∈ lw_all := lw_g (lw_at lw_m2 2 rfl) rfl
theorem q258 : (Jvm.Cond.methodLink "MoveTreeLaw" (46 : Nat) ({ cls := "MoveTreeModel", name := "depth", desc := "(II)I" } : Jvm.MethodName)) ∈ lw_all := lw_g (lw_at lw_m2 6 rfl) rfl
theorem q262 : (Jvm.Cond.methodLink "MoveTreeLaw" (51 : Nat) ({ cls := "MoveTreeModel", name := "skipped", desc := "(I)I" } : Jvm.MethodName)) ∈ lw_all := lw_g (lw_at lw_m2 10 rfl) rfl
theorem q263 : (Jvm.Cond.methodLink "MoveTreeLaw" (55 : Nat) ({ cls := "MoveTreeModel", name := "alike", desc := "(II)I" } : Jvm.MethodName)) ∈ lw_all := lw_g (lw_at lw_m2 11 rfl) rfl

theorem q78 : (Jvm.Cond.arrayClass Jvm.ClassFile.FieldType.boolean) ∈ lw_all := lw_g (lw_at lw_m1 66 rfl) rfl
theorem q79 : (Jvm.Cond.arrayClass Jvm.ClassFile.FieldType.int) ∈ lw_all := lw_g (lw_at lw_m1 67 rfl) rfl

abbrev cL_law : ByteArray := code
abbrev vwCl : List vw_C := [(RX0, TX0, 18), (RX1, TX1, 13)]
end
section
set_option maxRecDepth 100000
/-- one place of one array changed -/
def st2 {α : Type} (g : Nat → Nat → α) (k i : Nat) (v : α) : Nat → Nat → α := fun k' => if k' = k then (fun j => if j = i then v else g k j) else g k'
theorem st2_eq {α : Type} (g : Nat → Nat → α) (k i : Nat) (v : α) : st2 g k i v k i = v := by simp [st2]
theorem st2_ne {α : Type} (g : Nat → Nat → α) (k i : Nat) (v : α) {j : Nat} (h : j ≠ i) : st2 g k i v k j = g k j := by simp [st2, h]
theorem st2_k {α : Type} (g : Nat → Nat → α) (k i : Nat) (v : α) {k' : Nat} (h : k' ≠ k) : st2 g k i v k' = g k' := by simp [st2, h]
theorem st2_at {α : Type} (g : Nat → Nat → α) (k i : Nat) (v : α) (k' j : Nat) : st2 g k i v k' j = if k' = k ∧ j = i then v else g k' j := by
  by_cases h : k' = k
  · subst h
    by_cases hj : j = i <;> simp [st2, hj]
  · simp [st2, h]
def gI (g : Nat → Nat → Nat) (k : Nat) : Nat → Int32 := fun i => nI (g k i)
theorem gI_st (g : Nat → Nat → Nat) (k i v : Nat) : upd (gI g k) i (nI v) = gI (st2 g k i v) k := by
  funext j
  by_cases h : j = i <;> simp [upd, gI, st2, h]
theorem fI_st (f : Nat → Nat → Int32) (k i : Nat) (v : Int32) : upd (f k) i v = st2 f k i v k := by
  funext j
  by_cases h : j = i <;> simp [upd, st2, h]
/-- the answer of a test -/
noncomputable def bI (P : Prop) : Int32 := @ite Int32 P (Classical.propDecidable P) 1 0
theorem bI_t {P : Prop} (h : P) : bI P = 1 := by unfold bI; exact if_pos h
theorem bI_f {P : Prop} (h : ¬ P) : bI P = 0 := by unfold bI; exact if_neg h
theorem bI1 {P : Prop} (h : P) : nI 1 = bI P := by rw [bI_t h]; rfl
theorem bI0 {P : Prop} (h : ¬ P) : nI 0 = bI P := by rw [bI_f h]; rfl
theorem bI_congr {P P' : Prop} (h : P ↔ P') : bI P = bI P' := by rw [propext h]
theorem bI_01 (P : Prop) : bI P = 0 ∨ bI P = 1 := by
  by_cases h : P
  · exact Or.inr (bI_t h)
  · exact Or.inl (bI_f h)
theorem z_nar {v : Nat} (h : v < 2) : vp_nar .boolean (nI v) = nI v := by
  have h2 : v = 0 ∨ v = 1 := by omega
  rcases h2 with h2 | h2 <;> (subst h2; rfl)
theorem z_narr {v : Int32} (h : v = 0 ∨ v = 1) : narrow .boolean (.int v) = .int v := by
  rcases h with h | h <;> (subst h; rfl)
section ZR
variable {p : Program} {l : Launch} {e : Env} {R : Room} {s : State} {m : MethodId} {args : Array Value} {below : List Frame} {meth : Method} {c : Code} {H : Heap} {locs : List Loc} {cells slots : Nat} {Q : State → Prop}
variable {cc : ByteArray} {nL pc : Nat} {ls : Array Slot} {rest : List Value} {D : va_G} {h : Nat → Nat} {cZ cI : ClassId} {A : Nat → Prop} {g : Nat → Nat → Nat} {f : Nat → Nat → Int32} {own : String}
theorem z_imul (S : CallFix p m c cc nL s args lw_all own) {x y : Nat} (hdg : decode cc pc = .ok (.imul, 1)) (kk : W p l e R s m args below meth c H locs cells slots Q (F0 m (pc + 1) ls (.int (nI (x * y)) :: rest))) : W p l e R s m args below meth c H locs cells slots Q (F0 m pc ls (.int (nI y) :: .int (nI x) :: rest)) := lv_imul S.1 S.2.1 hdg (by rw [pk_mul]; exact kk)
theorem z_iadd (S : CallFix p m c cc nL s args lw_all own) {x y : Nat} (hdg : decode cc pc = .ok (.iadd, 1)) (kk : W p l e R s m args below meth c H locs cells slots Q (F0 m (pc + 1) ls (.int (nI (x + y)) :: rest))) : W p l e R s m args below meth c H locs cells slots Q (F0 m pc ls (.int (nI y) :: .int (nI x) :: rest)) := lv_iadd S.1 S.2.1 hdg (by rw [nI_add]; exact kk)
theorem z_isub (S : CallFix p m c cc nL s args lw_all own) {x y : Nat} (hle : y ≤ x) (hdg : decode cc pc = .ok (.isub, 1)) (kk : W p l e R s m args below meth c H locs cells slots Q (F0 m (pc + 1) ls (.int (nI (x - y)) :: rest))) : W p l e R s m args below meth c H locs cells slots Q (F0 m pc ls (.int (nI y) :: .int (nI x) :: rest)) := lv_isub S.1 S.2.1 hdg (by rw [pk_sub hle]; exact kk)
theorem z_icmp_eq (S : CallFix p m c cc nL s args lw_all own) {x y : Nat} {off : Int} {tgt : Nat} (hx : x < 2147483648) (hy : y < 2147483648) (hdg : decode cc pc = .ok (.if_icmp .eq off, 3)) (ht : (pc : Int) + off = (tgt : Int)) (kt : x = y → W p l e R s m args below meth c H locs cells slots Q (F0 m tgt ls rest)) (kf : ¬ x = y → W p l e R s m args below meth c H locs cells slots Q (F0 m (pc + 3) ls rest)) : W p l e R s m args below meth c H locs cells slots Q (F0 m pc ls (.int (nI y) :: .int (nI x) :: rest)) := by
  exact lv_icmp_eq S.1 S.2.1 hdg ht (fun q => kt ((nI_eq hx hy).mp q)) (fun q => kf (fun z => q ((nI_eq hx hy).mpr z)))
theorem z_icmp_ne (S : CallFix p m c cc nL s args lw_all own) {x y : Nat} {off : Int} {tgt : Nat} (hx : x < 2147483648) (hy : y < 2147483648) (hdg : decode cc pc = .ok (.if_icmp .ne off, 3)) (ht : (pc : Int) + off = (tgt : Int)) (kt : ¬ x = y → W p l e R s m args below meth c H locs cells slots Q (F0 m tgt ls rest)) (kf : x = y → W p l e R s m args below meth c H locs cells slots Q (F0 m (pc + 3) ls rest)) : W p l e R s m args below meth c H locs cells slots Q (F0 m pc ls (.int (nI y) :: .int (nI x) :: rest)) := by
  exact lv_icmp_ne S.1 S.2.1 hdg ht (fun q => kt (fun z => q ((nI_eq hx hy).mpr z))) (fun q => kf ((nI_eq hx hy).mp q))
theorem z_icmp_lt (S : CallFix p m c cc nL s args lw_all own) {x y : Nat} {off : Int} {tgt : Nat} (hx : x < 2147483648) (hy : y < 2147483648) (hdg : decode cc pc = .ok (.if_icmp .lt off, 3)) (ht : (pc : Int) + off = (tgt : Int)) (kt : x < y → W p l e R s m args below meth c H locs cells slots Q (F0 m tgt ls rest)) (kf : y ≤ x → W p l e R s m args below meth c H locs cells slots Q (F0 m (pc + 3) ls rest)) : W p l e R s m args below meth c H locs cells slots Q (F0 m pc ls (.int (nI y) :: .int (nI x) :: rest)) := by
  exact lv_icmp_lt S.1 S.2.1 hdg ht (fun q => kt ((nI_ltI hx hy).mp q)) (fun q => kf (Nat.le_of_not_lt (fun z => q ((nI_ltI hx hy).mpr z))))
theorem z_icmp_ge (S : CallFix p m c cc nL s args lw_all own) {x y : Nat} {off : Int} {tgt : Nat} (hx : x < 2147483648) (hy : y < 2147483648) (hdg : decode cc pc = .ok (.if_icmp .ge off, 3)) (ht : (pc : Int) + off = (tgt : Int)) (kt : y ≤ x → W p l e R s m args below meth c H locs cells slots Q (F0 m tgt ls rest)) (kf : x < y → W p l e R s m args below meth c H locs cells slots Q (F0 m (pc + 3) ls rest)) : W p l e R s m args below meth c H locs cells slots Q (F0 m pc ls (.int (nI y) :: .int (nI x) :: rest)) := by
  exact lv_icmp_ge S.1 S.2.1 hdg ht (fun q => kt ((nI_leI hy hx).mp q)) (fun q => kf (Nat.lt_of_not_le (fun z => q ((nI_leI hy hx).mpr z))))
theorem z_icmp_gt (S : CallFix p m c cc nL s args lw_all own) {x y : Nat} {off : Int} {tgt : Nat} (hx : x < 2147483648) (hy : y < 2147483648) (hdg : decode cc pc = .ok (.if_icmp .gt off, 3)) (ht : (pc : Int) + off = (tgt : Int)) (kt : y < x → W p l e R s m args below meth c H locs cells slots Q (F0 m tgt ls rest)) (kf : x ≤ y → W p l e R s m args below meth c H locs cells slots Q (F0 m (pc + 3) ls rest)) : W p l e R s m args below meth c H locs cells slots Q (F0 m pc ls (.int (nI y) :: .int (nI x) :: rest)) := by
  exact lv_icmp_gt S.1 S.2.1 hdg ht (fun q => kt ((nI_ltI hy hx).mp q)) (fun q => kf (Nat.le_of_not_lt (fun z => q ((nI_ltI hy hx).mpr z))))
theorem z_icmp_le (S : CallFix p m c cc nL s args lw_all own) {x y : Nat} {off : Int} {tgt : Nat} (hx : x < 2147483648) (hy : y < 2147483648) (hdg : decode cc pc = .ok (.if_icmp .le off, 3)) (ht : (pc : Int) + off = (tgt : Int)) (kt : x ≤ y → W p l e R s m args below meth c H locs cells slots Q (F0 m tgt ls rest)) (kf : y < x → W p l e R s m args below meth c H locs cells slots Q (F0 m (pc + 3) ls rest)) : W p l e R s m args below meth c H locs cells slots Q (F0 m pc ls (.int (nI y) :: .int (nI x) :: rest)) := by
  exact lv_icmp_le S.1 S.2.1 hdg ht (fun q => kt ((nI_leI hx hy).mp q)) (fun q => kf (Nat.lt_of_not_le (fun z => q ((nI_leI hx hy).mpr z))))
theorem z_nI0 {x : Nat} (hx : x < 2147483648) : nI x = 0 ↔ x = 0 := by
  rw [← nI_0]; exact nI_eq hx (by decide)
theorem z_if_eq (S : CallFix p m c cc nL s args lw_all own) {x : Nat} {off : Int} {tgt : Nat} (hx : x < 2147483648) (hdg : decode cc pc = .ok (.ifCond .eq off, 3)) (ht : (pc : Int) + off = (tgt : Int)) (kt : x = 0 → W p l e R s m args below meth c H locs cells slots Q (F0 m tgt ls rest)) (kf : ¬ x = 0 → W p l e R s m args below meth c H locs cells slots Q (F0 m (pc + 3) ls rest)) : W p l e R s m args below meth c H locs cells slots Q (F0 m pc ls (.int (nI x) :: rest)) :=
  lv_if_eq S.1 S.2.1 hdg ht (fun q => kt ((z_nI0 hx).mp q)) (fun q => kf (fun z => q ((z_nI0 hx).mpr z)))
theorem z_if_ne (S : CallFix p m c cc nL s args lw_all own) {x : Nat} {off : Int} {tgt : Nat} (hx : x < 2147483648) (hdg : decode cc pc = .ok (.ifCond .ne off, 3)) (ht : (pc : Int) + off = (tgt : Int)) (kt : ¬ x = 0 → W p l e R s m args below meth c H locs cells slots Q (F0 m tgt ls rest)) (kf : x = 0 → W p l e R s m args below meth c H locs cells slots Q (F0 m (pc + 3) ls rest)) : W p l e R s m args below meth c H locs cells slots Q (F0 m pc ls (.int (nI x) :: rest)) :=
  lv_if_ne S.1 S.2.1 hdg ht (fun q => kt (fun z => q ((z_nI0 hx).mpr z))) (fun q => kf ((z_nI0 hx).mp q))
theorem z_bI0 {P : Prop} : bI P = 0 ↔ ¬ P := by
  constructor
  · intro q z; rw [bI_t z] at q; exact absurd q (by decide)
  · exact bI_f
theorem z_ifb_eq (S : CallFix p m c cc nL s args lw_all own) {P : Prop} {off : Int} {tgt : Nat} (hdg : decode cc pc = .ok (.ifCond .eq off, 3)) (ht : (pc : Int) + off = (tgt : Int)) (kt : ¬ P → W p l e R s m args below meth c H locs cells slots Q (F0 m tgt ls rest)) (kf : P → W p l e R s m args below meth c H locs cells slots Q (F0 m (pc + 3) ls rest)) : W p l e R s m args below meth c H locs cells slots Q (F0 m pc ls (.int (bI P) :: rest)) :=
  lv_if_eq S.1 S.2.1 hdg ht (fun q => kt (z_bI0.mp q)) (fun q => kf (Classical.byContradiction (fun z => q (z_bI0.mpr z))))
theorem z_ifb_ne (S : CallFix p m c cc nL s args lw_all own) {P : Prop} {off : Int} {tgt : Nat} (hdg : decode cc pc = .ok (.ifCond .ne off, 3)) (ht : (pc : Int) + off = (tgt : Int)) (kt : P → W p l e R s m args below meth c H locs cells slots Q (F0 m tgt ls rest)) (kf : ¬ P → W p l e R s m args below meth c H locs cells slots Q (F0 m (pc + 3) ls rest)) : W p l e R s m args below meth c H locs cells slots Q (F0 m pc ls (.int (bI P) :: rest)) :=
  lv_if_ne S.1 S.2.1 hdg ht (fun q => kt (Classical.byContradiction (fun z => q (z_bI0.mpr z)))) (fun q => kf (z_bI0.mp q))
theorem z_if_lt_no (S : CallFix p m c cc nL s args lw_all own) {x : Nat} {off : Int} (hx : x < 2147483648) (hdg : decode cc pc = .ok (.ifCond .lt off, 3)) {tgt : Nat} (ht : (pc : Int) + off = (tgt : Int)) (kf : W p l e R s m args below meth c H locs cells slots Q (F0 m (pc + 3) ls rest)) : W p l e R s m args below meth c H locs cells slots Q (F0 m pc ls (.int (nI x) :: rest)) :=
  lv_if_lt S.1 S.2.1 hdg ht (fun q => absurd q (nI_pos hx)) (fun _ => kf)
theorem z_top {x y : Int32} (hxy : x = y) (kk : W p l e R s m args below meth c H locs cells slots Q (F0 m pc ls (.int y :: rest))) : W p l e R s m args below meth c H locs cells slots Q (F0 m pc ls (.int x :: rest)) := by subst hxy; exact kk
theorem z_inc1 (x : Nat) : nI x + Int32.ofInt 1 = nI (x + 1) := nI_1 x
theorem z_inc4 (x : Nat) : nI x + Int32.ofInt 4 = nI (x + 4) := nI_add x 4
def kI : Nat → Int32
  | 0 => -1
  | j + 1 => nI j
theorem kI_sub (n : Nat) : nI n - nI 1 = kI n := by
  cases n with
  | zero => rfl
  | succ n => exact nI_pred n
theorem kI_dec (j : Nat) : nI j + Int32.ofInt (-1) = kI j := by
  cases j with
  | zero => rfl
  | succ n => exact pk_m1 n
theorem z01_0 : nI 0 = 0 ∨ nI 0 = 1 := Or.inl rfl
theorem z01_1 : nI 1 = 0 ∨ nI 1 = 1 := Or.inr rfl
end ZR
/-- the world of RX0 -/
def xw (h : Nat → Nat) (cZ cI : ClassId) (g : Nat → Nat → Nat) (f : Nat → Nat → Int32) : va_W := [(h 0, .inr (0, [.int (nI (g 0 0)), .ref (h 1), .ref (h 2), .ref (h 3), .ref (h 4), .ref (h 5), .ref (h 6), .ref (h 7), .ref (h 8), .ref (h 9), .ref (h 10), .ref (h 11), .ref (h 12), .ref (h 13), .ref (h 14), .ref (h 15), .ref (h 16), .ref (h 17)])), (h 1, .inl (cZ, 60, .inl (gI g 1))), (h 2, .inl (cI, 60, .inl (gI g 2))), (h 3, .inl (cI, 60, .inl (f 3))), (h 4, .inl (cI, 60, .inl (gI g 4))), (h 5, .inl (cI, 60, .inl (gI g 5))), (h 6, .inl (cI, 60, .inl (gI g 6))), (h 7, .inl (cI, 3, .inl (gI g 7))), (h 8, .inl (cI, 183, .inl (gI g 8))), (h 9, .inl (cI, 9, .inl (gI g 9))), (h 10, .inl (cI, 3, .inl (gI g 10))), (h 11, .inl (cI, 3, .inl (gI g 11))), (h 12, .inl (cI, 180, .inl (gI g 12))), (h 13, .inl (cI, 180, .inl (f 13))), (h 14, .inl (cZ, 180, .inl (gI g 14))), (h 15, .inl (cI, 3, .inl (gI g 15))), (h 16, .inl (cI, 30, .inl (f 16))), (h 17, .inl (cI, 30, .inl (f 17)))]
def xA (h : Nat → Nat) : Nat → Prop := fun q => ∃ k, k < 18 ∧ k ≠ 99 ∧ q = h k
abbrev zty (cZ cI : ClassId) : List (ClassId × FieldType) := [(cZ, .boolean), (cI, .int)]
def XS (D : va_G) (h : Nat → Nat) (cZ cI : ClassId) (s : State) (A : Nat → Prop) (H : Heap) (locs : List Loc) (g : Nat → Nat → Nat) (f : Nat → Nat → Int32) : Prop := va_K D vwCl (zty cZ cI) s ∧ va_P D vwCl (xw h cZ cI g f) H ∧ va_D A (xw h cZ cI g f) ∧ va_S A s.heap H locs
abbrev zU : Type := (Nat → Nat → Nat) × (Nat → Nat → Int32)
def xPc (D : va_G) (h : Nat → Nat) (cZ cI : ClassId) (g : Nat → Nat → Nat) (f : Nat → Nat → Int32) (av : List Value) : Array Value → State → Prop := va_Pc (.ref (h 0) :: av) (fun U => va_P D vwCl (xw h cZ cI g f) U.heap ∧ va_K D vwCl (zty cZ cI) U ∧ va_D (xA h) (xw h cZ cI g f))
def xB (D : va_G) (h : Nat → Nat) (cZ cI : ClassId) (u : zU) (t : State) : Prop := va_P D vwCl (xw h cZ cI u.1 u.2) t.heap ∧ va_K D vwCl (zty cZ cI) t ∧ va_D (xA h) (xw h cZ cI u.1 u.2)
section XR
variable {p : Program} {l : Launch} {e : Env} {R : Room} {s : State} {m : MethodId} {args : Array Value} {below : List Frame} {meth : Method} {c : Code} {H : Heap} {locs : List Loc} {cells slots : Nat} {Q : State → Prop}
variable {cc : ByteArray} {nL pc : Nat} {ls : Array Slot} {rest : List Value} {D : va_G} {h : Nat → Nat} {cZ cI : ClassId} {A : Nat → Prop} {g : Nat → Nat → Nat} {f : Nat → Nat → Int32} {own : String}
theorem xw_0 : (xw h cZ cI g f)[0]? = some ((h 0, .inr (0, [.int (nI (g 0 0)), .ref (h 1), .ref (h 2), .ref (h 3), .ref (h 4), .ref (h 5), .ref (h 6), .ref (h 7), .ref (h 8), .ref (h 9), .ref (h 10), .ref (h 11), .ref (h 12), .ref (h 13), .ref (h 14), .ref (h 15), .ref (h 16), .ref (h 17)]))) := rfl
theorem xw_1 : (xw h cZ cI g f)[1]? = some ((h 1, .inl (cZ, 60, .inl (gI g 1)))) := rfl
theorem xw_2 : (xw h cZ cI g f)[2]? = some ((h 2, .inl (cI, 60, .inl (gI g 2)))) := rfl
theorem xw_3 : (xw h cZ cI g f)[3]? = some ((h 3, .inl (cI, 60, .inl (f 3)))) := rfl
theorem xw_4 : (xw h cZ cI g f)[4]? = some ((h 4, .inl (cI, 60, .inl (gI g 4)))) := rfl
theorem xw_5 : (xw h cZ cI g f)[5]? = some ((h 5, .inl (cI, 60, .inl (gI g 5)))) := rfl
theorem xw_6 : (xw h cZ cI g f)[6]? = some ((h 6, .inl (cI, 60, .inl (gI g 6)))) := rfl
theorem xw_7 : (xw h cZ cI g f)[7]? = some ((h 7, .inl (cI, 3, .inl (gI g 7)))) := rfl
theorem xw_8 : (xw h cZ cI g f)[8]? = some ((h 8, .inl (cI, 183, .inl (gI g 8)))) := rfl
theorem xw_9 : (xw h cZ cI g f)[9]? = some ((h 9, .inl (cI, 9, .inl (gI g 9)))) := rfl
theorem xw_10 : (xw h cZ cI g f)[10]? = some ((h 10, .inl (cI, 3, .inl (gI g 10)))) := rfl
theorem xw_11 : (xw h cZ cI g f)[11]? = some ((h 11, .inl (cI, 3, .inl (gI g 11)))) := rfl
theorem xw_12 : (xw h cZ cI g f)[12]? = some ((h 12, .inl (cI, 180, .inl (gI g 12)))) := rfl
theorem xw_13 : (xw h cZ cI g f)[13]? = some ((h 13, .inl (cI, 180, .inl (f 13)))) := rfl
theorem xw_14 : (xw h cZ cI g f)[14]? = some ((h 14, .inl (cZ, 180, .inl (gI g 14)))) := rfl
theorem xw_15 : (xw h cZ cI g f)[15]? = some ((h 15, .inl (cI, 3, .inl (gI g 15)))) := rfl
theorem xw_16 : (xw h cZ cI g f)[16]? = some ((h 16, .inl (cI, 30, .inl (f 16)))) := rfl
theorem xw_17 : (xw h cZ cI g f)[17]? = some ((h 17, .inl (cI, 30, .inl (f 17)))) := rfl
theorem xw_addr : (xw h cZ cI g f).map (fun q => q.1) = [h 0, h 1, h 2, h 3, h 4, h 5, h 6, h 7, h 8, h 9, h 10, h 11, h 12, h 13, h 14, h 15, h 16, h 17] := rfl
theorem xw_A {k : Nat} {q : Nat × va_E} (hq : (xw h cZ cI g f)[k]? = some q) : xA h q.1 := by
  have h1 : q.1 ∈ (xw h cZ cI g f).map (fun q => q.1) := List.mem_map.mpr ⟨q, List.mem_of_getElem? hq, rfl⟩
  rw [xw_addr] at h1
  simp only [List.mem_cons, List.not_mem_nil, or_false] at h1
  rcases h1 with h1 | h1 | h1 | h1 | h1 | h1 | h1 | h1 | h1 | h1 | h1 | h1 | h1 | h1 | h1 | h1 | h1 | h1
  · exact ⟨0, by decide, by decide, h1⟩
  · exact ⟨1, by decide, by decide, h1⟩
  · exact ⟨2, by decide, by decide, h1⟩
  · exact ⟨3, by decide, by decide, h1⟩
  · exact ⟨4, by decide, by decide, h1⟩
  · exact ⟨5, by decide, by decide, h1⟩
  · exact ⟨6, by decide, by decide, h1⟩
  · exact ⟨7, by decide, by decide, h1⟩
  · exact ⟨8, by decide, by decide, h1⟩
  · exact ⟨9, by decide, by decide, h1⟩
  · exact ⟨10, by decide, by decide, h1⟩
  · exact ⟨11, by decide, by decide, h1⟩
  · exact ⟨12, by decide, by decide, h1⟩
  · exact ⟨13, by decide, by decide, h1⟩
  · exact ⟨14, by decide, by decide, h1⟩
  · exact ⟨15, by decide, by decide, h1⟩
  · exact ⟨16, by decide, by decide, h1⟩
  · exact ⟨17, by decide, by decide, h1⟩
theorem xw_D {B A : Nat → Prop} {g2 : Nat → Nat → Nat} {f2 : Nat → Nat → Int32} (hD : va_D A (xw h cZ cI g f)) (hB : ∀ q, xA h q → B q) : va_D B (xw h cZ cI g2 f2) := by
  refine ⟨fun i j x y hx hy hxy => ?_, fun k q hq => hB _ (xw_A hq)⟩
  have e : (xw h cZ cI g f).map (fun q => q.1) = (xw h cZ cI g2 f2).map (fun q => q.1) := rfl
  have a1 : ((xw h cZ cI g f).map (fun q => q.1))[i]? = some x.1 := by rw [e, List.getElem?_map, hx]; rfl
  have a2 : ((xw h cZ cI g f).map (fun q => q.1))[j]? = some y.1 := by rw [e, List.getElem?_map, hy]; rfl
  rw [List.getElem?_map] at a1 a2
  obtain ⟨x2, b1, c1⟩ := Option.map_eq_some_iff.mp a1
  obtain ⟨y2, b2, c2⟩ := Option.map_eq_some_iff.mp a2
  exact hD.1 i j x2 y2 b1 b2 (by rw [c1, c2]; exact hxy)
theorem xS_A (hW : XS D h cZ cI s A H locs g f) : ∀ q, xA h q → A q := by
  intro q hq
  obtain ⟨k, hk, h9, rfl⟩ := hq
  match k, hk, h9 with
  | 0, _, _ => exact hW.2.2.1.2 _ _ xw_0
  | 1, _, _ => exact hW.2.2.1.2 _ _ xw_1
  | 2, _, _ => exact hW.2.2.1.2 _ _ xw_2
  | 3, _, _ => exact hW.2.2.1.2 _ _ xw_3
  | 4, _, _ => exact hW.2.2.1.2 _ _ xw_4
  | 5, _, _ => exact hW.2.2.1.2 _ _ xw_5
  | 6, _, _ => exact hW.2.2.1.2 _ _ xw_6
  | 7, _, _ => exact hW.2.2.1.2 _ _ xw_7
  | 8, _, _ => exact hW.2.2.1.2 _ _ xw_8
  | 9, _, _ => exact hW.2.2.1.2 _ _ xw_9
  | 10, _, _ => exact hW.2.2.1.2 _ _ xw_10
  | 11, _, _ => exact hW.2.2.1.2 _ _ xw_11
  | 12, _, _ => exact hW.2.2.1.2 _ _ xw_12
  | 13, _, _ => exact hW.2.2.1.2 _ _ xw_13
  | 14, _, _ => exact hW.2.2.1.2 _ _ xw_14
  | 15, _, _ => exact hW.2.2.1.2 _ _ xw_15
  | 16, _, _ => exact hW.2.2.1.2 _ _ xw_16
  | 17, _, _ => exact hW.2.2.1.2 _ _ xw_17
  | k + 18, hk, _ => exact absurd hk (by omega)
theorem x_gf_0 (S : CallFix p m c cc nL s args lw_all RX0) (hW : XS D h cZ cI s A H locs g f) (hdg : decode cc pc = .ok (.getfield 66, 3)) (kk : W p l e R s m args below meth c H locs cells slots Q (F0 m (pc + 3) ls (.int (nI (g 0 0)) :: rest))) : W p l e R s m args below meth c H locs cells slots Q (F0 m pc ls (.ref (h 0) :: rest)) :=
  va_get (D := D) (ci := 0) (v := .int (nI (g 0 0))) (C := RX0) (T := TX0) (N := 18) S.1 S.2.1 S.2.2.2.2 in_X0 S.2.2.2.1 hW.1 hW.2.1 0 xw_0 rfl 0 (by decide) (S.2.2.2.2 _ q23) (fun _ h9 => h9) rfl hdg kk
theorem x_g_0 (S : CallFix p m c cc nL s args lw_all RX0) (hW : XS D h cZ cI s A H locs g f) (h0 : ls[0]? = some (.val (.ref (h 0)))) (hd1 : decode cc pc = .ok (.aload_n 0, 1)) (hd2 : decode cc (pc + 1) = .ok (.getfield 66, 3)) (kk : W p l e R s m args below meth c H locs cells slots Q (F0 m (pc + 4) ls (.int (nI (g 0 0)) :: rest))) : W p l e R s m args below meth c H locs cells slots Q (F0 m pc ls rest) :=
  lv_aload_n S.1 S.2.1 hd1 rfl h0 (x_gf_0 S hW hd2 kk)
theorem x_pf_0 (S : CallFix p m c cc nL s args lw_all RX0) (hW : XS D h cZ cI s A H locs g f) {v : Nat} (hdg : decode cc pc = .ok (.putfield 66, 3)) (kk : ∀ (H1 : Heap) (locs1 : List Loc), XS D h cZ cI s A H1 locs1 (st2 g 0 0 v) f → W p l e R s m args below meth c H1 locs1 cells slots Q (F0 m (pc + 3) ls rest)) : W p l e R s m args below meth c H locs cells slots Q (F0 m pc ls (.int (nI v) :: .ref (h 0) :: rest)) :=
  va_put (D := D) (ci := 0) (v := .int (nI v)) (ty := .int) (C := RX0) (T := TX0) (N := 18) S.1 S.2.1 S.2.2.2.2 in_X0 tyX0 tyX0_ok nmX0 S.2.2.2.1 hW.1 hW.2.1 hW.2.2.1 hW.2.2.2 0 xw_0 rfl 0 (by decide) (S.2.2.2.2 _ q23) (fun _ h9 => h9) rfl (by decide +kernel) rfl rfl (Nat.le_of_ble_eq_true rfl) hdg (fun H1 locs1 hP hD hS => kk H1 locs1 ⟨hW.1, hP, hD, hS⟩)
theorem x_gf_1 (S : CallFix p m c cc nL s args lw_all RX0) (hW : XS D h cZ cI s A H locs g f) (hdg : decode cc pc = .ok (.getfield 7, 3)) (kk : W p l e R s m args below meth c H locs cells slots Q (F0 m (pc + 3) ls (.ref (h 1) :: rest))) : W p l e R s m args below meth c H locs cells slots Q (F0 m pc ls (.ref (h 0) :: rest)) :=
  va_get (D := D) (ci := 0) (v := .ref (h 1)) (C := RX0) (T := TX0) (N := 18) S.1 S.2.1 S.2.2.2.2 in_X0 S.2.2.2.1 hW.1 hW.2.1 0 xw_0 rfl 1 (by decide) (S.2.2.2.2 _ q24) (fun _ h9 => h9) rfl hdg kk
theorem x_g_1 (S : CallFix p m c cc nL s args lw_all RX0) (hW : XS D h cZ cI s A H locs g f) (h0 : ls[0]? = some (.val (.ref (h 0)))) (hd1 : decode cc pc = .ok (.aload_n 0, 1)) (hd2 : decode cc (pc + 1) = .ok (.getfield 7, 3)) (kk : W p l e R s m args below meth c H locs cells slots Q (F0 m (pc + 4) ls (.ref (h 1) :: rest))) : W p l e R s m args below meth c H locs cells slots Q (F0 m pc ls rest) :=
  lv_aload_n S.1 S.2.1 hd1 rfl h0 (x_gf_1 S hW hd2 kk)
theorem x_ld_1 (S : CallFix p m c cc nL s args lw_all RX0) (hW : XS D h cZ cI s A H locs g f) {i : Nat} {v : Nat} (hi : i < 60) (hv : g 1 i = v) (hdg : decode cc pc = .ok (.baload, 1)) (kk : W p l e R s m args below meth c H locs cells slots Q (F0 m (pc + 1) ls (.int (nI v) :: rest))) : W p l e R s m args below meth c H locs cells slots Q (F0 m pc ls (.int (nI i) :: .ref (h 1) :: rest)) := by
  subst hv
  refine va_zald (D := D) S.1 S.2.1 hW.1 hW.2.1 1 0 xw_1 rfl (vp_in_nI hi (by decide)) hdg ?_
  rw [nI_clamp (by omega)]
  exact kk
theorem x_st_1 (S : CallFix p m c cc nL s args lw_all RX0) (hW : XS D h cZ cI s A H locs g f) {i : Nat} {v : Nat} (hi : i < 60) (hb : v < 2) (hdg : decode cc pc = .ok (.bastore, 1)) (kk : ∀ (H1 : Heap) (locs1 : List Loc), XS D h cZ cI s A H1 locs1 (st2 g 1 i v) f → W p l e R s m args below meth c H1 locs1 cells slots Q (F0 m (pc + 1) ls rest)) : W p l e R s m args below meth c H locs cells slots Q (F0 m pc ls (.int (nI v) :: .int (nI i) :: .ref (h 1) :: rest)) := by
  refine va_zast (D := D) S.1 S.2.1 hW.1 hW.2.1 hW.2.2.1 hW.2.2.2 1 0 xw_1 rfl (vp_in_nI hi (by decide)) hdg (fun H1 locs1 hP hD hS => ?_)
  rw [nI_clamp (by omega), z_nar hb, gI_st] at hP hD
  exact kk H1 locs1 ⟨hW.1, hP, hD, hS⟩
theorem x_gf_2 (S : CallFix p m c cc nL s args lw_all RX0) (hW : XS D h cZ cI s A H locs g f) (hdg : decode cc pc = .ok (.getfield 13, 3)) (kk : W p l e R s m args below meth c H locs cells slots Q (F0 m (pc + 3) ls (.ref (h 2) :: rest))) : W p l e R s m args below meth c H locs cells slots Q (F0 m pc ls (.ref (h 0) :: rest)) :=
  va_get (D := D) (ci := 0) (v := .ref (h 2)) (C := RX0) (T := TX0) (N := 18) S.1 S.2.1 S.2.2.2.2 in_X0 S.2.2.2.1 hW.1 hW.2.1 0 xw_0 rfl 2 (by decide) (S.2.2.2.2 _ q25) (fun _ h9 => h9) rfl hdg kk
theorem x_g_2 (S : CallFix p m c cc nL s args lw_all RX0) (hW : XS D h cZ cI s A H locs g f) (h0 : ls[0]? = some (.val (.ref (h 0)))) (hd1 : decode cc pc = .ok (.aload_n 0, 1)) (hd2 : decode cc (pc + 1) = .ok (.getfield 13, 3)) (kk : W p l e R s m args below meth c H locs cells slots Q (F0 m (pc + 4) ls (.ref (h 2) :: rest))) : W p l e R s m args below meth c H locs cells slots Q (F0 m pc ls rest) :=
  lv_aload_n S.1 S.2.1 hd1 rfl h0 (x_gf_2 S hW hd2 kk)
theorem x_ld_2 (S : CallFix p m c cc nL s args lw_all RX0) (hW : XS D h cZ cI s A H locs g f) {i : Nat} {v : Nat} (hi : i < 60) (hv : g 2 i = v) (hdg : decode cc pc = .ok (.iaload, 1)) (kk : W p l e R s m args below meth c H locs cells slots Q (F0 m (pc + 1) ls (.int (nI v) :: rest))) : W p l e R s m args below meth c H locs cells slots Q (F0 m pc ls (.int (nI i) :: .ref (h 2) :: rest)) := by
  subst hv
  refine va_iald (D := D) S.1 S.2.1 hW.1 hW.2.1 2 1 xw_2 rfl (vp_in_nI hi (by decide)) hdg ?_
  rw [nI_clamp (by omega)]
  exact kk
theorem x_st_2 (S : CallFix p m c cc nL s args lw_all RX0) (hW : XS D h cZ cI s A H locs g f) {i : Nat} {v : Nat} (hi : i < 60) (hdg : decode cc pc = .ok (.iastore, 1)) (kk : ∀ (H1 : Heap) (locs1 : List Loc), XS D h cZ cI s A H1 locs1 (st2 g 2 i v) f → W p l e R s m args below meth c H1 locs1 cells slots Q (F0 m (pc + 1) ls rest)) : W p l e R s m args below meth c H locs cells slots Q (F0 m pc ls (.int (nI v) :: .int (nI i) :: .ref (h 2) :: rest)) := by
  refine va_iast (D := D) S.1 S.2.1 hW.1 hW.2.1 hW.2.2.1 hW.2.2.2 2 1 xw_2 rfl (vp_in_nI hi (by decide)) hdg (fun H1 locs1 hP hD hS => ?_)
  rw [nI_clamp (by omega), gI_st] at hP hD
  exact kk H1 locs1 ⟨hW.1, hP, hD, hS⟩
theorem x_gf_3 (S : CallFix p m c cc nL s args lw_all RX0) (hW : XS D h cZ cI s A H locs g f) (hdg : decode cc pc = .ok (.getfield 17, 3)) (kk : W p l e R s m args below meth c H locs cells slots Q (F0 m (pc + 3) ls (.ref (h 3) :: rest))) : W p l e R s m args below meth c H locs cells slots Q (F0 m pc ls (.ref (h 0) :: rest)) :=
  va_get (D := D) (ci := 0) (v := .ref (h 3)) (C := RX0) (T := TX0) (N := 18) S.1 S.2.1 S.2.2.2.2 in_X0 S.2.2.2.1 hW.1 hW.2.1 0 xw_0 rfl 3 (by decide) (S.2.2.2.2 _ q26) (fun _ h9 => h9) rfl hdg kk
theorem x_g_3 (S : CallFix p m c cc nL s args lw_all RX0) (hW : XS D h cZ cI s A H locs g f) (h0 : ls[0]? = some (.val (.ref (h 0)))) (hd1 : decode cc pc = .ok (.aload_n 0, 1)) (hd2 : decode cc (pc + 1) = .ok (.getfield 17, 3)) (kk : W p l e R s m args below meth c H locs cells slots Q (F0 m (pc + 4) ls (.ref (h 3) :: rest))) : W p l e R s m args below meth c H locs cells slots Q (F0 m pc ls rest) :=
  lv_aload_n S.1 S.2.1 hd1 rfl h0 (x_gf_3 S hW hd2 kk)
theorem x_ld_3 (S : CallFix p m c cc nL s args lw_all RX0) (hW : XS D h cZ cI s A H locs g f) {i : Nat} {v : Int32} (hi : i < 60) (hv : f 3 i = v) (hdg : decode cc pc = .ok (.iaload, 1)) (kk : W p l e R s m args below meth c H locs cells slots Q (F0 m (pc + 1) ls (.int v :: rest))) : W p l e R s m args below meth c H locs cells slots Q (F0 m pc ls (.int (nI i) :: .ref (h 3) :: rest)) := by
  subst hv
  refine va_iald (D := D) S.1 S.2.1 hW.1 hW.2.1 3 1 xw_3 rfl (vp_in_nI hi (by decide)) hdg ?_
  rw [nI_clamp (by omega)]
  exact kk
theorem x_st_3 (S : CallFix p m c cc nL s args lw_all RX0) (hW : XS D h cZ cI s A H locs g f) {i : Nat} {v : Int32} (hi : i < 60) (hdg : decode cc pc = .ok (.iastore, 1)) (kk : ∀ (H1 : Heap) (locs1 : List Loc), XS D h cZ cI s A H1 locs1 g (st2 f 3 i v) → W p l e R s m args below meth c H1 locs1 cells slots Q (F0 m (pc + 1) ls rest)) : W p l e R s m args below meth c H locs cells slots Q (F0 m pc ls (.int v :: .int (nI i) :: .ref (h 3) :: rest)) := by
  refine va_iast (D := D) S.1 S.2.1 hW.1 hW.2.1 hW.2.2.1 hW.2.2.2 3 1 xw_3 rfl (vp_in_nI hi (by decide)) hdg (fun H1 locs1 hP hD hS => ?_)
  rw [nI_clamp (by omega), fI_st] at hP hD
  exact kk H1 locs1 ⟨hW.1, hP, hD, hS⟩
theorem x_gf_4 (S : CallFix p m c cc nL s args lw_all RX0) (hW : XS D h cZ cI s A H locs g f) (hdg : decode cc pc = .ok (.getfield 20, 3)) (kk : W p l e R s m args below meth c H locs cells slots Q (F0 m (pc + 3) ls (.ref (h 4) :: rest))) : W p l e R s m args below meth c H locs cells slots Q (F0 m pc ls (.ref (h 0) :: rest)) :=
  va_get (D := D) (ci := 0) (v := .ref (h 4)) (C := RX0) (T := TX0) (N := 18) S.1 S.2.1 S.2.2.2.2 in_X0 S.2.2.2.1 hW.1 hW.2.1 0 xw_0 rfl 4 (by decide) (S.2.2.2.2 _ q27) (fun _ h9 => h9) rfl hdg kk
theorem x_g_4 (S : CallFix p m c cc nL s args lw_all RX0) (hW : XS D h cZ cI s A H locs g f) (h0 : ls[0]? = some (.val (.ref (h 0)))) (hd1 : decode cc pc = .ok (.aload_n 0, 1)) (hd2 : decode cc (pc + 1) = .ok (.getfield 20, 3)) (kk : W p l e R s m args below meth c H locs cells slots Q (F0 m (pc + 4) ls (.ref (h 4) :: rest))) : W p l e R s m args below meth c H locs cells slots Q (F0 m pc ls rest) :=
  lv_aload_n S.1 S.2.1 hd1 rfl h0 (x_gf_4 S hW hd2 kk)
theorem x_ld_4 (S : CallFix p m c cc nL s args lw_all RX0) (hW : XS D h cZ cI s A H locs g f) {i : Nat} {v : Nat} (hi : i < 60) (hv : g 4 i = v) (hdg : decode cc pc = .ok (.iaload, 1)) (kk : W p l e R s m args below meth c H locs cells slots Q (F0 m (pc + 1) ls (.int (nI v) :: rest))) : W p l e R s m args below meth c H locs cells slots Q (F0 m pc ls (.int (nI i) :: .ref (h 4) :: rest)) := by
  subst hv
  refine va_iald (D := D) S.1 S.2.1 hW.1 hW.2.1 4 1 xw_4 rfl (vp_in_nI hi (by decide)) hdg ?_
  rw [nI_clamp (by omega)]
  exact kk
theorem x_st_4 (S : CallFix p m c cc nL s args lw_all RX0) (hW : XS D h cZ cI s A H locs g f) {i : Nat} {v : Nat} (hi : i < 60) (hdg : decode cc pc = .ok (.iastore, 1)) (kk : ∀ (H1 : Heap) (locs1 : List Loc), XS D h cZ cI s A H1 locs1 (st2 g 4 i v) f → W p l e R s m args below meth c H1 locs1 cells slots Q (F0 m (pc + 1) ls rest)) : W p l e R s m args below meth c H locs cells slots Q (F0 m pc ls (.int (nI v) :: .int (nI i) :: .ref (h 4) :: rest)) := by
  refine va_iast (D := D) S.1 S.2.1 hW.1 hW.2.1 hW.2.2.1 hW.2.2.2 4 1 xw_4 rfl (vp_in_nI hi (by decide)) hdg (fun H1 locs1 hP hD hS => ?_)
  rw [nI_clamp (by omega), gI_st] at hP hD
  exact kk H1 locs1 ⟨hW.1, hP, hD, hS⟩
theorem x_gf_5 (S : CallFix p m c cc nL s args lw_all RX0) (hW : XS D h cZ cI s A H locs g f) (hdg : decode cc pc = .ok (.getfield 23, 3)) (kk : W p l e R s m args below meth c H locs cells slots Q (F0 m (pc + 3) ls (.ref (h 5) :: rest))) : W p l e R s m args below meth c H locs cells slots Q (F0 m pc ls (.ref (h 0) :: rest)) :=
  va_get (D := D) (ci := 0) (v := .ref (h 5)) (C := RX0) (T := TX0) (N := 18) S.1 S.2.1 S.2.2.2.2 in_X0 S.2.2.2.1 hW.1 hW.2.1 0 xw_0 rfl 5 (by decide) (S.2.2.2.2 _ q28) (fun _ h9 => h9) rfl hdg kk
theorem x_g_5 (S : CallFix p m c cc nL s args lw_all RX0) (hW : XS D h cZ cI s A H locs g f) (h0 : ls[0]? = some (.val (.ref (h 0)))) (hd1 : decode cc pc = .ok (.aload_n 0, 1)) (hd2 : decode cc (pc + 1) = .ok (.getfield 23, 3)) (kk : W p l e R s m args below meth c H locs cells slots Q (F0 m (pc + 4) ls (.ref (h 5) :: rest))) : W p l e R s m args below meth c H locs cells slots Q (F0 m pc ls rest) :=
  lv_aload_n S.1 S.2.1 hd1 rfl h0 (x_gf_5 S hW hd2 kk)
theorem x_ld_5 (S : CallFix p m c cc nL s args lw_all RX0) (hW : XS D h cZ cI s A H locs g f) {i : Nat} {v : Nat} (hi : i < 60) (hv : g 5 i = v) (hdg : decode cc pc = .ok (.iaload, 1)) (kk : W p l e R s m args below meth c H locs cells slots Q (F0 m (pc + 1) ls (.int (nI v) :: rest))) : W p l e R s m args below meth c H locs cells slots Q (F0 m pc ls (.int (nI i) :: .ref (h 5) :: rest)) := by
  subst hv
  refine va_iald (D := D) S.1 S.2.1 hW.1 hW.2.1 5 1 xw_5 rfl (vp_in_nI hi (by decide)) hdg ?_
  rw [nI_clamp (by omega)]
  exact kk
theorem x_st_5 (S : CallFix p m c cc nL s args lw_all RX0) (hW : XS D h cZ cI s A H locs g f) {i : Nat} {v : Nat} (hi : i < 60) (hdg : decode cc pc = .ok (.iastore, 1)) (kk : ∀ (H1 : Heap) (locs1 : List Loc), XS D h cZ cI s A H1 locs1 (st2 g 5 i v) f → W p l e R s m args below meth c H1 locs1 cells slots Q (F0 m (pc + 1) ls rest)) : W p l e R s m args below meth c H locs cells slots Q (F0 m pc ls (.int (nI v) :: .int (nI i) :: .ref (h 5) :: rest)) := by
  refine va_iast (D := D) S.1 S.2.1 hW.1 hW.2.1 hW.2.2.1 hW.2.2.2 5 1 xw_5 rfl (vp_in_nI hi (by decide)) hdg (fun H1 locs1 hP hD hS => ?_)
  rw [nI_clamp (by omega), gI_st] at hP hD
  exact kk H1 locs1 ⟨hW.1, hP, hD, hS⟩
theorem x_gf_6 (S : CallFix p m c cc nL s args lw_all RX0) (hW : XS D h cZ cI s A H locs g f) (hdg : decode cc pc = .ok (.getfield 26, 3)) (kk : W p l e R s m args below meth c H locs cells slots Q (F0 m (pc + 3) ls (.ref (h 6) :: rest))) : W p l e R s m args below meth c H locs cells slots Q (F0 m pc ls (.ref (h 0) :: rest)) :=
  va_get (D := D) (ci := 0) (v := .ref (h 6)) (C := RX0) (T := TX0) (N := 18) S.1 S.2.1 S.2.2.2.2 in_X0 S.2.2.2.1 hW.1 hW.2.1 0 xw_0 rfl 6 (by decide) (S.2.2.2.2 _ q29) (fun _ h9 => h9) rfl hdg kk
theorem x_g_6 (S : CallFix p m c cc nL s args lw_all RX0) (hW : XS D h cZ cI s A H locs g f) (h0 : ls[0]? = some (.val (.ref (h 0)))) (hd1 : decode cc pc = .ok (.aload_n 0, 1)) (hd2 : decode cc (pc + 1) = .ok (.getfield 26, 3)) (kk : W p l e R s m args below meth c H locs cells slots Q (F0 m (pc + 4) ls (.ref (h 6) :: rest))) : W p l e R s m args below meth c H locs cells slots Q (F0 m pc ls rest) :=
  lv_aload_n S.1 S.2.1 hd1 rfl h0 (x_gf_6 S hW hd2 kk)
theorem x_ld_6 (S : CallFix p m c cc nL s args lw_all RX0) (hW : XS D h cZ cI s A H locs g f) {i : Nat} {v : Nat} (hi : i < 60) (hv : g 6 i = v) (hdg : decode cc pc = .ok (.iaload, 1)) (kk : W p l e R s m args below meth c H locs cells slots Q (F0 m (pc + 1) ls (.int (nI v) :: rest))) : W p l e R s m args below meth c H locs cells slots Q (F0 m pc ls (.int (nI i) :: .ref (h 6) :: rest)) := by
  subst hv
  refine va_iald (D := D) S.1 S.2.1 hW.1 hW.2.1 6 1 xw_6 rfl (vp_in_nI hi (by decide)) hdg ?_
  rw [nI_clamp (by omega)]
  exact kk
theorem x_st_6 (S : CallFix p m c cc nL s args lw_all RX0) (hW : XS D h cZ cI s A H locs g f) {i : Nat} {v : Nat} (hi : i < 60) (hdg : decode cc pc = .ok (.iastore, 1)) (kk : ∀ (H1 : Heap) (locs1 : List Loc), XS D h cZ cI s A H1 locs1 (st2 g 6 i v) f → W p l e R s m args below meth c H1 locs1 cells slots Q (F0 m (pc + 1) ls rest)) : W p l e R s m args below meth c H locs cells slots Q (F0 m pc ls (.int (nI v) :: .int (nI i) :: .ref (h 6) :: rest)) := by
  refine va_iast (D := D) S.1 S.2.1 hW.1 hW.2.1 hW.2.2.1 hW.2.2.2 6 1 xw_6 rfl (vp_in_nI hi (by decide)) hdg (fun H1 locs1 hP hD hS => ?_)
  rw [nI_clamp (by omega), gI_st] at hP hD
  exact kk H1 locs1 ⟨hW.1, hP, hD, hS⟩
theorem x_gf_7 (S : CallFix p m c cc nL s args lw_all RX0) (hW : XS D h cZ cI s A H locs g f) (hdg : decode cc pc = .ok (.getfield 29, 3)) (kk : W p l e R s m args below meth c H locs cells slots Q (F0 m (pc + 3) ls (.ref (h 7) :: rest))) : W p l e R s m args below meth c H locs cells slots Q (F0 m pc ls (.ref (h 0) :: rest)) :=
  va_get (D := D) (ci := 0) (v := .ref (h 7)) (C := RX0) (T := TX0) (N := 18) S.1 S.2.1 S.2.2.2.2 in_X0 S.2.2.2.1 hW.1 hW.2.1 0 xw_0 rfl 7 (by decide) (S.2.2.2.2 _ q30) (fun _ h9 => h9) rfl hdg kk
theorem x_g_7 (S : CallFix p m c cc nL s args lw_all RX0) (hW : XS D h cZ cI s A H locs g f) (h0 : ls[0]? = some (.val (.ref (h 0)))) (hd1 : decode cc pc = .ok (.aload_n 0, 1)) (hd2 : decode cc (pc + 1) = .ok (.getfield 29, 3)) (kk : W p l e R s m args below meth c H locs cells slots Q (F0 m (pc + 4) ls (.ref (h 7) :: rest))) : W p l e R s m args below meth c H locs cells slots Q (F0 m pc ls rest) :=
  lv_aload_n S.1 S.2.1 hd1 rfl h0 (x_gf_7 S hW hd2 kk)
theorem x_ld_7 (S : CallFix p m c cc nL s args lw_all RX0) (hW : XS D h cZ cI s A H locs g f) {i : Nat} {v : Nat} (hi : i < 3) (hv : g 7 i = v) (hdg : decode cc pc = .ok (.iaload, 1)) (kk : W p l e R s m args below meth c H locs cells slots Q (F0 m (pc + 1) ls (.int (nI v) :: rest))) : W p l e R s m args below meth c H locs cells slots Q (F0 m pc ls (.int (nI i) :: .ref (h 7) :: rest)) := by
  subst hv
  refine va_iald (D := D) S.1 S.2.1 hW.1 hW.2.1 7 1 xw_7 rfl (vp_in_nI hi (by decide)) hdg ?_
  rw [nI_clamp (by omega)]
  exact kk
theorem x_st_7 (S : CallFix p m c cc nL s args lw_all RX0) (hW : XS D h cZ cI s A H locs g f) {i : Nat} {v : Nat} (hi : i < 3) (hdg : decode cc pc = .ok (.iastore, 1)) (kk : ∀ (H1 : Heap) (locs1 : List Loc), XS D h cZ cI s A H1 locs1 (st2 g 7 i v) f → W p l e R s m args below meth c H1 locs1 cells slots Q (F0 m (pc + 1) ls rest)) : W p l e R s m args below meth c H locs cells slots Q (F0 m pc ls (.int (nI v) :: .int (nI i) :: .ref (h 7) :: rest)) := by
  refine va_iast (D := D) S.1 S.2.1 hW.1 hW.2.1 hW.2.2.1 hW.2.2.2 7 1 xw_7 rfl (vp_in_nI hi (by decide)) hdg (fun H1 locs1 hP hD hS => ?_)
  rw [nI_clamp (by omega), gI_st] at hP hD
  exact kk H1 locs1 ⟨hW.1, hP, hD, hS⟩
theorem x_gf_8 (S : CallFix p m c cc nL s args lw_all RX0) (hW : XS D h cZ cI s A H locs g f) (hdg : decode cc pc = .ok (.getfield 32, 3)) (kk : W p l e R s m args below meth c H locs cells slots Q (F0 m (pc + 3) ls (.ref (h 8) :: rest))) : W p l e R s m args below meth c H locs cells slots Q (F0 m pc ls (.ref (h 0) :: rest)) :=
  va_get (D := D) (ci := 0) (v := .ref (h 8)) (C := RX0) (T := TX0) (N := 18) S.1 S.2.1 S.2.2.2.2 in_X0 S.2.2.2.1 hW.1 hW.2.1 0 xw_0 rfl 8 (by decide) (S.2.2.2.2 _ q31) (fun _ h9 => h9) rfl hdg kk
theorem x_g_8 (S : CallFix p m c cc nL s args lw_all RX0) (hW : XS D h cZ cI s A H locs g f) (h0 : ls[0]? = some (.val (.ref (h 0)))) (hd1 : decode cc pc = .ok (.aload_n 0, 1)) (hd2 : decode cc (pc + 1) = .ok (.getfield 32, 3)) (kk : W p l e R s m args below meth c H locs cells slots Q (F0 m (pc + 4) ls (.ref (h 8) :: rest))) : W p l e R s m args below meth c H locs cells slots Q (F0 m pc ls rest) :=
  lv_aload_n S.1 S.2.1 hd1 rfl h0 (x_gf_8 S hW hd2 kk)
theorem x_ld_8 (S : CallFix p m c cc nL s args lw_all RX0) (hW : XS D h cZ cI s A H locs g f) {i : Nat} {v : Nat} (hi : i < 183) (hv : g 8 i = v) (hdg : decode cc pc = .ok (.iaload, 1)) (kk : W p l e R s m args below meth c H locs cells slots Q (F0 m (pc + 1) ls (.int (nI v) :: rest))) : W p l e R s m args below meth c H locs cells slots Q (F0 m pc ls (.int (nI i) :: .ref (h 8) :: rest)) := by
  subst hv
  refine va_iald (D := D) S.1 S.2.1 hW.1 hW.2.1 8 1 xw_8 rfl (vp_in_nI hi (by decide)) hdg ?_
  rw [nI_clamp (by omega)]
  exact kk
theorem x_st_8 (S : CallFix p m c cc nL s args lw_all RX0) (hW : XS D h cZ cI s A H locs g f) {i : Nat} {v : Nat} (hi : i < 183) (hdg : decode cc pc = .ok (.iastore, 1)) (kk : ∀ (H1 : Heap) (locs1 : List Loc), XS D h cZ cI s A H1 locs1 (st2 g 8 i v) f → W p l e R s m args below meth c H1 locs1 cells slots Q (F0 m (pc + 1) ls rest)) : W p l e R s m args below meth c H locs cells slots Q (F0 m pc ls (.int (nI v) :: .int (nI i) :: .ref (h 8) :: rest)) := by
  refine va_iast (D := D) S.1 S.2.1 hW.1 hW.2.1 hW.2.2.1 hW.2.2.2 8 1 xw_8 rfl (vp_in_nI hi (by decide)) hdg (fun H1 locs1 hP hD hS => ?_)
  rw [nI_clamp (by omega), gI_st] at hP hD
  exact kk H1 locs1 ⟨hW.1, hP, hD, hS⟩
theorem x_gf_9 (S : CallFix p m c cc nL s args lw_all RX0) (hW : XS D h cZ cI s A H locs g f) (hdg : decode cc pc = .ok (.getfield 35, 3)) (kk : W p l e R s m args below meth c H locs cells slots Q (F0 m (pc + 3) ls (.ref (h 9) :: rest))) : W p l e R s m args below meth c H locs cells slots Q (F0 m pc ls (.ref (h 0) :: rest)) :=
  va_get (D := D) (ci := 0) (v := .ref (h 9)) (C := RX0) (T := TX0) (N := 18) S.1 S.2.1 S.2.2.2.2 in_X0 S.2.2.2.1 hW.1 hW.2.1 0 xw_0 rfl 9 (by decide) (S.2.2.2.2 _ q32) (fun _ h9 => h9) rfl hdg kk
theorem x_g_9 (S : CallFix p m c cc nL s args lw_all RX0) (hW : XS D h cZ cI s A H locs g f) (h0 : ls[0]? = some (.val (.ref (h 0)))) (hd1 : decode cc pc = .ok (.aload_n 0, 1)) (hd2 : decode cc (pc + 1) = .ok (.getfield 35, 3)) (kk : W p l e R s m args below meth c H locs cells slots Q (F0 m (pc + 4) ls (.ref (h 9) :: rest))) : W p l e R s m args below meth c H locs cells slots Q (F0 m pc ls rest) :=
  lv_aload_n S.1 S.2.1 hd1 rfl h0 (x_gf_9 S hW hd2 kk)
theorem x_ld_9 (S : CallFix p m c cc nL s args lw_all RX0) (hW : XS D h cZ cI s A H locs g f) {i : Nat} {v : Nat} (hi : i < 9) (hv : g 9 i = v) (hdg : decode cc pc = .ok (.iaload, 1)) (kk : W p l e R s m args below meth c H locs cells slots Q (F0 m (pc + 1) ls (.int (nI v) :: rest))) : W p l e R s m args below meth c H locs cells slots Q (F0 m pc ls (.int (nI i) :: .ref (h 9) :: rest)) := by
  subst hv
  refine va_iald (D := D) S.1 S.2.1 hW.1 hW.2.1 9 1 xw_9 rfl (vp_in_nI hi (by decide)) hdg ?_
  rw [nI_clamp (by omega)]
  exact kk
theorem x_st_9 (S : CallFix p m c cc nL s args lw_all RX0) (hW : XS D h cZ cI s A H locs g f) {i : Nat} {v : Nat} (hi : i < 9) (hdg : decode cc pc = .ok (.iastore, 1)) (kk : ∀ (H1 : Heap) (locs1 : List Loc), XS D h cZ cI s A H1 locs1 (st2 g 9 i v) f → W p l e R s m args below meth c H1 locs1 cells slots Q (F0 m (pc + 1) ls rest)) : W p l e R s m args below meth c H locs cells slots Q (F0 m pc ls (.int (nI v) :: .int (nI i) :: .ref (h 9) :: rest)) := by
  refine va_iast (D := D) S.1 S.2.1 hW.1 hW.2.1 hW.2.2.1 hW.2.2.2 9 1 xw_9 rfl (vp_in_nI hi (by decide)) hdg (fun H1 locs1 hP hD hS => ?_)
  rw [nI_clamp (by omega), gI_st] at hP hD
  exact kk H1 locs1 ⟨hW.1, hP, hD, hS⟩
theorem x_gf_10 (S : CallFix p m c cc nL s args lw_all RX0) (hW : XS D h cZ cI s A H locs g f) (hdg : decode cc pc = .ok (.getfield 38, 3)) (kk : W p l e R s m args below meth c H locs cells slots Q (F0 m (pc + 3) ls (.ref (h 10) :: rest))) : W p l e R s m args below meth c H locs cells slots Q (F0 m pc ls (.ref (h 0) :: rest)) :=
  va_get (D := D) (ci := 0) (v := .ref (h 10)) (C := RX0) (T := TX0) (N := 18) S.1 S.2.1 S.2.2.2.2 in_X0 S.2.2.2.1 hW.1 hW.2.1 0 xw_0 rfl 10 (by decide) (S.2.2.2.2 _ q33) (fun _ h9 => h9) rfl hdg kk
theorem x_g_10 (S : CallFix p m c cc nL s args lw_all RX0) (hW : XS D h cZ cI s A H locs g f) (h0 : ls[0]? = some (.val (.ref (h 0)))) (hd1 : decode cc pc = .ok (.aload_n 0, 1)) (hd2 : decode cc (pc + 1) = .ok (.getfield 38, 3)) (kk : W p l e R s m args below meth c H locs cells slots Q (F0 m (pc + 4) ls (.ref (h 10) :: rest))) : W p l e R s m args below meth c H locs cells slots Q (F0 m pc ls rest) :=
  lv_aload_n S.1 S.2.1 hd1 rfl h0 (x_gf_10 S hW hd2 kk)
theorem x_ld_10 (S : CallFix p m c cc nL s args lw_all RX0) (hW : XS D h cZ cI s A H locs g f) {i : Nat} {v : Nat} (hi : i < 3) (hv : g 10 i = v) (hdg : decode cc pc = .ok (.iaload, 1)) (kk : W p l e R s m args below meth c H locs cells slots Q (F0 m (pc + 1) ls (.int (nI v) :: rest))) : W p l e R s m args below meth c H locs cells slots Q (F0 m pc ls (.int (nI i) :: .ref (h 10) :: rest)) := by
  subst hv
  refine va_iald (D := D) S.1 S.2.1 hW.1 hW.2.1 10 1 xw_10 rfl (vp_in_nI hi (by decide)) hdg ?_
  rw [nI_clamp (by omega)]
  exact kk
theorem x_st_10 (S : CallFix p m c cc nL s args lw_all RX0) (hW : XS D h cZ cI s A H locs g f) {i : Nat} {v : Nat} (hi : i < 3) (hdg : decode cc pc = .ok (.iastore, 1)) (kk : ∀ (H1 : Heap) (locs1 : List Loc), XS D h cZ cI s A H1 locs1 (st2 g 10 i v) f → W p l e R s m args below meth c H1 locs1 cells slots Q (F0 m (pc + 1) ls rest)) : W p l e R s m args below meth c H locs cells slots Q (F0 m pc ls (.int (nI v) :: .int (nI i) :: .ref (h 10) :: rest)) := by
  refine va_iast (D := D) S.1 S.2.1 hW.1 hW.2.1 hW.2.2.1 hW.2.2.2 10 1 xw_10 rfl (vp_in_nI hi (by decide)) hdg (fun H1 locs1 hP hD hS => ?_)
  rw [nI_clamp (by omega), gI_st] at hP hD
  exact kk H1 locs1 ⟨hW.1, hP, hD, hS⟩
theorem x_gf_11 (S : CallFix p m c cc nL s args lw_all RX0) (hW : XS D h cZ cI s A H locs g f) (hdg : decode cc pc = .ok (.getfield 41, 3)) (kk : W p l e R s m args below meth c H locs cells slots Q (F0 m (pc + 3) ls (.ref (h 11) :: rest))) : W p l e R s m args below meth c H locs cells slots Q (F0 m pc ls (.ref (h 0) :: rest)) :=
  va_get (D := D) (ci := 0) (v := .ref (h 11)) (C := RX0) (T := TX0) (N := 18) S.1 S.2.1 S.2.2.2.2 in_X0 S.2.2.2.1 hW.1 hW.2.1 0 xw_0 rfl 11 (by decide) (S.2.2.2.2 _ q34) (fun _ h9 => h9) rfl hdg kk
theorem x_g_11 (S : CallFix p m c cc nL s args lw_all RX0) (hW : XS D h cZ cI s A H locs g f) (h0 : ls[0]? = some (.val (.ref (h 0)))) (hd1 : decode cc pc = .ok (.aload_n 0, 1)) (hd2 : decode cc (pc + 1) = .ok (.getfield 41, 3)) (kk : W p l e R s m args below meth c H locs cells slots Q (F0 m (pc + 4) ls (.ref (h 11) :: rest))) : W p l e R s m args below meth c H locs cells slots Q (F0 m pc ls rest) :=
  lv_aload_n S.1 S.2.1 hd1 rfl h0 (x_gf_11 S hW hd2 kk)
theorem x_ld_11 (S : CallFix p m c cc nL s args lw_all RX0) (hW : XS D h cZ cI s A H locs g f) {i : Nat} {v : Nat} (hi : i < 3) (hv : g 11 i = v) (hdg : decode cc pc = .ok (.iaload, 1)) (kk : W p l e R s m args below meth c H locs cells slots Q (F0 m (pc + 1) ls (.int (nI v) :: rest))) : W p l e R s m args below meth c H locs cells slots Q (F0 m pc ls (.int (nI i) :: .ref (h 11) :: rest)) := by
  subst hv
  refine va_iald (D := D) S.1 S.2.1 hW.1 hW.2.1 11 1 xw_11 rfl (vp_in_nI hi (by decide)) hdg ?_
  rw [nI_clamp (by omega)]
  exact kk
theorem x_st_11 (S : CallFix p m c cc nL s args lw_all RX0) (hW : XS D h cZ cI s A H locs g f) {i : Nat} {v : Nat} (hi : i < 3) (hdg : decode cc pc = .ok (.iastore, 1)) (kk : ∀ (H1 : Heap) (locs1 : List Loc), XS D h cZ cI s A H1 locs1 (st2 g 11 i v) f → W p l e R s m args below meth c H1 locs1 cells slots Q (F0 m (pc + 1) ls rest)) : W p l e R s m args below meth c H locs cells slots Q (F0 m pc ls (.int (nI v) :: .int (nI i) :: .ref (h 11) :: rest)) := by
  refine va_iast (D := D) S.1 S.2.1 hW.1 hW.2.1 hW.2.2.1 hW.2.2.2 11 1 xw_11 rfl (vp_in_nI hi (by decide)) hdg (fun H1 locs1 hP hD hS => ?_)
  rw [nI_clamp (by omega), gI_st] at hP hD
  exact kk H1 locs1 ⟨hW.1, hP, hD, hS⟩
theorem x_gf_12 (S : CallFix p m c cc nL s args lw_all RX0) (hW : XS D h cZ cI s A H locs g f) (hdg : decode cc pc = .ok (.getfield 44, 3)) (kk : W p l e R s m args below meth c H locs cells slots Q (F0 m (pc + 3) ls (.ref (h 12) :: rest))) : W p l e R s m args below meth c H locs cells slots Q (F0 m pc ls (.ref (h 0) :: rest)) :=
  va_get (D := D) (ci := 0) (v := .ref (h 12)) (C := RX0) (T := TX0) (N := 18) S.1 S.2.1 S.2.2.2.2 in_X0 S.2.2.2.1 hW.1 hW.2.1 0 xw_0 rfl 12 (by decide) (S.2.2.2.2 _ q35) (fun _ h9 => h9) rfl hdg kk
theorem x_g_12 (S : CallFix p m c cc nL s args lw_all RX0) (hW : XS D h cZ cI s A H locs g f) (h0 : ls[0]? = some (.val (.ref (h 0)))) (hd1 : decode cc pc = .ok (.aload_n 0, 1)) (hd2 : decode cc (pc + 1) = .ok (.getfield 44, 3)) (kk : W p l e R s m args below meth c H locs cells slots Q (F0 m (pc + 4) ls (.ref (h 12) :: rest))) : W p l e R s m args below meth c H locs cells slots Q (F0 m pc ls rest) :=
  lv_aload_n S.1 S.2.1 hd1 rfl h0 (x_gf_12 S hW hd2 kk)
theorem x_ld_12 (S : CallFix p m c cc nL s args lw_all RX0) (hW : XS D h cZ cI s A H locs g f) {i : Nat} {v : Nat} (hi : i < 180) (hv : g 12 i = v) (hdg : decode cc pc = .ok (.iaload, 1)) (kk : W p l e R s m args below meth c H locs cells slots Q (F0 m (pc + 1) ls (.int (nI v) :: rest))) : W p l e R s m args below meth c H locs cells slots Q (F0 m pc ls (.int (nI i) :: .ref (h 12) :: rest)) := by
  subst hv
  refine va_iald (D := D) S.1 S.2.1 hW.1 hW.2.1 12 1 xw_12 rfl (vp_in_nI hi (by decide)) hdg ?_
  rw [nI_clamp (by omega)]
  exact kk
theorem x_st_12 (S : CallFix p m c cc nL s args lw_all RX0) (hW : XS D h cZ cI s A H locs g f) {i : Nat} {v : Nat} (hi : i < 180) (hdg : decode cc pc = .ok (.iastore, 1)) (kk : ∀ (H1 : Heap) (locs1 : List Loc), XS D h cZ cI s A H1 locs1 (st2 g 12 i v) f → W p l e R s m args below meth c H1 locs1 cells slots Q (F0 m (pc + 1) ls rest)) : W p l e R s m args below meth c H locs cells slots Q (F0 m pc ls (.int (nI v) :: .int (nI i) :: .ref (h 12) :: rest)) := by
  refine va_iast (D := D) S.1 S.2.1 hW.1 hW.2.1 hW.2.2.1 hW.2.2.2 12 1 xw_12 rfl (vp_in_nI hi (by decide)) hdg (fun H1 locs1 hP hD hS => ?_)
  rw [nI_clamp (by omega), gI_st] at hP hD
  exact kk H1 locs1 ⟨hW.1, hP, hD, hS⟩
theorem x_gf_13 (S : CallFix p m c cc nL s args lw_all RX0) (hW : XS D h cZ cI s A H locs g f) (hdg : decode cc pc = .ok (.getfield 47, 3)) (kk : W p l e R s m args below meth c H locs cells slots Q (F0 m (pc + 3) ls (.ref (h 13) :: rest))) : W p l e R s m args below meth c H locs cells slots Q (F0 m pc ls (.ref (h 0) :: rest)) :=
  va_get (D := D) (ci := 0) (v := .ref (h 13)) (C := RX0) (T := TX0) (N := 18) S.1 S.2.1 S.2.2.2.2 in_X0 S.2.2.2.1 hW.1 hW.2.1 0 xw_0 rfl 13 (by decide) (S.2.2.2.2 _ q36) (fun _ h9 => h9) rfl hdg kk
theorem x_g_13 (S : CallFix p m c cc nL s args lw_all RX0) (hW : XS D h cZ cI s A H locs g f) (h0 : ls[0]? = some (.val (.ref (h 0)))) (hd1 : decode cc pc = .ok (.aload_n 0, 1)) (hd2 : decode cc (pc + 1) = .ok (.getfield 47, 3)) (kk : W p l e R s m args below meth c H locs cells slots Q (F0 m (pc + 4) ls (.ref (h 13) :: rest))) : W p l e R s m args below meth c H locs cells slots Q (F0 m pc ls rest) :=
  lv_aload_n S.1 S.2.1 hd1 rfl h0 (x_gf_13 S hW hd2 kk)
theorem x_ld_13 (S : CallFix p m c cc nL s args lw_all RX0) (hW : XS D h cZ cI s A H locs g f) {i : Nat} {v : Int32} (hi : i < 180) (hv : f 13 i = v) (hdg : decode cc pc = .ok (.iaload, 1)) (kk : W p l e R s m args below meth c H locs cells slots Q (F0 m (pc + 1) ls (.int v :: rest))) : W p l e R s m args below meth c H locs cells slots Q (F0 m pc ls (.int (nI i) :: .ref (h 13) :: rest)) := by
  subst hv
  refine va_iald (D := D) S.1 S.2.1 hW.1 hW.2.1 13 1 xw_13 rfl (vp_in_nI hi (by decide)) hdg ?_
  rw [nI_clamp (by omega)]
  exact kk
theorem x_st_13 (S : CallFix p m c cc nL s args lw_all RX0) (hW : XS D h cZ cI s A H locs g f) {i : Nat} {v : Int32} (hi : i < 180) (hdg : decode cc pc = .ok (.iastore, 1)) (kk : ∀ (H1 : Heap) (locs1 : List Loc), XS D h cZ cI s A H1 locs1 g (st2 f 13 i v) → W p l e R s m args below meth c H1 locs1 cells slots Q (F0 m (pc + 1) ls rest)) : W p l e R s m args below meth c H locs cells slots Q (F0 m pc ls (.int v :: .int (nI i) :: .ref (h 13) :: rest)) := by
  refine va_iast (D := D) S.1 S.2.1 hW.1 hW.2.1 hW.2.2.1 hW.2.2.2 13 1 xw_13 rfl (vp_in_nI hi (by decide)) hdg (fun H1 locs1 hP hD hS => ?_)
  rw [nI_clamp (by omega), fI_st] at hP hD
  exact kk H1 locs1 ⟨hW.1, hP, hD, hS⟩
theorem x_gf_14 (S : CallFix p m c cc nL s args lw_all RX0) (hW : XS D h cZ cI s A H locs g f) (hdg : decode cc pc = .ok (.getfield 50, 3)) (kk : W p l e R s m args below meth c H locs cells slots Q (F0 m (pc + 3) ls (.ref (h 14) :: rest))) : W p l e R s m args below meth c H locs cells slots Q (F0 m pc ls (.ref (h 0) :: rest)) :=
  va_get (D := D) (ci := 0) (v := .ref (h 14)) (C := RX0) (T := TX0) (N := 18) S.1 S.2.1 S.2.2.2.2 in_X0 S.2.2.2.1 hW.1 hW.2.1 0 xw_0 rfl 14 (by decide) (S.2.2.2.2 _ q37) (fun _ h9 => h9) rfl hdg kk
theorem x_g_14 (S : CallFix p m c cc nL s args lw_all RX0) (hW : XS D h cZ cI s A H locs g f) (h0 : ls[0]? = some (.val (.ref (h 0)))) (hd1 : decode cc pc = .ok (.aload_n 0, 1)) (hd2 : decode cc (pc + 1) = .ok (.getfield 50, 3)) (kk : W p l e R s m args below meth c H locs cells slots Q (F0 m (pc + 4) ls (.ref (h 14) :: rest))) : W p l e R s m args below meth c H locs cells slots Q (F0 m pc ls rest) :=
  lv_aload_n S.1 S.2.1 hd1 rfl h0 (x_gf_14 S hW hd2 kk)
theorem x_ld_14 (S : CallFix p m c cc nL s args lw_all RX0) (hW : XS D h cZ cI s A H locs g f) {i : Nat} {v : Nat} (hi : i < 180) (hv : g 14 i = v) (hdg : decode cc pc = .ok (.baload, 1)) (kk : W p l e R s m args below meth c H locs cells slots Q (F0 m (pc + 1) ls (.int (nI v) :: rest))) : W p l e R s m args below meth c H locs cells slots Q (F0 m pc ls (.int (nI i) :: .ref (h 14) :: rest)) := by
  subst hv
  refine va_zald (D := D) S.1 S.2.1 hW.1 hW.2.1 14 0 xw_14 rfl (vp_in_nI hi (by decide)) hdg ?_
  rw [nI_clamp (by omega)]
  exact kk
theorem x_st_14 (S : CallFix p m c cc nL s args lw_all RX0) (hW : XS D h cZ cI s A H locs g f) {i : Nat} {v : Nat} (hi : i < 180) (hb : v < 2) (hdg : decode cc pc = .ok (.bastore, 1)) (kk : ∀ (H1 : Heap) (locs1 : List Loc), XS D h cZ cI s A H1 locs1 (st2 g 14 i v) f → W p l e R s m args below meth c H1 locs1 cells slots Q (F0 m (pc + 1) ls rest)) : W p l e R s m args below meth c H locs cells slots Q (F0 m pc ls (.int (nI v) :: .int (nI i) :: .ref (h 14) :: rest)) := by
  refine va_zast (D := D) S.1 S.2.1 hW.1 hW.2.1 hW.2.2.1 hW.2.2.2 14 0 xw_14 rfl (vp_in_nI hi (by decide)) hdg (fun H1 locs1 hP hD hS => ?_)
  rw [nI_clamp (by omega), z_nar hb, gI_st] at hP hD
  exact kk H1 locs1 ⟨hW.1, hP, hD, hS⟩
theorem x_gf_15 (S : CallFix p m c cc nL s args lw_all RX0) (hW : XS D h cZ cI s A H locs g f) (hdg : decode cc pc = .ok (.getfield 53, 3)) (kk : W p l e R s m args below meth c H locs cells slots Q (F0 m (pc + 3) ls (.ref (h 15) :: rest))) : W p l e R s m args below meth c H locs cells slots Q (F0 m pc ls (.ref (h 0) :: rest)) :=
  va_get (D := D) (ci := 0) (v := .ref (h 15)) (C := RX0) (T := TX0) (N := 18) S.1 S.2.1 S.2.2.2.2 in_X0 S.2.2.2.1 hW.1 hW.2.1 0 xw_0 rfl 15 (by decide) (S.2.2.2.2 _ q38) (fun _ h9 => h9) rfl hdg kk
theorem x_g_15 (S : CallFix p m c cc nL s args lw_all RX0) (hW : XS D h cZ cI s A H locs g f) (h0 : ls[0]? = some (.val (.ref (h 0)))) (hd1 : decode cc pc = .ok (.aload_n 0, 1)) (hd2 : decode cc (pc + 1) = .ok (.getfield 53, 3)) (kk : W p l e R s m args below meth c H locs cells slots Q (F0 m (pc + 4) ls (.ref (h 15) :: rest))) : W p l e R s m args below meth c H locs cells slots Q (F0 m pc ls rest) :=
  lv_aload_n S.1 S.2.1 hd1 rfl h0 (x_gf_15 S hW hd2 kk)
theorem x_ld_15 (S : CallFix p m c cc nL s args lw_all RX0) (hW : XS D h cZ cI s A H locs g f) {i : Nat} {v : Nat} (hi : i < 3) (hv : g 15 i = v) (hdg : decode cc pc = .ok (.iaload, 1)) (kk : W p l e R s m args below meth c H locs cells slots Q (F0 m (pc + 1) ls (.int (nI v) :: rest))) : W p l e R s m args below meth c H locs cells slots Q (F0 m pc ls (.int (nI i) :: .ref (h 15) :: rest)) := by
  subst hv
  refine va_iald (D := D) S.1 S.2.1 hW.1 hW.2.1 15 1 xw_15 rfl (vp_in_nI hi (by decide)) hdg ?_
  rw [nI_clamp (by omega)]
  exact kk
theorem x_st_15 (S : CallFix p m c cc nL s args lw_all RX0) (hW : XS D h cZ cI s A H locs g f) {i : Nat} {v : Nat} (hi : i < 3) (hdg : decode cc pc = .ok (.iastore, 1)) (kk : ∀ (H1 : Heap) (locs1 : List Loc), XS D h cZ cI s A H1 locs1 (st2 g 15 i v) f → W p l e R s m args below meth c H1 locs1 cells slots Q (F0 m (pc + 1) ls rest)) : W p l e R s m args below meth c H locs cells slots Q (F0 m pc ls (.int (nI v) :: .int (nI i) :: .ref (h 15) :: rest)) := by
  refine va_iast (D := D) S.1 S.2.1 hW.1 hW.2.1 hW.2.2.1 hW.2.2.2 15 1 xw_15 rfl (vp_in_nI hi (by decide)) hdg (fun H1 locs1 hP hD hS => ?_)
  rw [nI_clamp (by omega), gI_st] at hP hD
  exact kk H1 locs1 ⟨hW.1, hP, hD, hS⟩
theorem x_gf_16 (S : CallFix p m c cc nL s args lw_all RX0) (hW : XS D h cZ cI s A H locs g f) (hdg : decode cc pc = .ok (.getfield 56, 3)) (kk : W p l e R s m args below meth c H locs cells slots Q (F0 m (pc + 3) ls (.ref (h 16) :: rest))) : W p l e R s m args below meth c H locs cells slots Q (F0 m pc ls (.ref (h 0) :: rest)) :=
  va_get (D := D) (ci := 0) (v := .ref (h 16)) (C := RX0) (T := TX0) (N := 18) S.1 S.2.1 S.2.2.2.2 in_X0 S.2.2.2.1 hW.1 hW.2.1 0 xw_0 rfl 16 (by decide) (S.2.2.2.2 _ q39) (fun _ h9 => h9) rfl hdg kk
theorem x_g_16 (S : CallFix p m c cc nL s args lw_all RX0) (hW : XS D h cZ cI s A H locs g f) (h0 : ls[0]? = some (.val (.ref (h 0)))) (hd1 : decode cc pc = .ok (.aload_n 0, 1)) (hd2 : decode cc (pc + 1) = .ok (.getfield 56, 3)) (kk : W p l e R s m args below meth c H locs cells slots Q (F0 m (pc + 4) ls (.ref (h 16) :: rest))) : W p l e R s m args below meth c H locs cells slots Q (F0 m pc ls rest) :=
  lv_aload_n S.1 S.2.1 hd1 rfl h0 (x_gf_16 S hW hd2 kk)
theorem x_ld_16 (S : CallFix p m c cc nL s args lw_all RX0) (hW : XS D h cZ cI s A H locs g f) {i : Nat} {v : Int32} (hi : i < 30) (hv : f 16 i = v) (hdg : decode cc pc = .ok (.iaload, 1)) (kk : W p l e R s m args below meth c H locs cells slots Q (F0 m (pc + 1) ls (.int v :: rest))) : W p l e R s m args below meth c H locs cells slots Q (F0 m pc ls (.int (nI i) :: .ref (h 16) :: rest)) := by
  subst hv
  refine va_iald (D := D) S.1 S.2.1 hW.1 hW.2.1 16 1 xw_16 rfl (vp_in_nI hi (by decide)) hdg ?_
  rw [nI_clamp (by omega)]
  exact kk
theorem x_st_16 (S : CallFix p m c cc nL s args lw_all RX0) (hW : XS D h cZ cI s A H locs g f) {i : Nat} {v : Int32} (hi : i < 30) (hdg : decode cc pc = .ok (.iastore, 1)) (kk : ∀ (H1 : Heap) (locs1 : List Loc), XS D h cZ cI s A H1 locs1 g (st2 f 16 i v) → W p l e R s m args below meth c H1 locs1 cells slots Q (F0 m (pc + 1) ls rest)) : W p l e R s m args below meth c H locs cells slots Q (F0 m pc ls (.int v :: .int (nI i) :: .ref (h 16) :: rest)) := by
  refine va_iast (D := D) S.1 S.2.1 hW.1 hW.2.1 hW.2.2.1 hW.2.2.2 16 1 xw_16 rfl (vp_in_nI hi (by decide)) hdg (fun H1 locs1 hP hD hS => ?_)
  rw [nI_clamp (by omega), fI_st] at hP hD
  exact kk H1 locs1 ⟨hW.1, hP, hD, hS⟩
theorem x_gf_17 (S : CallFix p m c cc nL s args lw_all RX0) (hW : XS D h cZ cI s A H locs g f) (hdg : decode cc pc = .ok (.getfield 59, 3)) (kk : W p l e R s m args below meth c H locs cells slots Q (F0 m (pc + 3) ls (.ref (h 17) :: rest))) : W p l e R s m args below meth c H locs cells slots Q (F0 m pc ls (.ref (h 0) :: rest)) :=
  va_get (D := D) (ci := 0) (v := .ref (h 17)) (C := RX0) (T := TX0) (N := 18) S.1 S.2.1 S.2.2.2.2 in_X0 S.2.2.2.1 hW.1 hW.2.1 0 xw_0 rfl 17 (by decide) (S.2.2.2.2 _ q40) (fun _ h9 => h9) rfl hdg kk
theorem x_g_17 (S : CallFix p m c cc nL s args lw_all RX0) (hW : XS D h cZ cI s A H locs g f) (h0 : ls[0]? = some (.val (.ref (h 0)))) (hd1 : decode cc pc = .ok (.aload_n 0, 1)) (hd2 : decode cc (pc + 1) = .ok (.getfield 59, 3)) (kk : W p l e R s m args below meth c H locs cells slots Q (F0 m (pc + 4) ls (.ref (h 17) :: rest))) : W p l e R s m args below meth c H locs cells slots Q (F0 m pc ls rest) :=
  lv_aload_n S.1 S.2.1 hd1 rfl h0 (x_gf_17 S hW hd2 kk)
theorem x_ld_17 (S : CallFix p m c cc nL s args lw_all RX0) (hW : XS D h cZ cI s A H locs g f) {i : Nat} {v : Int32} (hi : i < 30) (hv : f 17 i = v) (hdg : decode cc pc = .ok (.iaload, 1)) (kk : W p l e R s m args below meth c H locs cells slots Q (F0 m (pc + 1) ls (.int v :: rest))) : W p l e R s m args below meth c H locs cells slots Q (F0 m pc ls (.int (nI i) :: .ref (h 17) :: rest)) := by
  subst hv
  refine va_iald (D := D) S.1 S.2.1 hW.1 hW.2.1 17 1 xw_17 rfl (vp_in_nI hi (by decide)) hdg ?_
  rw [nI_clamp (by omega)]
  exact kk
theorem x_st_17 (S : CallFix p m c cc nL s args lw_all RX0) (hW : XS D h cZ cI s A H locs g f) {i : Nat} {v : Int32} (hi : i < 30) (hdg : decode cc pc = .ok (.iastore, 1)) (kk : ∀ (H1 : Heap) (locs1 : List Loc), XS D h cZ cI s A H1 locs1 g (st2 f 17 i v) → W p l e R s m args below meth c H1 locs1 cells slots Q (F0 m (pc + 1) ls rest)) : W p l e R s m args below meth c H locs cells slots Q (F0 m pc ls (.int v :: .int (nI i) :: .ref (h 17) :: rest)) := by
  refine va_iast (D := D) S.1 S.2.1 hW.1 hW.2.1 hW.2.2.1 hW.2.2.2 17 1 xw_17 rfl (vp_in_nI hi (by decide)) hdg (fun H1 locs1 hP hD hS => ?_)
  rw [nI_clamp (by omega), fI_st] at hP hD
  exact kk H1 locs1 ⟨hW.1, hP, hD, hS⟩
theorem x_blind {av : List Value} : FrameBlind (xPc D h cZ cI g f av) := fun a U g9 mk q => by
  obtain ⟨q0, qP, qK, qD⟩ := q
  exact ⟨q0, qP, va_K.moved (u := U) (U := U.calling g9 mk a) (Vm.Alike.refl U.vm) qK, qD⟩
theorem x_calli (S : CallFix p m c cc nL s args lw_all own) (hW : XS D h cZ cI s A H locs g f) {y : MethodName} {b : ByteArray} {maxL n index : Nat} {ret : Option FieldType} {rm : Room} {As st0 : List Value} {post : Int32 → zU → Prop} (hM : Met l y (ws_ y b maxL ret) rm (xPc D h cZ cI g f As) (va_Qi post (xB D h cZ cI) (xA h)) 0 0 (xA h)) (cw : CallW R s args own RX0 index y b maxL ret (ws_ y b maxL ret) rm 0 0 n) (hn : As.length = n) (hls : ls.size = nL) (hst : st0 = As.reverse ++ .ref (h 0) :: rest) (hroom : (rest.map fun v => v.category).sum ≤ 8) (hf : cells ≤ R.cells ∧ slots ≤ R.slots) (hdg : decode cc pc = .ok (.invokevirtual index, 3)) (kk : ∀ (r : Int32) (g1 : Nat → Nat → Nat) (f1 : Nat → Nat → Int32) (H1 : Heap) (locs1 : List Loc), post r (g1, f1) → XS D h cZ cI s A H1 locs1 g1 f1 → H.size ≤ H1.size → (∀ q : Nat, q < H.size → ¬ xA h q → H1[q]? = H[q]?) → W p l e R s m args below meth c H1 locs1 cells slots Q (F0 m (pc + 3) ls (.int r :: rest))) : W p l e R s m args below meth c H locs cells slots Q (F0 m pc ls st0) := by
  subst hst
  have hA := xS_A hW
  refine va_calli (A0 := A) (A1 := xA h) (H0 := s.heap) (va_runV (b := h 0) (As := As) (rest := rest) S hM cw ⟨x_blind, va_recv hW.1 hW.2.1 (ci := 0) (q0 := 0) rfl xw_0, fun U hU hM9 => ⟨rfl, by rw [hU]; exact hW.2.1, va_K.moved hM9.alike hW.1, xw_D hW.2.2.1 (fun _ z => z)⟩⟩ rfl hn hls rfl (lv_room hroom) hdg hf) hW.2.2.2 (fun q _ z => hA q z) hA (fun r u t H1 locs1 ht hvm hp hB hz hk hS => ?_)
  exact kk r u.1 u.2 H1 locs1 hp ⟨hW.1, by rw [← ht]; exact hB.1, xw_D hB.2.2 hA, hS⟩ hz hk
theorem x_callv (S : CallFix p m c cc nL s args lw_all own) (hW : XS D h cZ cI s A H locs g f) {y : MethodName} {b : ByteArray} {maxL n index : Nat} {ret : Option FieldType} {rm : Room} {As st0 : List Value} {post : zU → Prop} (hM : Met l y (ws_ y b maxL ret) rm (xPc D h cZ cI g f As) (va_Qv post (xB D h cZ cI) (xA h)) 0 0 (xA h)) (cw : CallW R s args own RX0 index y b maxL ret (ws_ y b maxL ret) rm 0 0 n) (hn : As.length = n) (hls : ls.size = nL) (hst : st0 = As.reverse ++ .ref (h 0) :: rest) (hroom : (rest.map fun v => v.category).sum ≤ 8) (hf : cells ≤ R.cells ∧ slots ≤ R.slots) (hdg : decode cc pc = .ok (.invokevirtual index, 3)) (kk : ∀ (g1 : Nat → Nat → Nat) (f1 : Nat → Nat → Int32) (H1 : Heap) (locs1 : List Loc), post (g1, f1) → XS D h cZ cI s A H1 locs1 g1 f1 → H.size ≤ H1.size → (∀ q : Nat, q < H.size → ¬ xA h q → H1[q]? = H[q]?) → W p l e R s m args below meth c H1 locs1 cells slots Q (F0 m (pc + 3) ls rest)) : W p l e R s m args below meth c H locs cells slots Q (F0 m pc ls st0) := by
  subst hst
  have hA := xS_A hW
  refine va_callv (A0 := A) (A1 := xA h) (H0 := s.heap) (va_runV (b := h 0) (As := As) (rest := rest) S hM cw ⟨x_blind, va_recv hW.1 hW.2.1 (ci := 0) (q0 := 0) rfl xw_0, fun U hU hM9 => ⟨rfl, by rw [hU]; exact hW.2.1, va_K.moved hM9.alike hW.1, xw_D hW.2.2.1 (fun _ z => z)⟩⟩ rfl hn hls rfl (lv_room hroom) hdg hf) hW.2.2.2 (fun q _ z => hA q z) hA (fun u t H1 locs1 ht hvm hp hB hz hk hS => ?_)
  exact kk u.1 u.2 H1 locs1 hp ⟨hW.1, by rw [← ht]; exact hB.1, xw_D hB.2.2 hA, hS⟩ hz hk
theorem x_calls (S : CallFix p m c cc nL s args lw_all own) (hW : XS D h cZ cI s A H locs g f) {y : MethodName} {b : ByteArray} {maxL n index : Nat} {ret : Option FieldType} {rm : Room} {As st0 : List Value} {post : Int32 → Prop} (hM : Met l y (ws_ y b maxL ret) rm (va_Pc As (fun _ => True)) (va_Qi (fun r (_ : Unit) => post r) (fun _ _ => True) (fun _ => False)) 0 0 (fun _ => False)) (cw : CallB R s args own index y b maxL ret (ws_ y b maxL ret) rm 0 0 n ∧ (Cond.static y).before args s = true) (hn : As.length = n) (hls : ls.size = nL) (hst : st0 = As.reverse ++ rest) (hroom : (rest.map fun v => v.category).sum ≤ 8) (hf : cells ≤ R.cells ∧ slots ≤ R.slots) (hdg : decode cc pc = .ok (.invokestatic index, 3)) (kk : ∀ (r : Int32) (H1 : Heap) (locs1 : List Loc), post r → XS D h cZ cI s A H1 locs1 g f → W p l e R s m args below meth c H1 locs1 cells slots Q (F0 m (pc + 3) ls (.int r :: rest))) : W p l e R s m args below meth c H locs cells slots Q (F0 m pc ls st0) := by
  subst hst
  refine va_calli (A0 := A) (A1 := fun _ => False) (H0 := s.heap) (va_runS (As := As) (rest := rest) S hM cw ⟨fun a U g9 mk q => ⟨q.1, trivial⟩, fun U hU hM9 => ⟨rfl, trivial⟩⟩ rfl hn hls rfl (lv_room hroom) hdg hf) hW.2.2.2 (fun q _ z => z.elim) (fun q z => z.elim) (fun r u t H1 locs1 ht hvm hp hB hz hk hS => ?_)
  exact kk r H1 locs1 hp ⟨hW.1, hW.2.1.kept (fun k q hq => hk q.1 (hW.2.1 k q hq).lt (fun z => z)), hW.2.2.1, hS⟩
theorem x_callr (S : CallFix p m c cc nL s args lw_all own) (hW : XS D h cZ cI s A H locs g f) {y : MethodName} {b : ByteArray} {maxL n index : Nat} {ret : Option FieldType} {rm : Room} {As st0 : List Value} {pr : Int32 → Prop} (hM : Met l y (ws_ y b maxL ret) rm (xPc D h cZ cI g f As) (va_Qi (fun r (u : zU) => pr r ∧ u = (g, f)) (xB D h cZ cI) (xA h)) 0 0 (xA h)) (cw : CallW R s args own RX0 index y b maxL ret (ws_ y b maxL ret) rm 0 0 n) (hn : As.length = n) (hls : ls.size = nL) (hst : st0 = As.reverse ++ .ref (h 0) :: rest) (hroom : (rest.map fun v => v.category).sum ≤ 8) (hf : cells ≤ R.cells ∧ slots ≤ R.slots) (hdg : decode cc pc = .ok (.invokevirtual index, 3)) (kk : ∀ (r : Int32) (H1 : Heap) (locs1 : List Loc), pr r → XS D h cZ cI s A H1 locs1 g f → W p l e R s m args below meth c H1 locs1 cells slots Q (F0 m (pc + 3) ls (.int r :: rest))) : W p l e R s m args below meth c H locs cells slots Q (F0 m pc ls st0) := by
  refine x_calli S hW hM cw hn hls hst hroom hf hdg (fun r g1 f1 H1 locs1 hp hW1 _ _ => ?_)
  have e := hp.2
  have e1 : g1 = g := congrArg Prod.fst e
  have e2 : f1 = f := congrArg Prod.snd e
  rw [e1, e2] at hW1
  exact kk r H1 locs1 hp.1 hW1
theorem x_callu (S : CallFix p m c cc nL s args lw_all own) (hW : XS D h cZ cI s A H locs g f) {y : MethodName} {b : ByteArray} {maxL n index : Nat} {ret : Option FieldType} {rm : Room} {As st0 : List Value} {g2 : Nat → Nat → Nat} {f2 : Nat → Nat → Int32} (hM : Met l y (ws_ y b maxL ret) rm (xPc D h cZ cI g f As) (va_Qv (fun (u : zU) => u = (g2, f2)) (xB D h cZ cI) (xA h)) 0 0 (xA h)) (cw : CallW R s args own RX0 index y b maxL ret (ws_ y b maxL ret) rm 0 0 n) (hn : As.length = n) (hls : ls.size = nL) (hst : st0 = As.reverse ++ .ref (h 0) :: rest) (hroom : (rest.map fun v => v.category).sum ≤ 8) (hf : cells ≤ R.cells ∧ slots ≤ R.slots) (hdg : decode cc pc = .ok (.invokevirtual index, 3)) (kk : ∀ (H1 : Heap) (locs1 : List Loc), XS D h cZ cI s A H1 locs1 g2 f2 → W p l e R s m args below meth c H1 locs1 cells slots Q (F0 m (pc + 3) ls rest)) : W p l e R s m args below meth c H locs cells slots Q (F0 m pc ls st0) := by
  refine x_callv S hW hM cw hn hls hst hroom hf hdg (fun g1 f1 H1 locs1 hp hW1 _ _ => ?_)
  have e1 : g1 = g2 := congrArg Prod.fst hp
  have e2 : f1 = f2 := congrArg Prod.snd hp
  rw [e1, e2] at hW1
  exact kk H1 locs1 hW1
theorem x_metI (l : Launch) {y : MethodName} {rm : Room} {av : List Value} {post : Int32 → zU → Prop} (hy : plainName y.cls = true) (hcls : y.cls = RX0) (hlen : (lg_sl (.ref (h 0) :: av)).length ≤ nL) (hrc : rm.cells = 0 ∧ rm.slots = 0) (body : ∀ (p : Program) (e : Env) (s : State) (m : MethodId) (args : Array Value) (below : List Frame) (meth : Method) (c : Code) (R : Room) (Q : State → Prop), R = rm → CallFix p m c cc nL s args lw_all RX0 → (∀ (v : Int32) (g1 : Nat → Nat → Nat) (f1 : Nat → Nat → Int32) (H : Heap) (locs : List Loc) (ls : Array Slot) (pc : Nat), XS D h cZ cI s (xA h) H locs g1 f1 → post v (g1, f1) → decode cc pc = .ok (.ireturn, 1) → W p l e R s m args below meth c H locs 0 0 Q (F0 m pc ls [.int v])) → ∀ ls : Array Slot, lv_has ls nL (lv_args 0 (.ref (h 0) :: av)) → XS D h cZ cI s (xA h) s.heap [] g f → W p l e R s m args below meth c s.heap [] 0 0 Q (F0 m 0 ls [])) : Met l y (ws_ y cc nL (some .int)) rm (xPc D h cZ cI g f av) (va_Qi post (xB D h cZ cI) (xA h)) 0 0 (xA h) := by
  refine Met.ofW (cc := cc) (maxL := nL) (ret := (some .int)) hy rfl ?_
  intro p e s m args below meth c s₁ B hml hv
  obtain ⟨rfl, hP, hK, hD⟩ := hv
  have hts := atoms_spec (ws := ws_ y cc nL (some .int)) B.pre
  have hts : ∀ w ∈ lw_all, w.before _ s = true := fun w h => hts w (List.mem_cons_of_mem _ h)
  have hown : s.vm.findClass RX0 = some m.cls := by rw [← hcls]; exact findClass_of_methodNamed B.named
  have hlocks := B.notSynchronized
  have hl := lv_entry (.ref (h 0) :: av) (n := nL) hlen
  rw [lg_entry_eq]
  refine body p e s m _ below meth c _ _ rfl ⟨B.exec, B.bytes, hml, hown, hts⟩ ?_ _ hl ⟨hK, hP, hD, va_S.rf⟩
  intro v g1 f1 H locs ls pc hW hp hdg
  exact W.iret (v := v) B.exec B.bytes B.returns (fun t ht hM9 => ⟨⟨v, (g1, f1), rfl, hp, by rw [ht]; exact hW.2.1, va_K.moved hM9.alike hW.1, hW.2.2.1⟩, hW.2.2.2.F ht⟩) hW.2.2.2.2.2 hdg
theorem x_metZ (l : Launch) {y : MethodName} {rm : Room} {av : List Value} {post : Int32 → zU → Prop} (hy : plainName y.cls = true) (hcls : y.cls = RX0) (hlen : (lg_sl (.ref (h 0) :: av)).length ≤ nL) (hrc : rm.cells = 0 ∧ rm.slots = 0) (body : ∀ (p : Program) (e : Env) (s : State) (m : MethodId) (args : Array Value) (below : List Frame) (meth : Method) (c : Code) (R : Room) (Q : State → Prop), R = rm → CallFix p m c cc nL s args lw_all RX0 → (∀ (v : Int32) (g1 : Nat → Nat → Nat) (f1 : Nat → Nat → Int32) (H : Heap) (locs : List Loc) (ls : Array Slot) (pc : Nat), XS D h cZ cI s (xA h) H locs g1 f1 → (v = 0 ∨ v = 1) → post v (g1, f1) → decode cc pc = .ok (.ireturn, 1) → W p l e R s m args below meth c H locs 0 0 Q (F0 m pc ls [.int v])) → ∀ ls : Array Slot, lv_has ls nL (lv_args 0 (.ref (h 0) :: av)) → XS D h cZ cI s (xA h) s.heap [] g f → W p l e R s m args below meth c s.heap [] 0 0 Q (F0 m 0 ls [])) : Met l y (ws_ y cc nL (some .boolean)) rm (xPc D h cZ cI g f av) (va_Qi post (xB D h cZ cI) (xA h)) 0 0 (xA h) := by
  refine Met.ofW (cc := cc) (maxL := nL) (ret := (some .boolean)) hy rfl ?_
  intro p e s m args below meth c s₁ B hml hv
  obtain ⟨rfl, hP, hK, hD⟩ := hv
  have hts := atoms_spec (ws := ws_ y cc nL (some .boolean)) B.pre
  have hts : ∀ w ∈ lw_all, w.before _ s = true := fun w h => hts w (List.mem_cons_of_mem _ h)
  have hown : s.vm.findClass RX0 = some m.cls := by rw [← hcls]; exact findClass_of_methodNamed B.named
  have hlocks := B.notSynchronized
  have hl := lv_entry (.ref (h 0) :: av) (n := nL) hlen
  rw [lg_entry_eq]
  refine body p e s m _ below meth c _ _ rfl ⟨B.exec, B.bytes, hml, hown, hts⟩ ?_ _ hl ⟨hK, hP, hD, va_S.rf⟩
  intro v g1 f1 H locs ls pc hW h01 hp hdg
  exact W.zret (v := v) B.exec B.bytes B.returns (z_narr h01) (fun t ht hM9 => ⟨⟨v, (g1, f1), rfl, hp, by rw [ht]; exact hW.2.1, va_K.moved hM9.alike hW.1, hW.2.2.1⟩, hW.2.2.2.F ht⟩) hW.2.2.2.2.2 hdg
theorem x_metV (l : Launch) {y : MethodName} {rm : Room} {av : List Value} {post : zU → Prop} (hy : plainName y.cls = true) (hcls : y.cls = RX0) (hlen : (lg_sl (.ref (h 0) :: av)).length ≤ nL) (hrc : rm.cells = 0 ∧ rm.slots = 0) (body : ∀ (p : Program) (e : Env) (s : State) (m : MethodId) (args : Array Value) (below : List Frame) (meth : Method) (c : Code) (R : Room) (Q : State → Prop), R = rm → CallFix p m c cc nL s args lw_all RX0 → (∀ (g1 : Nat → Nat → Nat) (f1 : Nat → Nat → Int32) (H : Heap) (locs : List Loc) (ls : Array Slot) (pc : Nat), XS D h cZ cI s (xA h) H locs g1 f1 → post (g1, f1) → decode cc pc = .ok (.return_, 1) → W p l e R s m args below meth c H locs 0 0 Q (F0 m pc ls [])) → ∀ ls : Array Slot, lv_has ls nL (lv_args 0 (.ref (h 0) :: av)) → XS D h cZ cI s (xA h) s.heap [] g f → W p l e R s m args below meth c s.heap [] 0 0 Q (F0 m 0 ls [])) : Met l y (ws_ y cc nL none) rm (xPc D h cZ cI g f av) (va_Qv post (xB D h cZ cI) (xA h)) 0 0 (xA h) := by
  refine Met.ofW (cc := cc) (maxL := nL) (ret := none) hy rfl ?_
  intro p e s m args below meth c s₁ B hml hv
  obtain ⟨rfl, hP, hK, hD⟩ := hv
  have hts := atoms_spec (ws := ws_ y cc nL none) B.pre
  have hts : ∀ w ∈ lw_all, w.before _ s = true := fun w h => hts w (List.mem_cons_of_mem _ h)
  have hown : s.vm.findClass RX0 = some m.cls := by rw [← hcls]; exact findClass_of_methodNamed B.named
  have hlocks := B.notSynchronized
  have hl := lv_entry (.ref (h 0) :: av) (n := nL) hlen
  rw [lg_entry_eq]
  refine body p e s m _ below meth c _ _ rfl ⟨B.exec, B.bytes, hml, hown, hts⟩ ?_ _ hl ⟨hK, hP, hD, va_S.rf⟩
  intro g1 f1 H locs ls pc hW hp hdg
  exact W.vret B.exec B.bytes B.returns (fun t ht hM9 => ⟨⟨(g1, f1), rfl, hp, by rw [ht]; exact hW.2.1, va_K.moved hM9.alike hW.1, hW.2.2.1⟩, hW.2.2.2.F ht⟩) hW.2.2.2.2.2 hdg
end XR
/-- the world of RX1 -/
def mw (h : Nat → Nat) (cZ cI : ClassId) (g : Nat → Nat → Nat) (f : Nat → Nat → Int32) : va_W := [(h 0, .inr (1, [.int (nI (g 0 0)), .ref (h 1), .ref (h 2), .ref (h 3), .ref (h 4), .ref (h 5), .ref (h 6), .ref (h 7), .ref (h 8), .int (nI (g 9 0)), .ref (h 10), .ref (h 11), .ref (h 12)])), (h 1, .inl (cI, 60, .inl (gI g 1))), (h 2, .inl (cI, 60, .inl (gI g 2))), (h 3, .inl (cZ, 60, .inl (gI g 3))), (h 4, .inl (cI, 60, .inl (gI g 4))), (h 5, .inl (cI, 60, .inl (f 5))), (h 6, .inl (cZ, 180, .inl (gI g 6))), (h 7, .inl (cI, 10, .inl (f 7))), (h 8, .inl (cI, 10, .inl (f 8))), (h 10, .inl (cZ, 60, .inl (gI g 10))), (h 11, .inl (cI, 10, .inl (f 11))), (h 12, .inl (cI, 10, .inl (f 12)))]
def mA (h : Nat → Nat) : Nat → Prop := fun q => ∃ k, k < 13 ∧ k ≠ 9 ∧ q = h k
def MS (D : va_G) (h : Nat → Nat) (cZ cI : ClassId) (s : State) (A : Nat → Prop) (H : Heap) (locs : List Loc) (g : Nat → Nat → Nat) (f : Nat → Nat → Int32) : Prop := va_K D vwCl (zty cZ cI) s ∧ va_P D vwCl (mw h cZ cI g f) H ∧ va_D A (mw h cZ cI g f) ∧ va_S A s.heap H locs
def mPc (D : va_G) (h : Nat → Nat) (cZ cI : ClassId) (g : Nat → Nat → Nat) (f : Nat → Nat → Int32) (av : List Value) : Array Value → State → Prop := va_Pc (.ref (h 0) :: av) (fun U => va_P D vwCl (mw h cZ cI g f) U.heap ∧ va_K D vwCl (zty cZ cI) U ∧ va_D (mA h) (mw h cZ cI g f))
def mB (D : va_G) (h : Nat → Nat) (cZ cI : ClassId) (u : zU) (t : State) : Prop := va_P D vwCl (mw h cZ cI u.1 u.2) t.heap ∧ va_K D vwCl (zty cZ cI) t ∧ va_D (mA h) (mw h cZ cI u.1 u.2)
section MR
variable {p : Program} {l : Launch} {e : Env} {R : Room} {s : State} {m : MethodId} {args : Array Value} {below : List Frame} {meth : Method} {c : Code} {H : Heap} {locs : List Loc} {cells slots : Nat} {Q : State → Prop}
variable {cc : ByteArray} {nL pc : Nat} {ls : Array Slot} {rest : List Value} {D : va_G} {h : Nat → Nat} {cZ cI : ClassId} {A : Nat → Prop} {g : Nat → Nat → Nat} {f : Nat → Nat → Int32} {own : String}
theorem mw_0 : (mw h cZ cI g f)[0]? = some ((h 0, .inr (1, [.int (nI (g 0 0)), .ref (h 1), .ref (h 2), .ref (h 3), .ref (h 4), .ref (h 5), .ref (h 6), .ref (h 7), .ref (h 8), .int (nI (g 9 0)), .ref (h 10), .ref (h 11), .ref (h 12)]))) := rfl
theorem mw_1 : (mw h cZ cI g f)[1]? = some ((h 1, .inl (cI, 60, .inl (gI g 1)))) := rfl
theorem mw_2 : (mw h cZ cI g f)[2]? = some ((h 2, .inl (cI, 60, .inl (gI g 2)))) := rfl
theorem mw_3 : (mw h cZ cI g f)[3]? = some ((h 3, .inl (cZ, 60, .inl (gI g 3)))) := rfl
theorem mw_4 : (mw h cZ cI g f)[4]? = some ((h 4, .inl (cI, 60, .inl (gI g 4)))) := rfl
theorem mw_5 : (mw h cZ cI g f)[5]? = some ((h 5, .inl (cI, 60, .inl (f 5)))) := rfl
theorem mw_6 : (mw h cZ cI g f)[6]? = some ((h 6, .inl (cZ, 180, .inl (gI g 6)))) := rfl
theorem mw_7 : (mw h cZ cI g f)[7]? = some ((h 7, .inl (cI, 10, .inl (f 7)))) := rfl
theorem mw_8 : (mw h cZ cI g f)[8]? = some ((h 8, .inl (cI, 10, .inl (f 8)))) := rfl
theorem mw_10 : (mw h cZ cI g f)[9]? = some ((h 10, .inl (cZ, 60, .inl (gI g 10)))) := rfl
theorem mw_11 : (mw h cZ cI g f)[10]? = some ((h 11, .inl (cI, 10, .inl (f 11)))) := rfl
theorem mw_12 : (mw h cZ cI g f)[11]? = some ((h 12, .inl (cI, 10, .inl (f 12)))) := rfl
theorem mw_addr : (mw h cZ cI g f).map (fun q => q.1) = [h 0, h 1, h 2, h 3, h 4, h 5, h 6, h 7, h 8, h 10, h 11, h 12] := rfl
theorem mw_A {k : Nat} {q : Nat × va_E} (hq : (mw h cZ cI g f)[k]? = some q) : mA h q.1 := by
  have h1 : q.1 ∈ (mw h cZ cI g f).map (fun q => q.1) := List.mem_map.mpr ⟨q, List.mem_of_getElem? hq, rfl⟩
  rw [mw_addr] at h1
  simp only [List.mem_cons, List.not_mem_nil, or_false] at h1
  rcases h1 with h1 | h1 | h1 | h1 | h1 | h1 | h1 | h1 | h1 | h1 | h1 | h1
  · exact ⟨0, by decide, by decide, h1⟩
  · exact ⟨1, by decide, by decide, h1⟩
  · exact ⟨2, by decide, by decide, h1⟩
  · exact ⟨3, by decide, by decide, h1⟩
  · exact ⟨4, by decide, by decide, h1⟩
  · exact ⟨5, by decide, by decide, h1⟩
  · exact ⟨6, by decide, by decide, h1⟩
  · exact ⟨7, by decide, by decide, h1⟩
  · exact ⟨8, by decide, by decide, h1⟩
  · exact ⟨10, by decide, by decide, h1⟩
  · exact ⟨11, by decide, by decide, h1⟩
  · exact ⟨12, by decide, by decide, h1⟩
theorem mw_D {B A : Nat → Prop} {g2 : Nat → Nat → Nat} {f2 : Nat → Nat → Int32} (hD : va_D A (mw h cZ cI g f)) (hB : ∀ q, mA h q → B q) : va_D B (mw h cZ cI g2 f2) := by
  refine ⟨fun i j x y hx hy hxy => ?_, fun k q hq => hB _ (mw_A hq)⟩
  have e : (mw h cZ cI g f).map (fun q => q.1) = (mw h cZ cI g2 f2).map (fun q => q.1) := rfl
  have a1 : ((mw h cZ cI g f).map (fun q => q.1))[i]? = some x.1 := by rw [e, List.getElem?_map, hx]; rfl
  have a2 : ((mw h cZ cI g f).map (fun q => q.1))[j]? = some y.1 := by rw [e, List.getElem?_map, hy]; rfl
  rw [List.getElem?_map] at a1 a2
  obtain ⟨x2, b1, c1⟩ := Option.map_eq_some_iff.mp a1
  obtain ⟨y2, b2, c2⟩ := Option.map_eq_some_iff.mp a2
  exact hD.1 i j x2 y2 b1 b2 (by rw [c1, c2]; exact hxy)
theorem mS_A (hW : MS D h cZ cI s A H locs g f) : ∀ q, mA h q → A q := by
  intro q hq
  obtain ⟨k, hk, h9, rfl⟩ := hq
  match k, hk, h9 with
  | 0, _, _ => exact hW.2.2.1.2 _ _ mw_0
  | 1, _, _ => exact hW.2.2.1.2 _ _ mw_1
  | 2, _, _ => exact hW.2.2.1.2 _ _ mw_2
  | 3, _, _ => exact hW.2.2.1.2 _ _ mw_3
  | 4, _, _ => exact hW.2.2.1.2 _ _ mw_4
  | 5, _, _ => exact hW.2.2.1.2 _ _ mw_5
  | 6, _, _ => exact hW.2.2.1.2 _ _ mw_6
  | 7, _, _ => exact hW.2.2.1.2 _ _ mw_7
  | 8, _, _ => exact hW.2.2.1.2 _ _ mw_8
  | 9, _, h9 => exact absurd rfl h9
  | 10, _, _ => exact hW.2.2.1.2 _ _ mw_10
  | 11, _, _ => exact hW.2.2.1.2 _ _ mw_11
  | 12, _, _ => exact hW.2.2.1.2 _ _ mw_12
  | k + 13, hk, _ => exact absurd hk (by omega)
theorem m_gf_0 (S : CallFix p m c cc nL s args lw_all RX1) (hW : MS D h cZ cI s A H locs g f) (hdg : decode cc pc = .ok (.getfield 44, 3)) (kk : W p l e R s m args below meth c H locs cells slots Q (F0 m (pc + 3) ls (.int (nI (g 0 0)) :: rest))) : W p l e R s m args below meth c H locs cells slots Q (F0 m pc ls (.ref (h 0) :: rest)) :=
  va_get (D := D) (ci := 1) (v := .int (nI (g 0 0))) (C := RX1) (T := TX1) (N := 13) S.1 S.2.1 S.2.2.2.2 in_X1 S.2.2.2.1 hW.1 hW.2.1 0 mw_0 rfl 0 (by decide) (S.2.2.2.2 _ q160) (fun _ h9 => h9) rfl hdg kk
theorem m_g_0 (S : CallFix p m c cc nL s args lw_all RX1) (hW : MS D h cZ cI s A H locs g f) (h0 : ls[0]? = some (.val (.ref (h 0)))) (hd1 : decode cc pc = .ok (.aload_n 0, 1)) (hd2 : decode cc (pc + 1) = .ok (.getfield 44, 3)) (kk : W p l e R s m args below meth c H locs cells slots Q (F0 m (pc + 4) ls (.int (nI (g 0 0)) :: rest))) : W p l e R s m args below meth c H locs cells slots Q (F0 m pc ls rest) :=
  lv_aload_n S.1 S.2.1 hd1 rfl h0 (m_gf_0 S hW hd2 kk)
theorem m_pf_0 (S : CallFix p m c cc nL s args lw_all RX1) (hW : MS D h cZ cI s A H locs g f) {v : Nat} (hdg : decode cc pc = .ok (.putfield 44, 3)) (kk : ∀ (H1 : Heap) (locs1 : List Loc), MS D h cZ cI s A H1 locs1 (st2 g 0 0 v) f → W p l e R s m args below meth c H1 locs1 cells slots Q (F0 m (pc + 3) ls rest)) : W p l e R s m args below meth c H locs cells slots Q (F0 m pc ls (.int (nI v) :: .ref (h 0) :: rest)) :=
  va_put (D := D) (ci := 1) (v := .int (nI v)) (ty := .int) (C := RX1) (T := TX1) (N := 13) S.1 S.2.1 S.2.2.2.2 in_X1 tyX1 tyX1_ok nmX1 S.2.2.2.1 hW.1 hW.2.1 hW.2.2.1 hW.2.2.2 0 mw_0 rfl 0 (by decide) (S.2.2.2.2 _ q160) (fun _ h9 => h9) rfl (by decide +kernel) rfl rfl (Nat.le_of_ble_eq_true rfl) hdg (fun H1 locs1 hP hD hS => kk H1 locs1 ⟨hW.1, hP, hD, hS⟩)
theorem m_gf_1 (S : CallFix p m c cc nL s args lw_all RX1) (hW : MS D h cZ cI s A H locs g f) (hdg : decode cc pc = .ok (.getfield 7, 3)) (kk : W p l e R s m args below meth c H locs cells slots Q (F0 m (pc + 3) ls (.ref (h 1) :: rest))) : W p l e R s m args below meth c H locs cells slots Q (F0 m pc ls (.ref (h 0) :: rest)) :=
  va_get (D := D) (ci := 1) (v := .ref (h 1)) (C := RX1) (T := TX1) (N := 13) S.1 S.2.1 S.2.2.2.2 in_X1 S.2.2.2.1 hW.1 hW.2.1 0 mw_0 rfl 1 (by decide) (S.2.2.2.2 _ q161) (fun _ h9 => h9) rfl hdg kk
theorem m_g_1 (S : CallFix p m c cc nL s args lw_all RX1) (hW : MS D h cZ cI s A H locs g f) (h0 : ls[0]? = some (.val (.ref (h 0)))) (hd1 : decode cc pc = .ok (.aload_n 0, 1)) (hd2 : decode cc (pc + 1) = .ok (.getfield 7, 3)) (kk : W p l e R s m args below meth c H locs cells slots Q (F0 m (pc + 4) ls (.ref (h 1) :: rest))) : W p l e R s m args below meth c H locs cells slots Q (F0 m pc ls rest) :=
  lv_aload_n S.1 S.2.1 hd1 rfl h0 (m_gf_1 S hW hd2 kk)
theorem m_ld_1 (S : CallFix p m c cc nL s args lw_all RX1) (hW : MS D h cZ cI s A H locs g f) {i : Nat} {v : Nat} (hi : i < 60) (hv : g 1 i = v) (hdg : decode cc pc = .ok (.iaload, 1)) (kk : W p l e R s m args below meth c H locs cells slots Q (F0 m (pc + 1) ls (.int (nI v) :: rest))) : W p l e R s m args below meth c H locs cells slots Q (F0 m pc ls (.int (nI i) :: .ref (h 1) :: rest)) := by
  subst hv
  refine va_iald (D := D) S.1 S.2.1 hW.1 hW.2.1 1 1 mw_1 rfl (vp_in_nI hi (by decide)) hdg ?_
  rw [nI_clamp (by omega)]
  exact kk
theorem m_st_1 (S : CallFix p m c cc nL s args lw_all RX1) (hW : MS D h cZ cI s A H locs g f) {i : Nat} {v : Nat} (hi : i < 60) (hdg : decode cc pc = .ok (.iastore, 1)) (kk : ∀ (H1 : Heap) (locs1 : List Loc), MS D h cZ cI s A H1 locs1 (st2 g 1 i v) f → W p l e R s m args below meth c H1 locs1 cells slots Q (F0 m (pc + 1) ls rest)) : W p l e R s m args below meth c H locs cells slots Q (F0 m pc ls (.int (nI v) :: .int (nI i) :: .ref (h 1) :: rest)) := by
  refine va_iast (D := D) S.1 S.2.1 hW.1 hW.2.1 hW.2.2.1 hW.2.2.2 1 1 mw_1 rfl (vp_in_nI hi (by decide)) hdg (fun H1 locs1 hP hD hS => ?_)
  rw [nI_clamp (by omega), gI_st] at hP hD
  exact kk H1 locs1 ⟨hW.1, hP, hD, hS⟩
theorem m_gf_2 (S : CallFix p m c cc nL s args lw_all RX1) (hW : MS D h cZ cI s A H locs g f) (hdg : decode cc pc = .ok (.getfield 13, 3)) (kk : W p l e R s m args below meth c H locs cells slots Q (F0 m (pc + 3) ls (.ref (h 2) :: rest))) : W p l e R s m args below meth c H locs cells slots Q (F0 m pc ls (.ref (h 0) :: rest)) :=
  va_get (D := D) (ci := 1) (v := .ref (h 2)) (C := RX1) (T := TX1) (N := 13) S.1 S.2.1 S.2.2.2.2 in_X1 S.2.2.2.1 hW.1 hW.2.1 0 mw_0 rfl 2 (by decide) (S.2.2.2.2 _ q162) (fun _ h9 => h9) rfl hdg kk
theorem m_g_2 (S : CallFix p m c cc nL s args lw_all RX1) (hW : MS D h cZ cI s A H locs g f) (h0 : ls[0]? = some (.val (.ref (h 0)))) (hd1 : decode cc pc = .ok (.aload_n 0, 1)) (hd2 : decode cc (pc + 1) = .ok (.getfield 13, 3)) (kk : W p l e R s m args below meth c H locs cells slots Q (F0 m (pc + 4) ls (.ref (h 2) :: rest))) : W p l e R s m args below meth c H locs cells slots Q (F0 m pc ls rest) :=
  lv_aload_n S.1 S.2.1 hd1 rfl h0 (m_gf_2 S hW hd2 kk)
theorem m_ld_2 (S : CallFix p m c cc nL s args lw_all RX1) (hW : MS D h cZ cI s A H locs g f) {i : Nat} {v : Nat} (hi : i < 60) (hv : g 2 i = v) (hdg : decode cc pc = .ok (.iaload, 1)) (kk : W p l e R s m args below meth c H locs cells slots Q (F0 m (pc + 1) ls (.int (nI v) :: rest))) : W p l e R s m args below meth c H locs cells slots Q (F0 m pc ls (.int (nI i) :: .ref (h 2) :: rest)) := by
  subst hv
  refine va_iald (D := D) S.1 S.2.1 hW.1 hW.2.1 2 1 mw_2 rfl (vp_in_nI hi (by decide)) hdg ?_
  rw [nI_clamp (by omega)]
  exact kk
theorem m_st_2 (S : CallFix p m c cc nL s args lw_all RX1) (hW : MS D h cZ cI s A H locs g f) {i : Nat} {v : Nat} (hi : i < 60) (hdg : decode cc pc = .ok (.iastore, 1)) (kk : ∀ (H1 : Heap) (locs1 : List Loc), MS D h cZ cI s A H1 locs1 (st2 g 2 i v) f → W p l e R s m args below meth c H1 locs1 cells slots Q (F0 m (pc + 1) ls rest)) : W p l e R s m args below meth c H locs cells slots Q (F0 m pc ls (.int (nI v) :: .int (nI i) :: .ref (h 2) :: rest)) := by
  refine va_iast (D := D) S.1 S.2.1 hW.1 hW.2.1 hW.2.2.1 hW.2.2.2 2 1 mw_2 rfl (vp_in_nI hi (by decide)) hdg (fun H1 locs1 hP hD hS => ?_)
  rw [nI_clamp (by omega), gI_st] at hP hD
  exact kk H1 locs1 ⟨hW.1, hP, hD, hS⟩
theorem m_gf_3 (S : CallFix p m c cc nL s args lw_all RX1) (hW : MS D h cZ cI s A H locs g f) (hdg : decode cc pc = .ok (.getfield 16, 3)) (kk : W p l e R s m args below meth c H locs cells slots Q (F0 m (pc + 3) ls (.ref (h 3) :: rest))) : W p l e R s m args below meth c H locs cells slots Q (F0 m pc ls (.ref (h 0) :: rest)) :=
  va_get (D := D) (ci := 1) (v := .ref (h 3)) (C := RX1) (T := TX1) (N := 13) S.1 S.2.1 S.2.2.2.2 in_X1 S.2.2.2.1 hW.1 hW.2.1 0 mw_0 rfl 3 (by decide) (S.2.2.2.2 _ q163) (fun _ h9 => h9) rfl hdg kk
theorem m_g_3 (S : CallFix p m c cc nL s args lw_all RX1) (hW : MS D h cZ cI s A H locs g f) (h0 : ls[0]? = some (.val (.ref (h 0)))) (hd1 : decode cc pc = .ok (.aload_n 0, 1)) (hd2 : decode cc (pc + 1) = .ok (.getfield 16, 3)) (kk : W p l e R s m args below meth c H locs cells slots Q (F0 m (pc + 4) ls (.ref (h 3) :: rest))) : W p l e R s m args below meth c H locs cells slots Q (F0 m pc ls rest) :=
  lv_aload_n S.1 S.2.1 hd1 rfl h0 (m_gf_3 S hW hd2 kk)
theorem m_ld_3 (S : CallFix p m c cc nL s args lw_all RX1) (hW : MS D h cZ cI s A H locs g f) {i : Nat} {v : Nat} (hi : i < 60) (hv : g 3 i = v) (hdg : decode cc pc = .ok (.baload, 1)) (kk : W p l e R s m args below meth c H locs cells slots Q (F0 m (pc + 1) ls (.int (nI v) :: rest))) : W p l e R s m args below meth c H locs cells slots Q (F0 m pc ls (.int (nI i) :: .ref (h 3) :: rest)) := by
  subst hv
  refine va_zald (D := D) S.1 S.2.1 hW.1 hW.2.1 3 0 mw_3 rfl (vp_in_nI hi (by decide)) hdg ?_
  rw [nI_clamp (by omega)]
  exact kk
theorem m_st_3 (S : CallFix p m c cc nL s args lw_all RX1) (hW : MS D h cZ cI s A H locs g f) {i : Nat} {v : Nat} (hi : i < 60) (hb : v < 2) (hdg : decode cc pc = .ok (.bastore, 1)) (kk : ∀ (H1 : Heap) (locs1 : List Loc), MS D h cZ cI s A H1 locs1 (st2 g 3 i v) f → W p l e R s m args below meth c H1 locs1 cells slots Q (F0 m (pc + 1) ls rest)) : W p l e R s m args below meth c H locs cells slots Q (F0 m pc ls (.int (nI v) :: .int (nI i) :: .ref (h 3) :: rest)) := by
  refine va_zast (D := D) S.1 S.2.1 hW.1 hW.2.1 hW.2.2.1 hW.2.2.2 3 0 mw_3 rfl (vp_in_nI hi (by decide)) hdg (fun H1 locs1 hP hD hS => ?_)
  rw [nI_clamp (by omega), z_nar hb, gI_st] at hP hD
  exact kk H1 locs1 ⟨hW.1, hP, hD, hS⟩
theorem m_gf_4 (S : CallFix p m c cc nL s args lw_all RX1) (hW : MS D h cZ cI s A H locs g f) (hdg : decode cc pc = .ok (.getfield 20, 3)) (kk : W p l e R s m args below meth c H locs cells slots Q (F0 m (pc + 3) ls (.ref (h 4) :: rest))) : W p l e R s m args below meth c H locs cells slots Q (F0 m pc ls (.ref (h 0) :: rest)) :=
  va_get (D := D) (ci := 1) (v := .ref (h 4)) (C := RX1) (T := TX1) (N := 13) S.1 S.2.1 S.2.2.2.2 in_X1 S.2.2.2.1 hW.1 hW.2.1 0 mw_0 rfl 4 (by decide) (S.2.2.2.2 _ q164) (fun _ h9 => h9) rfl hdg kk
theorem m_g_4 (S : CallFix p m c cc nL s args lw_all RX1) (hW : MS D h cZ cI s A H locs g f) (h0 : ls[0]? = some (.val (.ref (h 0)))) (hd1 : decode cc pc = .ok (.aload_n 0, 1)) (hd2 : decode cc (pc + 1) = .ok (.getfield 20, 3)) (kk : W p l e R s m args below meth c H locs cells slots Q (F0 m (pc + 4) ls (.ref (h 4) :: rest))) : W p l e R s m args below meth c H locs cells slots Q (F0 m pc ls rest) :=
  lv_aload_n S.1 S.2.1 hd1 rfl h0 (m_gf_4 S hW hd2 kk)
theorem m_ld_4 (S : CallFix p m c cc nL s args lw_all RX1) (hW : MS D h cZ cI s A H locs g f) {i : Nat} {v : Nat} (hi : i < 60) (hv : g 4 i = v) (hdg : decode cc pc = .ok (.iaload, 1)) (kk : W p l e R s m args below meth c H locs cells slots Q (F0 m (pc + 1) ls (.int (nI v) :: rest))) : W p l e R s m args below meth c H locs cells slots Q (F0 m pc ls (.int (nI i) :: .ref (h 4) :: rest)) := by
  subst hv
  refine va_iald (D := D) S.1 S.2.1 hW.1 hW.2.1 4 1 mw_4 rfl (vp_in_nI hi (by decide)) hdg ?_
  rw [nI_clamp (by omega)]
  exact kk
theorem m_st_4 (S : CallFix p m c cc nL s args lw_all RX1) (hW : MS D h cZ cI s A H locs g f) {i : Nat} {v : Nat} (hi : i < 60) (hdg : decode cc pc = .ok (.iastore, 1)) (kk : ∀ (H1 : Heap) (locs1 : List Loc), MS D h cZ cI s A H1 locs1 (st2 g 4 i v) f → W p l e R s m args below meth c H1 locs1 cells slots Q (F0 m (pc + 1) ls rest)) : W p l e R s m args below meth c H locs cells slots Q (F0 m pc ls (.int (nI v) :: .int (nI i) :: .ref (h 4) :: rest)) := by
  refine va_iast (D := D) S.1 S.2.1 hW.1 hW.2.1 hW.2.2.1 hW.2.2.2 4 1 mw_4 rfl (vp_in_nI hi (by decide)) hdg (fun H1 locs1 hP hD hS => ?_)
  rw [nI_clamp (by omega), gI_st] at hP hD
  exact kk H1 locs1 ⟨hW.1, hP, hD, hS⟩
theorem m_gf_5 (S : CallFix p m c cc nL s args lw_all RX1) (hW : MS D h cZ cI s A H locs g f) (hdg : decode cc pc = .ok (.getfield 23, 3)) (kk : W p l e R s m args below meth c H locs cells slots Q (F0 m (pc + 3) ls (.ref (h 5) :: rest))) : W p l e R s m args below meth c H locs cells slots Q (F0 m pc ls (.ref (h 0) :: rest)) :=
  va_get (D := D) (ci := 1) (v := .ref (h 5)) (C := RX1) (T := TX1) (N := 13) S.1 S.2.1 S.2.2.2.2 in_X1 S.2.2.2.1 hW.1 hW.2.1 0 mw_0 rfl 5 (by decide) (S.2.2.2.2 _ q165) (fun _ h9 => h9) rfl hdg kk
theorem m_g_5 (S : CallFix p m c cc nL s args lw_all RX1) (hW : MS D h cZ cI s A H locs g f) (h0 : ls[0]? = some (.val (.ref (h 0)))) (hd1 : decode cc pc = .ok (.aload_n 0, 1)) (hd2 : decode cc (pc + 1) = .ok (.getfield 23, 3)) (kk : W p l e R s m args below meth c H locs cells slots Q (F0 m (pc + 4) ls (.ref (h 5) :: rest))) : W p l e R s m args below meth c H locs cells slots Q (F0 m pc ls rest) :=
  lv_aload_n S.1 S.2.1 hd1 rfl h0 (m_gf_5 S hW hd2 kk)
theorem m_ld_5 (S : CallFix p m c cc nL s args lw_all RX1) (hW : MS D h cZ cI s A H locs g f) {i : Nat} {v : Int32} (hi : i < 60) (hv : f 5 i = v) (hdg : decode cc pc = .ok (.iaload, 1)) (kk : W p l e R s m args below meth c H locs cells slots Q (F0 m (pc + 1) ls (.int v :: rest))) : W p l e R s m args below meth c H locs cells slots Q (F0 m pc ls (.int (nI i) :: .ref (h 5) :: rest)) := by
  subst hv
  refine va_iald (D := D) S.1 S.2.1 hW.1 hW.2.1 5 1 mw_5 rfl (vp_in_nI hi (by decide)) hdg ?_
  rw [nI_clamp (by omega)]
  exact kk
theorem m_st_5 (S : CallFix p m c cc nL s args lw_all RX1) (hW : MS D h cZ cI s A H locs g f) {i : Nat} {v : Int32} (hi : i < 60) (hdg : decode cc pc = .ok (.iastore, 1)) (kk : ∀ (H1 : Heap) (locs1 : List Loc), MS D h cZ cI s A H1 locs1 g (st2 f 5 i v) → W p l e R s m args below meth c H1 locs1 cells slots Q (F0 m (pc + 1) ls rest)) : W p l e R s m args below meth c H locs cells slots Q (F0 m pc ls (.int v :: .int (nI i) :: .ref (h 5) :: rest)) := by
  refine va_iast (D := D) S.1 S.2.1 hW.1 hW.2.1 hW.2.2.1 hW.2.2.2 5 1 mw_5 rfl (vp_in_nI hi (by decide)) hdg (fun H1 locs1 hP hD hS => ?_)
  rw [nI_clamp (by omega), fI_st] at hP hD
  exact kk H1 locs1 ⟨hW.1, hP, hD, hS⟩
theorem m_gf_6 (S : CallFix p m c cc nL s args lw_all RX1) (hW : MS D h cZ cI s A H locs g f) (hdg : decode cc pc = .ok (.getfield 26, 3)) (kk : W p l e R s m args below meth c H locs cells slots Q (F0 m (pc + 3) ls (.ref (h 6) :: rest))) : W p l e R s m args below meth c H locs cells slots Q (F0 m pc ls (.ref (h 0) :: rest)) :=
  va_get (D := D) (ci := 1) (v := .ref (h 6)) (C := RX1) (T := TX1) (N := 13) S.1 S.2.1 S.2.2.2.2 in_X1 S.2.2.2.1 hW.1 hW.2.1 0 mw_0 rfl 6 (by decide) (S.2.2.2.2 _ q166) (fun _ h9 => h9) rfl hdg kk
theorem m_g_6 (S : CallFix p m c cc nL s args lw_all RX1) (hW : MS D h cZ cI s A H locs g f) (h0 : ls[0]? = some (.val (.ref (h 0)))) (hd1 : decode cc pc = .ok (.aload_n 0, 1)) (hd2 : decode cc (pc + 1) = .ok (.getfield 26, 3)) (kk : W p l e R s m args below meth c H locs cells slots Q (F0 m (pc + 4) ls (.ref (h 6) :: rest))) : W p l e R s m args below meth c H locs cells slots Q (F0 m pc ls rest) :=
  lv_aload_n S.1 S.2.1 hd1 rfl h0 (m_gf_6 S hW hd2 kk)
theorem m_ld_6 (S : CallFix p m c cc nL s args lw_all RX1) (hW : MS D h cZ cI s A H locs g f) {i : Nat} {v : Nat} (hi : i < 180) (hv : g 6 i = v) (hdg : decode cc pc = .ok (.baload, 1)) (kk : W p l e R s m args below meth c H locs cells slots Q (F0 m (pc + 1) ls (.int (nI v) :: rest))) : W p l e R s m args below meth c H locs cells slots Q (F0 m pc ls (.int (nI i) :: .ref (h 6) :: rest)) := by
  subst hv
  refine va_zald (D := D) S.1 S.2.1 hW.1 hW.2.1 6 0 mw_6 rfl (vp_in_nI hi (by decide)) hdg ?_
  rw [nI_clamp (by omega)]
  exact kk
theorem m_st_6 (S : CallFix p m c cc nL s args lw_all RX1) (hW : MS D h cZ cI s A H locs g f) {i : Nat} {v : Nat} (hi : i < 180) (hb : v < 2) (hdg : decode cc pc = .ok (.bastore, 1)) (kk : ∀ (H1 : Heap) (locs1 : List Loc), MS D h cZ cI s A H1 locs1 (st2 g 6 i v) f → W p l e R s m args below meth c H1 locs1 cells slots Q (F0 m (pc + 1) ls rest)) : W p l e R s m args below meth c H locs cells slots Q (F0 m pc ls (.int (nI v) :: .int (nI i) :: .ref (h 6) :: rest)) := by
  refine va_zast (D := D) S.1 S.2.1 hW.1 hW.2.1 hW.2.2.1 hW.2.2.2 6 0 mw_6 rfl (vp_in_nI hi (by decide)) hdg (fun H1 locs1 hP hD hS => ?_)
  rw [nI_clamp (by omega), z_nar hb, gI_st] at hP hD
  exact kk H1 locs1 ⟨hW.1, hP, hD, hS⟩
theorem m_gf_7 (S : CallFix p m c cc nL s args lw_all RX1) (hW : MS D h cZ cI s A H locs g f) (hdg : decode cc pc = .ok (.getfield 29, 3)) (kk : W p l e R s m args below meth c H locs cells slots Q (F0 m (pc + 3) ls (.ref (h 7) :: rest))) : W p l e R s m args below meth c H locs cells slots Q (F0 m pc ls (.ref (h 0) :: rest)) :=
  va_get (D := D) (ci := 1) (v := .ref (h 7)) (C := RX1) (T := TX1) (N := 13) S.1 S.2.1 S.2.2.2.2 in_X1 S.2.2.2.1 hW.1 hW.2.1 0 mw_0 rfl 7 (by decide) (S.2.2.2.2 _ q167) (fun _ h9 => h9) rfl hdg kk
theorem m_g_7 (S : CallFix p m c cc nL s args lw_all RX1) (hW : MS D h cZ cI s A H locs g f) (h0 : ls[0]? = some (.val (.ref (h 0)))) (hd1 : decode cc pc = .ok (.aload_n 0, 1)) (hd2 : decode cc (pc + 1) = .ok (.getfield 29, 3)) (kk : W p l e R s m args below meth c H locs cells slots Q (F0 m (pc + 4) ls (.ref (h 7) :: rest))) : W p l e R s m args below meth c H locs cells slots Q (F0 m pc ls rest) :=
  lv_aload_n S.1 S.2.1 hd1 rfl h0 (m_gf_7 S hW hd2 kk)
theorem m_ld_7 (S : CallFix p m c cc nL s args lw_all RX1) (hW : MS D h cZ cI s A H locs g f) {i : Nat} {v : Int32} (hi : i < 10) (hv : f 7 i = v) (hdg : decode cc pc = .ok (.iaload, 1)) (kk : W p l e R s m args below meth c H locs cells slots Q (F0 m (pc + 1) ls (.int v :: rest))) : W p l e R s m args below meth c H locs cells slots Q (F0 m pc ls (.int (nI i) :: .ref (h 7) :: rest)) := by
  subst hv
  refine va_iald (D := D) S.1 S.2.1 hW.1 hW.2.1 7 1 mw_7 rfl (vp_in_nI hi (by decide)) hdg ?_
  rw [nI_clamp (by omega)]
  exact kk
theorem m_st_7 (S : CallFix p m c cc nL s args lw_all RX1) (hW : MS D h cZ cI s A H locs g f) {i : Nat} {v : Int32} (hi : i < 10) (hdg : decode cc pc = .ok (.iastore, 1)) (kk : ∀ (H1 : Heap) (locs1 : List Loc), MS D h cZ cI s A H1 locs1 g (st2 f 7 i v) → W p l e R s m args below meth c H1 locs1 cells slots Q (F0 m (pc + 1) ls rest)) : W p l e R s m args below meth c H locs cells slots Q (F0 m pc ls (.int v :: .int (nI i) :: .ref (h 7) :: rest)) := by
  refine va_iast (D := D) S.1 S.2.1 hW.1 hW.2.1 hW.2.2.1 hW.2.2.2 7 1 mw_7 rfl (vp_in_nI hi (by decide)) hdg (fun H1 locs1 hP hD hS => ?_)
  rw [nI_clamp (by omega), fI_st] at hP hD
  exact kk H1 locs1 ⟨hW.1, hP, hD, hS⟩
theorem m_gf_8 (S : CallFix p m c cc nL s args lw_all RX1) (hW : MS D h cZ cI s A H locs g f) (hdg : decode cc pc = .ok (.getfield 32, 3)) (kk : W p l e R s m args below meth c H locs cells slots Q (F0 m (pc + 3) ls (.ref (h 8) :: rest))) : W p l e R s m args below meth c H locs cells slots Q (F0 m pc ls (.ref (h 0) :: rest)) :=
  va_get (D := D) (ci := 1) (v := .ref (h 8)) (C := RX1) (T := TX1) (N := 13) S.1 S.2.1 S.2.2.2.2 in_X1 S.2.2.2.1 hW.1 hW.2.1 0 mw_0 rfl 8 (by decide) (S.2.2.2.2 _ q168) (fun _ h9 => h9) rfl hdg kk
theorem m_g_8 (S : CallFix p m c cc nL s args lw_all RX1) (hW : MS D h cZ cI s A H locs g f) (h0 : ls[0]? = some (.val (.ref (h 0)))) (hd1 : decode cc pc = .ok (.aload_n 0, 1)) (hd2 : decode cc (pc + 1) = .ok (.getfield 32, 3)) (kk : W p l e R s m args below meth c H locs cells slots Q (F0 m (pc + 4) ls (.ref (h 8) :: rest))) : W p l e R s m args below meth c H locs cells slots Q (F0 m pc ls rest) :=
  lv_aload_n S.1 S.2.1 hd1 rfl h0 (m_gf_8 S hW hd2 kk)
theorem m_ld_8 (S : CallFix p m c cc nL s args lw_all RX1) (hW : MS D h cZ cI s A H locs g f) {i : Nat} {v : Int32} (hi : i < 10) (hv : f 8 i = v) (hdg : decode cc pc = .ok (.iaload, 1)) (kk : W p l e R s m args below meth c H locs cells slots Q (F0 m (pc + 1) ls (.int v :: rest))) : W p l e R s m args below meth c H locs cells slots Q (F0 m pc ls (.int (nI i) :: .ref (h 8) :: rest)) := by
  subst hv
  refine va_iald (D := D) S.1 S.2.1 hW.1 hW.2.1 8 1 mw_8 rfl (vp_in_nI hi (by decide)) hdg ?_
  rw [nI_clamp (by omega)]
  exact kk
theorem m_st_8 (S : CallFix p m c cc nL s args lw_all RX1) (hW : MS D h cZ cI s A H locs g f) {i : Nat} {v : Int32} (hi : i < 10) (hdg : decode cc pc = .ok (.iastore, 1)) (kk : ∀ (H1 : Heap) (locs1 : List Loc), MS D h cZ cI s A H1 locs1 g (st2 f 8 i v) → W p l e R s m args below meth c H1 locs1 cells slots Q (F0 m (pc + 1) ls rest)) : W p l e R s m args below meth c H locs cells slots Q (F0 m pc ls (.int v :: .int (nI i) :: .ref (h 8) :: rest)) := by
  refine va_iast (D := D) S.1 S.2.1 hW.1 hW.2.1 hW.2.2.1 hW.2.2.2 8 1 mw_8 rfl (vp_in_nI hi (by decide)) hdg (fun H1 locs1 hP hD hS => ?_)
  rw [nI_clamp (by omega), fI_st] at hP hD
  exact kk H1 locs1 ⟨hW.1, hP, hD, hS⟩
theorem m_gf_9 (S : CallFix p m c cc nL s args lw_all RX1) (hW : MS D h cZ cI s A H locs g f) (hdg : decode cc pc = .ok (.getfield 52, 3)) (kk : W p l e R s m args below meth c H locs cells slots Q (F0 m (pc + 3) ls (.int (nI (g 9 0)) :: rest))) : W p l e R s m args below meth c H locs cells slots Q (F0 m pc ls (.ref (h 0) :: rest)) :=
  va_get (D := D) (ci := 1) (v := .int (nI (g 9 0))) (C := RX1) (T := TX1) (N := 13) S.1 S.2.1 S.2.2.2.2 in_X1 S.2.2.2.1 hW.1 hW.2.1 0 mw_0 rfl 9 (by decide) (S.2.2.2.2 _ q169) (fun _ h9 => h9) rfl hdg kk
theorem m_g_9 (S : CallFix p m c cc nL s args lw_all RX1) (hW : MS D h cZ cI s A H locs g f) (h0 : ls[0]? = some (.val (.ref (h 0)))) (hd1 : decode cc pc = .ok (.aload_n 0, 1)) (hd2 : decode cc (pc + 1) = .ok (.getfield 52, 3)) (kk : W p l e R s m args below meth c H locs cells slots Q (F0 m (pc + 4) ls (.int (nI (g 9 0)) :: rest))) : W p l e R s m args below meth c H locs cells slots Q (F0 m pc ls rest) :=
  lv_aload_n S.1 S.2.1 hd1 rfl h0 (m_gf_9 S hW hd2 kk)
theorem m_pf_9 (S : CallFix p m c cc nL s args lw_all RX1) (hW : MS D h cZ cI s A H locs g f) {v : Nat} (hdg : decode cc pc = .ok (.putfield 52, 3)) (kk : ∀ (H1 : Heap) (locs1 : List Loc), MS D h cZ cI s A H1 locs1 (st2 g 9 0 v) f → W p l e R s m args below meth c H1 locs1 cells slots Q (F0 m (pc + 3) ls rest)) : W p l e R s m args below meth c H locs cells slots Q (F0 m pc ls (.int (nI v) :: .ref (h 0) :: rest)) :=
  va_put (D := D) (ci := 1) (v := .int (nI v)) (ty := .int) (C := RX1) (T := TX1) (N := 13) S.1 S.2.1 S.2.2.2.2 in_X1 tyX1 tyX1_ok nmX1 S.2.2.2.1 hW.1 hW.2.1 hW.2.2.1 hW.2.2.2 0 mw_0 rfl 9 (by decide) (S.2.2.2.2 _ q169) (fun _ h9 => h9) rfl (by decide +kernel) rfl rfl (Nat.le_of_ble_eq_true rfl) hdg (fun H1 locs1 hP hD hS => kk H1 locs1 ⟨hW.1, hP, hD, hS⟩)
theorem m_gf_10 (S : CallFix p m c cc nL s args lw_all RX1) (hW : MS D h cZ cI s A H locs g f) (hdg : decode cc pc = .ok (.getfield 35, 3)) (kk : W p l e R s m args below meth c H locs cells slots Q (F0 m (pc + 3) ls (.ref (h 10) :: rest))) : W p l e R s m args below meth c H locs cells slots Q (F0 m pc ls (.ref (h 0) :: rest)) :=
  va_get (D := D) (ci := 1) (v := .ref (h 10)) (C := RX1) (T := TX1) (N := 13) S.1 S.2.1 S.2.2.2.2 in_X1 S.2.2.2.1 hW.1 hW.2.1 0 mw_0 rfl 10 (by decide) (S.2.2.2.2 _ q170) (fun _ h9 => h9) rfl hdg kk
theorem m_g_10 (S : CallFix p m c cc nL s args lw_all RX1) (hW : MS D h cZ cI s A H locs g f) (h0 : ls[0]? = some (.val (.ref (h 0)))) (hd1 : decode cc pc = .ok (.aload_n 0, 1)) (hd2 : decode cc (pc + 1) = .ok (.getfield 35, 3)) (kk : W p l e R s m args below meth c H locs cells slots Q (F0 m (pc + 4) ls (.ref (h 10) :: rest))) : W p l e R s m args below meth c H locs cells slots Q (F0 m pc ls rest) :=
  lv_aload_n S.1 S.2.1 hd1 rfl h0 (m_gf_10 S hW hd2 kk)
theorem m_ld_10 (S : CallFix p m c cc nL s args lw_all RX1) (hW : MS D h cZ cI s A H locs g f) {i : Nat} {v : Nat} (hi : i < 60) (hv : g 10 i = v) (hdg : decode cc pc = .ok (.baload, 1)) (kk : W p l e R s m args below meth c H locs cells slots Q (F0 m (pc + 1) ls (.int (nI v) :: rest))) : W p l e R s m args below meth c H locs cells slots Q (F0 m pc ls (.int (nI i) :: .ref (h 10) :: rest)) := by
  subst hv
  refine va_zald (D := D) S.1 S.2.1 hW.1 hW.2.1 9 0 mw_10 rfl (vp_in_nI hi (by decide)) hdg ?_
  rw [nI_clamp (by omega)]
  exact kk
theorem m_st_10 (S : CallFix p m c cc nL s args lw_all RX1) (hW : MS D h cZ cI s A H locs g f) {i : Nat} {v : Nat} (hi : i < 60) (hb : v < 2) (hdg : decode cc pc = .ok (.bastore, 1)) (kk : ∀ (H1 : Heap) (locs1 : List Loc), MS D h cZ cI s A H1 locs1 (st2 g 10 i v) f → W p l e R s m args below meth c H1 locs1 cells slots Q (F0 m (pc + 1) ls rest)) : W p l e R s m args below meth c H locs cells slots Q (F0 m pc ls (.int (nI v) :: .int (nI i) :: .ref (h 10) :: rest)) := by
  refine va_zast (D := D) S.1 S.2.1 hW.1 hW.2.1 hW.2.2.1 hW.2.2.2 9 0 mw_10 rfl (vp_in_nI hi (by decide)) hdg (fun H1 locs1 hP hD hS => ?_)
  rw [nI_clamp (by omega), z_nar hb, gI_st] at hP hD
  exact kk H1 locs1 ⟨hW.1, hP, hD, hS⟩
theorem m_gf_11 (S : CallFix p m c cc nL s args lw_all RX1) (hW : MS D h cZ cI s A H locs g f) (hdg : decode cc pc = .ok (.getfield 38, 3)) (kk : W p l e R s m args below meth c H locs cells slots Q (F0 m (pc + 3) ls (.ref (h 11) :: rest))) : W p l e R s m args below meth c H locs cells slots Q (F0 m pc ls (.ref (h 0) :: rest)) :=
  va_get (D := D) (ci := 1) (v := .ref (h 11)) (C := RX1) (T := TX1) (N := 13) S.1 S.2.1 S.2.2.2.2 in_X1 S.2.2.2.1 hW.1 hW.2.1 0 mw_0 rfl 11 (by decide) (S.2.2.2.2 _ q171) (fun _ h9 => h9) rfl hdg kk
theorem m_g_11 (S : CallFix p m c cc nL s args lw_all RX1) (hW : MS D h cZ cI s A H locs g f) (h0 : ls[0]? = some (.val (.ref (h 0)))) (hd1 : decode cc pc = .ok (.aload_n 0, 1)) (hd2 : decode cc (pc + 1) = .ok (.getfield 38, 3)) (kk : W p l e R s m args below meth c H locs cells slots Q (F0 m (pc + 4) ls (.ref (h 11) :: rest))) : W p l e R s m args below meth c H locs cells slots Q (F0 m pc ls rest) :=
  lv_aload_n S.1 S.2.1 hd1 rfl h0 (m_gf_11 S hW hd2 kk)
theorem m_ld_11 (S : CallFix p m c cc nL s args lw_all RX1) (hW : MS D h cZ cI s A H locs g f) {i : Nat} {v : Int32} (hi : i < 10) (hv : f 11 i = v) (hdg : decode cc pc = .ok (.iaload, 1)) (kk : W p l e R s m args below meth c H locs cells slots Q (F0 m (pc + 1) ls (.int v :: rest))) : W p l e R s m args below meth c H locs cells slots Q (F0 m pc ls (.int (nI i) :: .ref (h 11) :: rest)) := by
  subst hv
  refine va_iald (D := D) S.1 S.2.1 hW.1 hW.2.1 10 1 mw_11 rfl (vp_in_nI hi (by decide)) hdg ?_
  rw [nI_clamp (by omega)]
  exact kk
theorem m_st_11 (S : CallFix p m c cc nL s args lw_all RX1) (hW : MS D h cZ cI s A H locs g f) {i : Nat} {v : Int32} (hi : i < 10) (hdg : decode cc pc = .ok (.iastore, 1)) (kk : ∀ (H1 : Heap) (locs1 : List Loc), MS D h cZ cI s A H1 locs1 g (st2 f 11 i v) → W p l e R s m args below meth c H1 locs1 cells slots Q (F0 m (pc + 1) ls rest)) : W p l e R s m args below meth c H locs cells slots Q (F0 m pc ls (.int v :: .int (nI i) :: .ref (h 11) :: rest)) := by
  refine va_iast (D := D) S.1 S.2.1 hW.1 hW.2.1 hW.2.2.1 hW.2.2.2 10 1 mw_11 rfl (vp_in_nI hi (by decide)) hdg (fun H1 locs1 hP hD hS => ?_)
  rw [nI_clamp (by omega), fI_st] at hP hD
  exact kk H1 locs1 ⟨hW.1, hP, hD, hS⟩
theorem m_gf_12 (S : CallFix p m c cc nL s args lw_all RX1) (hW : MS D h cZ cI s A H locs g f) (hdg : decode cc pc = .ok (.getfield 41, 3)) (kk : W p l e R s m args below meth c H locs cells slots Q (F0 m (pc + 3) ls (.ref (h 12) :: rest))) : W p l e R s m args below meth c H locs cells slots Q (F0 m pc ls (.ref (h 0) :: rest)) :=
  va_get (D := D) (ci := 1) (v := .ref (h 12)) (C := RX1) (T := TX1) (N := 13) S.1 S.2.1 S.2.2.2.2 in_X1 S.2.2.2.1 hW.1 hW.2.1 0 mw_0 rfl 12 (by decide) (S.2.2.2.2 _ q172) (fun _ h9 => h9) rfl hdg kk
theorem m_g_12 (S : CallFix p m c cc nL s args lw_all RX1) (hW : MS D h cZ cI s A H locs g f) (h0 : ls[0]? = some (.val (.ref (h 0)))) (hd1 : decode cc pc = .ok (.aload_n 0, 1)) (hd2 : decode cc (pc + 1) = .ok (.getfield 41, 3)) (kk : W p l e R s m args below meth c H locs cells slots Q (F0 m (pc + 4) ls (.ref (h 12) :: rest))) : W p l e R s m args below meth c H locs cells slots Q (F0 m pc ls rest) :=
  lv_aload_n S.1 S.2.1 hd1 rfl h0 (m_gf_12 S hW hd2 kk)
theorem m_ld_12 (S : CallFix p m c cc nL s args lw_all RX1) (hW : MS D h cZ cI s A H locs g f) {i : Nat} {v : Int32} (hi : i < 10) (hv : f 12 i = v) (hdg : decode cc pc = .ok (.iaload, 1)) (kk : W p l e R s m args below meth c H locs cells slots Q (F0 m (pc + 1) ls (.int v :: rest))) : W p l e R s m args below meth c H locs cells slots Q (F0 m pc ls (.int (nI i) :: .ref (h 12) :: rest)) := by
  subst hv
  refine va_iald (D := D) S.1 S.2.1 hW.1 hW.2.1 11 1 mw_12 rfl (vp_in_nI hi (by decide)) hdg ?_
  rw [nI_clamp (by omega)]
  exact kk
theorem m_st_12 (S : CallFix p m c cc nL s args lw_all RX1) (hW : MS D h cZ cI s A H locs g f) {i : Nat} {v : Int32} (hi : i < 10) (hdg : decode cc pc = .ok (.iastore, 1)) (kk : ∀ (H1 : Heap) (locs1 : List Loc), MS D h cZ cI s A H1 locs1 g (st2 f 12 i v) → W p l e R s m args below meth c H1 locs1 cells slots Q (F0 m (pc + 1) ls rest)) : W p l e R s m args below meth c H locs cells slots Q (F0 m pc ls (.int v :: .int (nI i) :: .ref (h 12) :: rest)) := by
  refine va_iast (D := D) S.1 S.2.1 hW.1 hW.2.1 hW.2.2.1 hW.2.2.2 11 1 mw_12 rfl (vp_in_nI hi (by decide)) hdg (fun H1 locs1 hP hD hS => ?_)
  rw [nI_clamp (by omega), fI_st] at hP hD
  exact kk H1 locs1 ⟨hW.1, hP, hD, hS⟩
theorem m_blind {av : List Value} : FrameBlind (mPc D h cZ cI g f av) := fun a U g9 mk q => by
  obtain ⟨q0, qP, qK, qD⟩ := q
  exact ⟨q0, qP, va_K.moved (u := U) (U := U.calling g9 mk a) (Vm.Alike.refl U.vm) qK, qD⟩
theorem m_calli (S : CallFix p m c cc nL s args lw_all own) (hW : MS D h cZ cI s A H locs g f) {y : MethodName} {b : ByteArray} {maxL n index : Nat} {ret : Option FieldType} {rm : Room} {As st0 : List Value} {post : Int32 → zU → Prop} (hM : Met l y (ws_ y b maxL ret) rm (mPc D h cZ cI g f As) (va_Qi post (mB D h cZ cI) (mA h)) 0 0 (mA h)) (cw : CallW R s args own RX1 index y b maxL ret (ws_ y b maxL ret) rm 0 0 n) (hn : As.length = n) (hls : ls.size = nL) (hst : st0 = As.reverse ++ .ref (h 0) :: rest) (hroom : (rest.map fun v => v.category).sum ≤ 8) (hf : cells ≤ R.cells ∧ slots ≤ R.slots) (hdg : decode cc pc = .ok (.invokevirtual index, 3)) (kk : ∀ (r : Int32) (g1 : Nat → Nat → Nat) (f1 : Nat → Nat → Int32) (H1 : Heap) (locs1 : List Loc), post r (g1, f1) → MS D h cZ cI s A H1 locs1 g1 f1 → H.size ≤ H1.size → (∀ q : Nat, q < H.size → ¬ mA h q → H1[q]? = H[q]?) → W p l e R s m args below meth c H1 locs1 cells slots Q (F0 m (pc + 3) ls (.int r :: rest))) : W p l e R s m args below meth c H locs cells slots Q (F0 m pc ls st0) := by
  subst hst
  have hA := mS_A hW
  refine va_calli (A0 := A) (A1 := mA h) (H0 := s.heap) (va_runV (b := h 0) (As := As) (rest := rest) S hM cw ⟨m_blind, va_recv hW.1 hW.2.1 (ci := 1) (q0 := 0) rfl mw_0, fun U hU hM9 => ⟨rfl, by rw [hU]; exact hW.2.1, va_K.moved hM9.alike hW.1, mw_D hW.2.2.1 (fun _ z => z)⟩⟩ rfl hn hls rfl (lv_room hroom) hdg hf) hW.2.2.2 (fun q _ z => hA q z) hA (fun r u t H1 locs1 ht hvm hp hB hz hk hS => ?_)
  exact kk r u.1 u.2 H1 locs1 hp ⟨hW.1, by rw [← ht]; exact hB.1, mw_D hB.2.2 hA, hS⟩ hz hk
theorem m_callv (S : CallFix p m c cc nL s args lw_all own) (hW : MS D h cZ cI s A H locs g f) {y : MethodName} {b : ByteArray} {maxL n index : Nat} {ret : Option FieldType} {rm : Room} {As st0 : List Value} {post : zU → Prop} (hM : Met l y (ws_ y b maxL ret) rm (mPc D h cZ cI g f As) (va_Qv post (mB D h cZ cI) (mA h)) 0 0 (mA h)) (cw : CallW R s args own RX1 index y b maxL ret (ws_ y b maxL ret) rm 0 0 n) (hn : As.length = n) (hls : ls.size = nL) (hst : st0 = As.reverse ++ .ref (h 0) :: rest) (hroom : (rest.map fun v => v.category).sum ≤ 8) (hf : cells ≤ R.cells ∧ slots ≤ R.slots) (hdg : decode cc pc = .ok (.invokevirtual index, 3)) (kk : ∀ (g1 : Nat → Nat → Nat) (f1 : Nat → Nat → Int32) (H1 : Heap) (locs1 : List Loc), post (g1, f1) → MS D h cZ cI s A H1 locs1 g1 f1 → H.size ≤ H1.size → (∀ q : Nat, q < H.size → ¬ mA h q → H1[q]? = H[q]?) → W p l e R s m args below meth c H1 locs1 cells slots Q (F0 m (pc + 3) ls rest)) : W p l e R s m args below meth c H locs cells slots Q (F0 m pc ls st0) := by
  subst hst
  have hA := mS_A hW
  refine va_callv (A0 := A) (A1 := mA h) (H0 := s.heap) (va_runV (b := h 0) (As := As) (rest := rest) S hM cw ⟨m_blind, va_recv hW.1 hW.2.1 (ci := 1) (q0 := 0) rfl mw_0, fun U hU hM9 => ⟨rfl, by rw [hU]; exact hW.2.1, va_K.moved hM9.alike hW.1, mw_D hW.2.2.1 (fun _ z => z)⟩⟩ rfl hn hls rfl (lv_room hroom) hdg hf) hW.2.2.2 (fun q _ z => hA q z) hA (fun u t H1 locs1 ht hvm hp hB hz hk hS => ?_)
  exact kk u.1 u.2 H1 locs1 hp ⟨hW.1, by rw [← ht]; exact hB.1, mw_D hB.2.2 hA, hS⟩ hz hk
theorem m_calls (S : CallFix p m c cc nL s args lw_all own) (hW : MS D h cZ cI s A H locs g f) {y : MethodName} {b : ByteArray} {maxL n index : Nat} {ret : Option FieldType} {rm : Room} {As st0 : List Value} {post : Int32 → Prop} (hM : Met l y (ws_ y b maxL ret) rm (va_Pc As (fun _ => True)) (va_Qi (fun r (_ : Unit) => post r) (fun _ _ => True) (fun _ => False)) 0 0 (fun _ => False)) (cw : CallB R s args own index y b maxL ret (ws_ y b maxL ret) rm 0 0 n ∧ (Cond.static y).before args s = true) (hn : As.length = n) (hls : ls.size = nL) (hst : st0 = As.reverse ++ rest) (hroom : (rest.map fun v => v.category).sum ≤ 8) (hf : cells ≤ R.cells ∧ slots ≤ R.slots) (hdg : decode cc pc = .ok (.invokestatic index, 3)) (kk : ∀ (r : Int32) (H1 : Heap) (locs1 : List Loc), post r → MS D h cZ cI s A H1 locs1 g f → W p l e R s m args below meth c H1 locs1 cells slots Q (F0 m (pc + 3) ls (.int r :: rest))) : W p l e R s m args below meth c H locs cells slots Q (F0 m pc ls st0) := by
  subst hst
  refine va_calli (A0 := A) (A1 := fun _ => False) (H0 := s.heap) (va_runS (As := As) (rest := rest) S hM cw ⟨fun a U g9 mk q => ⟨q.1, trivial⟩, fun U hU hM9 => ⟨rfl, trivial⟩⟩ rfl hn hls rfl (lv_room hroom) hdg hf) hW.2.2.2 (fun q _ z => z.elim) (fun q z => z.elim) (fun r u t H1 locs1 ht hvm hp hB hz hk hS => ?_)
  exact kk r H1 locs1 hp ⟨hW.1, hW.2.1.kept (fun k q hq => hk q.1 (hW.2.1 k q hq).lt (fun z => z)), hW.2.2.1, hS⟩
theorem m_callr (S : CallFix p m c cc nL s args lw_all own) (hW : MS D h cZ cI s A H locs g f) {y : MethodName} {b : ByteArray} {maxL n index : Nat} {ret : Option FieldType} {rm : Room} {As st0 : List Value} {pr : Int32 → Prop} (hM : Met l y (ws_ y b maxL ret) rm (mPc D h cZ cI g f As) (va_Qi (fun r (u : zU) => pr r ∧ u = (g, f)) (mB D h cZ cI) (mA h)) 0 0 (mA h)) (cw : CallW R s args own RX1 index y b maxL ret (ws_ y b maxL ret) rm 0 0 n) (hn : As.length = n) (hls : ls.size = nL) (hst : st0 = As.reverse ++ .ref (h 0) :: rest) (hroom : (rest.map fun v => v.category).sum ≤ 8) (hf : cells ≤ R.cells ∧ slots ≤ R.slots) (hdg : decode cc pc = .ok (.invokevirtual index, 3)) (kk : ∀ (r : Int32) (H1 : Heap) (locs1 : List Loc), pr r → MS D h cZ cI s A H1 locs1 g f → W p l e R s m args below meth c H1 locs1 cells slots Q (F0 m (pc + 3) ls (.int r :: rest))) : W p l e R s m args below meth c H locs cells slots Q (F0 m pc ls st0) := by
  refine m_calli S hW hM cw hn hls hst hroom hf hdg (fun r g1 f1 H1 locs1 hp hW1 _ _ => ?_)
  have e := hp.2
  have e1 : g1 = g := congrArg Prod.fst e
  have e2 : f1 = f := congrArg Prod.snd e
  rw [e1, e2] at hW1
  exact kk r H1 locs1 hp.1 hW1
theorem m_callu (S : CallFix p m c cc nL s args lw_all own) (hW : MS D h cZ cI s A H locs g f) {y : MethodName} {b : ByteArray} {maxL n index : Nat} {ret : Option FieldType} {rm : Room} {As st0 : List Value} {g2 : Nat → Nat → Nat} {f2 : Nat → Nat → Int32} (hM : Met l y (ws_ y b maxL ret) rm (mPc D h cZ cI g f As) (va_Qv (fun (u : zU) => u = (g2, f2)) (mB D h cZ cI) (mA h)) 0 0 (mA h)) (cw : CallW R s args own RX1 index y b maxL ret (ws_ y b maxL ret) rm 0 0 n) (hn : As.length = n) (hls : ls.size = nL) (hst : st0 = As.reverse ++ .ref (h 0) :: rest) (hroom : (rest.map fun v => v.category).sum ≤ 8) (hf : cells ≤ R.cells ∧ slots ≤ R.slots) (hdg : decode cc pc = .ok (.invokevirtual index, 3)) (kk : ∀ (H1 : Heap) (locs1 : List Loc), MS D h cZ cI s A H1 locs1 g2 f2 → W p l e R s m args below meth c H1 locs1 cells slots Q (F0 m (pc + 3) ls rest)) : W p l e R s m args below meth c H locs cells slots Q (F0 m pc ls st0) := by
  refine m_callv S hW hM cw hn hls hst hroom hf hdg (fun g1 f1 H1 locs1 hp hW1 _ _ => ?_)
  have e1 : g1 = g2 := congrArg Prod.fst hp
  have e2 : f1 = f2 := congrArg Prod.snd hp
  rw [e1, e2] at hW1
  exact kk H1 locs1 hW1
theorem m_metI (l : Launch) {y : MethodName} {rm : Room} {av : List Value} {post : Int32 → zU → Prop} (hy : plainName y.cls = true) (hcls : y.cls = RX1) (hlen : (lg_sl (.ref (h 0) :: av)).length ≤ nL) (hrc : rm.cells = 0 ∧ rm.slots = 0) (body : ∀ (p : Program) (e : Env) (s : State) (m : MethodId) (args : Array Value) (below : List Frame) (meth : Method) (c : Code) (R : Room) (Q : State → Prop), R = rm → CallFix p m c cc nL s args lw_all RX1 → (∀ (v : Int32) (g1 : Nat → Nat → Nat) (f1 : Nat → Nat → Int32) (H : Heap) (locs : List Loc) (ls : Array Slot) (pc : Nat), MS D h cZ cI s (mA h) H locs g1 f1 → post v (g1, f1) → decode cc pc = .ok (.ireturn, 1) → W p l e R s m args below meth c H locs 0 0 Q (F0 m pc ls [.int v])) → ∀ ls : Array Slot, lv_has ls nL (lv_args 0 (.ref (h 0) :: av)) → MS D h cZ cI s (mA h) s.heap [] g f → W p l e R s m args below meth c s.heap [] 0 0 Q (F0 m 0 ls [])) : Met l y (ws_ y cc nL (some .int)) rm (mPc D h cZ cI g f av) (va_Qi post (mB D h cZ cI) (mA h)) 0 0 (mA h) := by
  refine Met.ofW (cc := cc) (maxL := nL) (ret := (some .int)) hy rfl ?_
  intro p e s m args below meth c s₁ B hml hv
  obtain ⟨rfl, hP, hK, hD⟩ := hv
  have hts := atoms_spec (ws := ws_ y cc nL (some .int)) B.pre
  have hts : ∀ w ∈ lw_all, w.before _ s = true := fun w h => hts w (List.mem_cons_of_mem _ h)
  have hown : s.vm.findClass RX1 = some m.cls := by rw [← hcls]; exact findClass_of_methodNamed B.named
  have hlocks := B.notSynchronized
  have hl := lv_entry (.ref (h 0) :: av) (n := nL) hlen
  rw [lg_entry_eq]
  refine body p e s m _ below meth c _ _ rfl ⟨B.exec, B.bytes, hml, hown, hts⟩ ?_ _ hl ⟨hK, hP, hD, va_S.rf⟩
  intro v g1 f1 H locs ls pc hW hp hdg
  exact W.iret (v := v) B.exec B.bytes B.returns (fun t ht hM9 => ⟨⟨v, (g1, f1), rfl, hp, by rw [ht]; exact hW.2.1, va_K.moved hM9.alike hW.1, hW.2.2.1⟩, hW.2.2.2.F ht⟩) hW.2.2.2.2.2 hdg
theorem m_metZ (l : Launch) {y : MethodName} {rm : Room} {av : List Value} {post : Int32 → zU → Prop} (hy : plainName y.cls = true) (hcls : y.cls = RX1) (hlen : (lg_sl (.ref (h 0) :: av)).length ≤ nL) (hrc : rm.cells = 0 ∧ rm.slots = 0) (body : ∀ (p : Program) (e : Env) (s : State) (m : MethodId) (args : Array Value) (below : List Frame) (meth : Method) (c : Code) (R : Room) (Q : State → Prop), R = rm → CallFix p m c cc nL s args lw_all RX1 → (∀ (v : Int32) (g1 : Nat → Nat → Nat) (f1 : Nat → Nat → Int32) (H : Heap) (locs : List Loc) (ls : Array Slot) (pc : Nat), MS D h cZ cI s (mA h) H locs g1 f1 → (v = 0 ∨ v = 1) → post v (g1, f1) → decode cc pc = .ok (.ireturn, 1) → W p l e R s m args below meth c H locs 0 0 Q (F0 m pc ls [.int v])) → ∀ ls : Array Slot, lv_has ls nL (lv_args 0 (.ref (h 0) :: av)) → MS D h cZ cI s (mA h) s.heap [] g f → W p l e R s m args below meth c s.heap [] 0 0 Q (F0 m 0 ls [])) : Met l y (ws_ y cc nL (some .boolean)) rm (mPc D h cZ cI g f av) (va_Qi post (mB D h cZ cI) (mA h)) 0 0 (mA h) := by
  refine Met.ofW (cc := cc) (maxL := nL) (ret := (some .boolean)) hy rfl ?_
  intro p e s m args below meth c s₁ B hml hv
  obtain ⟨rfl, hP, hK, hD⟩ := hv
  have hts := atoms_spec (ws := ws_ y cc nL (some .boolean)) B.pre
  have hts : ∀ w ∈ lw_all, w.before _ s = true := fun w h => hts w (List.mem_cons_of_mem _ h)
  have hown : s.vm.findClass RX1 = some m.cls := by rw [← hcls]; exact findClass_of_methodNamed B.named
  have hlocks := B.notSynchronized
  have hl := lv_entry (.ref (h 0) :: av) (n := nL) hlen
  rw [lg_entry_eq]
  refine body p e s m _ below meth c _ _ rfl ⟨B.exec, B.bytes, hml, hown, hts⟩ ?_ _ hl ⟨hK, hP, hD, va_S.rf⟩
  intro v g1 f1 H locs ls pc hW h01 hp hdg
  exact W.zret (v := v) B.exec B.bytes B.returns (z_narr h01) (fun t ht hM9 => ⟨⟨v, (g1, f1), rfl, hp, by rw [ht]; exact hW.2.1, va_K.moved hM9.alike hW.1, hW.2.2.1⟩, hW.2.2.2.F ht⟩) hW.2.2.2.2.2 hdg
theorem m_metV (l : Launch) {y : MethodName} {rm : Room} {av : List Value} {post : zU → Prop} (hy : plainName y.cls = true) (hcls : y.cls = RX1) (hlen : (lg_sl (.ref (h 0) :: av)).length ≤ nL) (hrc : rm.cells = 0 ∧ rm.slots = 0) (body : ∀ (p : Program) (e : Env) (s : State) (m : MethodId) (args : Array Value) (below : List Frame) (meth : Method) (c : Code) (R : Room) (Q : State → Prop), R = rm → CallFix p m c cc nL s args lw_all RX1 → (∀ (g1 : Nat → Nat → Nat) (f1 : Nat → Nat → Int32) (H : Heap) (locs : List Loc) (ls : Array Slot) (pc : Nat), MS D h cZ cI s (mA h) H locs g1 f1 → post (g1, f1) → decode cc pc = .ok (.return_, 1) → W p l e R s m args below meth c H locs 0 0 Q (F0 m pc ls [])) → ∀ ls : Array Slot, lv_has ls nL (lv_args 0 (.ref (h 0) :: av)) → MS D h cZ cI s (mA h) s.heap [] g f → W p l e R s m args below meth c s.heap [] 0 0 Q (F0 m 0 ls [])) : Met l y (ws_ y cc nL none) rm (mPc D h cZ cI g f av) (va_Qv post (mB D h cZ cI) (mA h)) 0 0 (mA h) := by
  refine Met.ofW (cc := cc) (maxL := nL) (ret := none) hy rfl ?_
  intro p e s m args below meth c s₁ B hml hv
  obtain ⟨rfl, hP, hK, hD⟩ := hv
  have hts := atoms_spec (ws := ws_ y cc nL none) B.pre
  have hts : ∀ w ∈ lw_all, w.before _ s = true := fun w h => hts w (List.mem_cons_of_mem _ h)
  have hown : s.vm.findClass RX1 = some m.cls := by rw [← hcls]; exact findClass_of_methodNamed B.named
  have hlocks := B.notSynchronized
  have hl := lv_entry (.ref (h 0) :: av) (n := nL) hlen
  rw [lg_entry_eq]
  refine body p e s m _ below meth c _ _ rfl ⟨B.exec, B.bytes, hml, hown, hts⟩ ?_ _ hl ⟨hK, hP, hD, va_S.rf⟩
  intro g1 f1 H locs ls pc hW hp hdg
  exact W.vret B.exec B.bytes B.returns (fun t ht hM9 => ⟨⟨(g1, f1), rfl, hp, by rw [ht]; exact hW.2.1, va_K.moved hM9.alike hW.1, hW.2.2.1⟩, hW.2.2.2.F ht⟩) hW.2.2.2.2.2 hdg
end MR
section SR
variable {p : Program} {l : Launch} {e : Env} {R : Room} {s : State} {m : MethodId} {args : Array Value} {below : List Frame} {meth : Method} {c : Code} {H : Heap} {locs : List Loc} {cells slots : Nat} {Q : State → Prop}
variable {cc : ByteArray} {nL pc : Nat} {ls : Array Slot} {rest : List Value} {D : va_G} {h : Nat → Nat} {cZ cI : ClassId} {A : Nat → Prop} {g : Nat → Nat → Nat} {f : Nat → Nat → Int32} {own : String}
theorem s_metZ (l : Launch) {y : MethodName} {rm : Room} {av : List Value} {post : Int32 → Prop} (hy : plainName y.cls = true) (hcls : y.cls = own) (hlen : (lg_sl av).length ≤ nL) (body : ∀ (p : Program) (e : Env) (s : State) (m : MethodId) (args : Array Value) (below : List Frame) (meth : Method) (c : Code) (Q : State → Prop), CallFix p m c cc nL s args lw_all own → (∀ (v : Int32) (ls : Array Slot) (pc : Nat), (v = 0 ∨ v = 1) → post v → decode cc pc = .ok (.ireturn, 1) → W p l e rm s m args below meth c s.heap [] 0 0 Q (F0 m pc ls [.int v])) → ∀ ls : Array Slot, lv_has ls nL (lv_args 0 av) → W p l e rm s m args below meth c s.heap [] 0 0 Q (F0 m 0 ls [])) : Met l y (ws_ y cc nL (some .boolean)) rm (va_Pc av (fun _ => True)) (va_Qi (fun r (_ : Unit) => post r) (fun _ _ => True) (fun _ => False)) 0 0 (fun _ => False) := by
  refine Met.ofW (cc := cc) (maxL := nL) (ret := (some .boolean)) hy rfl ?_
  intro p e s m args below meth c s₁ B hml hv
  obtain ⟨rfl, -⟩ := hv
  have hts := atoms_spec (ws := ws_ y cc nL (some .boolean)) B.pre
  have hts : ∀ w ∈ lw_all, w.before _ s = true := fun w h => hts w (List.mem_cons_of_mem _ h)
  have hown : s.vm.findClass own = some m.cls := by rw [← hcls]; exact findClass_of_methodNamed B.named
  have hlocks := B.notSynchronized
  have hl := lv_entry av (n := nL) hlen
  rw [lg_entry_eq]
  refine body p e s m _ below meth c _ ⟨B.exec, B.bytes, hml, hown, hts⟩ ?_ _ hl
  intro v ls pc h01 hp hdg
  have hS : va_S (fun _ => False) s.heap s.heap [] := va_S.rf
  exact W.zret (v := v) B.exec B.bytes B.returns (z_narr h01) (fun t ht hM9 => ⟨⟨v, (), rfl, hp, trivial⟩, hS.F ht⟩) hS.2.2 hdg
end SR
abbrev rmX0_move : Room := { frames := 4, cells := 0, slots := 0, locals := 99 }
abbrev wsX0_move : List Cond := ws_ yX0_move cX0_move 4 (some .int)
theorem clX0_move {R : Room} {s : State} {args : Array Value} (hts : ∀ w ∈ lw_all, w.before args s = true) (hR : 4 + 1 ≤ R.frames ∧ 8 + (4 + 11) + 99 ≤ R.locals) : CallW R s args "MoveTreeLaw" RX0 13 yX0_move cX0_move 4 (some .int) wsX0_move rmX0_move 0 0 3 := cwV 3 hts (lw_V q80 q81 q82 q13 q83) rfl rfl rfl (by decide +kernel) hR
abbrev rmX0_name : Room := { frames := 4, cells := 0, slots := 0, locals := 99 }
abbrev wsX0_name : List Cond := ws_ yX0_name cX0_name 4 (some .int)
theorem clX0_name {R : Room} {s : State} {args : Array Value} (hts : ∀ w ∈ lw_all, w.before args s = true) (hR : 4 + 1 ≤ R.frames ∧ 8 + (4 + 11) + 99 ≤ R.locals) : CallW R s args "MoveTreeLaw" RX0 18 yX0_name cX0_name 4 (some .int) wsX0_name rmX0_name 0 0 3 := cwV 3 hts (lw_V q111 q112 q113 q13 q114) rfl rfl rfl (by decide +kernel) hR
abbrev rmX0_deliver : Room := { frames := 3, cells := 0, slots := 0, locals := 74 }
abbrev wsX0_deliver : List Cond := ws_ yX0_deliver cX0_deliver 4 (some .int)
theorem clX0_deliver {R : Room} {s : State} {args : Array Value} (hts : ∀ w ∈ lw_all, w.before args s = true) (hR : 3 + 1 ≤ R.frames ∧ 8 + (4 + 11) + 74 ≤ R.locals) : CallW R s args "MoveTreeLaw" RX0 22 yX0_deliver cX0_deliver 4 (some .int) wsX0_deliver rmX0_deliver 0 0 2 := cwV 2 hts (lw_V q115 q116 q117 q13 q118) rfl rfl rfl (by decide +kernel) hR
abbrev rmX0_sync : Room := { frames := 3, cells := 0, slots := 0, locals := 74 }
abbrev wsX0_sync : List Cond := ws_ yX0_sync cX0_sync 5 (some .int)
theorem clX0_sync {R : Room} {s : State} {args : Array Value} (hts : ∀ w ∈ lw_all, w.before args s = true) (hR : 3 + 1 ≤ R.frames ∧ 8 + (5 + 11) + 74 ≤ R.locals) : CallW R s args "MoveTreeLaw" RX0 27 yX0_sync cX0_sync 5 (some .int) wsX0_sync rmX0_sync 0 0 2 := cwV 2 hts (lw_V q119 q120 q121 q13 q122) rfl rfl rfl (by decide +kernel) hR
abbrev rmX0_parent : Room := { frames := 1, cells := 0, slots := 0, locals := 20 }
abbrev wsX0_parent : List Cond := ws_ yX0_parent cX0_parent 3 (some .int)
theorem clX0_parent {R : Room} {s : State} {args : Array Value} (hts : ∀ w ∈ lw_all, w.before args s = true) (hR : 1 + 1 ≤ R.frames ∧ 8 + (3 + 11) + 20 ≤ R.locals) : CallW R s args "MoveTreeLaw" RX0 31 yX0_parent cX0_parent 3 (some .int) wsX0_parent rmX0_parent 0 0 2 := cwV 2 hts (lw_V q127 q128 q129 q13 q130) rfl rfl rfl (by decide +kernel) hR
abbrev rmX0_label : Room := { frames := 1, cells := 0, slots := 0, locals := 20 }
abbrev wsX0_label : List Cond := ws_ yX0_label cX0_label 3 (some .int)
theorem clX0_label {R : Room} {s : State} {args : Array Value} (hts : ∀ w ∈ lw_all, w.before args s = true) (hR : 1 + 1 ≤ R.frames ∧ 8 + (3 + 11) + 20 ≤ R.locals) : CallW R s args "MoveTreeLaw" RX0 35 yX0_label cX0_label 3 (some .int) wsX0_label rmX0_label 0 0 2 := cwV 2 hts (lw_V q134 q135 q136 q13 q137) rfl rfl rfl (by decide +kernel) hR
abbrev rmX0_children : Room := { frames := 1, cells := 0, slots := 0, locals := 20 }
abbrev wsX0_children : List Cond := ws_ yX0_children cX0_children 5 (some .int)
theorem clX0_children {R : Room} {s : State} {args : Array Value} (hts : ∀ w ∈ lw_all, w.before args s = true) (hR : 1 + 1 ≤ R.frames ∧ 8 + (5 + 11) + 20 ≤ R.locals) : CallW R s args "MoveTreeLaw" RX0 39 yX0_children cX0_children 5 (some .int) wsX0_children rmX0_children 0 0 2 := cwV 2 hts (lw_V q138 q139 q140 q13 q141) rfl rfl rfl (by decide +kernel) hR
abbrev rmX0_depth : Room := { frames := 1, cells := 0, slots := 0, locals := 20 }
abbrev wsX0_depth : List Cond := ws_ yX0_depth cX0_depth 6 (some .int)
theorem clX0_depth {R : Room} {s : State} {args : Array Value} (hts : ∀ w ∈ lw_all, w.before args s = true) (hR : 1 + 1 ≤ R.frames ∧ 8 + (6 + 11) + 20 ≤ R.locals) : CallW R s args "MoveTreeLaw" RX0 43 yX0_depth cX0_depth 6 (some .int) wsX0_depth rmX0_depth 0 0 2 := cwV 2 hts (lw_V q142 q143 q144 q13 q145) rfl rfl rfl (by decide +kernel) hR
abbrev rmX0_skipped : Room := { frames := 1, cells := 0, slots := 0, locals := 20 }
abbrev wsX0_skipped : List Cond := ws_ yX0_skipped cX0_skipped 2 (some .int)
theorem clX0_skipped {R : Room} {s : State} {args : Array Value} (hts : ∀ w ∈ lw_all, w.before args s = true) (hR : 1 + 1 ≤ R.frames ∧ 8 + (2 + 11) + 20 ≤ R.locals) : CallW R s args "MoveTreeLaw" RX0 47 yX0_skipped cX0_skipped 2 (some .int) wsX0_skipped rmX0_skipped 0 0 1 := cwV 1 hts (lw_V q146 q147 q148 q13 q149) rfl rfl rfl (by decide +kernel) hR
abbrev rmX0_alike : Room := { frames := 1, cells := 0, slots := 0, locals := 20 }
abbrev wsX0_alike : List Cond := ws_ yX0_alike cX0_alike 4 (some .int)
theorem clX0_alike {R : Room} {s : State} {args : Array Value} (hts : ∀ w ∈ lw_all, w.before args s = true) (hR : 1 + 1 ≤ R.frames ∧ 8 + (4 + 11) + 20 ≤ R.locals) : CallW R s args "MoveTreeLaw" RX0 52 yX0_alike cX0_alike 4 (some .int) wsX0_alike rmX0_alike 0 0 2 := cwV 2 hts (lw_V q150 q151 q152 q13 q153) rfl rfl rfl (by decide +kernel) hR
abbrev rmX0_isReplica : Room := { frames := 0, cells := 0, slots := 0, locals := 0 }
abbrev wsX0_isReplica : List Cond := ws_ yX0_isReplica cX0_isReplica 1 (some .boolean)
theorem cwX0_isReplica {R : Room} {s : State} {args : Array Value} (hts : ∀ w ∈ lw_all, w.before args s = true) (hR : 0 + 1 ≤ R.frames ∧ 8 + (1 + 11) + 0 ≤ R.locals) : CallB R s args RX0 62 yX0_isReplica cX0_isReplica 1 (some .boolean) wsX0_isReplica rmX0_isReplica 0 0 1 ∧ (Cond.static yX0_isReplica).before args s = true := va_cwS 1 hts (lw_S q84 q85 q13 q86) rfl rfl rfl (by decide +kernel) hR
abbrev rmX0_isNode : Room := { frames := 0, cells := 0, slots := 0, locals := 0 }
abbrev wsX0_isNode : List Cond := ws_ yX0_isNode cX0_isNode 1 (some .boolean)
theorem cwX0_isNode {R : Room} {s : State} {args : Array Value} (hts : ∀ w ∈ lw_all, w.before args s = true) (hR : 0 + 1 ≤ R.frames ∧ 8 + (1 + 11) + 0 ≤ R.locals) : CallB R s args RX0 82 yX0_isNode cX0_isNode 1 (some .boolean) wsX0_isNode rmX0_isNode 0 0 1 ∧ (Cond.static yX0_isNode).before args s = true := va_cwS 1 hts (lw_S q131 q132 q13 q133) rfl rfl rfl (by decide +kernel) hR
abbrev rmX0_make : Room := { frames := 3, cells := 0, slots := 0, locals := 74 }
abbrev wsX0_make : List Cond := ws_ yX0_make cX0_make 6 none
theorem cwX0_make {R : Room} {s : State} {args : Array Value} (hts : ∀ w ∈ lw_all, w.before args s = true) (hR : 3 + 1 ≤ R.frames ∧ 8 + (6 + 11) + 74 ≤ R.locals) : CallW R s args RX0 RX0 70 yX0_make cX0_make 6 none wsX0_make rmX0_make 0 0 4 := cwV 4 hts (lw_V q87 q89 qs0 q13 q90) rfl rfl rfl (by decide +kernel) hR
abbrev rmX0_isKnown : Room := { frames := 0, cells := 0, slots := 0, locals := 0 }
abbrev wsX0_isKnown : List Cond := ws_ yX0_isKnown cX0_isKnown 3 (some .boolean)
theorem cwX0_isKnown {R : Room} {s : State} {args : Array Value} (hts : ∀ w ∈ lw_all, w.before args s = true) (hR : 0 + 1 ≤ R.frames ∧ 8 + (3 + 11) + 0 ≤ R.locals) : CallW R s args RX0 RX0 78 yX0_isKnown cX0_isKnown 3 (some .boolean) wsX0_isKnown rmX0_isKnown 0 0 2 := cwV 2 hts (lw_V q123 q125 qs6 q13 q126) rfl rfl rfl (by decide +kernel) hR
abbrev rmX0_learn : Room := { frames := 2, cells := 0, slots := 0, locals := 50 }
abbrev wsX0_learn : List Cond := ws_ yX0_learn cX0_learn 5 none
theorem cwX0_learn {R : Room} {s : State} {args : Array Value} (hts : ∀ w ∈ lw_all, w.before args s = true) (hR : 2 + 1 ≤ R.frames ∧ 8 + (5 + 11) + 50 ≤ R.locals) : CallW R s args RX0 RX0 74 yX0_learn cX0_learn 5 none wsX0_learn rmX0_learn 0 0 2 := cwV 2 hts (lw_V q91 q93 qs1 q13 q94) rfl rfl rfl (by decide +kernel) hR
abbrev rmX0_isEarlier : Room := { frames := 0, cells := 0, slots := 0, locals := 0 }
abbrev wsX0_isEarlier : List Cond := ws_ yX0_isEarlier cX0_isEarlier 3 (some .boolean)
theorem cwX0_isEarlier {R : Room} {s : State} {args : Array Value} (hts : ∀ w ∈ lw_all, w.before args s = true) (hR : 0 + 1 ≤ R.frames ∧ 8 + (3 + 11) + 0 ≤ R.locals) : CallW R s args RX0 RX0 85 yX0_isEarlier cX0_isEarlier 3 (some .boolean) wsX0_isEarlier rmX0_isEarlier 0 0 2 := cwV 2 hts (lw_V q95 q97 qs2 q13 q98) rfl rfl rfl (by decide +kernel) hR
abbrev rmX0_carryOut : Room := { frames := 1, cells := 0, slots := 0, locals := 25 }
abbrev wsX0_carryOut : List Cond := ws_ yX0_carryOut cX0_carryOut 6 none
theorem cwX0_carryOut {R : Room} {s : State} {args : Array Value} (hts : ∀ w ∈ lw_all, w.before args s = true) (hR : 1 + 1 ≤ R.frames ∧ 8 + (6 + 11) + 25 ≤ R.locals) : CallW R s args RX0 RX0 91 yX0_carryOut cX0_carryOut 6 none wsX0_carryOut rmX0_carryOut 0 0 2 := cwV 2 hts (lw_V q103 q105 qs4 q13 q106) rfl rfl rfl (by decide +kernel) hR
abbrev rmX0_undo : Room := { frames := 0, cells := 0, slots := 0, locals := 0 }
abbrev wsX0_undo : List Cond := ws_ yX0_undo cX0_undo 6 none
theorem cwX0_undo {R : Room} {s : State} {args : Array Value} (hts : ∀ w ∈ lw_all, w.before args s = true) (hR : 0 + 1 ≤ R.frames ∧ 8 + (6 + 11) + 0 ≤ R.locals) : CallW R s args RX0 RX0 88 yX0_undo cX0_undo 6 none wsX0_undo rmX0_undo 0 0 2 := cwV 2 hts (lw_V q99 q101 qs3 q13 q102) rfl rfl rfl (by decide +kernel) hR
abbrev rmX0_leadsUpTo : Room := { frames := 0, cells := 0, slots := 0, locals := 0 }
abbrev wsX0_leadsUpTo : List Cond := ws_ yX0_leadsUpTo cX0_leadsUpTo 6 (some .boolean)
theorem cwX0_leadsUpTo {R : Room} {s : State} {args : Array Value} (hts : ∀ w ∈ lw_all, w.before args s = true) (hR : 0 + 1 ≤ R.frames ∧ 8 + (6 + 11) + 0 ≤ R.locals) : CallW R s args RX0 RX0 94 yX0_leadsUpTo cX0_leadsUpTo 6 (some .boolean) wsX0_leadsUpTo rmX0_leadsUpTo 0 0 3 := cwV 3 hts (lw_V q107 q109 qs5 q13 q110) rfl rfl rfl (by decide +kernel) hR
abbrev rmX1_bad : Room := { frames := 0, cells := 0, slots := 0, locals := 0 }
abbrev wsX1_bad : List Cond := ws_ yX1_bad cX1_bad 1 (some .boolean)
theorem cwX1_bad {R : Room} {s : State} {args : Array Value} (hts : ∀ w ∈ lw_all, w.before args s = true) (hR : 0 + 1 ≤ R.frames ∧ 8 + (1 + 11) + 0 ≤ R.locals) : CallB R s args RX1 62 yX1_bad cX1_bad 1 (some .boolean) wsX1_bad rmX1_bad 0 0 1 ∧ (Cond.static yX1_bad).before args s = true := va_cwS 1 hts (lw_S q204 q205 q14 q206) rfl rfl rfl (by decide +kernel) hR
abbrev rmX1_badNode : Room := { frames := 0, cells := 0, slots := 0, locals := 0 }
abbrev wsX1_badNode : List Cond := ws_ yX1_badNode cX1_badNode 1 (some .boolean)
theorem cwX1_badNode {R : Room} {s : State} {args : Array Value} (hts : ∀ w ∈ lw_all, w.before args s = true) (hR : 0 + 1 ≤ R.frames ∧ 8 + (1 + 11) + 0 ≤ R.locals) : CallB R s args RX1 66 yX1_badNode cX1_badNode 1 (some .boolean) wsX1_badNode rmX1_badNode 0 0 1 ∧ (Cond.static yX1_badNode).before args s = true := va_cwS 1 hts (lw_S q207 q208 q14 q209) rfl rfl rfl (by decide +kernel) hR
abbrev rmX1_make : Room := { frames := 0, cells := 0, slots := 0, locals := 0 }
abbrev wsX1_make : List Cond := ws_ yX1_make cX1_make 7 (some .int)
theorem cwX1_make {R : Room} {s : State} {args : Array Value} (hts : ∀ w ∈ lw_all, w.before args s = true) (hR : 0 + 1 ≤ R.frames ∧ 8 + (7 + 11) + 0 ≤ R.locals) : CallW R s args RX1 RX1 69 yX1_make cX1_make 7 (some .int) wsX1_make rmX1_make 0 0 4 := cwV 4 hts (lw_V q210 q212 qs7 q14 q213) rfl rfl rfl (by decide +kernel) hR
abbrev rmX1_earlier : Room := { frames := 0, cells := 0, slots := 0, locals := 0 }
abbrev wsX1_earlier : List Cond := ws_ yX1_earlier cX1_earlier 3 (some .boolean)
theorem cwX1_earlier {R : Room} {s : State} {args : Array Value} (hts : ∀ w ∈ lw_all, w.before args s = true) (hR : 0 + 1 ≤ R.frames ∧ 8 + (3 + 11) + 0 ≤ R.locals) : CallW R s args RX1 RX1 48 yX1_earlier cX1_earlier 3 (some .boolean) wsX1_earlier rmX1_earlier 0 0 2 := cwV 2 hts (lw_V q222 q224 qs10 q14 q225) rfl rfl rfl (by decide +kernel) hR
abbrev rmX1_earliest : Room := { frames := 1, cells := 0, slots := 0, locals := 22 }
abbrev wsX1_earliest : List Cond := ws_ yX1_earliest cX1_earliest 4 (some .int)
theorem cwX1_earliest {R : Room} {s : State} {args : Array Value} (hts : ∀ w ∈ lw_all, w.before args s = true) (hR : 1 + 1 ≤ R.frames ∧ 8 + (4 + 11) + 22 ≤ R.locals) : CallW R s args RX1 RX1 55 yX1_earliest cX1_earliest 4 (some .int) wsX1_earliest rmX1_earliest 0 0 1 := cwV 1 hts (lw_V q218 q220 qs9 q14 q221) rfl rfl rfl (by decide +kernel) hR
abbrev rmX1_above : Room := { frames := 0, cells := 0, slots := 0, locals := 0 }
abbrev wsX1_above : List Cond := ws_ yX1_above cX1_above 5 (some .boolean)
theorem cwX1_above {R : Room} {s : State} {args : Array Value} (hts : ∀ w ∈ lw_all, w.before args s = true) (hR : 0 + 1 ≤ R.frames ∧ 8 + (5 + 11) + 0 ≤ R.locals) : CallW R s args RX1 RX1 59 yX1_above cX1_above 5 (some .boolean) wsX1_above rmX1_above 0 0 2 := cwV 2 hts (lw_V q226 q228 qs11 q14 q229) rfl rfl rfl (by decide +kernel) hR
abbrev rmX1_carryOut : Room := { frames := 2, cells := 0, slots := 0, locals := 45 }
abbrev wsX1_carryOut : List Cond := ws_ yX1_carryOut cX1_carryOut 7 (some .boolean)
theorem cwX1_carryOut {R : Room} {s : State} {args : Array Value} (hts : ∀ w ∈ lw_all, w.before args s = true) (hR : 2 + 1 ≤ R.frames ∧ 8 + (7 + 11) + 45 ≤ R.locals) : CallW R s args RX1 RX1 73 yX1_carryOut cX1_carryOut 7 (some .boolean) wsX1_carryOut rmX1_carryOut 0 0 2 := cwV 2 hts (lw_V q214 q216 qs8 q14 q217) rfl rfl rfl (by decide +kernel) hR
abbrev rmX1_move : Room := { frames := 3, cells := 0, slots := 0, locals := 71 }
abbrev wsX1_move : List Cond := ws_ yX1_move cX1_move 5 (some .int)
theorem clX1_move {R : Room} {s : State} {args : Array Value} (hts : ∀ w ∈ lw_all, w.before args s = true) (hR : 3 + 1 ≤ R.frames ∧ 8 + (5 + 11) + 71 ≤ R.locals) : CallW R s args "MoveTreeLaw" RX1 17 yX1_move cX1_move 5 (some .int) wsX1_move rmX1_move 0 0 3 := cwV 3 hts (lw_V q200 q201 q202 q14 q203) rfl rfl rfl (by decide +kernel) hR
abbrev rmX1_name : Room := { frames := 1, cells := 0, slots := 0, locals := 26 }
abbrev wsX1_name : List Cond := ws_ yX1_name cX1_name 4 (some .int)
theorem clX1_name {R : Room} {s : State} {args : Array Value} (hts : ∀ w ∈ lw_all, w.before args s = true) (hR : 1 + 1 ≤ R.frames ∧ 8 + (4 + 11) + 26 ≤ R.locals) : CallW R s args "MoveTreeLaw" RX1 21 yX1_name cX1_name 4 (some .int) wsX1_name rmX1_name 0 0 3 := cwV 3 hts (lw_V q230 q231 q232 q14 q233) rfl rfl rfl (by decide +kernel) hR
abbrev rmX1_deliver : Room := { frames := 4, cells := 0, slots := 0, locals := 92 }
abbrev wsX1_deliver : List Cond := ws_ yX1_deliver cX1_deliver 4 (some .int)
theorem clX1_deliver {R : Room} {s : State} {args : Array Value} (hts : ∀ w ∈ lw_all, w.before args s = true) (hR : 4 + 1 ≤ R.frames ∧ 8 + (4 + 11) + 92 ≤ R.locals) : CallW R s args "MoveTreeLaw" RX1 26 yX1_deliver cX1_deliver 4 (some .int) wsX1_deliver rmX1_deliver 0 0 2 := cwV 2 hts (lw_V q234 q235 q236 q14 q237) rfl rfl rfl (by decide +kernel) hR
abbrev rmX1_sync : Room := { frames := 1, cells := 0, slots := 0, locals := 20 }
abbrev wsX1_sync : List Cond := ws_ yX1_sync cX1_sync 5 (some .int)
theorem clX1_sync {R : Room} {s : State} {args : Array Value} (hts : ∀ w ∈ lw_all, w.before args s = true) (hR : 1 + 1 ≤ R.frames ∧ 8 + (5 + 11) + 20 ≤ R.locals) : CallW R s args "MoveTreeLaw" RX1 30 yX1_sync cX1_sync 5 (some .int) wsX1_sync rmX1_sync 0 0 2 := cwV 2 hts (lw_V q242 q243 q244 q14 q245) rfl rfl rfl (by decide +kernel) hR
abbrev rmX1_parent : Room := { frames := 3, cells := 0, slots := 0, locals := 71 }
abbrev wsX1_parent : List Cond := ws_ yX1_parent cX1_parent 3 (some .int)
theorem clX1_parent {R : Room} {s : State} {args : Array Value} (hts : ∀ w ∈ lw_all, w.before args s = true) (hR : 3 + 1 ≤ R.frames ∧ 8 + (3 + 11) + 71 ≤ R.locals) : CallW R s args "MoveTreeLaw" RX1 34 yX1_parent cX1_parent 3 (some .int) wsX1_parent rmX1_parent 0 0 2 := cwV 2 hts (lw_V q246 q247 q248 q14 q249) rfl rfl rfl (by decide +kernel) hR
abbrev rmX1_label : Room := { frames := 3, cells := 0, slots := 0, locals := 71 }
abbrev wsX1_label : List Cond := ws_ yX1_label cX1_label 3 (some .int)
theorem clX1_label {R : Room} {s : State} {args : Array Value} (hts : ∀ w ∈ lw_all, w.before args s = true) (hR : 3 + 1 ≤ R.frames ∧ 8 + (3 + 11) + 71 ≤ R.locals) : CallW R s args "MoveTreeLaw" RX1 38 yX1_label cX1_label 3 (some .int) wsX1_label rmX1_label 0 0 2 := cwV 2 hts (lw_V q250 q251 q252 q14 q253) rfl rfl rfl (by decide +kernel) hR
abbrev rmX1_children : Room := { frames := 3, cells := 0, slots := 0, locals := 71 }
abbrev wsX1_children : List Cond := ws_ yX1_children cX1_children 5 (some .int)
theorem clX1_children {R : Room} {s : State} {args : Array Value} (hts : ∀ w ∈ lw_all, w.before args s = true) (hR : 3 + 1 ≤ R.frames ∧ 8 + (5 + 11) + 71 ≤ R.locals) : CallW R s args "MoveTreeLaw" RX1 42 yX1_children cX1_children 5 (some .int) wsX1_children rmX1_children 0 0 2 := cwV 2 hts (lw_V q254 q255 q256 q14 q257) rfl rfl rfl (by decide +kernel) hR
abbrev rmX1_depth : Room := { frames := 3, cells := 0, slots := 0, locals := 71 }
abbrev wsX1_depth : List Cond := ws_ yX1_depth cX1_depth 5 (some .int)
theorem clX1_depth {R : Room} {s : State} {args : Array Value} (hts : ∀ w ∈ lw_all, w.before args s = true) (hR : 3 + 1 ≤ R.frames ∧ 8 + (5 + 11) + 71 ≤ R.locals) : CallW R s args "MoveTreeLaw" RX1 46 yX1_depth cX1_depth 5 (some .int) wsX1_depth rmX1_depth 0 0 2 := cwV 2 hts (lw_V q258 q259 q260 q14 q261) rfl rfl rfl (by decide +kernel) hR
abbrev rmX1_skipped : Room := { frames := 3, cells := 0, slots := 0, locals := 71 }
abbrev wsX1_skipped : List Cond := ws_ yX1_skipped cX1_skipped 2 (some .int)
theorem cwX1_skipped {R : Room} {s : State} {args : Array Value} (hts : ∀ w ∈ lw_all, w.before args s = true) (hR : 3 + 1 ≤ R.frames ∧ 8 + (2 + 11) + 71 ≤ R.locals) : CallW R s args RX1 RX1 76 yX1_skipped cX1_skipped 2 (some .int) wsX1_skipped rmX1_skipped 0 0 1 := cwV 1 hts (lw_V q238 q239 q240 q14 q241) rfl rfl rfl (by decide +kernel) hR
theorem clX1_skipped {R : Room} {s : State} {args : Array Value} (hts : ∀ w ∈ lw_all, w.before args s = true) (hR : 3 + 1 ≤ R.frames ∧ 8 + (2 + 11) + 71 ≤ R.locals) : CallW R s args "MoveTreeLaw" RX1 51 yX1_skipped cX1_skipped 2 (some .int) wsX1_skipped rmX1_skipped 0 0 1 := cwV 1 hts (lw_V q262 q239 q240 q14 q241) rfl rfl rfl (by decide +kernel) hR
abbrev rmX1_alike : Room := { frames := 3, cells := 0, slots := 0, locals := 71 }
abbrev wsX1_alike : List Cond := ws_ yX1_alike cX1_alike 4 (some .int)
theorem clX1_alike {R : Room} {s : State} {args : Array Value} (hts : ∀ w ∈ lw_all, w.before args s = true) (hR : 3 + 1 ≤ R.frames ∧ 8 + (4 + 11) + 71 ≤ R.locals) : CallW R s args "MoveTreeLaw" RX1 55 yX1_alike cX1_alike 4 (some .int) wsX1_alike rmX1_alike 0 0 2 := cwV 2 hts (lw_V q263 q264 q265 q14 q266) rfl rfl rfl (by decide +kernel) hR
end
section
/-! the plain side: changes, what a replica shows, going up -/
set_option maxRecDepth 100000
/-- going up from a node at most n steps: does the way come to 'node'? -/
def mt_up (pa : Nat → Int32) (node : Int32) : Nat → Int32 → Bool
  | 0, _ => false
  | n + 1, a => if a < 0 then false else if a = node then true else mt_up pa node n (pa a.toNatClampNeg)
/-- a change: a move (not 0) or a name (0), its node, its argument -/
abbrev mtQ : Type := Nat × Nat × Int32
/-- what is shown: parents, labels, how many were skipped -/
abbrev mtS : Type := (Nat → Int32) × (Nat → Int32) × Nat
def mt_sk (S : mtS) (x : mtQ) : Bool := mt_up S.1 (nI x.2.1) 10 x.2.2
def mt_step (S : mtS) (x : mtQ) : mtS := if x.1 = 0 then (S.1, upd S.2.1 x.2.1 x.2.2, S.2.2) else if mt_sk S x = true then (S.1, S.2.1, S.2.2 + 1) else (upd S.1 x.2.1 x.2.2, S.2.1, S.2.2)
def mt_run (q : Nat → mtQ) : Nat → mtS
  | 0 => (fun _ => -1, fun _ => 0, 0)
  | k + 1 => mt_step (mt_run q k) (q k)
theorem mt_run_congr {q q' : Nat → mtQ} : ∀ {n : Nat}, (∀ k, k < n → q k = q' k) → mt_run q n = mt_run q' n
  | 0, _ => rfl
  | n + 1, h => by
    show mt_step (mt_run q n) (q n) = mt_step (mt_run q' n) (q' n)
    rw [mt_run_congr (fun k hk => h k (by omega)), h n (by omega)]
def mt_okp (v : Int32) : Prop := v = -1 ∨ ∃ j : Nat, j < 10 ∧ v = nI j
def mt_okq (x : mtQ) : Prop := x.1 < 2 ∧ x.2.1 < 10 ∧ (¬ x.1 = 0 → ∃ j : Nat, j < 10 ∧ x.2.2 = nI j)
theorem mt_step_okp {S : mtS} {x : mtQ} (hx : mt_okq x) (hS : ∀ j, mt_okp (S.1 j)) : ∀ j, mt_okp ((mt_step S x).1 j) := by
  intro j
  unfold mt_step
  by_cases h1 : x.1 = 0
  · rw [if_pos h1]; exact hS j
  · rw [if_neg h1]
    by_cases h2 : mt_sk S x = true
    · rw [if_pos h2]; exact hS j
    · rw [if_neg h2]
      show mt_okp (upd S.1 x.2.1 x.2.2 j)
      by_cases h3 : j = x.2.1
      · rw [h3, pk_us]; exact Or.inr (hx.2.2 h1)
      · rw [pk_un h3]; exact hS j
theorem mt_run_okp {q : Nat → mtQ} : ∀ {n : Nat}, (∀ k, k < n → mt_okq (q k)) → ∀ j, mt_okp ((mt_run q n).1 j)
  | 0, _ => fun _ => Or.inl rfl
  | n + 1, h => mt_step_okp (h n (by omega)) (mt_run_okp (fun k hk => h k (by omega)))
theorem mt_okp_neg {v : Int32} (h : mt_okp v) (h2 : ¬ v < 0) : ∃ j : Nat, j < 10 ∧ v = nI j := by
  rcases h with h | h
  · subst h; exact absurd (by decide) h2
  · exact h
theorem mt_up_congr {pa pa' : Nat → Int32} (h : ∀ j, j < 10 → pa j = pa' j) (hok : ∀ j, j < 10 → mt_okp (pa j)) (node : Int32) : ∀ (n : Nat) (a : Int32), mt_okp a → mt_up pa node n a = mt_up pa' node n a
  | 0, _, _ => rfl
  | n + 1, a, ha => by
    unfold mt_up
    by_cases h1 : a < 0
    · rw [if_pos h1, if_pos h1]
    · rw [if_neg h1, if_neg h1]
      by_cases h2 : a = node
      · rw [if_pos h2, if_pos h2]
      · rw [if_neg h2, if_neg h2]
        obtain ⟨j, hj, rfl⟩ := mt_okp_neg ha h1
        rw [nI_clamp (by omega), ← h j hj]
        exact mt_up_congr h hok node n (pa j) (hok j hj)
/-- how many k below n have b k -/
def mt_cnt (b : Nat → Bool) : Nat → Nat
  | 0 => 0
  | n + 1 => mt_cnt b n + (if b n = true then 1 else 0)
theorem mt_cnt_le (b : Nat → Bool) : ∀ n, mt_cnt b n ≤ n
  | 0 => Nat.le_refl 0
  | n + 1 => by
    have := mt_cnt_le b n
    unfold mt_cnt
    by_cases h : b n = true
    · rw [if_pos h]; omega
    · rw [if_neg h]; omega
theorem mt_cnt_congr {b b' : Nat → Bool} : ∀ {n : Nat}, (∀ k, k < n → b k = b' k) → mt_cnt b n = mt_cnt b' n
  | 0, _ => rfl
  | n + 1, h => by
    unfold mt_cnt
    rw [mt_cnt_congr (fun k hk => h k (by omega)), h n (by omega)]
/-- the depth of a node -/
def mt_dp (pa : Nat → Int32) : Nat → Nat → Nat
  | 0, _ => 0
  | n + 1, a => if pa a < 0 then 0 else mt_dp pa n (pa a).toNatClampNeg + 1
theorem mt_dp_congr {pa pa' : Nat → Int32} (h : ∀ j, j < 10 → pa j = pa' j) (hok : ∀ j, j < 10 → mt_okp (pa j)) : ∀ (n a : Nat), a < 10 → mt_dp pa n a = mt_dp pa' n a
  | 0, _, _ => rfl
  | n + 1, a, ha => by
    unfold mt_dp
    rw [← h a ha]
    by_cases h1 : pa a < 0
    · rw [if_pos h1, if_pos h1]
    · rw [if_neg h1, if_neg h1]
      obtain ⟨j, hj, e⟩ := mt_okp_neg (hok a ha) h1
      rw [e, nI_clamp (by omega), mt_dp_congr h hok n j hj]
theorem mt_dp_le (pa : Nat → Int32) : ∀ n a, mt_dp pa n a ≤ n
  | 0, _ => Nat.le_refl 0
  | n + 1, a => by
    unfold mt_dp
    by_cases h1 : pa a < 0
    · rw [if_pos h1]; omega
    · rw [if_neg h1]
      have := mt_dp_le pa n (pa a).toNatClampNeg
      omega
/-- earlier: by stamp, then by origin -/
def mt_ea (sp og : Nat → Nat) (c d : Nat) : Prop := sp c < sp d ∨ (sp c = sp d ∧ og c < og d)
theorem mt_ea_trans {sp og : Nat → Nat} {a b c : Nat} (h1 : mt_ea sp og a b) (h2 : mt_ea sp og b c) : mt_ea sp og a c := by
  unfold mt_ea at *
  omega
theorem mt_ea_irr {sp og : Nat → Nat} {a : Nat} : ¬ mt_ea sp og a a := by
  unfold mt_ea
  omega
/-- a replica number, a node number -/
def mt_rep (x : Int32) : Prop := 0 ≤ x ∧ x ≤ 2
def mt_nod (x : Int32) : Prop := 0 ≤ x ∧ x ≤ 9
theorem mt_rep_of {x : Int32} (h : mt_rep x) : ∃ r : Nat, r < 3 ∧ x = nI r := by
  obtain ⟨j, h1, h2⟩ := nI_of2 (x := x) (M := 2) (n := 2) (by decide) (fun q => absurd h.1 (by rw [Int32.not_le]; exact q)) h.2
  exact ⟨j, by omega, h2⟩
theorem mt_nod_of {x : Int32} (h : mt_nod x) : ∃ r : Nat, r < 10 ∧ x = nI r := by
  obtain ⟨j, h1, h2⟩ := nI_of2 (x := x) (M := 9) (n := 9) (by decide) (fun q => absurd h.1 (by rw [Int32.not_le]; exact q)) h.2
  exact ⟨j, by omega, h2⟩
/-! the component's state: numbers g, ints f -/
def mt_c (g : Nat → Nat → Nat) (f : Nat → Nat → Int32) (c : Nat) : mtQ := (g 1 c, g 2 c, f 3 c)
/-- replica r's log, as changes -/
def mt_q (g : Nat → Nat → Nat) (f : Nat → Nat → Int32) (r : Nat) (k : Nat) : mtQ := mt_c g f (g 12 (60 * r + k))
/-- replica r shows S -/
def mt_DI (g : Nat → Nat → Nat) (f : Nat → Nat → Int32) (r : Nat) (S : mtS) : Prop := g 15 r = S.2.2 ∧ ∀ j, j < 10 → f 16 (10 * r + j) = S.1 j ∧ f 17 (10 * r + j) = S.2.1 j
/-- what the log keeps of the change x that was carried out over S -/
def mt_BI (g : Nat → Nat → Nat) (f : Nat → Nat → Int32) (r k : Nat) (S : mtS) (x : mtQ) : Prop := (¬ x.1 = 0 → g 14 (60 * r + k) = if mt_sk S x = true then 1 else 0) ∧ f 13 (60 * r + k) = if x.1 = 0 then S.2.1 x.2.1 else S.1 x.2.1
/-- a replica's places in an array -/
def mt_rz (k : Nat) : Nat := if k = 9 then 3 else if k = 10 ∨ k = 11 ∨ k = 15 then 1 else if k = 12 ∨ k = 13 ∨ k = 14 then 60 else if k = 16 ∨ k = 17 then 10 else 0
/-- only replica r's places have changed -/
def mt_Fr (r : Nat) (g : Nat → Nat → Nat) (f : Nat → Nat → Int32) (g' : Nat → Nat → Nat) (f' : Nat → Nat → Int32) : Prop := ∀ k i, i < mt_rz k * r ∨ mt_rz k * r + mt_rz k ≤ i → g' k i = g k i ∧ f' k i = f k i
theorem mt_Fr_rf {r : Nat} {g : Nat → Nat → Nat} {f : Nat → Nat → Int32} : mt_Fr r g f g f := fun _ _ _ => ⟨rfl, rfl⟩
theorem mt_Fr_tr {r : Nat} {g g1 g2 : Nat → Nat → Nat} {f f1 f2 : Nat → Nat → Int32} (h1 : mt_Fr r g f g1 f1) (h2 : mt_Fr r g1 f1 g2 f2) : mt_Fr r g f g2 f2 := fun k i h => ⟨(h2 k i h).1.trans (h1 k i h).1, (h2 k i h).2.trans (h1 k i h).2⟩
theorem mt_Fr_g {r k i v : Nat} {g : Nat → Nat → Nat} {f : Nat → Nat → Int32} (h1 : mt_rz k * r ≤ i) (h2 : i < mt_rz k * r + mt_rz k) : mt_Fr r g f (st2 g k i v) f := by
  intro k' i' h
  refine ⟨?_, rfl⟩
  rw [st2_at]
  refine if_neg (fun z => ?_)
  obtain ⟨z1, z2⟩ := z
  subst z1; subst z2
  omega
theorem mt_Fr_f {r k i : Nat} {v : Int32} {g : Nat → Nat → Nat} {f : Nat → Nat → Int32} (h1 : mt_rz k * r ≤ i) (h2 : i < mt_rz k * r + mt_rz k) : mt_Fr r g f g (st2 f k i v) := by
  intro k' i' h
  refine ⟨rfl, ?_⟩
  rw [st2_at]
  refine if_neg (fun z => ?_)
  obtain ⟨z1, z2⟩ := z
  subst z1; subst z2
  omega
theorem mt_Fr_0 {r : Nat} {g g' : Nat → Nat → Nat} {f f' : Nat → Nat → Int32} (h : mt_Fr r g f g' f') {k : Nat} (hk : mt_rz k = 0) : g' k = g k ∧ f' k = f k := by
  constructor
  · funext i; exact (h k i (by rw [hk]; omega)).1
  · funext i; exact (h k i (by rw [hk]; omega)).2
/-- undo(r, k) -/
def mt_un (g : Nat → Nat → Nat) (f : Nat → Nat → Int32) (r k c : Nat) : zU := if g 1 c = 0 then (g, st2 f 17 (10 * r + g 2 c) (f 13 (60 * r + k))) else if g 14 (60 * r + k) = 0 then (g, st2 f 16 (10 * r + g 2 c) (f 13 (60 * r + k))) else (st2 g 15 r (g 15 r - 1), f)
/-- carryOut(r, k) -/
def mt_co (g : Nat → Nat → Nat) (f : Nat → Nat → Int32) (r k c : Nat) : zU := if g 1 c = 0 then (st2 g 14 (60 * r + k) 0, st2 (st2 f 13 (60 * r + k) (f 17 (10 * r + g 2 c))) 17 (10 * r + g 2 c) (f 3 c)) else if mt_up (fun j => f 16 (10 * r + j)) (nI (g 2 c)) 10 (f 3 c) = true then (st2 (st2 (st2 g 14 (60 * r + k) 0) 14 (60 * r + k) 1) 15 r (g 15 r + 1), st2 f 13 (60 * r + k) (f 16 (10 * r + g 2 c))) else (st2 g 14 (60 * r + k) 0, st2 (st2 f 13 (60 * r + k) (f 16 (10 * r + g 2 c))) 16 (10 * r + g 2 c) (f 3 c))
theorem mt_un_ok {g : Nat → Nat → Nat} {f : Nat → Nat → Int32} {r k c : Nat} {S : mtS} (hD : mt_DI g f r (mt_step S (mt_c g f c))) (hB : mt_BI g f r k S (mt_c g f c)) (hn : g 2 c < 10) : mt_DI (mt_un g f r k c).1 (mt_un g f r k c).2 r S ∧ mt_Fr r g f (mt_un g f r k c).1 (mt_un g f r k c).2 ∧ (∀ a, a ≠ 15 → (mt_un g f r k c).1 a = g a) ∧ (∀ a, a ≠ 16 → a ≠ 17 → (mt_un g f r k c).2 a = f a) := by
  obtain ⟨hB1, hB2⟩ := hB
  obtain ⟨hD1, hD2⟩ := hD
  unfold mt_un
  unfold mt_step mt_c at hD1 hD2
  unfold mt_c at hB1 hB2
  dsimp only at hD1 hD2 hB1 hB2
  by_cases h1 : g 1 c = 0
  · rw [if_pos h1]
    rw [if_pos h1] at hD1 hB2
    simp only [if_pos h1] at hD2
    refine ⟨⟨hD1, fun j hj => ⟨(hD2 j hj).1, ?_⟩⟩, mt_Fr_f (by simp [mt_rz]; try omega) (by simp [mt_rz]; try omega), fun _ _ => rfl, fun a _ h => st2_k _ _ _ _ h⟩
    show st2 f 17 (10 * r + g 2 c) (f 13 (60 * r + k)) 17 (10 * r + j) = _
    rw [st2_at]
    by_cases h2 : j = g 2 c
    · rw [if_pos ⟨rfl, by omega⟩, hB2, h2]
    · rw [if_neg (by omega), (hD2 j hj).2, pk_un h2]
  · rw [if_neg h1]
    rw [if_neg h1] at hD1 hB2
    simp only [if_neg h1] at hD2
    have hB1 := hB1 h1
    by_cases h2 : mt_sk S (g 1 c, g 2 c, f 3 c) = true
    · rw [if_pos h2] at hB1 hD1
      simp only [if_pos h2] at hD2
      rw [if_neg (by omega)]
      refine ⟨⟨?_, fun j hj => hD2 j hj⟩, mt_Fr_g (by simp [mt_rz]) (by simp [mt_rz]), fun a h => st2_k _ _ _ _ h, fun _ _ _ => rfl⟩
      show st2 g 15 r (g 15 r - 1) 15 r = _
      rw [st2_eq, hD1]
      rfl
    · rw [if_neg h2] at hB1 hD1
      simp only [if_neg h2] at hD2
      rw [if_pos hB1]
      refine ⟨⟨hD1, fun j hj => ⟨?_, (hD2 j hj).2⟩⟩, mt_Fr_f (by simp [mt_rz]; try omega) (by simp [mt_rz]; try omega), fun _ _ => rfl, fun a h _ => st2_k _ _ _ _ h⟩
      show st2 f 16 (10 * r + g 2 c) (f 13 (60 * r + k)) 16 (10 * r + j) = _
      rw [st2_at]
      by_cases h3 : j = g 2 c
      · rw [if_pos ⟨rfl, by omega⟩, hB2, h3]
      · rw [if_neg (by omega), (hD2 j hj).1, pk_un h3]
theorem mt_co_ok {g : Nat → Nat → Nat} {f : Nat → Nat → Int32} {r k c : Nat} {S : mtS} (hD : mt_DI g f r S) (hq : mt_okq (mt_c g f c)) (hS : ∀ j, mt_okp (S.1 j)) : mt_DI (mt_co g f r k c).1 (mt_co g f r k c).2 r (mt_step S (mt_c g f c)) ∧ mt_BI (mt_co g f r k c).1 (mt_co g f r k c).2 r k S (mt_c g f c) ∧ (k < 60 → mt_Fr r g f (mt_co g f r k c).1 (mt_co g f r k c).2) ∧ (∀ a, a ≠ 14 → a ≠ 15 → (mt_co g f r k c).1 a = g a) ∧ (∀ a, a ≠ 13 → a ≠ 16 → a ≠ 17 → (mt_co g f r k c).2 a = f a) ∧ (∀ i, i ≠ 60 * r + k → (mt_co g f r k c).1 14 i = g 14 i ∧ (mt_co g f r k c).2 13 i = f 13 i) := by
  obtain ⟨hD1, hD2⟩ := hD
  obtain ⟨hq1, hq2, hq3⟩ := hq
  unfold mt_co mt_step mt_BI
  unfold mt_c at hq1 hq2 hq3 ⊢
  dsimp only at hq1 hq2 hq3 ⊢
  by_cases h1 : g 1 c = 0
  · rw [if_pos h1]
    simp only [if_pos h1]
    refine ⟨⟨hD1, fun j hj => ⟨(hD2 j hj).1, ?_⟩⟩, ⟨fun h => absurd h1 h, ?_⟩, fun hk => mt_Fr_tr (mt_Fr_g (k := 14) (by simp [mt_rz]; try omega) (by simp [mt_rz]; try omega)) (mt_Fr_tr (mt_Fr_f (k := 13) (by simp [mt_rz]; try omega) (by simp [mt_rz]; try omega)) (mt_Fr_f (k := 17) (by simp [mt_rz]; try omega) (by simp [mt_rz]; try omega))), fun a h _ => st2_k _ _ _ _ h, fun a h1 _ h2 => by rw [st2_k _ _ _ _ h2, st2_k _ _ _ _ h1], fun i hi => ⟨st2_ne _ _ _ _ hi, by rw [st2_k _ _ _ _ (by decide), st2_ne _ _ _ _ hi]⟩⟩
    · rw [st2_at]
      by_cases h2 : j = g 2 c
      · rw [if_pos ⟨rfl, by omega⟩, h2]; exact pk_us.symm
      · rw [if_neg (by omega), st2_k _ _ _ _ (by decide), (hD2 j hj).2]; exact (pk_un h2).symm
    · rw [st2_k _ _ _ _ (by decide), st2_eq]
      exact (hD2 _ hq2).2
  · rw [if_neg h1]
    simp only [if_neg h1]
    obtain ⟨jj, hjj, ejj⟩ := hq3 h1
    have hup : mt_up (fun j => f 16 (10 * r + j)) (nI (g 2 c)) 10 (f 3 c) = mt_sk S (g 1 c, g 2 c, f 3 c) := by
      unfold mt_sk
      exact mt_up_congr (fun j hj => (hD2 j hj).1) (fun j hj => by show mt_okp (f 16 (10 * r + j)); rw [(hD2 j hj).1]; exact hS j) _ _ _ (Or.inr ⟨jj, hjj, ejj⟩)
    rw [hup]
    by_cases h2 : mt_sk S (g 1 c, g 2 c, f 3 c) = true
    · rw [if_pos h2]
      simp only [if_pos h2]
      refine ⟨⟨?_, fun j hj => hD2 j hj⟩, ⟨fun _ => ?_, ?_⟩, fun hk => mt_Fr_tr (mt_Fr_tr (mt_Fr_g (k := 14) (by simp [mt_rz]; try omega) (by simp [mt_rz]; try omega)) (mt_Fr_tr (mt_Fr_g (k := 14) (by simp [mt_rz]; try omega) (by simp [mt_rz]; try omega)) (mt_Fr_g (k := 15) (by simp [mt_rz]) (by simp [mt_rz])))) (mt_Fr_f (k := 13) (by simp [mt_rz]; try omega) (by simp [mt_rz]; try omega)), fun a h1 h2 => by rw [st2_k _ _ _ _ h2, st2_k _ _ _ _ h1, st2_k _ _ _ _ h1], fun a h _ _ => st2_k _ _ _ _ h, fun i hi => ⟨by rw [st2_k _ _ _ _ (by decide), st2_ne _ _ _ _ hi, st2_ne _ _ _ _ hi], st2_ne _ _ _ _ hi⟩⟩
      · rw [st2_eq, hD1]
      · rw [st2_k _ _ _ _ (by decide), st2_eq]
      · rw [st2_eq]
        exact (hD2 _ hq2).1
    · rw [if_neg h2]
      simp only [if_neg h2]
      refine ⟨⟨hD1, fun j hj => ⟨?_, (hD2 j hj).2⟩⟩, ⟨fun _ => st2_eq _ _ _ _, ?_⟩, fun hk => mt_Fr_tr (mt_Fr_g (k := 14) (by simp [mt_rz]; try omega) (by simp [mt_rz]; try omega)) (mt_Fr_tr (mt_Fr_f (k := 13) (by simp [mt_rz]; try omega) (by simp [mt_rz]; try omega)) (mt_Fr_f (k := 16) (by simp [mt_rz]; try omega) (by simp [mt_rz]; try omega))), fun a h _ => st2_k _ _ _ _ h, fun a h1 h2 _ => by rw [st2_k _ _ _ _ h2, st2_k _ _ _ _ h1], fun i hi => ⟨st2_ne _ _ _ _ hi, by rw [st2_k _ _ _ _ (by decide), st2_ne _ _ _ _ hi]⟩⟩
      · rw [st2_at]
        by_cases h3 : j = g 2 c
        · rw [if_pos ⟨rfl, by omega⟩, h3]; exact pk_us.symm
        · rw [if_neg (by omega), st2_k _ _ _ _ (by decide), (hD2 j hj).1]; exact (pk_un h3).symm
      · rw [st2_k _ _ _ _ (by decide), st2_eq]
        exact (hD2 _ hq2).1
end
section
set_option maxRecDepth 100000
theorem dX0_isReplica_0 : decode cX0_isReplica 0 = .ok (.iload_n 0, 1) := by decide +kernel
theorem dX0_isReplica_1 : decode cX0_isReplica 1 = .ok (.ifCond .lt 12, 3) := by decide +kernel
theorem dX0_isReplica_4 : decode cX0_isReplica 4 = .ok (.iload_n 0, 1) := by decide +kernel
theorem dX0_isReplica_5 : decode cX0_isReplica 5 = .ok (.iconst 2, 1) := by decide +kernel
theorem dX0_isReplica_6 : decode cX0_isReplica 6 = .ok (.if_icmp .gt 7, 3) := by decide +kernel
theorem dX0_isReplica_9 : decode cX0_isReplica 9 = .ok (.iconst 1, 1) := by decide +kernel
theorem dX0_isReplica_10 : decode cX0_isReplica 10 = .ok (.goto 4, 3) := by decide +kernel
theorem dX0_isReplica_13 : decode cX0_isReplica 13 = .ok (.iconst 0, 1) := by decide +kernel
theorem dX0_isReplica_14 : decode cX0_isReplica 14 = .ok (.ireturn, 1) := by decide +kernel
theorem dX0_isNode_0 : decode cX0_isNode 0 = .ok (.iload_n 0, 1) := by decide +kernel
theorem dX0_isNode_1 : decode cX0_isNode 1 = .ok (.ifCond .lt 13, 3) := by decide +kernel
theorem dX0_isNode_4 : decode cX0_isNode 4 = .ok (.iload_n 0, 1) := by decide +kernel
theorem dX0_isNode_5 : decode cX0_isNode 5 = .ok (.bipush 9, 2) := by decide +kernel
theorem dX0_isNode_7 : decode cX0_isNode 7 = .ok (.if_icmp .gt 7, 3) := by decide +kernel
theorem dX0_isNode_10 : decode cX0_isNode 10 = .ok (.iconst 1, 1) := by decide +kernel
theorem dX0_isNode_11 : decode cX0_isNode 11 = .ok (.goto 4, 3) := by decide +kernel
theorem dX0_isNode_14 : decode cX0_isNode 14 = .ok (.iconst 0, 1) := by decide +kernel
theorem dX0_isNode_15 : decode cX0_isNode 15 = .ok (.ireturn, 1) := by decide +kernel
theorem dX0_isEarlier_0 : decode cX0_isEarlier 0 = .ok (.aload_n 0, 1) := by decide +kernel
theorem dX0_isEarlier_1 : decode cX0_isEarlier 1 = .ok (.getfield 20, 3) := by decide +kernel
theorem dX0_isEarlier_4 : decode cX0_isEarlier 4 = .ok (.iload_n 1, 1) := by decide +kernel
theorem dX0_isEarlier_5 : decode cX0_isEarlier 5 = .ok (.iaload, 1) := by decide +kernel
theorem dX0_isEarlier_6 : decode cX0_isEarlier 6 = .ok (.aload_n 0, 1) := by decide +kernel
theorem dX0_isEarlier_7 : decode cX0_isEarlier 7 = .ok (.getfield 20, 3) := by decide +kernel
theorem dX0_isEarlier_10 : decode cX0_isEarlier 10 = .ok (.iload_n 2, 1) := by decide +kernel
theorem dX0_isEarlier_11 : decode cX0_isEarlier 11 = .ok (.iaload, 1) := by decide +kernel
theorem dX0_isEarlier_12 : decode cX0_isEarlier 12 = .ok (.if_icmp .eq 24, 3) := by decide +kernel
theorem dX0_isEarlier_15 : decode cX0_isEarlier 15 = .ok (.aload_n 0, 1) := by decide +kernel
theorem dX0_isEarlier_16 : decode cX0_isEarlier 16 = .ok (.getfield 20, 3) := by decide +kernel
theorem dX0_isEarlier_19 : decode cX0_isEarlier 19 = .ok (.iload_n 1, 1) := by decide +kernel
theorem dX0_isEarlier_20 : decode cX0_isEarlier 20 = .ok (.iaload, 1) := by decide +kernel
theorem dX0_isEarlier_21 : decode cX0_isEarlier 21 = .ok (.aload_n 0, 1) := by decide +kernel
theorem dX0_isEarlier_22 : decode cX0_isEarlier 22 = .ok (.getfield 20, 3) := by decide +kernel
theorem dX0_isEarlier_25 : decode cX0_isEarlier 25 = .ok (.iload_n 2, 1) := by decide +kernel
theorem dX0_isEarlier_26 : decode cX0_isEarlier 26 = .ok (.iaload, 1) := by decide +kernel
theorem dX0_isEarlier_27 : decode cX0_isEarlier 27 = .ok (.if_icmp .ge 7, 3) := by decide +kernel
theorem dX0_isEarlier_30 : decode cX0_isEarlier 30 = .ok (.iconst 1, 1) := by decide +kernel
theorem dX0_isEarlier_31 : decode cX0_isEarlier 31 = .ok (.goto 4, 3) := by decide +kernel
theorem dX0_isEarlier_34 : decode cX0_isEarlier 34 = .ok (.iconst 0, 1) := by decide +kernel
theorem dX0_isEarlier_35 : decode cX0_isEarlier 35 = .ok (.ireturn, 1) := by decide +kernel
theorem dX0_isEarlier_36 : decode cX0_isEarlier 36 = .ok (.aload_n 0, 1) := by decide +kernel
theorem dX0_isEarlier_37 : decode cX0_isEarlier 37 = .ok (.getfield 23, 3) := by decide +kernel
theorem dX0_isEarlier_40 : decode cX0_isEarlier 40 = .ok (.iload_n 1, 1) := by decide +kernel
theorem dX0_isEarlier_41 : decode cX0_isEarlier 41 = .ok (.iaload, 1) := by decide +kernel
theorem dX0_isEarlier_42 : decode cX0_isEarlier 42 = .ok (.aload_n 0, 1) := by decide +kernel
theorem dX0_isEarlier_43 : decode cX0_isEarlier 43 = .ok (.getfield 23, 3) := by decide +kernel
theorem dX0_isEarlier_46 : decode cX0_isEarlier 46 = .ok (.iload_n 2, 1) := by decide +kernel
theorem dX0_isEarlier_47 : decode cX0_isEarlier 47 = .ok (.iaload, 1) := by decide +kernel
theorem dX0_isEarlier_48 : decode cX0_isEarlier 48 = .ok (.if_icmp .ge 7, 3) := by decide +kernel
theorem dX0_isEarlier_51 : decode cX0_isEarlier 51 = .ok (.iconst 1, 1) := by decide +kernel
theorem dX0_isEarlier_52 : decode cX0_isEarlier 52 = .ok (.goto 4, 3) := by decide +kernel
theorem dX0_isEarlier_55 : decode cX0_isEarlier 55 = .ok (.iconst 0, 1) := by decide +kernel
theorem dX0_isEarlier_56 : decode cX0_isEarlier 56 = .ok (.ireturn, 1) := by decide +kernel
theorem dX0_isKnown_0 : decode cX0_isKnown 0 = .ok (.aload_n 0, 1) := by decide +kernel
theorem dX0_isKnown_1 : decode cX0_isKnown 1 = .ok (.getfield 26, 3) := by decide +kernel
theorem dX0_isKnown_4 : decode cX0_isKnown 4 = .ok (.iload_n 2, 1) := by decide +kernel
theorem dX0_isKnown_5 : decode cX0_isKnown 5 = .ok (.iaload, 1) := by decide +kernel
theorem dX0_isKnown_6 : decode cX0_isKnown 6 = .ok (.aload_n 0, 1) := by decide +kernel
theorem dX0_isKnown_7 : decode cX0_isKnown 7 = .ok (.getfield 35, 3) := by decide +kernel
theorem dX0_isKnown_10 : decode cX0_isKnown 10 = .ok (.iconst 3, 1) := by decide +kernel
theorem dX0_isKnown_11 : decode cX0_isKnown 11 = .ok (.iload_n 1, 1) := by decide +kernel
theorem dX0_isKnown_12 : decode cX0_isKnown 12 = .ok (.imul, 1) := by decide +kernel
theorem dX0_isKnown_13 : decode cX0_isKnown 13 = .ok (.aload_n 0, 1) := by decide +kernel
theorem dX0_isKnown_14 : decode cX0_isKnown 14 = .ok (.getfield 23, 3) := by decide +kernel
theorem dX0_isKnown_17 : decode cX0_isKnown 17 = .ok (.iload_n 2, 1) := by decide +kernel
theorem dX0_isKnown_18 : decode cX0_isKnown 18 = .ok (.iaload, 1) := by decide +kernel
theorem dX0_isKnown_19 : decode cX0_isKnown 19 = .ok (.iadd, 1) := by decide +kernel
theorem dX0_isKnown_20 : decode cX0_isKnown 20 = .ok (.iaload, 1) := by decide +kernel
theorem dX0_isKnown_21 : decode cX0_isKnown 21 = .ok (.if_icmp .gt 7, 3) := by decide +kernel
theorem dX0_isKnown_24 : decode cX0_isKnown 24 = .ok (.iconst 1, 1) := by decide +kernel
theorem dX0_isKnown_25 : decode cX0_isKnown 25 = .ok (.goto 4, 3) := by decide +kernel
theorem dX0_isKnown_28 : decode cX0_isKnown 28 = .ok (.iconst 0, 1) := by decide +kernel
theorem dX0_isKnown_29 : decode cX0_isKnown 29 = .ok (.ireturn, 1) := by decide +kernel
theorem dX0_leadsUpTo_0 : decode cX0_leadsUpTo 0 = .ok (.iload_n 2, 1) := by decide +kernel
theorem dX0_leadsUpTo_1 : decode cX0_leadsUpTo 1 = .ok (.istore 4, 2) := by decide +kernel
theorem dX0_leadsUpTo_3 : decode cX0_leadsUpTo 3 = .ok (.iconst 0, 1) := by decide +kernel
theorem dX0_leadsUpTo_4 : decode cX0_leadsUpTo 4 = .ok (.istore 5, 2) := by decide +kernel
theorem dX0_leadsUpTo_6 : decode cX0_leadsUpTo 6 = .ok (.iload 5, 2) := by decide +kernel
theorem dX0_leadsUpTo_8 : decode cX0_leadsUpTo 8 = .ok (.bipush 10, 2) := by decide +kernel
theorem dX0_leadsUpTo_10 : decode cX0_leadsUpTo 10 = .ok (.if_icmp .ge 36, 3) := by decide +kernel
theorem dX0_leadsUpTo_13 : decode cX0_leadsUpTo 13 = .ok (.iload 4, 2) := by decide +kernel
theorem dX0_leadsUpTo_15 : decode cX0_leadsUpTo 15 = .ok (.ifCond .lt 31, 3) := by decide +kernel
theorem dX0_leadsUpTo_18 : decode cX0_leadsUpTo 18 = .ok (.iload 4, 2) := by decide +kernel
theorem dX0_leadsUpTo_20 : decode cX0_leadsUpTo 20 = .ok (.iload_n 3, 1) := by decide +kernel
theorem dX0_leadsUpTo_21 : decode cX0_leadsUpTo 21 = .ok (.if_icmp .ne 5, 3) := by decide +kernel
theorem dX0_leadsUpTo_24 : decode cX0_leadsUpTo 24 = .ok (.iconst 1, 1) := by decide +kernel
theorem dX0_leadsUpTo_25 : decode cX0_leadsUpTo 25 = .ok (.ireturn, 1) := by decide +kernel
theorem dX0_leadsUpTo_26 : decode cX0_leadsUpTo 26 = .ok (.aload_n 0, 1) := by decide +kernel
theorem dX0_leadsUpTo_27 : decode cX0_leadsUpTo 27 = .ok (.getfield 56, 3) := by decide +kernel
theorem dX0_leadsUpTo_30 : decode cX0_leadsUpTo 30 = .ok (.bipush 10, 2) := by decide +kernel
theorem dX0_leadsUpTo_32 : decode cX0_leadsUpTo 32 = .ok (.iload_n 1, 1) := by decide +kernel
theorem dX0_leadsUpTo_33 : decode cX0_leadsUpTo 33 = .ok (.imul, 1) := by decide +kernel
theorem dX0_leadsUpTo_34 : decode cX0_leadsUpTo 34 = .ok (.iload 4, 2) := by decide +kernel
theorem dX0_leadsUpTo_36 : decode cX0_leadsUpTo 36 = .ok (.iadd, 1) := by decide +kernel
theorem dX0_leadsUpTo_37 : decode cX0_leadsUpTo 37 = .ok (.iaload, 1) := by decide +kernel
theorem dX0_leadsUpTo_38 : decode cX0_leadsUpTo 38 = .ok (.istore 4, 2) := by decide +kernel
theorem dX0_leadsUpTo_40 : decode cX0_leadsUpTo 40 = .ok (.iinc 5 1, 3) := by decide +kernel
theorem dX0_leadsUpTo_43 : decode cX0_leadsUpTo 43 = .ok (.goto (-37), 3) := by decide +kernel
theorem dX0_leadsUpTo_46 : decode cX0_leadsUpTo 46 = .ok (.iconst 0, 1) := by decide +kernel
theorem dX0_leadsUpTo_47 : decode cX0_leadsUpTo 47 = .ok (.ireturn, 1) := by decide +kernel
theorem dX0_undo_0 : decode cX0_undo 0 = .ok (.bipush 60, 2) := by decide +kernel
theorem dX0_undo_2 : decode cX0_undo 2 = .ok (.iload_n 1, 1) := by decide +kernel
theorem dX0_undo_3 : decode cX0_undo 3 = .ok (.imul, 1) := by decide +kernel
theorem dX0_undo_4 : decode cX0_undo 4 = .ok (.iload_n 2, 1) := by decide +kernel
theorem dX0_undo_5 : decode cX0_undo 5 = .ok (.iadd, 1) := by decide +kernel
theorem dX0_undo_6 : decode cX0_undo 6 = .ok (.istore_n 3, 1) := by decide +kernel
theorem dX0_undo_7 : decode cX0_undo 7 = .ok (.aload_n 0, 1) := by decide +kernel
theorem dX0_undo_8 : decode cX0_undo 8 = .ok (.getfield 44, 3) := by decide +kernel
theorem dX0_undo_11 : decode cX0_undo 11 = .ok (.iload_n 3, 1) := by decide +kernel
theorem dX0_undo_12 : decode cX0_undo 12 = .ok (.iaload, 1) := by decide +kernel
theorem dX0_undo_13 : decode cX0_undo 13 = .ok (.istore 4, 2) := by decide +kernel
theorem dX0_undo_15 : decode cX0_undo 15 = .ok (.bipush 10, 2) := by decide +kernel
theorem dX0_undo_17 : decode cX0_undo 17 = .ok (.iload_n 1, 1) := by decide +kernel
theorem dX0_undo_18 : decode cX0_undo 18 = .ok (.imul, 1) := by decide +kernel
theorem dX0_undo_19 : decode cX0_undo 19 = .ok (.aload_n 0, 1) := by decide +kernel
theorem dX0_undo_20 : decode cX0_undo 20 = .ok (.getfield 13, 3) := by decide +kernel
theorem dX0_undo_23 : decode cX0_undo 23 = .ok (.iload 4, 2) := by decide +kernel
theorem dX0_undo_25 : decode cX0_undo 25 = .ok (.iaload, 1) := by decide +kernel
theorem dX0_undo_26 : decode cX0_undo 26 = .ok (.iadd, 1) := by decide +kernel
theorem dX0_undo_27 : decode cX0_undo 27 = .ok (.istore 5, 2) := by decide +kernel
theorem dX0_undo_29 : decode cX0_undo 29 = .ok (.aload_n 0, 1) := by decide +kernel
theorem dX0_undo_30 : decode cX0_undo 30 = .ok (.getfield 7, 3) := by decide +kernel
theorem dX0_undo_33 : decode cX0_undo 33 = .ok (.iload 4, 2) := by decide +kernel
theorem dX0_undo_35 : decode cX0_undo 35 = .ok (.baload, 1) := by decide +kernel
theorem dX0_undo_36 : decode cX0_undo 36 = .ok (.ifCond .ne 19, 3) := by decide +kernel
theorem dX0_undo_39 : decode cX0_undo 39 = .ok (.aload_n 0, 1) := by decide +kernel
theorem dX0_undo_40 : decode cX0_undo 40 = .ok (.getfield 59, 3) := by decide +kernel
theorem dX0_undo_43 : decode cX0_undo 43 = .ok (.iload 5, 2) := by decide +kernel
theorem dX0_undo_45 : decode cX0_undo 45 = .ok (.aload_n 0, 1) := by decide +kernel
theorem dX0_undo_46 : decode cX0_undo 46 = .ok (.getfield 47, 3) := by decide +kernel
theorem dX0_undo_49 : decode cX0_undo 49 = .ok (.iload_n 3, 1) := by decide +kernel
theorem dX0_undo_50 : decode cX0_undo 50 = .ok (.iaload, 1) := by decide +kernel
theorem dX0_undo_51 : decode cX0_undo 51 = .ok (.iastore, 1) := by decide +kernel
theorem dX0_undo_52 : decode cX0_undo 52 = .ok (.goto 38, 3) := by decide +kernel
theorem dX0_undo_55 : decode cX0_undo 55 = .ok (.aload_n 0, 1) := by decide +kernel
theorem dX0_undo_56 : decode cX0_undo 56 = .ok (.getfield 50, 3) := by decide +kernel
theorem dX0_undo_59 : decode cX0_undo 59 = .ok (.iload_n 3, 1) := by decide +kernel
theorem dX0_undo_60 : decode cX0_undo 60 = .ok (.baload, 1) := by decide +kernel
theorem dX0_undo_61 : decode cX0_undo 61 = .ok (.ifCond .eq 16, 3) := by decide +kernel
theorem dX0_undo_64 : decode cX0_undo 64 = .ok (.aload_n 0, 1) := by decide +kernel
theorem dX0_undo_65 : decode cX0_undo 65 = .ok (.getfield 53, 3) := by decide +kernel
theorem dX0_undo_68 : decode cX0_undo 68 = .ok (.iload_n 1, 1) := by decide +kernel
theorem dX0_undo_69 : decode cX0_undo 69 = .ok (.dup2, 1) := by decide +kernel
theorem dX0_undo_70 : decode cX0_undo 70 = .ok (.iaload, 1) := by decide +kernel
theorem dX0_undo_71 : decode cX0_undo 71 = .ok (.iconst 1, 1) := by decide +kernel
theorem dX0_undo_72 : decode cX0_undo 72 = .ok (.isub, 1) := by decide +kernel
theorem dX0_undo_73 : decode cX0_undo 73 = .ok (.iastore, 1) := by decide +kernel
theorem dX0_undo_74 : decode cX0_undo 74 = .ok (.goto 16, 3) := by decide +kernel
theorem dX0_undo_77 : decode cX0_undo 77 = .ok (.aload_n 0, 1) := by decide +kernel
theorem dX0_undo_78 : decode cX0_undo 78 = .ok (.getfield 56, 3) := by decide +kernel
theorem dX0_undo_81 : decode cX0_undo 81 = .ok (.iload 5, 2) := by decide +kernel
theorem dX0_undo_83 : decode cX0_undo 83 = .ok (.aload_n 0, 1) := by decide +kernel
theorem dX0_undo_84 : decode cX0_undo 84 = .ok (.getfield 47, 3) := by decide +kernel
theorem dX0_undo_87 : decode cX0_undo 87 = .ok (.iload_n 3, 1) := by decide +kernel
theorem dX0_undo_88 : decode cX0_undo 88 = .ok (.iaload, 1) := by decide +kernel
theorem dX0_undo_89 : decode cX0_undo 89 = .ok (.iastore, 1) := by decide +kernel
theorem dX0_undo_90 : decode cX0_undo 90 = .ok (.return_, 1) := by decide +kernel
theorem dX0_carryOut_0 : decode cX0_carryOut 0 = .ok (.bipush 60, 2) := by decide +kernel
theorem dX0_carryOut_2 : decode cX0_carryOut 2 = .ok (.iload_n 1, 1) := by decide +kernel
theorem dX0_carryOut_3 : decode cX0_carryOut 3 = .ok (.imul, 1) := by decide +kernel
theorem dX0_carryOut_4 : decode cX0_carryOut 4 = .ok (.iload_n 2, 1) := by decide +kernel
theorem dX0_carryOut_5 : decode cX0_carryOut 5 = .ok (.iadd, 1) := by decide +kernel
theorem dX0_carryOut_6 : decode cX0_carryOut 6 = .ok (.istore_n 3, 1) := by decide +kernel
theorem dX0_carryOut_7 : decode cX0_carryOut 7 = .ok (.aload_n 0, 1) := by decide +kernel
theorem dX0_carryOut_8 : decode cX0_carryOut 8 = .ok (.getfield 44, 3) := by decide +kernel
theorem dX0_carryOut_11 : decode cX0_carryOut 11 = .ok (.iload_n 3, 1) := by decide +kernel
theorem dX0_carryOut_12 : decode cX0_carryOut 12 = .ok (.iaload, 1) := by decide +kernel
theorem dX0_carryOut_13 : decode cX0_carryOut 13 = .ok (.istore 4, 2) := by decide +kernel
theorem dX0_carryOut_15 : decode cX0_carryOut 15 = .ok (.bipush 10, 2) := by decide +kernel
theorem dX0_carryOut_17 : decode cX0_carryOut 17 = .ok (.iload_n 1, 1) := by decide +kernel
theorem dX0_carryOut_18 : decode cX0_carryOut 18 = .ok (.imul, 1) := by decide +kernel
theorem dX0_carryOut_19 : decode cX0_carryOut 19 = .ok (.aload_n 0, 1) := by decide +kernel
theorem dX0_carryOut_20 : decode cX0_carryOut 20 = .ok (.getfield 13, 3) := by decide +kernel
theorem dX0_carryOut_23 : decode cX0_carryOut 23 = .ok (.iload 4, 2) := by decide +kernel
theorem dX0_carryOut_25 : decode cX0_carryOut 25 = .ok (.iaload, 1) := by decide +kernel
theorem dX0_carryOut_26 : decode cX0_carryOut 26 = .ok (.iadd, 1) := by decide +kernel
theorem dX0_carryOut_27 : decode cX0_carryOut 27 = .ok (.istore 5, 2) := by decide +kernel
theorem dX0_carryOut_29 : decode cX0_carryOut 29 = .ok (.aload_n 0, 1) := by decide +kernel
theorem dX0_carryOut_30 : decode cX0_carryOut 30 = .ok (.getfield 50, 3) := by decide +kernel
theorem dX0_carryOut_33 : decode cX0_carryOut 33 = .ok (.iload_n 3, 1) := by decide +kernel
theorem dX0_carryOut_34 : decode cX0_carryOut 34 = .ok (.iconst 0, 1) := by decide +kernel
theorem dX0_carryOut_35 : decode cX0_carryOut 35 = .ok (.bastore, 1) := by decide +kernel
theorem dX0_carryOut_36 : decode cX0_carryOut 36 = .ok (.aload_n 0, 1) := by decide +kernel
theorem dX0_carryOut_37 : decode cX0_carryOut 37 = .ok (.getfield 7, 3) := by decide +kernel
theorem dX0_carryOut_40 : decode cX0_carryOut 40 = .ok (.iload 4, 2) := by decide +kernel
theorem dX0_carryOut_42 : decode cX0_carryOut 42 = .ok (.baload, 1) := by decide +kernel
theorem dX0_carryOut_43 : decode cX0_carryOut 43 = .ok (.ifCond .ne 31, 3) := by decide +kernel
theorem dX0_carryOut_46 : decode cX0_carryOut 46 = .ok (.aload_n 0, 1) := by decide +kernel
theorem dX0_carryOut_47 : decode cX0_carryOut 47 = .ok (.getfield 47, 3) := by decide +kernel
theorem dX0_carryOut_50 : decode cX0_carryOut 50 = .ok (.iload_n 3, 1) := by decide +kernel
theorem dX0_carryOut_51 : decode cX0_carryOut 51 = .ok (.aload_n 0, 1) := by decide +kernel
theorem dX0_carryOut_52 : decode cX0_carryOut 52 = .ok (.getfield 59, 3) := by decide +kernel
theorem dX0_carryOut_55 : decode cX0_carryOut 55 = .ok (.iload 5, 2) := by decide +kernel
theorem dX0_carryOut_57 : decode cX0_carryOut 57 = .ok (.iaload, 1) := by decide +kernel
theorem dX0_carryOut_58 : decode cX0_carryOut 58 = .ok (.iastore, 1) := by decide +kernel
theorem dX0_carryOut_59 : decode cX0_carryOut 59 = .ok (.aload_n 0, 1) := by decide +kernel
theorem dX0_carryOut_60 : decode cX0_carryOut 60 = .ok (.getfield 59, 3) := by decide +kernel
theorem dX0_carryOut_63 : decode cX0_carryOut 63 = .ok (.iload 5, 2) := by decide +kernel
theorem dX0_carryOut_65 : decode cX0_carryOut 65 = .ok (.aload_n 0, 1) := by decide +kernel
theorem dX0_carryOut_66 : decode cX0_carryOut 66 = .ok (.getfield 17, 3) := by decide +kernel
theorem dX0_carryOut_69 : decode cX0_carryOut 69 = .ok (.iload 4, 2) := by decide +kernel
theorem dX0_carryOut_71 : decode cX0_carryOut 71 = .ok (.iaload, 1) := by decide +kernel
theorem dX0_carryOut_72 : decode cX0_carryOut 72 = .ok (.iastore, 1) := by decide +kernel
theorem dX0_carryOut_73 : decode cX0_carryOut 73 = .ok (.return_, 1) := by decide +kernel
theorem dX0_carryOut_74 : decode cX0_carryOut 74 = .ok (.aload_n 0, 1) := by decide +kernel
theorem dX0_carryOut_75 : decode cX0_carryOut 75 = .ok (.getfield 47, 3) := by decide +kernel
theorem dX0_carryOut_78 : decode cX0_carryOut 78 = .ok (.iload_n 3, 1) := by decide +kernel
theorem dX0_carryOut_79 : decode cX0_carryOut 79 = .ok (.aload_n 0, 1) := by decide +kernel
theorem dX0_carryOut_80 : decode cX0_carryOut 80 = .ok (.getfield 56, 3) := by decide +kernel
theorem dX0_carryOut_83 : decode cX0_carryOut 83 = .ok (.iload 5, 2) := by decide +kernel
theorem dX0_carryOut_85 : decode cX0_carryOut 85 = .ok (.iaload, 1) := by decide +kernel
theorem dX0_carryOut_86 : decode cX0_carryOut 86 = .ok (.iastore, 1) := by decide +kernel
theorem dX0_carryOut_87 : decode cX0_carryOut 87 = .ok (.aload_n 0, 1) := by decide +kernel
theorem dX0_carryOut_88 : decode cX0_carryOut 88 = .ok (.iload_n 1, 1) := by decide +kernel
theorem dX0_carryOut_89 : decode cX0_carryOut 89 = .ok (.aload_n 0, 1) := by decide +kernel
theorem dX0_carryOut_90 : decode cX0_carryOut 90 = .ok (.getfield 17, 3) := by decide +kernel
theorem dX0_carryOut_93 : decode cX0_carryOut 93 = .ok (.iload 4, 2) := by decide +kernel
theorem dX0_carryOut_95 : decode cX0_carryOut 95 = .ok (.iaload, 1) := by decide +kernel
theorem dX0_carryOut_96 : decode cX0_carryOut 96 = .ok (.aload_n 0, 1) := by decide +kernel
theorem dX0_carryOut_97 : decode cX0_carryOut 97 = .ok (.getfield 13, 3) := by decide +kernel
theorem dX0_carryOut_100 : decode cX0_carryOut 100 = .ok (.iload 4, 2) := by decide +kernel
theorem dX0_carryOut_102 : decode cX0_carryOut 102 = .ok (.iaload, 1) := by decide +kernel
theorem dX0_carryOut_103 : decode cX0_carryOut 103 = .ok (.invokevirtual 94, 3) := by decide +kernel
theorem dX0_carryOut_106 : decode cX0_carryOut 106 = .ok (.ifCond .eq 23, 3) := by decide +kernel
theorem dX0_carryOut_109 : decode cX0_carryOut 109 = .ok (.aload_n 0, 1) := by decide +kernel
theorem dX0_carryOut_110 : decode cX0_carryOut 110 = .ok (.getfield 50, 3) := by decide +kernel
theorem dX0_carryOut_113 : decode cX0_carryOut 113 = .ok (.iload_n 3, 1) := by decide +kernel
theorem dX0_carryOut_114 : decode cX0_carryOut 114 = .ok (.iconst 1, 1) := by decide +kernel
theorem dX0_carryOut_115 : decode cX0_carryOut 115 = .ok (.bastore, 1) := by decide +kernel
theorem dX0_carryOut_116 : decode cX0_carryOut 116 = .ok (.aload_n 0, 1) := by decide +kernel
theorem dX0_carryOut_117 : decode cX0_carryOut 117 = .ok (.getfield 53, 3) := by decide +kernel
theorem dX0_carryOut_120 : decode cX0_carryOut 120 = .ok (.iload_n 1, 1) := by decide +kernel
theorem dX0_carryOut_121 : decode cX0_carryOut 121 = .ok (.dup2, 1) := by decide +kernel
theorem dX0_carryOut_122 : decode cX0_carryOut 122 = .ok (.iaload, 1) := by decide +kernel
theorem dX0_carryOut_123 : decode cX0_carryOut 123 = .ok (.iconst 1, 1) := by decide +kernel
theorem dX0_carryOut_124 : decode cX0_carryOut 124 = .ok (.iadd, 1) := by decide +kernel
theorem dX0_carryOut_125 : decode cX0_carryOut 125 = .ok (.iastore, 1) := by decide +kernel
theorem dX0_carryOut_126 : decode cX0_carryOut 126 = .ok (.goto 17, 3) := by decide +kernel
theorem dX0_carryOut_129 : decode cX0_carryOut 129 = .ok (.aload_n 0, 1) := by decide +kernel
theorem dX0_carryOut_130 : decode cX0_carryOut 130 = .ok (.getfield 56, 3) := by decide +kernel
theorem dX0_carryOut_133 : decode cX0_carryOut 133 = .ok (.iload 5, 2) := by decide +kernel
theorem dX0_carryOut_135 : decode cX0_carryOut 135 = .ok (.aload_n 0, 1) := by decide +kernel
theorem dX0_carryOut_136 : decode cX0_carryOut 136 = .ok (.getfield 17, 3) := by decide +kernel
theorem dX0_carryOut_139 : decode cX0_carryOut 139 = .ok (.iload 4, 2) := by decide +kernel
theorem dX0_carryOut_141 : decode cX0_carryOut 141 = .ok (.iaload, 1) := by decide +kernel
theorem dX0_carryOut_142 : decode cX0_carryOut 142 = .ok (.iastore, 1) := by decide +kernel
theorem dX0_carryOut_143 : decode cX0_carryOut 143 = .ok (.return_, 1) := by decide +kernel

/-- isReplica -/
theorem metX0_isReplica (l : Launch) (x : Int32) : Met l yX0_isReplica wsX0_isReplica rmX0_isReplica (va_Pc [.int x] (fun _ => True)) (va_Qi (fun r (_ : Unit) => r = bI (mt_rep x)) (fun _ _ => True) (fun _ => False)) 0 0 (fun _ => False) := by
  refine s_metZ (own := RX0) l (by decide) rfl (Nat.le_of_ble_eq_true rfl) (fun p e s m args below meth cd Q S hret ls hl => ?_)
  have hl : lv_has ls 1 [(0, .int x)] := hl
  refine lv_iload_n (pc := 0) S.1 S.2.1 dX0_isReplica_0 rfl (lv_at hl 0 rfl) ?_
  refine lv_if_lt (pc := 1) (tgt := 13) S.1 S.2.1 dX0_isReplica_1 (by decide) (fun c_1 => ?_) (fun c_1 => ?_)
  · refine lv_iconst (pc := 13) (v := nI 0) S.1 S.2.1 dX0_isReplica_13 (by decide) ?_
    exact hret _ _ _ z01_0 (bI0 (fun z => absurd z.1 (Int32.not_le.mpr c_1))) dX0_isReplica_14
  · refine lv_iload_n (pc := 4) S.1 S.2.1 dX0_isReplica_4 rfl (lv_at hl 0 rfl) ?_
    refine lv_iconst (pc := 5) (v := nI 2) S.1 S.2.1 dX0_isReplica_5 (by decide) ?_
    refine lv_icmp_gt (pc := 6) (tgt := 13) S.1 S.2.1 dX0_isReplica_6 (by decide) (fun c_6 => ?_) (fun c_6 => ?_)
    · refine lv_iconst (pc := 13) (v := nI 0) S.1 S.2.1 dX0_isReplica_13 (by decide) ?_
      exact hret _ _ _ z01_0 (bI0 (fun z => absurd z.2 (Int32.not_le.mpr c_6))) dX0_isReplica_14
    · refine lv_iconst (pc := 9) (v := nI 1) S.1 S.2.1 dX0_isReplica_9 (by decide) ?_
      refine lv_goto (pc := 10) (tgt := 14) S.1 S.2.1 dX0_isReplica_10 (by decide) ?_
      exact hret _ _ _ z01_1 (bI1 ⟨Int32.not_lt.mp c_1, Int32.not_lt.mp c_6⟩) dX0_isReplica_14
/-- isNode -/
theorem metX0_isNode (l : Launch) (x : Int32) : Met l yX0_isNode wsX0_isNode rmX0_isNode (va_Pc [.int x] (fun _ => True)) (va_Qi (fun r (_ : Unit) => r = bI (mt_nod x)) (fun _ _ => True) (fun _ => False)) 0 0 (fun _ => False) := by
  refine s_metZ (own := RX0) l (by decide) rfl (Nat.le_of_ble_eq_true rfl) (fun p e s m args below meth cd Q S hret ls hl => ?_)
  have hl : lv_has ls 1 [(0, .int x)] := hl
  refine lv_iload_n (pc := 0) S.1 S.2.1 dX0_isNode_0 rfl (lv_at hl 0 rfl) ?_
  refine lv_if_lt (pc := 1) (tgt := 14) S.1 S.2.1 dX0_isNode_1 (by decide) (fun c_1 => ?_) (fun c_1 => ?_)
  · refine lv_iconst (pc := 14) (v := nI 0) S.1 S.2.1 dX0_isNode_14 (by decide) ?_
    exact hret _ _ _ z01_0 (bI0 (fun z => absurd z.1 (Int32.not_le.mpr c_1))) dX0_isNode_15
  · refine lv_iload_n (pc := 4) S.1 S.2.1 dX0_isNode_4 rfl (lv_at hl 0 rfl) ?_
    refine lv_bipush (pc := 5) (v := nI 9) S.1 S.2.1 dX0_isNode_5 (by decide) ?_
    refine lv_icmp_gt (pc := 7) (tgt := 14) S.1 S.2.1 dX0_isNode_7 (by decide) (fun c_7 => ?_) (fun c_7 => ?_)
    · refine lv_iconst (pc := 14) (v := nI 0) S.1 S.2.1 dX0_isNode_14 (by decide) ?_
      exact hret _ _ _ z01_0 (bI0 (fun z => absurd z.2 (Int32.not_le.mpr c_7))) dX0_isNode_15
    · refine lv_iconst (pc := 10) (v := nI 1) S.1 S.2.1 dX0_isNode_10 (by decide) ?_
      refine lv_goto (pc := 11) (tgt := 15) S.1 S.2.1 dX0_isNode_11 (by decide) ?_
      exact hret _ _ _ z01_1 (bI1 ⟨Int32.not_lt.mp c_1, Int32.not_lt.mp c_7⟩) dX0_isNode_15
set_option maxHeartbeats 4000000 in
/-- isEarlier(x, y) -/
theorem metX0_isEarlier (l : Launch) (D : va_G) (h : Nat → Nat) (cZ cI : ClassId) (g : Nat → Nat → Nat) (f : Nat → Nat → Int32) (x y : Nat) (hx : x < 60) (hy : y < 60) (h4x : g 4 x < 2147483648) (h4y : g 4 y < 2147483648) (h5x : g 5 x < 2147483648) (h5y : g 5 y < 2147483648) : Met l yX0_isEarlier wsX0_isEarlier rmX0_isEarlier (xPc D h cZ cI g f [.int (nI x), .int (nI y)]) (va_Qi (fun r (u : zU) => r = bI (mt_ea (g 4) (g 5) x y) ∧ u = (g, f)) (xB D h cZ cI) (xA h)) 0 0 (xA h) := by
  refine x_metZ l (by decide) rfl (Nat.le_of_ble_eq_true rfl) ⟨rfl, rfl⟩ (fun p e s m args below meth cd R Q hR S hret ls hl hW => ?_)
  have hl : lv_has ls 3 [(0, .ref (h 0)), (1, .int (nI x)), (2, .int (nI y))] := hl
  refine x_g_4 (pc := 0) S hW (lv_at hl 0 rfl) dX0_isEarlier_0 dX0_isEarlier_1 ?_
  refine lv_iload_n (pc := 4) S.1 S.2.1 dX0_isEarlier_4 rfl (lv_at hl 1 rfl) ?_
  refine x_ld_4 (pc := 5) (i := x) (v := g 4 x) S hW (by omega) rfl dX0_isEarlier_5 ?_
  refine x_g_4 (pc := 6) S hW (lv_at hl 0 rfl) dX0_isEarlier_6 dX0_isEarlier_7 ?_
  refine lv_iload_n (pc := 10) S.1 S.2.1 dX0_isEarlier_10 rfl (lv_at hl 2 rfl) ?_
  refine x_ld_4 (pc := 11) (i := y) (v := g 4 y) S hW (by omega) rfl dX0_isEarlier_11 ?_
  refine z_icmp_eq (pc := 12) (tgt := 36) (x := g 4 x) (y := g 4 y) S (by omega) (by omega) dX0_isEarlier_12 (by decide) (fun c_12 => ?_) (fun c_12 => ?_)
  · refine x_g_5 (pc := 36) S hW (lv_at hl 0 rfl) dX0_isEarlier_36 dX0_isEarlier_37 ?_
    refine lv_iload_n (pc := 40) S.1 S.2.1 dX0_isEarlier_40 rfl (lv_at hl 1 rfl) ?_
    refine x_ld_5 (pc := 41) (i := x) (v := g 5 x) S hW (by omega) rfl dX0_isEarlier_41 ?_
    refine x_g_5 (pc := 42) S hW (lv_at hl 0 rfl) dX0_isEarlier_42 dX0_isEarlier_43 ?_
    refine lv_iload_n (pc := 46) S.1 S.2.1 dX0_isEarlier_46 rfl (lv_at hl 2 rfl) ?_
    refine x_ld_5 (pc := 47) (i := y) (v := g 5 y) S hW (by omega) rfl dX0_isEarlier_47 ?_
    refine z_icmp_ge (pc := 48) (tgt := 55) (x := g 5 x) (y := g 5 y) S (by omega) (by omega) dX0_isEarlier_48 (by decide) (fun c_48 => ?_) (fun c_48 => ?_)
    · refine lv_iconst (pc := 55) (v := nI 0) S.1 S.2.1 dX0_isEarlier_55 (by decide) ?_
      exact hret _ _ _ _ _ _ _ hW z01_0 ⟨bI0 (fun z => by unfold mt_ea at z; omega), rfl⟩ dX0_isEarlier_56
    · refine lv_iconst (pc := 51) (v := nI 1) S.1 S.2.1 dX0_isEarlier_51 (by decide) ?_
      refine lv_goto (pc := 52) (tgt := 56) S.1 S.2.1 dX0_isEarlier_52 (by decide) ?_
      exact hret _ _ _ _ _ _ _ hW z01_1 ⟨bI1 (Or.inr ⟨c_12, c_48⟩), rfl⟩ dX0_isEarlier_56
  · refine x_g_4 (pc := 15) S hW (lv_at hl 0 rfl) dX0_isEarlier_15 dX0_isEarlier_16 ?_
    refine lv_iload_n (pc := 19) S.1 S.2.1 dX0_isEarlier_19 rfl (lv_at hl 1 rfl) ?_
    refine x_ld_4 (pc := 20) (i := x) (v := g 4 x) S hW (by omega) rfl dX0_isEarlier_20 ?_
    refine x_g_4 (pc := 21) S hW (lv_at hl 0 rfl) dX0_isEarlier_21 dX0_isEarlier_22 ?_
    refine lv_iload_n (pc := 25) S.1 S.2.1 dX0_isEarlier_25 rfl (lv_at hl 2 rfl) ?_
    refine x_ld_4 (pc := 26) (i := y) (v := g 4 y) S hW (by omega) rfl dX0_isEarlier_26 ?_
    refine z_icmp_ge (pc := 27) (tgt := 34) (x := g 4 x) (y := g 4 y) S (by omega) (by omega) dX0_isEarlier_27 (by decide) (fun c_27 => ?_) (fun c_27 => ?_)
    · refine lv_iconst (pc := 34) (v := nI 0) S.1 S.2.1 dX0_isEarlier_34 (by decide) ?_
      exact hret _ _ _ _ _ _ _ hW z01_0 ⟨bI0 (fun z => by unfold mt_ea at z; omega), rfl⟩ dX0_isEarlier_35
    · refine lv_iconst (pc := 30) (v := nI 1) S.1 S.2.1 dX0_isEarlier_30 (by decide) ?_
      refine lv_goto (pc := 31) (tgt := 35) S.1 S.2.1 dX0_isEarlier_31 (by decide) ?_
      exact hret _ _ _ _ _ _ _ hW z01_1 ⟨bI1 (Or.inl c_27), rfl⟩ dX0_isEarlier_35
set_option maxHeartbeats 4000000 in
/-- isKnown(r, c) -/
theorem metX0_isKnown (l : Launch) (D : va_G) (h : Nat → Nat) (cZ cI : ClassId) (g : Nat → Nat → Nat) (f : Nat → Nat → Int32) (r c : Nat) (hr : r < 3) (hc : c < 60) (h5 : g 5 c < 3) (h6 : g 6 c < 2147483648) (h9 : g 9 (3 * r + g 5 c) < 2147483648) : Met l yX0_isKnown wsX0_isKnown rmX0_isKnown (xPc D h cZ cI g f [.int (nI r), .int (nI c)]) (va_Qi (fun v (u : zU) => v = bI (g 6 c ≤ g 9 (3 * r + g 5 c)) ∧ u = (g, f)) (xB D h cZ cI) (xA h)) 0 0 (xA h) := by
  refine x_metZ l (by decide) rfl (Nat.le_of_ble_eq_true rfl) ⟨rfl, rfl⟩ (fun p e s m args below meth cd R Q hR S hret ls hl hW => ?_)
  have hl : lv_has ls 3 [(0, .ref (h 0)), (1, .int (nI r)), (2, .int (nI c))] := hl
  refine x_g_6 (pc := 0) S hW (lv_at hl 0 rfl) dX0_isKnown_0 dX0_isKnown_1 ?_
  refine lv_iload_n (pc := 4) S.1 S.2.1 dX0_isKnown_4 rfl (lv_at hl 2 rfl) ?_
  refine x_ld_6 (pc := 5) (i := c) (v := g 6 c) S hW (by omega) rfl dX0_isKnown_5 ?_
  refine x_g_9 (pc := 6) S hW (lv_at hl 0 rfl) dX0_isKnown_6 dX0_isKnown_7 ?_
  refine lv_iconst (pc := 10) (v := nI 3) S.1 S.2.1 dX0_isKnown_10 (by decide) ?_
  refine lv_iload_n (pc := 11) S.1 S.2.1 dX0_isKnown_11 rfl (lv_at hl 1 rfl) ?_
  refine z_imul (pc := 12) (x := 3) (y := r) S dX0_isKnown_12 ?_
  refine x_g_5 (pc := 13) S hW (lv_at hl 0 rfl) dX0_isKnown_13 dX0_isKnown_14 ?_
  refine lv_iload_n (pc := 17) S.1 S.2.1 dX0_isKnown_17 rfl (lv_at hl 2 rfl) ?_
  refine x_ld_5 (pc := 18) (i := c) (v := g 5 c) S hW (by omega) rfl dX0_isKnown_18 ?_
  refine z_iadd (pc := 19) (x := 3 * r) (y := g 5 c) S dX0_isKnown_19 ?_
  refine x_ld_9 (pc := 20) (i := (3 * r) + (g 5 c)) (v := g 9 ((3 * r) + (g 5 c))) S hW (by omega) rfl dX0_isKnown_20 ?_
  refine z_icmp_gt (pc := 21) (tgt := 28) (x := g 6 c) (y := g 9 ((3 * r) + (g 5 c))) S (by omega) (by omega) dX0_isKnown_21 (by decide) (fun c_21 => ?_) (fun c_21 => ?_)
  · refine lv_iconst (pc := 28) (v := nI 0) S.1 S.2.1 dX0_isKnown_28 (by decide) ?_
    exact hret _ _ _ _ _ _ _ hW z01_0 ⟨bI0 (fun z => by omega), rfl⟩ dX0_isKnown_29
  · refine lv_iconst (pc := 24) (v := nI 1) S.1 S.2.1 dX0_isKnown_24 (by decide) ?_
    refine lv_goto (pc := 25) (tgt := 29) S.1 S.2.1 dX0_isKnown_25 (by decide) ?_
    exact hret _ _ _ _ _ _ _ hW z01_1 ⟨bI1 c_21, rfl⟩ dX0_isKnown_29
set_option maxHeartbeats 4000000 in
/-- leadsUpTo(r, a, node) -/
theorem metX0_leadsUpTo (l : Launch) (D : va_G) (h : Nat → Nat) (cZ cI : ClassId) (g : Nat → Nat → Nat) (f : Nat → Nat → Int32) (r : Nat) (a node : Int32) (hr : r < 3) (ha : mt_okp a) (hok : ∀ j, j < 10 → mt_okp (f 16 (10 * r + j))) : Met l yX0_leadsUpTo wsX0_leadsUpTo rmX0_leadsUpTo (xPc D h cZ cI g f [.int (nI r), .int a, .int node]) (va_Qi (fun v (u : zU) => v = bI (mt_up (fun j => f 16 (10 * r + j)) node 10 a = true) ∧ u = (g, f)) (xB D h cZ cI) (xA h)) 0 0 (xA h) := by
  refine x_metZ l (by decide) rfl (Nat.le_of_ble_eq_true rfl) ⟨rfl, rfl⟩ (fun p e s m args below meth cd R Q hR S hret ls hl hW => ?_)
  have hl : lv_has ls 6 [(0, .ref (h 0)), (1, .int (nI r)), (2, .int a), (3, .int node)] := hl
  have loop : ∀ (n k : Nat) (b : Int32), k + n = 10 → mt_okp b → mt_up (fun j => f 16 (10 * r + j)) node n b = mt_up (fun j => f 16 (10 * r + j)) node 10 a → ∀ ls : Array Slot, lv_has ls 6 [(0, .ref (h 0)), (1, .int (nI r)), (2, .int a), (3, .int node), (4, .int b), (5, .int (nI k))] → W p l e R s m args below meth cd s.heap [] 0 0 Q (F0 m 6 ls []) := by
    intro n
    induction n with
    | zero =>
      intro k b hk hb hu ls hl
      refine lv_iload (pc := 6) S.1 S.2.1 dX0_leadsUpTo_6 (lv_at hl 5 rfl) ?_
      refine lv_bipush (pc := 8) (v := nI 10) S.1 S.2.1 dX0_leadsUpTo_8 (by decide) ?_
      refine z_icmp_ge (pc := 10) (tgt := 46) (x := k) (y := 10) S (by omega) (by omega) dX0_leadsUpTo_10 (by decide) (fun c_10 => ?_) (fun c_10 => ?_)
      · refine lv_iconst (pc := 46) (v := nI 0) S.1 S.2.1 dX0_leadsUpTo_46 (by decide) ?_
        exact hret _ _ _ _ _ _ _ hW z01_0 ⟨bI0 (fun z => by rw [← hu] at z; exact absurd (show false = true from z) (by decide)), rfl⟩ dX0_leadsUpTo_47
      · exfalso; omega
    | succ n ih =>
      intro k b hk hb hu ls hl
      refine lv_iload (pc := 6) S.1 S.2.1 dX0_leadsUpTo_6 (lv_at hl 5 rfl) ?_
      refine lv_bipush (pc := 8) (v := nI 10) S.1 S.2.1 dX0_leadsUpTo_8 (by decide) ?_
      refine z_icmp_ge (pc := 10) (tgt := 46) (x := k) (y := 10) S (by omega) (by omega) dX0_leadsUpTo_10 (by decide) (fun c_10 => ?_) (fun c_10 => ?_)
      · exfalso; omega
      · refine lv_iload (pc := 13) S.1 S.2.1 dX0_leadsUpTo_13 (lv_at hl 4 rfl) ?_
        refine lv_if_lt (pc := 15) (tgt := 46) S.1 S.2.1 dX0_leadsUpTo_15 (by decide) (fun c_15 => ?_) (fun c_15 => ?_)
        · have hu2 : mt_up (fun j => f 16 (10 * r + j)) node (n + 1) b = false := by unfold mt_up; rw [if_pos c_15]
          refine lv_iconst (pc := 46) (v := nI 0) S.1 S.2.1 dX0_leadsUpTo_46 (by decide) ?_
          exact hret _ _ _ _ _ _ _ hW z01_0 ⟨bI0 (fun z => by rw [← hu, hu2] at z; exact absurd z (by decide)), rfl⟩ dX0_leadsUpTo_47
        · refine lv_iload (pc := 18) S.1 S.2.1 dX0_leadsUpTo_18 (lv_at hl 4 rfl) ?_
          refine lv_iload_n (pc := 20) S.1 S.2.1 dX0_leadsUpTo_20 rfl (lv_at hl 3 rfl) ?_
          refine lv_icmp_ne (pc := 21) (tgt := 26) S.1 S.2.1 dX0_leadsUpTo_21 (by decide) (fun c_21 => ?_) (fun c_21 => ?_)
          · have hu2 : mt_up (fun j => f 16 (10 * r + j)) node (n + 1) b = mt_up (fun j => f 16 (10 * r + j)) node n (f 16 (10 * r + b.toNatClampNeg)) := by
              show (if b < 0 then false else if b = node then true else mt_up (fun j => f 16 (10 * r + j)) node n (f 16 (10 * r + b.toNatClampNeg))) = _
              rw [if_neg c_15, if_neg c_21]
            obtain ⟨j, hj, rfl⟩ := mt_okp_neg hb c_15
            rw [nI_clamp (by omega)] at hu2
            refine x_g_16 (pc := 26) S hW (lv_at hl 0 rfl) dX0_leadsUpTo_26 dX0_leadsUpTo_27 ?_
            refine lv_bipush (pc := 30) (v := nI 10) S.1 S.2.1 dX0_leadsUpTo_30 (by decide) ?_
            refine lv_iload_n (pc := 32) S.1 S.2.1 dX0_leadsUpTo_32 rfl (lv_at hl 1 rfl) ?_
            refine z_imul (pc := 33) (x := 10) (y := r) S dX0_leadsUpTo_33 ?_
            refine lv_iload (pc := 34) S.1 S.2.1 dX0_leadsUpTo_34 (lv_at hl 4 rfl) ?_
            refine z_iadd (pc := 36) (x := 10 * r) (y := j) S dX0_leadsUpTo_36 ?_
            refine x_ld_16 (pc := 37) (i := (10 * r) + j) (v := f 16 ((10 * r) + j)) S hW (by omega) rfl dX0_leadsUpTo_37 ?_
            refine lv_istore (pc := 38) (lv' := [(4, .int (f 16 ((10 * r) + j))), (0, .ref (h 0)), (1, .int (nI r)), (2, .int a), (3, .int node), (5, .int (nI k))]) S.1 S.2.1 dX0_leadsUpTo_38 hl (by decide) rfl (fun ls hl => ?_)
            refine lv_iinc (pc := 40) (v := nI (k + 1)) (lv' := [(5, .int (nI (k + 1))), (4, .int (f 16 ((10 * r) + j))), (0, .ref (h 0)), (1, .int (nI r)), (2, .int a), (3, .int node)]) S.1 S.2.1 dX0_leadsUpTo_40 hl (k := 5) rfl (z_inc1 _) (by decide) rfl (fun ls hl => ?_)
            refine lv_goto (pc := 43) (tgt := 6) S.1 S.2.1 dX0_leadsUpTo_43 (by decide) ?_
            exact ih (k + 1) _ (by omega) (hok j hj) (by rw [← hu2]; exact hu) ls (lv_sub hl [2, 3, 4, 5, 1, 0] rfl)
          · have hu2 : mt_up (fun j => f 16 (10 * r + j)) node (n + 1) b = true := by unfold mt_up; rw [if_neg c_15, if_pos c_21]
            refine lv_iconst (pc := 24) (v := nI 1) S.1 S.2.1 dX0_leadsUpTo_24 (by decide) ?_
            exact hret _ _ _ _ _ _ _ hW z01_1 ⟨bI1 (by rw [← hu, hu2]), rfl⟩ dX0_leadsUpTo_25
  refine lv_iload_n (pc := 0) S.1 S.2.1 dX0_leadsUpTo_0 rfl (lv_at hl 2 rfl) ?_
  refine lv_istore (pc := 1) (lv' := [(4, .int a), (0, .ref (h 0)), (1, .int (nI r)), (2, .int a), (3, .int node)]) S.1 S.2.1 dX0_leadsUpTo_1 hl (by decide) rfl (fun ls hl => ?_)
  refine lv_iconst (pc := 3) (v := nI 0) S.1 S.2.1 dX0_leadsUpTo_3 (by decide) ?_
  refine lv_istore (pc := 4) (lv' := [(5, .int (nI 0)), (4, .int a), (0, .ref (h 0)), (1, .int (nI r)), (2, .int a), (3, .int node)]) S.1 S.2.1 dX0_leadsUpTo_4 hl (by decide) rfl (fun ls hl => ?_)
  exact loop 10 0 a rfl ha rfl ls (lv_sub hl [2, 3, 4, 5, 1, 0] rfl)
set_option maxHeartbeats 4000000 in
/-- undo(r, k) -/
theorem metX0_undo (l : Launch) (D : va_G) (h : Nat → Nat) (cZ cI : ClassId) (g : Nat → Nat → Nat) (f : Nat → Nat → Int32) (r k c : Nat) (hr : r < 3) (hk : k < 60) (hc : c < 60) (hlc : g 12 (60 * r + k) = c) (h1 : g 1 c < 2) (h2 : g 2 c < 10) (h14 : ¬ g 1 c = 0 → g 14 (60 * r + k) < 2) (h15 : ¬ g 1 c = 0 → ¬ g 14 (60 * r + k) = 0 → 1 ≤ g 15 r) : Met l yX0_undo wsX0_undo rmX0_undo (xPc D h cZ cI g f [.int (nI r), .int (nI k)]) (va_Qv (fun (u : zU) => u = ((mt_un g f r k c).1, (mt_un g f r k c).2)) (xB D h cZ cI) (xA h)) 0 0 (xA h) := by
  refine x_metV l (by decide) rfl (Nat.le_of_ble_eq_true rfl) ⟨rfl, rfl⟩ (fun p e s m args below meth cd R Q hR S hret ls hl hW => ?_)
  have hl : lv_has ls 6 [(0, .ref (h 0)), (1, .int (nI r)), (2, .int (nI k))] := hl
  refine lv_bipush (pc := 0) (v := nI 60) S.1 S.2.1 dX0_undo_0 (by decide) ?_
  refine lv_iload_n (pc := 2) S.1 S.2.1 dX0_undo_2 rfl (lv_at hl 1 rfl) ?_
  refine z_imul (pc := 3) (x := 60) (y := r) S dX0_undo_3 ?_
  refine lv_iload_n (pc := 4) S.1 S.2.1 dX0_undo_4 rfl (lv_at hl 2 rfl) ?_
  refine z_iadd (pc := 5) (x := 60 * r) (y := k) S dX0_undo_5 ?_
  refine lv_istore_n (pc := 6) (lv' := [(3, .int (nI ((60 * r) + k))), (0, .ref (h 0)), (1, .int (nI r)), (2, .int (nI k))]) S.1 S.2.1 dX0_undo_6 rfl hl (by decide) rfl (fun ls hl => ?_)
  refine x_g_12 (pc := 7) S hW (lv_at hl 1 rfl) dX0_undo_7 dX0_undo_8 ?_
  refine lv_iload_n (pc := 11) S.1 S.2.1 dX0_undo_11 rfl (lv_at hl 0 rfl) ?_
  refine x_ld_12 (pc := 12) (i := (60 * r) + k) (v := c) S hW (by omega) hlc dX0_undo_12 ?_
  refine lv_istore (pc := 13) (lv' := [(4, .int (nI c)), (3, .int (nI ((60 * r) + k))), (0, .ref (h 0)), (1, .int (nI r)), (2, .int (nI k))]) S.1 S.2.1 dX0_undo_13 hl (by decide) rfl (fun ls hl => ?_)
  refine lv_bipush (pc := 15) (v := nI 10) S.1 S.2.1 dX0_undo_15 (by decide) ?_
  refine lv_iload_n (pc := 17) S.1 S.2.1 dX0_undo_17 rfl (lv_at hl 3 rfl) ?_
  refine z_imul (pc := 18) (x := 10) (y := r) S dX0_undo_18 ?_
  refine x_g_2 (pc := 19) S hW (lv_at hl 2 rfl) dX0_undo_19 dX0_undo_20 ?_
  refine lv_iload (pc := 23) S.1 S.2.1 dX0_undo_23 (lv_at hl 0 rfl) ?_
  refine x_ld_2 (pc := 25) (i := c) (v := g 2 c) S hW (by omega) rfl dX0_undo_25 ?_
  refine z_iadd (pc := 26) (x := 10 * r) (y := g 2 c) S dX0_undo_26 ?_
  refine lv_istore (pc := 27) (lv' := [(5, .int (nI ((10 * r) + (g 2 c)))), (4, .int (nI c)), (3, .int (nI ((60 * r) + k))), (0, .ref (h 0)), (1, .int (nI r)), (2, .int (nI k))]) S.1 S.2.1 dX0_undo_27 hl (by decide) rfl (fun ls hl => ?_)
  refine x_g_1 (pc := 29) S hW (lv_at hl 3 rfl) dX0_undo_29 dX0_undo_30 ?_
  refine lv_iload (pc := 33) S.1 S.2.1 dX0_undo_33 (lv_at hl 1 rfl) ?_
  refine x_ld_1 (pc := 35) (i := c) (v := g 1 c) S hW (by omega) rfl dX0_undo_35 ?_
  refine z_if_ne (pc := 36) (tgt := 55) (x := g 1 c) S (by omega) dX0_undo_36 (by decide) (fun c_36 => ?_) (fun c_36 => ?_)
  · refine x_g_14 (pc := 55) S hW (lv_at hl 3 rfl) dX0_undo_55 dX0_undo_56 ?_
    refine lv_iload_n (pc := 59) S.1 S.2.1 dX0_undo_59 rfl (lv_at hl 2 rfl) ?_
    refine x_ld_14 (pc := 60) (i := (60 * r) + k) (v := g 14 ((60 * r) + k)) S hW (by omega) rfl dX0_undo_60 ?_
    refine z_if_eq (pc := 61) (tgt := 77) (x := g 14 ((60 * r) + k)) S (by have := h14 c_36; omega) dX0_undo_61 (by decide) (fun c_61 => ?_) (fun c_61 => ?_)
    · refine x_g_16 (pc := 77) S hW (lv_at hl 3 rfl) dX0_undo_77 dX0_undo_78 ?_
      refine lv_iload (pc := 81) S.1 S.2.1 dX0_undo_81 (lv_at hl 0 rfl) ?_
      refine x_g_13 (pc := 83) S hW (lv_at hl 3 rfl) dX0_undo_83 dX0_undo_84 ?_
      refine lv_iload_n (pc := 87) S.1 S.2.1 dX0_undo_87 rfl (lv_at hl 2 rfl) ?_
      refine x_ld_13 (pc := 88) (i := (60 * r) + k) (v := f 13 ((60 * r) + k)) S hW (by omega) rfl dX0_undo_88 ?_
      refine x_st_16 (pc := 89) (i := (10 * r) + (g 2 c)) (v := f 13 ((60 * r) + k)) S hW (by omega) dX0_undo_89 (fun H locs hW => ?_)
      exact hret _ _ _ _ _ _ hW (by unfold mt_un; rw [if_neg c_36, if_pos c_61]) dX0_undo_90
    · refine x_g_15 (pc := 64) S hW (lv_at hl 3 rfl) dX0_undo_64 dX0_undo_65 ?_
      refine lv_iload_n (pc := 68) S.1 S.2.1 dX0_undo_68 rfl (lv_at hl 4 rfl) ?_
      refine lv_dup2_11 (pc := 69) S.1 S.2.1 dX0_undo_69 rfl rfl ?_
      refine x_ld_15 (pc := 70) (i := r) (v := g 15 r) S hW (by omega) rfl dX0_undo_70 ?_
      refine lv_iconst (pc := 71) (v := nI 1) S.1 S.2.1 dX0_undo_71 (by decide) ?_
      refine z_isub (pc := 72) (x := g 15 r) (y := 1) S (h15 c_36 c_61) dX0_undo_72 ?_
      refine x_st_15 (pc := 73) (i := r) (v := (g 15 r) - 1) S hW (by omega) dX0_undo_73 (fun H locs hW => ?_)
      refine lv_goto (pc := 74) (tgt := 90) S.1 S.2.1 dX0_undo_74 (by decide) ?_
      exact hret _ _ _ _ _ _ hW (by unfold mt_un; rw [if_neg c_36, if_neg c_61]) dX0_undo_90
  · refine x_g_17 (pc := 39) S hW (lv_at hl 3 rfl) dX0_undo_39 dX0_undo_40 ?_
    refine lv_iload (pc := 43) S.1 S.2.1 dX0_undo_43 (lv_at hl 0 rfl) ?_
    refine x_g_13 (pc := 45) S hW (lv_at hl 3 rfl) dX0_undo_45 dX0_undo_46 ?_
    refine lv_iload_n (pc := 49) S.1 S.2.1 dX0_undo_49 rfl (lv_at hl 2 rfl) ?_
    refine x_ld_13 (pc := 50) (i := (60 * r) + k) (v := f 13 ((60 * r) + k)) S hW (by omega) rfl dX0_undo_50 ?_
    refine x_st_17 (pc := 51) (i := (10 * r) + (g 2 c)) (v := f 13 ((60 * r) + k)) S hW (by omega) dX0_undo_51 (fun H locs hW => ?_)
    refine lv_goto (pc := 52) (tgt := 90) S.1 S.2.1 dX0_undo_52 (by decide) ?_
    exact hret _ _ _ _ _ _ hW (by unfold mt_un; rw [if_pos c_36]) dX0_undo_90
set_option maxHeartbeats 4000000 in
/-- carryOut(r, k) -/
theorem metX0_carryOut (l : Launch) (D : va_G) (h : Nat → Nat) (cZ cI : ClassId) (g : Nat → Nat → Nat) (f : Nat → Nat → Int32) (r k c : Nat) (hr : r < 3) (hk : k < 60) (hc : c < 60) (hlc : g 12 (60 * r + k) = c) (h1 : g 1 c < 2) (h2 : g 2 c < 10) (h3 : ¬ g 1 c = 0 → mt_okp (f 3 c)) (hok : ∀ j, j < 10 → mt_okp (f 16 (10 * r + j))) : Met l yX0_carryOut wsX0_carryOut rmX0_carryOut (xPc D h cZ cI g f [.int (nI r), .int (nI k)]) (va_Qv (fun (u : zU) => u = ((mt_co g f r k c).1, (mt_co g f r k c).2)) (xB D h cZ cI) (xA h)) 0 0 (xA h) := by
  refine x_metV l (by decide) rfl (Nat.le_of_ble_eq_true rfl) ⟨rfl, rfl⟩ (fun p e s m args below meth cd R Q hR S hret ls hl hW => ?_)
  have hl : lv_has ls 6 [(0, .ref (h 0)), (1, .int (nI r)), (2, .int (nI k))] := hl
  refine lv_bipush (pc := 0) (v := nI 60) S.1 S.2.1 dX0_carryOut_0 (by decide) ?_
  refine lv_iload_n (pc := 2) S.1 S.2.1 dX0_carryOut_2 rfl (lv_at hl 1 rfl) ?_
  refine z_imul (pc := 3) (x := 60) (y := r) S dX0_carryOut_3 ?_
  refine lv_iload_n (pc := 4) S.1 S.2.1 dX0_carryOut_4 rfl (lv_at hl 2 rfl) ?_
  refine z_iadd (pc := 5) (x := 60 * r) (y := k) S dX0_carryOut_5 ?_
  refine lv_istore_n (pc := 6) (lv' := [(3, .int (nI ((60 * r) + k))), (0, .ref (h 0)), (1, .int (nI r)), (2, .int (nI k))]) S.1 S.2.1 dX0_carryOut_6 rfl hl (by decide) rfl (fun ls hl => ?_)
  refine x_g_12 (pc := 7) S hW (lv_at hl 1 rfl) dX0_carryOut_7 dX0_carryOut_8 ?_
  refine lv_iload_n (pc := 11) S.1 S.2.1 dX0_carryOut_11 rfl (lv_at hl 0 rfl) ?_
  refine x_ld_12 (pc := 12) (i := (60 * r) + k) (v := c) S hW (by omega) hlc dX0_carryOut_12 ?_
  refine lv_istore (pc := 13) (lv' := [(4, .int (nI c)), (3, .int (nI ((60 * r) + k))), (0, .ref (h 0)), (1, .int (nI r)), (2, .int (nI k))]) S.1 S.2.1 dX0_carryOut_13 hl (by decide) rfl (fun ls hl => ?_)
  refine lv_bipush (pc := 15) (v := nI 10) S.1 S.2.1 dX0_carryOut_15 (by decide) ?_
  refine lv_iload_n (pc := 17) S.1 S.2.1 dX0_carryOut_17 rfl (lv_at hl 3 rfl) ?_
  refine z_imul (pc := 18) (x := 10) (y := r) S dX0_carryOut_18 ?_
  refine x_g_2 (pc := 19) S hW (lv_at hl 2 rfl) dX0_carryOut_19 dX0_carryOut_20 ?_
  refine lv_iload (pc := 23) S.1 S.2.1 dX0_carryOut_23 (lv_at hl 0 rfl) ?_
  refine x_ld_2 (pc := 25) (i := c) (v := g 2 c) S hW (by omega) rfl dX0_carryOut_25 ?_
  refine z_iadd (pc := 26) (x := 10 * r) (y := g 2 c) S dX0_carryOut_26 ?_
  refine lv_istore (pc := 27) (lv' := [(5, .int (nI ((10 * r) + (g 2 c)))), (4, .int (nI c)), (3, .int (nI ((60 * r) + k))), (0, .ref (h 0)), (1, .int (nI r)), (2, .int (nI k))]) S.1 S.2.1 dX0_carryOut_27 hl (by decide) rfl (fun ls hl => ?_)
  refine x_g_14 (pc := 29) S hW (lv_at hl 3 rfl) dX0_carryOut_29 dX0_carryOut_30 ?_
  refine lv_iload_n (pc := 33) S.1 S.2.1 dX0_carryOut_33 rfl (lv_at hl 2 rfl) ?_
  refine lv_iconst (pc := 34) (v := nI 0) S.1 S.2.1 dX0_carryOut_34 (by decide) ?_
  refine x_st_14 (pc := 35) (i := (60 * r) + k) (v := 0) S hW (by omega) (by decide) dX0_carryOut_35 (fun H locs hW => ?_)
  refine x_g_1 (pc := 36) S hW (lv_at hl 3 rfl) dX0_carryOut_36 dX0_carryOut_37 ?_
  refine lv_iload (pc := 40) S.1 S.2.1 dX0_carryOut_40 (lv_at hl 1 rfl) ?_
  refine x_ld_1 (pc := 42) (i := c) (v := g 1 c) S hW (by omega) rfl dX0_carryOut_42 ?_
  refine z_if_ne (pc := 43) (tgt := 74) (x := g 1 c) S (by omega) dX0_carryOut_43 (by decide) (fun c_43 => ?_) (fun c_43 => ?_)
  · refine x_g_13 (pc := 74) S hW (lv_at hl 3 rfl) dX0_carryOut_74 dX0_carryOut_75 ?_
    refine lv_iload_n (pc := 78) S.1 S.2.1 dX0_carryOut_78 rfl (lv_at hl 2 rfl) ?_
    refine x_g_16 (pc := 79) S hW (lv_at hl 3 rfl) dX0_carryOut_79 dX0_carryOut_80 ?_
    refine lv_iload (pc := 83) S.1 S.2.1 dX0_carryOut_83 (lv_at hl 0 rfl) ?_
    refine x_ld_16 (pc := 85) (i := (10 * r) + (g 2 c)) (v := f 16 ((10 * r) + (g 2 c))) S hW (by omega) rfl dX0_carryOut_85 ?_
    refine x_st_13 (pc := 86) (i := (60 * r) + k) (v := f 16 ((10 * r) + (g 2 c))) S hW (by omega) dX0_carryOut_86 (fun H locs hW => ?_)
    refine lv_aload_n (pc := 87) S.1 S.2.1 dX0_carryOut_87 rfl (lv_at hl 3 rfl) ?_
    refine lv_iload_n (pc := 88) S.1 S.2.1 dX0_carryOut_88 rfl (lv_at hl 4 rfl) ?_
    refine x_g_3 (pc := 89) S hW (lv_at hl 3 rfl) dX0_carryOut_89 dX0_carryOut_90 ?_
    refine lv_iload (pc := 93) S.1 S.2.1 dX0_carryOut_93 (lv_at hl 1 rfl) ?_
    refine x_ld_3 (pc := 95) (i := c) (v := f 3 c) S hW (by omega) rfl dX0_carryOut_95 ?_
    refine x_g_2 (pc := 96) S hW (lv_at hl 3 rfl) dX0_carryOut_96 dX0_carryOut_97 ?_
    refine lv_iload (pc := 100) S.1 S.2.1 dX0_carryOut_100 (lv_at hl 1 rfl) ?_
    refine x_ld_2 (pc := 102) (i := c) (v := g 2 c) S hW (by omega) rfl dX0_carryOut_102 ?_
    refine x_callr (pc := 103) (As := [.int (nI r), .int (f 3 c), .int (nI (g 2 c))]) (rest := []) S hW (metX0_leadsUpTo l D h cZ cI _ _ r (f 3 c) (nI (g 2 c)) hr (h3 c_43) hok) (cwX0_leadsUpTo S.2.2.2.2 (by rw [hR]; decide)) rfl hl.1 rfl (Nat.le_of_ble_eq_true rfl) ⟨Nat.zero_le _, Nat.zero_le _⟩ dX0_carryOut_103 (fun r_103 H locs hp_103 hW => ?_)
    subst hp_103
    refine z_ifb_eq (pc := 106) (tgt := 129) S dX0_carryOut_106 (by decide) (fun c_106 => ?_) (fun c_106 => ?_)
    · have c_106 : ¬ mt_up (fun j => f 16 (10 * r + j)) (nI (g 2 c)) 10 (f 3 c) = true := c_106
      refine x_g_16 (pc := 129) S hW (lv_at hl 3 rfl) dX0_carryOut_129 dX0_carryOut_130 ?_
      refine lv_iload (pc := 133) S.1 S.2.1 dX0_carryOut_133 (lv_at hl 0 rfl) ?_
      refine x_g_3 (pc := 135) S hW (lv_at hl 3 rfl) dX0_carryOut_135 dX0_carryOut_136 ?_
      refine lv_iload (pc := 139) S.1 S.2.1 dX0_carryOut_139 (lv_at hl 1 rfl) ?_
      refine x_ld_3 (pc := 141) (i := c) (v := f 3 c) S hW (by omega) rfl dX0_carryOut_141 ?_
      refine x_st_16 (pc := 142) (i := (10 * r) + (g 2 c)) (v := f 3 c) S hW (by omega) dX0_carryOut_142 (fun H locs hW => ?_)
      exact hret _ _ _ _ _ _ hW (by unfold mt_co; rw [if_neg c_43, if_neg c_106]) dX0_carryOut_143
    · have c_106 : mt_up (fun j => f 16 (10 * r + j)) (nI (g 2 c)) 10 (f 3 c) = true := c_106
      refine x_g_14 (pc := 109) S hW (lv_at hl 3 rfl) dX0_carryOut_109 dX0_carryOut_110 ?_
      refine lv_iload_n (pc := 113) S.1 S.2.1 dX0_carryOut_113 rfl (lv_at hl 2 rfl) ?_
      refine lv_iconst (pc := 114) (v := nI 1) S.1 S.2.1 dX0_carryOut_114 (by decide) ?_
      refine x_st_14 (pc := 115) (i := (60 * r) + k) (v := 1) S hW (by omega) (by decide) dX0_carryOut_115 (fun H locs hW => ?_)
      refine x_g_15 (pc := 116) S hW (lv_at hl 3 rfl) dX0_carryOut_116 dX0_carryOut_117 ?_
      refine lv_iload_n (pc := 120) S.1 S.2.1 dX0_carryOut_120 rfl (lv_at hl 4 rfl) ?_
      refine lv_dup2_11 (pc := 121) S.1 S.2.1 dX0_carryOut_121 rfl rfl ?_
      refine x_ld_15 (pc := 122) (i := r) (v := g 15 r) S hW (by omega) rfl dX0_carryOut_122 ?_
      refine lv_iconst (pc := 123) (v := nI 1) S.1 S.2.1 dX0_carryOut_123 (by decide) ?_
      refine z_iadd (pc := 124) (x := g 15 r) (y := 1) S dX0_carryOut_124 ?_
      refine x_st_15 (pc := 125) (i := r) (v := (g 15 r) + 1) S hW (by omega) dX0_carryOut_125 (fun H locs hW => ?_)
      refine lv_goto (pc := 126) (tgt := 143) S.1 S.2.1 dX0_carryOut_126 (by decide) ?_
      exact hret _ _ _ _ _ _ hW (by unfold mt_co; rw [if_neg c_43, if_pos c_106]) dX0_carryOut_143
  · refine x_g_13 (pc := 46) S hW (lv_at hl 3 rfl) dX0_carryOut_46 dX0_carryOut_47 ?_
    refine lv_iload_n (pc := 50) S.1 S.2.1 dX0_carryOut_50 rfl (lv_at hl 2 rfl) ?_
    refine x_g_17 (pc := 51) S hW (lv_at hl 3 rfl) dX0_carryOut_51 dX0_carryOut_52 ?_
    refine lv_iload (pc := 55) S.1 S.2.1 dX0_carryOut_55 (lv_at hl 0 rfl) ?_
    refine x_ld_17 (pc := 57) (i := (10 * r) + (g 2 c)) (v := f 17 ((10 * r) + (g 2 c))) S hW (by omega) rfl dX0_carryOut_57 ?_
    refine x_st_13 (pc := 58) (i := (60 * r) + k) (v := f 17 ((10 * r) + (g 2 c))) S hW (by omega) dX0_carryOut_58 (fun H locs hW => ?_)
    refine x_g_17 (pc := 59) S hW (lv_at hl 3 rfl) dX0_carryOut_59 dX0_carryOut_60 ?_
    refine lv_iload (pc := 63) S.1 S.2.1 dX0_carryOut_63 (lv_at hl 0 rfl) ?_
    refine x_g_3 (pc := 65) S hW (lv_at hl 3 rfl) dX0_carryOut_65 dX0_carryOut_66 ?_
    refine lv_iload (pc := 69) S.1 S.2.1 dX0_carryOut_69 (lv_at hl 1 rfl) ?_
    refine x_ld_3 (pc := 71) (i := c) (v := f 3 c) S hW (by omega) rfl dX0_carryOut_71 ?_
    refine x_st_17 (pc := 72) (i := (10 * r) + (g 2 c)) (v := f 3 c) S hW (by omega) dX0_carryOut_72 (fun H locs hW => ?_)
    exact hret _ _ _ _ _ _ hW (by unfold mt_co; rw [if_pos c_43]) dX0_carryOut_73
end
section
/-! learn: the plain side -/
set_option maxRecDepth 100000
def mt_ins {α : Type} (q : Nat → α) (pl : Nat) (x : α) : Nat → α := fun k => if k < pl then q k else if k = pl then x else q (k - 1)
theorem mt_ins_map {α β : Type} (F : α → β) (q : Nat → α) (pl : Nat) (x : α) (k : Nat) : F (mt_ins q pl x k) = mt_ins (fun k => F (q k)) pl (F x) k := by
  unfold mt_ins
  by_cases h1 : k < pl
  · rw [if_pos h1, if_pos h1]
  · rw [if_neg h1, if_neg h1]
    by_cases h2 : k = pl
    · rw [if_pos h2, if_pos h2]
    · rw [if_neg h2, if_neg h2]
theorem mt_ins_lt {α : Type} {q : Nat → α} {pl : Nat} {x : α} {k : Nat} (h : k < pl) : mt_ins q pl x k = q k := if_pos h
theorem mt_ins_eq {α : Type} {q : Nat → α} {pl : Nat} {x : α} : mt_ins q pl x pl = x := by
  unfold mt_ins
  rw [if_neg (by omega), if_pos rfl]
theorem mt_ins_gt {α : Type} {q : Nat → α} {pl : Nat} {x : α} {k : Nat} (h : pl < k) : mt_ins q pl x k = q (k - 1) := by
  unfold mt_ins
  rw [if_neg (by omega), if_neg (by omega)]
/-- the replica's log behind the learning -/
def mt_q1 (g : Nat → Nat → Nat) (f : Nat → Nat → Int32) (r c pl : Nat) : Nat → mtQ := mt_ins (mt_q g f r) pl (mt_c g f c)
theorem mt_q1_at (g : Nat → Nat → Nat) (f : Nat → Nat → Int32) (r c pl k : Nat) : mt_c g f (mt_ins (fun k => g 12 (60 * r + k)) pl c k) = mt_q1 g f r c pl k := mt_ins_map (mt_c g f) _ _ _ _
/-- what learn asks -/
def mt_LP (g : Nat → Nat → Nat) (f : Nat → Nat → Int32) (r c pl n : Nat) : Prop := r < 3 ∧ c < 60 ∧ n < 60 ∧ g 11 r = n ∧ pl ≤ n ∧ (∀ k, k < n → g 12 (60 * r + k) < 60 ∧ g 4 (g 12 (60 * r + k)) < 2147483648 ∧ g 5 (g 12 (60 * r + k)) < 2147483648 ∧ mt_okq (mt_q g f r k) ∧ (mt_ea (g 4) (g 5) c (g 12 (60 * r + k)) ↔ pl ≤ k) ∧ mt_BI g f r k (mt_run (mt_q g f r) k) (mt_q g f r k)) ∧ mt_okq (mt_c g f c) ∧ g 4 c < 2147483648 ∧ g 5 c < 3 ∧ g 6 c < 2147483648 ∧ g 10 r < 2147483648 ∧ mt_DI g f r (mt_run (mt_q g f r) n)
/-- what learn does -/
def mt_L (g : Nat → Nat → Nat) (f : Nat → Nat → Int32) (r c pl n : Nat) (g' : Nat → Nat → Nat) (f' : Nat → Nat → Int32) : Prop := (∀ a, a ≠ 9 → a ≠ 10 → a ≠ 11 → a ≠ 12 → a ≠ 14 → a ≠ 15 → g' a = g a) ∧ (∀ a, a ≠ 13 → a ≠ 16 → a ≠ 17 → f' a = f a) ∧ mt_Fr r g f g' f' ∧ g' 11 r = n + 1 ∧ (∀ k, k ≤ n → g' 12 (60 * r + k) = mt_ins (fun k => g 12 (60 * r + k)) pl c k) ∧ mt_DI g' f' r (mt_run (mt_q1 g f r c pl) (n + 1)) ∧ (∀ k, k < n + 1 → mt_BI g' f' r k (mt_run (mt_q1 g f r c pl) k) (mt_q1 g f r c pl k)) ∧ (g' 9 (3 * r + g 5 c) = g 6 c ∧ ∀ o, o < 3 → o ≠ g 5 c → g' 9 (3 * r + o) = g 9 (3 * r + o)) ∧ g' 10 r = if g 10 r < g 4 c then g 4 c else g 10 r
/-- the first loop: what lies behind t is undone and moved on by one -/
def mt_I1 (g : Nat → Nat → Nat) (f : Nat → Nat → Int32) (r n t : Nat) (g1 : Nat → Nat → Nat) (f1 : Nat → Nat → Int32) : Prop := (∀ a, a ≠ 12 → a ≠ 15 → g1 a = g a) ∧ (∀ a, a ≠ 16 → a ≠ 17 → f1 a = f a) ∧ mt_Fr r g f g1 f1 ∧ mt_DI g1 f1 r (mt_run (mt_q g f r) t) ∧ ∀ k, k ≤ n → g1 12 (60 * r + k) = if k ≤ t then g 12 (60 * r + k) else g 12 (60 * r + (k - 1))
/-- the second loop: k changes of the new log are carried out -/
def mt_I2 (g : Nat → Nat → Nat) (f : Nat → Nat → Int32) (r c pl n k : Nat) (g2 : Nat → Nat → Nat) (f2 : Nat → Nat → Int32) : Prop := (∀ a, a ≠ 11 → a ≠ 12 → a ≠ 14 → a ≠ 15 → g2 a = g a) ∧ (∀ a, a ≠ 13 → a ≠ 16 → a ≠ 17 → f2 a = f a) ∧ mt_Fr r g f g2 f2 ∧ g2 11 r = n + 1 ∧ (∀ k, k ≤ n → g2 12 (60 * r + k) = mt_ins (fun k => g 12 (60 * r + k)) pl c k) ∧ mt_DI g2 f2 r (mt_run (mt_q1 g f r c pl) k) ∧ ∀ j, j < k → mt_BI g2 f2 r j (mt_run (mt_q1 g f r c pl) j) (mt_q1 g f r c pl j)
theorem mt_c_congr {g g1 : Nat → Nat → Nat} {f f1 : Nat → Nat → Int32} (h1 : g1 1 = g 1) (h2 : g1 2 = g 2) (h3 : f1 3 = f 3) (c : Nat) : mt_c g1 f1 c = mt_c g f c := by
  unfold mt_c
  rw [h1, h2, h3]
theorem mt_BI_congr {g g1 : Nat → Nat → Nat} {f f1 : Nat → Nat → Int32} {r k : Nat} {S : mtS} {x : mtQ} (h1 : g1 14 (60 * r + k) = g 14 (60 * r + k)) (h2 : f1 13 (60 * r + k) = f 13 (60 * r + k)) (h : mt_BI g f r k S x) : mt_BI g1 f1 r k S x := by
  unfold mt_BI at *
  rw [h1, h2]
  exact h
theorem mt_I1_0 {g : Nat → Nat → Nat} {f : Nat → Nat → Int32} {r n : Nat} (hD : mt_DI g f r (mt_run (mt_q g f r) n)) : mt_I1 g f r n n g f := ⟨fun _ _ _ => rfl, fun _ _ _ => rfl, mt_Fr_rf, hD, fun k hk => by rw [if_pos hk]⟩
theorem mt_I1_s {g g1 : Nat → Nat → Nat} {f f1 : Nat → Nat → Int32} {r n j : Nat} (hI : mt_I1 g f r n (j + 1) g1 f1) (hj : j < n) (hn : n < 60) (hB : mt_BI g f r j (mt_run (mt_q g f r) j) (mt_q g f r j)) (hq : mt_okq (mt_q g f r j)) : mt_I1 g f r n j (st2 (mt_un g1 f1 r j (g 12 (60 * r + j))).1 12 (60 * r + j + 1) (g 12 (60 * r + j))) (mt_un g1 f1 r j (g 12 (60 * r + j))).2 := by
  obtain ⟨h1, h2, h3, h4, h5⟩ := hI
  have ec : mt_c g1 f1 (g 12 (60 * r + j)) = mt_q g f r j := mt_c_congr (h1 1 (by decide) (by decide)) (h1 2 (by decide) (by decide)) (h2 3 (by decide) (by decide)) _
  have hD : mt_DI g1 f1 r (mt_step (mt_run (mt_q g f r) j) (mt_c g1 f1 (g 12 (60 * r + j)))) := by rw [ec]; exact h4
  have hB1 : mt_BI g1 f1 r j (mt_run (mt_q g f r) j) (mt_c g1 f1 (g 12 (60 * r + j))) := by
    rw [ec]
    exact mt_BI_congr (by rw [h1 14 (by decide) (by decide)]) (by rw [h2 13 (by decide) (by decide)]) hB
  have hnn : g1 2 (g 12 (60 * r + j)) < 10 := by
    rw [h1 2 (by decide) (by decide)]
    exact hq.2.1
  obtain ⟨u1, u2, u3, u4⟩ := mt_un_ok hD hB1 hnn
  generalize (mt_un g1 f1 r j (g 12 (60 * r + j))).1 = g2 at u1 u2 u3 u4 ⊢
  generalize (mt_un g1 f1 r j (g 12 (60 * r + j))).2 = f2 at u1 u2 u4 ⊢
  refine ⟨fun a ha hb => ?_, fun a ha hb => ?_, ?_, ?_, fun k hk => ?_⟩
  · rw [st2_k _ _ _ _ ha, u3 a hb, h1 a ha hb]
  · rw [u4 a ha hb, h2 a ha hb]
  · refine mt_Fr_tr h3 (mt_Fr_tr u2 (mt_Fr_g (k := 12) ?_ ?_))
    · simp [mt_rz]; omega
    · simp [mt_rz]; omega
  · refine ⟨?_, u1.2⟩
    rw [st2_k _ _ _ _ (by decide)]
    exact u1.1
  · rw [st2_at, u3 12 (by decide), h5 k hk]
    by_cases e1 : k ≤ j
    · rw [if_neg (by omega), if_pos (by omega), if_pos e1]
    · rw [if_neg e1]
      by_cases e2 : k = j + 1
      · subst e2
        rw [if_pos ⟨rfl, by omega⟩]
        rfl
      · rw [if_neg (by omega), if_neg (by omega)]
theorem mt_run_q1 (g : Nat → Nat → Nat) (f : Nat → Nat → Int32) (r c : Nat) {pl k : Nat} (h : k ≤ pl) : mt_run (mt_q1 g f r c pl) k = mt_run (mt_q g f r) k := mt_run_congr (fun j hj => mt_ins_lt (by omega))
theorem mt_I2_0 {g g1 : Nat → Nat → Nat} {f f1 : Nat → Nat → Int32} {r c pl n : Nat} (hI : mt_I1 g f r n pl g1 f1) (hr : r < 3) (hn : n < 60) (hp : pl ≤ n) (hB : ∀ k, k < n → mt_BI g f r k (mt_run (mt_q g f r) k) (mt_q g f r k)) : mt_I2 g f r c pl n pl (st2 (st2 g1 12 (60 * r + pl) c) 11 r (n + 1)) f1 := by
  obtain ⟨h1, h2, h3, h4, h5⟩ := hI
  refine ⟨fun a ha hb _ hd => ?_, fun a _ hb hc => h2 a hb hc, ?_, st2_eq _ _ _ _, fun k hk => ?_, ?_, fun j hj => ?_⟩
  · rw [st2_k _ _ _ _ ha, st2_k _ _ _ _ hb, h1 a hb hd]
  · refine mt_Fr_tr h3 (mt_Fr_tr (mt_Fr_g (k := 12) ?_ ?_) (mt_Fr_g (k := 11) ?_ ?_))
    · simp [mt_rz]
    · simp [mt_rz]; omega
    · simp [mt_rz]
    · simp [mt_rz]
  · rw [st2_k _ _ _ _ (by decide), st2_at, h5 k hk]
    by_cases e1 : k < pl
    · rw [if_neg (by omega), if_pos (by omega), mt_ins_lt e1]
    · by_cases e2 : k = pl
      · subst e2
        rw [if_pos ⟨rfl, rfl⟩, mt_ins_eq]
      · rw [if_neg (by omega), if_neg (by omega), mt_ins_gt (by omega)]
  · rw [mt_run_q1 _ _ _ _ (Nat.le_refl _)]
    refine ⟨?_, h4.2⟩
    rw [st2_k _ _ _ _ (by decide), st2_k _ _ _ _ (by decide)]
    exact h4.1
  · rw [mt_run_q1 _ _ _ _ (Nat.le_of_lt hj), show mt_q1 g f r c pl j = mt_q g f r j from mt_ins_lt hj]
    refine mt_BI_congr ?_ ?_ (hB j (by omega))
    · rw [st2_k _ _ _ _ (by decide), st2_k _ _ _ _ (by decide), h1 14 (by decide) (by decide)]
    · rw [h2 13 (by decide) (by decide)]
theorem mt_q1_ok {g : Nat → Nat → Nat} {f : Nat → Nat → Int32} {r c pl n : Nat} (hp : pl ≤ n) (h : ∀ k, k < n → mt_okq (mt_q g f r k)) (hc : mt_okq (mt_c g f c)) : ∀ k, k < n + 1 → mt_okq (mt_q1 g f r c pl k) := by
  intro k hk
  unfold mt_q1
  by_cases e1 : k < pl
  · rw [mt_ins_lt e1]; exact h k (by omega)
  · by_cases e2 : k = pl
    · subst e2; rw [mt_ins_eq]; exact hc
    · rw [mt_ins_gt (by omega)]; exact h _ (by omega)
theorem mt_I2_s {g g2 : Nat → Nat → Nat} {f f2 : Nat → Nat → Int32} {r c pl n k : Nat} (hI : mt_I2 g f r c pl n k g2 f2) (hk : k < n + 1) (hn : n < 60) (hq : ∀ k, k < n + 1 → mt_okq (mt_q1 g f r c pl k)) : mt_I2 g f r c pl n (k + 1) (mt_co g2 f2 r k (mt_ins (fun k => g 12 (60 * r + k)) pl c k)).1 (mt_co g2 f2 r k (mt_ins (fun k => g 12 (60 * r + k)) pl c k)).2 := by
  obtain ⟨h1, h2, h3, h4, h5, h6, h7⟩ := hI
  have ec : mt_c g2 f2 (mt_ins (fun k => g 12 (60 * r + k)) pl c k) = mt_q1 g f r c pl k := by
    rw [← mt_q1_at]
    exact mt_c_congr (h1 1 (by decide) (by decide) (by decide) (by decide)) (h1 2 (by decide) (by decide) (by decide) (by decide)) (h2 3 (by decide) (by decide) (by decide)) _
  obtain ⟨u1, u2, u3, u4, u5, u6⟩ := mt_co_ok (k := k) (c := mt_ins (fun k => g 12 (60 * r + k)) pl c k) h6 (by rw [ec]; exact hq k hk) (mt_run_okp (fun j hj => hq j (by omega)))
  rw [ec] at u1 u2
  generalize (mt_co g2 f2 r k (mt_ins (fun k => g 12 (60 * r + k)) pl c k)).1 = g3 at u1 u2 u3 u4 u6 ⊢
  generalize (mt_co g2 f2 r k (mt_ins (fun k => g 12 (60 * r + k)) pl c k)).2 = f3 at u1 u2 u3 u5 u6 ⊢
  refine ⟨fun a ha hb hc hd => ?_, fun a ha hb hc => ?_, mt_Fr_tr h3 (u3 (by omega)), ?_, fun k hk => ?_, u1, fun j hj => ?_⟩
  · rw [u4 a hc hd, h1 a ha hb hc hd]
  · rw [u5 a ha hb hc, h2 a ha hb hc]
  · rw [u4 11 (by decide) (by decide)]; exact h4
  · rw [u4 12 (by decide) (by decide)]; exact h5 k hk
  · by_cases e : j = k
    · subst e; exact u2
    · have h8 := u6 (60 * r + j) (by omega)
      exact mt_BI_congr h8.1 h8.2 (h7 j (by omega))
theorem mt_I2_L {g g2 : Nat → Nat → Nat} {f f2 : Nat → Nat → Int32} {r c pl n : Nat} (hI : mt_I2 g f r c pl n (n + 1) g2 f2) (hr : r < 3) (h5 : g 5 c < 3) : (¬ g 10 r < g 4 c → mt_L g f r c pl n (st2 g2 9 (3 * r + g 5 c) (g 6 c)) f2) ∧ (g 10 r < g 4 c → mt_L g f r c pl n (st2 (st2 g2 9 (3 * r + g 5 c) (g 6 c)) 10 r (g 4 c)) f2) := by
  obtain ⟨h1, h2, h3, h4, h5', h6, h7⟩ := hI
  constructor
  · intro hlt
    refine ⟨fun a ha hb hc hd he hf => ?_, h2, ?_, ?_, fun k hk => ?_, ⟨?_, h6.2⟩, fun k hk => mt_BI_congr ?_ rfl (h7 k hk), ⟨st2_eq _ _ _ _, fun o ho hne => ?_⟩, ?_⟩
    · rw [st2_k _ _ _ _ ha, h1 a hc hd he hf]
    · refine mt_Fr_tr h3 (mt_Fr_g (k := 9) ?_ ?_)
      · simp [mt_rz]
      · simp [mt_rz]; omega
    · rw [st2_k _ _ _ _ (by decide)]; exact h4
    · rw [st2_k _ _ _ _ (by decide)]; exact h5' k hk
    · rw [st2_k _ _ _ _ (by decide)]; exact h6.1
    · rw [st2_k _ _ _ _ (by decide)]
    · rw [st2_ne _ _ _ _ (by omega), h1 9 (by decide) (by decide) (by decide) (by decide)]
    · rw [st2_k _ _ _ _ (by decide), if_neg hlt, h1 10 (by decide) (by decide) (by decide) (by decide)]
  · intro hlt
    refine ⟨fun a ha hb hc hd he hf => ?_, h2, ?_, ?_, fun k hk => ?_, ⟨?_, h6.2⟩, fun k hk => mt_BI_congr ?_ rfl (h7 k hk), ⟨?_, fun o ho hne => ?_⟩, ?_⟩
    · rw [st2_k _ _ _ _ hb, st2_k _ _ _ _ ha, h1 a hc hd he hf]
    · refine mt_Fr_tr h3 (mt_Fr_tr (mt_Fr_g (k := 9) ?_ ?_) (mt_Fr_g (k := 10) ?_ ?_))
      · simp [mt_rz]
      · simp [mt_rz]; omega
      · simp [mt_rz]
      · simp [mt_rz]
    · rw [st2_k _ _ _ _ (by decide), st2_k _ _ _ _ (by decide)]; exact h4
    · rw [st2_k _ _ _ _ (by decide), st2_k _ _ _ _ (by decide)]; exact h5' k hk
    · rw [st2_k _ _ _ _ (by decide), st2_k _ _ _ _ (by decide)]; exact h6.1
    · rw [st2_k _ _ _ _ (by decide), st2_k _ _ _ _ (by decide)]
    · rw [st2_k _ _ _ _ (by decide), st2_eq]
    · rw [st2_k _ _ _ _ (by decide), st2_ne _ _ _ _ (by omega), h1 9 (by decide) (by decide) (by decide) (by decide)]
    · rw [st2_eq, if_pos hlt]
theorem mt_I2_pre {g g2 : Nat → Nat → Nat} {f f2 : Nat → Nat → Int32} {r c pl n k : Nat} (hI : mt_I2 g f r c pl n k g2 f2) (hk : k < n + 1) (hpl : pl ≤ n) (hq : ∀ k, k < n + 1 → mt_okq (mt_q1 g f r c pl k)) (hlt : ∀ k, k < n → g 12 (60 * r + k) < 60) (hc : c < 60) : mt_ins (fun k => g 12 (60 * r + k)) pl c k < 60 ∧ g2 12 (60 * r + k) = mt_ins (fun k => g 12 (60 * r + k)) pl c k ∧ g2 1 (mt_ins (fun k => g 12 (60 * r + k)) pl c k) < 2 ∧ g2 2 (mt_ins (fun k => g 12 (60 * r + k)) pl c k) < 10 ∧ (¬ g2 1 (mt_ins (fun k => g 12 (60 * r + k)) pl c k) = 0 → mt_okp (f2 3 (mt_ins (fun k => g 12 (60 * r + k)) pl c k))) ∧ ∀ j, j < 10 → mt_okp (f2 16 (10 * r + j)) := by
  obtain ⟨h1, h2, h3, h4, h5, h6, h7⟩ := hI
  have e := mt_q1_at g f r c pl k
  have hq1 := hq k hk
  rw [← e] at hq1
  obtain ⟨a1, a2, a3⟩ := hq1
  rw [h1 1 (by decide) (by decide) (by decide) (by decide), h1 2 (by decide) (by decide) (by decide) (by decide), h2 3 (by decide) (by decide) (by decide)]
  refine ⟨?_, h5 k (by omega), a1, a2, fun z => Or.inr (a3 z), fun j hj => ?_⟩
  · by_cases e1 : k < pl
    · rw [mt_ins_lt e1]; exact hlt k (by omega)
    · by_cases e2 : k = pl
      · subst e2; rw [mt_ins_eq]; exact hc
      · rw [mt_ins_gt (by omega)]; exact hlt _ (by omega)
  · rw [(h6.2 j hj).1]
    exact mt_run_okp (fun i hi => hq i (by omega)) j
theorem mt_I1_pre {g g1 : Nat → Nat → Nat} {f f1 : Nat → Nat → Int32} {r n j : Nat} (hI : mt_I1 g f r n (j + 1) g1 f1) (hj : j < n) (hq : mt_okq (mt_q g f r j)) (hB : mt_BI g f r j (mt_run (mt_q g f r) j) (mt_q g f r j)) : g1 12 (60 * r + j) = g 12 (60 * r + j) ∧ g1 1 (g 12 (60 * r + j)) < 2 ∧ g1 2 (g 12 (60 * r + j)) < 10 ∧ (¬ g1 1 (g 12 (60 * r + j)) = 0 → g1 14 (60 * r + j) < 2) ∧ (¬ g1 1 (g 12 (60 * r + j)) = 0 → ¬ g1 14 (60 * r + j) = 0 → 1 ≤ g1 15 r) := by
  obtain ⟨h1, h2, h3, h4, h5⟩ := hI
  obtain ⟨a1, a2, a3⟩ := hq
  rw [h1 1 (by decide) (by decide), h1 2 (by decide) (by decide), h1 14 (by decide) (by decide)]
  refine ⟨by rw [h5 j (by omega), if_pos (by omega)], a1, a2, fun z => ?_, fun z z2 => ?_⟩
  · rw [hB.1 z]
    by_cases e : mt_sk (mt_run (mt_q g f r) j) (mt_q g f r j) = true
    · rw [if_pos e]; decide
    · rw [if_neg e]; decide
  · rw [hB.1 z] at z2
    by_cases e : mt_sk (mt_run (mt_q g f r) j) (mt_q g f r j) = true
    · rw [h4.1]
      show 1 ≤ (mt_step (mt_run (mt_q g f r) j) (mt_q g f r j)).2.2
      unfold mt_step
      rw [if_neg (show ¬ (mt_q g f r j).1 = 0 from z), if_pos e]
      exact Nat.le_add_left 1 _
    · rw [if_neg e] at z2; exact absurd rfl z2
end
section
set_option maxRecDepth 100000
theorem dX0_learn_0 : decode cX0_learn 0 = .ok (.aload_n 0, 1) := by decide +kernel
theorem dX0_learn_1 : decode cX0_learn 1 = .ok (.getfield 41, 3) := by decide +kernel
theorem dX0_learn_4 : decode cX0_learn 4 = .ok (.iload_n 1, 1) := by decide +kernel
theorem dX0_learn_5 : decode cX0_learn 5 = .ok (.iaload, 1) := by decide +kernel
theorem dX0_learn_6 : decode cX0_learn 6 = .ok (.istore_n 3, 1) := by decide +kernel
theorem dX0_learn_7 : decode cX0_learn 7 = .ok (.aload_n 0, 1) := by decide +kernel
theorem dX0_learn_8 : decode cX0_learn 8 = .ok (.getfield 41, 3) := by decide +kernel
theorem dX0_learn_11 : decode cX0_learn 11 = .ok (.iload_n 1, 1) := by decide +kernel
theorem dX0_learn_12 : decode cX0_learn 12 = .ok (.iaload, 1) := by decide +kernel
theorem dX0_learn_13 : decode cX0_learn 13 = .ok (.iconst 1, 1) := by decide +kernel
theorem dX0_learn_14 : decode cX0_learn 14 = .ok (.isub, 1) := by decide +kernel
theorem dX0_learn_15 : decode cX0_learn 15 = .ok (.istore 4, 2) := by decide +kernel
theorem dX0_learn_17 : decode cX0_learn 17 = .ok (.iload 4, 2) := by decide +kernel
theorem dX0_learn_19 : decode cX0_learn 19 = .ok (.ifCond .lt 65, 3) := by decide +kernel
theorem dX0_learn_22 : decode cX0_learn 22 = .ok (.aload_n 0, 1) := by decide +kernel
theorem dX0_learn_23 : decode cX0_learn 23 = .ok (.iload_n 2, 1) := by decide +kernel
theorem dX0_learn_24 : decode cX0_learn 24 = .ok (.aload_n 0, 1) := by decide +kernel
theorem dX0_learn_25 : decode cX0_learn 25 = .ok (.getfield 44, 3) := by decide +kernel
theorem dX0_learn_28 : decode cX0_learn 28 = .ok (.bipush 60, 2) := by decide +kernel
theorem dX0_learn_30 : decode cX0_learn 30 = .ok (.iload_n 1, 1) := by decide +kernel
theorem dX0_learn_31 : decode cX0_learn 31 = .ok (.imul, 1) := by decide +kernel
theorem dX0_learn_32 : decode cX0_learn 32 = .ok (.iload 4, 2) := by decide +kernel
theorem dX0_learn_34 : decode cX0_learn 34 = .ok (.iadd, 1) := by decide +kernel
theorem dX0_learn_35 : decode cX0_learn 35 = .ok (.iaload, 1) := by decide +kernel
theorem dX0_learn_36 : decode cX0_learn 36 = .ok (.invokevirtual 85, 3) := by decide +kernel
theorem dX0_learn_39 : decode cX0_learn 39 = .ok (.ifCond .eq 39, 3) := by decide +kernel
theorem dX0_learn_42 : decode cX0_learn 42 = .ok (.aload_n 0, 1) := by decide +kernel
theorem dX0_learn_43 : decode cX0_learn 43 = .ok (.iload_n 1, 1) := by decide +kernel
theorem dX0_learn_44 : decode cX0_learn 44 = .ok (.iload 4, 2) := by decide +kernel
theorem dX0_learn_46 : decode cX0_learn 46 = .ok (.invokevirtual 88, 3) := by decide +kernel
theorem dX0_learn_49 : decode cX0_learn 49 = .ok (.aload_n 0, 1) := by decide +kernel
theorem dX0_learn_50 : decode cX0_learn 50 = .ok (.getfield 44, 3) := by decide +kernel
theorem dX0_learn_53 : decode cX0_learn 53 = .ok (.bipush 60, 2) := by decide +kernel
theorem dX0_learn_55 : decode cX0_learn 55 = .ok (.iload_n 1, 1) := by decide +kernel
theorem dX0_learn_56 : decode cX0_learn 56 = .ok (.imul, 1) := by decide +kernel
theorem dX0_learn_57 : decode cX0_learn 57 = .ok (.iload 4, 2) := by decide +kernel
theorem dX0_learn_59 : decode cX0_learn 59 = .ok (.iadd, 1) := by decide +kernel
theorem dX0_learn_60 : decode cX0_learn 60 = .ok (.iconst 1, 1) := by decide +kernel
theorem dX0_learn_61 : decode cX0_learn 61 = .ok (.iadd, 1) := by decide +kernel
theorem dX0_learn_62 : decode cX0_learn 62 = .ok (.aload_n 0, 1) := by decide +kernel
theorem dX0_learn_63 : decode cX0_learn 63 = .ok (.getfield 44, 3) := by decide +kernel
theorem dX0_learn_66 : decode cX0_learn 66 = .ok (.bipush 60, 2) := by decide +kernel
theorem dX0_learn_68 : decode cX0_learn 68 = .ok (.iload_n 1, 1) := by decide +kernel
theorem dX0_learn_69 : decode cX0_learn 69 = .ok (.imul, 1) := by decide +kernel
theorem dX0_learn_70 : decode cX0_learn 70 = .ok (.iload 4, 2) := by decide +kernel
theorem dX0_learn_72 : decode cX0_learn 72 = .ok (.iadd, 1) := by decide +kernel
theorem dX0_learn_73 : decode cX0_learn 73 = .ok (.iaload, 1) := by decide +kernel
theorem dX0_learn_74 : decode cX0_learn 74 = .ok (.iastore, 1) := by decide +kernel
theorem dX0_learn_75 : decode cX0_learn 75 = .ok (.iload 4, 2) := by decide +kernel
theorem dX0_learn_77 : decode cX0_learn 77 = .ok (.istore_n 3, 1) := by decide +kernel
theorem dX0_learn_78 : decode cX0_learn 78 = .ok (.iinc 4 (-1), 3) := by decide +kernel
theorem dX0_learn_81 : decode cX0_learn 81 = .ok (.goto (-64), 3) := by decide +kernel
theorem dX0_learn_84 : decode cX0_learn 84 = .ok (.aload_n 0, 1) := by decide +kernel
theorem dX0_learn_85 : decode cX0_learn 85 = .ok (.getfield 44, 3) := by decide +kernel
theorem dX0_learn_88 : decode cX0_learn 88 = .ok (.bipush 60, 2) := by decide +kernel
theorem dX0_learn_90 : decode cX0_learn 90 = .ok (.iload_n 1, 1) := by decide +kernel
theorem dX0_learn_91 : decode cX0_learn 91 = .ok (.imul, 1) := by decide +kernel
theorem dX0_learn_92 : decode cX0_learn 92 = .ok (.iload_n 3, 1) := by decide +kernel
theorem dX0_learn_93 : decode cX0_learn 93 = .ok (.iadd, 1) := by decide +kernel
theorem dX0_learn_94 : decode cX0_learn 94 = .ok (.iload_n 2, 1) := by decide +kernel
theorem dX0_learn_95 : decode cX0_learn 95 = .ok (.iastore, 1) := by decide +kernel
theorem dX0_learn_96 : decode cX0_learn 96 = .ok (.aload_n 0, 1) := by decide +kernel
theorem dX0_learn_97 : decode cX0_learn 97 = .ok (.getfield 41, 3) := by decide +kernel
theorem dX0_learn_100 : decode cX0_learn 100 = .ok (.iload_n 1, 1) := by decide +kernel
theorem dX0_learn_101 : decode cX0_learn 101 = .ok (.dup2, 1) := by decide +kernel
theorem dX0_learn_102 : decode cX0_learn 102 = .ok (.iaload, 1) := by decide +kernel
theorem dX0_learn_103 : decode cX0_learn 103 = .ok (.iconst 1, 1) := by decide +kernel
theorem dX0_learn_104 : decode cX0_learn 104 = .ok (.iadd, 1) := by decide +kernel
theorem dX0_learn_105 : decode cX0_learn 105 = .ok (.iastore, 1) := by decide +kernel
theorem dX0_learn_106 : decode cX0_learn 106 = .ok (.iload_n 3, 1) := by decide +kernel
theorem dX0_learn_107 : decode cX0_learn 107 = .ok (.istore 4, 2) := by decide +kernel
theorem dX0_learn_109 : decode cX0_learn 109 = .ok (.iload 4, 2) := by decide +kernel
theorem dX0_learn_111 : decode cX0_learn 111 = .ok (.aload_n 0, 1) := by decide +kernel
theorem dX0_learn_112 : decode cX0_learn 112 = .ok (.getfield 41, 3) := by decide +kernel
theorem dX0_learn_115 : decode cX0_learn 115 = .ok (.iload_n 1, 1) := by decide +kernel
theorem dX0_learn_116 : decode cX0_learn 116 = .ok (.iaload, 1) := by decide +kernel
theorem dX0_learn_117 : decode cX0_learn 117 = .ok (.if_icmp .ge 16, 3) := by decide +kernel
theorem dX0_learn_120 : decode cX0_learn 120 = .ok (.aload_n 0, 1) := by decide +kernel
theorem dX0_learn_121 : decode cX0_learn 121 = .ok (.iload_n 1, 1) := by decide +kernel
theorem dX0_learn_122 : decode cX0_learn 122 = .ok (.iload 4, 2) := by decide +kernel
theorem dX0_learn_124 : decode cX0_learn 124 = .ok (.invokevirtual 91, 3) := by decide +kernel
theorem dX0_learn_127 : decode cX0_learn 127 = .ok (.iinc 4 1, 3) := by decide +kernel
theorem dX0_learn_130 : decode cX0_learn 130 = .ok (.goto (-21), 3) := by decide +kernel
theorem dX0_learn_133 : decode cX0_learn 133 = .ok (.aload_n 0, 1) := by decide +kernel
theorem dX0_learn_134 : decode cX0_learn 134 = .ok (.getfield 35, 3) := by decide +kernel
theorem dX0_learn_137 : decode cX0_learn 137 = .ok (.iconst 3, 1) := by decide +kernel
theorem dX0_learn_138 : decode cX0_learn 138 = .ok (.iload_n 1, 1) := by decide +kernel
theorem dX0_learn_139 : decode cX0_learn 139 = .ok (.imul, 1) := by decide +kernel
theorem dX0_learn_140 : decode cX0_learn 140 = .ok (.aload_n 0, 1) := by decide +kernel
theorem dX0_learn_141 : decode cX0_learn 141 = .ok (.getfield 23, 3) := by decide +kernel
theorem dX0_learn_144 : decode cX0_learn 144 = .ok (.iload_n 2, 1) := by decide +kernel
theorem dX0_learn_145 : decode cX0_learn 145 = .ok (.iaload, 1) := by decide +kernel
theorem dX0_learn_146 : decode cX0_learn 146 = .ok (.iadd, 1) := by decide +kernel
theorem dX0_learn_147 : decode cX0_learn 147 = .ok (.aload_n 0, 1) := by decide +kernel
theorem dX0_learn_148 : decode cX0_learn 148 = .ok (.getfield 26, 3) := by decide +kernel
theorem dX0_learn_151 : decode cX0_learn 151 = .ok (.iload_n 2, 1) := by decide +kernel
theorem dX0_learn_152 : decode cX0_learn 152 = .ok (.iaload, 1) := by decide +kernel
theorem dX0_learn_153 : decode cX0_learn 153 = .ok (.iastore, 1) := by decide +kernel
theorem dX0_learn_154 : decode cX0_learn 154 = .ok (.aload_n 0, 1) := by decide +kernel
theorem dX0_learn_155 : decode cX0_learn 155 = .ok (.getfield 20, 3) := by decide +kernel
theorem dX0_learn_158 : decode cX0_learn 158 = .ok (.iload_n 2, 1) := by decide +kernel
theorem dX0_learn_159 : decode cX0_learn 159 = .ok (.iaload, 1) := by decide +kernel
theorem dX0_learn_160 : decode cX0_learn 160 = .ok (.aload_n 0, 1) := by decide +kernel
theorem dX0_learn_161 : decode cX0_learn 161 = .ok (.getfield 38, 3) := by decide +kernel
theorem dX0_learn_164 : decode cX0_learn 164 = .ok (.iload_n 1, 1) := by decide +kernel
theorem dX0_learn_165 : decode cX0_learn 165 = .ok (.iaload, 1) := by decide +kernel
theorem dX0_learn_166 : decode cX0_learn 166 = .ok (.if_icmp .le 15, 3) := by decide +kernel
theorem dX0_learn_169 : decode cX0_learn 169 = .ok (.aload_n 0, 1) := by decide +kernel
theorem dX0_learn_170 : decode cX0_learn 170 = .ok (.getfield 38, 3) := by decide +kernel
theorem dX0_learn_173 : decode cX0_learn 173 = .ok (.iload_n 1, 1) := by decide +kernel
theorem dX0_learn_174 : decode cX0_learn 174 = .ok (.aload_n 0, 1) := by decide +kernel
theorem dX0_learn_175 : decode cX0_learn 175 = .ok (.getfield 20, 3) := by decide +kernel
theorem dX0_learn_178 : decode cX0_learn 178 = .ok (.iload_n 2, 1) := by decide +kernel
theorem dX0_learn_179 : decode cX0_learn 179 = .ok (.iaload, 1) := by decide +kernel
theorem dX0_learn_180 : decode cX0_learn 180 = .ok (.iastore, 1) := by decide +kernel
theorem dX0_learn_181 : decode cX0_learn 181 = .ok (.return_, 1) := by decide +kernel

set_option maxHeartbeats 4000000 in
/-- learn(r, c): c comes to place pl of the log -/
theorem metX0_learn (l : Launch) (D : va_G) (h : Nat → Nat) (cZ cI : ClassId) (g : Nat → Nat → Nat) (f : Nat → Nat → Int32) (r c pl n : Nat) (hL : mt_LP g f r c pl n) : Met l yX0_learn wsX0_learn rmX0_learn (xPc D h cZ cI g f [.int (nI r), .int (nI c)]) (va_Qv (fun (u : zU) => mt_L g f r c pl n u.1 u.2) (xB D h cZ cI) (xA h)) 0 0 (xA h) := by
  refine x_metV l (by decide) rfl (Nat.le_of_ble_eq_true rfl) ⟨rfl, rfl⟩ (fun p e s m args below meth cd R Q hR S hret ls hl hW => ?_)
  have hl : lv_has ls 5 [(0, .ref (h 0)), (1, .int (nI r)), (2, .int (nI c))] := hl
  obtain ⟨hr, hc, hn, h11, hpl, hlog, hokc, h4, h5, h6, h10, hDI⟩ := hL
  have hq1 := mt_q1_ok (c := c) hpl (fun k hk => (hlog k hk).2.2.2.1) hokc
  have hlt : ∀ k, k < n → g 12 (60 * r + k) < 60 := fun k hk => (hlog k hk).1
  have fin : ∀ (g2 : Nat → Nat → Nat) (f2 : Nat → Nat → Int32) (H : Heap) (locs : List Loc) (ls : Array Slot), mt_I2 g f r c pl n (n + 1) g2 f2 → XS D h cZ cI s (xA h) H locs g2 f2 → lv_has ls 5 [(0, .ref (h 0)), (1, .int (nI r)), (2, .int (nI c))] → W p l e R s m args below meth cd H locs 0 0 Q (F0 m 133 ls []) := by
    intro g2 f2 H locs ls hI hW hl
    have e4 : g2 4 = g 4 := hI.1 4 (by decide) (by decide) (by decide) (by decide)
    have e5 : g2 5 = g 5 := hI.1 5 (by decide) (by decide) (by decide) (by decide)
    have e6 : g2 6 = g 6 := hI.1 6 (by decide) (by decide) (by decide) (by decide)
    have e10 : g2 10 = g 10 := hI.1 10 (by decide) (by decide) (by decide) (by decide)
    refine x_g_9 (pc := 133) S hW (lv_at hl 0 rfl) dX0_learn_133 dX0_learn_134 ?_
    refine lv_iconst (pc := 137) (v := nI 3) S.1 S.2.1 dX0_learn_137 (by decide) ?_
    refine lv_iload_n (pc := 138) S.1 S.2.1 dX0_learn_138 rfl (lv_at hl 1 rfl) ?_
    refine z_imul (pc := 139) (x := 3) (y := r) S dX0_learn_139 ?_
    refine x_g_5 (pc := 140) S hW (lv_at hl 0 rfl) dX0_learn_140 dX0_learn_141 ?_
    refine lv_iload_n (pc := 144) S.1 S.2.1 dX0_learn_144 rfl (lv_at hl 2 rfl) ?_
    refine x_ld_5 (pc := 145) (i := c) (v := g 5 c) S hW (by omega) (by rw [e5]) dX0_learn_145 ?_
    refine z_iadd (pc := 146) (x := 3 * r) (y := g 5 c) S dX0_learn_146 ?_
    refine x_g_6 (pc := 147) S hW (lv_at hl 0 rfl) dX0_learn_147 dX0_learn_148 ?_
    refine lv_iload_n (pc := 151) S.1 S.2.1 dX0_learn_151 rfl (lv_at hl 2 rfl) ?_
    refine x_ld_6 (pc := 152) (i := c) (v := g 6 c) S hW (by omega) (by rw [e6]) dX0_learn_152 ?_
    refine x_st_9 (pc := 153) (i := (3 * r) + (g 5 c)) (v := g 6 c) S hW (by omega) dX0_learn_153 (fun H locs hW => ?_)
    refine x_g_4 (pc := 154) S hW (lv_at hl 0 rfl) dX0_learn_154 dX0_learn_155 ?_
    refine lv_iload_n (pc := 158) S.1 S.2.1 dX0_learn_158 rfl (lv_at hl 2 rfl) ?_
    refine x_ld_4 (pc := 159) (i := c) (v := g 4 c) S hW (by omega) (show g2 4 c = g 4 c by rw [e4]) dX0_learn_159 ?_
    refine x_g_10 (pc := 160) S hW (lv_at hl 0 rfl) dX0_learn_160 dX0_learn_161 ?_
    refine lv_iload_n (pc := 164) S.1 S.2.1 dX0_learn_164 rfl (lv_at hl 1 rfl) ?_
    refine x_ld_10 (pc := 165) (i := r) (v := g 10 r) S hW (by omega) (show g2 10 r = g 10 r by rw [e10]) dX0_learn_165 ?_
    refine z_icmp_le (pc := 166) (tgt := 181) (x := g 4 c) (y := g 10 r) S (by omega) (by omega) dX0_learn_166 (by decide) (fun c_166 => ?_) (fun c_166 => ?_)
    · exact hret _ _ _ _ _ _ hW ((mt_I2_L hI hr h5).1 (by omega)) dX0_learn_181
    · refine x_g_10 (pc := 169) S hW (lv_at hl 0 rfl) dX0_learn_169 dX0_learn_170 ?_
      refine lv_iload_n (pc := 173) S.1 S.2.1 dX0_learn_173 rfl (lv_at hl 1 rfl) ?_
      refine x_g_4 (pc := 174) S hW (lv_at hl 0 rfl) dX0_learn_174 dX0_learn_175 ?_
      refine lv_iload_n (pc := 178) S.1 S.2.1 dX0_learn_178 rfl (lv_at hl 2 rfl) ?_
      refine x_ld_4 (pc := 179) (i := c) (v := g 4 c) S hW (by omega) (show g2 4 c = g 4 c by rw [e4]) dX0_learn_179 ?_
      refine x_st_10 (pc := 180) (i := r) (v := g 4 c) S hW (by omega) dX0_learn_180 (fun H locs hW => ?_)
      exact hret _ _ _ _ _ _ hW ((mt_I2_L hI hr h5).2 c_166) dX0_learn_181
  have loop2 : ∀ (d k : Nat) (g2 : Nat → Nat → Nat) (f2 : Nat → Nat → Int32), k + d = n + 1 → mt_I2 g f r c pl n k g2 f2 → ∀ (H : Heap) (locs : List Loc), XS D h cZ cI s (xA h) H locs g2 f2 → ∀ ls : Array Slot, lv_has ls 5 [(0, .ref (h 0)), (1, .int (nI r)), (2, .int (nI c)), (3, .int (nI pl)), (4, .int (nI k))] → W p l e R s m args below meth cd H locs 0 0 Q (F0 m 109 ls []) := by
    intro d
    induction d with
    | zero =>
      intro k g2 f2 hk hI H locs hW ls hl
      have hk : k = n + 1 := by omega
      subst hk
      refine lv_iload (pc := 109) S.1 S.2.1 dX0_learn_109 (lv_at hl 4 rfl) ?_
      refine x_g_11 (pc := 111) S hW (lv_at hl 0 rfl) dX0_learn_111 dX0_learn_112 ?_
      refine lv_iload_n (pc := 115) S.1 S.2.1 dX0_learn_115 rfl (lv_at hl 1 rfl) ?_
      refine x_ld_11 (pc := 116) (i := r) (v := n + 1) S hW (by omega) hI.2.2.2.1 dX0_learn_116 ?_
      refine z_icmp_ge (pc := 117) (tgt := 133) (x := n + 1) (y := n + 1) S (by omega) (by omega) dX0_learn_117 (by decide) (fun c_117 => ?_) (fun c_117 => ?_)
      · exact fin g2 f2 H locs ls hI hW (lv_sub hl [0, 1, 2] rfl)
      · exfalso; omega
    | succ d ih =>
      intro k g2 f2 hk hI H locs hW ls hl
      obtain ⟨b1, b2, b3, b4, b5, b6⟩ := mt_I2_pre hI (by omega) hpl hq1 hlt hc
      refine lv_iload (pc := 109) S.1 S.2.1 dX0_learn_109 (lv_at hl 4 rfl) ?_
      refine x_g_11 (pc := 111) S hW (lv_at hl 0 rfl) dX0_learn_111 dX0_learn_112 ?_
      refine lv_iload_n (pc := 115) S.1 S.2.1 dX0_learn_115 rfl (lv_at hl 1 rfl) ?_
      refine x_ld_11 (pc := 116) (i := r) (v := n + 1) S hW (by omega) hI.2.2.2.1 dX0_learn_116 ?_
      refine z_icmp_ge (pc := 117) (tgt := 133) (x := k) (y := n + 1) S (by omega) (by omega) dX0_learn_117 (by decide) (fun c_117 => ?_) (fun c_117 => ?_)
      · exfalso; omega
      · refine lv_aload_n (pc := 120) S.1 S.2.1 dX0_learn_120 rfl (lv_at hl 0 rfl) ?_
        refine lv_iload_n (pc := 121) S.1 S.2.1 dX0_learn_121 rfl (lv_at hl 1 rfl) ?_
        refine lv_iload (pc := 122) S.1 S.2.1 dX0_learn_122 (lv_at hl 4 rfl) ?_
        refine x_callu (pc := 124) (As := [.int (nI r), .int (nI k)]) (rest := []) S hW (metX0_carryOut l D h cZ cI g2 f2 r k (mt_ins (fun k => g 12 (60 * r + k)) pl c k) hr (by omega) b1 b2 b3 b4 b5 b6) (cwX0_carryOut S.2.2.2.2 (by rw [hR]; decide)) rfl hl.1 rfl (Nat.le_of_ble_eq_true rfl) ⟨Nat.zero_le _, Nat.zero_le _⟩ dX0_learn_124 (fun H locs hW => ?_)
        refine lv_iinc (pc := 127) (v := nI (k + 1)) (lv' := [(4, .int (nI (k + 1))), (0, .ref (h 0)), (1, .int (nI r)), (2, .int (nI c)), (3, .int (nI pl))]) S.1 S.2.1 dX0_learn_127 hl (k := 4) rfl (z_inc1 _) (by decide) rfl (fun ls hl => ?_)
        refine lv_goto (pc := 130) (tgt := 109) S.1 S.2.1 dX0_learn_130 (by decide) ?_
        exact ih (k + 1) _ _ (by omega) (mt_I2_s hI (by omega) hn hq1) _ _ hW ls (lv_sub hl [1, 2, 3, 4, 0] rfl)
  have aft : ∀ (g1 : Nat → Nat → Nat) (f1 : Nat → Nat → Int32) (H : Heap) (locs : List Loc) (ls : Array Slot), mt_I1 g f r n pl g1 f1 → XS D h cZ cI s (xA h) H locs g1 f1 → lv_has ls 5 [(0, .ref (h 0)), (1, .int (nI r)), (2, .int (nI c)), (3, .int (nI pl))] → W p l e R s m args below meth cd H locs 0 0 Q (F0 m 84 ls []) := by
    intro g1 f1 H locs ls hI hW hl
    have e11 : g1 11 r = n := by rw [hI.1 11 (by decide) (by decide)]; exact h11
    refine x_g_12 (pc := 84) S hW (lv_at hl 0 rfl) dX0_learn_84 dX0_learn_85 ?_
    refine lv_bipush (pc := 88) (v := nI 60) S.1 S.2.1 dX0_learn_88 (by decide) ?_
    refine lv_iload_n (pc := 90) S.1 S.2.1 dX0_learn_90 rfl (lv_at hl 1 rfl) ?_
    refine z_imul (pc := 91) (x := 60) (y := r) S dX0_learn_91 ?_
    refine lv_iload_n (pc := 92) S.1 S.2.1 dX0_learn_92 rfl (lv_at hl 3 rfl) ?_
    refine z_iadd (pc := 93) (x := 60 * r) (y := pl) S dX0_learn_93 ?_
    refine lv_iload_n (pc := 94) S.1 S.2.1 dX0_learn_94 rfl (lv_at hl 2 rfl) ?_
    refine x_st_12 (pc := 95) (i := (60 * r) + pl) (v := c) S hW (by omega) dX0_learn_95 (fun H locs hW => ?_)
    refine x_g_11 (pc := 96) S hW (lv_at hl 0 rfl) dX0_learn_96 dX0_learn_97 ?_
    refine lv_iload_n (pc := 100) S.1 S.2.1 dX0_learn_100 rfl (lv_at hl 1 rfl) ?_
    refine lv_dup2_11 (pc := 101) S.1 S.2.1 dX0_learn_101 rfl rfl ?_
    refine x_ld_11 (pc := 102) (i := r) (v := n) S hW (by omega) e11 dX0_learn_102 ?_
    refine lv_iconst (pc := 103) (v := nI 1) S.1 S.2.1 dX0_learn_103 (by decide) ?_
    refine z_iadd (pc := 104) (x := n) (y := 1) S dX0_learn_104 ?_
    refine x_st_11 (pc := 105) (i := r) (v := n + 1) S hW (by omega) dX0_learn_105 (fun H locs hW => ?_)
    refine lv_iload_n (pc := 106) S.1 S.2.1 dX0_learn_106 rfl (lv_at hl 3 rfl) ?_
    refine lv_istore (pc := 107) (lv' := [(4, .int (nI pl)), (0, .ref (h 0)), (1, .int (nI r)), (2, .int (nI c)), (3, .int (nI pl))]) S.1 S.2.1 dX0_learn_107 hl (by decide) rfl (fun ls hl => ?_)
    exact loop2 (n + 1 - pl) pl _ _ (by omega) (mt_I2_0 hI hr hn hpl (fun k hk => (hlog k hk).2.2.2.2.2)) _ _ hW ls (lv_sub hl [1, 2, 3, 4, 0] rfl)
  have loop1 : ∀ (j t : Nat) (g1 : Nat → Nat → Nat) (f1 : Nat → Nat → Int32), j ≤ n → (j ≤ pl → t = pl) → (pl < j → t = j) → mt_I1 g f r n t g1 f1 → ∀ (H : Heap) (locs : List Loc), XS D h cZ cI s (xA h) H locs g1 f1 → ∀ ls : Array Slot, lv_has ls 5 [(0, .ref (h 0)), (1, .int (nI r)), (2, .int (nI c)), (3, .int (nI t)), (4, .int (kI j))] → W p l e R s m args below meth cd H locs 0 0 Q (F0 m 17 ls []) := by
    intro j
    induction j with
    | zero =>
      intro t g1 f1 hj ht1 ht2 hI H locs hW ls hl
      have ht := ht1 (Nat.zero_le _)
      subst ht
      have hl : lv_has ls 5 [(0, .ref (h 0)), (1, .int (nI r)), (2, .int (nI c)), (3, .int (nI t)), (4, .int (-1))] := hl
      refine lv_iload (pc := 17) S.1 S.2.1 dX0_learn_17 (lv_at hl 4 rfl) ?_
      refine lv_if_lt (pc := 19) (tgt := 84) S.1 S.2.1 dX0_learn_19 (by decide) (fun c_19 => ?_) (fun c_19 => ?_)
      · exact aft g1 f1 H locs ls hI hW (lv_sub hl [0, 1, 2, 3] rfl)
      · exact absurd (by decide) c_19
    | succ j ih =>
      intro t g1 f1 hj ht1 ht2 hI H locs hW ls hl
      have hl : lv_has ls 5 [(0, .ref (h 0)), (1, .int (nI r)), (2, .int (nI c)), (3, .int (nI t)), (4, .int (nI j))] := hl
      obtain ⟨l1, l2, l3, l4, l5, l6⟩ := hlog j (by omega)
      have e4 : g1 4 = g 4 := hI.1 4 (by decide) (by decide)
      have e5 : g1 5 = g 5 := hI.1 5 (by decide) (by decide)
      have hjt : j ≤ t := by omega
      have e12 : g1 12 (60 * r + j) = g 12 (60 * r + j) := by rw [hI.2.2.2.2 j (by omega), if_pos hjt]
      refine lv_iload (pc := 17) S.1 S.2.1 dX0_learn_17 (lv_at hl 4 rfl) ?_
      refine z_if_lt_no (pc := 19) (tgt := 84) S (by omega) dX0_learn_19 (by decide) ?_
      refine lv_aload_n (pc := 22) S.1 S.2.1 dX0_learn_22 rfl (lv_at hl 0 rfl) ?_
      refine lv_iload_n (pc := 23) S.1 S.2.1 dX0_learn_23 rfl (lv_at hl 2 rfl) ?_
      refine x_g_12 (pc := 24) S hW (lv_at hl 0 rfl) dX0_learn_24 dX0_learn_25 ?_
      refine lv_bipush (pc := 28) (v := nI 60) S.1 S.2.1 dX0_learn_28 (by decide) ?_
      refine lv_iload_n (pc := 30) S.1 S.2.1 dX0_learn_30 rfl (lv_at hl 1 rfl) ?_
      refine z_imul (pc := 31) (x := 60) (y := r) S dX0_learn_31 ?_
      refine lv_iload (pc := 32) S.1 S.2.1 dX0_learn_32 (lv_at hl 4 rfl) ?_
      refine z_iadd (pc := 34) (x := 60 * r) (y := j) S dX0_learn_34 ?_
      refine x_ld_12 (pc := 35) (i := (60 * r) + j) (v := g 12 (60 * r + j)) S hW (by omega) e12 dX0_learn_35 ?_
      refine x_callr (pc := 36) (As := [.int (nI c), .int (nI (g 12 (60 * r + j)))]) (rest := []) S hW (metX0_isEarlier l D h cZ cI g1 f1 c (g 12 (60 * r + j)) hc l1 (by rw [e4]; exact h4) (by rw [e4]; exact l2) (by rw [e5]; omega) (by rw [e5]; exact l3)) (cwX0_isEarlier S.2.2.2.2 (by rw [hR]; decide)) rfl hl.1 rfl (Nat.le_of_ble_eq_true rfl) ⟨Nat.zero_le _, Nat.zero_le _⟩ dX0_learn_36 (fun r_36 H locs hp_36 hW => ?_)
      rw [e4, e5] at hp_36
      subst hp_36
      refine z_ifb_eq (pc := 39) (tgt := 78) S dX0_learn_39 (by decide) (fun c_39 => ?_) (fun c_39 => ?_)
      · have hpj : ¬ pl ≤ j := fun z => c_39 (l5.mpr z)
        refine lv_iinc (pc := 78) (v := kI j) (lv' := [(4, .int (kI j)), (0, .ref (h 0)), (1, .int (nI r)), (2, .int (nI c)), (3, .int (nI t))]) S.1 S.2.1 dX0_learn_78 hl (k := 4) rfl (kI_dec j) (by decide) rfl (fun ls hl => ?_)
        refine lv_goto (pc := 81) (tgt := 17) S.1 S.2.1 dX0_learn_81 (by decide) ?_
        exact ih t _ _ (by omega) (by omega) (by omega) hI _ _ hW ls (lv_sub hl [1, 2, 3, 4, 0] rfl)
      · have hpj := l5.mp c_39
        have ht : t = j + 1 := ht2 (by omega)
        subst ht
        obtain ⟨-, b2, b3, b4, b5⟩ := mt_I1_pre hI (by omega) l4 l6
        refine lv_aload_n (pc := 42) S.1 S.2.1 dX0_learn_42 rfl (lv_at hl 0 rfl) ?_
        refine lv_iload_n (pc := 43) S.1 S.2.1 dX0_learn_43 rfl (lv_at hl 1 rfl) ?_
        refine lv_iload (pc := 44) S.1 S.2.1 dX0_learn_44 (lv_at hl 4 rfl) ?_
        refine x_callu (pc := 46) (As := [.int (nI r), .int (nI j)]) (rest := []) S hW (metX0_undo l D h cZ cI g1 f1 r j (g 12 (60 * r + j)) hr (by omega) l1 e12 b2 b3 b4 b5) (cwX0_undo S.2.2.2.2 (by rw [hR]; decide)) rfl hl.1 rfl (Nat.le_of_ble_eq_true rfl) ⟨Nat.zero_le _, Nat.zero_le _⟩ dX0_learn_46 (fun H locs hW => ?_)
        have e12u : (mt_un g1 f1 r j (g 12 (60 * r + j))).1 12 (60 * r + j) = g 12 (60 * r + j) := by
          unfold mt_un
          by_cases z1 : g1 1 (g 12 (60 * r + j)) = 0
          · rw [if_pos z1]; exact e12
          · rw [if_neg z1]
            by_cases z2 : g1 14 (60 * r + j) = 0
            · rw [if_pos z2]; exact e12
            · rw [if_neg z2]; exact e12
        refine x_g_12 (pc := 49) S hW (lv_at hl 0 rfl) dX0_learn_49 dX0_learn_50 ?_
        refine lv_bipush (pc := 53) (v := nI 60) S.1 S.2.1 dX0_learn_53 (by decide) ?_
        refine lv_iload_n (pc := 55) S.1 S.2.1 dX0_learn_55 rfl (lv_at hl 1 rfl) ?_
        refine z_imul (pc := 56) (x := 60) (y := r) S dX0_learn_56 ?_
        refine lv_iload (pc := 57) S.1 S.2.1 dX0_learn_57 (lv_at hl 4 rfl) ?_
        refine z_iadd (pc := 59) (x := 60 * r) (y := j) S dX0_learn_59 ?_
        refine lv_iconst (pc := 60) (v := nI 1) S.1 S.2.1 dX0_learn_60 (by decide) ?_
        refine z_iadd (pc := 61) (x := (60 * r) + j) (y := 1) S dX0_learn_61 ?_
        refine x_g_12 (pc := 62) S hW (lv_at hl 0 rfl) dX0_learn_62 dX0_learn_63 ?_
        refine lv_bipush (pc := 66) (v := nI 60) S.1 S.2.1 dX0_learn_66 (by decide) ?_
        refine lv_iload_n (pc := 68) S.1 S.2.1 dX0_learn_68 rfl (lv_at hl 1 rfl) ?_
        refine z_imul (pc := 69) (x := 60) (y := r) S dX0_learn_69 ?_
        refine lv_iload (pc := 70) S.1 S.2.1 dX0_learn_70 (lv_at hl 4 rfl) ?_
        refine z_iadd (pc := 72) (x := 60 * r) (y := j) S dX0_learn_72 ?_
        refine x_ld_12 (pc := 73) (i := (60 * r) + j) (v := g 12 (60 * r + j)) S hW (by omega) e12u dX0_learn_73 ?_
        refine x_st_12 (pc := 74) (i := ((60 * r) + j) + 1) (v := g 12 (60 * r + j)) S hW (by omega) dX0_learn_74 (fun H locs hW => ?_)
        refine lv_iload (pc := 75) S.1 S.2.1 dX0_learn_75 (lv_at hl 4 rfl) ?_
        refine lv_istore_n (pc := 77) (lv' := [(3, .int (nI j)), (0, .ref (h 0)), (1, .int (nI r)), (2, .int (nI c)), (4, .int (nI j))]) S.1 S.2.1 dX0_learn_77 rfl hl (by decide) rfl (fun ls hl => ?_)
        refine lv_iinc (pc := 78) (v := kI j) (lv' := [(4, .int (kI j)), (3, .int (nI j)), (0, .ref (h 0)), (1, .int (nI r)), (2, .int (nI c))]) S.1 S.2.1 dX0_learn_78 hl (k := 4) rfl (kI_dec j) (by decide) rfl (fun ls hl => ?_)
        refine lv_goto (pc := 81) (tgt := 17) S.1 S.2.1 dX0_learn_81 (by decide) ?_
        exact ih j _ _ (by omega) (by omega) (by omega) (mt_I1_s hI (by omega) hn l6 l4) _ _ hW ls (lv_sub hl [2, 3, 4, 1, 0] rfl)
  refine x_g_11 (pc := 0) S hW (lv_at hl 0 rfl) dX0_learn_0 dX0_learn_1 ?_
  refine lv_iload_n (pc := 4) S.1 S.2.1 dX0_learn_4 rfl (lv_at hl 1 rfl) ?_
  refine x_ld_11 (pc := 5) (i := r) (v := n) S hW (by omega) h11 dX0_learn_5 ?_
  refine lv_istore_n (pc := 6) (lv' := [(3, .int (nI n)), (0, .ref (h 0)), (1, .int (nI r)), (2, .int (nI c))]) S.1 S.2.1 dX0_learn_6 rfl hl (by decide) rfl (fun ls hl => ?_)
  refine x_g_11 (pc := 7) S hW (lv_at hl 1 rfl) dX0_learn_7 dX0_learn_8 ?_
  refine lv_iload_n (pc := 11) S.1 S.2.1 dX0_learn_11 rfl (lv_at hl 2 rfl) ?_
  refine x_ld_11 (pc := 12) (i := r) (v := n) S hW (by omega) h11 dX0_learn_12 ?_
  refine lv_iconst (pc := 13) (v := nI 1) S.1 S.2.1 dX0_learn_13 (by decide) ?_
  refine lv_isub (pc := 14) S.1 S.2.1 dX0_learn_14 ?_
  refine z_top (pc := 15) (y := kI n) (kI_sub n) ?_
  refine lv_istore (pc := 15) (lv' := [(4, .int (kI n)), (3, .int (nI n)), (0, .ref (h 0)), (1, .int (nI r)), (2, .int (nI c))]) S.1 S.2.1 dX0_learn_15 hl (by decide) rfl (fun ls hl => ?_)
  exact loop1 n n g f (Nat.le_refl _) (by omega) (by omega) (mt_I1_0 hDI) _ _ hW ls (lv_sub hl [2, 3, 4, 1, 0] rfl)
end
section
/-! the component's invariant -/
set_option maxRecDepth 100000
def mt_kn (g : Nat → Nat → Nat) (r c : Nat) : Prop := g 6 c ≤ g 9 (3 * r + g 5 c)
/-- the table of changes -/
def mt_TI (g : Nat → Nat → Nat) (f : Nat → Nat → Int32) : Prop := g 0 0 ≤ 60 ∧ (∀ c, c < g 0 0 → mt_okq (mt_c g f c) ∧ g 4 c ≤ g 0 0 ∧ g 5 c < 3 ∧ 1 ≤ g 6 c ∧ g 6 c ≤ g 7 (g 5 c)) ∧ (∀ o j, o < 3 → 1 ≤ j → j ≤ g 7 o → g 8 (61 * o + j) < g 0 0 ∧ g 5 (g 8 (61 * o + j)) = o ∧ g 6 (g 8 (61 * o + j)) = j) ∧ g 0 0 = g 7 0 + g 7 1 + g 7 2 ∧ (∀ c d, c < d → d < g 0 0 → g 5 c = g 5 d → g 6 c < g 6 d ∧ g 4 c < g 4 d)
/-- one replica -/
def mt_RV (g : Nat → Nat → Nat) (f : Nat → Nat → Int32) (r : Nat) : Prop := (∀ o, o < 3 → g 9 (3 * r + o) ≤ g 7 o) ∧ (∀ c, c < g 0 0 → mt_kn g r c → g 4 c ≤ g 10 r) ∧ (g 10 r = 0 ∨ ∃ c, c < g 0 0 ∧ mt_kn g r c ∧ g 4 c = g 10 r) ∧ g 11 r = g 9 (3 * r + 0) + g 9 (3 * r + 1) + g 9 (3 * r + 2) ∧ (∀ k, k < g 11 r → g 12 (60 * r + k) < g 0 0 ∧ mt_kn g r (g 12 (60 * r + k))) ∧ (∀ j k, j < k → k < g 11 r → mt_ea (g 4) (g 5) (g 12 (60 * r + j)) (g 12 (60 * r + k))) ∧ (∀ c, c < g 0 0 → mt_kn g r c → ∃ k, k < g 11 r ∧ g 12 (60 * r + k) = c) ∧ mt_DI g f r (mt_run (mt_q g f r) (g 11 r)) ∧ (∀ k, k < g 11 r → mt_BI g f r k (mt_run (mt_q g f r) k) (mt_q g f r k))
def mt_XI (g : Nat → Nat → Nat) (f : Nat → Nat → Int32) : Prop := mt_TI g f ∧ ∀ r, r < 3 → mt_RV g f r ∧ g 9 (3 * r + r) = g 7 r
theorem mt_sum {a b : Nat → Nat} (h : ∀ o, o < 3 → a o ≤ b o) {o : Nat} (ho : o < 3) (hlt : a o < b o) : a 0 + a 1 + a 2 < b 0 + b 1 + b 2 := by
  have h0 := h 0 (by decide)
  have h1 := h 1 (by decide)
  have h2 := h 2 (by decide)
  have e : o = 0 ∨ o = 1 ∨ o = 2 := by omega
  rcases e with e | e | e <;> (subst e; omega)
theorem mt_sum_le {a b : Nat → Nat} (h : ∀ o, o < 3 → a o ≤ b o) : a 0 + a 1 + a 2 ≤ b 0 + b 1 + b 2 := by
  have h0 := h 0 (by decide)
  have h1 := h 1 (by decide)
  have h2 := h 2 (by decide)
  omega
theorem mt_sum_1 {a b : Nat → Nat} {o : Nat} (ho : o < 3) (h1 : b o = a o + 1) (h : ∀ i, i < 3 → i ≠ o → b i = a i) : b 0 + b 1 + b 2 = a 0 + a 1 + a 2 + 1 := by
  have e : o = 0 ∨ o = 1 ∨ o = 2 := by omega
  rcases e with e | e | e
  · subst e; rw [h1, h 1 (by decide) (by decide), h 2 (by decide) (by decide)]; omega
  · subst e; rw [h1, h 0 (by decide) (by decide), h 2 (by decide) (by decide)]; omega
  · subst e; rw [h1, h 0 (by decide) (by decide), h 1 (by decide) (by decide)]; omega
theorem mt_RV_ln {g : Nat → Nat → Nat} {f : Nat → Nat → Int32} {r : Nat} (hT : mt_TI g f) (hR : mt_RV g f r) : g 11 r ≤ g 0 0 := by
  rw [hR.2.2.2.1, hT.2.2.2.1]
  exact mt_sum_le (a := fun o => g 9 (3 * r + o)) (b := g 7) hR.1
theorem mt_RV_gr {g : Nat → Nat → Nat} {f : Nat → Nat → Int32} {r : Nat} (hT : mt_TI g f) (hR : mt_RV g f r) : g 10 r ≤ g 0 0 := by
  rcases hR.2.2.1 with h | ⟨c, h1, h2, h3⟩
  · omega
  · rw [← h3]; exact (hT.2.1 c h1).2.1
theorem mt_TI_7 {g : Nat → Nat → Nat} {f : Nat → Nat → Int32} (hT : mt_TI g f) {o : Nat} (ho : o < 3) : g 7 o ≤ g 0 0 := by
  rw [hT.2.2.2.1]
  have e : o = 0 ∨ o = 1 ∨ o = 2 := by omega
  rcases e with e | e | e <;> (subst e; omega)
theorem mt_TI_inj {g : Nat → Nat → Nat} {f : Nat → Nat → Int32} (hT : mt_TI g f) {c d : Nat} (hc : c < g 0 0) (hd : d < g 0 0) (h5 : g 5 c = g 5 d) (h6 : g 6 c = g 6 d) : c = d := by
  rcases Nat.lt_trichotomy c d with h | h | h
  · have := (hT.2.2.2.2 c d h hd h5).1; omega
  · exact h
  · have := (hT.2.2.2.2 d c h hc h5.symm).1; omega
theorem mt_TI_tot {g : Nat → Nat → Nat} {f : Nat → Nat → Int32} (hT : mt_TI g f) {c d : Nat} (hc : c < g 0 0) (hd : d < g 0 0) (h : ¬ c = d) (hn : ¬ mt_ea (g 4) (g 5) c d) : mt_ea (g 4) (g 5) d c := by
  unfold mt_ea at hn ⊢
  by_cases h5 : g 5 c = g 5 d
  · rcases Nat.lt_trichotomy c d with z | z | z
    · have := (hT.2.2.2.2 c d z hd h5).2; omega
    · exact absurd z h
    · have := (hT.2.2.2.2 d c z hc h5.symm).2; omega
  · omega
theorem mt_cut (P : Nat → Prop) : ∀ n, (∀ j k, j < k → k < n → P j → P k) → ∃ pl, pl ≤ n ∧ ∀ k, k < n → (P k ↔ pl ≤ k)
  | 0, _ => ⟨0, Nat.le_refl _, fun k hk => absurd hk (by omega)⟩
  | n + 1, h => by
    obtain ⟨pl, h1, h2⟩ := mt_cut P n (fun j k hj hk => h j k hj (by omega))
    by_cases hP : P n
    · refine ⟨pl, by omega, fun k hk => ?_⟩
      by_cases e : k = n
      · subst e; exact ⟨fun _ => h1, fun _ => hP⟩
      · exact h2 k (by omega)
    · refine ⟨n + 1, Nat.le_refl _, fun k hk => ⟨fun z => ?_, fun z => absurd z (by omega)⟩⟩
      by_cases e : k = n
      · subst e; exact absurd z hP
      · exact absurd (h k n (by omega) (by omega) z) hP
/-- learn may be called -/
theorem mt_LP_of {g : Nat → Nat → Nat} {f : Nat → Nat → Int32} {r c : Nat} (hr : r < 3) (hT : mt_TI g f) (hR : mt_RV g f r) (hc : c < g 0 0) (hk : ¬ mt_kn g r c) : ∃ pl, mt_LP g f r c pl (g 11 r) := by
  have hln := mt_RV_ln hT hR
  have hgr := mt_RV_gr hT hR
  have hc0 := hT.2.1 c hc
  obtain ⟨pl, h1, h2⟩ := mt_cut (fun k => mt_ea (g 4) (g 5) c (g 12 (60 * r + k))) (g 11 r) (fun j k hj hk z => mt_ea_trans z (hR.2.2.2.2.2.1 j k hj hk))
  have hlt : g 11 r < g 0 0 := by
    rw [hR.2.2.2.1, hT.2.2.2.1]
    refine mt_sum (a := fun o => g 9 (3 * r + o)) (b := g 7) hR.1 hc0.2.2.1 ?_
    unfold mt_kn at hk
    show g 9 (3 * r + g 5 c) < g 7 (g 5 c)
    omega
  have h7 := mt_TI_7 hT hc0.2.2.1
  have hM := hT.1
  refine ⟨pl, hr, by omega, by omega, rfl, h1, fun k hk => ?_, hc0.1, by omega, hc0.2.2.1, by omega, by omega, hR.2.2.2.2.2.2.2.1⟩
  have hl := (hR.2.2.2.2.1 k hk).1
  have hl0 := hT.2.1 _ hl
  exact ⟨by omega, by omega, by omega, hl0.1, h2 k hk, hR.2.2.2.2.2.2.2.2 k hk⟩
/-- a replica whose own places stay, in a table that may have grown by changes that it doesn't know -/
theorem mt_RV_mono {g g' : Nat → Nat → Nat} {f f' : Nat → Nat → Int32} {r : Nat} (hR : mt_RV g f r) (h5 : ∀ c, c < g 0 0 → g 5 c < 3) (hM : g 0 0 ≤ g' 0 0) (hc : ∀ c, c < g 0 0 → g' 1 c = g 1 c ∧ g' 2 c = g 2 c ∧ f' 3 c = f 3 c ∧ g' 4 c = g 4 c ∧ g' 5 c = g 5 c ∧ g' 6 c = g 6 c) (hnew : ∀ c, g 0 0 ≤ c → c < g' 0 0 → ¬ mt_kn g' r c) (h7 : ∀ o, o < 3 → g 7 o ≤ g' 7 o) (h9 : ∀ o, o < 3 → g' 9 (3 * r + o) = g 9 (3 * r + o)) (h10 : g' 10 r = g 10 r) (h11 : g' 11 r = g 11 r) (h12 : ∀ k, k < g 11 r → g' 12 (60 * r + k) = g 12 (60 * r + k) ∧ g' 14 (60 * r + k) = g 14 (60 * r + k) ∧ f' 13 (60 * r + k) = f 13 (60 * r + k)) (h15 : g' 15 r = g 15 r) (h16 : ∀ j, j < 10 → f' 16 (10 * r + j) = f 16 (10 * r + j) ∧ f' 17 (10 * r + j) = f 17 (10 * r + j)) : mt_RV g' f' r ∧ ∀ c, c < g 0 0 → (mt_kn g' r c ↔ mt_kn g r c) := by
  have hkn : ∀ c, c < g 0 0 → (mt_kn g' r c ↔ mt_kn g r c) := by
    intro c hc1
    unfold mt_kn
    rw [(hc c hc1).2.2.2.2.2, (hc c hc1).2.2.2.2.1, h9 _ (h5 c hc1)]
  have hkn2 : ∀ c, c < g' 0 0 → mt_kn g' r c → c < g 0 0 ∧ mt_kn g r c := by
    intro c h1 h2
    by_cases e : c < g 0 0
    · exact ⟨e, (hkn c e).mp h2⟩
    · exact absurd h2 (hnew c (by omega) h1)
  obtain ⟨r1, r2, r3, r4, r5, r6, r7, r8, r9⟩ := hR
  have hq : ∀ k, k < g 11 r → mt_q g f r k = mt_q g' f' r k := by
    intro k hk
    obtain ⟨z1, z2, z3, -⟩ := hc _ (r5 k hk).1
    unfold mt_q mt_c
    rw [(h12 k hk).1, z1, z2, z3]
  refine ⟨⟨fun o ho => ?_, fun c h1 h2 => ?_, ?_, ?_, fun k hk => ?_, fun j k hj hk => ?_, fun c h1 h2 => ?_, ?_, fun k hk => ?_⟩, hkn⟩
  · rw [h9 o ho]; exact Nat.le_trans (r1 o ho) (h7 o ho)
  · obtain ⟨a1, a2⟩ := hkn2 c h1 h2
    rw [(hc c a1).2.2.2.1, h10]; exact r2 c a1 a2
  · rw [h10]
    rcases r3 with z | ⟨c, z1, z2, z3⟩
    · exact Or.inl z
    · exact Or.inr ⟨c, by omega, (hkn c z1).mpr z2, by rw [(hc c z1).2.2.2.1]; exact z3⟩
  · rw [h11, r4, h9 0 (by decide), h9 1 (by decide), h9 2 (by decide)]
  · rw [h11] at hk
    rw [(h12 k hk).1]
    have z := r5 k hk
    exact ⟨by omega, (hkn _ z.1).mpr z.2⟩
  · rw [h11] at hk
    have z1 := r5 k hk
    have z2 := r5 j (by omega)
    have z3 := r6 j k hj hk
    rw [(h12 k hk).1, (h12 j (by omega)).1]
    unfold mt_ea at z3 ⊢
    rw [(hc _ z1.1).2.2.2.1, (hc _ z1.1).2.2.2.2.1, (hc _ z2.1).2.2.2.1, (hc _ z2.1).2.2.2.2.1]
    exact z3
  · obtain ⟨a1, a2⟩ := hkn2 c h1 h2
    obtain ⟨k, k1, k2⟩ := r7 c a1 a2
    exact ⟨k, by rw [h11]; exact k1, by rw [(h12 k k1).1]; exact k2⟩
  · rw [h11, ← mt_run_congr hq]
    refine ⟨by rw [h15]; exact r8.1, fun j hj => ?_⟩
    rw [(h16 j hj).1, (h16 j hj).2]
    exact r8.2 j hj
  · rw [h11] at hk
    rw [← mt_run_congr (fun j hj => hq j (by omega)), ← hq k hk]
    exact mt_BI_congr (h12 k hk).2.1 (h12 k hk).2.2 (r9 k hk)
/-- behind learn: the table is the same -/
theorem mt_L_TI {g g' : Nat → Nat → Nat} {f f' : Nat → Nat → Int32} {r c pl n : Nat} (hT : mt_TI g f) (hL : mt_L g f r c pl n g' f') : mt_TI g' f' := by
  obtain ⟨a1, a2, -⟩ := hL
  unfold mt_TI mt_c at hT ⊢
  rw [a1 0 (by decide) (by decide) (by decide) (by decide) (by decide) (by decide), a1 1 (by decide) (by decide) (by decide) (by decide) (by decide) (by decide), a1 2 (by decide) (by decide) (by decide) (by decide) (by decide) (by decide), a1 4 (by decide) (by decide) (by decide) (by decide) (by decide) (by decide), a1 5 (by decide) (by decide) (by decide) (by decide) (by decide) (by decide), a1 6 (by decide) (by decide) (by decide) (by decide) (by decide) (by decide), a1 7 (by decide) (by decide) (by decide) (by decide) (by decide) (by decide), a1 8 (by decide) (by decide) (by decide) (by decide) (by decide) (by decide), a2 3 (by decide) (by decide) (by decide)]
  exact hT
/-- behind learn: the other replicas -/
theorem mt_L_other {g g' : Nat → Nat → Nat} {f f' : Nat → Nat → Int32} {r c pl n r2 : Nat} (hT : mt_TI g f) (hr : r < 3) (hr2 : r2 < 3) (hne : r2 ≠ r) (hR : mt_RV g f r2) (hL : mt_L g f r c pl n g' f') : mt_RV g' f' r2 ∧ (∀ c, c < g 0 0 → (mt_kn g' r2 c ↔ mt_kn g r2 c)) ∧ g' 9 (3 * r2 + r2) = g 9 (3 * r2 + r2) := by
  have hln := mt_RV_ln hT hR
  have hM := hT.1
  obtain ⟨a1, a2, a3, -⟩ := hL
  have e0 := a1 0 (by decide) (by decide) (by decide) (by decide) (by decide) (by decide)
  have e1 := a1 1 (by decide) (by decide) (by decide) (by decide) (by decide) (by decide)
  have e2 := a1 2 (by decide) (by decide) (by decide) (by decide) (by decide) (by decide)
  have e3 := a2 3 (by decide) (by decide) (by decide)
  have e4 := a1 4 (by decide) (by decide) (by decide) (by decide) (by decide) (by decide)
  have e5 := a1 5 (by decide) (by decide) (by decide) (by decide) (by decide) (by decide)
  have e6 := a1 6 (by decide) (by decide) (by decide) (by decide) (by decide) (by decide)
  have e7 := a1 7 (by decide) (by decide) (by decide) (by decide) (by decide) (by decide)
  have h := mt_RV_mono (g' := g') (f' := f') hR (fun c hc => (hT.2.1 c hc).2.2.1) (by rw [e0]; exact Nat.le_refl _) (fun c hc => ⟨by rw [e1], by rw [e2], by rw [e3], by rw [e4], by rw [e5], by rw [e6]⟩) (fun c h1 h2 => absurd h2 (by rw [e0]; omega)) (fun o ho => by rw [e7]; exact Nat.le_refl _) (fun o ho => (a3 9 _ (by simp [mt_rz]; omega)).1) (a3 10 _ (by simp [mt_rz]; omega)).1 (a3 11 _ (by simp [mt_rz]; omega)).1 (fun k hk => ⟨(a3 12 _ (by simp [mt_rz]; omega)).1, (a3 14 _ (by simp [mt_rz]; omega)).1, (a3 13 _ (by simp [mt_rz]; omega)).2⟩) (a3 15 _ (by simp [mt_rz]; omega)).1 (fun j hj => ⟨(a3 16 _ (by simp [mt_rz]; omega)).2, (a3 17 _ (by simp [mt_rz]; omega)).2⟩)
  exact ⟨h.1, h.2, (a3 9 _ (by simp [mt_rz]; omega)).1⟩
/-- behind learn: the replica itself -/
theorem mt_L_self {g g' : Nat → Nat → Nat} {f f' : Nat → Nat → Int32} {r c pl : Nat} (hT : mt_TI g f) (hR : mt_RV g f r) (hc : c < g 0 0) (hk : ¬ mt_kn g r c) (h6 : g 6 c = g 9 (3 * r + g 5 c) + 1) (hp : mt_LP g f r c pl (g 11 r)) (hL : mt_L g f r c pl (g 11 r) g' f') : mt_RV g' f' r ∧ (∀ d, d < g 0 0 → (mt_kn g' r d ↔ mt_kn g r d ∨ d = c)) := by
  obtain ⟨p1, p2, p3, p4, p5, p6, -⟩ := hp
  obtain ⟨a1, a2, a3, a4, a5, a6, a7, a8, a9⟩ := hL
  have e0 := a1 0 (by decide) (by decide) (by decide) (by decide) (by decide) (by decide)
  have e1 := a1 1 (by decide) (by decide) (by decide) (by decide) (by decide) (by decide)
  have e2 := a1 2 (by decide) (by decide) (by decide) (by decide) (by decide) (by decide)
  have e3 := a2 3 (by decide) (by decide) (by decide)
  have e4 := a1 4 (by decide) (by decide) (by decide) (by decide) (by decide) (by decide)
  have e5 := a1 5 (by decide) (by decide) (by decide) (by decide) (by decide) (by decide)
  have e6 := a1 6 (by decide) (by decide) (by decide) (by decide) (by decide) (by decide)
  have e7 := a1 7 (by decide) (by decide) (by decide) (by decide) (by decide) (by decide)
  have hc0 := hT.2.1 c hc
  have hkn : ∀ d, d < g 0 0 → (mt_kn g' r d ↔ mt_kn g r d ∨ d = c) := by
    intro d hd
    unfold mt_kn
    rw [e5, e6]
    by_cases z : g 5 d = g 5 c
    · rw [z, a8.1]
      constructor
      · intro y
        by_cases y2 : g 6 d = g 6 c
        · exact Or.inr (mt_TI_inj hT hd hc z y2)
        · exact Or.inl (by omega)
      · intro y
        rcases y with y | y
        · omega
        · rw [y]; exact Nat.le_refl _
    · rw [a8.2 _ (hT.2.1 d hd).2.2.1 z]
      constructor
      · exact Or.inl
      · intro y
        rcases y with y | y
        · exact y
        · exact absurd (by rw [y]) z
  obtain ⟨r1, r2, r3, r4, r5, r6, r7, r8, r9⟩ := hR
  have hins : ∀ k, k < g 11 r + 1 → mt_ins (fun k => g 12 (60 * r + k)) pl c k < g 0 0 ∧ mt_kn g' r (mt_ins (fun k => g 12 (60 * r + k)) pl c k) := by
    intro k hk
    by_cases z1 : k < pl
    · rw [mt_ins_lt z1]
      have z := r5 k (by omega)
      exact ⟨z.1, (hkn _ z.1).mpr (Or.inl z.2)⟩
    · by_cases z2 : k = pl
      · subst z2
        rw [mt_ins_eq]
        exact ⟨hc, (hkn _ hc).mpr (Or.inr rfl)⟩
      · rw [mt_ins_gt (by omega)]
        have z := r5 (k - 1) (by omega)
        exact ⟨z.1, (hkn _ z.1).mpr (Or.inl z.2)⟩
  have hq : ∀ k, k < g 11 r + 1 → mt_q1 g f r c pl k = mt_q g' f' r k := by
    intro k hk
    rw [← mt_q1_at]
    unfold mt_q
    rw [a5 k (by omega)]
    exact (mt_c_congr e1 e2 e3 _).symm
  have hbe : ∀ j, j < pl → mt_ea (g 4) (g 5) (g 12 (60 * r + j)) c := by
    intro j hj
    have z := r5 j (by omega)
    refine mt_TI_tot hT hc z.1 (fun y => hk (by rw [y]; exact z.2)) (fun y => ?_)
    have := (p6 j (by omega)).2.2.2.2.1.mp y
    omega
  have haf : ∀ j, pl ≤ j → j < g 11 r → mt_ea (g 4) (g 5) c (g 12 (60 * r + j)) := fun j h1 h2 => (p6 j h2).2.2.2.2.1.mpr h1
  refine ⟨⟨fun o ho => ?_, fun d h1 h2 => ?_, ?_, ?_, fun k hk2 => ?_, fun j k hj hk2 => ?_, fun d h1 h2 => ?_, ?_, fun k hk2 => ?_⟩, hkn⟩
  · rw [e7]
    by_cases z : o = g 5 c
    · rw [z, a8.1]; exact hc0.2.2.2.2
    · rw [a8.2 o ho z]; exact r1 o ho
  · rw [e0] at h1
    rw [e4, a9]
    rcases (hkn d h1).mp h2 with z | z
    · have := r2 d h1 z
      by_cases y : g 10 r < g 4 c
      · rw [if_pos y]; omega
      · rw [if_neg y]; exact this
    · subst z
      by_cases y : g 10 r < g 4 d
      · rw [if_pos y]; exact Nat.le_refl _
      · rw [if_neg y]; omega
  · rw [e0, e4, a9]
    by_cases y : g 10 r < g 4 c
    · rw [if_pos y]
      exact Or.inr ⟨c, hc, (hkn c hc).mpr (Or.inr rfl), rfl⟩
    · rw [if_neg y]
      rcases r3 with z | ⟨d, z1, z2, z3⟩
      · exact Or.inl z
      · exact Or.inr ⟨d, z1, (hkn d z1).mpr (Or.inl z2), z3⟩
  · rw [a4, r4]
    exact (mt_sum_1 (a := fun o => g 9 (3 * r + o)) (b := fun o => g' 9 (3 * r + o)) hc0.2.2.1 (by show g' 9 (3 * r + g 5 c) = g 9 (3 * r + g 5 c) + 1; rw [a8.1]; exact h6) (fun i hi hne => a8.2 i hi hne)).symm
  · rw [a4] at hk2
    rw [a5 k (by omega), e0]
    exact hins k hk2
  · rw [a4] at hk2
    rw [a5 k (by omega), a5 j (by omega), e4, e5]
    by_cases z1 : k < pl
    · rw [mt_ins_lt z1, mt_ins_lt (by omega)]
      exact r6 j k hj (by omega)
    · by_cases z2 : k = pl
      · subst z2
        rw [mt_ins_eq, mt_ins_lt hj]
        exact hbe j hj
      · rw [mt_ins_gt (k := k) (by omega)]
        by_cases z3 : j < pl
        · rw [mt_ins_lt z3]
          exact r6 j (k - 1) (by omega) (by omega)
        · by_cases z4 : j = pl
          · subst z4
            rw [mt_ins_eq]
            exact haf (k - 1) (by omega) (by omega)
          · rw [mt_ins_gt (by omega)]
            exact r6 (j - 1) (k - 1) (by omega) (by omega)
  · rw [e0] at h1
    rw [a4]
    rcases (hkn d h1).mp h2 with z | z
    · obtain ⟨k, k1, k2⟩ := r7 d h1 z
      by_cases y : k < pl
      · exact ⟨k, by omega, by rw [a5 k (by omega), mt_ins_lt y]; exact k2⟩
      · exact ⟨k + 1, by omega, by rw [a5 (k + 1) (by omega), mt_ins_gt (by omega)]; exact k2⟩
    · subst z
      exact ⟨pl, by omega, by rw [a5 pl p5, mt_ins_eq]⟩
  · rw [a4, ← mt_run_congr hq]
    exact a6
  · rw [a4] at hk2
    rw [← mt_run_congr (fun j hj => hq j (by omega)), ← hq k hk2]
    exact a7 k hk2
end
section
/-! making a change, learning one, learning all that another knows: the plain side -/
set_option maxRecDepth 100000
noncomputable def mt_dec (P : Prop) : Bool := @decide P (Classical.propDecidable P)
theorem mt_dec_t {P : Prop} : mt_dec P = true ↔ P := @decide_eq_true_iff P (Classical.propDecidable P)
theorem mt_dec_congr {P P' : Prop} (h : P ↔ P') : mt_dec P = mt_dec P' := by rw [propext h]
theorem mt_bit {b : Bool} {x : Nat} (h : x = if b = true then 1 else 0) : x < 2 ∧ (x = 0 → ¬ b = true) ∧ (¬ x = 0 → b = true) := by
  by_cases hb : b = true
  · rw [if_pos hb] at h
    exact ⟨by omega, fun z => by omega, fun _ => hb⟩
  · rw [if_neg hb] at h
    exact ⟨by omega, fun _ => hb, fun z => absurd h z⟩
def mt_mg (g : Nat → Nat → Nat) (r b nd : Nat) : Nat → Nat → Nat := st2 (st2 (st2 (st2 (st2 (st2 (st2 (st2 g 0 0 (g 0 0 + 1)) 1 (g 0 0) b) 2 (g 0 0) nd) 4 (g 0 0) (g 10 r + 1)) 5 (g 0 0) r) 7 r (g 7 r + 1)) 6 (g 0 0) (g 7 r + 1)) 8 (61 * r + (g 7 r + 1)) (g 0 0)
def mt_mf (g : Nat → Nat → Nat) (f : Nat → Nat → Int32) (x : Int32) : Nat → Nat → Int32 := st2 f 3 (g 0 0) x
theorem mt_mg_old (g : Nat → Nat → Nat) (f : Nat → Nat → Int32) (r b nd : Nat) (x : Int32) {c : Nat} (h : c < g 0 0) : mt_mg g r b nd 1 c = g 1 c ∧ mt_mg g r b nd 2 c = g 2 c ∧ mt_mf g f x 3 c = f 3 c ∧ mt_mg g r b nd 4 c = g 4 c ∧ mt_mg g r b nd 5 c = g 5 c ∧ mt_mg g r b nd 6 c = g 6 c := by
  have h1 : ¬ c = g 0 0 := by omega
  refine ⟨?_, ?_, ?_, ?_, ?_, ?_⟩ <;> simp [mt_mg, mt_mf, st2, h1]
theorem mt_mg_new (g : Nat → Nat → Nat) (f : Nat → Nat → Int32) (r b nd : Nat) (x : Int32) : mt_mg g r b nd 0 0 = g 0 0 + 1 ∧ mt_mg g r b nd 1 (g 0 0) = b ∧ mt_mg g r b nd 2 (g 0 0) = nd ∧ mt_mf g f x 3 (g 0 0) = x ∧ mt_mg g r b nd 4 (g 0 0) = g 10 r + 1 ∧ mt_mg g r b nd 5 (g 0 0) = r ∧ mt_mg g r b nd 6 (g 0 0) = g 7 r + 1 ∧ mt_mg g r b nd 7 r = g 7 r + 1 ∧ mt_mg g r b nd 8 (61 * r + (g 7 r + 1)) = g 0 0 := by
  refine ⟨?_, ?_, ?_, ?_, ?_, ?_, ?_, ?_, ?_⟩ <;> simp [mt_mg, mt_mf, st2]
theorem mt_mg_7 (g : Nat → Nat → Nat) (r b nd : Nat) {o : Nat} (h : ¬ o = r) : mt_mg g r b nd 7 o = g 7 o := by simp [mt_mg, st2, h]
theorem mt_mg_8 (g : Nat → Nat → Nat) (r b nd : Nat) {i : Nat} (h : ¬ i = 61 * r + (g 7 r + 1)) : mt_mg g r b nd 8 i = g 8 i := by simp [mt_mg, st2, h]
theorem mt_mk_TI {g : Nat → Nat → Nat} {f : Nat → Nat → Int32} {r b nd : Nat} {x : Int32} (hX : mt_XI g f) (hr : r < 3) (hM : g 0 0 < 60) (hq : mt_okq (b, nd, x)) : mt_TI (mt_mg g r b nd) (mt_mf g f x) := by
  obtain ⟨hT, hR⟩ := hX
  obtain ⟨hRr, hown⟩ := hR r hr
  have hgr := mt_RV_gr hT hRr
  obtain ⟨n0, n1, n2, n3, n4, n5, n6, n7, n8⟩ := mt_mg_new g f r b nd x
  obtain ⟨t1, t2, t3, t4, t5⟩ := id hT
  refine ⟨by rw [n0]; omega, fun c hc => ?_, fun o j ho h1 h2 => ?_, ?_, fun c d hcd hd h5 => ?_⟩
  · rw [n0] at hc ⊢
    by_cases e : c = g 0 0
    · subst e
      refine ⟨?_, by rw [n4]; omega, by rw [n5]; exact hr, by rw [n6]; omega, by rw [n5, n6, n7]; exact Nat.le_refl _⟩
      unfold mt_c
      rw [n1, n2, n3]
      exact hq
    · have hc2 : c < g 0 0 := by omega
      obtain ⟨o1, o2, o3, o4, o5, o6⟩ := mt_mg_old g f r b nd x hc2
      obtain ⟨s1, s2, s3, s4, s5⟩ := t2 c hc2
      refine ⟨?_, by rw [o4]; omega, by rw [o5]; exact s3, by rw [o6]; exact s4, ?_⟩
      · unfold mt_c at s1 ⊢
        rw [o1, o2, o3]
        exact s1
      · rw [o5, o6]
        by_cases e2 : g 5 c = r
        · rw [e2, n7]
          rw [e2] at s5
          omega
        · rw [mt_mg_7 _ _ _ _ e2]; exact s5
  · by_cases e : o = r
    · subst e
      rw [n7] at h2
      by_cases e2 : j = g 7 o + 1
      · subst e2
        rw [n8]
        exact ⟨by rw [n0]; omega, n5, n6⟩
      · rw [mt_mg_8 _ _ _ _ (by omega)]
        obtain ⟨s1, s2, s3⟩ := t3 o j ho h1 (by omega)
        obtain ⟨o1, o2, o3, o4, o5, o6⟩ := mt_mg_old g f o b nd x s1
        exact ⟨by rw [n0]; omega, by rw [o5]; exact s2, by rw [o6]; exact s3⟩
    · rw [mt_mg_7 _ _ _ _ e] at h2
      have z1 := mt_TI_7 hT ho
      have z2 := mt_TI_7 hT hr
      rw [mt_mg_8 _ _ _ _ (by omega)]
      obtain ⟨s1, s2, s3⟩ := t3 o j ho h1 h2
      obtain ⟨o1, o2, o3, o4, o5, o6⟩ := mt_mg_old g f r b nd x s1
      exact ⟨by rw [n0]; omega, by rw [o5]; exact s2, by rw [o6]; exact s3⟩
  · rw [n0, t4]
    exact (mt_sum_1 (a := g 7) (b := mt_mg g r b nd 7) hr n7 (fun i _ hi => mt_mg_7 _ _ _ _ hi)).symm
  · rw [n0] at hd
    obtain ⟨o1, o2, o3, o4, o5, o6⟩ := mt_mg_old g f r b nd x (c := c) (by omega)
    rw [o4, o6]
    rw [o5] at h5
    by_cases e : d = g 0 0
    · subst e
      rw [n4, n6]
      rw [n5] at h5
      obtain ⟨s1, s2, s3, s4, s5⟩ := t2 c hcd
      have hkn : mt_kn g r c := by
        unfold mt_kn
        rw [h5, hown, ← h5]
        exact s5
      have := hRr.2.1 c hcd hkn
      rw [h5] at s5
      omega
    · obtain ⟨p1, p2, p3, p4, p5, p6⟩ := mt_mg_old g f r b nd x (c := d) (by omega)
      rw [p4, p6]
      rw [p5] at h5
      exact t5 c d hcd (by omega) h5
theorem mt_mk_RV {g : Nat → Nat → Nat} {f : Nat → Nat → Int32} {r b nd : Nat} {x : Int32} (hX : mt_XI g f) (hr : r < 3) {r2 : Nat} (hr2 : r2 < 3) : mt_RV (mt_mg g r b nd) (mt_mf g f x) r2 ∧ (∀ c, c < g 0 0 → (mt_kn (mt_mg g r b nd) r2 c ↔ mt_kn g r2 c)) ∧ ¬ mt_kn (mt_mg g r b nd) r2 (g 0 0) := by
  obtain ⟨hT, hR⟩ := hX
  obtain ⟨n0, n1, n2, n3, n4, n5, n6, n7, n8⟩ := mt_mg_new g f r b nd x
  have hnew : ¬ mt_kn (mt_mg g r b nd) r2 (g 0 0) := by
    unfold mt_kn
    rw [n5, n6]
    have := (hR r2 hr2).1.1 r hr
    show ¬ g 7 r + 1 ≤ g 9 (3 * r2 + r)
    omega
  have h := mt_RV_mono (g' := mt_mg g r b nd) (f' := mt_mf g f x) (hR r2 hr2).1 (fun c hc => (hT.2.1 c hc).2.2.1) (by rw [n0]; omega) (fun c hc => mt_mg_old g f r b nd x hc) (fun c h1 h2 => by rw [n0] at h2; rw [show c = g 0 0 by omega]; exact hnew) (fun o ho => by
    by_cases e : o = r
    · rw [e, n7]; omega
    · rw [mt_mg_7 _ _ _ _ e]; exact Nat.le_refl _) (fun o ho => rfl) rfl rfl (fun k hk => ⟨rfl, rfl, rfl⟩) rfl (fun j hj => ⟨rfl, rfl⟩)
  exact ⟨h.1, h.2, hnew⟩
/-- a change was made -/
def mt_MK (g : Nat → Nat → Nat) (f : Nat → Nat → Int32) (r : Nat) (x : mtQ) (g' : Nat → Nat → Nat) (f' : Nat → Nat → Int32) : Prop := mt_XI g' f' ∧ g' 0 0 = g 0 0 + 1 ∧ (∀ c, c < g 0 0 → mt_c g' f' c = mt_c g f c ∧ g' 4 c = g 4 c ∧ g' 5 c = g 5 c) ∧ mt_c g' f' (g 0 0) = x ∧ g' 4 (g 0 0) = g 10 r + 1 ∧ g' 5 (g 0 0) = r ∧ (∀ r2, r2 < 3 → (∀ c, c < g 0 0 → (mt_kn g' r2 c ↔ mt_kn g r2 c)) ∧ (mt_kn g' r2 (g 0 0) ↔ r2 = r)) ∧ g' 11 r = g 11 r + 1 ∧ g' 12 (60 * r + g 11 r) = g 0 0
theorem mt_mk_LP {g : Nat → Nat → Nat} {f : Nat → Nat → Int32} {r b nd : Nat} {x : Int32} (hX : mt_XI g f) (hr : r < 3) (hM : g 0 0 < 60) (hq : mt_okq (b, nd, x)) : ∃ pl, mt_LP (mt_mg g r b nd) (mt_mf g f x) r (g 0 0) pl (g 11 r) :=
  mt_LP_of hr (mt_mk_TI hX hr hM hq) (mt_mk_RV hX hr hr).1 (by rw [(mt_mg_new g f r b nd x).1]; omega) (mt_mk_RV (f := f) (x := x) hX hr hr).2.2
theorem mt_mk_MK {g g' : Nat → Nat → Nat} {f f' : Nat → Nat → Int32} {r b nd pl : Nat} {x : Int32} (hX : mt_XI g f) (hr : r < 3) (hM : g 0 0 < 60) (hq : mt_okq (b, nd, x)) (hp : mt_LP (mt_mg g r b nd) (mt_mf g f x) r (g 0 0) pl (g 11 r)) (hL : mt_L (mt_mg g r b nd) (mt_mf g f x) r (g 0 0) pl (g 11 r) g' f') : mt_MK g f r (b, nd, x) g' f' := by
  have hT1 := mt_mk_TI hX hr hM hq
  have hR1 := fun r2 (hr2 : r2 < 3) => mt_mk_RV (b := b) (nd := nd) (x := x) hX hr hr2
  obtain ⟨n0, n1, n2, n3, n4, n5, n6, n7, n8⟩ := mt_mg_new g f r b nd x
  have hown := (hX.2 r hr).2
  have hcM : g 0 0 < mt_mg g r b nd 0 0 := by rw [n0]; omega
  have h6 : mt_mg g r b nd 6 (g 0 0) = mt_mg g r b nd 9 (3 * r + mt_mg g r b nd 5 (g 0 0)) + 1 := by
    rw [n5, n6]
    show g 7 r + 1 = g 9 (3 * r + r) + 1
    rw [hown]
  have hS := mt_L_self hT1 (hR1 r hr).1 hcM (hR1 r hr).2.2 h6 hp hL
  have hT2 := mt_L_TI hT1 hL
  have hO := fun r2 (hr2 : r2 < 3) (hne : r2 ≠ r) => mt_L_other hT1 hr hr2 hne (hR1 r2 hr2).1 hL
  obtain ⟨p1, p2, p3, p4, p5, p6, -⟩ := hp
  obtain ⟨a1, a2, a3, a4, a5, a6, a7, a8, a9⟩ := hL
  have e0 := a1 0 (by decide) (by decide) (by decide) (by decide) (by decide) (by decide)
  have e1 := a1 1 (by decide) (by decide) (by decide) (by decide) (by decide) (by decide)
  have e2 := a1 2 (by decide) (by decide) (by decide) (by decide) (by decide) (by decide)
  have e3 := a2 3 (by decide) (by decide) (by decide)
  have e4 := a1 4 (by decide) (by decide) (by decide) (by decide) (by decide) (by decide)
  have e5 := a1 5 (by decide) (by decide) (by decide) (by decide) (by decide) (by decide)
  have e7 := a1 7 (by decide) (by decide) (by decide) (by decide) (by decide) (by decide)
  have hpl : pl = g 11 r := by
    by_cases z : pl = g 11 r
    · exact z
    · exfalso
      have hlt : pl < g 11 r := by omega
      have y := (p6 pl hlt).2.2.2.2.1.mpr (Nat.le_refl _)
      have y2 := (hX.2 r hr).1.2.2.2.2.1 pl hlt
      have y3 := (hX.2 r hr).1.2.1 _ y2.1 y2.2
      have y4 : mt_mg g r b nd 4 (g 12 (60 * r + pl)) = g 4 (g 12 (60 * r + pl)) := (mt_mg_old g f r b nd x y2.1).2.2.2.1
      have y5 : mt_ea (mt_mg g r b nd 4) (mt_mg g r b nd 5) (g 0 0) (g 12 (60 * r + pl)) := y
      unfold mt_ea at y5
      rw [n4, y4] at y5
      omega
  refine ⟨⟨hT2, fun r2 hr2 => ?_⟩, by rw [e0, n0], fun c hc => ⟨?_, by rw [e4, (mt_mg_old g f r b nd x hc).2.2.2.1], by rw [e5, (mt_mg_old g f r b nd x hc).2.2.2.2.1]⟩, ?_, by rw [e4, n4], by rw [e5, n5], fun r2 hr2 => ?_, a4, ?_⟩
  · by_cases e : r2 = r
    · subst e
      refine ⟨hS.1, ?_⟩
      have := a8.1
      rw [n5, n6] at this
      rw [this, e7, n7]
    · obtain ⟨z1, z2, z3⟩ := hO r2 hr2 e
      refine ⟨z1, ?_⟩
      rw [z3, e7, mt_mg_7 _ _ _ _ e]
      exact (hX.2 r2 hr2).2
  · rw [mt_c_congr e1 e2 e3]
    unfold mt_c
    obtain ⟨o1, o2, o3, -⟩ := mt_mg_old g f r b nd x hc
    rw [o1, o2, o3]
  · rw [mt_c_congr e1 e2 e3]
    unfold mt_c
    rw [n1, n2, n3]
  · by_cases e : r2 = r
    · subst e
      refine ⟨fun c hc => ?_, ?_⟩
      · rw [hS.2 c (by rw [n0]; omega), (hR1 r2 hr2).2.1 c hc]
        exact ⟨fun z => z.elim (fun y => y) (fun y => by omega), Or.inl⟩
      · rw [hS.2 _ hcM]
        exact ⟨fun _ => rfl, fun _ => Or.inr rfl⟩
    · obtain ⟨z1, z2, z3⟩ := hO r2 hr2 e
      refine ⟨fun c hc => ?_, ?_⟩
      · rw [z2 c (by rw [n0]; omega), (hR1 r2 hr2).2.1 c hc]
      · rw [z2 _ hcM]
        exact ⟨fun z => absurd z (hR1 r2 hr2).2.2, fun z => absurd z e⟩
  · rw [a5 (g 11 r) (Nat.le_refl _), hpl, mt_ins_eq]
/-- replica r has learned the change c -/
def mt_LN (g : Nat → Nat → Nat) (f : Nat → Nat → Int32) (r c : Nat) (g' : Nat → Nat → Nat) (f' : Nat → Nat → Int32) : Prop := mt_XI g' f' ∧ g' 0 0 = g 0 0 ∧ (∀ d, mt_c g' f' d = mt_c g f d ∧ g' 4 d = g 4 d ∧ g' 5 d = g 5 d) ∧ ∀ r2, r2 < 3 → ∀ d, d < g 0 0 → (mt_kn g' r2 d ↔ mt_kn g r2 d ∨ (r2 = r ∧ d = c))
theorem mt_L_LN {g g' : Nat → Nat → Nat} {f f' : Nat → Nat → Int32} {r c pl : Nat} (hX : mt_XI g f) (hr : r < 3) (hc : c < g 0 0) (hk : ¬ mt_kn g r c) (h6 : g 6 c = g 9 (3 * r + g 5 c) + 1) (hp : mt_LP g f r c pl (g 11 r)) (hL : mt_L g f r c pl (g 11 r) g' f') : mt_LN g f r c g' f' := by
  obtain ⟨hT, hR⟩ := hX
  have hS := mt_L_self hT (hR r hr).1 hc hk h6 hp hL
  have hT2 := mt_L_TI hT hL
  have hO := fun r2 (hr2 : r2 < 3) (hne : r2 ≠ r) => mt_L_other hT hr hr2 hne (hR r2 hr2).1 hL
  obtain ⟨a1, a2, a3, a4, a5, a6, a7, a8, a9⟩ := hL
  have e0 := a1 0 (by decide) (by decide) (by decide) (by decide) (by decide) (by decide)
  have e1 := a1 1 (by decide) (by decide) (by decide) (by decide) (by decide) (by decide)
  have e2 := a1 2 (by decide) (by decide) (by decide) (by decide) (by decide) (by decide)
  have e3 := a2 3 (by decide) (by decide) (by decide)
  have e4 := a1 4 (by decide) (by decide) (by decide) (by decide) (by decide) (by decide)
  have e5 := a1 5 (by decide) (by decide) (by decide) (by decide) (by decide) (by decide)
  have e7 := a1 7 (by decide) (by decide) (by decide) (by decide) (by decide) (by decide)
  have hne : r ≠ g 5 c := by
    intro z
    apply hk
    unfold mt_kn
    rw [← z, (hR r hr).2, z]
    exact (hT.2.1 c hc).2.2.2.2
  refine ⟨⟨hT2, fun r2 hr2 => ?_⟩, by rw [e0], fun d => ⟨mt_c_congr e1 e2 e3 d, by rw [e4], by rw [e5]⟩, fun r2 hr2 d hd => ?_⟩
  · by_cases e : r2 = r
    · subst e
      refine ⟨hS.1, ?_⟩
      rw [a8.2 r2 hr2 hne, e7]
      exact (hR r2 hr2).2
    · obtain ⟨z1, z2, z3⟩ := hO r2 hr2 e
      refine ⟨z1, ?_⟩
      rw [z3, e7]
      exact (hR r2 hr2).2
  · by_cases e : r2 = r
    · subst e
      rw [hS.2 d hd]
      exact ⟨fun z => z.elim Or.inl (fun y => Or.inr ⟨rfl, y⟩), fun z => z.elim Or.inl (fun y => Or.inr y.2)⟩
    · rw [(hO r2 hr2 e).2.1 d hd]
      exact ⟨Or.inl, fun z => z.elim (fun y => y) (fun y => absurd y.1 e)⟩
/-- sync has come to the change i -/
def mt_SY (g : Nat → Nat → Nat) (f : Nat → Nat → Int32) (fr to i : Nat) (g' : Nat → Nat → Nat) (f' : Nat → Nat → Int32) : Prop := mt_XI g' f' ∧ g' 0 0 = g 0 0 ∧ (∀ d, mt_c g' f' d = mt_c g f d ∧ g' 4 d = g 4 d ∧ g' 5 d = g 5 d) ∧ ∀ r2, r2 < 3 → ∀ d, d < g 0 0 → (mt_kn g' r2 d ↔ mt_kn g r2 d ∨ (r2 = to ∧ d < i ∧ mt_kn g fr d))
theorem mt_SY_0 {g : Nat → Nat → Nat} {f : Nat → Nat → Int32} {fr to : Nat} (hX : mt_XI g f) : mt_SY g f fr to 0 g f := ⟨hX, rfl, fun _ => ⟨rfl, rfl, rfl⟩, fun _ _ _ _ => ⟨Or.inl, fun z => z.elim (fun y => y) (fun y => absurd y.2.1 (by omega))⟩⟩
theorem mt_SY_kn {g g' : Nat → Nat → Nat} {f f' : Nat → Nat → Int32} {fr to i : Nat} (hS : mt_SY g f fr to i g' f') {r2 : Nat} (hr2 : r2 < 3) (hi : i < g 0 0) : mt_kn g' r2 i ↔ mt_kn g r2 i := by
  rw [hS.2.2.2 r2 hr2 i hi]
  exact ⟨fun z => z.elim (fun y => y) (fun y => absurd y.2.1 (by omega)), Or.inl⟩
/-- the change i comes next of its origin -/
theorem mt_SY_nx {g g' : Nat → Nat → Nat} {f f' : Nat → Nat → Int32} {fr to i : Nat} (hS : mt_SY g f fr to i g' f') (hfr : fr < 3) (hto : to < 3) (hi : i < g 0 0) (h1 : mt_kn g' fr i) (h2 : ¬ mt_kn g' to i) : g' 6 i = g' 9 (3 * to + g' 5 i) + 1 := by
  obtain ⟨hX, e0, -, hkn⟩ := id hS
  obtain ⟨t1, t2, t3, t4, t5⟩ := id hX.1
  have hi' : i < g' 0 0 := by rw [e0]; exact hi
  obtain ⟨s1, s2, s3, s4, s5⟩ := t2 i hi'
  unfold mt_kn at h1 h2
  by_cases z : g' 6 i = g' 9 (3 * to + g' 5 i) + 1
  · exact z
  · exfalso
    obtain ⟨d1, d2, d3⟩ := t3 (g' 5 i) (g' 9 (3 * to + g' 5 i) + 1) s3 (by omega) (by omega)
    generalize g' 8 (61 * g' 5 i + (g' 9 (3 * to + g' 5 i) + 1)) = d at d1 d2 d3
    have hdi : d < i := by
      rcases Nat.lt_trichotomy d i with y | y | y
      · exact y
      · subst y; exact absurd d3 z
      · have := (t5 i d y d1 d2.symm).1; omega
    have k1 : mt_kn g' fr d := by
      unfold mt_kn
      rw [d2, d3]
      omega
    have k2 : mt_kn g fr d := by
      rcases (hkn fr hfr d (by omega)).mp k1 with y | y
      · exact y
      · exact y.2.2
    have k3 : mt_kn g' to d := (hkn to hto d (by omega)).mpr (Or.inr ⟨rfl, hdi, k2⟩)
    unfold mt_kn at k3
    rw [d2, d3] at k3
    omega
theorem mt_SY_no {g g' : Nat → Nat → Nat} {f f' : Nat → Nat → Int32} {fr to i : Nat} (hS : mt_SY g f fr to i g' f') (hfr : fr < 3) (hto : to < 3) (hi : i < g 0 0) (h : ¬ (mt_kn g fr i ∧ ¬ mt_kn g to i)) : mt_SY g f fr to (i + 1) g' f' := by
  refine ⟨hS.1, hS.2.1, hS.2.2.1, fun r2 hr2 d hd => ?_⟩
  rw [hS.2.2.2 r2 hr2 d hd]
  constructor
  · intro z
    rcases z with z | z
    · exact Or.inl z
    · exact Or.inr ⟨z.1, by omega, z.2.2⟩
  · intro z
    rcases z with z | z
    · exact Or.inl z
    · by_cases e : d = i
      · subst e
        refine Or.inl ?_
        rw [z.1]
        exact Classical.byContradiction (fun y => h ⟨z.2.2, y⟩)
      · exact Or.inr ⟨z.1, by omega, z.2.2⟩
theorem mt_SY_yes {g g' g2 : Nat → Nat → Nat} {f f' f2 : Nat → Nat → Int32} {fr to i : Nat} (hS : mt_SY g f fr to i g' f') (hfr : fr < 3) (hto : to < 3) (hi : i < g 0 0) (h : mt_kn g fr i) (hL : mt_LN g' f' to i g2 f2) : mt_SY g f fr to (i + 1) g2 f2 := by
  obtain ⟨l1, l2, l3, l4⟩ := hL
  obtain ⟨s1, s2, s3, s4⟩ := hS
  refine ⟨l1, l2.trans s2, fun d => ⟨(l3 d).1.trans (s3 d).1, (l3 d).2.1.trans (s3 d).2.1, (l3 d).2.2.trans (s3 d).2.2⟩, fun r2 hr2 d hd => ?_⟩
  rw [l4 r2 hr2 d (by rw [s2]; exact hd), s4 r2 hr2 d hd]
  constructor
  · intro z
    rcases z with (z | z) | z
    · exact Or.inl z
    · exact Or.inr ⟨z.1, by omega, z.2.2⟩
    · exact Or.inr ⟨z.1, by omega, by rw [z.2]; exact h⟩
  · intro z
    rcases z with z | z
    · exact Or.inl (Or.inl z)
    · by_cases e : d = i
      · exact Or.inr ⟨z.1, e⟩
      · exact Or.inl (Or.inr ⟨z.1, by omega, z.2.2⟩)
end
section
/-! what the component's operations answer -/
def mt_same (g : Nat → Nat → Nat) (f : Nat → Nat → Int32) (u : zU) : Prop := u.1 = g ∧ u.2 = f
def mt_okm (g : Nat → Nat → Nat) (x1 x2 x3 : Int32) : Prop := mt_rep x1 ∧ (1 ≤ x2 ∧ x2 ≤ 9) ∧ mt_nod x3 ∧ g 0 0 < 60
def mt_okn (g : Nat → Nat → Nat) (x1 x2 : Int32) : Prop := mt_rep x1 ∧ mt_nod x2 ∧ g 0 0 < 60
def mt_xmv (g : Nat → Nat → Nat) (f : Nat → Nat → Int32) (x1 x2 x3 v : Int32) (u : zU) : Prop := (mt_okm g x1 x2 x3 ∧ ∃ r nd pp : Nat, r < 3 ∧ 1 ≤ nd ∧ nd < 10 ∧ pp < 10 ∧ x1 = nI r ∧ x2 = nI nd ∧ x3 = nI pp ∧ mt_MK g f r (1, nd, nI pp) u.1 u.2 ∧ v = bI (mt_sk (mt_run (mt_q u.1 u.2 r) (g 11 r)) (1, nd, nI pp) = true)) ∨ (¬ mt_okm g x1 x2 x3 ∧ v = -1 ∧ mt_same g f u)
def mt_xnm (g : Nat → Nat → Nat) (f : Nat → Nat → Int32) (x1 x2 x3 v : Int32) (u : zU) : Prop := (mt_okn g x1 x2 ∧ v = 0 ∧ ∃ r nd : Nat, r < 3 ∧ nd < 10 ∧ x1 = nI r ∧ x2 = nI nd ∧ mt_MK g f r (0, nd, x3) u.1 u.2) ∨ (¬ mt_okn g x1 x2 ∧ v = -1 ∧ mt_same g f u)
def mt_xdv (g : Nat → Nat → Nat) (f : Nat → Nat → Int32) (x1 x2 v : Int32) (u : zU) : Prop := (∃ fr to : Nat, fr < 3 ∧ to < 3 ∧ x1 = nI fr ∧ x2 = nI to ∧ ((g 7 fr ≤ g 9 (3 * to + fr) ∧ v = -1 ∧ mt_same g f u) ∨ (∃ c, c < g 0 0 ∧ g 5 c = fr ∧ ¬ mt_kn g to c ∧ g 6 c = g 9 (3 * to + fr) + 1 ∧ mt_LN g f to c u.1 u.2 ∧ v = nI (u.1 15 to)))) ∨ (¬ (mt_rep x1 ∧ mt_rep x2) ∧ v = -1 ∧ mt_same g f u)
noncomputable def mt_sb (g : Nat → Nat → Nat) (fr to : Nat) : Nat → Bool := fun d => mt_dec (mt_kn g fr d ∧ ¬ mt_kn g to d)
def mt_xsy (g : Nat → Nat → Nat) (f : Nat → Nat → Int32) (x1 x2 v : Int32) (u : zU) : Prop := (∃ fr to : Nat, fr < 3 ∧ to < 3 ∧ x1 = nI fr ∧ x2 = nI to ∧ mt_SY g f fr to (g 0 0) u.1 u.2 ∧ v = nI (mt_cnt (mt_sb g fr to) (g 0 0))) ∨ (¬ (mt_rep x1 ∧ mt_rep x2) ∧ v = -1 ∧ mt_same g f u)
theorem mt_nI1 (x : Int32) (h : 1 ≤ x ∧ x ≤ 9) : ∃ j : Nat, 1 ≤ j ∧ j < 10 ∧ x = nI j := by
  have h0 : mt_nod x := ⟨Int32.le_trans (by decide) h.1, h.2⟩
  obtain ⟨j, h1, h2⟩ := mt_nod_of h0
  refine ⟨j, ?_, h1, h2⟩
  rw [h2] at h
  exact (nI_leI (a := 1) (b := j) (by omega) (by omega)).mp h.1
theorem mt_cnt_s {b : Nat → Bool} {i : Nat} (h : b i = true) : mt_cnt b (i + 1) = mt_cnt b i + 1 := by
  show mt_cnt b i + (if b i = true then 1 else 0) = _
  rw [if_pos h]
theorem mt_cnt_n {b : Nat → Bool} {i : Nat} (h : ¬ b i = true) : mt_cnt b (i + 1) = mt_cnt b i := by
  show mt_cnt b i + (if b i = true then 1 else 0) = _
  rw [if_neg h]; rfl
theorem mt_XI_okp {g : Nat → Nat → Nat} {f : Nat → Nat → Int32} (hX : mt_XI g f) {r : Nat} (hr : r < 3) : ∀ j, j < 10 → mt_okp (f 16 (10 * r + j)) := by
  intro j hj
  have hR := (hX.2 r hr).1
  rw [(hR.2.2.2.2.2.2.2.1.2 j hj).1]
  exact mt_run_okp (fun k hk => (hX.1.2.1 _ (hR.2.2.2.2.1 k hk).1).1) j
def mt_xpa (f : Nat → Nat → Int32) (x1 x2 v : Int32) : Prop := (∃ r n : Nat, r < 3 ∧ n < 10 ∧ x1 = nI r ∧ x2 = nI n ∧ v = f 16 (10 * r + n)) ∨ (¬ (mt_rep x1 ∧ mt_nod x2) ∧ v = -1)
def mt_xla (f : Nat → Nat → Int32) (x1 x2 v : Int32) : Prop := (∃ r n : Nat, r < 3 ∧ n < 10 ∧ x1 = nI r ∧ x2 = nI n ∧ v = f 17 (10 * r + n)) ∨ (¬ (mt_rep x1 ∧ mt_nod x2) ∧ v = 0)
noncomputable def mt_cb (pa : Nat → Int32) (n : Nat) : Nat → Bool := fun j => mt_dec (pa j = nI n)
def mt_xch (f : Nat → Nat → Int32) (x1 x2 v : Int32) : Prop := (∃ r n : Nat, r < 3 ∧ n < 10 ∧ x1 = nI r ∧ x2 = nI n ∧ v = nI (mt_cnt (mt_cb (fun j => f 16 (10 * r + j)) n) 10)) ∨ (¬ (mt_rep x1 ∧ mt_nod x2) ∧ v = -1)
def mt_xdp (f : Nat → Nat → Int32) (x1 x2 v : Int32) : Prop := (∃ r n : Nat, r < 3 ∧ n < 10 ∧ x1 = nI r ∧ x2 = nI n ∧ v = nI (mt_dp (fun j => f 16 (10 * r + j)) 10 n)) ∨ (¬ (mt_rep x1 ∧ mt_nod x2) ∧ v = -1)
def mt_xsk (g : Nat → Nat → Nat) (x1 v : Int32) : Prop := (∃ r : Nat, r < 3 ∧ x1 = nI r ∧ v = nI (g 15 r)) ∨ (¬ mt_rep x1 ∧ v = -1)
def mt_xal (f : Nat → Nat → Int32) (x1 x2 v : Int32) : Prop := (∃ a b : Nat, a < 3 ∧ b < 3 ∧ x1 = nI a ∧ x2 = nI b ∧ v = bI (∀ j, j < 10 → f 16 (10 * a + j) = f 16 (10 * b + j) ∧ f 17 (10 * a + j) = f 17 (10 * b + j))) ∨ (¬ (mt_rep x1 ∧ mt_rep x2) ∧ v = -1)
end
section
set_option maxRecDepth 100000
theorem dX0_make_0 : decode cX0_make 0 = .ok (.aload_n 0, 1) := by decide +kernel
theorem dX0_make_1 : decode cX0_make 1 = .ok (.getfield 66, 3) := by decide +kernel
theorem dX0_make_4 : decode cX0_make 4 = .ok (.istore 5, 2) := by decide +kernel
theorem dX0_make_6 : decode cX0_make 6 = .ok (.aload_n 0, 1) := by decide +kernel
theorem dX0_make_7 : decode cX0_make 7 = .ok (.dup, 1) := by decide +kernel
theorem dX0_make_8 : decode cX0_make 8 = .ok (.getfield 66, 3) := by decide +kernel
theorem dX0_make_11 : decode cX0_make 11 = .ok (.iconst 1, 1) := by decide +kernel
theorem dX0_make_12 : decode cX0_make 12 = .ok (.iadd, 1) := by decide +kernel
theorem dX0_make_13 : decode cX0_make 13 = .ok (.putfield 66, 3) := by decide +kernel
theorem dX0_make_16 : decode cX0_make 16 = .ok (.aload_n 0, 1) := by decide +kernel
theorem dX0_make_17 : decode cX0_make 17 = .ok (.getfield 7, 3) := by decide +kernel
theorem dX0_make_20 : decode cX0_make 20 = .ok (.iload 5, 2) := by decide +kernel
theorem dX0_make_22 : decode cX0_make 22 = .ok (.iload_n 2, 1) := by decide +kernel
theorem dX0_make_23 : decode cX0_make 23 = .ok (.bastore, 1) := by decide +kernel
theorem dX0_make_24 : decode cX0_make 24 = .ok (.aload_n 0, 1) := by decide +kernel
theorem dX0_make_25 : decode cX0_make 25 = .ok (.getfield 13, 3) := by decide +kernel
theorem dX0_make_28 : decode cX0_make 28 = .ok (.iload 5, 2) := by decide +kernel
theorem dX0_make_30 : decode cX0_make 30 = .ok (.iload_n 3, 1) := by decide +kernel
theorem dX0_make_31 : decode cX0_make 31 = .ok (.iastore, 1) := by decide +kernel
theorem dX0_make_32 : decode cX0_make 32 = .ok (.aload_n 0, 1) := by decide +kernel
theorem dX0_make_33 : decode cX0_make 33 = .ok (.getfield 17, 3) := by decide +kernel
theorem dX0_make_36 : decode cX0_make 36 = .ok (.iload 5, 2) := by decide +kernel
theorem dX0_make_38 : decode cX0_make 38 = .ok (.iload 4, 2) := by decide +kernel
theorem dX0_make_40 : decode cX0_make 40 = .ok (.iastore, 1) := by decide +kernel
theorem dX0_make_41 : decode cX0_make 41 = .ok (.aload_n 0, 1) := by decide +kernel
theorem dX0_make_42 : decode cX0_make 42 = .ok (.getfield 20, 3) := by decide +kernel
theorem dX0_make_45 : decode cX0_make 45 = .ok (.iload 5, 2) := by decide +kernel
theorem dX0_make_47 : decode cX0_make 47 = .ok (.aload_n 0, 1) := by decide +kernel
theorem dX0_make_48 : decode cX0_make 48 = .ok (.getfield 38, 3) := by decide +kernel
theorem dX0_make_51 : decode cX0_make 51 = .ok (.iload_n 1, 1) := by decide +kernel
theorem dX0_make_52 : decode cX0_make 52 = .ok (.iaload, 1) := by decide +kernel
theorem dX0_make_53 : decode cX0_make 53 = .ok (.iconst 1, 1) := by decide +kernel
theorem dX0_make_54 : decode cX0_make 54 = .ok (.iadd, 1) := by decide +kernel
theorem dX0_make_55 : decode cX0_make 55 = .ok (.iastore, 1) := by decide +kernel
theorem dX0_make_56 : decode cX0_make 56 = .ok (.aload_n 0, 1) := by decide +kernel
theorem dX0_make_57 : decode cX0_make 57 = .ok (.getfield 23, 3) := by decide +kernel
theorem dX0_make_60 : decode cX0_make 60 = .ok (.iload 5, 2) := by decide +kernel
theorem dX0_make_62 : decode cX0_make 62 = .ok (.iload_n 1, 1) := by decide +kernel
theorem dX0_make_63 : decode cX0_make 63 = .ok (.iastore, 1) := by decide +kernel
theorem dX0_make_64 : decode cX0_make 64 = .ok (.aload_n 0, 1) := by decide +kernel
theorem dX0_make_65 : decode cX0_make 65 = .ok (.getfield 29, 3) := by decide +kernel
theorem dX0_make_68 : decode cX0_make 68 = .ok (.iload_n 1, 1) := by decide +kernel
theorem dX0_make_69 : decode cX0_make 69 = .ok (.dup2, 1) := by decide +kernel
theorem dX0_make_70 : decode cX0_make 70 = .ok (.iaload, 1) := by decide +kernel
theorem dX0_make_71 : decode cX0_make 71 = .ok (.iconst 1, 1) := by decide +kernel
theorem dX0_make_72 : decode cX0_make 72 = .ok (.iadd, 1) := by decide +kernel
theorem dX0_make_73 : decode cX0_make 73 = .ok (.iastore, 1) := by decide +kernel
theorem dX0_make_74 : decode cX0_make 74 = .ok (.aload_n 0, 1) := by decide +kernel
theorem dX0_make_75 : decode cX0_make 75 = .ok (.getfield 26, 3) := by decide +kernel
theorem dX0_make_78 : decode cX0_make 78 = .ok (.iload 5, 2) := by decide +kernel
theorem dX0_make_80 : decode cX0_make 80 = .ok (.aload_n 0, 1) := by decide +kernel
theorem dX0_make_81 : decode cX0_make 81 = .ok (.getfield 29, 3) := by decide +kernel
theorem dX0_make_84 : decode cX0_make 84 = .ok (.iload_n 1, 1) := by decide +kernel
theorem dX0_make_85 : decode cX0_make 85 = .ok (.iaload, 1) := by decide +kernel
theorem dX0_make_86 : decode cX0_make 86 = .ok (.iastore, 1) := by decide +kernel
theorem dX0_make_87 : decode cX0_make 87 = .ok (.aload_n 0, 1) := by decide +kernel
theorem dX0_make_88 : decode cX0_make 88 = .ok (.getfield 32, 3) := by decide +kernel
theorem dX0_make_91 : decode cX0_make 91 = .ok (.bipush 61, 2) := by decide +kernel
theorem dX0_make_93 : decode cX0_make 93 = .ok (.iload_n 1, 1) := by decide +kernel
theorem dX0_make_94 : decode cX0_make 94 = .ok (.imul, 1) := by decide +kernel
theorem dX0_make_95 : decode cX0_make 95 = .ok (.aload_n 0, 1) := by decide +kernel
theorem dX0_make_96 : decode cX0_make 96 = .ok (.getfield 29, 3) := by decide +kernel
theorem dX0_make_99 : decode cX0_make 99 = .ok (.iload_n 1, 1) := by decide +kernel
theorem dX0_make_100 : decode cX0_make 100 = .ok (.iaload, 1) := by decide +kernel
theorem dX0_make_101 : decode cX0_make 101 = .ok (.iadd, 1) := by decide +kernel
theorem dX0_make_102 : decode cX0_make 102 = .ok (.iload 5, 2) := by decide +kernel
theorem dX0_make_104 : decode cX0_make 104 = .ok (.iastore, 1) := by decide +kernel
theorem dX0_make_105 : decode cX0_make 105 = .ok (.aload_n 0, 1) := by decide +kernel
theorem dX0_make_106 : decode cX0_make 106 = .ok (.iload_n 1, 1) := by decide +kernel
theorem dX0_make_107 : decode cX0_make 107 = .ok (.iload 5, 2) := by decide +kernel
theorem dX0_make_109 : decode cX0_make 109 = .ok (.invokevirtual 74, 3) := by decide +kernel
theorem dX0_make_112 : decode cX0_make 112 = .ok (.return_, 1) := by decide +kernel

theorem dX0_move_0 : decode cX0_move 0 = .ok (.iload_n 1, 1) := by decide +kernel
theorem dX0_move_1 : decode cX0_move 1 = .ok (.invokestatic 62, 3) := by decide +kernel
theorem dX0_move_4 : decode cX0_move 4 = .ok (.ifCond .eq 33, 3) := by decide +kernel
theorem dX0_move_7 : decode cX0_move 7 = .ok (.iload_n 2, 1) := by decide +kernel
theorem dX0_move_8 : decode cX0_move 8 = .ok (.iconst 1, 1) := by decide +kernel
theorem dX0_move_9 : decode cX0_move 9 = .ok (.if_icmp .lt 28, 3) := by decide +kernel
theorem dX0_move_12 : decode cX0_move 12 = .ok (.iload_n 2, 1) := by decide +kernel
theorem dX0_move_13 : decode cX0_move 13 = .ok (.bipush 9, 2) := by decide +kernel
theorem dX0_move_15 : decode cX0_move 15 = .ok (.if_icmp .gt 22, 3) := by decide +kernel
theorem dX0_move_18 : decode cX0_move 18 = .ok (.iload_n 3, 1) := by decide +kernel
theorem dX0_move_19 : decode cX0_move 19 = .ok (.ifCond .lt 18, 3) := by decide +kernel
theorem dX0_move_22 : decode cX0_move 22 = .ok (.iload_n 3, 1) := by decide +kernel
theorem dX0_move_23 : decode cX0_move 23 = .ok (.bipush 9, 2) := by decide +kernel
theorem dX0_move_25 : decode cX0_move 25 = .ok (.if_icmp .gt 12, 3) := by decide +kernel
theorem dX0_move_28 : decode cX0_move 28 = .ok (.aload_n 0, 1) := by decide +kernel
theorem dX0_move_29 : decode cX0_move 29 = .ok (.getfield 66, 3) := by decide +kernel
theorem dX0_move_32 : decode cX0_move 32 = .ok (.bipush 60, 2) := by decide +kernel
theorem dX0_move_34 : decode cX0_move 34 = .ok (.if_icmp .lt 5, 3) := by decide +kernel
theorem dX0_move_37 : decode cX0_move 37 = .ok (.iconst (-1), 1) := by decide +kernel
theorem dX0_move_38 : decode cX0_move 38 = .ok (.ireturn, 1) := by decide +kernel
theorem dX0_move_39 : decode cX0_move 39 = .ok (.aload_n 0, 1) := by decide +kernel
theorem dX0_move_40 : decode cX0_move 40 = .ok (.iload_n 1, 1) := by decide +kernel
theorem dX0_move_41 : decode cX0_move 41 = .ok (.iconst 1, 1) := by decide +kernel
theorem dX0_move_42 : decode cX0_move 42 = .ok (.iload_n 2, 1) := by decide +kernel
theorem dX0_move_43 : decode cX0_move 43 = .ok (.iload_n 3, 1) := by decide +kernel
theorem dX0_move_44 : decode cX0_move 44 = .ok (.invokevirtual 70, 3) := by decide +kernel
theorem dX0_move_47 : decode cX0_move 47 = .ok (.aload_n 0, 1) := by decide +kernel
theorem dX0_move_48 : decode cX0_move 48 = .ok (.getfield 50, 3) := by decide +kernel
theorem dX0_move_51 : decode cX0_move 51 = .ok (.bipush 60, 2) := by decide +kernel
theorem dX0_move_53 : decode cX0_move 53 = .ok (.iload_n 1, 1) := by decide +kernel
theorem dX0_move_54 : decode cX0_move 54 = .ok (.imul, 1) := by decide +kernel
theorem dX0_move_55 : decode cX0_move 55 = .ok (.aload_n 0, 1) := by decide +kernel
theorem dX0_move_56 : decode cX0_move 56 = .ok (.getfield 41, 3) := by decide +kernel
theorem dX0_move_59 : decode cX0_move 59 = .ok (.iload_n 1, 1) := by decide +kernel
theorem dX0_move_60 : decode cX0_move 60 = .ok (.iaload, 1) := by decide +kernel
theorem dX0_move_61 : decode cX0_move 61 = .ok (.iadd, 1) := by decide +kernel
theorem dX0_move_62 : decode cX0_move 62 = .ok (.iconst 1, 1) := by decide +kernel
theorem dX0_move_63 : decode cX0_move 63 = .ok (.isub, 1) := by decide +kernel
theorem dX0_move_64 : decode cX0_move 64 = .ok (.baload, 1) := by decide +kernel
theorem dX0_move_65 : decode cX0_move 65 = .ok (.ifCond .eq 7, 3) := by decide +kernel
theorem dX0_move_68 : decode cX0_move 68 = .ok (.iconst 1, 1) := by decide +kernel
theorem dX0_move_69 : decode cX0_move 69 = .ok (.goto 4, 3) := by decide +kernel
theorem dX0_move_72 : decode cX0_move 72 = .ok (.iconst 0, 1) := by decide +kernel
theorem dX0_move_73 : decode cX0_move 73 = .ok (.ireturn, 1) := by decide +kernel

theorem dX0_name_0 : decode cX0_name 0 = .ok (.iload_n 1, 1) := by decide +kernel
theorem dX0_name_1 : decode cX0_name 1 = .ok (.invokestatic 62, 3) := by decide +kernel
theorem dX0_name_4 : decode cX0_name 4 = .ok (.ifCond .eq 22, 3) := by decide +kernel
theorem dX0_name_7 : decode cX0_name 7 = .ok (.iload_n 2, 1) := by decide +kernel
theorem dX0_name_8 : decode cX0_name 8 = .ok (.ifCond .lt 18, 3) := by decide +kernel
theorem dX0_name_11 : decode cX0_name 11 = .ok (.iload_n 2, 1) := by decide +kernel
theorem dX0_name_12 : decode cX0_name 12 = .ok (.bipush 9, 2) := by decide +kernel
theorem dX0_name_14 : decode cX0_name 14 = .ok (.if_icmp .gt 12, 3) := by decide +kernel
theorem dX0_name_17 : decode cX0_name 17 = .ok (.aload_n 0, 1) := by decide +kernel
theorem dX0_name_18 : decode cX0_name 18 = .ok (.getfield 66, 3) := by decide +kernel
theorem dX0_name_21 : decode cX0_name 21 = .ok (.bipush 60, 2) := by decide +kernel
theorem dX0_name_23 : decode cX0_name 23 = .ok (.if_icmp .lt 5, 3) := by decide +kernel
theorem dX0_name_26 : decode cX0_name 26 = .ok (.iconst (-1), 1) := by decide +kernel
theorem dX0_name_27 : decode cX0_name 27 = .ok (.ireturn, 1) := by decide +kernel
theorem dX0_name_28 : decode cX0_name 28 = .ok (.aload_n 0, 1) := by decide +kernel
theorem dX0_name_29 : decode cX0_name 29 = .ok (.iload_n 1, 1) := by decide +kernel
theorem dX0_name_30 : decode cX0_name 30 = .ok (.iconst 0, 1) := by decide +kernel
theorem dX0_name_31 : decode cX0_name 31 = .ok (.iload_n 2, 1) := by decide +kernel
theorem dX0_name_32 : decode cX0_name 32 = .ok (.iload_n 3, 1) := by decide +kernel
theorem dX0_name_33 : decode cX0_name 33 = .ok (.invokevirtual 70, 3) := by decide +kernel
theorem dX0_name_36 : decode cX0_name 36 = .ok (.iconst 0, 1) := by decide +kernel
theorem dX0_name_37 : decode cX0_name 37 = .ok (.ireturn, 1) := by decide +kernel

theorem dX0_deliver_0 : decode cX0_deliver 0 = .ok (.iload_n 1, 1) := by decide +kernel
theorem dX0_deliver_1 : decode cX0_deliver 1 = .ok (.invokestatic 62, 3) := by decide +kernel
theorem dX0_deliver_4 : decode cX0_deliver 4 = .ok (.ifCond .eq 29, 3) := by decide +kernel
theorem dX0_deliver_7 : decode cX0_deliver 7 = .ok (.iload_n 2, 1) := by decide +kernel
theorem dX0_deliver_8 : decode cX0_deliver 8 = .ok (.invokestatic 62, 3) := by decide +kernel
theorem dX0_deliver_11 : decode cX0_deliver 11 = .ok (.ifCond .eq 22, 3) := by decide +kernel
theorem dX0_deliver_14 : decode cX0_deliver 14 = .ok (.aload_n 0, 1) := by decide +kernel
theorem dX0_deliver_15 : decode cX0_deliver 15 = .ok (.getfield 35, 3) := by decide +kernel
theorem dX0_deliver_18 : decode cX0_deliver 18 = .ok (.iconst 3, 1) := by decide +kernel
theorem dX0_deliver_19 : decode cX0_deliver 19 = .ok (.iload_n 2, 1) := by decide +kernel
theorem dX0_deliver_20 : decode cX0_deliver 20 = .ok (.imul, 1) := by decide +kernel
theorem dX0_deliver_21 : decode cX0_deliver 21 = .ok (.iload_n 1, 1) := by decide +kernel
theorem dX0_deliver_22 : decode cX0_deliver 22 = .ok (.iadd, 1) := by decide +kernel
theorem dX0_deliver_23 : decode cX0_deliver 23 = .ok (.iaload, 1) := by decide +kernel
theorem dX0_deliver_24 : decode cX0_deliver 24 = .ok (.aload_n 0, 1) := by decide +kernel
theorem dX0_deliver_25 : decode cX0_deliver 25 = .ok (.getfield 29, 3) := by decide +kernel
theorem dX0_deliver_28 : decode cX0_deliver 28 = .ok (.iload_n 1, 1) := by decide +kernel
theorem dX0_deliver_29 : decode cX0_deliver 29 = .ok (.iaload, 1) := by decide +kernel
theorem dX0_deliver_30 : decode cX0_deliver 30 = .ok (.if_icmp .lt 5, 3) := by decide +kernel
theorem dX0_deliver_33 : decode cX0_deliver 33 = .ok (.iconst (-1), 1) := by decide +kernel
theorem dX0_deliver_34 : decode cX0_deliver 34 = .ok (.ireturn, 1) := by decide +kernel
theorem dX0_deliver_35 : decode cX0_deliver 35 = .ok (.aload_n 0, 1) := by decide +kernel
theorem dX0_deliver_36 : decode cX0_deliver 36 = .ok (.getfield 32, 3) := by decide +kernel
theorem dX0_deliver_39 : decode cX0_deliver 39 = .ok (.bipush 61, 2) := by decide +kernel
theorem dX0_deliver_41 : decode cX0_deliver 41 = .ok (.iload_n 1, 1) := by decide +kernel
theorem dX0_deliver_42 : decode cX0_deliver 42 = .ok (.imul, 1) := by decide +kernel
theorem dX0_deliver_43 : decode cX0_deliver 43 = .ok (.aload_n 0, 1) := by decide +kernel
theorem dX0_deliver_44 : decode cX0_deliver 44 = .ok (.getfield 35, 3) := by decide +kernel
theorem dX0_deliver_47 : decode cX0_deliver 47 = .ok (.iconst 3, 1) := by decide +kernel
theorem dX0_deliver_48 : decode cX0_deliver 48 = .ok (.iload_n 2, 1) := by decide +kernel
theorem dX0_deliver_49 : decode cX0_deliver 49 = .ok (.imul, 1) := by decide +kernel
theorem dX0_deliver_50 : decode cX0_deliver 50 = .ok (.iload_n 1, 1) := by decide +kernel
theorem dX0_deliver_51 : decode cX0_deliver 51 = .ok (.iadd, 1) := by decide +kernel
theorem dX0_deliver_52 : decode cX0_deliver 52 = .ok (.iaload, 1) := by decide +kernel
theorem dX0_deliver_53 : decode cX0_deliver 53 = .ok (.iadd, 1) := by decide +kernel
theorem dX0_deliver_54 : decode cX0_deliver 54 = .ok (.iconst 1, 1) := by decide +kernel
theorem dX0_deliver_55 : decode cX0_deliver 55 = .ok (.iadd, 1) := by decide +kernel
theorem dX0_deliver_56 : decode cX0_deliver 56 = .ok (.iaload, 1) := by decide +kernel
theorem dX0_deliver_57 : decode cX0_deliver 57 = .ok (.istore_n 3, 1) := by decide +kernel
theorem dX0_deliver_58 : decode cX0_deliver 58 = .ok (.aload_n 0, 1) := by decide +kernel
theorem dX0_deliver_59 : decode cX0_deliver 59 = .ok (.iload_n 2, 1) := by decide +kernel
theorem dX0_deliver_60 : decode cX0_deliver 60 = .ok (.iload_n 3, 1) := by decide +kernel
theorem dX0_deliver_61 : decode cX0_deliver 61 = .ok (.invokevirtual 74, 3) := by decide +kernel
theorem dX0_deliver_64 : decode cX0_deliver 64 = .ok (.aload_n 0, 1) := by decide +kernel
theorem dX0_deliver_65 : decode cX0_deliver 65 = .ok (.getfield 53, 3) := by decide +kernel
theorem dX0_deliver_68 : decode cX0_deliver 68 = .ok (.iload_n 2, 1) := by decide +kernel
theorem dX0_deliver_69 : decode cX0_deliver 69 = .ok (.iaload, 1) := by decide +kernel
theorem dX0_deliver_70 : decode cX0_deliver 70 = .ok (.ireturn, 1) := by decide +kernel

theorem dX0_sync_0 : decode cX0_sync 0 = .ok (.iload_n 1, 1) := by decide +kernel
theorem dX0_sync_1 : decode cX0_sync 1 = .ok (.invokestatic 62, 3) := by decide +kernel
theorem dX0_sync_4 : decode cX0_sync 4 = .ok (.ifCond .eq 10, 3) := by decide +kernel
theorem dX0_sync_7 : decode cX0_sync 7 = .ok (.iload_n 2, 1) := by decide +kernel
theorem dX0_sync_8 : decode cX0_sync 8 = .ok (.invokestatic 62, 3) := by decide +kernel
theorem dX0_sync_11 : decode cX0_sync 11 = .ok (.ifCond .ne 5, 3) := by decide +kernel
theorem dX0_sync_14 : decode cX0_sync 14 = .ok (.iconst (-1), 1) := by decide +kernel
theorem dX0_sync_15 : decode cX0_sync 15 = .ok (.ireturn, 1) := by decide +kernel
theorem dX0_sync_16 : decode cX0_sync 16 = .ok (.iconst 0, 1) := by decide +kernel
theorem dX0_sync_17 : decode cX0_sync 17 = .ok (.istore_n 3, 1) := by decide +kernel
theorem dX0_sync_18 : decode cX0_sync 18 = .ok (.iconst 0, 1) := by decide +kernel
theorem dX0_sync_19 : decode cX0_sync 19 = .ok (.istore 4, 2) := by decide +kernel
theorem dX0_sync_21 : decode cX0_sync 21 = .ok (.iload 4, 2) := by decide +kernel
theorem dX0_sync_23 : decode cX0_sync 23 = .ok (.aload_n 0, 1) := by decide +kernel
theorem dX0_sync_24 : decode cX0_sync 24 = .ok (.getfield 66, 3) := by decide +kernel
theorem dX0_sync_27 : decode cX0_sync 27 = .ok (.if_icmp .ge 39, 3) := by decide +kernel
theorem dX0_sync_30 : decode cX0_sync 30 = .ok (.aload_n 0, 1) := by decide +kernel
theorem dX0_sync_31 : decode cX0_sync 31 = .ok (.iload_n 1, 1) := by decide +kernel
theorem dX0_sync_32 : decode cX0_sync 32 = .ok (.iload 4, 2) := by decide +kernel
theorem dX0_sync_34 : decode cX0_sync 34 = .ok (.invokevirtual 78, 3) := by decide +kernel
theorem dX0_sync_37 : decode cX0_sync 37 = .ok (.ifCond .eq 23, 3) := by decide +kernel
theorem dX0_sync_40 : decode cX0_sync 40 = .ok (.aload_n 0, 1) := by decide +kernel
theorem dX0_sync_41 : decode cX0_sync 41 = .ok (.iload_n 2, 1) := by decide +kernel
theorem dX0_sync_42 : decode cX0_sync 42 = .ok (.iload 4, 2) := by decide +kernel
theorem dX0_sync_44 : decode cX0_sync 44 = .ok (.invokevirtual 78, 3) := by decide +kernel
theorem dX0_sync_47 : decode cX0_sync 47 = .ok (.ifCond .ne 13, 3) := by decide +kernel
theorem dX0_sync_50 : decode cX0_sync 50 = .ok (.aload_n 0, 1) := by decide +kernel
theorem dX0_sync_51 : decode cX0_sync 51 = .ok (.iload_n 2, 1) := by decide +kernel
theorem dX0_sync_52 : decode cX0_sync 52 = .ok (.iload 4, 2) := by decide +kernel
theorem dX0_sync_54 : decode cX0_sync 54 = .ok (.invokevirtual 74, 3) := by decide +kernel
theorem dX0_sync_57 : decode cX0_sync 57 = .ok (.iinc 3 1, 3) := by decide +kernel
theorem dX0_sync_60 : decode cX0_sync 60 = .ok (.iinc 4 1, 3) := by decide +kernel
theorem dX0_sync_63 : decode cX0_sync 63 = .ok (.goto (-42), 3) := by decide +kernel
theorem dX0_sync_66 : decode cX0_sync 66 = .ok (.iload_n 3, 1) := by decide +kernel
theorem dX0_sync_67 : decode cX0_sync 67 = .ok (.ireturn, 1) := by decide +kernel

set_option maxHeartbeats 4000000 in
/-- make(r, b, nd, x) -/
theorem metX0_make (l : Launch) (D : va_G) (h : Nat → Nat) (cZ cI : ClassId) (g : Nat → Nat → Nat) (f : Nat → Nat → Int32) (r b nd : Nat) (x : Int32) (hX : mt_XI g f) (hr : r < 3) (hM : g 0 0 < 60) (hq : mt_okq (b, nd, x)) : Met l yX0_make wsX0_make rmX0_make (xPc D h cZ cI g f [.int (nI r), .int (nI b), .int (nI nd), .int x]) (va_Qv (fun (u : zU) => mt_MK g f r (b, nd, x) u.1 u.2) (xB D h cZ cI) (xA h)) 0 0 (xA h) := by
  refine x_metV l (by decide) rfl (Nat.le_of_ble_eq_true rfl) ⟨rfl, rfl⟩ (fun p e s m args below meth cd R Q hR S hret ls hl hW => ?_)
  have hl : lv_has ls 6 [(0, .ref (h 0)), (1, .int (nI r)), (2, .int (nI b)), (3, .int (nI nd)), (4, .int x)] := hl
  have hb : b < 2 := hq.1
  have h7 := mt_TI_7 hX.1 hr
  obtain ⟨pl, hp⟩ := mt_mk_LP hX hr hM hq
  refine x_g_0 (pc := 0) S hW (lv_at hl 0 rfl) dX0_make_0 dX0_make_1 ?_
  refine lv_istore (pc := 4) (lv' := [(5, .int (nI (g 0 0))), (0, .ref (h 0)), (1, .int (nI r)), (2, .int (nI b)), (3, .int (nI nd)), (4, .int x)]) S.1 S.2.1 dX0_make_4 hl (by decide) rfl (fun ls hl => ?_)
  refine lv_aload_n (pc := 6) S.1 S.2.1 dX0_make_6 rfl (lv_at hl 1 rfl) ?_
  refine lv_dup (pc := 7) S.1 S.2.1 dX0_make_7 rfl ?_
  refine x_gf_0 (pc := 8) S hW dX0_make_8 ?_
  refine lv_iconst (pc := 11) (v := nI 1) S.1 S.2.1 dX0_make_11 (by decide) ?_
  refine z_iadd (pc := 12) (x := g 0 0) (y := 1) S dX0_make_12 ?_
  refine x_pf_0 (pc := 13) (v := (g 0 0) + 1) S hW dX0_make_13 (fun H locs hW => ?_)
  refine x_g_1 (pc := 16) S hW (lv_at hl 1 rfl) dX0_make_16 dX0_make_17 ?_
  refine lv_iload (pc := 20) S.1 S.2.1 dX0_make_20 (lv_at hl 0 rfl) ?_
  refine lv_iload_n (pc := 22) S.1 S.2.1 dX0_make_22 rfl (lv_at hl 3 rfl) ?_
  refine x_st_1 (pc := 23) (i := g 0 0) (v := b) S hW (by omega) (by omega) dX0_make_23 (fun H locs hW => ?_)
  refine x_g_2 (pc := 24) S hW (lv_at hl 1 rfl) dX0_make_24 dX0_make_25 ?_
  refine lv_iload (pc := 28) S.1 S.2.1 dX0_make_28 (lv_at hl 0 rfl) ?_
  refine lv_iload_n (pc := 30) S.1 S.2.1 dX0_make_30 rfl (lv_at hl 4 rfl) ?_
  refine x_st_2 (pc := 31) (i := g 0 0) (v := nd) S hW (by omega) dX0_make_31 (fun H locs hW => ?_)
  refine x_g_3 (pc := 32) S hW (lv_at hl 1 rfl) dX0_make_32 dX0_make_33 ?_
  refine lv_iload (pc := 36) S.1 S.2.1 dX0_make_36 (lv_at hl 0 rfl) ?_
  refine lv_iload (pc := 38) S.1 S.2.1 dX0_make_38 (lv_at hl 5 rfl) ?_
  refine x_st_3 (pc := 40) (i := g 0 0) (v := x) S hW (by omega) dX0_make_40 (fun H locs hW => ?_)
  refine x_g_4 (pc := 41) S hW (lv_at hl 1 rfl) dX0_make_41 dX0_make_42 ?_
  refine lv_iload (pc := 45) S.1 S.2.1 dX0_make_45 (lv_at hl 0 rfl) ?_
  refine x_g_10 (pc := 47) S hW (lv_at hl 1 rfl) dX0_make_47 dX0_make_48 ?_
  refine lv_iload_n (pc := 51) S.1 S.2.1 dX0_make_51 rfl (lv_at hl 2 rfl) ?_
  refine x_ld_10 (pc := 52) (i := r) (v := g 10 r) S hW (by omega) rfl dX0_make_52 ?_
  refine lv_iconst (pc := 53) (v := nI 1) S.1 S.2.1 dX0_make_53 (by decide) ?_
  refine z_iadd (pc := 54) (x := g 10 r) (y := 1) S dX0_make_54 ?_
  refine x_st_4 (pc := 55) (i := g 0 0) (v := (g 10 r) + 1) S hW (by omega) dX0_make_55 (fun H locs hW => ?_)
  refine x_g_5 (pc := 56) S hW (lv_at hl 1 rfl) dX0_make_56 dX0_make_57 ?_
  refine lv_iload (pc := 60) S.1 S.2.1 dX0_make_60 (lv_at hl 0 rfl) ?_
  refine lv_iload_n (pc := 62) S.1 S.2.1 dX0_make_62 rfl (lv_at hl 2 rfl) ?_
  refine x_st_5 (pc := 63) (i := g 0 0) (v := r) S hW (by omega) dX0_make_63 (fun H locs hW => ?_)
  refine x_g_7 (pc := 64) S hW (lv_at hl 1 rfl) dX0_make_64 dX0_make_65 ?_
  refine lv_iload_n (pc := 68) S.1 S.2.1 dX0_make_68 rfl (lv_at hl 2 rfl) ?_
  refine lv_dup2_11 (pc := 69) S.1 S.2.1 dX0_make_69 rfl rfl ?_
  refine x_ld_7 (pc := 70) (i := r) (v := g 7 r) S hW (by omega) rfl dX0_make_70 ?_
  refine lv_iconst (pc := 71) (v := nI 1) S.1 S.2.1 dX0_make_71 (by decide) ?_
  refine z_iadd (pc := 72) (x := g 7 r) (y := 1) S dX0_make_72 ?_
  refine x_st_7 (pc := 73) (i := r) (v := (g 7 r) + 1) S hW (by omega) dX0_make_73 (fun H locs hW => ?_)
  refine x_g_6 (pc := 74) S hW (lv_at hl 1 rfl) dX0_make_74 dX0_make_75 ?_
  refine lv_iload (pc := 78) S.1 S.2.1 dX0_make_78 (lv_at hl 0 rfl) ?_
  refine x_g_7 (pc := 80) S hW (lv_at hl 1 rfl) dX0_make_80 dX0_make_81 ?_
  refine lv_iload_n (pc := 84) S.1 S.2.1 dX0_make_84 rfl (lv_at hl 2 rfl) ?_
  refine x_ld_7 (pc := 85) (i := r) (v := ((g 7 r) + 1)) S hW (by omega) (st2_eq _ _ _ _) dX0_make_85 ?_
  refine x_st_6 (pc := 86) (i := g 0 0) (v := ((g 7 r) + 1)) S hW (by omega) dX0_make_86 (fun H locs hW => ?_)
  refine x_g_8 (pc := 87) S hW (lv_at hl 1 rfl) dX0_make_87 dX0_make_88 ?_
  refine lv_bipush (pc := 91) (v := nI 61) S.1 S.2.1 dX0_make_91 (by decide) ?_
  refine lv_iload_n (pc := 93) S.1 S.2.1 dX0_make_93 rfl (lv_at hl 2 rfl) ?_
  refine z_imul (pc := 94) (x := 61) (y := r) S dX0_make_94 ?_
  refine x_g_7 (pc := 95) S hW (lv_at hl 1 rfl) dX0_make_95 dX0_make_96 ?_
  refine lv_iload_n (pc := 99) S.1 S.2.1 dX0_make_99 rfl (lv_at hl 2 rfl) ?_
  refine x_ld_7 (pc := 100) (i := r) (v := ((g 7 r) + 1)) S hW (by omega) (by simp [st2]) dX0_make_100 ?_
  refine z_iadd (pc := 101) (x := 61 * r) (y := ((g 7 r) + 1)) S dX0_make_101 ?_
  refine lv_iload (pc := 102) S.1 S.2.1 dX0_make_102 (lv_at hl 0 rfl) ?_
  refine x_st_8 (pc := 104) (i := (61 * r) + ((g 7 r) + 1)) (v := g 0 0) S hW (by omega) dX0_make_104 (fun H locs hW => ?_)
  have hW : XS D h cZ cI s (xA h) H locs (mt_mg g r b nd) (mt_mf g f x) := hW
  refine lv_aload_n (pc := 105) S.1 S.2.1 dX0_make_105 rfl (lv_at hl 1 rfl) ?_
  refine lv_iload_n (pc := 106) S.1 S.2.1 dX0_make_106 rfl (lv_at hl 2 rfl) ?_
  refine lv_iload (pc := 107) S.1 S.2.1 dX0_make_107 (lv_at hl 0 rfl) ?_
  refine x_callv (pc := 109) (As := [.int (nI r), .int (nI (g 0 0))]) (rest := []) S hW (metX0_learn l D h cZ cI (mt_mg g r b nd) (mt_mf g f x) r (g 0 0) pl (g 11 r) hp) (cwX0_learn S.2.2.2.2 (by rw [hR]; decide)) rfl hl.1 rfl (Nat.le_of_ble_eq_true rfl) ⟨Nat.zero_le _, Nat.zero_le _⟩ dX0_make_109 (fun g_109 f_109 H locs hp_109 hW _ _ => ?_)
  exact hret _ _ _ _ _ _ hW (mt_mk_MK hX hr hM hq hp hp_109) dX0_make_112
set_option maxHeartbeats 4000000 in
/-- move(x1, x2, x3) -/
theorem metX0_move (l : Launch) (D : va_G) (h : Nat → Nat) (cZ cI : ClassId) (g : Nat → Nat → Nat) (f : Nat → Nat → Int32) (x1 x2 x3 : Int32) (hX : mt_XI g f) : Met l yX0_move wsX0_move rmX0_move (xPc D h cZ cI g f [.int x1, .int x2, .int x3]) (va_Qi (fun v (u : zU) => mt_xmv g f x1 x2 x3 v u) (xB D h cZ cI) (xA h)) 0 0 (xA h) := by
  refine x_metI l (by decide) rfl (Nat.le_of_ble_eq_true rfl) ⟨rfl, rfl⟩ (fun p e s m args below meth cd R Q hR S hret ls hl hW => ?_)
  have hl : lv_has ls 4 [(0, .ref (h 0)), (1, .int x1), (2, .int x2), (3, .int x3)] := hl
  have hM60 : g 0 0 ≤ 60 := hX.1.1
  refine lv_iload_n (pc := 0) S.1 S.2.1 dX0_move_0 rfl (lv_at hl 1 rfl) ?_
  refine x_calls (pc := 1) (As := [.int x1]) (rest := []) S hW (metX0_isReplica l x1) (cwX0_isReplica S.2.2.2.2 (by rw [hR]; decide)) rfl hl.1 rfl (Nat.le_of_ble_eq_true rfl) ⟨Nat.zero_le _, Nat.zero_le _⟩ dX0_move_1 (fun r_1 H locs hp_1 hW => ?_)
  subst hp_1
  refine z_ifb_eq (pc := 4) (tgt := 37) S dX0_move_4 (by decide) (fun c_4 => ?_) (fun c_4 => ?_)
  · refine lv_iconst (pc := 37) (v := -1) S.1 S.2.1 dX0_move_37 (by decide) ?_
    exact hret _ _ _ _ _ _ _ hW (Or.inr ⟨fun z => c_4 z.1, rfl, rfl, rfl⟩) dX0_move_38
  · refine lv_iload_n (pc := 7) S.1 S.2.1 dX0_move_7 rfl (lv_at hl 2 rfl) ?_
    refine lv_iconst (pc := 8) (v := nI 1) S.1 S.2.1 dX0_move_8 (by decide) ?_
    refine lv_icmp_lt (pc := 9) (tgt := 37) S.1 S.2.1 dX0_move_9 (by decide) (fun c_9 => ?_) (fun c_9 => ?_)
    · refine lv_iconst (pc := 37) (v := -1) S.1 S.2.1 dX0_move_37 (by decide) ?_
      exact hret _ _ _ _ _ _ _ hW (Or.inr ⟨fun z => Int32.not_le.mpr c_9 z.2.1.1, rfl, rfl, rfl⟩) dX0_move_38
    · refine lv_iload_n (pc := 12) S.1 S.2.1 dX0_move_12 rfl (lv_at hl 2 rfl) ?_
      refine lv_bipush (pc := 13) (v := nI 9) S.1 S.2.1 dX0_move_13 (by decide) ?_
      refine lv_icmp_gt (pc := 15) (tgt := 37) S.1 S.2.1 dX0_move_15 (by decide) (fun c_15 => ?_) (fun c_15 => ?_)
      · refine lv_iconst (pc := 37) (v := -1) S.1 S.2.1 dX0_move_37 (by decide) ?_
        exact hret _ _ _ _ _ _ _ hW (Or.inr ⟨fun z => Int32.not_le.mpr c_15 z.2.1.2, rfl, rfl, rfl⟩) dX0_move_38
      · refine lv_iload_n (pc := 18) S.1 S.2.1 dX0_move_18 rfl (lv_at hl 3 rfl) ?_
        refine lv_if_lt (pc := 19) (tgt := 37) S.1 S.2.1 dX0_move_19 (by decide) (fun c_19 => ?_) (fun c_19 => ?_)
        · refine lv_iconst (pc := 37) (v := -1) S.1 S.2.1 dX0_move_37 (by decide) ?_
          exact hret _ _ _ _ _ _ _ hW (Or.inr ⟨fun z => Int32.not_le.mpr c_19 z.2.2.1.1, rfl, rfl, rfl⟩) dX0_move_38
        · refine lv_iload_n (pc := 22) S.1 S.2.1 dX0_move_22 rfl (lv_at hl 3 rfl) ?_
          refine lv_bipush (pc := 23) (v := nI 9) S.1 S.2.1 dX0_move_23 (by decide) ?_
          refine lv_icmp_gt (pc := 25) (tgt := 37) S.1 S.2.1 dX0_move_25 (by decide) (fun c_25 => ?_) (fun c_25 => ?_)
          · refine lv_iconst (pc := 37) (v := -1) S.1 S.2.1 dX0_move_37 (by decide) ?_
            exact hret _ _ _ _ _ _ _ hW (Or.inr ⟨fun z => Int32.not_le.mpr c_25 z.2.2.1.2, rfl, rfl, rfl⟩) dX0_move_38
          · refine x_g_0 (pc := 28) S hW (lv_at hl 0 rfl) dX0_move_28 dX0_move_29 ?_
            refine lv_bipush (pc := 32) (v := nI 60) S.1 S.2.1 dX0_move_32 (by decide) ?_
            refine z_icmp_lt (pc := 34) (tgt := 39) (x := g 0 0) (y := 60) S (by omega) (by omega) dX0_move_34 (by decide) (fun c_34 => ?_) (fun c_34 => ?_)
            · have hok : mt_okm g x1 x2 x3 := ⟨c_4, ⟨Int32.not_lt.mp c_9, Int32.not_lt.mp c_15⟩, ⟨Int32.not_lt.mp c_19, Int32.not_lt.mp c_25⟩, c_34⟩
              obtain ⟨r, hr, rfl⟩ := mt_rep_of hok.1
              obtain ⟨nd, hn1, hn2, rfl⟩ := mt_nI1 x2 hok.2.1
              obtain ⟨pp, hp1, rfl⟩ := mt_nod_of hok.2.2.1
              refine lv_aload_n (pc := 39) S.1 S.2.1 dX0_move_39 rfl (lv_at hl 0 rfl) ?_
              refine lv_iload_n (pc := 40) S.1 S.2.1 dX0_move_40 rfl (lv_at hl 1 rfl) ?_
              refine lv_iconst (pc := 41) (v := nI 1) S.1 S.2.1 dX0_move_41 (by decide) ?_
              refine lv_iload_n (pc := 42) S.1 S.2.1 dX0_move_42 rfl (lv_at hl 2 rfl) ?_
              refine lv_iload_n (pc := 43) S.1 S.2.1 dX0_move_43 rfl (lv_at hl 3 rfl) ?_
              refine x_callv (pc := 44) (As := [.int (nI r), .int (nI 1), .int (nI nd), .int (nI pp)]) (rest := []) S hW (metX0_make l D h cZ cI g f r 1 nd (nI pp) hX hr c_34 ⟨(by show (1 : Nat) < 2; decide), hn2, fun _ => ⟨pp, hp1, rfl⟩⟩) (cwX0_make S.2.2.2.2 (by rw [hR]; decide)) rfl hl.1 rfl (Nat.le_of_ble_eq_true rfl) ⟨Nat.zero_le _, Nat.zero_le _⟩ dX0_move_44 (fun g_44 f_44 H locs hp_44 hW _ _ => ?_)
              have hK : mt_MK g f r (1, nd, nI pp) g_44 f_44 := hp_44
              obtain ⟨k1, k2, k3, k4, k5, k6, k7, k8, k9⟩ := id hK
              have hln := mt_RV_ln k1.1 (k1.2 r hr).1
              have hM2 := k1.1.1
              rw [k8] at hln
              have hqn : mt_q g_44 f_44 r (g 11 r) = (1, nd, nI pp) := by unfold mt_q; rw [k9, k4]
              have hbit := (k1.2 r hr).1.2.2.2.2.2.2.2.2 (g 11 r) (by rw [k8]; omega)
              rw [hqn] at hbit
              obtain ⟨b1, b2, b3⟩ := mt_bit (hbit.1 (by show ¬ (1 : Nat) = 0; decide))
              refine x_g_14 (pc := 47) S hW (lv_at hl 0 rfl) dX0_move_47 dX0_move_48 ?_
              refine lv_bipush (pc := 51) (v := nI 60) S.1 S.2.1 dX0_move_51 (by decide) ?_
              refine lv_iload_n (pc := 53) S.1 S.2.1 dX0_move_53 rfl (lv_at hl 1 rfl) ?_
              refine z_imul (pc := 54) (x := 60) (y := r) S dX0_move_54 ?_
              refine x_g_11 (pc := 55) S hW (lv_at hl 0 rfl) dX0_move_55 dX0_move_56 ?_
              refine lv_iload_n (pc := 59) S.1 S.2.1 dX0_move_59 rfl (lv_at hl 1 rfl) ?_
              refine x_ld_11 (pc := 60) (i := r) (v := g 11 r + 1) S hW (by omega) k8 dX0_move_60 ?_
              refine z_iadd (pc := 61) (x := 60 * r) (y := g 11 r + 1) S dX0_move_61 ?_
              refine lv_iconst (pc := 62) (v := nI 1) S.1 S.2.1 dX0_move_62 (by decide) ?_
              refine z_isub (pc := 63) (x := (60 * r) + (g 11 r + 1)) (y := 1) S (by omega) dX0_move_63 ?_
              refine W.eq (g2 := F0 m 64 ls [.int (nI (60 * r + g 11 r)), .ref (h 14)]) (by rw [show 60 * r + (g 11 r + 1) - 1 = 60 * r + g 11 r by omega]) ?_
              refine x_ld_14 (pc := 64) (i := 60 * r + g 11 r) (v := g_44 14 (60 * r + g 11 r)) S hW (by omega) rfl dX0_move_64 ?_
              refine z_if_eq (pc := 65) (tgt := 72) (x := g_44 14 (60 * r + g 11 r)) S (by omega) dX0_move_65 (by decide) (fun c_65 => ?_) (fun c_65 => ?_)
              · refine lv_iconst (pc := 72) (v := nI 0) S.1 S.2.1 dX0_move_72 (by decide) ?_
                exact hret _ _ _ _ _ _ _ hW (Or.inl ⟨hok, r, nd, pp, hr, hn1, hn2, hp1, rfl, rfl, rfl, hK, bI0 (b2 c_65)⟩) dX0_move_73
              · refine lv_iconst (pc := 68) (v := nI 1) S.1 S.2.1 dX0_move_68 (by decide) ?_
                refine lv_goto (pc := 69) (tgt := 73) S.1 S.2.1 dX0_move_69 (by decide) ?_
                exact hret _ _ _ _ _ _ _ hW (Or.inl ⟨hok, r, nd, pp, hr, hn1, hn2, hp1, rfl, rfl, rfl, hK, bI1 (b3 c_65)⟩) dX0_move_73
            · refine lv_iconst (pc := 37) (v := -1) S.1 S.2.1 dX0_move_37 (by decide) ?_
              exact hret _ _ _ _ _ _ _ hW (Or.inr ⟨fun z => absurd z.2.2.2 (by omega), rfl, rfl, rfl⟩) dX0_move_38
set_option maxHeartbeats 4000000 in
/-- name(x1, x2, x3) -/
theorem metX0_name (l : Launch) (D : va_G) (h : Nat → Nat) (cZ cI : ClassId) (g : Nat → Nat → Nat) (f : Nat → Nat → Int32) (x1 x2 x3 : Int32) (hX : mt_XI g f) : Met l yX0_name wsX0_name rmX0_name (xPc D h cZ cI g f [.int x1, .int x2, .int x3]) (va_Qi (fun v (u : zU) => mt_xnm g f x1 x2 x3 v u) (xB D h cZ cI) (xA h)) 0 0 (xA h) := by
  refine x_metI l (by decide) rfl (Nat.le_of_ble_eq_true rfl) ⟨rfl, rfl⟩ (fun p e s m args below meth cd R Q hR S hret ls hl hW => ?_)
  have hl : lv_has ls 4 [(0, .ref (h 0)), (1, .int x1), (2, .int x2), (3, .int x3)] := hl
  have hM60 : g 0 0 ≤ 60 := hX.1.1
  refine lv_iload_n (pc := 0) S.1 S.2.1 dX0_name_0 rfl (lv_at hl 1 rfl) ?_
  refine x_calls (pc := 1) (As := [.int x1]) (rest := []) S hW (metX0_isReplica l x1) (cwX0_isReplica S.2.2.2.2 (by rw [hR]; decide)) rfl hl.1 rfl (Nat.le_of_ble_eq_true rfl) ⟨Nat.zero_le _, Nat.zero_le _⟩ dX0_name_1 (fun r_1 H locs hp_1 hW => ?_)
  subst hp_1
  refine z_ifb_eq (pc := 4) (tgt := 26) S dX0_name_4 (by decide) (fun c_4 => ?_) (fun c_4 => ?_)
  · refine lv_iconst (pc := 26) (v := -1) S.1 S.2.1 dX0_name_26 (by decide) ?_
    exact hret _ _ _ _ _ _ _ hW (Or.inr ⟨fun z => c_4 z.1, rfl, rfl, rfl⟩) dX0_name_27
  · refine lv_iload_n (pc := 7) S.1 S.2.1 dX0_name_7 rfl (lv_at hl 2 rfl) ?_
    refine lv_if_lt (pc := 8) (tgt := 26) S.1 S.2.1 dX0_name_8 (by decide) (fun c_8 => ?_) (fun c_8 => ?_)
    · refine lv_iconst (pc := 26) (v := -1) S.1 S.2.1 dX0_name_26 (by decide) ?_
      exact hret _ _ _ _ _ _ _ hW (Or.inr ⟨fun z => Int32.not_le.mpr c_8 z.2.1.1, rfl, rfl, rfl⟩) dX0_name_27
    · refine lv_iload_n (pc := 11) S.1 S.2.1 dX0_name_11 rfl (lv_at hl 2 rfl) ?_
      refine lv_bipush (pc := 12) (v := nI 9) S.1 S.2.1 dX0_name_12 (by decide) ?_
      refine lv_icmp_gt (pc := 14) (tgt := 26) S.1 S.2.1 dX0_name_14 (by decide) (fun c_14 => ?_) (fun c_14 => ?_)
      · refine lv_iconst (pc := 26) (v := -1) S.1 S.2.1 dX0_name_26 (by decide) ?_
        exact hret _ _ _ _ _ _ _ hW (Or.inr ⟨fun z => Int32.not_le.mpr c_14 z.2.1.2, rfl, rfl, rfl⟩) dX0_name_27
      · refine x_g_0 (pc := 17) S hW (lv_at hl 0 rfl) dX0_name_17 dX0_name_18 ?_
        refine lv_bipush (pc := 21) (v := nI 60) S.1 S.2.1 dX0_name_21 (by decide) ?_
        refine z_icmp_lt (pc := 23) (tgt := 28) (x := g 0 0) (y := 60) S (by omega) (by omega) dX0_name_23 (by decide) (fun c_23 => ?_) (fun c_23 => ?_)
        · have hok : mt_okn g x1 x2 := ⟨c_4, ⟨Int32.not_lt.mp c_8, Int32.not_lt.mp c_14⟩, c_23⟩
          obtain ⟨r, hr, rfl⟩ := mt_rep_of hok.1
          obtain ⟨nd, hn2, rfl⟩ := mt_nod_of hok.2.1
          refine lv_aload_n (pc := 28) S.1 S.2.1 dX0_name_28 rfl (lv_at hl 0 rfl) ?_
          refine lv_iload_n (pc := 29) S.1 S.2.1 dX0_name_29 rfl (lv_at hl 1 rfl) ?_
          refine lv_iconst (pc := 30) (v := nI 0) S.1 S.2.1 dX0_name_30 (by decide) ?_
          refine lv_iload_n (pc := 31) S.1 S.2.1 dX0_name_31 rfl (lv_at hl 2 rfl) ?_
          refine lv_iload_n (pc := 32) S.1 S.2.1 dX0_name_32 rfl (lv_at hl 3 rfl) ?_
          refine x_callv (pc := 33) (As := [.int (nI r), .int (nI 0), .int (nI nd), .int x3]) (rest := []) S hW (metX0_make l D h cZ cI g f r 0 nd x3 hX hr c_23 ⟨(by show (0 : Nat) < 2; decide), hn2, fun z => absurd rfl z⟩) (cwX0_make S.2.2.2.2 (by rw [hR]; decide)) rfl hl.1 rfl (Nat.le_of_ble_eq_true rfl) ⟨Nat.zero_le _, Nat.zero_le _⟩ dX0_name_33 (fun g_33 f_33 H locs hp_33 hW _ _ => ?_)
          refine lv_iconst (pc := 36) (v := nI 0) S.1 S.2.1 dX0_name_36 (by decide) ?_
          exact hret _ _ _ _ _ _ _ hW (Or.inl ⟨hok, rfl, r, nd, hr, hn2, rfl, rfl, hp_33⟩) dX0_name_37
        · refine lv_iconst (pc := 26) (v := -1) S.1 S.2.1 dX0_name_26 (by decide) ?_
          exact hret _ _ _ _ _ _ _ hW (Or.inr ⟨fun z => absurd z.2.2 (by omega), rfl, rfl, rfl⟩) dX0_name_27
set_option maxHeartbeats 4000000 in
/-- deliver(x1, x2) -/
theorem metX0_deliver (l : Launch) (D : va_G) (h : Nat → Nat) (cZ cI : ClassId) (g : Nat → Nat → Nat) (f : Nat → Nat → Int32) (x1 x2 : Int32) (hX : mt_XI g f) : Met l yX0_deliver wsX0_deliver rmX0_deliver (xPc D h cZ cI g f [.int x1, .int x2]) (va_Qi (fun v (u : zU) => mt_xdv g f x1 x2 v u) (xB D h cZ cI) (xA h)) 0 0 (xA h) := by
  refine x_metI l (by decide) rfl (Nat.le_of_ble_eq_true rfl) ⟨rfl, rfl⟩ (fun p e s m args below meth cd R Q hR S hret ls hl hW => ?_)
  have hl : lv_has ls 4 [(0, .ref (h 0)), (1, .int x1), (2, .int x2)] := hl
  have hM60 : g 0 0 ≤ 60 := hX.1.1
  refine lv_iload_n (pc := 0) S.1 S.2.1 dX0_deliver_0 rfl (lv_at hl 1 rfl) ?_
  refine x_calls (pc := 1) (As := [.int x1]) (rest := []) S hW (metX0_isReplica l x1) (cwX0_isReplica S.2.2.2.2 (by rw [hR]; decide)) rfl hl.1 rfl (Nat.le_of_ble_eq_true rfl) ⟨Nat.zero_le _, Nat.zero_le _⟩ dX0_deliver_1 (fun r_1 H locs hp_1 hW => ?_)
  subst hp_1
  refine z_ifb_eq (pc := 4) (tgt := 33) S dX0_deliver_4 (by decide) (fun c_4 => ?_) (fun c_4 => ?_)
  · refine lv_iconst (pc := 33) (v := -1) S.1 S.2.1 dX0_deliver_33 (by decide) ?_
    exact hret _ _ _ _ _ _ _ hW (Or.inr ⟨fun z => c_4 z.1, rfl, rfl, rfl⟩) dX0_deliver_34
  · refine lv_iload_n (pc := 7) S.1 S.2.1 dX0_deliver_7 rfl (lv_at hl 2 rfl) ?_
    refine x_calls (pc := 8) (As := [.int x2]) (rest := []) S hW (metX0_isReplica l x2) (cwX0_isReplica S.2.2.2.2 (by rw [hR]; decide)) rfl hl.1 rfl (Nat.le_of_ble_eq_true rfl) ⟨Nat.zero_le _, Nat.zero_le _⟩ dX0_deliver_8 (fun r_8 H locs hp_8 hW => ?_)
    subst hp_8
    refine z_ifb_eq (pc := 11) (tgt := 33) S dX0_deliver_11 (by decide) (fun c_11 => ?_) (fun c_11 => ?_)
    · refine lv_iconst (pc := 33) (v := -1) S.1 S.2.1 dX0_deliver_33 (by decide) ?_
      exact hret _ _ _ _ _ _ _ hW (Or.inr ⟨fun z => c_11 z.2, rfl, rfl, rfl⟩) dX0_deliver_34
    · obtain ⟨fr, hfr, rfl⟩ := mt_rep_of c_4
      obtain ⟨to, hto, rfl⟩ := mt_rep_of c_11
      have h9 := (hX.2 to hto).1.1 fr hfr
      have h7 := mt_TI_7 hX.1 hfr
      refine x_g_9 (pc := 14) S hW (lv_at hl 0 rfl) dX0_deliver_14 dX0_deliver_15 ?_
      refine lv_iconst (pc := 18) (v := nI 3) S.1 S.2.1 dX0_deliver_18 (by decide) ?_
      refine lv_iload_n (pc := 19) S.1 S.2.1 dX0_deliver_19 rfl (lv_at hl 2 rfl) ?_
      refine z_imul (pc := 20) (x := 3) (y := to) S dX0_deliver_20 ?_
      refine lv_iload_n (pc := 21) S.1 S.2.1 dX0_deliver_21 rfl (lv_at hl 1 rfl) ?_
      refine z_iadd (pc := 22) (x := 3 * to) (y := fr) S dX0_deliver_22 ?_
      refine x_ld_9 (pc := 23) (i := (3 * to) + fr) (v := g 9 ((3 * to) + fr)) S hW (by omega) rfl dX0_deliver_23 ?_
      refine x_g_7 (pc := 24) S hW (lv_at hl 0 rfl) dX0_deliver_24 dX0_deliver_25 ?_
      refine lv_iload_n (pc := 28) S.1 S.2.1 dX0_deliver_28 rfl (lv_at hl 1 rfl) ?_
      refine x_ld_7 (pc := 29) (i := fr) (v := g 7 fr) S hW (by omega) rfl dX0_deliver_29 ?_
      refine z_icmp_lt (pc := 30) (tgt := 35) (x := g 9 ((3 * to) + fr)) (y := g 7 fr) S (by omega) (by omega) dX0_deliver_30 (by decide) (fun c_30 => ?_) (fun c_30 => ?_)
      · obtain ⟨c1, c2, c3⟩ := hX.1.2.2.1 fr (g 9 (3 * to + fr) + 1) hfr (by omega) (by omega)
        generalize hce : g 8 (61 * fr + (g 9 (3 * to + fr) + 1)) = c at c1 c2 c3
        have hnk : ¬ mt_kn g to c := by unfold mt_kn; rw [c2, c3]; omega
        have h6 : g 6 c = g 9 (3 * to + g 5 c) + 1 := by rw [c2, c3]
        obtain ⟨pl, hp⟩ := mt_LP_of hto hX.1 (hX.2 to hto).1 c1 hnk
        refine x_g_8 (pc := 35) S hW (lv_at hl 0 rfl) dX0_deliver_35 dX0_deliver_36 ?_
        refine lv_bipush (pc := 39) (v := nI 61) S.1 S.2.1 dX0_deliver_39 (by decide) ?_
        refine lv_iload_n (pc := 41) S.1 S.2.1 dX0_deliver_41 rfl (lv_at hl 1 rfl) ?_
        refine z_imul (pc := 42) (x := 61) (y := fr) S dX0_deliver_42 ?_
        refine x_g_9 (pc := 43) S hW (lv_at hl 0 rfl) dX0_deliver_43 dX0_deliver_44 ?_
        refine lv_iconst (pc := 47) (v := nI 3) S.1 S.2.1 dX0_deliver_47 (by decide) ?_
        refine lv_iload_n (pc := 48) S.1 S.2.1 dX0_deliver_48 rfl (lv_at hl 2 rfl) ?_
        refine z_imul (pc := 49) (x := 3) (y := to) S dX0_deliver_49 ?_
        refine lv_iload_n (pc := 50) S.1 S.2.1 dX0_deliver_50 rfl (lv_at hl 1 rfl) ?_
        refine z_iadd (pc := 51) (x := 3 * to) (y := fr) S dX0_deliver_51 ?_
        refine x_ld_9 (pc := 52) (i := (3 * to) + fr) (v := g 9 ((3 * to) + fr)) S hW (by omega) rfl dX0_deliver_52 ?_
        refine z_iadd (pc := 53) (x := 61 * fr) (y := g 9 ((3 * to) + fr)) S dX0_deliver_53 ?_
        refine lv_iconst (pc := 54) (v := nI 1) S.1 S.2.1 dX0_deliver_54 (by decide) ?_
        refine z_iadd (pc := 55) (x := (61 * fr) + (g 9 ((3 * to) + fr))) (y := 1) S dX0_deliver_55 ?_
        refine x_ld_8 (pc := 56) (i := ((61 * fr) + (g 9 ((3 * to) + fr))) + 1) (v := c) S hW (by omega) hce dX0_deliver_56 ?_
        refine lv_istore_n (pc := 57) (lv' := [(3, .int (nI c)), (0, .ref (h 0)), (1, .int (nI fr)), (2, .int (nI to))]) S.1 S.2.1 dX0_deliver_57 rfl hl (by decide) rfl (fun ls hl => ?_)
        refine lv_aload_n (pc := 58) S.1 S.2.1 dX0_deliver_58 rfl (lv_at hl 1 rfl) ?_
        refine lv_iload_n (pc := 59) S.1 S.2.1 dX0_deliver_59 rfl (lv_at hl 3 rfl) ?_
        refine lv_iload_n (pc := 60) S.1 S.2.1 dX0_deliver_60 rfl (lv_at hl 0 rfl) ?_
        refine x_callv (pc := 61) (As := [.int (nI to), .int (nI c)]) (rest := []) S hW (metX0_learn l D h cZ cI g f to c pl (g 11 to) hp) (cwX0_learn S.2.2.2.2 (by rw [hR]; decide)) rfl hl.1 rfl (Nat.le_of_ble_eq_true rfl) ⟨Nat.zero_le _, Nat.zero_le _⟩ dX0_deliver_61 (fun g_61 f_61 H locs hp_61 hW _ _ => ?_)
        have hLN := mt_L_LN hX hto c1 hnk h6 hp hp_61
        refine x_g_15 (pc := 64) S hW (lv_at hl 1 rfl) dX0_deliver_64 dX0_deliver_65 ?_
        refine lv_iload_n (pc := 68) S.1 S.2.1 dX0_deliver_68 rfl (lv_at hl 3 rfl) ?_
        refine x_ld_15 (pc := 69) (i := to) (v := g_61 15 to) S hW (by omega) rfl dX0_deliver_69 ?_
        exact hret _ _ _ _ _ _ _ hW (Or.inl ⟨fr, to, hfr, hto, rfl, rfl, Or.inr ⟨c, c1, c2, hnk, c3, hLN, rfl⟩⟩) dX0_deliver_70
      · refine lv_iconst (pc := 33) (v := -1) S.1 S.2.1 dX0_deliver_33 (by decide) ?_
        exact hret _ _ _ _ _ _ _ hW (Or.inl ⟨fr, to, hfr, hto, rfl, rfl, Or.inl ⟨c_30, rfl, rfl, rfl⟩⟩) dX0_deliver_34
set_option maxHeartbeats 4000000 in
/-- sync(x1, x2) -/
theorem metX0_sync (l : Launch) (D : va_G) (h : Nat → Nat) (cZ cI : ClassId) (g : Nat → Nat → Nat) (f : Nat → Nat → Int32) (x1 x2 : Int32) (hX : mt_XI g f) : Met l yX0_sync wsX0_sync rmX0_sync (xPc D h cZ cI g f [.int x1, .int x2]) (va_Qi (fun v (u : zU) => mt_xsy g f x1 x2 v u) (xB D h cZ cI) (xA h)) 0 0 (xA h) := by
  refine x_metI l (by decide) rfl (Nat.le_of_ble_eq_true rfl) ⟨rfl, rfl⟩ (fun p e s m args below meth cd R Q hR S hret ls hl hW => ?_)
  have hl : lv_has ls 5 [(0, .ref (h 0)), (1, .int x1), (2, .int x2)] := hl
  have hM60 : g 0 0 ≤ 60 := hX.1.1
  refine lv_iload_n (pc := 0) S.1 S.2.1 dX0_sync_0 rfl (lv_at hl 1 rfl) ?_
  refine x_calls (pc := 1) (As := [.int x1]) (rest := []) S hW (metX0_isReplica l x1) (cwX0_isReplica S.2.2.2.2 (by rw [hR]; decide)) rfl hl.1 rfl (Nat.le_of_ble_eq_true rfl) ⟨Nat.zero_le _, Nat.zero_le _⟩ dX0_sync_1 (fun r_1 H locs hp_1 hW => ?_)
  subst hp_1
  refine z_ifb_eq (pc := 4) (tgt := 14) S dX0_sync_4 (by decide) (fun c_4 => ?_) (fun c_4 => ?_)
  · refine lv_iconst (pc := 14) (v := -1) S.1 S.2.1 dX0_sync_14 (by decide) ?_
    exact hret _ _ _ _ _ _ _ hW (Or.inr ⟨fun z => c_4 z.1, rfl, rfl, rfl⟩) dX0_sync_15
  · refine lv_iload_n (pc := 7) S.1 S.2.1 dX0_sync_7 rfl (lv_at hl 2 rfl) ?_
    refine x_calls (pc := 8) (As := [.int x2]) (rest := []) S hW (metX0_isReplica l x2) (cwX0_isReplica S.2.2.2.2 (by rw [hR]; decide)) rfl hl.1 rfl (Nat.le_of_ble_eq_true rfl) ⟨Nat.zero_le _, Nat.zero_le _⟩ dX0_sync_8 (fun r_8 H locs hp_8 hW => ?_)
    subst hp_8
    refine z_ifb_ne (pc := 11) (tgt := 16) S dX0_sync_11 (by decide) (fun c_11 => ?_) (fun c_11 => ?_)
    · obtain ⟨fr, hfr, rfl⟩ := mt_rep_of c_4
      obtain ⟨to, hto, rfl⟩ := mt_rep_of c_11
      have loop : ∀ (d i : Nat) (g1 : Nat → Nat → Nat) (f1 : Nat → Nat → Int32), i + d = g 0 0 → mt_SY g f fr to i g1 f1 → ∀ (H : Heap) (locs : List Loc), XS D h cZ cI s (xA h) H locs g1 f1 → ∀ ls : Array Slot, lv_has ls 5 [(0, .ref (h 0)), (1, .int (nI fr)), (2, .int (nI to)), (3, .int (nI (mt_cnt (mt_sb g fr to) i))), (4, .int (nI i))] → W p l e R s m args below meth cd H locs 0 0 Q (F0 m 21 ls []) := by
        intro d
        induction d with
        | zero =>
          intro i g1 f1 hid hS H locs hW ls hl
          have e0 := hS.2.1
          have hcl := mt_cnt_le (mt_sb g fr to) i
          refine lv_iload (pc := 21) S.1 S.2.1 dX0_sync_21 (lv_at hl 4 rfl) ?_
          refine x_g_0 (pc := 23) S hW (lv_at hl 0 rfl) dX0_sync_23 dX0_sync_24 ?_
          refine z_icmp_ge (pc := 27) (tgt := 66) (x := i) (y := g1 0 0) S (by omega) (by omega) dX0_sync_27 (by decide) (fun c_27 => ?_) (fun c_27 => ?_)
          · refine lv_iload_n (pc := 66) S.1 S.2.1 dX0_sync_66 rfl (lv_at hl 3 rfl) ?_
            exact hret _ _ _ _ _ _ _ hW (Or.inl ⟨fr, to, hfr, hto, rfl, rfl, by rw [← hid]; exact hS, by rw [← hid]; rfl⟩) dX0_sync_67
          · exfalso; omega
        | succ d ih =>
          intro i g1 f1 hid hS H locs hW ls hl
          have e0 := hS.2.1
          have hi : i < g 0 0 := by omega
          obtain ⟨s1, s2, s3, s4, s5⟩ := hS.1.1.2.1 i (by omega)
          have h7 := mt_TI_7 hS.1.1 s3
          have h9a := (hS.1.2 fr hfr).1.1 _ s3
          have h9b := (hS.1.2 to hto).1.1 _ s3
          refine lv_iload (pc := 21) S.1 S.2.1 dX0_sync_21 (lv_at hl 4 rfl) ?_
          refine x_g_0 (pc := 23) S hW (lv_at hl 0 rfl) dX0_sync_23 dX0_sync_24 ?_
          refine z_icmp_ge (pc := 27) (tgt := 66) (x := i) (y := g1 0 0) S (by omega) (by omega) dX0_sync_27 (by decide) (fun c_27 => ?_) (fun c_27 => ?_)
          · exfalso; omega
          · refine lv_aload_n (pc := 30) S.1 S.2.1 dX0_sync_30 rfl (lv_at hl 0 rfl) ?_
            refine lv_iload_n (pc := 31) S.1 S.2.1 dX0_sync_31 rfl (lv_at hl 1 rfl) ?_
            refine lv_iload (pc := 32) S.1 S.2.1 dX0_sync_32 (lv_at hl 4 rfl) ?_
            refine x_callr (pc := 34) (As := [.int (nI fr), .int (nI i)]) (rest := []) S hW (metX0_isKnown l D h cZ cI g1 f1 fr i hfr (by omega) s3 (by omega) (by omega)) (cwX0_isKnown S.2.2.2.2 (by rw [hR]; decide)) rfl hl.1 rfl (Nat.le_of_ble_eq_true rfl) ⟨Nat.zero_le _, Nat.zero_le _⟩ dX0_sync_34 (fun r_34 H locs hp_34 hW => ?_)
            subst hp_34
            refine z_ifb_eq (pc := 37) (tgt := 60) S dX0_sync_37 (by decide) (fun c_37 => ?_) (fun c_37 => ?_)
            · have hno : ¬ (mt_kn g fr i ∧ ¬ mt_kn g to i) := fun z => c_37 ((mt_SY_kn hS hfr hi).mpr z.1)
              refine lv_iinc (pc := 60) (v := nI (i + 1)) (lv' := [(4, .int (nI (i + 1))), (0, .ref (h 0)), (1, .int (nI fr)), (2, .int (nI to)), (3, .int (nI (mt_cnt (mt_sb g fr to) i)))]) S.1 S.2.1 dX0_sync_60 hl (k := 4) rfl (z_inc1 _) (by decide) rfl (fun ls hl => ?_)
              refine lv_goto (pc := 63) (tgt := 21) S.1 S.2.1 dX0_sync_63 (by decide) ?_
              exact ih (i + 1) g1 f1 (by omega) (mt_SY_no hS hfr hto hi hno) _ _ hW ls (by rw [mt_cnt_n (fun z => hno (mt_dec_t.mp z))]; exact lv_sub hl [1, 2, 3, 4, 0] rfl)
            · refine lv_aload_n (pc := 40) S.1 S.2.1 dX0_sync_40 rfl (lv_at hl 0 rfl) ?_
              refine lv_iload_n (pc := 41) S.1 S.2.1 dX0_sync_41 rfl (lv_at hl 2 rfl) ?_
              refine lv_iload (pc := 42) S.1 S.2.1 dX0_sync_42 (lv_at hl 4 rfl) ?_
              refine x_callr (pc := 44) (As := [.int (nI to), .int (nI i)]) (rest := []) S hW (metX0_isKnown l D h cZ cI g1 f1 to i hto (by omega) s3 (by omega) (by omega)) (cwX0_isKnown S.2.2.2.2 (by rw [hR]; decide)) rfl hl.1 rfl (Nat.le_of_ble_eq_true rfl) ⟨Nat.zero_le _, Nat.zero_le _⟩ dX0_sync_44 (fun r_44 H locs hp_44 hW => ?_)
              subst hp_44
              refine z_ifb_ne (pc := 47) (tgt := 60) S dX0_sync_47 (by decide) (fun c_47 => ?_) (fun c_47 => ?_)
              · have hno : ¬ (mt_kn g fr i ∧ ¬ mt_kn g to i) := fun z => z.2 ((mt_SY_kn hS hto hi).mp c_47)
                refine lv_iinc (pc := 60) (v := nI (i + 1)) (lv' := [(4, .int (nI (i + 1))), (0, .ref (h 0)), (1, .int (nI fr)), (2, .int (nI to)), (3, .int (nI (mt_cnt (mt_sb g fr to) i)))]) S.1 S.2.1 dX0_sync_60 hl (k := 4) rfl (z_inc1 _) (by decide) rfl (fun ls hl => ?_)
                refine lv_goto (pc := 63) (tgt := 21) S.1 S.2.1 dX0_sync_63 (by decide) ?_
                exact ih (i + 1) g1 f1 (by omega) (mt_SY_no hS hfr hto hi hno) _ _ hW ls (by rw [mt_cnt_n (fun z => hno (mt_dec_t.mp z))]; exact lv_sub hl [1, 2, 3, 4, 0] rfl)
              · have k1 : mt_kn g1 fr i := c_37
                have k2 : ¬ mt_kn g1 to i := c_47
                have k3 : mt_kn g fr i := (mt_SY_kn hS hfr hi).mp k1
                have k4 : ¬ mt_kn g to i := fun z => k2 ((mt_SY_kn hS hto hi).mpr z)
                obtain ⟨pl, hp⟩ := mt_LP_of hto hS.1.1 (hS.1.2 to hto).1 (by omega) k2
                refine lv_aload_n (pc := 50) S.1 S.2.1 dX0_sync_50 rfl (lv_at hl 0 rfl) ?_
                refine lv_iload_n (pc := 51) S.1 S.2.1 dX0_sync_51 rfl (lv_at hl 2 rfl) ?_
                refine lv_iload (pc := 52) S.1 S.2.1 dX0_sync_52 (lv_at hl 4 rfl) ?_
                refine x_callv (pc := 54) (As := [.int (nI to), .int (nI i)]) (rest := []) S hW (metX0_learn l D h cZ cI g1 f1 to i pl (g1 11 to) hp) (cwX0_learn S.2.2.2.2 (by rw [hR]; decide)) rfl hl.1 rfl (Nat.le_of_ble_eq_true rfl) ⟨Nat.zero_le _, Nat.zero_le _⟩ dX0_sync_54 (fun g_54 f_54 H locs hp_54 hW _ _ => ?_)
                have hLN := mt_L_LN hS.1 hto (by omega) k2 (mt_SY_nx hS hfr hto hi k1 k2) hp hp_54
                refine lv_iinc (pc := 57) (v := nI ((mt_cnt (mt_sb g fr to) i) + 1)) (lv' := [(3, .int (nI ((mt_cnt (mt_sb g fr to) i) + 1))), (0, .ref (h 0)), (1, .int (nI fr)), (2, .int (nI to)), (4, .int (nI i))]) S.1 S.2.1 dX0_sync_57 hl (k := 3) rfl (z_inc1 _) (by decide) rfl (fun ls hl => ?_)
                refine lv_iinc (pc := 60) (v := nI (i + 1)) (lv' := [(4, .int (nI (i + 1))), (3, .int (nI ((mt_cnt (mt_sb g fr to) i) + 1))), (0, .ref (h 0)), (1, .int (nI fr)), (2, .int (nI to))]) S.1 S.2.1 dX0_sync_60 hl (k := 4) rfl (z_inc1 _) (by decide) rfl (fun ls hl => ?_)
                refine lv_goto (pc := 63) (tgt := 21) S.1 S.2.1 dX0_sync_63 (by decide) ?_
                exact ih (i + 1) _ _ (by omega) (mt_SY_yes hS hfr hto hi k3 hLN) _ _ hW ls (by rw [mt_cnt_s (mt_dec_t.mpr ⟨k3, k4⟩)]; exact lv_sub hl [2, 3, 4, 1, 0] rfl)
      refine lv_iconst (pc := 16) (v := nI 0) S.1 S.2.1 dX0_sync_16 (by decide) ?_
      refine lv_istore_n (pc := 17) (lv' := [(3, .int (nI 0)), (0, .ref (h 0)), (1, .int (nI fr)), (2, .int (nI to))]) S.1 S.2.1 dX0_sync_17 rfl hl (by decide) rfl (fun ls hl => ?_)
      refine lv_iconst (pc := 18) (v := nI 0) S.1 S.2.1 dX0_sync_18 (by decide) ?_
      refine lv_istore (pc := 19) (lv' := [(4, .int (nI 0)), (3, .int (nI 0)), (0, .ref (h 0)), (1, .int (nI fr)), (2, .int (nI to))]) S.1 S.2.1 dX0_sync_19 hl (by decide) rfl (fun ls hl => ?_)
      exact loop (g 0 0) 0 g f (by omega) (mt_SY_0 hX) _ _ hW ls (lv_sub hl [2, 3, 4, 1, 0] rfl)
    · refine lv_iconst (pc := 14) (v := -1) S.1 S.2.1 dX0_sync_14 (by decide) ?_
      exact hret _ _ _ _ _ _ _ hW (Or.inr ⟨fun z => c_11 z.2, rfl, rfl, rfl⟩) dX0_sync_15
end
section
set_option maxRecDepth 100000
theorem dX0_parent_0 : decode cX0_parent 0 = .ok (.iload_n 1, 1) := by decide +kernel
theorem dX0_parent_1 : decode cX0_parent 1 = .ok (.invokestatic 62, 3) := by decide +kernel
theorem dX0_parent_4 : decode cX0_parent 4 = .ok (.ifCond .eq 24, 3) := by decide +kernel
theorem dX0_parent_7 : decode cX0_parent 7 = .ok (.iload_n 2, 1) := by decide +kernel
theorem dX0_parent_8 : decode cX0_parent 8 = .ok (.invokestatic 82, 3) := by decide +kernel
theorem dX0_parent_11 : decode cX0_parent 11 = .ok (.ifCond .eq 17, 3) := by decide +kernel
theorem dX0_parent_14 : decode cX0_parent 14 = .ok (.aload_n 0, 1) := by decide +kernel
theorem dX0_parent_15 : decode cX0_parent 15 = .ok (.getfield 56, 3) := by decide +kernel
theorem dX0_parent_18 : decode cX0_parent 18 = .ok (.bipush 10, 2) := by decide +kernel
theorem dX0_parent_20 : decode cX0_parent 20 = .ok (.iload_n 1, 1) := by decide +kernel
theorem dX0_parent_21 : decode cX0_parent 21 = .ok (.imul, 1) := by decide +kernel
theorem dX0_parent_22 : decode cX0_parent 22 = .ok (.iload_n 2, 1) := by decide +kernel
theorem dX0_parent_23 : decode cX0_parent 23 = .ok (.iadd, 1) := by decide +kernel
theorem dX0_parent_24 : decode cX0_parent 24 = .ok (.iaload, 1) := by decide +kernel
theorem dX0_parent_25 : decode cX0_parent 25 = .ok (.goto 4, 3) := by decide +kernel
theorem dX0_parent_28 : decode cX0_parent 28 = .ok (.iconst (-1), 1) := by decide +kernel
theorem dX0_parent_29 : decode cX0_parent 29 = .ok (.ireturn, 1) := by decide +kernel

theorem dX0_label_0 : decode cX0_label 0 = .ok (.iload_n 1, 1) := by decide +kernel
theorem dX0_label_1 : decode cX0_label 1 = .ok (.invokestatic 62, 3) := by decide +kernel
theorem dX0_label_4 : decode cX0_label 4 = .ok (.ifCond .eq 24, 3) := by decide +kernel
theorem dX0_label_7 : decode cX0_label 7 = .ok (.iload_n 2, 1) := by decide +kernel
theorem dX0_label_8 : decode cX0_label 8 = .ok (.invokestatic 82, 3) := by decide +kernel
theorem dX0_label_11 : decode cX0_label 11 = .ok (.ifCond .eq 17, 3) := by decide +kernel
theorem dX0_label_14 : decode cX0_label 14 = .ok (.aload_n 0, 1) := by decide +kernel
theorem dX0_label_15 : decode cX0_label 15 = .ok (.getfield 59, 3) := by decide +kernel
theorem dX0_label_18 : decode cX0_label 18 = .ok (.bipush 10, 2) := by decide +kernel
theorem dX0_label_20 : decode cX0_label 20 = .ok (.iload_n 1, 1) := by decide +kernel
theorem dX0_label_21 : decode cX0_label 21 = .ok (.imul, 1) := by decide +kernel
theorem dX0_label_22 : decode cX0_label 22 = .ok (.iload_n 2, 1) := by decide +kernel
theorem dX0_label_23 : decode cX0_label 23 = .ok (.iadd, 1) := by decide +kernel
theorem dX0_label_24 : decode cX0_label 24 = .ok (.iaload, 1) := by decide +kernel
theorem dX0_label_25 : decode cX0_label 25 = .ok (.goto 4, 3) := by decide +kernel
theorem dX0_label_28 : decode cX0_label 28 = .ok (.iconst 0, 1) := by decide +kernel
theorem dX0_label_29 : decode cX0_label 29 = .ok (.ireturn, 1) := by decide +kernel

theorem dX0_children_0 : decode cX0_children 0 = .ok (.iload_n 1, 1) := by decide +kernel
theorem dX0_children_1 : decode cX0_children 1 = .ok (.invokestatic 62, 3) := by decide +kernel
theorem dX0_children_4 : decode cX0_children 4 = .ok (.ifCond .eq 10, 3) := by decide +kernel
theorem dX0_children_7 : decode cX0_children 7 = .ok (.iload_n 2, 1) := by decide +kernel
theorem dX0_children_8 : decode cX0_children 8 = .ok (.invokestatic 82, 3) := by decide +kernel
theorem dX0_children_11 : decode cX0_children 11 = .ok (.ifCond .ne 5, 3) := by decide +kernel
theorem dX0_children_14 : decode cX0_children 14 = .ok (.iconst (-1), 1) := by decide +kernel
theorem dX0_children_15 : decode cX0_children 15 = .ok (.ireturn, 1) := by decide +kernel
theorem dX0_children_16 : decode cX0_children 16 = .ok (.iconst 0, 1) := by decide +kernel
theorem dX0_children_17 : decode cX0_children 17 = .ok (.istore_n 3, 1) := by decide +kernel
theorem dX0_children_18 : decode cX0_children 18 = .ok (.bipush 10, 2) := by decide +kernel
theorem dX0_children_20 : decode cX0_children 20 = .ok (.iload_n 1, 1) := by decide +kernel
theorem dX0_children_21 : decode cX0_children 21 = .ok (.imul, 1) := by decide +kernel
theorem dX0_children_22 : decode cX0_children 22 = .ok (.istore 4, 2) := by decide +kernel
theorem dX0_children_24 : decode cX0_children 24 = .ok (.iload 4, 2) := by decide +kernel
theorem dX0_children_26 : decode cX0_children 26 = .ok (.bipush 10, 2) := by decide +kernel
theorem dX0_children_28 : decode cX0_children 28 = .ok (.iload_n 1, 1) := by decide +kernel
theorem dX0_children_29 : decode cX0_children 29 = .ok (.imul, 1) := by decide +kernel
theorem dX0_children_30 : decode cX0_children 30 = .ok (.bipush 10, 2) := by decide +kernel
theorem dX0_children_32 : decode cX0_children 32 = .ok (.iadd, 1) := by decide +kernel
theorem dX0_children_33 : decode cX0_children 33 = .ok (.if_icmp .ge 28, 3) := by decide +kernel
theorem dX0_children_36 : decode cX0_children 36 = .ok (.iload_n 3, 1) := by decide +kernel
theorem dX0_children_37 : decode cX0_children 37 = .ok (.aload_n 0, 1) := by decide +kernel
theorem dX0_children_38 : decode cX0_children 38 = .ok (.getfield 56, 3) := by decide +kernel
theorem dX0_children_41 : decode cX0_children 41 = .ok (.iload 4, 2) := by decide +kernel
theorem dX0_children_43 : decode cX0_children 43 = .ok (.iaload, 1) := by decide +kernel
theorem dX0_children_44 : decode cX0_children 44 = .ok (.iload_n 2, 1) := by decide +kernel
theorem dX0_children_45 : decode cX0_children 45 = .ok (.if_icmp .ne 7, 3) := by decide +kernel
theorem dX0_children_48 : decode cX0_children 48 = .ok (.iconst 1, 1) := by decide +kernel
theorem dX0_children_49 : decode cX0_children 49 = .ok (.goto 4, 3) := by decide +kernel
theorem dX0_children_52 : decode cX0_children 52 = .ok (.iconst 0, 1) := by decide +kernel
theorem dX0_children_53 : decode cX0_children 53 = .ok (.iadd, 1) := by decide +kernel
theorem dX0_children_54 : decode cX0_children 54 = .ok (.istore_n 3, 1) := by decide +kernel
theorem dX0_children_55 : decode cX0_children 55 = .ok (.iinc 4 1, 3) := by decide +kernel
theorem dX0_children_58 : decode cX0_children 58 = .ok (.goto (-34), 3) := by decide +kernel
theorem dX0_children_61 : decode cX0_children 61 = .ok (.iload_n 3, 1) := by decide +kernel
theorem dX0_children_62 : decode cX0_children 62 = .ok (.ireturn, 1) := by decide +kernel

theorem dX0_depth_0 : decode cX0_depth 0 = .ok (.iload_n 1, 1) := by decide +kernel
theorem dX0_depth_1 : decode cX0_depth 1 = .ok (.invokestatic 62, 3) := by decide +kernel
theorem dX0_depth_4 : decode cX0_depth 4 = .ok (.ifCond .eq 10, 3) := by decide +kernel
theorem dX0_depth_7 : decode cX0_depth 7 = .ok (.iload_n 2, 1) := by decide +kernel
theorem dX0_depth_8 : decode cX0_depth 8 = .ok (.invokestatic 82, 3) := by decide +kernel
theorem dX0_depth_11 : decode cX0_depth 11 = .ok (.ifCond .ne 5, 3) := by decide +kernel
theorem dX0_depth_14 : decode cX0_depth 14 = .ok (.iconst (-1), 1) := by decide +kernel
theorem dX0_depth_15 : decode cX0_depth 15 = .ok (.ireturn, 1) := by decide +kernel
theorem dX0_depth_16 : decode cX0_depth 16 = .ok (.iconst 0, 1) := by decide +kernel
theorem dX0_depth_17 : decode cX0_depth 17 = .ok (.istore_n 3, 1) := by decide +kernel
theorem dX0_depth_18 : decode cX0_depth 18 = .ok (.iload_n 2, 1) := by decide +kernel
theorem dX0_depth_19 : decode cX0_depth 19 = .ok (.istore 4, 2) := by decide +kernel
theorem dX0_depth_21 : decode cX0_depth 21 = .ok (.iconst 0, 1) := by decide +kernel
theorem dX0_depth_22 : decode cX0_depth 22 = .ok (.istore 5, 2) := by decide +kernel
theorem dX0_depth_24 : decode cX0_depth 24 = .ok (.iload 5, 2) := by decide +kernel
theorem dX0_depth_26 : decode cX0_depth 26 = .ok (.bipush 10, 2) := by decide +kernel
theorem dX0_depth_28 : decode cX0_depth 28 = .ok (.if_icmp .ge 41, 3) := by decide +kernel
theorem dX0_depth_31 : decode cX0_depth 31 = .ok (.aload_n 0, 1) := by decide +kernel
theorem dX0_depth_32 : decode cX0_depth 32 = .ok (.getfield 56, 3) := by decide +kernel
theorem dX0_depth_35 : decode cX0_depth 35 = .ok (.bipush 10, 2) := by decide +kernel
theorem dX0_depth_37 : decode cX0_depth 37 = .ok (.iload_n 1, 1) := by decide +kernel
theorem dX0_depth_38 : decode cX0_depth 38 = .ok (.imul, 1) := by decide +kernel
theorem dX0_depth_39 : decode cX0_depth 39 = .ok (.iload 4, 2) := by decide +kernel
theorem dX0_depth_41 : decode cX0_depth 41 = .ok (.iadd, 1) := by decide +kernel
theorem dX0_depth_42 : decode cX0_depth 42 = .ok (.iaload, 1) := by decide +kernel
theorem dX0_depth_43 : decode cX0_depth 43 = .ok (.ifCond .lt 26, 3) := by decide +kernel
theorem dX0_depth_46 : decode cX0_depth 46 = .ok (.aload_n 0, 1) := by decide +kernel
theorem dX0_depth_47 : decode cX0_depth 47 = .ok (.getfield 56, 3) := by decide +kernel
theorem dX0_depth_50 : decode cX0_depth 50 = .ok (.bipush 10, 2) := by decide +kernel
theorem dX0_depth_52 : decode cX0_depth 52 = .ok (.iload_n 1, 1) := by decide +kernel
theorem dX0_depth_53 : decode cX0_depth 53 = .ok (.imul, 1) := by decide +kernel
theorem dX0_depth_54 : decode cX0_depth 54 = .ok (.iload 4, 2) := by decide +kernel
theorem dX0_depth_56 : decode cX0_depth 56 = .ok (.iadd, 1) := by decide +kernel
theorem dX0_depth_57 : decode cX0_depth 57 = .ok (.iaload, 1) := by decide +kernel
theorem dX0_depth_58 : decode cX0_depth 58 = .ok (.istore 4, 2) := by decide +kernel
theorem dX0_depth_60 : decode cX0_depth 60 = .ok (.iinc 3 1, 3) := by decide +kernel
theorem dX0_depth_63 : decode cX0_depth 63 = .ok (.iinc 5 1, 3) := by decide +kernel
theorem dX0_depth_66 : decode cX0_depth 66 = .ok (.goto (-42), 3) := by decide +kernel
theorem dX0_depth_69 : decode cX0_depth 69 = .ok (.iload_n 3, 1) := by decide +kernel
theorem dX0_depth_70 : decode cX0_depth 70 = .ok (.ireturn, 1) := by decide +kernel

theorem dX0_skipped_0 : decode cX0_skipped 0 = .ok (.iload_n 1, 1) := by decide +kernel
theorem dX0_skipped_1 : decode cX0_skipped 1 = .ok (.invokestatic 62, 3) := by decide +kernel
theorem dX0_skipped_4 : decode cX0_skipped 4 = .ok (.ifCond .eq 12, 3) := by decide +kernel
theorem dX0_skipped_7 : decode cX0_skipped 7 = .ok (.aload_n 0, 1) := by decide +kernel
theorem dX0_skipped_8 : decode cX0_skipped 8 = .ok (.getfield 53, 3) := by decide +kernel
theorem dX0_skipped_11 : decode cX0_skipped 11 = .ok (.iload_n 1, 1) := by decide +kernel
theorem dX0_skipped_12 : decode cX0_skipped 12 = .ok (.iaload, 1) := by decide +kernel
theorem dX0_skipped_13 : decode cX0_skipped 13 = .ok (.goto 4, 3) := by decide +kernel
theorem dX0_skipped_16 : decode cX0_skipped 16 = .ok (.iconst (-1), 1) := by decide +kernel
theorem dX0_skipped_17 : decode cX0_skipped 17 = .ok (.ireturn, 1) := by decide +kernel

theorem dX0_alike_0 : decode cX0_alike 0 = .ok (.iload_n 1, 1) := by decide +kernel
theorem dX0_alike_1 : decode cX0_alike 1 = .ok (.invokestatic 62, 3) := by decide +kernel
theorem dX0_alike_4 : decode cX0_alike 4 = .ok (.ifCond .eq 10, 3) := by decide +kernel
theorem dX0_alike_7 : decode cX0_alike 7 = .ok (.iload_n 2, 1) := by decide +kernel
theorem dX0_alike_8 : decode cX0_alike 8 = .ok (.invokestatic 62, 3) := by decide +kernel
theorem dX0_alike_11 : decode cX0_alike 11 = .ok (.ifCond .ne 5, 3) := by decide +kernel
theorem dX0_alike_14 : decode cX0_alike 14 = .ok (.iconst (-1), 1) := by decide +kernel
theorem dX0_alike_15 : decode cX0_alike 15 = .ok (.ireturn, 1) := by decide +kernel
theorem dX0_alike_16 : decode cX0_alike 16 = .ok (.iconst 0, 1) := by decide +kernel
theorem dX0_alike_17 : decode cX0_alike 17 = .ok (.istore_n 3, 1) := by decide +kernel
theorem dX0_alike_18 : decode cX0_alike 18 = .ok (.iload_n 3, 1) := by decide +kernel
theorem dX0_alike_19 : decode cX0_alike 19 = .ok (.bipush 10, 2) := by decide +kernel
theorem dX0_alike_21 : decode cX0_alike 21 = .ok (.if_icmp .ge 61, 3) := by decide +kernel
theorem dX0_alike_24 : decode cX0_alike 24 = .ok (.aload_n 0, 1) := by decide +kernel
theorem dX0_alike_25 : decode cX0_alike 25 = .ok (.getfield 56, 3) := by decide +kernel
theorem dX0_alike_28 : decode cX0_alike 28 = .ok (.bipush 10, 2) := by decide +kernel
theorem dX0_alike_30 : decode cX0_alike 30 = .ok (.iload_n 1, 1) := by decide +kernel
theorem dX0_alike_31 : decode cX0_alike 31 = .ok (.imul, 1) := by decide +kernel
theorem dX0_alike_32 : decode cX0_alike 32 = .ok (.iload_n 3, 1) := by decide +kernel
theorem dX0_alike_33 : decode cX0_alike 33 = .ok (.iadd, 1) := by decide +kernel
theorem dX0_alike_34 : decode cX0_alike 34 = .ok (.iaload, 1) := by decide +kernel
theorem dX0_alike_35 : decode cX0_alike 35 = .ok (.aload_n 0, 1) := by decide +kernel
theorem dX0_alike_36 : decode cX0_alike 36 = .ok (.getfield 56, 3) := by decide +kernel
theorem dX0_alike_39 : decode cX0_alike 39 = .ok (.bipush 10, 2) := by decide +kernel
theorem dX0_alike_41 : decode cX0_alike 41 = .ok (.iload_n 2, 1) := by decide +kernel
theorem dX0_alike_42 : decode cX0_alike 42 = .ok (.imul, 1) := by decide +kernel
theorem dX0_alike_43 : decode cX0_alike 43 = .ok (.iload_n 3, 1) := by decide +kernel
theorem dX0_alike_44 : decode cX0_alike 44 = .ok (.iadd, 1) := by decide +kernel
theorem dX0_alike_45 : decode cX0_alike 45 = .ok (.iaload, 1) := by decide +kernel
theorem dX0_alike_46 : decode cX0_alike 46 = .ok (.if_icmp .ne 28, 3) := by decide +kernel
theorem dX0_alike_49 : decode cX0_alike 49 = .ok (.aload_n 0, 1) := by decide +kernel
theorem dX0_alike_50 : decode cX0_alike 50 = .ok (.getfield 59, 3) := by decide +kernel
theorem dX0_alike_53 : decode cX0_alike 53 = .ok (.bipush 10, 2) := by decide +kernel
theorem dX0_alike_55 : decode cX0_alike 55 = .ok (.iload_n 1, 1) := by decide +kernel
theorem dX0_alike_56 : decode cX0_alike 56 = .ok (.imul, 1) := by decide +kernel
theorem dX0_alike_57 : decode cX0_alike 57 = .ok (.iload_n 3, 1) := by decide +kernel
theorem dX0_alike_58 : decode cX0_alike 58 = .ok (.iadd, 1) := by decide +kernel
theorem dX0_alike_59 : decode cX0_alike 59 = .ok (.iaload, 1) := by decide +kernel
theorem dX0_alike_60 : decode cX0_alike 60 = .ok (.aload_n 0, 1) := by decide +kernel
theorem dX0_alike_61 : decode cX0_alike 61 = .ok (.getfield 59, 3) := by decide +kernel
theorem dX0_alike_64 : decode cX0_alike 64 = .ok (.bipush 10, 2) := by decide +kernel
theorem dX0_alike_66 : decode cX0_alike 66 = .ok (.iload_n 2, 1) := by decide +kernel
theorem dX0_alike_67 : decode cX0_alike 67 = .ok (.imul, 1) := by decide +kernel
theorem dX0_alike_68 : decode cX0_alike 68 = .ok (.iload_n 3, 1) := by decide +kernel
theorem dX0_alike_69 : decode cX0_alike 69 = .ok (.iadd, 1) := by decide +kernel
theorem dX0_alike_70 : decode cX0_alike 70 = .ok (.iaload, 1) := by decide +kernel
theorem dX0_alike_71 : decode cX0_alike 71 = .ok (.if_icmp .eq 5, 3) := by decide +kernel
theorem dX0_alike_74 : decode cX0_alike 74 = .ok (.iconst 0, 1) := by decide +kernel
theorem dX0_alike_75 : decode cX0_alike 75 = .ok (.ireturn, 1) := by decide +kernel
theorem dX0_alike_76 : decode cX0_alike 76 = .ok (.iinc 3 1, 3) := by decide +kernel
theorem dX0_alike_79 : decode cX0_alike 79 = .ok (.goto (-61), 3) := by decide +kernel
theorem dX0_alike_82 : decode cX0_alike 82 = .ok (.iconst 1, 1) := by decide +kernel
theorem dX0_alike_83 : decode cX0_alike 83 = .ok (.ireturn, 1) := by decide +kernel

set_option maxHeartbeats 4000000 in
/-- parent -/
theorem metX0_parent (l : Launch) (D : va_G) (h : Nat → Nat) (cZ cI : ClassId) (g : Nat → Nat → Nat) (f : Nat → Nat → Int32) (x1 x2 : Int32) : Met l yX0_parent wsX0_parent rmX0_parent (xPc D h cZ cI g f [.int x1, .int x2]) (va_Qi (fun v (u : zU) => mt_xpa f x1 x2 v ∧ u = (g, f)) (xB D h cZ cI) (xA h)) 0 0 (xA h) := by
  refine x_metI l (by decide) rfl (Nat.le_of_ble_eq_true rfl) ⟨rfl, rfl⟩ (fun p e s m args below meth cd R Q hR S hret ls hl hW => ?_)
  have hl : lv_has ls 3 [(0, .ref (h 0)), (1, .int x1), (2, .int x2)] := hl
  refine lv_iload_n (pc := 0) S.1 S.2.1 dX0_parent_0 rfl (lv_at hl 1 rfl) ?_
  refine x_calls (pc := 1) (As := [.int x1]) (rest := []) S hW (metX0_isReplica l x1) (cwX0_isReplica S.2.2.2.2 (by rw [hR]; decide)) rfl hl.1 rfl (Nat.le_of_ble_eq_true rfl) ⟨Nat.zero_le _, Nat.zero_le _⟩ dX0_parent_1 (fun r_1 H locs hp_1 hW => ?_)
  subst hp_1
  refine z_ifb_eq (pc := 4) (tgt := 28) S dX0_parent_4 (by decide) (fun c_4 => ?_) (fun c_4 => ?_)
  · refine lv_iconst (pc := 28) (v := -1) S.1 S.2.1 dX0_parent_28 (by decide) ?_
    exact hret _ _ _ _ _ _ _ hW ⟨Or.inr ⟨fun z => c_4 z.1, rfl⟩, rfl⟩ dX0_parent_29
  · refine lv_iload_n (pc := 7) S.1 S.2.1 dX0_parent_7 rfl (lv_at hl 2 rfl) ?_
    refine x_calls (pc := 8) (As := [.int x2]) (rest := []) S hW (metX0_isNode l x2) (cwX0_isNode S.2.2.2.2 (by rw [hR]; decide)) rfl hl.1 rfl (Nat.le_of_ble_eq_true rfl) ⟨Nat.zero_le _, Nat.zero_le _⟩ dX0_parent_8 (fun r_8 H locs hp_8 hW => ?_)
    subst hp_8
    refine z_ifb_eq (pc := 11) (tgt := 28) S dX0_parent_11 (by decide) (fun c_11 => ?_) (fun c_11 => ?_)
    · refine lv_iconst (pc := 28) (v := -1) S.1 S.2.1 dX0_parent_28 (by decide) ?_
      exact hret _ _ _ _ _ _ _ hW ⟨Or.inr ⟨fun z => c_11 z.2, rfl⟩, rfl⟩ dX0_parent_29
    · obtain ⟨r, hr, rfl⟩ := mt_rep_of c_4
      obtain ⟨n, hn, rfl⟩ := mt_nod_of c_11
      refine x_g_16 (pc := 14) S hW (lv_at hl 0 rfl) dX0_parent_14 dX0_parent_15 ?_
      refine lv_bipush (pc := 18) (v := nI 10) S.1 S.2.1 dX0_parent_18 (by decide) ?_
      refine lv_iload_n (pc := 20) S.1 S.2.1 dX0_parent_20 rfl (lv_at hl 1 rfl) ?_
      refine z_imul (pc := 21) (x := 10) (y := r) S dX0_parent_21 ?_
      refine lv_iload_n (pc := 22) S.1 S.2.1 dX0_parent_22 rfl (lv_at hl 2 rfl) ?_
      refine z_iadd (pc := 23) (x := 10 * r) (y := n) S dX0_parent_23 ?_
      refine x_ld_16 (pc := 24) (i := (10 * r) + n) (v := f 16 ((10 * r) + n)) S hW (by omega) rfl dX0_parent_24 ?_
      refine lv_goto (pc := 25) (tgt := 29) S.1 S.2.1 dX0_parent_25 (by decide) ?_
      exact hret _ _ _ _ _ _ _ hW ⟨Or.inl ⟨r, n, hr, hn, rfl, rfl, rfl⟩, rfl⟩ dX0_parent_29
set_option maxHeartbeats 4000000 in
/-- label -/
theorem metX0_label (l : Launch) (D : va_G) (h : Nat → Nat) (cZ cI : ClassId) (g : Nat → Nat → Nat) (f : Nat → Nat → Int32) (x1 x2 : Int32) : Met l yX0_label wsX0_label rmX0_label (xPc D h cZ cI g f [.int x1, .int x2]) (va_Qi (fun v (u : zU) => mt_xla f x1 x2 v ∧ u = (g, f)) (xB D h cZ cI) (xA h)) 0 0 (xA h) := by
  refine x_metI l (by decide) rfl (Nat.le_of_ble_eq_true rfl) ⟨rfl, rfl⟩ (fun p e s m args below meth cd R Q hR S hret ls hl hW => ?_)
  have hl : lv_has ls 3 [(0, .ref (h 0)), (1, .int x1), (2, .int x2)] := hl
  refine lv_iload_n (pc := 0) S.1 S.2.1 dX0_label_0 rfl (lv_at hl 1 rfl) ?_
  refine x_calls (pc := 1) (As := [.int x1]) (rest := []) S hW (metX0_isReplica l x1) (cwX0_isReplica S.2.2.2.2 (by rw [hR]; decide)) rfl hl.1 rfl (Nat.le_of_ble_eq_true rfl) ⟨Nat.zero_le _, Nat.zero_le _⟩ dX0_label_1 (fun r_1 H locs hp_1 hW => ?_)
  subst hp_1
  refine z_ifb_eq (pc := 4) (tgt := 28) S dX0_label_4 (by decide) (fun c_4 => ?_) (fun c_4 => ?_)
  · refine lv_iconst (pc := 28) (v := nI 0) S.1 S.2.1 dX0_label_28 (by decide) ?_
    exact hret _ _ _ _ _ _ _ hW ⟨Or.inr ⟨fun z => c_4 z.1, rfl⟩, rfl⟩ dX0_label_29
  · refine lv_iload_n (pc := 7) S.1 S.2.1 dX0_label_7 rfl (lv_at hl 2 rfl) ?_
    refine x_calls (pc := 8) (As := [.int x2]) (rest := []) S hW (metX0_isNode l x2) (cwX0_isNode S.2.2.2.2 (by rw [hR]; decide)) rfl hl.1 rfl (Nat.le_of_ble_eq_true rfl) ⟨Nat.zero_le _, Nat.zero_le _⟩ dX0_label_8 (fun r_8 H locs hp_8 hW => ?_)
    subst hp_8
    refine z_ifb_eq (pc := 11) (tgt := 28) S dX0_label_11 (by decide) (fun c_11 => ?_) (fun c_11 => ?_)
    · refine lv_iconst (pc := 28) (v := nI 0) S.1 S.2.1 dX0_label_28 (by decide) ?_
      exact hret _ _ _ _ _ _ _ hW ⟨Or.inr ⟨fun z => c_11 z.2, rfl⟩, rfl⟩ dX0_label_29
    · obtain ⟨r, hr, rfl⟩ := mt_rep_of c_4
      obtain ⟨n, hn, rfl⟩ := mt_nod_of c_11
      refine x_g_17 (pc := 14) S hW (lv_at hl 0 rfl) dX0_label_14 dX0_label_15 ?_
      refine lv_bipush (pc := 18) (v := nI 10) S.1 S.2.1 dX0_label_18 (by decide) ?_
      refine lv_iload_n (pc := 20) S.1 S.2.1 dX0_label_20 rfl (lv_at hl 1 rfl) ?_
      refine z_imul (pc := 21) (x := 10) (y := r) S dX0_label_21 ?_
      refine lv_iload_n (pc := 22) S.1 S.2.1 dX0_label_22 rfl (lv_at hl 2 rfl) ?_
      refine z_iadd (pc := 23) (x := 10 * r) (y := n) S dX0_label_23 ?_
      refine x_ld_17 (pc := 24) (i := (10 * r) + n) (v := f 17 ((10 * r) + n)) S hW (by omega) rfl dX0_label_24 ?_
      refine lv_goto (pc := 25) (tgt := 29) S.1 S.2.1 dX0_label_25 (by decide) ?_
      exact hret _ _ _ _ _ _ _ hW ⟨Or.inl ⟨r, n, hr, hn, rfl, rfl, rfl⟩, rfl⟩ dX0_label_29
set_option maxHeartbeats 4000000 in
/-- skipped -/
theorem metX0_skipped (l : Launch) (D : va_G) (h : Nat → Nat) (cZ cI : ClassId) (g : Nat → Nat → Nat) (f : Nat → Nat → Int32) (x1 : Int32) : Met l yX0_skipped wsX0_skipped rmX0_skipped (xPc D h cZ cI g f [.int x1]) (va_Qi (fun v (u : zU) => mt_xsk g x1 v ∧ u = (g, f)) (xB D h cZ cI) (xA h)) 0 0 (xA h) := by
  refine x_metI l (by decide) rfl (Nat.le_of_ble_eq_true rfl) ⟨rfl, rfl⟩ (fun p e s m args below meth cd R Q hR S hret ls hl hW => ?_)
  have hl : lv_has ls 2 [(0, .ref (h 0)), (1, .int x1)] := hl
  refine lv_iload_n (pc := 0) S.1 S.2.1 dX0_skipped_0 rfl (lv_at hl 1 rfl) ?_
  refine x_calls (pc := 1) (As := [.int x1]) (rest := []) S hW (metX0_isReplica l x1) (cwX0_isReplica S.2.2.2.2 (by rw [hR]; decide)) rfl hl.1 rfl (Nat.le_of_ble_eq_true rfl) ⟨Nat.zero_le _, Nat.zero_le _⟩ dX0_skipped_1 (fun r_1 H locs hp_1 hW => ?_)
  subst hp_1
  refine z_ifb_eq (pc := 4) (tgt := 16) S dX0_skipped_4 (by decide) (fun c_4 => ?_) (fun c_4 => ?_)
  · refine lv_iconst (pc := 16) (v := -1) S.1 S.2.1 dX0_skipped_16 (by decide) ?_
    exact hret _ _ _ _ _ _ _ hW ⟨Or.inr ⟨c_4, rfl⟩, rfl⟩ dX0_skipped_17
  · obtain ⟨r, hr, rfl⟩ := mt_rep_of c_4
    refine x_g_15 (pc := 7) S hW (lv_at hl 0 rfl) dX0_skipped_7 dX0_skipped_8 ?_
    refine lv_iload_n (pc := 11) S.1 S.2.1 dX0_skipped_11 rfl (lv_at hl 1 rfl) ?_
    refine x_ld_15 (pc := 12) (i := r) (v := g 15 r) S hW (by omega) rfl dX0_skipped_12 ?_
    refine lv_goto (pc := 13) (tgt := 17) S.1 S.2.1 dX0_skipped_13 (by decide) ?_
    exact hret _ _ _ _ _ _ _ hW ⟨Or.inl ⟨r, hr, rfl, rfl⟩, rfl⟩ dX0_skipped_17
set_option maxHeartbeats 4000000 in
/-- children -/
theorem metX0_children (l : Launch) (D : va_G) (h : Nat → Nat) (cZ cI : ClassId) (g : Nat → Nat → Nat) (f : Nat → Nat → Int32) (x1 x2 : Int32) : Met l yX0_children wsX0_children rmX0_children (xPc D h cZ cI g f [.int x1, .int x2]) (va_Qi (fun v (u : zU) => mt_xch f x1 x2 v ∧ u = (g, f)) (xB D h cZ cI) (xA h)) 0 0 (xA h) := by
  refine x_metI l (by decide) rfl (Nat.le_of_ble_eq_true rfl) ⟨rfl, rfl⟩ (fun p e s m args below meth cd R Q hR S hret ls hl hW => ?_)
  have hl : lv_has ls 5 [(0, .ref (h 0)), (1, .int x1), (2, .int x2)] := hl
  refine lv_iload_n (pc := 0) S.1 S.2.1 dX0_children_0 rfl (lv_at hl 1 rfl) ?_
  refine x_calls (pc := 1) (As := [.int x1]) (rest := []) S hW (metX0_isReplica l x1) (cwX0_isReplica S.2.2.2.2 (by rw [hR]; decide)) rfl hl.1 rfl (Nat.le_of_ble_eq_true rfl) ⟨Nat.zero_le _, Nat.zero_le _⟩ dX0_children_1 (fun r_1 H locs hp_1 hW => ?_)
  subst hp_1
  refine z_ifb_eq (pc := 4) (tgt := 14) S dX0_children_4 (by decide) (fun c_4 => ?_) (fun c_4 => ?_)
  · refine lv_iconst (pc := 14) (v := -1) S.1 S.2.1 dX0_children_14 (by decide) ?_
    exact hret _ _ _ _ _ _ _ hW ⟨Or.inr ⟨fun z => c_4 z.1, rfl⟩, rfl⟩ dX0_children_15
  · refine lv_iload_n (pc := 7) S.1 S.2.1 dX0_children_7 rfl (lv_at hl 2 rfl) ?_
    refine x_calls (pc := 8) (As := [.int x2]) (rest := []) S hW (metX0_isNode l x2) (cwX0_isNode S.2.2.2.2 (by rw [hR]; decide)) rfl hl.1 rfl (Nat.le_of_ble_eq_true rfl) ⟨Nat.zero_le _, Nat.zero_le _⟩ dX0_children_8 (fun r_8 H locs hp_8 hW => ?_)
    subst hp_8
    refine z_ifb_ne (pc := 11) (tgt := 16) S dX0_children_11 (by decide) (fun c_11 => ?_) (fun c_11 => ?_)
    · obtain ⟨r, hr, rfl⟩ := mt_rep_of c_4
      obtain ⟨n, hn, rfl⟩ := mt_nod_of c_11
      have loop : ∀ (d i : Nat), i + d = 10 → ∀ (H : Heap) (locs : List Loc), XS D h cZ cI s (xA h) H locs g f → ∀ ls : Array Slot, lv_has ls 5 [(0, .ref (h 0)), (1, .int (nI r)), (2, .int (nI n)), (3, .int (nI (mt_cnt (mt_cb (fun j => f 16 (10 * r + j)) n) i))), (4, .int (nI (10 * r + i)))] → W p l e R s m args below meth cd H locs 0 0 Q (F0 m 24 ls []) := by
        intro d
        induction d with
        | zero =>
          intro i hid H locs hW ls hl
          have hid : i = 10 := by omega
          subst hid
          refine lv_iload (pc := 24) S.1 S.2.1 dX0_children_24 (lv_at hl 4 rfl) ?_
          refine lv_bipush (pc := 26) (v := nI 10) S.1 S.2.1 dX0_children_26 (by decide) ?_
          refine lv_iload_n (pc := 28) S.1 S.2.1 dX0_children_28 rfl (lv_at hl 1 rfl) ?_
          refine z_imul (pc := 29) (x := 10) (y := r) S dX0_children_29 ?_
          refine lv_bipush (pc := 30) (v := nI 10) S.1 S.2.1 dX0_children_30 (by decide) ?_
          refine z_iadd (pc := 32) (x := 10 * r) (y := 10) S dX0_children_32 ?_
          refine z_icmp_ge (pc := 33) (tgt := 61) (x := 10 * r + 10) (y := (10 * r) + 10) S (by omega) (by omega) dX0_children_33 (by decide) (fun c_33 => ?_) (fun c_33 => ?_)
          · refine lv_iload_n (pc := 61) S.1 S.2.1 dX0_children_61 rfl (lv_at hl 3 rfl) ?_
            exact hret _ _ _ _ _ _ _ hW ⟨Or.inl ⟨r, n, hr, hn, rfl, rfl, rfl⟩, rfl⟩ dX0_children_62
          · exfalso; omega
        | succ d ih =>
          intro i hid H locs hW ls hl
          refine lv_iload (pc := 24) S.1 S.2.1 dX0_children_24 (lv_at hl 4 rfl) ?_
          refine lv_bipush (pc := 26) (v := nI 10) S.1 S.2.1 dX0_children_26 (by decide) ?_
          refine lv_iload_n (pc := 28) S.1 S.2.1 dX0_children_28 rfl (lv_at hl 1 rfl) ?_
          refine z_imul (pc := 29) (x := 10) (y := r) S dX0_children_29 ?_
          refine lv_bipush (pc := 30) (v := nI 10) S.1 S.2.1 dX0_children_30 (by decide) ?_
          refine z_iadd (pc := 32) (x := 10 * r) (y := 10) S dX0_children_32 ?_
          refine z_icmp_ge (pc := 33) (tgt := 61) (x := 10 * r + i) (y := (10 * r) + 10) S (by omega) (by omega) dX0_children_33 (by decide) (fun c_33 => ?_) (fun c_33 => ?_)
          · exfalso; omega
          · refine lv_iload_n (pc := 36) S.1 S.2.1 dX0_children_36 rfl (lv_at hl 3 rfl) ?_
            refine x_g_16 (pc := 37) S hW (lv_at hl 0 rfl) dX0_children_37 dX0_children_38 ?_
            refine lv_iload (pc := 41) S.1 S.2.1 dX0_children_41 (lv_at hl 4 rfl) ?_
            refine x_ld_16 (pc := 43) (i := 10 * r + i) (v := f 16 (10 * r + i)) S hW (by omega) rfl dX0_children_43 ?_
            refine lv_iload_n (pc := 44) S.1 S.2.1 dX0_children_44 rfl (lv_at hl 2 rfl) ?_
            refine lv_icmp_ne (pc := 45) (tgt := 52) S.1 S.2.1 dX0_children_45 (by decide) (fun c_45 => ?_) (fun c_45 => ?_)
            · refine lv_iconst (pc := 52) (v := nI 0) S.1 S.2.1 dX0_children_52 (by decide) ?_
              refine z_iadd (pc := 53) (x := mt_cnt (mt_cb (fun j => f 16 (10 * r + j)) n) i) (y := 0) S dX0_children_53 ?_
              refine lv_istore_n (pc := 54) (lv' := [(3, .int (nI ((mt_cnt (mt_cb (fun j => f 16 (10 * r + j)) n) i) + 0))), (0, .ref (h 0)), (1, .int (nI r)), (2, .int (nI n)), (4, .int (nI (10 * r + i)))]) S.1 S.2.1 dX0_children_54 rfl hl (by decide) rfl (fun ls hl => ?_)
              refine lv_iinc (pc := 55) (v := nI ((10 * r + i) + 1)) (lv' := [(4, .int (nI ((10 * r + i) + 1))), (3, .int (nI ((mt_cnt (mt_cb (fun j => f 16 (10 * r + j)) n) i) + 0))), (0, .ref (h 0)), (1, .int (nI r)), (2, .int (nI n))]) S.1 S.2.1 dX0_children_55 hl (k := 4) rfl (z_inc1 _) (by decide) rfl (fun ls hl => ?_)
              refine lv_goto (pc := 58) (tgt := 24) S.1 S.2.1 dX0_children_58 (by decide) ?_
              exact ih (i + 1) (by omega) _ _ hW ls (by rw [mt_cnt_n (fun z => c_45 (mt_dec_t.mp z))]; exact lv_sub hl [2, 3, 4, 1, 0] rfl)
            · refine lv_iconst (pc := 48) (v := nI 1) S.1 S.2.1 dX0_children_48 (by decide) ?_
              refine lv_goto (pc := 49) (tgt := 53) S.1 S.2.1 dX0_children_49 (by decide) ?_
              refine z_iadd (pc := 53) (x := mt_cnt (mt_cb (fun j => f 16 (10 * r + j)) n) i) (y := 1) S dX0_children_53 ?_
              refine lv_istore_n (pc := 54) (lv' := [(3, .int (nI ((mt_cnt (mt_cb (fun j => f 16 (10 * r + j)) n) i) + 1))), (0, .ref (h 0)), (1, .int (nI r)), (2, .int (nI n)), (4, .int (nI (10 * r + i)))]) S.1 S.2.1 dX0_children_54 rfl hl (by decide) rfl (fun ls hl => ?_)
              refine lv_iinc (pc := 55) (v := nI ((10 * r + i) + 1)) (lv' := [(4, .int (nI ((10 * r + i) + 1))), (3, .int (nI ((mt_cnt (mt_cb (fun j => f 16 (10 * r + j)) n) i) + 1))), (0, .ref (h 0)), (1, .int (nI r)), (2, .int (nI n))]) S.1 S.2.1 dX0_children_55 hl (k := 4) rfl (z_inc1 _) (by decide) rfl (fun ls hl => ?_)
              refine lv_goto (pc := 58) (tgt := 24) S.1 S.2.1 dX0_children_58 (by decide) ?_
              exact ih (i + 1) (by omega) _ _ hW ls (by rw [mt_cnt_s (mt_dec_t.mpr c_45)]; exact lv_sub hl [2, 3, 4, 1, 0] rfl)
      refine lv_iconst (pc := 16) (v := nI 0) S.1 S.2.1 dX0_children_16 (by decide) ?_
      refine lv_istore_n (pc := 17) (lv' := [(3, .int (nI 0)), (0, .ref (h 0)), (1, .int (nI r)), (2, .int (nI n))]) S.1 S.2.1 dX0_children_17 rfl hl (by decide) rfl (fun ls hl => ?_)
      refine lv_bipush (pc := 18) (v := nI 10) S.1 S.2.1 dX0_children_18 (by decide) ?_
      refine lv_iload_n (pc := 20) S.1 S.2.1 dX0_children_20 rfl (lv_at hl 2 rfl) ?_
      refine z_imul (pc := 21) (x := 10) (y := r) S dX0_children_21 ?_
      refine lv_istore (pc := 22) (lv' := [(4, .int (nI (10 * r))), (3, .int (nI 0)), (0, .ref (h 0)), (1, .int (nI r)), (2, .int (nI n))]) S.1 S.2.1 dX0_children_22 hl (by decide) rfl (fun ls hl => ?_)
      exact loop 10 0 rfl _ _ hW ls (lv_sub hl [2, 3, 4, 1, 0] rfl)
    · refine lv_iconst (pc := 14) (v := -1) S.1 S.2.1 dX0_children_14 (by decide) ?_
      exact hret _ _ _ _ _ _ _ hW ⟨Or.inr ⟨fun z => c_11 z.2, rfl⟩, rfl⟩ dX0_children_15
set_option maxHeartbeats 4000000 in
/-- depth -/
theorem metX0_depth (l : Launch) (D : va_G) (h : Nat → Nat) (cZ cI : ClassId) (g : Nat → Nat → Nat) (f : Nat → Nat → Int32) (x1 x2 : Int32) (hX : mt_XI g f) : Met l yX0_depth wsX0_depth rmX0_depth (xPc D h cZ cI g f [.int x1, .int x2]) (va_Qi (fun v (u : zU) => mt_xdp f x1 x2 v ∧ u = (g, f)) (xB D h cZ cI) (xA h)) 0 0 (xA h) := by
  refine x_metI l (by decide) rfl (Nat.le_of_ble_eq_true rfl) ⟨rfl, rfl⟩ (fun p e s m args below meth cd R Q hR S hret ls hl hW => ?_)
  have hl : lv_has ls 6 [(0, .ref (h 0)), (1, .int x1), (2, .int x2)] := hl
  refine lv_iload_n (pc := 0) S.1 S.2.1 dX0_depth_0 rfl (lv_at hl 1 rfl) ?_
  refine x_calls (pc := 1) (As := [.int x1]) (rest := []) S hW (metX0_isReplica l x1) (cwX0_isReplica S.2.2.2.2 (by rw [hR]; decide)) rfl hl.1 rfl (Nat.le_of_ble_eq_true rfl) ⟨Nat.zero_le _, Nat.zero_le _⟩ dX0_depth_1 (fun r_1 H locs hp_1 hW => ?_)
  subst hp_1
  refine z_ifb_eq (pc := 4) (tgt := 14) S dX0_depth_4 (by decide) (fun c_4 => ?_) (fun c_4 => ?_)
  · refine lv_iconst (pc := 14) (v := -1) S.1 S.2.1 dX0_depth_14 (by decide) ?_
    exact hret _ _ _ _ _ _ _ hW ⟨Or.inr ⟨fun z => c_4 z.1, rfl⟩, rfl⟩ dX0_depth_15
  · refine lv_iload_n (pc := 7) S.1 S.2.1 dX0_depth_7 rfl (lv_at hl 2 rfl) ?_
    refine x_calls (pc := 8) (As := [.int x2]) (rest := []) S hW (metX0_isNode l x2) (cwX0_isNode S.2.2.2.2 (by rw [hR]; decide)) rfl hl.1 rfl (Nat.le_of_ble_eq_true rfl) ⟨Nat.zero_le _, Nat.zero_le _⟩ dX0_depth_8 (fun r_8 H locs hp_8 hW => ?_)
    subst hp_8
    refine z_ifb_ne (pc := 11) (tgt := 16) S dX0_depth_11 (by decide) (fun c_11 => ?_) (fun c_11 => ?_)
    · obtain ⟨r, hr, rfl⟩ := mt_rep_of c_4
      obtain ⟨n, hn, rfl⟩ := mt_nod_of c_11
      have hok := mt_XI_okp hX hr
      have loop : ∀ (d k a : Nat), k + d = 10 → a < 10 → k + mt_dp (fun j => f 16 (10 * r + j)) d a = mt_dp (fun j => f 16 (10 * r + j)) 10 n → ∀ (H : Heap) (locs : List Loc), XS D h cZ cI s (xA h) H locs g f → ∀ ls : Array Slot, lv_has ls 6 [(0, .ref (h 0)), (1, .int (nI r)), (2, .int (nI n)), (3, .int (nI k)), (4, .int (nI a)), (5, .int (nI k))] → W p l e R s m args below meth cd H locs 0 0 Q (F0 m 24 ls []) := by
        intro d
        induction d with
        | zero =>
          intro k a hkd ha hk H locs hW ls hl
          have hk : k = mt_dp (fun j => f 16 (10 * r + j)) 10 n := hk
          refine lv_iload (pc := 24) S.1 S.2.1 dX0_depth_24 (lv_at hl 5 rfl) ?_
          refine lv_bipush (pc := 26) (v := nI 10) S.1 S.2.1 dX0_depth_26 (by decide) ?_
          refine z_icmp_ge (pc := 28) (tgt := 69) (x := k) (y := 10) S (by omega) (by omega) dX0_depth_28 (by decide) (fun c_28 => ?_) (fun c_28 => ?_)
          · refine lv_iload_n (pc := 69) S.1 S.2.1 dX0_depth_69 rfl (lv_at hl 3 rfl) ?_
            exact hret _ _ _ _ _ _ _ hW ⟨Or.inl ⟨r, n, hr, hn, rfl, rfl, by rw [hk]⟩, rfl⟩ dX0_depth_70
          · exfalso; omega
        | succ d ih =>
          intro k a hkd ha hk H locs hW ls hl
          refine lv_iload (pc := 24) S.1 S.2.1 dX0_depth_24 (lv_at hl 5 rfl) ?_
          refine lv_bipush (pc := 26) (v := nI 10) S.1 S.2.1 dX0_depth_26 (by decide) ?_
          refine z_icmp_ge (pc := 28) (tgt := 69) (x := k) (y := 10) S (by omega) (by omega) dX0_depth_28 (by decide) (fun c_28 => ?_) (fun c_28 => ?_)
          · exfalso; omega
          · refine x_g_16 (pc := 31) S hW (lv_at hl 0 rfl) dX0_depth_31 dX0_depth_32 ?_
            refine lv_bipush (pc := 35) (v := nI 10) S.1 S.2.1 dX0_depth_35 (by decide) ?_
            refine lv_iload_n (pc := 37) S.1 S.2.1 dX0_depth_37 rfl (lv_at hl 1 rfl) ?_
            refine z_imul (pc := 38) (x := 10) (y := r) S dX0_depth_38 ?_
            refine lv_iload (pc := 39) S.1 S.2.1 dX0_depth_39 (lv_at hl 4 rfl) ?_
            refine z_iadd (pc := 41) (x := 10 * r) (y := a) S dX0_depth_41 ?_
            refine x_ld_16 (pc := 42) (i := (10 * r) + a) (v := f 16 ((10 * r) + a)) S hW (by omega) rfl dX0_depth_42 ?_
            refine lv_if_lt (pc := 43) (tgt := 69) S.1 S.2.1 dX0_depth_43 (by decide) (fun c_43 => ?_) (fun c_43 => ?_)
            · have hk : k = mt_dp (fun j => f 16 (10 * r + j)) 10 n := by
                have z : mt_dp (fun j => f 16 (10 * r + j)) (d + 1) a = 0 := by
                  show (if f 16 (10 * r + a) < 0 then 0 else mt_dp (fun j => f 16 (10 * r + j)) d (f 16 (10 * r + a)).toNatClampNeg + 1) = 0
                  rw [if_pos c_43]
                omega
              refine lv_iload_n (pc := 69) S.1 S.2.1 dX0_depth_69 rfl (lv_at hl 3 rfl) ?_
              exact hret _ _ _ _ _ _ _ hW ⟨Or.inl ⟨r, n, hr, hn, rfl, rfl, by rw [hk]⟩, rfl⟩ dX0_depth_70
            · obtain ⟨j, hj, ej⟩ := mt_okp_neg (hok a ha) c_43
              have hk : k + 1 + mt_dp (fun j => f 16 (10 * r + j)) d j = mt_dp (fun j => f 16 (10 * r + j)) 10 n := by
                have z : mt_dp (fun j => f 16 (10 * r + j)) (d + 1) a = mt_dp (fun j => f 16 (10 * r + j)) d j + 1 := by
                  show (if f 16 (10 * r + a) < 0 then 0 else mt_dp (fun j => f 16 (10 * r + j)) d (f 16 (10 * r + a)).toNatClampNeg + 1) = _
                  rw [if_neg c_43, ej, nI_clamp (by omega)]
                omega
              refine x_g_16 (pc := 46) S hW (lv_at hl 0 rfl) dX0_depth_46 dX0_depth_47 ?_
              refine lv_bipush (pc := 50) (v := nI 10) S.1 S.2.1 dX0_depth_50 (by decide) ?_
              refine lv_iload_n (pc := 52) S.1 S.2.1 dX0_depth_52 rfl (lv_at hl 1 rfl) ?_
              refine z_imul (pc := 53) (x := 10) (y := r) S dX0_depth_53 ?_
              refine lv_iload (pc := 54) S.1 S.2.1 dX0_depth_54 (lv_at hl 4 rfl) ?_
              refine z_iadd (pc := 56) (x := 10 * r) (y := a) S dX0_depth_56 ?_
              refine x_ld_16 (pc := 57) (i := (10 * r) + a) (v := nI j) S hW (by omega) ej dX0_depth_57 ?_
              refine lv_istore (pc := 58) (lv' := [(4, .int (nI j)), (0, .ref (h 0)), (1, .int (nI r)), (2, .int (nI n)), (3, .int (nI k)), (5, .int (nI k))]) S.1 S.2.1 dX0_depth_58 hl (by decide) rfl (fun ls hl => ?_)
              refine lv_iinc (pc := 60) (v := nI (k + 1)) (lv' := [(3, .int (nI (k + 1))), (4, .int (nI j)), (0, .ref (h 0)), (1, .int (nI r)), (2, .int (nI n)), (5, .int (nI k))]) S.1 S.2.1 dX0_depth_60 hl (k := 4) rfl (z_inc1 _) (by decide) rfl (fun ls hl => ?_)
              refine lv_iinc (pc := 63) (v := nI (k + 1)) (lv' := [(5, .int (nI (k + 1))), (3, .int (nI (k + 1))), (4, .int (nI j)), (0, .ref (h 0)), (1, .int (nI r)), (2, .int (nI n))]) S.1 S.2.1 dX0_depth_63 hl (k := 5) rfl (z_inc1 _) (by decide) rfl (fun ls hl => ?_)
              refine lv_goto (pc := 66) (tgt := 24) S.1 S.2.1 dX0_depth_66 (by decide) ?_
              exact ih (k + 1) j (by omega) hj hk _ _ hW ls (lv_sub hl [3, 4, 5, 1, 2, 0] rfl)
      refine lv_iconst (pc := 16) (v := nI 0) S.1 S.2.1 dX0_depth_16 (by decide) ?_
      refine lv_istore_n (pc := 17) (lv' := [(3, .int (nI 0)), (0, .ref (h 0)), (1, .int (nI r)), (2, .int (nI n))]) S.1 S.2.1 dX0_depth_17 rfl hl (by decide) rfl (fun ls hl => ?_)
      refine lv_iload_n (pc := 18) S.1 S.2.1 dX0_depth_18 rfl (lv_at hl 3 rfl) ?_
      refine lv_istore (pc := 19) (lv' := [(4, .int (nI n)), (3, .int (nI 0)), (0, .ref (h 0)), (1, .int (nI r)), (2, .int (nI n))]) S.1 S.2.1 dX0_depth_19 hl (by decide) rfl (fun ls hl => ?_)
      refine lv_iconst (pc := 21) (v := nI 0) S.1 S.2.1 dX0_depth_21 (by decide) ?_
      refine lv_istore (pc := 22) (lv' := [(5, .int (nI 0)), (4, .int (nI n)), (3, .int (nI 0)), (0, .ref (h 0)), (1, .int (nI r)), (2, .int (nI n))]) S.1 S.2.1 dX0_depth_22 hl (by decide) rfl (fun ls hl => ?_)
      exact loop 10 0 n rfl hn (by omega) _ _ hW ls (lv_sub hl [3, 4, 5, 2, 1, 0] rfl)
    · refine lv_iconst (pc := 14) (v := -1) S.1 S.2.1 dX0_depth_14 (by decide) ?_
      exact hret _ _ _ _ _ _ _ hW ⟨Or.inr ⟨fun z => c_11 z.2, rfl⟩, rfl⟩ dX0_depth_15
set_option maxHeartbeats 4000000 in
/-- alike -/
theorem metX0_alike (l : Launch) (D : va_G) (h : Nat → Nat) (cZ cI : ClassId) (g : Nat → Nat → Nat) (f : Nat → Nat → Int32) (x1 x2 : Int32) : Met l yX0_alike wsX0_alike rmX0_alike (xPc D h cZ cI g f [.int x1, .int x2]) (va_Qi (fun v (u : zU) => mt_xal f x1 x2 v ∧ u = (g, f)) (xB D h cZ cI) (xA h)) 0 0 (xA h) := by
  refine x_metI l (by decide) rfl (Nat.le_of_ble_eq_true rfl) ⟨rfl, rfl⟩ (fun p e s m args below meth cd R Q hR S hret ls hl hW => ?_)
  have hl : lv_has ls 4 [(0, .ref (h 0)), (1, .int x1), (2, .int x2)] := hl
  refine lv_iload_n (pc := 0) S.1 S.2.1 dX0_alike_0 rfl (lv_at hl 1 rfl) ?_
  refine x_calls (pc := 1) (As := [.int x1]) (rest := []) S hW (metX0_isReplica l x1) (cwX0_isReplica S.2.2.2.2 (by rw [hR]; decide)) rfl hl.1 rfl (Nat.le_of_ble_eq_true rfl) ⟨Nat.zero_le _, Nat.zero_le _⟩ dX0_alike_1 (fun r_1 H locs hp_1 hW => ?_)
  subst hp_1
  refine z_ifb_eq (pc := 4) (tgt := 14) S dX0_alike_4 (by decide) (fun c_4 => ?_) (fun c_4 => ?_)
  · refine lv_iconst (pc := 14) (v := -1) S.1 S.2.1 dX0_alike_14 (by decide) ?_
    exact hret _ _ _ _ _ _ _ hW ⟨Or.inr ⟨fun z => c_4 z.1, rfl⟩, rfl⟩ dX0_alike_15
  · refine lv_iload_n (pc := 7) S.1 S.2.1 dX0_alike_7 rfl (lv_at hl 2 rfl) ?_
    refine x_calls (pc := 8) (As := [.int x2]) (rest := []) S hW (metX0_isReplica l x2) (cwX0_isReplica S.2.2.2.2 (by rw [hR]; decide)) rfl hl.1 rfl (Nat.le_of_ble_eq_true rfl) ⟨Nat.zero_le _, Nat.zero_le _⟩ dX0_alike_8 (fun r_8 H locs hp_8 hW => ?_)
    subst hp_8
    refine z_ifb_ne (pc := 11) (tgt := 16) S dX0_alike_11 (by decide) (fun c_11 => ?_) (fun c_11 => ?_)
    · obtain ⟨a, ha, rfl⟩ := mt_rep_of c_4
      obtain ⟨b, hb, rfl⟩ := mt_rep_of c_11
      have loop : ∀ (d i : Nat), i + d = 10 → (∀ j, j < i → (f 16 (10 * a + j) = f 16 (10 * b + j) ∧ f 17 (10 * a + j) = f 17 (10 * b + j))) → ∀ (H : Heap) (locs : List Loc), XS D h cZ cI s (xA h) H locs g f → ∀ ls : Array Slot, lv_has ls 4 [(0, .ref (h 0)), (1, .int (nI a)), (2, .int (nI b)), (3, .int (nI i))] → W p l e R s m args below meth cd H locs 0 0 Q (F0 m 18 ls []) := by
        intro d
        induction d with
        | zero =>
          intro i hid hall H locs hW ls hl
          have hid : i = 10 := by omega
          subst hid
          refine lv_iload_n (pc := 18) S.1 S.2.1 dX0_alike_18 rfl (lv_at hl 3 rfl) ?_
          refine lv_bipush (pc := 19) (v := nI 10) S.1 S.2.1 dX0_alike_19 (by decide) ?_
          refine z_icmp_ge (pc := 21) (tgt := 82) (x := 10) (y := 10) S (by omega) (by omega) dX0_alike_21 (by decide) (fun c_21 => ?_) (fun c_21 => ?_)
          · refine lv_iconst (pc := 82) (v := nI 1) S.1 S.2.1 dX0_alike_82 (by decide) ?_
            exact hret _ _ _ _ _ _ _ hW ⟨Or.inl ⟨a, b, ha, hb, rfl, rfl, bI1 hall⟩, rfl⟩ dX0_alike_83
          · exfalso; omega
        | succ d ih =>
          intro i hid hall H locs hW ls hl
          refine lv_iload_n (pc := 18) S.1 S.2.1 dX0_alike_18 rfl (lv_at hl 3 rfl) ?_
          refine lv_bipush (pc := 19) (v := nI 10) S.1 S.2.1 dX0_alike_19 (by decide) ?_
          refine z_icmp_ge (pc := 21) (tgt := 82) (x := i) (y := 10) S (by omega) (by omega) dX0_alike_21 (by decide) (fun c_21 => ?_) (fun c_21 => ?_)
          · exfalso; omega
          · refine x_g_16 (pc := 24) S hW (lv_at hl 0 rfl) dX0_alike_24 dX0_alike_25 ?_
            refine lv_bipush (pc := 28) (v := nI 10) S.1 S.2.1 dX0_alike_28 (by decide) ?_
            refine lv_iload_n (pc := 30) S.1 S.2.1 dX0_alike_30 rfl (lv_at hl 1 rfl) ?_
            refine z_imul (pc := 31) (x := 10) (y := a) S dX0_alike_31 ?_
            refine lv_iload_n (pc := 32) S.1 S.2.1 dX0_alike_32 rfl (lv_at hl 3 rfl) ?_
            refine z_iadd (pc := 33) (x := 10 * a) (y := i) S dX0_alike_33 ?_
            refine x_ld_16 (pc := 34) (i := (10 * a) + i) (v := f 16 ((10 * a) + i)) S hW (by omega) rfl dX0_alike_34 ?_
            refine x_g_16 (pc := 35) S hW (lv_at hl 0 rfl) dX0_alike_35 dX0_alike_36 ?_
            refine lv_bipush (pc := 39) (v := nI 10) S.1 S.2.1 dX0_alike_39 (by decide) ?_
            refine lv_iload_n (pc := 41) S.1 S.2.1 dX0_alike_41 rfl (lv_at hl 2 rfl) ?_
            refine z_imul (pc := 42) (x := 10) (y := b) S dX0_alike_42 ?_
            refine lv_iload_n (pc := 43) S.1 S.2.1 dX0_alike_43 rfl (lv_at hl 3 rfl) ?_
            refine z_iadd (pc := 44) (x := 10 * b) (y := i) S dX0_alike_44 ?_
            refine x_ld_16 (pc := 45) (i := (10 * b) + i) (v := f 16 ((10 * b) + i)) S hW (by omega) rfl dX0_alike_45 ?_
            refine lv_icmp_ne (pc := 46) (tgt := 74) S.1 S.2.1 dX0_alike_46 (by decide) (fun c_46 => ?_) (fun c_46 => ?_)
            · refine lv_iconst (pc := 74) (v := nI 0) S.1 S.2.1 dX0_alike_74 (by decide) ?_
              exact hret _ _ _ _ _ _ _ hW ⟨Or.inl ⟨a, b, ha, hb, rfl, rfl, bI0 (fun z => c_46 (z i (by omega)).1)⟩, rfl⟩ dX0_alike_75
            · refine x_g_17 (pc := 49) S hW (lv_at hl 0 rfl) dX0_alike_49 dX0_alike_50 ?_
              refine lv_bipush (pc := 53) (v := nI 10) S.1 S.2.1 dX0_alike_53 (by decide) ?_
              refine lv_iload_n (pc := 55) S.1 S.2.1 dX0_alike_55 rfl (lv_at hl 1 rfl) ?_
              refine z_imul (pc := 56) (x := 10) (y := a) S dX0_alike_56 ?_
              refine lv_iload_n (pc := 57) S.1 S.2.1 dX0_alike_57 rfl (lv_at hl 3 rfl) ?_
              refine z_iadd (pc := 58) (x := 10 * a) (y := i) S dX0_alike_58 ?_
              refine x_ld_17 (pc := 59) (i := (10 * a) + i) (v := f 17 ((10 * a) + i)) S hW (by omega) rfl dX0_alike_59 ?_
              refine x_g_17 (pc := 60) S hW (lv_at hl 0 rfl) dX0_alike_60 dX0_alike_61 ?_
              refine lv_bipush (pc := 64) (v := nI 10) S.1 S.2.1 dX0_alike_64 (by decide) ?_
              refine lv_iload_n (pc := 66) S.1 S.2.1 dX0_alike_66 rfl (lv_at hl 2 rfl) ?_
              refine z_imul (pc := 67) (x := 10) (y := b) S dX0_alike_67 ?_
              refine lv_iload_n (pc := 68) S.1 S.2.1 dX0_alike_68 rfl (lv_at hl 3 rfl) ?_
              refine z_iadd (pc := 69) (x := 10 * b) (y := i) S dX0_alike_69 ?_
              refine x_ld_17 (pc := 70) (i := (10 * b) + i) (v := f 17 ((10 * b) + i)) S hW (by omega) rfl dX0_alike_70 ?_
              refine lv_icmp_eq (pc := 71) (tgt := 76) S.1 S.2.1 dX0_alike_71 (by decide) (fun c_71 => ?_) (fun c_71 => ?_)
              · refine lv_iinc (pc := 76) (v := nI (i + 1)) (lv' := [(3, .int (nI (i + 1))), (0, .ref (h 0)), (1, .int (nI a)), (2, .int (nI b))]) S.1 S.2.1 dX0_alike_76 hl (k := 3) rfl (z_inc1 _) (by decide) rfl (fun ls hl => ?_)
                refine lv_goto (pc := 79) (tgt := 18) S.1 S.2.1 dX0_alike_79 (by decide) ?_
                exact ih (i + 1) (by omega) (fun j hj => by
                  by_cases e : j = i
                  · rw [e]; exact ⟨c_46, c_71⟩
                  · exact hall j (by omega)) _ _ hW ls (lv_sub hl [1, 2, 3, 0] rfl)
              · refine lv_iconst (pc := 74) (v := nI 0) S.1 S.2.1 dX0_alike_74 (by decide) ?_
                exact hret _ _ _ _ _ _ _ hW ⟨Or.inl ⟨a, b, ha, hb, rfl, rfl, bI0 (fun z => c_71 (z i (by omega)).2)⟩, rfl⟩ dX0_alike_75
      refine lv_iconst (pc := 16) (v := nI 0) S.1 S.2.1 dX0_alike_16 (by decide) ?_
      refine lv_istore_n (pc := 17) (lv' := [(3, .int (nI 0)), (0, .ref (h 0)), (1, .int (nI a)), (2, .int (nI b))]) S.1 S.2.1 dX0_alike_17 rfl hl (by decide) rfl (fun ls hl => ?_)
      exact loop 10 0 rfl (fun j hj => absurd hj (by omega)) _ _ hW ls (lv_sub hl [1, 2, 3, 0] rfl)
    · refine lv_iconst (pc := 14) (v := -1) S.1 S.2.1 dX0_alike_14 (by decide) ?_
      exact hret _ _ _ _ _ _ _ hW ⟨Or.inr ⟨fun z => c_11 z.2, rfl⟩, rfl⟩ dX0_alike_15
end
section
/-! the model: the plain side -/
set_option maxRecDepth 100000
def mt_mc (g : Nat → Nat → Nat) (f : Nat → Nat → Int32) (c : Nat) : mtQ := (g 3 c, g 4 c, f 5 c)
def mt_mq (g : Nat → Nat → Nat) (f : Nat → Nat → Int32) (lg : Nat → Nat) : Nat → mtQ := fun k => mt_mc g f (lg k)
/-- lg lists the n changes that replica r knows, earliest first -/
def mt_LV (g : Nat → Nat → Nat) (f : Nat → Nat → Int32) (r : Nat) (lg : Nat → Nat) (n : Nat) : Prop := g 0 0 ≤ 60 ∧ n ≤ g 0 0 ∧ (∀ k, k < n → lg k < g 0 0 ∧ ¬ g 6 (60 * r + lg k) = 0) ∧ (∀ j k, j < k → k < n → mt_ea (g 2) (g 1) (lg j) (lg k)) ∧ (∀ c, c < g 0 0 → ¬ g 6 (60 * r + c) = 0 → ∃ k, k < n ∧ lg k = c) ∧ (∀ c, c < g 0 0 → mt_okq (mt_mc g f c) ∧ g 1 c < 2147483648 ∧ g 2 c < 2147483648 ∧ g 6 (60 * r + c) < 2)
/-- b is the earliest of the changes below i that are known and not done, -1 if there is none -/
def mt_EB (g : Nat → Nat → Nat) (r i : Nat) (b : Int32) : Prop := (b = -1 ∧ ∀ c, c < i → ¬ g 6 (60 * r + c) = 0 → ¬ g 10 c = 0) ∨ (∃ c, c < i ∧ b = nI c ∧ ¬ g 6 (60 * r + c) = 0 ∧ g 10 c = 0 ∧ ∀ d, d < i → ¬ g 6 (60 * r + d) = 0 → g 10 d = 0 → ¬ mt_ea (g 2) (g 1) d c)
theorem mt_EB_0 (g : Nat → Nat → Nat) (r : Nat) : mt_EB g r 0 (-1) := Or.inl ⟨rfl, fun c hc => absurd hc (by omega)⟩
theorem mt_EB_skip {g : Nat → Nat → Nat} {r i : Nat} {b : Int32} (h : mt_EB g r i b) (hs : ¬ g 6 (60 * r + i) = 0 → ¬ g 10 i = 0) : mt_EB g r (i + 1) b := by
  rcases h with ⟨h1, h2⟩ | ⟨c, h1, h2, h3, h4, h5⟩
  · refine Or.inl ⟨h1, fun c hc => ?_⟩
    by_cases e : c = i
    · rw [e]; exact hs
    · exact h2 c (by omega)
  · refine Or.inr ⟨c, by omega, h2, h3, h4, fun d hd k1 k2 => ?_⟩
    by_cases e : d = i
    · rw [e] at k1 k2; exact absurd k2 (hs k1)
    · exact h5 d (by omega) k1 k2
theorem mt_EB_first {g : Nat → Nat → Nat} {r i : Nat} (h : ∀ c, c < i → ¬ g 6 (60 * r + c) = 0 → ¬ g 10 c = 0) (h1 : ¬ g 6 (60 * r + i) = 0) (h2 : g 10 i = 0) : mt_EB g r (i + 1) (nI i) := by
  refine Or.inr ⟨i, by omega, rfl, h1, h2, fun d hd k1 k2 => ?_⟩
  by_cases e : d = i
  · rw [e]; exact mt_ea_irr
  · exact absurd k2 (h d (by omega) k1)
theorem mt_EB_keep {g : Nat → Nat → Nat} {r i c : Nat} (h1 : c < i) (h3 : ¬ g 6 (60 * r + c) = 0) (h4 : g 10 c = 0) (h5 : ∀ d, d < i → ¬ g 6 (60 * r + d) = 0 → g 10 d = 0 → ¬ mt_ea (g 2) (g 1) d c) (hn : ¬ mt_ea (g 2) (g 1) i c) : mt_EB g r (i + 1) (nI c) := by
  refine Or.inr ⟨c, by omega, rfl, h3, h4, fun d hd k1 k2 => ?_⟩
  by_cases e : d = i
  · rw [e]; exact hn
  · exact h5 d (by omega) k1 k2
theorem mt_EB_take {g : Nat → Nat → Nat} {r i c : Nat} (h5 : ∀ d, d < i → ¬ g 6 (60 * r + d) = 0 → g 10 d = 0 → ¬ mt_ea (g 2) (g 1) d c) (hn : mt_ea (g 2) (g 1) i c) (k1 : ¬ g 6 (60 * r + i) = 0) (k2 : g 10 i = 0) : mt_EB g r (i + 1) (nI i) := by
  refine Or.inr ⟨i, by omega, rfl, k1, k2, fun d hd k1 k2 z => ?_⟩
  by_cases e : d = i
  · rw [e] at z; exact mt_ea_irr z
  · exact h5 d (by omega) k1 k2 (mt_ea_trans z hn)
/-- t changes of the log are carried out -/
def mt_CC (g : Nat → Nat → Nat) (f : Nat → Nat → Int32) (lg : Nat → Nat) (t : Nat) (g2 : Nat → Nat → Nat) (f2 : Nat → Nat → Int32) : Prop := (∀ a, a ≠ 9 → a ≠ 10 → g2 a = g a) ∧ (∀ a, a ≠ 7 → a ≠ 8 → f2 a = f a) ∧ g2 9 0 = (mt_run (mt_mq g f lg) t).2.2 ∧ (∀ j, j < 10 → f2 7 j = (mt_run (mt_mq g f lg) t).1 j ∧ f2 8 j = (mt_run (mt_mq g f lg) t).2.1 j) ∧ (∀ c, c < 60 → g2 10 c < 2 ∧ (¬ g2 10 c = 0 ↔ ∃ j, j < t ∧ lg j = c))
def mt_CO (g : Nat → Nat → Nat) (f : Nat → Nat → Int32) (lg : Nat → Nat) (n : Nat) (u : zU) : Prop := (∀ a, a ≠ 9 → a ≠ 10 → u.1 a = g a) ∧ (∀ a, a ≠ 7 → a ≠ 8 → u.2 a = f a) ∧ u.1 9 0 = (mt_run (mt_mq g f lg) n).2.2 ∧ (∀ j, j < 10 → u.2 7 j = (mt_run (mt_mq g f lg) n).1 j ∧ u.2 8 j = (mt_run (mt_mq g f lg) n).2.1 j)
theorem mt_CC_CO {g g2 : Nat → Nat → Nat} {f f2 : Nat → Nat → Int32} {lg : Nat → Nat} {n : Nat} (h : mt_CC g f lg n g2 f2) : mt_CO g f lg n (g2, f2) := ⟨h.1, h.2.1, h.2.2.1, h.2.2.2.1⟩
theorem mt_LV_inj {g : Nat → Nat → Nat} {f : Nat → Nat → Int32} {r : Nat} {lg : Nat → Nat} {n : Nat} (h : mt_LV g f r lg n) {j k : Nat} (hj : j < n) (hk : k < n) (e : lg j = lg k) : j = k := by
  rcases Nat.lt_trichotomy j k with z | z | z
  · have := h.2.2.2.1 j k z hk; rw [e] at this; exact absurd this mt_ea_irr
  · exact z
  · have := h.2.2.2.1 k j z hj; rw [e] at this; exact absurd this mt_ea_irr
theorem mt_CC_pick {g g2 : Nat → Nat → Nat} {f f2 : Nat → Nat → Int32} {r : Nat} {lg : Nat → Nat} {n t : Nat} {v : Int32} (hL : mt_LV g f r lg n) (hC : mt_CC g f lg t g2 f2) (ht : t ≤ n) (hE : mt_EB g2 r (g2 0 0) v) : (t < n → v = nI (lg t)) ∧ (t = n → v = -1) := by
  obtain ⟨l1, l2, l3, l4, l5, l6⟩ := id hL
  obtain ⟨c1, c2, c3, c4, c5⟩ := hC
  have e0 := c1 0 (by decide) (by decide)
  have e1 := c1 1 (by decide) (by decide)
  have e2 := c1 2 (by decide) (by decide)
  have e6 := c1 6 (by decide) (by decide)
  unfold mt_EB at hE
  rw [e0, e1, e2, e6] at hE
  constructor
  · intro hlt
    have k1 := l3 t hlt
    have k2 : g2 10 (lg t) = 0 := by
      apply Classical.byContradiction
      intro z
      obtain ⟨j, j1, j2⟩ := (c5 (lg t) (by omega)).2.mp z
      have := mt_LV_inj hL (by omega) hlt j2
      omega
    rcases hE with ⟨h1, h2⟩ | ⟨c, h1, h2, h3, h4, h5⟩
    · exact absurd k2 (h2 _ k1.1 k1.2)
    · obtain ⟨k, z1, z2⟩ := l5 c h1 h3
      have z3 : ¬ k < t := by
        intro y
        exact absurd h4 ((c5 c (by omega)).2.mpr ⟨k, y, z2⟩)
      by_cases e : k = t
      · rw [h2, ← z2, e]
      · exfalso
        have := l4 t k (by omega) z1
        rw [z2] at this
        exact h5 _ k1.1 k1.2 k2 this
  · intro heq
    rcases hE with ⟨h1, h2⟩ | ⟨c, h1, h2, h3, h4, h5⟩
    · exact h1
    · exfalso
      obtain ⟨k, z1, z2⟩ := l5 c h1 h3
      exact absurd h4 ((c5 c (by omega)).2.mpr ⟨k, by omega, z2⟩)
theorem mt_done_s {g2 : Nat → Nat → Nat} {lg : Nat → Nat} {t : Nat} (h : ∀ c, c < 60 → g2 10 c < 2 ∧ (¬ g2 10 c = 0 ↔ ∃ j, j < t ∧ lg j = c)) : ∀ c, c < 60 → st2 g2 10 (lg t) 1 10 c < 2 ∧ (¬ st2 g2 10 (lg t) 1 10 c = 0 ↔ ∃ j, j < t + 1 ∧ lg j = c) := by
  intro c hc
  rw [st2_at]
  by_cases e : c = lg t
  · rw [if_pos ⟨rfl, e⟩]
    exact ⟨by decide, fun _ => ⟨t, by omega, e.symm⟩, fun _ => by decide⟩
  · rw [if_neg (fun z => e z.2)]
    refine ⟨(h c hc).1, fun z => ?_, fun z => ?_⟩
    · obtain ⟨j, j1, j2⟩ := (h c hc).2.mp z
      exact ⟨j, by omega, j2⟩
    · obtain ⟨j, j1, j2⟩ := z
      refine (h c hc).2.mpr ⟨j, ?_, j2⟩
      by_cases y : j = t
      · rw [y] at j2; exact absurd j2.symm e
      · omega
theorem mt_CC_name {g g2 : Nat → Nat → Nat} {f f2 : Nat → Nat → Int32} {lg : Nat → Nat} {t : Nat} (hC : mt_CC g f lg t g2 f2) (h3 : g 3 (lg t) = 0) : mt_CC g f lg (t + 1) (st2 g2 10 (lg t) 1) (st2 f2 8 (g 4 (lg t)) (f 5 (lg t))) := by
  obtain ⟨c1, c2, c3, c4, c5⟩ := hC
  have hs : mt_run (mt_mq g f lg) (t + 1) = ((mt_run (mt_mq g f lg) t).1, upd (mt_run (mt_mq g f lg) t).2.1 (g 4 (lg t)) (f 5 (lg t)), (mt_run (mt_mq g f lg) t).2.2) := by
    show mt_step (mt_run (mt_mq g f lg) t) (mt_mq g f lg t) = _
    unfold mt_step
    rw [if_pos (show (mt_mq g f lg t).1 = 0 from h3)]
    rfl
  refine ⟨fun a h9 h10 => by rw [st2_k _ _ _ _ h10, c1 a h9 h10], fun a h7 h8 => by rw [st2_k _ _ _ _ h8, c2 a h7 h8], ?_, fun j hj => ?_, mt_done_s c5⟩
  · rw [hs, st2_k _ _ _ _ (by decide)]; exact c3
  · rw [hs]
    refine ⟨by rw [st2_k _ _ _ _ (by decide)]; exact (c4 j hj).1, ?_⟩
    rw [st2_at]
    by_cases e : j = g 4 (lg t)
    · rw [if_pos ⟨rfl, e⟩, e]; exact pk_us.symm
    · rw [if_neg (fun z => e z.2), (c4 j hj).2]; exact (pk_un e).symm
theorem mt_CC_up {g g2 : Nat → Nat → Nat} {f f2 : Nat → Nat → Int32} {lg : Nat → Nat} {t : Nat} (hC : mt_CC g f lg t g2 f2) (hq : ∀ k, k < t + 1 → mt_okq (mt_mq g f lg k)) (h3 : ¬ g 3 (lg t) = 0) : (∀ j, j < 10 → mt_okp (f2 7 j)) ∧ mt_okp (f 5 (lg t)) ∧ mt_up (f2 7) (nI (g 4 (lg t))) 10 (f 5 (lg t)) = mt_sk (mt_run (mt_mq g f lg) t) (mt_mq g f lg t) := by
  obtain ⟨c1, c2, c3, c4, c5⟩ := hC
  have h1 : ∀ j, j < 10 → mt_okp (f2 7 j) := fun j hj => by rw [(c4 j hj).1]; exact mt_run_okp (fun k hk => hq k (by omega)) j
  have h2 : mt_okp (f 5 (lg t)) := Or.inr ((hq t (by omega)).2.2 h3)
  exact ⟨h1, h2, mt_up_congr (fun j hj => (c4 j hj).1) h1 _ _ _ h2⟩
theorem mt_CC_skip {g g2 : Nat → Nat → Nat} {f f2 : Nat → Nat → Int32} {lg : Nat → Nat} {t : Nat} (hC : mt_CC g f lg t g2 f2) (h3 : ¬ g 3 (lg t) = 0) (hs : mt_sk (mt_run (mt_mq g f lg) t) (mt_mq g f lg t) = true) : mt_CC g f lg (t + 1) (st2 (st2 g2 10 (lg t) 1) 9 0 (g2 9 0 + 1)) f2 := by
  obtain ⟨c1, c2, c3, c4, c5⟩ := hC
  have hr : mt_run (mt_mq g f lg) (t + 1) = ((mt_run (mt_mq g f lg) t).1, (mt_run (mt_mq g f lg) t).2.1, (mt_run (mt_mq g f lg) t).2.2 + 1) := by
    show mt_step (mt_run (mt_mq g f lg) t) (mt_mq g f lg t) = _
    unfold mt_step
    rw [if_neg (show ¬ (mt_mq g f lg t).1 = 0 from h3), if_pos hs]
  refine ⟨fun a h9 h10 => by rw [st2_k _ _ _ _ h9, st2_k _ _ _ _ h10, c1 a h9 h10], c2, ?_, fun j hj => ?_, fun c hc => ?_⟩
  · rw [hr, st2_eq, c3]
  · rw [hr]; exact c4 j hj
  · rw [st2_k _ _ _ _ (by decide)]; exact mt_done_s c5 c hc
theorem mt_CC_move {g g2 : Nat → Nat → Nat} {f f2 : Nat → Nat → Int32} {lg : Nat → Nat} {t : Nat} (hC : mt_CC g f lg t g2 f2) (h3 : ¬ g 3 (lg t) = 0) (hs : ¬ mt_sk (mt_run (mt_mq g f lg) t) (mt_mq g f lg t) = true) : mt_CC g f lg (t + 1) (st2 g2 10 (lg t) 1) (st2 f2 7 (g 4 (lg t)) (f 5 (lg t))) := by
  obtain ⟨c1, c2, c3, c4, c5⟩ := hC
  have hr : mt_run (mt_mq g f lg) (t + 1) = (upd (mt_run (mt_mq g f lg) t).1 (g 4 (lg t)) (f 5 (lg t)), (mt_run (mt_mq g f lg) t).2.1, (mt_run (mt_mq g f lg) t).2.2) := by
    show mt_step (mt_run (mt_mq g f lg) t) (mt_mq g f lg t) = _
    unfold mt_step
    rw [if_neg (show ¬ (mt_mq g f lg t).1 = 0 from h3), if_neg hs]
    rfl
  refine ⟨fun a h9 h10 => by rw [st2_k _ _ _ _ h10, c1 a h9 h10], fun a h7 h8 => by rw [st2_k _ _ _ _ h7, c2 a h7 h8], ?_, fun j hj => ?_, mt_done_s c5⟩
  · rw [hr, st2_k _ _ _ _ (by decide)]; exact c3
  · rw [hr]
    refine ⟨?_, by rw [st2_k _ _ _ _ (by decide)]; exact (c4 j hj).2⟩
    rw [st2_at]
    by_cases e : j = g 4 (lg t)
    · rw [if_pos ⟨rfl, e⟩, e]; exact pk_us.symm
    · rw [if_neg (fun z => e z.2), (c4 j hj).1]; exact (pk_un e).symm
/-- the named change is among the first t and is skipped -/
def mt_KP (q : Nat → mtQ) (lg : Nat → Nat) (named : Int32) (t : Nat) : Prop := ∃ j, j < t ∧ nI (lg j) = named ∧ ¬ (q j).1 = 0 ∧ mt_sk (mt_run q j) (q j) = true
theorem mt_KP_0 (q : Nat → mtQ) (lg : Nat → Nat) (named : Int32) : ¬ mt_KP q lg named 0 := fun ⟨j, hj, _⟩ => absurd hj (by omega)
theorem mt_KP_no {q : Nat → mtQ} {lg : Nat → Nat} {named : Int32} {t : Nat} (h : ¬ (nI (lg t) = named ∧ ¬ (q t).1 = 0 ∧ mt_sk (mt_run q t) (q t) = true)) : mt_KP q lg named (t + 1) ↔ mt_KP q lg named t := by
  constructor
  · rintro ⟨j, h1, h2⟩
    by_cases e : j = t
    · rw [e] at h2; exact absurd h2 h
    · exact ⟨j, by omega, h2⟩
  · rintro ⟨j, h1, h2⟩
    exact ⟨j, by omega, h2⟩
/-- the greatest stamp that replica r knows among the changes below i -/
def mt_MX (g : Nat → Nat → Nat) (r i mx : Nat) : Prop := (∀ c, c < i → ¬ g 6 (60 * r + c) = 0 → g 2 c ≤ mx) ∧ (mx = 0 ∨ ∃ c, c < i ∧ ¬ g 6 (60 * r + c) = 0 ∧ g 2 c = mx)
theorem mt_MX_0 (g : Nat → Nat → Nat) (r : Nat) : mt_MX g r 0 0 := ⟨fun c hc => absurd hc (by omega), Or.inl rfl⟩
theorem mt_MX_no {g : Nat → Nat → Nat} {r i mx : Nat} (h : mt_MX g r i mx) (hn : ¬ g 6 (60 * r + i) = 0 → g 2 i ≤ mx) : mt_MX g r (i + 1) mx := by
  refine ⟨fun c hc k => ?_, ?_⟩
  · by_cases e : c = i
    · rw [e] at k ⊢; exact hn k
    · exact h.1 c (by omega) k
  · rcases h.2 with z | ⟨c, z1, z2, z3⟩
    · exact Or.inl z
    · exact Or.inr ⟨c, by omega, z2, z3⟩
theorem mt_MX_yes {g : Nat → Nat → Nat} {r i mx : Nat} (h : mt_MX g r i mx) (h6 : ¬ g 6 (60 * r + i) = 0) (hlt : mx < g 2 i) : mt_MX g r (i + 1) (g 2 i) := by
  refine ⟨fun c hc k => ?_, Or.inr ⟨i, by omega, h6, rfl⟩⟩
  by_cases e : c = i
  · rw [e]; exact Nat.le_refl _
  · have := h.1 c (by omega) k
    omega
theorem mt_MX_lt {g : Nat → Nat → Nat} {r i mx : Nat} (h : mt_MX g r i mx) (hb : ∀ c, c < i → g 2 c < 2147483647) : mx < 2147483647 := by
  rcases h.2 with z | ⟨c, z1, z2, z3⟩
  · omega
  · rw [← z3]; exact hb c z1
def mt_ng (g : Nat → Nat → Nat) (r b nd mx : Nat) : Nat → Nat → Nat := st2 (st2 (st2 (st2 (st2 (st2 g 1 (g 0 0) r) 2 (g 0 0) (mx + 1)) 3 (g 0 0) b) 4 (g 0 0) nd) 6 (60 * r + g 0 0) 1) 0 0 (g 0 0 + 1)
end
section
set_option maxRecDepth 100000
theorem dX1_bad_0 : decode cX1_bad 0 = .ok (.iload_n 0, 1) := by decide +kernel
theorem dX1_bad_1 : decode cX1_bad 1 = .ok (.ifCond .lt 8, 3) := by decide +kernel
theorem dX1_bad_4 : decode cX1_bad 4 = .ok (.iload_n 0, 1) := by decide +kernel
theorem dX1_bad_5 : decode cX1_bad 5 = .ok (.iconst 2, 1) := by decide +kernel
theorem dX1_bad_6 : decode cX1_bad 6 = .ok (.if_icmp .le 7, 3) := by decide +kernel
theorem dX1_bad_9 : decode cX1_bad 9 = .ok (.iconst 1, 1) := by decide +kernel
theorem dX1_bad_10 : decode cX1_bad 10 = .ok (.goto 4, 3) := by decide +kernel
theorem dX1_bad_13 : decode cX1_bad 13 = .ok (.iconst 0, 1) := by decide +kernel
theorem dX1_bad_14 : decode cX1_bad 14 = .ok (.ireturn, 1) := by decide +kernel

theorem dX1_badNode_0 : decode cX1_badNode 0 = .ok (.iload_n 0, 1) := by decide +kernel
theorem dX1_badNode_1 : decode cX1_badNode 1 = .ok (.ifCond .lt 9, 3) := by decide +kernel
theorem dX1_badNode_4 : decode cX1_badNode 4 = .ok (.iload_n 0, 1) := by decide +kernel
theorem dX1_badNode_5 : decode cX1_badNode 5 = .ok (.bipush 9, 2) := by decide +kernel
theorem dX1_badNode_7 : decode cX1_badNode 7 = .ok (.if_icmp .le 7, 3) := by decide +kernel
theorem dX1_badNode_10 : decode cX1_badNode 10 = .ok (.iconst 1, 1) := by decide +kernel
theorem dX1_badNode_11 : decode cX1_badNode 11 = .ok (.goto 4, 3) := by decide +kernel
theorem dX1_badNode_14 : decode cX1_badNode 14 = .ok (.iconst 0, 1) := by decide +kernel
theorem dX1_badNode_15 : decode cX1_badNode 15 = .ok (.ireturn, 1) := by decide +kernel

theorem dX1_earlier_0 : decode cX1_earlier 0 = .ok (.aload_n 0, 1) := by decide +kernel
theorem dX1_earlier_1 : decode cX1_earlier 1 = .ok (.getfield 13, 3) := by decide +kernel
theorem dX1_earlier_4 : decode cX1_earlier 4 = .ok (.iload_n 1, 1) := by decide +kernel
theorem dX1_earlier_5 : decode cX1_earlier 5 = .ok (.iaload, 1) := by decide +kernel
theorem dX1_earlier_6 : decode cX1_earlier 6 = .ok (.aload_n 0, 1) := by decide +kernel
theorem dX1_earlier_7 : decode cX1_earlier 7 = .ok (.getfield 13, 3) := by decide +kernel
theorem dX1_earlier_10 : decode cX1_earlier 10 = .ok (.iload_n 2, 1) := by decide +kernel
theorem dX1_earlier_11 : decode cX1_earlier 11 = .ok (.iaload, 1) := by decide +kernel
theorem dX1_earlier_12 : decode cX1_earlier 12 = .ok (.if_icmp .lt 33, 3) := by decide +kernel
theorem dX1_earlier_15 : decode cX1_earlier 15 = .ok (.aload_n 0, 1) := by decide +kernel
theorem dX1_earlier_16 : decode cX1_earlier 16 = .ok (.getfield 13, 3) := by decide +kernel
theorem dX1_earlier_19 : decode cX1_earlier 19 = .ok (.iload_n 1, 1) := by decide +kernel
theorem dX1_earlier_20 : decode cX1_earlier 20 = .ok (.iaload, 1) := by decide +kernel
theorem dX1_earlier_21 : decode cX1_earlier 21 = .ok (.aload_n 0, 1) := by decide +kernel
theorem dX1_earlier_22 : decode cX1_earlier 22 = .ok (.getfield 13, 3) := by decide +kernel
theorem dX1_earlier_25 : decode cX1_earlier 25 = .ok (.iload_n 2, 1) := by decide +kernel
theorem dX1_earlier_26 : decode cX1_earlier 26 = .ok (.iaload, 1) := by decide +kernel
theorem dX1_earlier_27 : decode cX1_earlier 27 = .ok (.if_icmp .ne 22, 3) := by decide +kernel
theorem dX1_earlier_30 : decode cX1_earlier 30 = .ok (.aload_n 0, 1) := by decide +kernel
theorem dX1_earlier_31 : decode cX1_earlier 31 = .ok (.getfield 7, 3) := by decide +kernel
theorem dX1_earlier_34 : decode cX1_earlier 34 = .ok (.iload_n 1, 1) := by decide +kernel
theorem dX1_earlier_35 : decode cX1_earlier 35 = .ok (.iaload, 1) := by decide +kernel
theorem dX1_earlier_36 : decode cX1_earlier 36 = .ok (.aload_n 0, 1) := by decide +kernel
theorem dX1_earlier_37 : decode cX1_earlier 37 = .ok (.getfield 7, 3) := by decide +kernel
theorem dX1_earlier_40 : decode cX1_earlier 40 = .ok (.iload_n 2, 1) := by decide +kernel
theorem dX1_earlier_41 : decode cX1_earlier 41 = .ok (.iaload, 1) := by decide +kernel
theorem dX1_earlier_42 : decode cX1_earlier 42 = .ok (.if_icmp .ge 7, 3) := by decide +kernel
theorem dX1_earlier_45 : decode cX1_earlier 45 = .ok (.iconst 1, 1) := by decide +kernel
theorem dX1_earlier_46 : decode cX1_earlier 46 = .ok (.goto 4, 3) := by decide +kernel
theorem dX1_earlier_49 : decode cX1_earlier 49 = .ok (.iconst 0, 1) := by decide +kernel
theorem dX1_earlier_50 : decode cX1_earlier 50 = .ok (.ireturn, 1) := by decide +kernel

theorem dX1_earliest_0 : decode cX1_earliest 0 = .ok (.iconst (-1), 1) := by decide +kernel
theorem dX1_earliest_1 : decode cX1_earliest 1 = .ok (.istore_n 2, 1) := by decide +kernel
theorem dX1_earliest_2 : decode cX1_earliest 2 = .ok (.iconst 0, 1) := by decide +kernel
theorem dX1_earliest_3 : decode cX1_earliest 3 = .ok (.istore_n 3, 1) := by decide +kernel
theorem dX1_earliest_4 : decode cX1_earliest 4 = .ok (.iload_n 3, 1) := by decide +kernel
theorem dX1_earliest_5 : decode cX1_earliest 5 = .ok (.aload_n 0, 1) := by decide +kernel
theorem dX1_earliest_6 : decode cX1_earliest 6 = .ok (.getfield 44, 3) := by decide +kernel
theorem dX1_earliest_9 : decode cX1_earliest 9 = .ok (.if_icmp .ge 47, 3) := by decide +kernel
theorem dX1_earliest_12 : decode cX1_earliest 12 = .ok (.aload_n 0, 1) := by decide +kernel
theorem dX1_earliest_13 : decode cX1_earliest 13 = .ok (.getfield 26, 3) := by decide +kernel
theorem dX1_earliest_16 : decode cX1_earliest 16 = .ok (.bipush 60, 2) := by decide +kernel
theorem dX1_earliest_18 : decode cX1_earliest 18 = .ok (.iload_n 1, 1) := by decide +kernel
theorem dX1_earliest_19 : decode cX1_earliest 19 = .ok (.imul, 1) := by decide +kernel
theorem dX1_earliest_20 : decode cX1_earliest 20 = .ok (.iload_n 3, 1) := by decide +kernel
theorem dX1_earliest_21 : decode cX1_earliest 21 = .ok (.iadd, 1) := by decide +kernel
theorem dX1_earliest_22 : decode cX1_earliest 22 = .ok (.baload, 1) := by decide +kernel
theorem dX1_earliest_23 : decode cX1_earliest 23 = .ok (.ifCond .eq 27, 3) := by decide +kernel
theorem dX1_earliest_26 : decode cX1_earliest 26 = .ok (.aload_n 0, 1) := by decide +kernel
theorem dX1_earliest_27 : decode cX1_earliest 27 = .ok (.getfield 35, 3) := by decide +kernel
theorem dX1_earliest_30 : decode cX1_earliest 30 = .ok (.iload_n 3, 1) := by decide +kernel
theorem dX1_earliest_31 : decode cX1_earliest 31 = .ok (.baload, 1) := by decide +kernel
theorem dX1_earliest_32 : decode cX1_earliest 32 = .ok (.ifCond .ne 18, 3) := by decide +kernel
theorem dX1_earliest_35 : decode cX1_earliest 35 = .ok (.iload_n 2, 1) := by decide +kernel
theorem dX1_earliest_36 : decode cX1_earliest 36 = .ok (.ifCond .lt 12, 3) := by decide +kernel
theorem dX1_earliest_39 : decode cX1_earliest 39 = .ok (.aload_n 0, 1) := by decide +kernel
theorem dX1_earliest_40 : decode cX1_earliest 40 = .ok (.iload_n 3, 1) := by decide +kernel
theorem dX1_earliest_41 : decode cX1_earliest 41 = .ok (.iload_n 2, 1) := by decide +kernel
theorem dX1_earliest_42 : decode cX1_earliest 42 = .ok (.invokevirtual 48, 3) := by decide +kernel
theorem dX1_earliest_45 : decode cX1_earliest 45 = .ok (.ifCond .eq 5, 3) := by decide +kernel
theorem dX1_earliest_48 : decode cX1_earliest 48 = .ok (.iload_n 3, 1) := by decide +kernel
theorem dX1_earliest_49 : decode cX1_earliest 49 = .ok (.istore_n 2, 1) := by decide +kernel
theorem dX1_earliest_50 : decode cX1_earliest 50 = .ok (.iinc 3 1, 3) := by decide +kernel
theorem dX1_earliest_53 : decode cX1_earliest 53 = .ok (.goto (-49), 3) := by decide +kernel
theorem dX1_earliest_56 : decode cX1_earliest 56 = .ok (.iload_n 2, 1) := by decide +kernel
theorem dX1_earliest_57 : decode cX1_earliest 57 = .ok (.ireturn, 1) := by decide +kernel

theorem dX1_above_0 : decode cX1_above 0 = .ok (.iload_n 2, 1) := by decide +kernel
theorem dX1_above_1 : decode cX1_above 1 = .ok (.istore_n 3, 1) := by decide +kernel
theorem dX1_above_2 : decode cX1_above 2 = .ok (.iconst 0, 1) := by decide +kernel
theorem dX1_above_3 : decode cX1_above 3 = .ok (.istore 4, 2) := by decide +kernel
theorem dX1_above_5 : decode cX1_above 5 = .ok (.iload 4, 2) := by decide +kernel
theorem dX1_above_7 : decode cX1_above 7 = .ok (.bipush 10, 2) := by decide +kernel
theorem dX1_above_9 : decode cX1_above 9 = .ok (.if_icmp .ge 27, 3) := by decide +kernel
theorem dX1_above_12 : decode cX1_above 12 = .ok (.iload_n 3, 1) := by decide +kernel
theorem dX1_above_13 : decode cX1_above 13 = .ok (.ifCond .lt 23, 3) := by decide +kernel
theorem dX1_above_16 : decode cX1_above 16 = .ok (.iload_n 3, 1) := by decide +kernel
theorem dX1_above_17 : decode cX1_above 17 = .ok (.iload_n 1, 1) := by decide +kernel
theorem dX1_above_18 : decode cX1_above 18 = .ok (.if_icmp .ne 5, 3) := by decide +kernel
theorem dX1_above_21 : decode cX1_above 21 = .ok (.iconst 1, 1) := by decide +kernel
theorem dX1_above_22 : decode cX1_above 22 = .ok (.ireturn, 1) := by decide +kernel
theorem dX1_above_23 : decode cX1_above 23 = .ok (.aload_n 0, 1) := by decide +kernel
theorem dX1_above_24 : decode cX1_above 24 = .ok (.getfield 29, 3) := by decide +kernel
theorem dX1_above_27 : decode cX1_above 27 = .ok (.iload_n 3, 1) := by decide +kernel
theorem dX1_above_28 : decode cX1_above 28 = .ok (.iaload, 1) := by decide +kernel
theorem dX1_above_29 : decode cX1_above 29 = .ok (.istore_n 3, 1) := by decide +kernel
theorem dX1_above_30 : decode cX1_above 30 = .ok (.iinc 4 1, 3) := by decide +kernel
theorem dX1_above_33 : decode cX1_above 33 = .ok (.goto (-28), 3) := by decide +kernel
theorem dX1_above_36 : decode cX1_above 36 = .ok (.iconst 0, 1) := by decide +kernel
theorem dX1_above_37 : decode cX1_above 37 = .ok (.ireturn, 1) := by decide +kernel

theorem dX1_make_0 : decode cX1_make 0 = .ok (.iconst 0, 1) := by decide +kernel
theorem dX1_make_1 : decode cX1_make 1 = .ok (.istore 5, 2) := by decide +kernel
theorem dX1_make_3 : decode cX1_make 3 = .ok (.iconst 0, 1) := by decide +kernel
theorem dX1_make_4 : decode cX1_make 4 = .ok (.istore 6, 2) := by decide +kernel
theorem dX1_make_6 : decode cX1_make 6 = .ok (.iload 6, 2) := by decide +kernel
theorem dX1_make_8 : decode cX1_make 8 = .ok (.aload_n 0, 1) := by decide +kernel
theorem dX1_make_9 : decode cX1_make 9 = .ok (.getfield 44, 3) := by decide +kernel
theorem dX1_make_12 : decode cX1_make 12 = .ok (.if_icmp .ge 45, 3) := by decide +kernel
theorem dX1_make_15 : decode cX1_make 15 = .ok (.aload_n 0, 1) := by decide +kernel
theorem dX1_make_16 : decode cX1_make 16 = .ok (.getfield 26, 3) := by decide +kernel
theorem dX1_make_19 : decode cX1_make 19 = .ok (.bipush 60, 2) := by decide +kernel
theorem dX1_make_21 : decode cX1_make 21 = .ok (.iload_n 1, 1) := by decide +kernel
theorem dX1_make_22 : decode cX1_make 22 = .ok (.imul, 1) := by decide +kernel
theorem dX1_make_23 : decode cX1_make 23 = .ok (.iload 6, 2) := by decide +kernel
theorem dX1_make_25 : decode cX1_make 25 = .ok (.iadd, 1) := by decide +kernel
theorem dX1_make_26 : decode cX1_make 26 = .ok (.baload, 1) := by decide +kernel
theorem dX1_make_27 : decode cX1_make 27 = .ok (.ifCond .eq 24, 3) := by decide +kernel
theorem dX1_make_30 : decode cX1_make 30 = .ok (.aload_n 0, 1) := by decide +kernel
theorem dX1_make_31 : decode cX1_make 31 = .ok (.getfield 13, 3) := by decide +kernel
theorem dX1_make_34 : decode cX1_make 34 = .ok (.iload 6, 2) := by decide +kernel
theorem dX1_make_36 : decode cX1_make 36 = .ok (.iaload, 1) := by decide +kernel
theorem dX1_make_37 : decode cX1_make 37 = .ok (.iload 5, 2) := by decide +kernel
theorem dX1_make_39 : decode cX1_make 39 = .ok (.if_icmp .le 12, 3) := by decide +kernel
theorem dX1_make_42 : decode cX1_make 42 = .ok (.aload_n 0, 1) := by decide +kernel
theorem dX1_make_43 : decode cX1_make 43 = .ok (.getfield 13, 3) := by decide +kernel
theorem dX1_make_46 : decode cX1_make 46 = .ok (.iload 6, 2) := by decide +kernel
theorem dX1_make_48 : decode cX1_make 48 = .ok (.iaload, 1) := by decide +kernel
theorem dX1_make_49 : decode cX1_make 49 = .ok (.istore 5, 2) := by decide +kernel
theorem dX1_make_51 : decode cX1_make 51 = .ok (.iinc 6 1, 3) := by decide +kernel
theorem dX1_make_54 : decode cX1_make 54 = .ok (.goto (-48), 3) := by decide +kernel
theorem dX1_make_57 : decode cX1_make 57 = .ok (.aload_n 0, 1) := by decide +kernel
theorem dX1_make_58 : decode cX1_make 58 = .ok (.getfield 7, 3) := by decide +kernel
theorem dX1_make_61 : decode cX1_make 61 = .ok (.aload_n 0, 1) := by decide +kernel
theorem dX1_make_62 : decode cX1_make 62 = .ok (.getfield 44, 3) := by decide +kernel
theorem dX1_make_65 : decode cX1_make 65 = .ok (.iload_n 1, 1) := by decide +kernel
theorem dX1_make_66 : decode cX1_make 66 = .ok (.iastore, 1) := by decide +kernel
theorem dX1_make_67 : decode cX1_make 67 = .ok (.aload_n 0, 1) := by decide +kernel
theorem dX1_make_68 : decode cX1_make 68 = .ok (.getfield 13, 3) := by decide +kernel
theorem dX1_make_71 : decode cX1_make 71 = .ok (.aload_n 0, 1) := by decide +kernel
theorem dX1_make_72 : decode cX1_make 72 = .ok (.getfield 44, 3) := by decide +kernel
theorem dX1_make_75 : decode cX1_make 75 = .ok (.iload 5, 2) := by decide +kernel
theorem dX1_make_77 : decode cX1_make 77 = .ok (.iconst 1, 1) := by decide +kernel
theorem dX1_make_78 : decode cX1_make 78 = .ok (.iadd, 1) := by decide +kernel
theorem dX1_make_79 : decode cX1_make 79 = .ok (.iastore, 1) := by decide +kernel
theorem dX1_make_80 : decode cX1_make 80 = .ok (.aload_n 0, 1) := by decide +kernel
theorem dX1_make_81 : decode cX1_make 81 = .ok (.getfield 16, 3) := by decide +kernel
theorem dX1_make_84 : decode cX1_make 84 = .ok (.aload_n 0, 1) := by decide +kernel
theorem dX1_make_85 : decode cX1_make 85 = .ok (.getfield 44, 3) := by decide +kernel
theorem dX1_make_88 : decode cX1_make 88 = .ok (.iload_n 2, 1) := by decide +kernel
theorem dX1_make_89 : decode cX1_make 89 = .ok (.bastore, 1) := by decide +kernel
theorem dX1_make_90 : decode cX1_make 90 = .ok (.aload_n 0, 1) := by decide +kernel
theorem dX1_make_91 : decode cX1_make 91 = .ok (.getfield 20, 3) := by decide +kernel
theorem dX1_make_94 : decode cX1_make 94 = .ok (.aload_n 0, 1) := by decide +kernel
theorem dX1_make_95 : decode cX1_make 95 = .ok (.getfield 44, 3) := by decide +kernel
theorem dX1_make_98 : decode cX1_make 98 = .ok (.iload_n 3, 1) := by decide +kernel
theorem dX1_make_99 : decode cX1_make 99 = .ok (.iastore, 1) := by decide +kernel
theorem dX1_make_100 : decode cX1_make 100 = .ok (.aload_n 0, 1) := by decide +kernel
theorem dX1_make_101 : decode cX1_make 101 = .ok (.getfield 23, 3) := by decide +kernel
theorem dX1_make_104 : decode cX1_make 104 = .ok (.aload_n 0, 1) := by decide +kernel
theorem dX1_make_105 : decode cX1_make 105 = .ok (.getfield 44, 3) := by decide +kernel
theorem dX1_make_108 : decode cX1_make 108 = .ok (.iload 4, 2) := by decide +kernel
theorem dX1_make_110 : decode cX1_make 110 = .ok (.iastore, 1) := by decide +kernel
theorem dX1_make_111 : decode cX1_make 111 = .ok (.aload_n 0, 1) := by decide +kernel
theorem dX1_make_112 : decode cX1_make 112 = .ok (.getfield 26, 3) := by decide +kernel
theorem dX1_make_115 : decode cX1_make 115 = .ok (.bipush 60, 2) := by decide +kernel
theorem dX1_make_117 : decode cX1_make 117 = .ok (.iload_n 1, 1) := by decide +kernel
theorem dX1_make_118 : decode cX1_make 118 = .ok (.imul, 1) := by decide +kernel
theorem dX1_make_119 : decode cX1_make 119 = .ok (.aload_n 0, 1) := by decide +kernel
theorem dX1_make_120 : decode cX1_make 120 = .ok (.getfield 44, 3) := by decide +kernel
theorem dX1_make_123 : decode cX1_make 123 = .ok (.iadd, 1) := by decide +kernel
theorem dX1_make_124 : decode cX1_make 124 = .ok (.iconst 1, 1) := by decide +kernel
theorem dX1_make_125 : decode cX1_make 125 = .ok (.bastore, 1) := by decide +kernel
theorem dX1_make_126 : decode cX1_make 126 = .ok (.aload_n 0, 1) := by decide +kernel
theorem dX1_make_127 : decode cX1_make 127 = .ok (.dup, 1) := by decide +kernel
theorem dX1_make_128 : decode cX1_make 128 = .ok (.getfield 44, 3) := by decide +kernel
theorem dX1_make_131 : decode cX1_make 131 = .ok (.iconst 1, 1) := by decide +kernel
theorem dX1_make_132 : decode cX1_make 132 = .ok (.iadd, 1) := by decide +kernel
theorem dX1_make_133 : decode cX1_make 133 = .ok (.putfield 44, 3) := by decide +kernel
theorem dX1_make_136 : decode cX1_make 136 = .ok (.aload_n 0, 1) := by decide +kernel
theorem dX1_make_137 : decode cX1_make 137 = .ok (.getfield 44, 3) := by decide +kernel
theorem dX1_make_140 : decode cX1_make 140 = .ok (.iconst 1, 1) := by decide +kernel
theorem dX1_make_141 : decode cX1_make 141 = .ok (.isub, 1) := by decide +kernel
theorem dX1_make_142 : decode cX1_make 142 = .ok (.ireturn, 1) := by decide +kernel

/-- bad -/
theorem metX1_bad (l : Launch) (x : Int32) : Met l yX1_bad wsX1_bad rmX1_bad (va_Pc [.int x] (fun _ => True)) (va_Qi (fun r (_ : Unit) => r = bI (¬ mt_rep x)) (fun _ _ => True) (fun _ => False)) 0 0 (fun _ => False) := by
  refine s_metZ (own := RX1) l (by decide) rfl (Nat.le_of_ble_eq_true rfl) (fun p e s m args below meth cd Q S hret ls hl => ?_)
  have hl : lv_has ls 1 [(0, .int x)] := hl
  refine lv_iload_n (pc := 0) S.1 S.2.1 dX1_bad_0 rfl (lv_at hl 0 rfl) ?_
  refine lv_if_lt (pc := 1) (tgt := 9) S.1 S.2.1 dX1_bad_1 (by decide) (fun c_1 => ?_) (fun c_1 => ?_)
  · refine lv_iconst (pc := 9) (v := nI 1) S.1 S.2.1 dX1_bad_9 (by decide) ?_
    refine lv_goto (pc := 10) (tgt := 14) S.1 S.2.1 dX1_bad_10 (by decide) ?_
    exact hret _ _ _ z01_1 (bI1 (fun z => absurd z.1 (Int32.not_le.mpr c_1))) dX1_bad_14
  · refine lv_iload_n (pc := 4) S.1 S.2.1 dX1_bad_4 rfl (lv_at hl 0 rfl) ?_
    refine lv_iconst (pc := 5) (v := nI 2) S.1 S.2.1 dX1_bad_5 (by decide) ?_
    refine lv_icmp_le (pc := 6) (tgt := 13) S.1 S.2.1 dX1_bad_6 (by decide) (fun c_6 => ?_) (fun c_6 => ?_)
    · refine lv_iconst (pc := 13) (v := nI 0) S.1 S.2.1 dX1_bad_13 (by decide) ?_
      exact hret _ _ _ z01_0 (bI0 (fun z => z ⟨Int32.not_lt.mp c_1, c_6⟩)) dX1_bad_14
    · refine lv_iconst (pc := 9) (v := nI 1) S.1 S.2.1 dX1_bad_9 (by decide) ?_
      refine lv_goto (pc := 10) (tgt := 14) S.1 S.2.1 dX1_bad_10 (by decide) ?_
      exact hret _ _ _ z01_1 (bI1 (fun z => c_6 z.2)) dX1_bad_14
/-- badNode -/
theorem metX1_badNode (l : Launch) (x : Int32) : Met l yX1_badNode wsX1_badNode rmX1_badNode (va_Pc [.int x] (fun _ => True)) (va_Qi (fun r (_ : Unit) => r = bI (¬ mt_nod x)) (fun _ _ => True) (fun _ => False)) 0 0 (fun _ => False) := by
  refine s_metZ (own := RX1) l (by decide) rfl (Nat.le_of_ble_eq_true rfl) (fun p e s m args below meth cd Q S hret ls hl => ?_)
  have hl : lv_has ls 1 [(0, .int x)] := hl
  refine lv_iload_n (pc := 0) S.1 S.2.1 dX1_badNode_0 rfl (lv_at hl 0 rfl) ?_
  refine lv_if_lt (pc := 1) (tgt := 10) S.1 S.2.1 dX1_badNode_1 (by decide) (fun c_1 => ?_) (fun c_1 => ?_)
  · refine lv_iconst (pc := 10) (v := nI 1) S.1 S.2.1 dX1_badNode_10 (by decide) ?_
    refine lv_goto (pc := 11) (tgt := 15) S.1 S.2.1 dX1_badNode_11 (by decide) ?_
    exact hret _ _ _ z01_1 (bI1 (fun z => absurd z.1 (Int32.not_le.mpr c_1))) dX1_badNode_15
  · refine lv_iload_n (pc := 4) S.1 S.2.1 dX1_badNode_4 rfl (lv_at hl 0 rfl) ?_
    refine lv_bipush (pc := 5) (v := nI 9) S.1 S.2.1 dX1_badNode_5 (by decide) ?_
    refine lv_icmp_le (pc := 7) (tgt := 14) S.1 S.2.1 dX1_badNode_7 (by decide) (fun c_7 => ?_) (fun c_7 => ?_)
    · refine lv_iconst (pc := 14) (v := nI 0) S.1 S.2.1 dX1_badNode_14 (by decide) ?_
      exact hret _ _ _ z01_0 (bI0 (fun z => z ⟨Int32.not_lt.mp c_1, c_7⟩)) dX1_badNode_15
    · refine lv_iconst (pc := 10) (v := nI 1) S.1 S.2.1 dX1_badNode_10 (by decide) ?_
      refine lv_goto (pc := 11) (tgt := 15) S.1 S.2.1 dX1_badNode_11 (by decide) ?_
      exact hret _ _ _ z01_1 (bI1 (fun z => c_7 z.2)) dX1_badNode_15
set_option maxHeartbeats 4000000 in
/-- earlier(x, y) -/
theorem metX1_earlier (l : Launch) (D : va_G) (h : Nat → Nat) (cZ cI : ClassId) (g : Nat → Nat → Nat) (f : Nat → Nat → Int32) (x y : Nat) (hx : x < 60) (hy : y < 60) (h2x : g 2 x < 2147483648) (h2y : g 2 y < 2147483648) (h1x : g 1 x < 2147483648) (h1y : g 1 y < 2147483648) : Met l yX1_earlier wsX1_earlier rmX1_earlier (mPc D h cZ cI g f [.int (nI x), .int (nI y)]) (va_Qi (fun r (u : zU) => r = bI (mt_ea (g 2) (g 1) x y) ∧ u = (g, f)) (mB D h cZ cI) (mA h)) 0 0 (mA h) := by
  refine m_metZ l (by decide) rfl (Nat.le_of_ble_eq_true rfl) ⟨rfl, rfl⟩ (fun p e s m args below meth cd R Q hR S hret ls hl hW => ?_)
  have hl : lv_has ls 3 [(0, .ref (h 0)), (1, .int (nI x)), (2, .int (nI y))] := hl
  refine m_g_2 (pc := 0) S hW (lv_at hl 0 rfl) dX1_earlier_0 dX1_earlier_1 ?_
  refine lv_iload_n (pc := 4) S.1 S.2.1 dX1_earlier_4 rfl (lv_at hl 1 rfl) ?_
  refine m_ld_2 (pc := 5) (i := x) (v := g 2 x) S hW (by omega) rfl dX1_earlier_5 ?_
  refine m_g_2 (pc := 6) S hW (lv_at hl 0 rfl) dX1_earlier_6 dX1_earlier_7 ?_
  refine lv_iload_n (pc := 10) S.1 S.2.1 dX1_earlier_10 rfl (lv_at hl 2 rfl) ?_
  refine m_ld_2 (pc := 11) (i := y) (v := g 2 y) S hW (by omega) rfl dX1_earlier_11 ?_
  refine z_icmp_lt (pc := 12) (tgt := 45) (x := g 2 x) (y := g 2 y) S (by omega) (by omega) dX1_earlier_12 (by decide) (fun c_12 => ?_) (fun c_12 => ?_)
  · refine lv_iconst (pc := 45) (v := nI 1) S.1 S.2.1 dX1_earlier_45 (by decide) ?_
    refine lv_goto (pc := 46) (tgt := 50) S.1 S.2.1 dX1_earlier_46 (by decide) ?_
    exact hret _ _ _ _ _ _ _ hW z01_1 ⟨bI1 (by unfold mt_ea; omega), rfl⟩ dX1_earlier_50
  · refine m_g_2 (pc := 15) S hW (lv_at hl 0 rfl) dX1_earlier_15 dX1_earlier_16 ?_
    refine lv_iload_n (pc := 19) S.1 S.2.1 dX1_earlier_19 rfl (lv_at hl 1 rfl) ?_
    refine m_ld_2 (pc := 20) (i := x) (v := g 2 x) S hW (by omega) rfl dX1_earlier_20 ?_
    refine m_g_2 (pc := 21) S hW (lv_at hl 0 rfl) dX1_earlier_21 dX1_earlier_22 ?_
    refine lv_iload_n (pc := 25) S.1 S.2.1 dX1_earlier_25 rfl (lv_at hl 2 rfl) ?_
    refine m_ld_2 (pc := 26) (i := y) (v := g 2 y) S hW (by omega) rfl dX1_earlier_26 ?_
    refine z_icmp_ne (pc := 27) (tgt := 49) (x := g 2 x) (y := g 2 y) S (by omega) (by omega) dX1_earlier_27 (by decide) (fun c_27 => ?_) (fun c_27 => ?_)
    · refine lv_iconst (pc := 49) (v := nI 0) S.1 S.2.1 dX1_earlier_49 (by decide) ?_
      exact hret _ _ _ _ _ _ _ hW z01_0 ⟨bI0 (fun z => by unfold mt_ea at z; omega), rfl⟩ dX1_earlier_50
    · refine m_g_1 (pc := 30) S hW (lv_at hl 0 rfl) dX1_earlier_30 dX1_earlier_31 ?_
      refine lv_iload_n (pc := 34) S.1 S.2.1 dX1_earlier_34 rfl (lv_at hl 1 rfl) ?_
      refine m_ld_1 (pc := 35) (i := x) (v := g 1 x) S hW (by omega) rfl dX1_earlier_35 ?_
      refine m_g_1 (pc := 36) S hW (lv_at hl 0 rfl) dX1_earlier_36 dX1_earlier_37 ?_
      refine lv_iload_n (pc := 40) S.1 S.2.1 dX1_earlier_40 rfl (lv_at hl 2 rfl) ?_
      refine m_ld_1 (pc := 41) (i := y) (v := g 1 y) S hW (by omega) rfl dX1_earlier_41 ?_
      refine z_icmp_ge (pc := 42) (tgt := 49) (x := g 1 x) (y := g 1 y) S (by omega) (by omega) dX1_earlier_42 (by decide) (fun c_42 => ?_) (fun c_42 => ?_)
      · refine lv_iconst (pc := 49) (v := nI 0) S.1 S.2.1 dX1_earlier_49 (by decide) ?_
        exact hret _ _ _ _ _ _ _ hW z01_0 ⟨bI0 (fun z => by unfold mt_ea at z; omega), rfl⟩ dX1_earlier_50
      · refine lv_iconst (pc := 45) (v := nI 1) S.1 S.2.1 dX1_earlier_45 (by decide) ?_
        refine lv_goto (pc := 46) (tgt := 50) S.1 S.2.1 dX1_earlier_46 (by decide) ?_
        exact hret _ _ _ _ _ _ _ hW z01_1 ⟨bI1 (by unfold mt_ea; omega), rfl⟩ dX1_earlier_50
set_option maxHeartbeats 4000000 in
/-- earliest(r) -/
theorem metX1_earliest (l : Launch) (D : va_G) (h : Nat → Nat) (cZ cI : ClassId) (g : Nat → Nat → Nat) (f : Nat → Nat → Int32) (r : Nat) (hr : r < 3) (hM : g 0 0 ≤ 60) (hv : ∀ c, c < g 0 0 → g 6 (60 * r + c) < 2 ∧ g 10 c < 2 ∧ g 1 c < 2147483648 ∧ g 2 c < 2147483648) : Met l yX1_earliest wsX1_earliest rmX1_earliest (mPc D h cZ cI g f [.int (nI r)]) (va_Qi (fun v (u : zU) => mt_EB g r (g 0 0) v ∧ u = (g, f)) (mB D h cZ cI) (mA h)) 0 0 (mA h) := by
  refine m_metI l (by decide) rfl (Nat.le_of_ble_eq_true rfl) ⟨rfl, rfl⟩ (fun p e s m args below meth cd R Q hR S hret ls hl hW => ?_)
  have hl : lv_has ls 4 [(0, .ref (h 0)), (1, .int (nI r))] := hl
  have loop : ∀ (d i : Nat) (b : Int32), i + d = g 0 0 → mt_EB g r i b → ∀ (H : Heap) (locs : List Loc), MS D h cZ cI s (mA h) H locs g f → ∀ ls : Array Slot, lv_has ls 4 [(0, .ref (h 0)), (1, .int (nI r)), (2, .int b), (3, .int (nI i))] → W p l e R s m args below meth cd H locs 0 0 Q (F0 m 4 ls []) := by
    intro d
    induction d with
    | zero =>
      intro i b hid hE H locs hW ls hl
      refine lv_iload_n (pc := 4) S.1 S.2.1 dX1_earliest_4 rfl (lv_at hl 3 rfl) ?_
      refine m_g_0 (pc := 5) S hW (lv_at hl 0 rfl) dX1_earliest_5 dX1_earliest_6 ?_
      refine z_icmp_ge (pc := 9) (tgt := 56) (x := i) (y := g 0 0) S (by omega) (by omega) dX1_earliest_9 (by decide) (fun c_9 => ?_) (fun c_9 => ?_)
      · refine lv_iload_n (pc := 56) S.1 S.2.1 dX1_earliest_56 rfl (lv_at hl 2 rfl) ?_
        exact hret _ _ _ _ _ _ _ hW ⟨by rw [← hid]; exact hE, rfl⟩ dX1_earliest_57
      · exfalso; omega
    | succ d ih =>
      intro i b hid hE H locs hW ls hl
      obtain ⟨v1, v2, v3, v4⟩ := hv i (by omega)
      refine lv_iload_n (pc := 4) S.1 S.2.1 dX1_earliest_4 rfl (lv_at hl 3 rfl) ?_
      refine m_g_0 (pc := 5) S hW (lv_at hl 0 rfl) dX1_earliest_5 dX1_earliest_6 ?_
      refine z_icmp_ge (pc := 9) (tgt := 56) (x := i) (y := g 0 0) S (by omega) (by omega) dX1_earliest_9 (by decide) (fun c_9 => ?_) (fun c_9 => ?_)
      · exfalso; omega
      · refine m_g_6 (pc := 12) S hW (lv_at hl 0 rfl) dX1_earliest_12 dX1_earliest_13 ?_
        refine lv_bipush (pc := 16) (v := nI 60) S.1 S.2.1 dX1_earliest_16 (by decide) ?_
        refine lv_iload_n (pc := 18) S.1 S.2.1 dX1_earliest_18 rfl (lv_at hl 1 rfl) ?_
        refine z_imul (pc := 19) (x := 60) (y := r) S dX1_earliest_19 ?_
        refine lv_iload_n (pc := 20) S.1 S.2.1 dX1_earliest_20 rfl (lv_at hl 3 rfl) ?_
        refine z_iadd (pc := 21) (x := 60 * r) (y := i) S dX1_earliest_21 ?_
        refine m_ld_6 (pc := 22) (i := (60 * r) + i) (v := g 6 ((60 * r) + i)) S hW (by omega) rfl dX1_earliest_22 ?_
        refine z_if_eq (pc := 23) (tgt := 50) (x := g 6 ((60 * r) + i)) S (by omega) dX1_earliest_23 (by decide) (fun c_23 => ?_) (fun c_23 => ?_)
        · refine lv_iinc (pc := 50) (v := nI (i + 1)) (lv' := [(3, .int (nI (i + 1))), (0, .ref (h 0)), (1, .int (nI r)), (2, .int b)]) S.1 S.2.1 dX1_earliest_50 hl (k := 3) rfl (z_inc1 _) (by decide) rfl (fun ls hl => ?_)
          refine lv_goto (pc := 53) (tgt := 4) S.1 S.2.1 dX1_earliest_53 (by decide) ?_
          exact ih (i + 1) _ (by omega) (mt_EB_skip hE (fun z => absurd c_23 z)) _ _ hW ls (lv_sub hl [1, 2, 3, 0] rfl)
        · refine m_g_10 (pc := 26) S hW (lv_at hl 0 rfl) dX1_earliest_26 dX1_earliest_27 ?_
          refine lv_iload_n (pc := 30) S.1 S.2.1 dX1_earliest_30 rfl (lv_at hl 3 rfl) ?_
          refine m_ld_10 (pc := 31) (i := i) (v := g 10 i) S hW (by omega) rfl dX1_earliest_31 ?_
          refine z_if_ne (pc := 32) (tgt := 50) (x := g 10 i) S (by omega) dX1_earliest_32 (by decide) (fun c_32 => ?_) (fun c_32 => ?_)
          · refine lv_iinc (pc := 50) (v := nI (i + 1)) (lv' := [(3, .int (nI (i + 1))), (0, .ref (h 0)), (1, .int (nI r)), (2, .int b)]) S.1 S.2.1 dX1_earliest_50 hl (k := 3) rfl (z_inc1 _) (by decide) rfl (fun ls hl => ?_)
            refine lv_goto (pc := 53) (tgt := 4) S.1 S.2.1 dX1_earliest_53 (by decide) ?_
            exact ih (i + 1) _ (by omega) (mt_EB_skip hE (fun _ => c_32)) _ _ hW ls (lv_sub hl [1, 2, 3, 0] rfl)
          · rcases hE with ⟨rfl, hE⟩ | ⟨b, b1, rfl, b3, b4, b5⟩
            · skip
              refine lv_iload_n (pc := 35) S.1 S.2.1 dX1_earliest_35 rfl (lv_at hl 2 rfl) ?_
              refine lv_if_lt (pc := 36) (tgt := 48) S.1 S.2.1 dX1_earliest_36 (by decide) (fun c_36 => ?_) (fun c_36 => ?_)
              · refine lv_iload_n (pc := 48) S.1 S.2.1 dX1_earliest_48 rfl (lv_at hl 3 rfl) ?_
                refine lv_istore_n (pc := 49) (lv' := [(2, .int (nI i)), (0, .ref (h 0)), (1, .int (nI r)), (3, .int (nI i))]) S.1 S.2.1 dX1_earliest_49 rfl hl (by decide) rfl (fun ls hl => ?_)
                refine lv_iinc (pc := 50) (v := nI (i + 1)) (lv' := [(3, .int (nI (i + 1))), (2, .int (nI i)), (0, .ref (h 0)), (1, .int (nI r))]) S.1 S.2.1 dX1_earliest_50 hl (k := 3) rfl (z_inc1 _) (by decide) rfl (fun ls hl => ?_)
                refine lv_goto (pc := 53) (tgt := 4) S.1 S.2.1 dX1_earliest_53 (by decide) ?_
                exact ih (i + 1) _ (by omega) (mt_EB_first hE c_23 c_32) _ _ hW ls (lv_sub hl [2, 3, 1, 0] rfl)
              · exact absurd (by decide) c_36
            · obtain ⟨w1, w2, w3, w4⟩ := hv b (by omega)
              refine lv_iload_n (pc := 35) S.1 S.2.1 dX1_earliest_35 rfl (lv_at hl 2 rfl) ?_
              refine z_if_lt_no (pc := 36) (tgt := 48) S (by omega) dX1_earliest_36 (by decide) ?_
              refine lv_aload_n (pc := 39) S.1 S.2.1 dX1_earliest_39 rfl (lv_at hl 0 rfl) ?_
              refine lv_iload_n (pc := 40) S.1 S.2.1 dX1_earliest_40 rfl (lv_at hl 3 rfl) ?_
              refine lv_iload_n (pc := 41) S.1 S.2.1 dX1_earliest_41 rfl (lv_at hl 2 rfl) ?_
              refine m_callr (pc := 42) (As := [.int (nI i), .int (nI b)]) (rest := []) S hW (metX1_earlier l D h cZ cI g f i b (by omega) (by omega) v4 w4 v3 w3) (cwX1_earlier S.2.2.2.2 (by rw [hR]; decide)) rfl hl.1 rfl (Nat.le_of_ble_eq_true rfl) ⟨Nat.zero_le _, Nat.zero_le _⟩ dX1_earliest_42 (fun r_42 H locs hp_42 hW => ?_)
              subst hp_42
              refine z_ifb_eq (pc := 45) (tgt := 50) S dX1_earliest_45 (by decide) (fun c_45 => ?_) (fun c_45 => ?_)
              · refine lv_iinc (pc := 50) (v := nI (i + 1)) (lv' := [(3, .int (nI (i + 1))), (0, .ref (h 0)), (1, .int (nI r)), (2, .int (nI b))]) S.1 S.2.1 dX1_earliest_50 hl (k := 3) rfl (z_inc1 _) (by decide) rfl (fun ls hl => ?_)
                refine lv_goto (pc := 53) (tgt := 4) S.1 S.2.1 dX1_earliest_53 (by decide) ?_
                exact ih (i + 1) _ (by omega) (mt_EB_keep b1 b3 b4 b5 c_45) _ _ hW ls (lv_sub hl [1, 2, 3, 0] rfl)
              · refine lv_iload_n (pc := 48) S.1 S.2.1 dX1_earliest_48 rfl (lv_at hl 3 rfl) ?_
                refine lv_istore_n (pc := 49) (lv' := [(2, .int (nI i)), (0, .ref (h 0)), (1, .int (nI r)), (3, .int (nI i))]) S.1 S.2.1 dX1_earliest_49 rfl hl (by decide) rfl (fun ls hl => ?_)
                refine lv_iinc (pc := 50) (v := nI (i + 1)) (lv' := [(3, .int (nI (i + 1))), (2, .int (nI i)), (0, .ref (h 0)), (1, .int (nI r))]) S.1 S.2.1 dX1_earliest_50 hl (k := 3) rfl (z_inc1 _) (by decide) rfl (fun ls hl => ?_)
                refine lv_goto (pc := 53) (tgt := 4) S.1 S.2.1 dX1_earliest_53 (by decide) ?_
                exact ih (i + 1) _ (by omega) (mt_EB_take b5 c_45 c_23 c_32) _ _ hW ls (lv_sub hl [2, 3, 1, 0] rfl)
  refine lv_iconst (pc := 0) (v := -1) S.1 S.2.1 dX1_earliest_0 (by decide) ?_
  refine lv_istore_n (pc := 1) (lv' := [(2, .int (-1)), (0, .ref (h 0)), (1, .int (nI r))]) S.1 S.2.1 dX1_earliest_1 rfl hl (by decide) rfl (fun ls hl => ?_)
  refine lv_iconst (pc := 2) (v := nI 0) S.1 S.2.1 dX1_earliest_2 (by decide) ?_
  refine lv_istore_n (pc := 3) (lv' := [(3, .int (nI 0)), (2, .int (-1)), (0, .ref (h 0)), (1, .int (nI r))]) S.1 S.2.1 dX1_earliest_3 rfl hl (by decide) rfl (fun ls hl => ?_)
  exact loop (g 0 0) 0 (-1) (by omega) (mt_EB_0 g r) _ _ hW ls (lv_sub hl [2, 3, 1, 0] rfl)
set_option maxHeartbeats 4000000 in
/-- above(node, a) -/
theorem metX1_above (l : Launch) (D : va_G) (h : Nat → Nat) (cZ cI : ClassId) (g : Nat → Nat → Nat) (f : Nat → Nat → Int32) (node a : Int32) (ha : mt_okp a) (hok : ∀ j, j < 10 → mt_okp (f 7 j)) : Met l yX1_above wsX1_above rmX1_above (mPc D h cZ cI g f [.int node, .int a]) (va_Qi (fun v (u : zU) => v = bI (mt_up (f 7) node 10 a = true) ∧ u = (g, f)) (mB D h cZ cI) (mA h)) 0 0 (mA h) := by
  refine m_metZ l (by decide) rfl (Nat.le_of_ble_eq_true rfl) ⟨rfl, rfl⟩ (fun p e s m args below meth cd R Q hR S hret ls hl hW => ?_)
  have hl : lv_has ls 5 [(0, .ref (h 0)), (1, .int node), (2, .int a)] := hl
  have loop : ∀ (n k : Nat) (b : Int32), k + n = 10 → mt_okp b → mt_up (f 7) node n b = mt_up (f 7) node 10 a → ∀ ls : Array Slot, lv_has ls 5 [(0, .ref (h 0)), (1, .int node), (2, .int a), (3, .int b), (4, .int (nI k))] → W p l e R s m args below meth cd s.heap [] 0 0 Q (F0 m 5 ls []) := by
    intro n
    induction n with
    | zero =>
      intro k b hk hb hu ls hl
      refine lv_iload (pc := 5) S.1 S.2.1 dX1_above_5 (lv_at hl 4 rfl) ?_
      refine lv_bipush (pc := 7) (v := nI 10) S.1 S.2.1 dX1_above_7 (by decide) ?_
      refine z_icmp_ge (pc := 9) (tgt := 36) (x := k) (y := 10) S (by omega) (by omega) dX1_above_9 (by decide) (fun c_9 => ?_) (fun c_9 => ?_)
      · refine lv_iconst (pc := 36) (v := nI 0) S.1 S.2.1 dX1_above_36 (by decide) ?_
        exact hret _ _ _ _ _ _ _ hW z01_0 ⟨bI0 (fun z => by rw [← hu] at z; exact absurd (show false = true from z) (by decide)), rfl⟩ dX1_above_37
      · exfalso; omega
    | succ n ih =>
      intro k b hk hb hu ls hl
      refine lv_iload (pc := 5) S.1 S.2.1 dX1_above_5 (lv_at hl 4 rfl) ?_
      refine lv_bipush (pc := 7) (v := nI 10) S.1 S.2.1 dX1_above_7 (by decide) ?_
      refine z_icmp_ge (pc := 9) (tgt := 36) (x := k) (y := 10) S (by omega) (by omega) dX1_above_9 (by decide) (fun c_9 => ?_) (fun c_9 => ?_)
      · exfalso; omega
      · refine lv_iload_n (pc := 12) S.1 S.2.1 dX1_above_12 rfl (lv_at hl 3 rfl) ?_
        refine lv_if_lt (pc := 13) (tgt := 36) S.1 S.2.1 dX1_above_13 (by decide) (fun c_13 => ?_) (fun c_13 => ?_)
        · have hu2 : mt_up (f 7) node (n + 1) b = false := by unfold mt_up; rw [if_pos c_13]
          refine lv_iconst (pc := 36) (v := nI 0) S.1 S.2.1 dX1_above_36 (by decide) ?_
          exact hret _ _ _ _ _ _ _ hW z01_0 ⟨bI0 (fun z => by rw [← hu, hu2] at z; exact absurd z (by decide)), rfl⟩ dX1_above_37
        · refine lv_iload_n (pc := 16) S.1 S.2.1 dX1_above_16 rfl (lv_at hl 3 rfl) ?_
          refine lv_iload_n (pc := 17) S.1 S.2.1 dX1_above_17 rfl (lv_at hl 1 rfl) ?_
          refine lv_icmp_ne (pc := 18) (tgt := 23) S.1 S.2.1 dX1_above_18 (by decide) (fun c_18 => ?_) (fun c_18 => ?_)
          · have hu2 : mt_up (f 7) node (n + 1) b = mt_up (f 7) node n (f 7 b.toNatClampNeg) := by
              show (if b < 0 then false else if b = node then true else mt_up (f 7) node n (f 7 b.toNatClampNeg)) = _
              rw [if_neg c_13, if_neg c_18]
            obtain ⟨j, hj, rfl⟩ := mt_okp_neg hb c_13
            rw [nI_clamp (by omega)] at hu2
            refine m_g_7 (pc := 23) S hW (lv_at hl 0 rfl) dX1_above_23 dX1_above_24 ?_
            refine lv_iload_n (pc := 27) S.1 S.2.1 dX1_above_27 rfl (lv_at hl 3 rfl) ?_
            refine m_ld_7 (pc := 28) (i := j) (v := f 7 j) S hW (by omega) rfl dX1_above_28 ?_
            refine lv_istore_n (pc := 29) (lv' := [(3, .int (f 7 j)), (0, .ref (h 0)), (1, .int node), (2, .int a), (4, .int (nI k))]) S.1 S.2.1 dX1_above_29 rfl hl (by decide) rfl (fun ls hl => ?_)
            refine lv_iinc (pc := 30) (v := nI (k + 1)) (lv' := [(4, .int (nI (k + 1))), (3, .int (f 7 j)), (0, .ref (h 0)), (1, .int node), (2, .int a)]) S.1 S.2.1 dX1_above_30 hl (k := 4) rfl (z_inc1 _) (by decide) rfl (fun ls hl => ?_)
            refine lv_goto (pc := 33) (tgt := 5) S.1 S.2.1 dX1_above_33 (by decide) ?_
            exact ih (k + 1) _ (by omega) (hok j hj) (by rw [← hu2]; exact hu) ls (lv_sub hl [2, 3, 4, 1, 0] rfl)
          · have hu2 : mt_up (f 7) node (n + 1) b = true := by unfold mt_up; rw [if_neg c_13, if_pos c_18]
            refine lv_iconst (pc := 21) (v := nI 1) S.1 S.2.1 dX1_above_21 (by decide) ?_
            exact hret _ _ _ _ _ _ _ hW z01_1 ⟨bI1 (by rw [← hu, hu2]), rfl⟩ dX1_above_22
  refine lv_iload_n (pc := 0) S.1 S.2.1 dX1_above_0 rfl (lv_at hl 2 rfl) ?_
  refine lv_istore_n (pc := 1) (lv' := [(3, .int a), (0, .ref (h 0)), (1, .int node), (2, .int a)]) S.1 S.2.1 dX1_above_1 rfl hl (by decide) rfl (fun ls hl => ?_)
  refine lv_iconst (pc := 2) (v := nI 0) S.1 S.2.1 dX1_above_2 (by decide) ?_
  refine lv_istore (pc := 3) (lv' := [(4, .int (nI 0)), (3, .int a), (0, .ref (h 0)), (1, .int node), (2, .int a)]) S.1 S.2.1 dX1_above_3 hl (by decide) rfl (fun ls hl => ?_)
  exact loop 10 0 a rfl ha rfl ls (lv_sub hl [2, 3, 4, 1, 0] rfl)
set_option maxHeartbeats 4000000 in
/-- make(r, b, nd, x) -/
theorem metX1_make (l : Launch) (D : va_G) (h : Nat → Nat) (cZ cI : ClassId) (g : Nat → Nat → Nat) (f : Nat → Nat → Int32) (r b nd : Nat) (x : Int32) (hr : r < 3) (hb : b < 2) (hM : g 0 0 < 60) (hv : ∀ c, c < g 0 0 → g 6 (60 * r + c) < 2 ∧ g 2 c < 2147483647) : Met l yX1_make wsX1_make rmX1_make (mPc D h cZ cI g f [.int (nI r), .int (nI b), .int (nI nd), .int x]) (va_Qi (fun v (u : zU) => v = nI (g 0 0) ∧ ∃ mx, mt_MX g r (g 0 0) mx ∧ u = (mt_ng g r b nd mx, st2 f 5 (g 0 0) x)) (mB D h cZ cI) (mA h)) 0 0 (mA h) := by
  refine m_metI l (by decide) rfl (Nat.le_of_ble_eq_true rfl) ⟨rfl, rfl⟩ (fun p e s m args below meth cd R Q hR S hret ls hl hW => ?_)
  have hl : lv_has ls 7 [(0, .ref (h 0)), (1, .int (nI r)), (2, .int (nI b)), (3, .int (nI nd)), (4, .int x)] := hl
  have loop : ∀ (d i mx : Nat), i + d = g 0 0 → mt_MX g r i mx → ∀ (H : Heap) (locs : List Loc), MS D h cZ cI s (mA h) H locs g f → ∀ ls : Array Slot, lv_has ls 7 [(0, .ref (h 0)), (1, .int (nI r)), (2, .int (nI b)), (3, .int (nI nd)), (4, .int x), (5, .int (nI mx)), (6, .int (nI i))] → W p l e R s m args below meth cd H locs 0 0 Q (F0 m 6 ls []) := by
    intro d
    induction d with
    | zero =>
      intro i mx hid hE H locs hW ls hl
      refine lv_iload (pc := 6) S.1 S.2.1 dX1_make_6 (lv_at hl 6 rfl) ?_
      refine m_g_0 (pc := 8) S hW (lv_at hl 0 rfl) dX1_make_8 dX1_make_9 ?_
      refine z_icmp_ge (pc := 12) (tgt := 57) (x := i) (y := g 0 0) S (by omega) (by omega) dX1_make_12 (by decide) (fun c_12 => ?_) (fun c_12 => ?_)
      · refine m_g_1 (pc := 57) S hW (lv_at hl 0 rfl) dX1_make_57 dX1_make_58 ?_
        refine m_g_0 (pc := 61) S hW (lv_at hl 0 rfl) dX1_make_61 dX1_make_62 ?_
        refine lv_iload_n (pc := 65) S.1 S.2.1 dX1_make_65 rfl (lv_at hl 1 rfl) ?_
        refine m_st_1 (pc := 66) (i := g 0 0) (v := r) S hW (by omega) dX1_make_66 (fun H locs hW => ?_)
        refine m_g_2 (pc := 67) S hW (lv_at hl 0 rfl) dX1_make_67 dX1_make_68 ?_
        refine m_g_0 (pc := 71) S hW (lv_at hl 0 rfl) dX1_make_71 dX1_make_72 ?_
        refine W.eq (g2 := F0 m 75 ls [.int (nI (g 0 0)), .ref (h 2)]) rfl ?_
        refine lv_iload (pc := 75) S.1 S.2.1 dX1_make_75 (lv_at hl 5 rfl) ?_
        refine lv_iconst (pc := 77) (v := nI 1) S.1 S.2.1 dX1_make_77 (by decide) ?_
        refine z_iadd (pc := 78) (x := mx) (y := 1) S dX1_make_78 ?_
        refine m_st_2 (pc := 79) (i := g 0 0) (v := mx + 1) S hW (by omega) dX1_make_79 (fun H locs hW => ?_)
        refine m_g_3 (pc := 80) S hW (lv_at hl 0 rfl) dX1_make_80 dX1_make_81 ?_
        refine m_g_0 (pc := 84) S hW (lv_at hl 0 rfl) dX1_make_84 dX1_make_85 ?_
        refine W.eq (g2 := F0 m 88 ls [.int (nI (g 0 0)), .ref (h 3)]) rfl ?_
        refine lv_iload_n (pc := 88) S.1 S.2.1 dX1_make_88 rfl (lv_at hl 2 rfl) ?_
        refine m_st_3 (pc := 89) (i := g 0 0) (v := b) S hW (by omega) (by omega) dX1_make_89 (fun H locs hW => ?_)
        refine m_g_4 (pc := 90) S hW (lv_at hl 0 rfl) dX1_make_90 dX1_make_91 ?_
        refine m_g_0 (pc := 94) S hW (lv_at hl 0 rfl) dX1_make_94 dX1_make_95 ?_
        refine W.eq (g2 := F0 m 98 ls [.int (nI (g 0 0)), .ref (h 4)]) rfl ?_
        refine lv_iload_n (pc := 98) S.1 S.2.1 dX1_make_98 rfl (lv_at hl 3 rfl) ?_
        refine m_st_4 (pc := 99) (i := g 0 0) (v := nd) S hW (by omega) dX1_make_99 (fun H locs hW => ?_)
        refine m_g_5 (pc := 100) S hW (lv_at hl 0 rfl) dX1_make_100 dX1_make_101 ?_
        refine m_g_0 (pc := 104) S hW (lv_at hl 0 rfl) dX1_make_104 dX1_make_105 ?_
        refine W.eq (g2 := F0 m 108 ls [.int (nI (g 0 0)), .ref (h 5)]) rfl ?_
        refine lv_iload (pc := 108) S.1 S.2.1 dX1_make_108 (lv_at hl 4 rfl) ?_
        refine m_st_5 (pc := 110) (i := g 0 0) (v := x) S hW (by omega) dX1_make_110 (fun H locs hW => ?_)
        refine m_g_6 (pc := 111) S hW (lv_at hl 0 rfl) dX1_make_111 dX1_make_112 ?_
        refine lv_bipush (pc := 115) (v := nI 60) S.1 S.2.1 dX1_make_115 (by decide) ?_
        refine lv_iload_n (pc := 117) S.1 S.2.1 dX1_make_117 rfl (lv_at hl 1 rfl) ?_
        refine z_imul (pc := 118) (x := 60) (y := r) S dX1_make_118 ?_
        refine m_g_0 (pc := 119) S hW (lv_at hl 0 rfl) dX1_make_119 dX1_make_120 ?_
        refine W.eq (g2 := F0 m 123 ls [.int (nI (g 0 0)), .int (nI (60 * r)), .ref (h 6)]) rfl ?_
        refine z_iadd (pc := 123) (x := 60 * r) (y := g 0 0) S dX1_make_123 ?_
        refine lv_iconst (pc := 124) (v := nI 1) S.1 S.2.1 dX1_make_124 (by decide) ?_
        refine m_st_6 (pc := 125) (i := (60 * r) + (g 0 0)) (v := 1) S hW (by omega) (by decide) dX1_make_125 (fun H locs hW => ?_)
        refine lv_aload_n (pc := 126) S.1 S.2.1 dX1_make_126 rfl (lv_at hl 0 rfl) ?_
        refine lv_dup (pc := 127) S.1 S.2.1 dX1_make_127 rfl ?_
        refine m_gf_0 (pc := 128) S hW dX1_make_128 ?_
        refine lv_iconst (pc := 131) (v := nI 1) S.1 S.2.1 dX1_make_131 (by decide) ?_
        refine z_iadd (pc := 132) (x := g 0 0) (y := 1) S dX1_make_132 ?_
        refine m_pf_0 (pc := 133) (v := (g 0 0) + 1) S hW dX1_make_133 (fun H locs hW => ?_)
        refine m_g_0 (pc := 136) S hW (lv_at hl 0 rfl) dX1_make_136 dX1_make_137 ?_
        refine W.eq (g2 := F0 m 140 ls [.int (nI ((g 0 0) + 1))]) rfl ?_
        refine lv_iconst (pc := 140) (v := nI 1) S.1 S.2.1 dX1_make_140 (by decide) ?_
        refine z_isub (pc := 141) (x := ((g 0 0) + 1)) (y := 1) S (by omega) dX1_make_141 ?_
        exact hret _ _ _ _ _ _ _ hW ⟨by rw [Nat.add_sub_cancel], mx, by rw [← hid]; exact hE, rfl⟩ dX1_make_142
      · exfalso; omega
    | succ d ih =>
      intro i mx hid hE H locs hW ls hl
      obtain ⟨v1, v2⟩ := hv i (by omega)
      have hmx := mt_MX_lt hE (fun c hc => (hv c (by omega)).2)
      refine lv_iload (pc := 6) S.1 S.2.1 dX1_make_6 (lv_at hl 6 rfl) ?_
      refine m_g_0 (pc := 8) S hW (lv_at hl 0 rfl) dX1_make_8 dX1_make_9 ?_
      refine z_icmp_ge (pc := 12) (tgt := 57) (x := i) (y := g 0 0) S (by omega) (by omega) dX1_make_12 (by decide) (fun c_12 => ?_) (fun c_12 => ?_)
      · exfalso; omega
      · refine m_g_6 (pc := 15) S hW (lv_at hl 0 rfl) dX1_make_15 dX1_make_16 ?_
        refine lv_bipush (pc := 19) (v := nI 60) S.1 S.2.1 dX1_make_19 (by decide) ?_
        refine lv_iload_n (pc := 21) S.1 S.2.1 dX1_make_21 rfl (lv_at hl 1 rfl) ?_
        refine z_imul (pc := 22) (x := 60) (y := r) S dX1_make_22 ?_
        refine lv_iload (pc := 23) S.1 S.2.1 dX1_make_23 (lv_at hl 6 rfl) ?_
        refine z_iadd (pc := 25) (x := 60 * r) (y := i) S dX1_make_25 ?_
        refine m_ld_6 (pc := 26) (i := (60 * r) + i) (v := g 6 ((60 * r) + i)) S hW (by omega) rfl dX1_make_26 ?_
        refine z_if_eq (pc := 27) (tgt := 51) (x := g 6 ((60 * r) + i)) S (by omega) dX1_make_27 (by decide) (fun c_27 => ?_) (fun c_27 => ?_)
        · refine lv_iinc (pc := 51) (v := nI (i + 1)) (lv' := [(6, .int (nI (i + 1))), (0, .ref (h 0)), (1, .int (nI r)), (2, .int (nI b)), (3, .int (nI nd)), (4, .int x), (5, .int (nI mx))]) S.1 S.2.1 dX1_make_51 hl (k := 6) rfl (z_inc1 _) (by decide) rfl (fun ls hl => ?_)
          refine lv_goto (pc := 54) (tgt := 6) S.1 S.2.1 dX1_make_54 (by decide) ?_
          exact ih (i + 1) _ (by omega) (mt_MX_no hE (fun z => absurd c_27 z)) _ _ hW ls (lv_sub hl [1, 2, 3, 4, 5, 6, 0] rfl)
        · refine m_g_2 (pc := 30) S hW (lv_at hl 0 rfl) dX1_make_30 dX1_make_31 ?_
          refine lv_iload (pc := 34) S.1 S.2.1 dX1_make_34 (lv_at hl 6 rfl) ?_
          refine m_ld_2 (pc := 36) (i := i) (v := g 2 i) S hW (by omega) rfl dX1_make_36 ?_
          refine lv_iload (pc := 37) S.1 S.2.1 dX1_make_37 (lv_at hl 5 rfl) ?_
          refine z_icmp_le (pc := 39) (tgt := 51) (x := g 2 i) (y := mx) S (by omega) (by omega) dX1_make_39 (by decide) (fun c_39 => ?_) (fun c_39 => ?_)
          · refine lv_iinc (pc := 51) (v := nI (i + 1)) (lv' := [(6, .int (nI (i + 1))), (0, .ref (h 0)), (1, .int (nI r)), (2, .int (nI b)), (3, .int (nI nd)), (4, .int x), (5, .int (nI mx))]) S.1 S.2.1 dX1_make_51 hl (k := 6) rfl (z_inc1 _) (by decide) rfl (fun ls hl => ?_)
            refine lv_goto (pc := 54) (tgt := 6) S.1 S.2.1 dX1_make_54 (by decide) ?_
            exact ih (i + 1) _ (by omega) (mt_MX_no hE (fun _ => c_39)) _ _ hW ls (lv_sub hl [1, 2, 3, 4, 5, 6, 0] rfl)
          · refine m_g_2 (pc := 42) S hW (lv_at hl 0 rfl) dX1_make_42 dX1_make_43 ?_
            refine lv_iload (pc := 46) S.1 S.2.1 dX1_make_46 (lv_at hl 6 rfl) ?_
            refine m_ld_2 (pc := 48) (i := i) (v := g 2 i) S hW (by omega) rfl dX1_make_48 ?_
            refine lv_istore (pc := 49) (lv' := [(5, .int (nI (g 2 i))), (0, .ref (h 0)), (1, .int (nI r)), (2, .int (nI b)), (3, .int (nI nd)), (4, .int x), (6, .int (nI i))]) S.1 S.2.1 dX1_make_49 hl (by decide) rfl (fun ls hl => ?_)
            refine lv_iinc (pc := 51) (v := nI (i + 1)) (lv' := [(6, .int (nI (i + 1))), (5, .int (nI (g 2 i))), (0, .ref (h 0)), (1, .int (nI r)), (2, .int (nI b)), (3, .int (nI nd)), (4, .int x)]) S.1 S.2.1 dX1_make_51 hl (k := 6) rfl (z_inc1 _) (by decide) rfl (fun ls hl => ?_)
            refine lv_goto (pc := 54) (tgt := 6) S.1 S.2.1 dX1_make_54 (by decide) ?_
            exact ih (i + 1) _ (by omega) (mt_MX_yes hE c_27 c_39) _ _ hW ls (lv_sub hl [2, 3, 4, 5, 6, 1, 0] rfl)
  refine lv_iconst (pc := 0) (v := nI 0) S.1 S.2.1 dX1_make_0 (by decide) ?_
  refine lv_istore (pc := 1) (lv' := [(5, .int (nI 0)), (0, .ref (h 0)), (1, .int (nI r)), (2, .int (nI b)), (3, .int (nI nd)), (4, .int x)]) S.1 S.2.1 dX1_make_1 hl (by decide) rfl (fun ls hl => ?_)
  refine lv_iconst (pc := 3) (v := nI 0) S.1 S.2.1 dX1_make_3 (by decide) ?_
  refine lv_istore (pc := 4) (lv' := [(6, .int (nI 0)), (5, .int (nI 0)), (0, .ref (h 0)), (1, .int (nI r)), (2, .int (nI b)), (3, .int (nI nd)), (4, .int x)]) S.1 S.2.1 dX1_make_4 hl (by decide) rfl (fun ls hl => ?_)
  exact loop (g 0 0) 0 0 (by omega) (mt_MX_0 g r) _ _ hW ls (lv_sub hl [2, 3, 4, 5, 6, 1, 0] rfl)
end
section
set_option maxRecDepth 100000
theorem dX1_carryOut_0 : decode cX1_carryOut 0 = .ok (.iconst 0, 1) := by decide +kernel
theorem dX1_carryOut_1 : decode cX1_carryOut 1 = .ok (.istore_n 3, 1) := by decide +kernel
theorem dX1_carryOut_2 : decode cX1_carryOut 2 = .ok (.aload_n 0, 1) := by decide +kernel
theorem dX1_carryOut_3 : decode cX1_carryOut 3 = .ok (.iconst 0, 1) := by decide +kernel
theorem dX1_carryOut_4 : decode cX1_carryOut 4 = .ok (.putfield 52, 3) := by decide +kernel
theorem dX1_carryOut_7 : decode cX1_carryOut 7 = .ok (.iconst 0, 1) := by decide +kernel
theorem dX1_carryOut_8 : decode cX1_carryOut 8 = .ok (.istore 4, 2) := by decide +kernel
theorem dX1_carryOut_10 : decode cX1_carryOut 10 = .ok (.iload 4, 2) := by decide +kernel
theorem dX1_carryOut_12 : decode cX1_carryOut 12 = .ok (.bipush 60, 2) := by decide +kernel
theorem dX1_carryOut_14 : decode cX1_carryOut 14 = .ok (.if_icmp .ge 17, 3) := by decide +kernel
theorem dX1_carryOut_17 : decode cX1_carryOut 17 = .ok (.aload_n 0, 1) := by decide +kernel
theorem dX1_carryOut_18 : decode cX1_carryOut 18 = .ok (.getfield 35, 3) := by decide +kernel
theorem dX1_carryOut_21 : decode cX1_carryOut 21 = .ok (.iload 4, 2) := by decide +kernel
theorem dX1_carryOut_23 : decode cX1_carryOut 23 = .ok (.iconst 0, 1) := by decide +kernel
theorem dX1_carryOut_24 : decode cX1_carryOut 24 = .ok (.bastore, 1) := by decide +kernel
theorem dX1_carryOut_25 : decode cX1_carryOut 25 = .ok (.iinc 4 1, 3) := by decide +kernel
theorem dX1_carryOut_28 : decode cX1_carryOut 28 = .ok (.goto (-18), 3) := by decide +kernel
theorem dX1_carryOut_31 : decode cX1_carryOut 31 = .ok (.iconst 0, 1) := by decide +kernel
theorem dX1_carryOut_32 : decode cX1_carryOut 32 = .ok (.istore 4, 2) := by decide +kernel
theorem dX1_carryOut_34 : decode cX1_carryOut 34 = .ok (.iload 4, 2) := by decide +kernel
theorem dX1_carryOut_36 : decode cX1_carryOut 36 = .ok (.bipush 10, 2) := by decide +kernel
theorem dX1_carryOut_38 : decode cX1_carryOut 38 = .ok (.if_icmp .ge 25, 3) := by decide +kernel
theorem dX1_carryOut_41 : decode cX1_carryOut 41 = .ok (.aload_n 0, 1) := by decide +kernel
theorem dX1_carryOut_42 : decode cX1_carryOut 42 = .ok (.getfield 29, 3) := by decide +kernel
theorem dX1_carryOut_45 : decode cX1_carryOut 45 = .ok (.iload 4, 2) := by decide +kernel
theorem dX1_carryOut_47 : decode cX1_carryOut 47 = .ok (.iconst (-1), 1) := by decide +kernel
theorem dX1_carryOut_48 : decode cX1_carryOut 48 = .ok (.iastore, 1) := by decide +kernel
theorem dX1_carryOut_49 : decode cX1_carryOut 49 = .ok (.aload_n 0, 1) := by decide +kernel
theorem dX1_carryOut_50 : decode cX1_carryOut 50 = .ok (.getfield 32, 3) := by decide +kernel
theorem dX1_carryOut_53 : decode cX1_carryOut 53 = .ok (.iload 4, 2) := by decide +kernel
theorem dX1_carryOut_55 : decode cX1_carryOut 55 = .ok (.iconst 0, 1) := by decide +kernel
theorem dX1_carryOut_56 : decode cX1_carryOut 56 = .ok (.iastore, 1) := by decide +kernel
theorem dX1_carryOut_57 : decode cX1_carryOut 57 = .ok (.iinc 4 1, 3) := by decide +kernel
theorem dX1_carryOut_60 : decode cX1_carryOut 60 = .ok (.goto (-26), 3) := by decide +kernel
theorem dX1_carryOut_63 : decode cX1_carryOut 63 = .ok (.iconst 0, 1) := by decide +kernel
theorem dX1_carryOut_64 : decode cX1_carryOut 64 = .ok (.istore 4, 2) := by decide +kernel
theorem dX1_carryOut_66 : decode cX1_carryOut 66 = .ok (.iload 4, 2) := by decide +kernel
theorem dX1_carryOut_68 : decode cX1_carryOut 68 = .ok (.aload_n 0, 1) := by decide +kernel
theorem dX1_carryOut_69 : decode cX1_carryOut 69 = .ok (.getfield 44, 3) := by decide +kernel
theorem dX1_carryOut_72 : decode cX1_carryOut 72 = .ok (.if_icmp .ge 158, 3) := by decide +kernel
theorem dX1_carryOut_75 : decode cX1_carryOut 75 = .ok (.aload_n 0, 1) := by decide +kernel
theorem dX1_carryOut_76 : decode cX1_carryOut 76 = .ok (.iload_n 1, 1) := by decide +kernel
theorem dX1_carryOut_77 : decode cX1_carryOut 77 = .ok (.invokevirtual 55, 3) := by decide +kernel
theorem dX1_carryOut_80 : decode cX1_carryOut 80 = .ok (.istore 5, 2) := by decide +kernel
theorem dX1_carryOut_82 : decode cX1_carryOut 82 = .ok (.iload 5, 2) := by decide +kernel
theorem dX1_carryOut_84 : decode cX1_carryOut 84 = .ok (.ifCond .lt 140, 3) := by decide +kernel
theorem dX1_carryOut_87 : decode cX1_carryOut 87 = .ok (.aload_n 0, 1) := by decide +kernel
theorem dX1_carryOut_88 : decode cX1_carryOut 88 = .ok (.getfield 35, 3) := by decide +kernel
theorem dX1_carryOut_91 : decode cX1_carryOut 91 = .ok (.iload 5, 2) := by decide +kernel
theorem dX1_carryOut_93 : decode cX1_carryOut 93 = .ok (.iconst 1, 1) := by decide +kernel
theorem dX1_carryOut_94 : decode cX1_carryOut 94 = .ok (.bastore, 1) := by decide +kernel
theorem dX1_carryOut_95 : decode cX1_carryOut 95 = .ok (.aload_n 0, 1) := by decide +kernel
theorem dX1_carryOut_96 : decode cX1_carryOut 96 = .ok (.getfield 16, 3) := by decide +kernel
theorem dX1_carryOut_99 : decode cX1_carryOut 99 = .ok (.iload 5, 2) := by decide +kernel
theorem dX1_carryOut_101 : decode cX1_carryOut 101 = .ok (.baload, 1) := by decide +kernel
theorem dX1_carryOut_102 : decode cX1_carryOut 102 = .ok (.ifCond .eq 28, 3) := by decide +kernel
theorem dX1_carryOut_105 : decode cX1_carryOut 105 = .ok (.aload_n 0, 1) := by decide +kernel
theorem dX1_carryOut_106 : decode cX1_carryOut 106 = .ok (.aload_n 0, 1) := by decide +kernel
theorem dX1_carryOut_107 : decode cX1_carryOut 107 = .ok (.getfield 20, 3) := by decide +kernel
theorem dX1_carryOut_110 : decode cX1_carryOut 110 = .ok (.iload 5, 2) := by decide +kernel
theorem dX1_carryOut_112 : decode cX1_carryOut 112 = .ok (.iaload, 1) := by decide +kernel
theorem dX1_carryOut_113 : decode cX1_carryOut 113 = .ok (.aload_n 0, 1) := by decide +kernel
theorem dX1_carryOut_114 : decode cX1_carryOut 114 = .ok (.getfield 23, 3) := by decide +kernel
theorem dX1_carryOut_117 : decode cX1_carryOut 117 = .ok (.iload 5, 2) := by decide +kernel
theorem dX1_carryOut_119 : decode cX1_carryOut 119 = .ok (.iaload, 1) := by decide +kernel
theorem dX1_carryOut_120 : decode cX1_carryOut 120 = .ok (.invokevirtual 59, 3) := by decide +kernel
theorem dX1_carryOut_123 : decode cX1_carryOut 123 = .ok (.ifCond .eq 7, 3) := by decide +kernel
theorem dX1_carryOut_126 : decode cX1_carryOut 126 = .ok (.iconst 1, 1) := by decide +kernel
theorem dX1_carryOut_127 : decode cX1_carryOut 127 = .ok (.goto 4, 3) := by decide +kernel
theorem dX1_carryOut_130 : decode cX1_carryOut 130 = .ok (.iconst 0, 1) := by decide +kernel
theorem dX1_carryOut_131 : decode cX1_carryOut 131 = .ok (.istore 6, 2) := by decide +kernel
theorem dX1_carryOut_133 : decode cX1_carryOut 133 = .ok (.iload 6, 2) := by decide +kernel
theorem dX1_carryOut_135 : decode cX1_carryOut 135 = .ok (.ifCond .eq 13, 3) := by decide +kernel
theorem dX1_carryOut_138 : decode cX1_carryOut 138 = .ok (.aload_n 0, 1) := by decide +kernel
theorem dX1_carryOut_139 : decode cX1_carryOut 139 = .ok (.dup, 1) := by decide +kernel
theorem dX1_carryOut_140 : decode cX1_carryOut 140 = .ok (.getfield 52, 3) := by decide +kernel
theorem dX1_carryOut_143 : decode cX1_carryOut 143 = .ok (.iconst 1, 1) := by decide +kernel
theorem dX1_carryOut_144 : decode cX1_carryOut 144 = .ok (.iadd, 1) := by decide +kernel
theorem dX1_carryOut_145 : decode cX1_carryOut 145 = .ok (.putfield 52, 3) := by decide +kernel
theorem dX1_carryOut_148 : decode cX1_carryOut 148 = .ok (.iload 6, 2) := by decide +kernel
theorem dX1_carryOut_150 : decode cX1_carryOut 150 = .ok (.ifCond .eq 11, 3) := by decide +kernel
theorem dX1_carryOut_153 : decode cX1_carryOut 153 = .ok (.iload 5, 2) := by decide +kernel
theorem dX1_carryOut_155 : decode cX1_carryOut 155 = .ok (.iload_n 2, 1) := by decide +kernel
theorem dX1_carryOut_156 : decode cX1_carryOut 156 = .ok (.if_icmp .ne 5, 3) := by decide +kernel
theorem dX1_carryOut_159 : decode cX1_carryOut 159 = .ok (.iconst 1, 1) := by decide +kernel
theorem dX1_carryOut_160 : decode cX1_carryOut 160 = .ok (.istore_n 3, 1) := by decide +kernel
theorem dX1_carryOut_161 : decode cX1_carryOut 161 = .ok (.aload_n 0, 1) := by decide +kernel
theorem dX1_carryOut_162 : decode cX1_carryOut 162 = .ok (.getfield 16, 3) := by decide +kernel
theorem dX1_carryOut_165 : decode cX1_carryOut 165 = .ok (.iload 5, 2) := by decide +kernel
theorem dX1_carryOut_167 : decode cX1_carryOut 167 = .ok (.baload, 1) := by decide +kernel
theorem dX1_carryOut_168 : decode cX1_carryOut 168 = .ok (.ifCond .eq 27, 3) := by decide +kernel
theorem dX1_carryOut_171 : decode cX1_carryOut 171 = .ok (.iload 6, 2) := by decide +kernel
theorem dX1_carryOut_173 : decode cX1_carryOut 173 = .ok (.ifCond .ne 22, 3) := by decide +kernel
theorem dX1_carryOut_176 : decode cX1_carryOut 176 = .ok (.aload_n 0, 1) := by decide +kernel
theorem dX1_carryOut_177 : decode cX1_carryOut 177 = .ok (.getfield 29, 3) := by decide +kernel
theorem dX1_carryOut_180 : decode cX1_carryOut 180 = .ok (.aload_n 0, 1) := by decide +kernel
theorem dX1_carryOut_181 : decode cX1_carryOut 181 = .ok (.getfield 20, 3) := by decide +kernel
theorem dX1_carryOut_184 : decode cX1_carryOut 184 = .ok (.iload 5, 2) := by decide +kernel
theorem dX1_carryOut_186 : decode cX1_carryOut 186 = .ok (.iaload, 1) := by decide +kernel
theorem dX1_carryOut_187 : decode cX1_carryOut 187 = .ok (.aload_n 0, 1) := by decide +kernel
theorem dX1_carryOut_188 : decode cX1_carryOut 188 = .ok (.getfield 23, 3) := by decide +kernel
theorem dX1_carryOut_191 : decode cX1_carryOut 191 = .ok (.iload 5, 2) := by decide +kernel
theorem dX1_carryOut_193 : decode cX1_carryOut 193 = .ok (.iaload, 1) := by decide +kernel
theorem dX1_carryOut_194 : decode cX1_carryOut 194 = .ok (.iastore, 1) := by decide +kernel
theorem dX1_carryOut_195 : decode cX1_carryOut 195 = .ok (.aload_n 0, 1) := by decide +kernel
theorem dX1_carryOut_196 : decode cX1_carryOut 196 = .ok (.getfield 16, 3) := by decide +kernel
theorem dX1_carryOut_199 : decode cX1_carryOut 199 = .ok (.iload 5, 2) := by decide +kernel
theorem dX1_carryOut_201 : decode cX1_carryOut 201 = .ok (.baload, 1) := by decide +kernel
theorem dX1_carryOut_202 : decode cX1_carryOut 202 = .ok (.ifCond .ne 22, 3) := by decide +kernel
theorem dX1_carryOut_205 : decode cX1_carryOut 205 = .ok (.aload_n 0, 1) := by decide +kernel
theorem dX1_carryOut_206 : decode cX1_carryOut 206 = .ok (.getfield 32, 3) := by decide +kernel
theorem dX1_carryOut_209 : decode cX1_carryOut 209 = .ok (.aload_n 0, 1) := by decide +kernel
theorem dX1_carryOut_210 : decode cX1_carryOut 210 = .ok (.getfield 20, 3) := by decide +kernel
theorem dX1_carryOut_213 : decode cX1_carryOut 213 = .ok (.iload 5, 2) := by decide +kernel
theorem dX1_carryOut_215 : decode cX1_carryOut 215 = .ok (.iaload, 1) := by decide +kernel
theorem dX1_carryOut_216 : decode cX1_carryOut 216 = .ok (.aload_n 0, 1) := by decide +kernel
theorem dX1_carryOut_217 : decode cX1_carryOut 217 = .ok (.getfield 23, 3) := by decide +kernel
theorem dX1_carryOut_220 : decode cX1_carryOut 220 = .ok (.iload 5, 2) := by decide +kernel
theorem dX1_carryOut_222 : decode cX1_carryOut 222 = .ok (.iaload, 1) := by decide +kernel
theorem dX1_carryOut_223 : decode cX1_carryOut 223 = .ok (.iastore, 1) := by decide +kernel
theorem dX1_carryOut_224 : decode cX1_carryOut 224 = .ok (.iinc 4 1, 3) := by decide +kernel
theorem dX1_carryOut_227 : decode cX1_carryOut 227 = .ok (.goto (-161), 3) := by decide +kernel
theorem dX1_carryOut_230 : decode cX1_carryOut 230 = .ok (.iload_n 3, 1) := by decide +kernel
theorem dX1_carryOut_231 : decode cX1_carryOut 231 = .ok (.ireturn, 1) := by decide +kernel

theorem mt_CC_0 {g g1 : Nat → Nat → Nat} {f f1 : Nat → Nat → Int32} (lg : Nat → Nat) (a1 : ∀ a, a ≠ 9 → a ≠ 10 → g1 a = g a) (a2 : g1 9 0 = 0) (a3 : ∀ c, c < 60 → g1 10 c = 0) (a4 : ∀ a, a ≠ 7 → a ≠ 8 → f1 a = f a) (a5 : ∀ j, j < 10 → f1 7 j = -1 ∧ f1 8 j = nI 0) : mt_CC g f lg 0 g1 f1 :=
  ⟨a1, a4, a2, fun j hj => ⟨(a5 j hj).1, (a5 j hj).2⟩, fun c hc => ⟨by rw [a3 c hc]; decide, fun z => absurd (a3 c hc) z, fun ⟨j, hj, _⟩ => absurd hj (by omega)⟩⟩
set_option maxHeartbeats 4000000 in
/-- carryOut(r, named) -/
theorem metX1_carryOut (l : Launch) (D : va_G) (h : Nat → Nat) (cZ cI : ClassId) (g : Nat → Nat → Nat) (f : Nat → Nat → Int32) (r : Nat) (named : Int32) (lg : Nat → Nat) (n : Nat) (hr : r < 3) (hL : mt_LV g f r lg n) : Met l yX1_carryOut wsX1_carryOut rmX1_carryOut (mPc D h cZ cI g f [.int (nI r), .int named]) (va_Qi (fun v (u : zU) => v = bI (mt_KP (mt_mq g f lg) lg named n) ∧ mt_CO g f lg n u) (mB D h cZ cI) (mA h)) 0 0 (mA h) := by
  refine m_metZ l (by decide) rfl (Nat.le_of_ble_eq_true rfl) ⟨rfl, rfl⟩ (fun p e s m args below meth cd R Q hR S hret ls hl hW => ?_)
  have hl : lv_has ls 7 [(0, .ref (h 0)), (1, .int (nI r)), (2, .int named)] := hl
  have hM60 := hL.1
  have hqa : ∀ k, k < n → mt_okq (mt_mq g f lg k) := fun k hk => (hL.2.2.2.2.2 (lg k) (hL.2.2.1 k hk).1).1
  have loopC : ∀ (d i t : Nat) (g2 : Nat → Nat → Nat) (f2 : Nat → Nat → Int32), i + d = g 0 0 → (i < n → t = i) → (n ≤ i → t = n) → mt_CC g f lg t g2 f2 → ∀ (H : Heap) (locs : List Loc), MS D h cZ cI s (mA h) H locs g2 f2 → ∀ ls : Array Slot, lv_has ls 7 [(0, .ref (h 0)), (1, .int (nI r)), (2, .int named), (3, .int (bI (mt_KP (mt_mq g f lg) lg named t))), (4, .int (nI i))] → W p l e R s m args below meth cd H locs 0 0 Q (F0 m 66 ls []) := by
    intro d
    induction d with
    | zero =>
      intro i t g2 f2 hid ht1 ht2 hC H locs hW ls hl
      have e0 : g2 0 0 = g 0 0 := by rw [hC.1 0 (by decide) (by decide)]
      have hln := hL.2.1
      have ht := ht2 (by omega)
      refine lv_iload (pc := 66) S.1 S.2.1 dX1_carryOut_66 (lv_at hl 4 rfl) ?_
      refine m_g_0 (pc := 68) S hW (lv_at hl 0 rfl) dX1_carryOut_68 dX1_carryOut_69 ?_
      refine z_icmp_ge (pc := 72) (tgt := 230) (x := i) (y := g2 0 0) S (by omega) (by omega) dX1_carryOut_72 (by decide) (fun c_72 => ?_) (fun c_72 => ?_)
      · refine lv_iload_n (pc := 230) S.1 S.2.1 dX1_carryOut_230 rfl (lv_at hl 3 rfl) ?_
        exact hret _ _ _ _ _ _ _ hW (bI_01 _) ⟨by rw [ht], mt_CC_CO (by rw [ht] at hC; exact hC)⟩ dX1_carryOut_231
      · exfalso; omega
    | succ d ih =>
      intro i t g2 f2 hid ht1 ht2 hC H locs hW ls hl
      have e0 : g2 0 0 = g 0 0 := by rw [hC.1 0 (by decide) (by decide)]
      have e1 : g2 1 = g 1 := hC.1 1 (by decide) (by decide)
      have e2 : g2 2 = g 2 := hC.1 2 (by decide) (by decide)
      have e3 : g2 3 = g 3 := hC.1 3 (by decide) (by decide)
      have e4 : g2 4 = g 4 := hC.1 4 (by decide) (by decide)
      have e6 : g2 6 = g 6 := hC.1 6 (by decide) (by decide)
      have e5 : f2 5 = f 5 := hC.2.1 5 (by decide) (by decide)
      have htn : t ≤ n := by omega
      have hv2 : ∀ c, c < g2 0 0 → g2 6 (60 * r + c) < 2 ∧ g2 10 c < 2 ∧ g2 1 c < 2147483648 ∧ g2 2 c < 2147483648 := by
        intro c hc
        rw [e0] at hc
        rw [e6, e1, e2]
        obtain ⟨a1, a2, a3, a4⟩ := hL.2.2.2.2.2 c hc
        exact ⟨a4, (hC.2.2.2.2 c (by omega)).1, a2, a3⟩
      refine lv_iload (pc := 66) S.1 S.2.1 dX1_carryOut_66 (lv_at hl 4 rfl) ?_
      refine m_g_0 (pc := 68) S hW (lv_at hl 0 rfl) dX1_carryOut_68 dX1_carryOut_69 ?_
      refine z_icmp_ge (pc := 72) (tgt := 230) (x := i) (y := g2 0 0) S (by omega) (by omega) dX1_carryOut_72 (by decide) (fun c_72 => ?_) (fun c_72 => ?_)
      · exfalso; omega
      · refine lv_aload_n (pc := 75) S.1 S.2.1 dX1_carryOut_75 rfl (lv_at hl 0 rfl) ?_
        refine lv_iload_n (pc := 76) S.1 S.2.1 dX1_carryOut_76 rfl (lv_at hl 1 rfl) ?_
        refine m_callr (pc := 77) (As := [.int (nI r)]) (rest := []) S hW (metX1_earliest l D h cZ cI g2 f2 r hr (by omega) hv2) (cwX1_earliest S.2.2.2.2 (by rw [hR]; decide)) rfl hl.1 rfl (Nat.le_of_ble_eq_true rfl) ⟨Nat.zero_le _, Nat.zero_le _⟩ dX1_carryOut_77 (fun r_77 H locs hp_77 hW => ?_)
        have hpk := mt_CC_pick hL hC htn hp_77
        rcases Nat.lt_or_ge i n with hin | hin
        · obtain rfl : i = t := (ht1 hin).symm
          have hv := hpk.1 hin
          subst hv
          have hlg := (hL.2.2.1 i hin).1
          have q1 : g 3 (lg i) < 2 := (hL.2.2.2.2.2 (lg i) hlg).1.1
          have q2 : g 4 (lg i) < 10 := (hL.2.2.2.2.2 (lg i) hlg).1.2.1
          refine lv_istore (pc := 80) (lv' := [(5, .int (nI (lg i))), (0, .ref (h 0)), (1, .int (nI r)), (2, .int named), (3, .int (bI (mt_KP (mt_mq g f lg) lg named i))), (4, .int (nI i))]) S.1 S.2.1 dX1_carryOut_80 hl (by decide) rfl (fun ls hl => ?_)
          refine lv_iload (pc := 82) S.1 S.2.1 dX1_carryOut_82 (lv_at hl 0 rfl) ?_
          refine z_if_lt_no (pc := 84) (tgt := 224) S (by omega) dX1_carryOut_84 (by decide) ?_
          refine m_g_10 (pc := 87) S hW (lv_at hl 1 rfl) dX1_carryOut_87 dX1_carryOut_88 ?_
          refine lv_iload (pc := 91) S.1 S.2.1 dX1_carryOut_91 (lv_at hl 0 rfl) ?_
          refine lv_iconst (pc := 93) (v := nI 1) S.1 S.2.1 dX1_carryOut_93 (by decide) ?_
          refine m_st_10 (pc := 94) (i := lg i) (v := 1) S hW (by omega) (by decide) dX1_carryOut_94 (fun H locs hW => ?_)
          refine m_g_3 (pc := 95) S hW (lv_at hl 1 rfl) dX1_carryOut_95 dX1_carryOut_96 ?_
          refine lv_iload (pc := 99) S.1 S.2.1 dX1_carryOut_99 (lv_at hl 0 rfl) ?_
          refine m_ld_3 (pc := 101) (i := lg i) (v := g 3 (lg i)) S hW (by omega) (show g2 3 (lg i) = g 3 (lg i) by rw [e3]) dX1_carryOut_101 ?_
          refine z_if_eq (pc := 102) (tgt := 130) (x := g 3 (lg i)) S (by omega) dX1_carryOut_102 (by decide) (fun c_102 => ?_) (fun c_102 => ?_)
          · refine lv_iconst (pc := 130) (v := nI 0) S.1 S.2.1 dX1_carryOut_130 (by decide) ?_
            refine lv_istore (pc := 131) (lv' := [(6, .int (nI 0)), (5, .int (nI (lg i))), (0, .ref (h 0)), (1, .int (nI r)), (2, .int named), (3, .int (bI (mt_KP (mt_mq g f lg) lg named i))), (4, .int (nI i))]) S.1 S.2.1 dX1_carryOut_131 hl (by decide) rfl (fun ls hl => ?_)
            refine lv_iload (pc := 133) S.1 S.2.1 dX1_carryOut_133 (lv_at hl 0 rfl) ?_
            refine z_if_eq (pc := 135) (tgt := 148) (x := 0) S (by omega) dX1_carryOut_135 (by decide) (fun c_135 => ?_) (fun c_135 => ?_)
            · refine lv_iload (pc := 148) S.1 S.2.1 dX1_carryOut_148 (lv_at hl 0 rfl) ?_
              refine z_if_eq (pc := 150) (tgt := 161) (x := 0) S (by omega) dX1_carryOut_150 (by decide) (fun c_150 => ?_) (fun c_150 => ?_)
              · refine m_g_3 (pc := 161) S hW (lv_at hl 2 rfl) dX1_carryOut_161 dX1_carryOut_162 ?_
                refine lv_iload (pc := 165) S.1 S.2.1 dX1_carryOut_165 (lv_at hl 1 rfl) ?_
                refine m_ld_3 (pc := 167) (i := lg i) (v := g 3 (lg i)) S hW (by omega) (show g2 3 (lg i) = g 3 (lg i) by rw [e3]) dX1_carryOut_167 ?_
                refine z_if_eq (pc := 168) (tgt := 195) (x := g 3 (lg i)) S (by omega) dX1_carryOut_168 (by decide) (fun c_168 => ?_) (fun c_168 => ?_)
                · refine m_g_3 (pc := 195) S hW (lv_at hl 2 rfl) dX1_carryOut_195 dX1_carryOut_196 ?_
                  refine lv_iload (pc := 199) S.1 S.2.1 dX1_carryOut_199 (lv_at hl 1 rfl) ?_
                  refine m_ld_3 (pc := 201) (i := lg i) (v := g 3 (lg i)) S hW (by omega) (show g2 3 (lg i) = g 3 (lg i) by rw [e3]) dX1_carryOut_201 ?_
                  refine z_if_ne (pc := 202) (tgt := 224) (x := g 3 (lg i)) S (by omega) dX1_carryOut_202 (by decide) (fun c_202 => ?_) (fun c_202 => ?_)
                  · exact absurd c_102 c_202
                  · refine m_g_8 (pc := 205) S hW (lv_at hl 2 rfl) dX1_carryOut_205 dX1_carryOut_206 ?_
                    refine m_g_4 (pc := 209) S hW (lv_at hl 2 rfl) dX1_carryOut_209 dX1_carryOut_210 ?_
                    refine lv_iload (pc := 213) S.1 S.2.1 dX1_carryOut_213 (lv_at hl 1 rfl) ?_
                    refine m_ld_4 (pc := 215) (i := lg i) (v := g 4 (lg i)) S hW (by omega) (show g2 4 (lg i) = g 4 (lg i) by rw [e4]) dX1_carryOut_215 ?_
                    refine m_g_5 (pc := 216) S hW (lv_at hl 2 rfl) dX1_carryOut_216 dX1_carryOut_217 ?_
                    refine lv_iload (pc := 220) S.1 S.2.1 dX1_carryOut_220 (lv_at hl 1 rfl) ?_
                    refine m_ld_5 (pc := 222) (i := lg i) (v := f 5 (lg i)) S hW (by omega) (show f2 5 (lg i) = f 5 (lg i) by rw [e5]) dX1_carryOut_222 ?_
                    refine m_st_8 (pc := 223) (i := g 4 (lg i)) (v := f 5 (lg i)) S hW (by omega) dX1_carryOut_223 (fun H locs hW => ?_)
                    refine lv_iinc (pc := 224) (v := nI (i + 1)) (lv' := [(4, .int (nI (i + 1))), (6, .int (nI 0)), (5, .int (nI (lg i))), (0, .ref (h 0)), (1, .int (nI r)), (2, .int named), (3, .int (bI (mt_KP (mt_mq g f lg) lg named i)))]) S.1 S.2.1 dX1_carryOut_224 hl (k := 6) rfl (z_inc1 _) (by decide) rfl (fun ls hl => ?_)
                    refine lv_goto (pc := 227) (tgt := 66) S.1 S.2.1 dX1_carryOut_227 (by decide) ?_
                    exact ih (i + 1) (i + 1) _ _ (by omega) (fun _ => rfl) (fun z => by omega) (mt_CC_name hC c_102) _ _ hW ls (by rw [bI_congr (mt_KP_no (fun z => z.2.1 c_102))]; exact lv_sub hl [3, 4, 5, 6, 0] rfl)
                · exact absurd c_102 c_168
              · exact absurd rfl c_150
            · exact absurd rfl c_135
          · obtain ⟨u1, u2, u3⟩ := mt_CC_up hC (fun k hk => hqa k (by omega)) c_102
            refine lv_aload_n (pc := 105) S.1 S.2.1 dX1_carryOut_105 rfl (lv_at hl 1 rfl) ?_
            refine m_g_4 (pc := 106) S hW (lv_at hl 1 rfl) dX1_carryOut_106 dX1_carryOut_107 ?_
            refine lv_iload (pc := 110) S.1 S.2.1 dX1_carryOut_110 (lv_at hl 0 rfl) ?_
            refine m_ld_4 (pc := 112) (i := lg i) (v := g 4 (lg i)) S hW (by omega) (show g2 4 (lg i) = g 4 (lg i) by rw [e4]) dX1_carryOut_112 ?_
            refine m_g_5 (pc := 113) S hW (lv_at hl 1 rfl) dX1_carryOut_113 dX1_carryOut_114 ?_
            refine lv_iload (pc := 117) S.1 S.2.1 dX1_carryOut_117 (lv_at hl 0 rfl) ?_
            refine m_ld_5 (pc := 119) (i := lg i) (v := f 5 (lg i)) S hW (by omega) (show f2 5 (lg i) = f 5 (lg i) by rw [e5]) dX1_carryOut_119 ?_
            refine m_callr (pc := 120) (As := [.int (nI (g 4 (lg i))), .int (f 5 (lg i))]) (rest := []) S hW (metX1_above l D h cZ cI _ _ (nI (g 4 (lg i))) (f 5 (lg i)) u2 u1) (cwX1_above S.2.2.2.2 (by rw [hR]; decide)) rfl hl.1 rfl (Nat.le_of_ble_eq_true rfl) ⟨Nat.zero_le _, Nat.zero_le _⟩ dX1_carryOut_120 (fun r_120 H locs hp_120 hW => ?_)
            subst hp_120
            refine z_ifb_eq (pc := 123) (tgt := 130) S dX1_carryOut_123 (by decide) (fun c_123 => ?_) (fun c_123 => ?_)
            · have hs : ¬ mt_sk (mt_run (mt_mq g f lg) i) (mt_mq g f lg i) = true := by rw [← u3]; exact c_123
              refine lv_iconst (pc := 130) (v := nI 0) S.1 S.2.1 dX1_carryOut_130 (by decide) ?_
              refine lv_istore (pc := 131) (lv' := [(6, .int (nI 0)), (5, .int (nI (lg i))), (0, .ref (h 0)), (1, .int (nI r)), (2, .int named), (3, .int (bI (mt_KP (mt_mq g f lg) lg named i))), (4, .int (nI i))]) S.1 S.2.1 dX1_carryOut_131 hl (by decide) rfl (fun ls hl => ?_)
              refine lv_iload (pc := 133) S.1 S.2.1 dX1_carryOut_133 (lv_at hl 0 rfl) ?_
              refine z_if_eq (pc := 135) (tgt := 148) (x := 0) S (by omega) dX1_carryOut_135 (by decide) (fun c_135 => ?_) (fun c_135 => ?_)
              · refine lv_iload (pc := 148) S.1 S.2.1 dX1_carryOut_148 (lv_at hl 0 rfl) ?_
                refine z_if_eq (pc := 150) (tgt := 161) (x := 0) S (by omega) dX1_carryOut_150 (by decide) (fun c_150 => ?_) (fun c_150 => ?_)
                · refine m_g_3 (pc := 161) S hW (lv_at hl 2 rfl) dX1_carryOut_161 dX1_carryOut_162 ?_
                  refine lv_iload (pc := 165) S.1 S.2.1 dX1_carryOut_165 (lv_at hl 1 rfl) ?_
                  refine m_ld_3 (pc := 167) (i := lg i) (v := g 3 (lg i)) S hW (by omega) (show g2 3 (lg i) = g 3 (lg i) by rw [e3]) dX1_carryOut_167 ?_
                  refine z_if_eq (pc := 168) (tgt := 195) (x := g 3 (lg i)) S (by omega) dX1_carryOut_168 (by decide) (fun c_168 => ?_) (fun c_168 => ?_)
                  · exact absurd c_168 c_102
                  · refine lv_iload (pc := 171) S.1 S.2.1 dX1_carryOut_171 (lv_at hl 0 rfl) ?_
                    refine z_if_ne (pc := 173) (tgt := 195) (x := 0) S (by omega) dX1_carryOut_173 (by decide) (fun c_173 => ?_) (fun c_173 => ?_)
                    · exact absurd rfl c_173
                    · refine m_g_7 (pc := 176) S hW (lv_at hl 2 rfl) dX1_carryOut_176 dX1_carryOut_177 ?_
                      refine m_g_4 (pc := 180) S hW (lv_at hl 2 rfl) dX1_carryOut_180 dX1_carryOut_181 ?_
                      refine lv_iload (pc := 184) S.1 S.2.1 dX1_carryOut_184 (lv_at hl 1 rfl) ?_
                      refine m_ld_4 (pc := 186) (i := lg i) (v := g 4 (lg i)) S hW (by omega) (show g2 4 (lg i) = g 4 (lg i) by rw [e4]) dX1_carryOut_186 ?_
                      refine m_g_5 (pc := 187) S hW (lv_at hl 2 rfl) dX1_carryOut_187 dX1_carryOut_188 ?_
                      refine lv_iload (pc := 191) S.1 S.2.1 dX1_carryOut_191 (lv_at hl 1 rfl) ?_
                      refine m_ld_5 (pc := 193) (i := lg i) (v := f 5 (lg i)) S hW (by omega) (show f2 5 (lg i) = f 5 (lg i) by rw [e5]) dX1_carryOut_193 ?_
                      refine m_st_7 (pc := 194) (i := g 4 (lg i)) (v := f 5 (lg i)) S hW (by omega) dX1_carryOut_194 (fun H locs hW => ?_)
                      refine m_g_3 (pc := 195) S hW (lv_at hl 2 rfl) dX1_carryOut_195 dX1_carryOut_196 ?_
                      refine lv_iload (pc := 199) S.1 S.2.1 dX1_carryOut_199 (lv_at hl 1 rfl) ?_
                      refine m_ld_3 (pc := 201) (i := lg i) (v := g 3 (lg i)) S hW (by omega) (show g2 3 (lg i) = g 3 (lg i) by rw [e3]) dX1_carryOut_201 ?_
                      refine z_if_ne (pc := 202) (tgt := 224) (x := g 3 (lg i)) S (by omega) dX1_carryOut_202 (by decide) (fun c_202 => ?_) (fun c_202 => ?_)
                      · refine lv_iinc (pc := 224) (v := nI (i + 1)) (lv' := [(4, .int (nI (i + 1))), (6, .int (nI 0)), (5, .int (nI (lg i))), (0, .ref (h 0)), (1, .int (nI r)), (2, .int named), (3, .int (bI (mt_KP (mt_mq g f lg) lg named i)))]) S.1 S.2.1 dX1_carryOut_224 hl (k := 6) rfl (z_inc1 _) (by decide) rfl (fun ls hl => ?_)
                        refine lv_goto (pc := 227) (tgt := 66) S.1 S.2.1 dX1_carryOut_227 (by decide) ?_
                        exact ih (i + 1) (i + 1) _ _ (by omega) (fun _ => rfl) (fun z => by omega) (mt_CC_move hC c_102 hs) _ _ hW ls (by rw [bI_congr (mt_KP_no (fun z => hs z.2.2))]; exact lv_sub hl [3, 4, 5, 6, 0] rfl)
                      · exact absurd c_202 c_102
                · exact absurd rfl c_150
              · exact absurd rfl c_135
            · have hs : mt_sk (mt_run (mt_mq g f lg) i) (mt_mq g f lg i) = true := by rw [← u3]; exact c_123
              refine lv_iconst (pc := 126) (v := nI 1) S.1 S.2.1 dX1_carryOut_126 (by decide) ?_
              refine lv_goto (pc := 127) (tgt := 131) S.1 S.2.1 dX1_carryOut_127 (by decide) ?_
              refine lv_istore (pc := 131) (lv' := [(6, .int (nI 1)), (5, .int (nI (lg i))), (0, .ref (h 0)), (1, .int (nI r)), (2, .int named), (3, .int (bI (mt_KP (mt_mq g f lg) lg named i))), (4, .int (nI i))]) S.1 S.2.1 dX1_carryOut_131 hl (by decide) rfl (fun ls hl => ?_)
              refine lv_iload (pc := 133) S.1 S.2.1 dX1_carryOut_133 (lv_at hl 0 rfl) ?_
              refine z_if_eq (pc := 135) (tgt := 148) (x := 1) S (by omega) dX1_carryOut_135 (by decide) (fun c_135 => ?_) (fun c_135 => ?_)
              · exact absurd c_135 (by decide)
              · refine lv_aload_n (pc := 138) S.1 S.2.1 dX1_carryOut_138 rfl (lv_at hl 2 rfl) ?_
                refine lv_dup (pc := 139) S.1 S.2.1 dX1_carryOut_139 rfl ?_
                refine m_gf_9 (pc := 140) S hW dX1_carryOut_140 ?_
                refine lv_iconst (pc := 143) (v := nI 1) S.1 S.2.1 dX1_carryOut_143 (by decide) ?_
                refine z_iadd (pc := 144) (x := g2 9 0) (y := 1) S dX1_carryOut_144 ?_
                refine m_pf_9 (pc := 145) (v := (g2 9 0) + 1) S hW dX1_carryOut_145 (fun H locs hW => ?_)
                refine lv_iload (pc := 148) S.1 S.2.1 dX1_carryOut_148 (lv_at hl 0 rfl) ?_
                refine z_if_eq (pc := 150) (tgt := 161) (x := 1) S (by omega) dX1_carryOut_150 (by decide) (fun c_150 => ?_) (fun c_150 => ?_)
                · exact absurd c_150 (by decide)
                · refine lv_iload (pc := 153) S.1 S.2.1 dX1_carryOut_153 (lv_at hl 1 rfl) ?_
                  refine lv_iload_n (pc := 155) S.1 S.2.1 dX1_carryOut_155 rfl (lv_at hl 4 rfl) ?_
                  refine lv_icmp_ne (pc := 156) (tgt := 161) S.1 S.2.1 dX1_carryOut_156 (by decide) (fun c_156 => ?_) (fun c_156 => ?_)
                  · refine m_g_3 (pc := 161) S hW (lv_at hl 2 rfl) dX1_carryOut_161 dX1_carryOut_162 ?_
                    refine lv_iload (pc := 165) S.1 S.2.1 dX1_carryOut_165 (lv_at hl 1 rfl) ?_
                    refine m_ld_3 (pc := 167) (i := lg i) (v := g 3 (lg i)) S hW (by omega) (show g2 3 (lg i) = g 3 (lg i) by rw [e3]) dX1_carryOut_167 ?_
                    refine z_if_eq (pc := 168) (tgt := 195) (x := g 3 (lg i)) S (by omega) dX1_carryOut_168 (by decide) (fun c_168 => ?_) (fun c_168 => ?_)
                    · exact absurd c_168 c_102
                    · refine lv_iload (pc := 171) S.1 S.2.1 dX1_carryOut_171 (lv_at hl 0 rfl) ?_
                      refine z_if_ne (pc := 173) (tgt := 195) (x := 1) S (by omega) dX1_carryOut_173 (by decide) (fun c_173 => ?_) (fun c_173 => ?_)
                      · refine m_g_3 (pc := 195) S hW (lv_at hl 2 rfl) dX1_carryOut_195 dX1_carryOut_196 ?_
                        refine lv_iload (pc := 199) S.1 S.2.1 dX1_carryOut_199 (lv_at hl 1 rfl) ?_
                        refine m_ld_3 (pc := 201) (i := lg i) (v := g 3 (lg i)) S hW (by omega) (show g2 3 (lg i) = g 3 (lg i) by rw [e3]) dX1_carryOut_201 ?_
                        refine z_if_ne (pc := 202) (tgt := 224) (x := g 3 (lg i)) S (by omega) dX1_carryOut_202 (by decide) (fun c_202 => ?_) (fun c_202 => ?_)
                        · refine lv_iinc (pc := 224) (v := nI (i + 1)) (lv' := [(4, .int (nI (i + 1))), (6, .int (nI 1)), (5, .int (nI (lg i))), (0, .ref (h 0)), (1, .int (nI r)), (2, .int named), (3, .int (bI (mt_KP (mt_mq g f lg) lg named i)))]) S.1 S.2.1 dX1_carryOut_224 hl (k := 6) rfl (z_inc1 _) (by decide) rfl (fun ls hl => ?_)
                          refine lv_goto (pc := 227) (tgt := 66) S.1 S.2.1 dX1_carryOut_227 (by decide) ?_
                          exact ih (i + 1) (i + 1) _ _ (by omega) (fun _ => rfl) (fun z => by omega) (mt_CC_skip hC c_102 hs) _ _ hW ls (by rw [bI_congr (mt_KP_no (fun z => c_156 z.1))]; exact lv_sub hl [3, 4, 5, 6, 0] rfl)
                        · exact absurd c_202 c_102
                      · exact absurd c_173 (by decide)
                  · refine lv_iconst (pc := 159) (v := nI 1) S.1 S.2.1 dX1_carryOut_159 (by decide) ?_
                    refine lv_istore_n (pc := 160) (lv' := [(3, .int (nI 1)), (6, .int (nI 1)), (5, .int (nI (lg i))), (0, .ref (h 0)), (1, .int (nI r)), (2, .int named), (4, .int (nI i))]) S.1 S.2.1 dX1_carryOut_160 rfl hl (by decide) rfl (fun ls hl => ?_)
                    refine m_g_3 (pc := 161) S hW (lv_at hl 3 rfl) dX1_carryOut_161 dX1_carryOut_162 ?_
                    refine lv_iload (pc := 165) S.1 S.2.1 dX1_carryOut_165 (lv_at hl 2 rfl) ?_
                    refine m_ld_3 (pc := 167) (i := lg i) (v := g 3 (lg i)) S hW (by omega) (show g2 3 (lg i) = g 3 (lg i) by rw [e3]) dX1_carryOut_167 ?_
                    refine z_if_eq (pc := 168) (tgt := 195) (x := g 3 (lg i)) S (by omega) dX1_carryOut_168 (by decide) (fun c_168 => ?_) (fun c_168 => ?_)
                    · exact absurd c_168 c_102
                    · refine lv_iload (pc := 171) S.1 S.2.1 dX1_carryOut_171 (lv_at hl 1 rfl) ?_
                      refine z_if_ne (pc := 173) (tgt := 195) (x := 1) S (by omega) dX1_carryOut_173 (by decide) (fun c_173 => ?_) (fun c_173 => ?_)
                      · refine m_g_3 (pc := 195) S hW (lv_at hl 3 rfl) dX1_carryOut_195 dX1_carryOut_196 ?_
                        refine lv_iload (pc := 199) S.1 S.2.1 dX1_carryOut_199 (lv_at hl 2 rfl) ?_
                        refine m_ld_3 (pc := 201) (i := lg i) (v := g 3 (lg i)) S hW (by omega) (show g2 3 (lg i) = g 3 (lg i) by rw [e3]) dX1_carryOut_201 ?_
                        refine z_if_ne (pc := 202) (tgt := 224) (x := g 3 (lg i)) S (by omega) dX1_carryOut_202 (by decide) (fun c_202 => ?_) (fun c_202 => ?_)
                        · refine lv_iinc (pc := 224) (v := nI (i + 1)) (lv' := [(4, .int (nI (i + 1))), (3, .int (nI 1)), (6, .int (nI 1)), (5, .int (nI (lg i))), (0, .ref (h 0)), (1, .int (nI r)), (2, .int named)]) S.1 S.2.1 dX1_carryOut_224 hl (k := 6) rfl (z_inc1 _) (by decide) rfl (fun ls hl => ?_)
                          refine lv_goto (pc := 227) (tgt := 66) S.1 S.2.1 dX1_carryOut_227 (by decide) ?_
                          exact ih (i + 1) (i + 1) _ _ (by omega) (fun _ => rfl) (fun z => by omega) (mt_CC_skip hC c_102 hs) _ _ hW ls (by rw [← bI1 (show mt_KP (mt_mq g f lg) lg named (i + 1) from ⟨i, by omega, c_156, c_102, hs⟩)]; exact lv_sub hl [4, 5, 6, 1, 0] rfl)
                        · exact absurd c_202 c_102
                      · exact absurd c_173 (by decide)
        · have hv := hpk.2 (ht2 hin)
          subst hv
          refine lv_istore (pc := 80) (lv' := [(5, .int (-1)), (0, .ref (h 0)), (1, .int (nI r)), (2, .int named), (3, .int (bI (mt_KP (mt_mq g f lg) lg named t))), (4, .int (nI i))]) S.1 S.2.1 dX1_carryOut_80 hl (by decide) rfl (fun ls hl => ?_)
          refine lv_iload (pc := 82) S.1 S.2.1 dX1_carryOut_82 (lv_at hl 0 rfl) ?_
          refine lv_if_lt (pc := 84) (tgt := 224) S.1 S.2.1 dX1_carryOut_84 (by decide) (fun c_84 => ?_) (fun c_84 => ?_)
          · refine lv_iinc (pc := 224) (v := nI (i + 1)) (lv' := [(4, .int (nI (i + 1))), (5, .int (-1)), (0, .ref (h 0)), (1, .int (nI r)), (2, .int named), (3, .int (bI (mt_KP (mt_mq g f lg) lg named t)))]) S.1 S.2.1 dX1_carryOut_224 hl (k := 5) rfl (z_inc1 _) (by decide) rfl (fun ls hl => ?_)
            refine lv_goto (pc := 227) (tgt := 66) S.1 S.2.1 dX1_carryOut_227 (by decide) ?_
            exact ih (i + 1) t _ _ (by omega) (fun z => by omega) (fun _ => ht2 hin) hC _ _ hW ls (lv_sub hl [2, 3, 4, 5, 0] rfl)
          · exact absurd (by decide) c_84
  have loopB : ∀ (g1 : Nat → Nat → Nat), (∀ a, a ≠ 9 → a ≠ 10 → g1 a = g a) → g1 9 0 = 0 → (∀ c, c < 60 → g1 10 c = 0) → ∀ (d i : Nat) (f1 : Nat → Nat → Int32), i + d = 10 → (∀ a, a ≠ 7 → a ≠ 8 → f1 a = f a) → (∀ j, j < i → f1 7 j = -1 ∧ f1 8 j = nI 0) → ∀ (H : Heap) (locs : List Loc), MS D h cZ cI s (mA h) H locs g1 f1 → ∀ ls : Array Slot, lv_has ls 7 [(0, .ref (h 0)), (1, .int (nI r)), (2, .int named), (3, .int (nI 0)), (4, .int (nI i))] → W p l e R s m args below meth cd H locs 0 0 Q (F0 m 34 ls []) := by
    intro g1 a1 a2 a3 d
    induction d with
    | zero =>
      intro i f1 hid a4 a5 H locs hW ls hl
      have hid : i = 10 := by omega
      subst hid
      refine lv_iload (pc := 34) S.1 S.2.1 dX1_carryOut_34 (lv_at hl 4 rfl) ?_
      refine lv_bipush (pc := 36) (v := nI 10) S.1 S.2.1 dX1_carryOut_36 (by decide) ?_
      refine z_icmp_ge (pc := 38) (tgt := 63) (x := 10) (y := 10) S (by omega) (by omega) dX1_carryOut_38 (by decide) (fun c_38 => ?_) (fun c_38 => ?_)
      · refine lv_iconst (pc := 63) (v := nI 0) S.1 S.2.1 dX1_carryOut_63 (by decide) ?_
        refine lv_istore (pc := 64) (lv' := [(4, .int (nI 0)), (0, .ref (h 0)), (1, .int (nI r)), (2, .int named), (3, .int (nI 0))]) S.1 S.2.1 dX1_carryOut_64 hl (by decide) rfl (fun ls hl => ?_)
        exact loopC (g 0 0) 0 0 g1 f1 (by omega) (fun _ => rfl) (fun z => by omega) (mt_CC_0 lg a1 a2 a3 a4 a5) _ _ hW ls (by rw [← bI0 (mt_KP_0 (mt_mq g f lg) lg named)]; exact lv_sub hl [1, 2, 3, 4, 0] rfl)
      · exfalso; omega
    | succ d ih =>
      intro i f1 hid a4 a5 H locs hW ls hl
      refine lv_iload (pc := 34) S.1 S.2.1 dX1_carryOut_34 (lv_at hl 4 rfl) ?_
      refine lv_bipush (pc := 36) (v := nI 10) S.1 S.2.1 dX1_carryOut_36 (by decide) ?_
      refine z_icmp_ge (pc := 38) (tgt := 63) (x := i) (y := 10) S (by omega) (by omega) dX1_carryOut_38 (by decide) (fun c_38 => ?_) (fun c_38 => ?_)
      · exfalso; omega
      · refine m_g_7 (pc := 41) S hW (lv_at hl 0 rfl) dX1_carryOut_41 dX1_carryOut_42 ?_
        refine lv_iload (pc := 45) S.1 S.2.1 dX1_carryOut_45 (lv_at hl 4 rfl) ?_
        refine lv_iconst (pc := 47) (v := -1) S.1 S.2.1 dX1_carryOut_47 (by decide) ?_
        refine m_st_7 (pc := 48) (i := i) (v := (-1)) S hW (by omega) dX1_carryOut_48 (fun H locs hW => ?_)
        refine m_g_8 (pc := 49) S hW (lv_at hl 0 rfl) dX1_carryOut_49 dX1_carryOut_50 ?_
        refine lv_iload (pc := 53) S.1 S.2.1 dX1_carryOut_53 (lv_at hl 4 rfl) ?_
        refine lv_iconst (pc := 55) (v := nI 0) S.1 S.2.1 dX1_carryOut_55 (by decide) ?_
        refine m_st_8 (pc := 56) (i := i) (v := nI 0) S hW (by omega) dX1_carryOut_56 (fun H locs hW => ?_)
        refine lv_iinc (pc := 57) (v := nI (i + 1)) (lv' := [(4, .int (nI (i + 1))), (0, .ref (h 0)), (1, .int (nI r)), (2, .int named), (3, .int (nI 0))]) S.1 S.2.1 dX1_carryOut_57 hl (k := 4) rfl (z_inc1 _) (by decide) rfl (fun ls hl => ?_)
        refine lv_goto (pc := 60) (tgt := 34) S.1 S.2.1 dX1_carryOut_60 (by decide) ?_
        refine ih (i + 1) _ (by omega) (fun a h7 h8 => by rw [st2_k _ _ _ _ h8, st2_k _ _ _ _ h7, a4 a h7 h8]) (fun j hj => ?_) _ _ hW ls (lv_sub hl [1, 2, 3, 4, 0] rfl)
        by_cases e : j = i
        · rw [e, st2_eq, st2_k _ _ _ _ (by decide), st2_eq]; exact ⟨rfl, rfl⟩
        · rw [st2_ne _ _ _ _ e, st2_k _ _ _ _ (show (7 : Nat) ≠ 8 by decide), st2_ne _ _ _ _ e, st2_k _ _ _ _ (show (8 : Nat) ≠ 7 by decide)]; exact a5 j (by omega)
  have loopA : ∀ (d i : Nat) (g1 : Nat → Nat → Nat), i + d = 60 → (∀ a, a ≠ 9 → a ≠ 10 → g1 a = g a) → g1 9 0 = 0 → (∀ c, c < i → g1 10 c = 0) → ∀ (H : Heap) (locs : List Loc), MS D h cZ cI s (mA h) H locs g1 f → ∀ ls : Array Slot, lv_has ls 7 [(0, .ref (h 0)), (1, .int (nI r)), (2, .int named), (3, .int (nI 0)), (4, .int (nI i))] → W p l e R s m args below meth cd H locs 0 0 Q (F0 m 10 ls []) := by
    intro d
    induction d with
    | zero =>
      intro i g1 hid a1 a2 a3 H locs hW ls hl
      have hid : i = 60 := by omega
      subst hid
      refine lv_iload (pc := 10) S.1 S.2.1 dX1_carryOut_10 (lv_at hl 4 rfl) ?_
      refine lv_bipush (pc := 12) (v := nI 60) S.1 S.2.1 dX1_carryOut_12 (by decide) ?_
      refine z_icmp_ge (pc := 14) (tgt := 31) (x := 60) (y := 60) S (by omega) (by omega) dX1_carryOut_14 (by decide) (fun c_14 => ?_) (fun c_14 => ?_)
      · refine lv_iconst (pc := 31) (v := nI 0) S.1 S.2.1 dX1_carryOut_31 (by decide) ?_
        refine lv_istore (pc := 32) (lv' := [(4, .int (nI 0)), (0, .ref (h 0)), (1, .int (nI r)), (2, .int named), (3, .int (nI 0))]) S.1 S.2.1 dX1_carryOut_32 hl (by decide) rfl (fun ls hl => ?_)
        exact loopB g1 a1 a2 a3 10 0 f rfl (fun _ _ _ => rfl) (fun j hj => absurd hj (by omega)) _ _ hW ls (lv_sub hl [1, 2, 3, 4, 0] rfl)
      · exfalso; omega
    | succ d ih =>
      intro i g1 hid a1 a2 a3 H locs hW ls hl
      refine lv_iload (pc := 10) S.1 S.2.1 dX1_carryOut_10 (lv_at hl 4 rfl) ?_
      refine lv_bipush (pc := 12) (v := nI 60) S.1 S.2.1 dX1_carryOut_12 (by decide) ?_
      refine z_icmp_ge (pc := 14) (tgt := 31) (x := i) (y := 60) S (by omega) (by omega) dX1_carryOut_14 (by decide) (fun c_14 => ?_) (fun c_14 => ?_)
      · exfalso; omega
      · refine m_g_10 (pc := 17) S hW (lv_at hl 0 rfl) dX1_carryOut_17 dX1_carryOut_18 ?_
        refine lv_iload (pc := 21) S.1 S.2.1 dX1_carryOut_21 (lv_at hl 4 rfl) ?_
        refine lv_iconst (pc := 23) (v := nI 0) S.1 S.2.1 dX1_carryOut_23 (by decide) ?_
        refine m_st_10 (pc := 24) (i := i) (v := 0) S hW (by omega) (by decide) dX1_carryOut_24 (fun H locs hW => ?_)
        refine lv_iinc (pc := 25) (v := nI (i + 1)) (lv' := [(4, .int (nI (i + 1))), (0, .ref (h 0)), (1, .int (nI r)), (2, .int named), (3, .int (nI 0))]) S.1 S.2.1 dX1_carryOut_25 hl (k := 4) rfl (z_inc1 _) (by decide) rfl (fun ls hl => ?_)
        refine lv_goto (pc := 28) (tgt := 10) S.1 S.2.1 dX1_carryOut_28 (by decide) ?_
        refine ih (i + 1) _ (by omega) (fun a h9 h10 => by rw [st2_k _ _ _ _ h10, a1 a h9 h10]) (by rw [st2_k _ _ _ _ (by decide)]; exact a2) (fun j hj => ?_) _ _ hW ls (lv_sub hl [1, 2, 3, 4, 0] rfl)
        by_cases e : j = i
        · rw [e, st2_eq]
        · rw [st2_ne _ _ _ _ e]; exact a3 j (by omega)
  refine lv_iconst (pc := 0) (v := nI 0) S.1 S.2.1 dX1_carryOut_0 (by decide) ?_
  refine lv_istore_n (pc := 1) (lv' := [(3, .int (nI 0)), (0, .ref (h 0)), (1, .int (nI r)), (2, .int named)]) S.1 S.2.1 dX1_carryOut_1 rfl hl (by decide) rfl (fun ls hl => ?_)
  refine lv_aload_n (pc := 2) S.1 S.2.1 dX1_carryOut_2 rfl (lv_at hl 1 rfl) ?_
  refine lv_iconst (pc := 3) (v := nI 0) S.1 S.2.1 dX1_carryOut_3 (by decide) ?_
  refine m_pf_9 (pc := 4) (v := 0) S hW dX1_carryOut_4 (fun H locs hW => ?_)
  refine lv_iconst (pc := 7) (v := nI 0) S.1 S.2.1 dX1_carryOut_7 (by decide) ?_
  refine lv_istore (pc := 8) (lv' := [(4, .int (nI 0)), (3, .int (nI 0)), (0, .ref (h 0)), (1, .int (nI r)), (2, .int named)]) S.1 S.2.1 dX1_carryOut_8 hl (by decide) rfl (fun ls hl => ?_)
  exact loopA 60 0 _ rfl (fun a h9 _ => st2_k _ _ _ _ h9) (st2_eq _ _ _ _) (fun j hj => absurd hj (by omega)) _ _ hW ls (lv_sub hl [2, 3, 4, 1, 0] rfl)
end
section
/-! the model's operations: the plain side -/
set_option maxRecDepth 100000
theorem mt_rep_nI {r : Nat} (h : r < 3) : mt_rep (nI r) := ⟨nI_pos' (by omega), nI_le (a := r) (b := 2) (by omega) (by decide)⟩
theorem mt_nod_nI {r : Nat} (h : r < 10) : mt_nod (nI r) := ⟨nI_pos' (by omega), nI_le (a := r) (b := 9) (by omega) (by decide)⟩
theorem mt_mq_congr {g g' : Nat → Nat → Nat} {f f' : Nat → Nat → Int32} (h3 : g' 3 = g 3) (h4 : g' 4 = g 4) (h5 : f' 5 = f 5) (lg : Nat → Nat) : mt_mq g' f' lg = mt_mq g f lg := by
  funext k
  unfold mt_mq mt_mc
  rw [h3, h4, h5]
theorem mt_LV_congr {g g' : Nat → Nat → Nat} {f f' : Nat → Nat → Int32} {r : Nat} {lg : Nat → Nat} {n : Nat} (h0 : g' 0 = g 0) (h1 : g' 1 = g 1) (h2 : g' 2 = g 2) (h3 : g' 3 = g 3) (h4 : g' 4 = g 4) (h6 : g' 6 = g 6) (h5 : f' 5 = f 5) (h : mt_LV g f r lg n) : mt_LV g' f' r lg n := by
  unfold mt_LV mt_mc at *
  rw [h0, h1, h2, h3, h4, h5, h6]
  exact h
/-- sync of the model has come to the change i -/
def mt_ms (g : Nat → Nat → Nat) (fr to i : Nat) (g' : Nat → Nat → Nat) : Prop := (∀ a, a ≠ 6 → g' a = g a) ∧ (∀ j, j < 60 * to ∨ 60 * to + 60 ≤ j → g' 6 j = g 6 j) ∧ (∀ d, d < 60 → g' 6 (60 * to + d) = if d < i ∧ ¬ g 6 (60 * fr + d) = 0 ∧ g 6 (60 * to + d) = 0 then 1 else g 6 (60 * to + d))
theorem mt_ms_0 (g : Nat → Nat → Nat) (fr to : Nat) : mt_ms g fr to 0 g := ⟨fun _ _ => rfl, fun _ _ => rfl, fun d _ => by rw [if_neg (by omega)]⟩
theorem mt_ms_to {g g' : Nat → Nat → Nat} {fr to i : Nat} (h : mt_ms g fr to i g') (hi : i < 60) : g' 6 (60 * to + i) = g 6 (60 * to + i) := by
  rw [h.2.2 i hi, if_neg (by omega)]
theorem mt_ms_fr {g g' : Nat → Nat → Nat} {fr to i : Nat} (h : mt_ms g fr to i g') (hi : i < 60) : g' 6 (60 * fr + i) = g 6 (60 * fr + i) := by
  by_cases e : fr = to
  · subst e; exact mt_ms_to h hi
  · exact h.2.1 _ (by omega)
theorem mt_ms_no {g g' : Nat → Nat → Nat} {fr to i : Nat} (h : mt_ms g fr to i g') (hn : ¬ (¬ g 6 (60 * fr + i) = 0 ∧ g 6 (60 * to + i) = 0)) : mt_ms g fr to (i + 1) g' := by
  refine ⟨h.1, h.2.1, fun d hd => ?_⟩
  rw [h.2.2 d hd]
  by_cases e : d = i
  · subst e
    rw [if_neg (by omega), if_neg (fun z => hn z.2)]
  · by_cases y : d < i ∧ ¬ g 6 (60 * fr + d) = 0 ∧ g 6 (60 * to + d) = 0
    · rw [if_pos y, if_pos ⟨by omega, y.2⟩]
    · rw [if_neg y, if_neg (fun z => y ⟨by omega, z.2⟩)]
theorem mt_ms_yes {g g' : Nat → Nat → Nat} {fr to i : Nat} (h : mt_ms g fr to i g') (hi : i < 60) (h1 : ¬ g 6 (60 * fr + i) = 0) (h2 : g 6 (60 * to + i) = 0) : mt_ms g fr to (i + 1) (st2 g' 6 (60 * to + i) 1) := by
  refine ⟨fun a ha => by rw [st2_k _ _ _ _ ha, h.1 a ha], fun j hj => by rw [st2_ne _ _ _ _ (by omega), h.2.1 j hj], fun d hd => ?_⟩
  by_cases e : d = i
  · subst e
    rw [st2_eq, if_pos ⟨by omega, h1, h2⟩]
  · rw [st2_ne _ _ _ _ (by omega), h.2.2 d hd]
    by_cases y : d < i ∧ ¬ g 6 (60 * fr + d) = 0 ∧ g 6 (60 * to + d) = 0
    · rw [if_pos y, if_pos ⟨by omega, y.2⟩]
    · rw [if_neg y, if_neg (fun z => y ⟨by omega, z.2⟩)]
noncomputable def mt_mb (g : Nat → Nat → Nat) (fr to : Nat) : Nat → Bool := fun d => mt_dec (¬ g 6 (60 * fr + d) = 0 ∧ g 6 (60 * to + d) = 0)
end
section
set_option maxRecDepth 100000
theorem dX1_move_0 : decode cX1_move 0 = .ok (.iload_n 1, 1) := by decide +kernel
theorem dX1_move_1 : decode cX1_move 1 = .ok (.invokestatic 62, 3) := by decide +kernel
theorem dX1_move_4 : decode cX1_move 4 = .ok (.ifCond .ne 30, 3) := by decide +kernel
theorem dX1_move_7 : decode cX1_move 7 = .ok (.iload_n 2, 1) := by decide +kernel
theorem dX1_move_8 : decode cX1_move 8 = .ok (.iconst 1, 1) := by decide +kernel
theorem dX1_move_9 : decode cX1_move 9 = .ok (.if_icmp .lt 25, 3) := by decide +kernel
theorem dX1_move_12 : decode cX1_move 12 = .ok (.iload_n 2, 1) := by decide +kernel
theorem dX1_move_13 : decode cX1_move 13 = .ok (.bipush 9, 2) := by decide +kernel
theorem dX1_move_15 : decode cX1_move 15 = .ok (.if_icmp .gt 19, 3) := by decide +kernel
theorem dX1_move_18 : decode cX1_move 18 = .ok (.iload_n 3, 1) := by decide +kernel
theorem dX1_move_19 : decode cX1_move 19 = .ok (.invokestatic 66, 3) := by decide +kernel
theorem dX1_move_22 : decode cX1_move 22 = .ok (.ifCond .ne 12, 3) := by decide +kernel
theorem dX1_move_25 : decode cX1_move 25 = .ok (.aload_n 0, 1) := by decide +kernel
theorem dX1_move_26 : decode cX1_move 26 = .ok (.getfield 44, 3) := by decide +kernel
theorem dX1_move_29 : decode cX1_move 29 = .ok (.bipush 60, 2) := by decide +kernel
theorem dX1_move_31 : decode cX1_move 31 = .ok (.if_icmp .ne 5, 3) := by decide +kernel
theorem dX1_move_34 : decode cX1_move 34 = .ok (.iconst (-1), 1) := by decide +kernel
theorem dX1_move_35 : decode cX1_move 35 = .ok (.ireturn, 1) := by decide +kernel
theorem dX1_move_36 : decode cX1_move 36 = .ok (.aload_n 0, 1) := by decide +kernel
theorem dX1_move_37 : decode cX1_move 37 = .ok (.iload_n 1, 1) := by decide +kernel
theorem dX1_move_38 : decode cX1_move 38 = .ok (.iconst 1, 1) := by decide +kernel
theorem dX1_move_39 : decode cX1_move 39 = .ok (.iload_n 2, 1) := by decide +kernel
theorem dX1_move_40 : decode cX1_move 40 = .ok (.iload_n 3, 1) := by decide +kernel
theorem dX1_move_41 : decode cX1_move 41 = .ok (.invokevirtual 69, 3) := by decide +kernel
theorem dX1_move_44 : decode cX1_move 44 = .ok (.istore 4, 2) := by decide +kernel
theorem dX1_move_46 : decode cX1_move 46 = .ok (.aload_n 0, 1) := by decide +kernel
theorem dX1_move_47 : decode cX1_move 47 = .ok (.iload_n 1, 1) := by decide +kernel
theorem dX1_move_48 : decode cX1_move 48 = .ok (.iload 4, 2) := by decide +kernel
theorem dX1_move_50 : decode cX1_move 50 = .ok (.invokevirtual 73, 3) := by decide +kernel
theorem dX1_move_53 : decode cX1_move 53 = .ok (.ifCond .eq 7, 3) := by decide +kernel
theorem dX1_move_56 : decode cX1_move 56 = .ok (.iconst 1, 1) := by decide +kernel
theorem dX1_move_57 : decode cX1_move 57 = .ok (.goto 4, 3) := by decide +kernel
theorem dX1_move_60 : decode cX1_move 60 = .ok (.iconst 0, 1) := by decide +kernel
theorem dX1_move_61 : decode cX1_move 61 = .ok (.ireturn, 1) := by decide +kernel

theorem dX1_name_0 : decode cX1_name 0 = .ok (.iload_n 1, 1) := by decide +kernel
theorem dX1_name_1 : decode cX1_name 1 = .ok (.invokestatic 62, 3) := by decide +kernel
theorem dX1_name_4 : decode cX1_name 4 = .ok (.ifCond .ne 19, 3) := by decide +kernel
theorem dX1_name_7 : decode cX1_name 7 = .ok (.iload_n 2, 1) := by decide +kernel
theorem dX1_name_8 : decode cX1_name 8 = .ok (.invokestatic 66, 3) := by decide +kernel
theorem dX1_name_11 : decode cX1_name 11 = .ok (.ifCond .ne 12, 3) := by decide +kernel
theorem dX1_name_14 : decode cX1_name 14 = .ok (.aload_n 0, 1) := by decide +kernel
theorem dX1_name_15 : decode cX1_name 15 = .ok (.getfield 44, 3) := by decide +kernel
theorem dX1_name_18 : decode cX1_name 18 = .ok (.bipush 60, 2) := by decide +kernel
theorem dX1_name_20 : decode cX1_name 20 = .ok (.if_icmp .ne 5, 3) := by decide +kernel
theorem dX1_name_23 : decode cX1_name 23 = .ok (.iconst (-1), 1) := by decide +kernel
theorem dX1_name_24 : decode cX1_name 24 = .ok (.ireturn, 1) := by decide +kernel
theorem dX1_name_25 : decode cX1_name 25 = .ok (.aload_n 0, 1) := by decide +kernel
theorem dX1_name_26 : decode cX1_name 26 = .ok (.iload_n 1, 1) := by decide +kernel
theorem dX1_name_27 : decode cX1_name 27 = .ok (.iconst 0, 1) := by decide +kernel
theorem dX1_name_28 : decode cX1_name 28 = .ok (.iload_n 2, 1) := by decide +kernel
theorem dX1_name_29 : decode cX1_name 29 = .ok (.iload_n 3, 1) := by decide +kernel
theorem dX1_name_30 : decode cX1_name 30 = .ok (.invokevirtual 69, 3) := by decide +kernel
theorem dX1_name_33 : decode cX1_name 33 = .ok (.pop, 1) := by decide +kernel
theorem dX1_name_34 : decode cX1_name 34 = .ok (.iconst 0, 1) := by decide +kernel
theorem dX1_name_35 : decode cX1_name 35 = .ok (.ireturn, 1) := by decide +kernel

theorem dX1_deliver_0 : decode cX1_deliver 0 = .ok (.iload_n 1, 1) := by decide +kernel
theorem dX1_deliver_1 : decode cX1_deliver 1 = .ok (.invokestatic 62, 3) := by decide +kernel
theorem dX1_deliver_4 : decode cX1_deliver 4 = .ok (.ifCond .ne 10, 3) := by decide +kernel
theorem dX1_deliver_7 : decode cX1_deliver 7 = .ok (.iload_n 2, 1) := by decide +kernel
theorem dX1_deliver_8 : decode cX1_deliver 8 = .ok (.invokestatic 62, 3) := by decide +kernel
theorem dX1_deliver_11 : decode cX1_deliver 11 = .ok (.ifCond .eq 5, 3) := by decide +kernel
theorem dX1_deliver_14 : decode cX1_deliver 14 = .ok (.iconst (-1), 1) := by decide +kernel
theorem dX1_deliver_15 : decode cX1_deliver 15 = .ok (.ireturn, 1) := by decide +kernel
theorem dX1_deliver_16 : decode cX1_deliver 16 = .ok (.iconst 0, 1) := by decide +kernel
theorem dX1_deliver_17 : decode cX1_deliver 17 = .ok (.istore_n 3, 1) := by decide +kernel
theorem dX1_deliver_18 : decode cX1_deliver 18 = .ok (.iload_n 3, 1) := by decide +kernel
theorem dX1_deliver_19 : decode cX1_deliver 19 = .ok (.aload_n 0, 1) := by decide +kernel
theorem dX1_deliver_20 : decode cX1_deliver 20 = .ok (.getfield 44, 3) := by decide +kernel
theorem dX1_deliver_23 : decode cX1_deliver 23 = .ok (.if_icmp .ge 51, 3) := by decide +kernel
theorem dX1_deliver_26 : decode cX1_deliver 26 = .ok (.aload_n 0, 1) := by decide +kernel
theorem dX1_deliver_27 : decode cX1_deliver 27 = .ok (.getfield 7, 3) := by decide +kernel
theorem dX1_deliver_30 : decode cX1_deliver 30 = .ok (.iload_n 3, 1) := by decide +kernel
theorem dX1_deliver_31 : decode cX1_deliver 31 = .ok (.iaload, 1) := by decide +kernel
theorem dX1_deliver_32 : decode cX1_deliver 32 = .ok (.iload_n 1, 1) := by decide +kernel
theorem dX1_deliver_33 : decode cX1_deliver 33 = .ok (.if_icmp .ne 35, 3) := by decide +kernel
theorem dX1_deliver_36 : decode cX1_deliver 36 = .ok (.aload_n 0, 1) := by decide +kernel
theorem dX1_deliver_37 : decode cX1_deliver 37 = .ok (.getfield 26, 3) := by decide +kernel
theorem dX1_deliver_40 : decode cX1_deliver 40 = .ok (.bipush 60, 2) := by decide +kernel
theorem dX1_deliver_42 : decode cX1_deliver 42 = .ok (.iload_n 2, 1) := by decide +kernel
theorem dX1_deliver_43 : decode cX1_deliver 43 = .ok (.imul, 1) := by decide +kernel
theorem dX1_deliver_44 : decode cX1_deliver 44 = .ok (.iload_n 3, 1) := by decide +kernel
theorem dX1_deliver_45 : decode cX1_deliver 45 = .ok (.iadd, 1) := by decide +kernel
theorem dX1_deliver_46 : decode cX1_deliver 46 = .ok (.baload, 1) := by decide +kernel
theorem dX1_deliver_47 : decode cX1_deliver 47 = .ok (.ifCond .ne 21, 3) := by decide +kernel
theorem dX1_deliver_50 : decode cX1_deliver 50 = .ok (.aload_n 0, 1) := by decide +kernel
theorem dX1_deliver_51 : decode cX1_deliver 51 = .ok (.getfield 26, 3) := by decide +kernel
theorem dX1_deliver_54 : decode cX1_deliver 54 = .ok (.bipush 60, 2) := by decide +kernel
theorem dX1_deliver_56 : decode cX1_deliver 56 = .ok (.iload_n 2, 1) := by decide +kernel
theorem dX1_deliver_57 : decode cX1_deliver 57 = .ok (.imul, 1) := by decide +kernel
theorem dX1_deliver_58 : decode cX1_deliver 58 = .ok (.iload_n 3, 1) := by decide +kernel
theorem dX1_deliver_59 : decode cX1_deliver 59 = .ok (.iadd, 1) := by decide +kernel
theorem dX1_deliver_60 : decode cX1_deliver 60 = .ok (.iconst 1, 1) := by decide +kernel
theorem dX1_deliver_61 : decode cX1_deliver 61 = .ok (.bastore, 1) := by decide +kernel
theorem dX1_deliver_62 : decode cX1_deliver 62 = .ok (.aload_n 0, 1) := by decide +kernel
theorem dX1_deliver_63 : decode cX1_deliver 63 = .ok (.iload_n 2, 1) := by decide +kernel
theorem dX1_deliver_64 : decode cX1_deliver 64 = .ok (.invokevirtual 76, 3) := by decide +kernel
theorem dX1_deliver_67 : decode cX1_deliver 67 = .ok (.ireturn, 1) := by decide +kernel
theorem dX1_deliver_68 : decode cX1_deliver 68 = .ok (.iinc 3 1, 3) := by decide +kernel
theorem dX1_deliver_71 : decode cX1_deliver 71 = .ok (.goto (-53), 3) := by decide +kernel
theorem dX1_deliver_74 : decode cX1_deliver 74 = .ok (.iconst (-1), 1) := by decide +kernel
theorem dX1_deliver_75 : decode cX1_deliver 75 = .ok (.ireturn, 1) := by decide +kernel

theorem dX1_sync_0 : decode cX1_sync 0 = .ok (.iload_n 1, 1) := by decide +kernel
theorem dX1_sync_1 : decode cX1_sync 1 = .ok (.invokestatic 62, 3) := by decide +kernel
theorem dX1_sync_4 : decode cX1_sync 4 = .ok (.ifCond .ne 10, 3) := by decide +kernel
theorem dX1_sync_7 : decode cX1_sync 7 = .ok (.iload_n 2, 1) := by decide +kernel
theorem dX1_sync_8 : decode cX1_sync 8 = .ok (.invokestatic 62, 3) := by decide +kernel
theorem dX1_sync_11 : decode cX1_sync 11 = .ok (.ifCond .eq 5, 3) := by decide +kernel
theorem dX1_sync_14 : decode cX1_sync 14 = .ok (.iconst (-1), 1) := by decide +kernel
theorem dX1_sync_15 : decode cX1_sync 15 = .ok (.ireturn, 1) := by decide +kernel
theorem dX1_sync_16 : decode cX1_sync 16 = .ok (.iconst 0, 1) := by decide +kernel
theorem dX1_sync_17 : decode cX1_sync 17 = .ok (.istore_n 3, 1) := by decide +kernel
theorem dX1_sync_18 : decode cX1_sync 18 = .ok (.iconst 0, 1) := by decide +kernel
theorem dX1_sync_19 : decode cX1_sync 19 = .ok (.istore 4, 2) := by decide +kernel
theorem dX1_sync_21 : decode cX1_sync 21 = .ok (.iload 4, 2) := by decide +kernel
theorem dX1_sync_23 : decode cX1_sync 23 = .ok (.aload_n 0, 1) := by decide +kernel
theorem dX1_sync_24 : decode cX1_sync 24 = .ok (.getfield 44, 3) := by decide +kernel
theorem dX1_sync_27 : decode cX1_sync 27 = .ok (.if_icmp .ge 55, 3) := by decide +kernel
theorem dX1_sync_30 : decode cX1_sync 30 = .ok (.aload_n 0, 1) := by decide +kernel
theorem dX1_sync_31 : decode cX1_sync 31 = .ok (.getfield 26, 3) := by decide +kernel
theorem dX1_sync_34 : decode cX1_sync 34 = .ok (.bipush 60, 2) := by decide +kernel
theorem dX1_sync_36 : decode cX1_sync 36 = .ok (.iload_n 1, 1) := by decide +kernel
theorem dX1_sync_37 : decode cX1_sync 37 = .ok (.imul, 1) := by decide +kernel
theorem dX1_sync_38 : decode cX1_sync 38 = .ok (.iload 4, 2) := by decide +kernel
theorem dX1_sync_40 : decode cX1_sync 40 = .ok (.iadd, 1) := by decide +kernel
theorem dX1_sync_41 : decode cX1_sync 41 = .ok (.baload, 1) := by decide +kernel
theorem dX1_sync_42 : decode cX1_sync 42 = .ok (.ifCond .eq 34, 3) := by decide +kernel
theorem dX1_sync_45 : decode cX1_sync 45 = .ok (.aload_n 0, 1) := by decide +kernel
theorem dX1_sync_46 : decode cX1_sync 46 = .ok (.getfield 26, 3) := by decide +kernel
theorem dX1_sync_49 : decode cX1_sync 49 = .ok (.bipush 60, 2) := by decide +kernel
theorem dX1_sync_51 : decode cX1_sync 51 = .ok (.iload_n 2, 1) := by decide +kernel
theorem dX1_sync_52 : decode cX1_sync 52 = .ok (.imul, 1) := by decide +kernel
theorem dX1_sync_53 : decode cX1_sync 53 = .ok (.iload 4, 2) := by decide +kernel
theorem dX1_sync_55 : decode cX1_sync 55 = .ok (.iadd, 1) := by decide +kernel
theorem dX1_sync_56 : decode cX1_sync 56 = .ok (.baload, 1) := by decide +kernel
theorem dX1_sync_57 : decode cX1_sync 57 = .ok (.ifCond .ne 19, 3) := by decide +kernel
theorem dX1_sync_60 : decode cX1_sync 60 = .ok (.aload_n 0, 1) := by decide +kernel
theorem dX1_sync_61 : decode cX1_sync 61 = .ok (.getfield 26, 3) := by decide +kernel
theorem dX1_sync_64 : decode cX1_sync 64 = .ok (.bipush 60, 2) := by decide +kernel
theorem dX1_sync_66 : decode cX1_sync 66 = .ok (.iload_n 2, 1) := by decide +kernel
theorem dX1_sync_67 : decode cX1_sync 67 = .ok (.imul, 1) := by decide +kernel
theorem dX1_sync_68 : decode cX1_sync 68 = .ok (.iload 4, 2) := by decide +kernel
theorem dX1_sync_70 : decode cX1_sync 70 = .ok (.iadd, 1) := by decide +kernel
theorem dX1_sync_71 : decode cX1_sync 71 = .ok (.iconst 1, 1) := by decide +kernel
theorem dX1_sync_72 : decode cX1_sync 72 = .ok (.bastore, 1) := by decide +kernel
theorem dX1_sync_73 : decode cX1_sync 73 = .ok (.iinc 3 1, 3) := by decide +kernel
theorem dX1_sync_76 : decode cX1_sync 76 = .ok (.iinc 4 1, 3) := by decide +kernel
theorem dX1_sync_79 : decode cX1_sync 79 = .ok (.goto (-58), 3) := by decide +kernel
theorem dX1_sync_82 : decode cX1_sync 82 = .ok (.iload_n 3, 1) := by decide +kernel
theorem dX1_sync_83 : decode cX1_sync 83 = .ok (.ireturn, 1) := by decide +kernel

theorem dX1_parent_0 : decode cX1_parent 0 = .ok (.iload_n 1, 1) := by decide +kernel
theorem dX1_parent_1 : decode cX1_parent 1 = .ok (.invokestatic 62, 3) := by decide +kernel
theorem dX1_parent_4 : decode cX1_parent 4 = .ok (.ifCond .ne 10, 3) := by decide +kernel
theorem dX1_parent_7 : decode cX1_parent 7 = .ok (.iload_n 2, 1) := by decide +kernel
theorem dX1_parent_8 : decode cX1_parent 8 = .ok (.invokestatic 66, 3) := by decide +kernel
theorem dX1_parent_11 : decode cX1_parent 11 = .ok (.ifCond .eq 5, 3) := by decide +kernel
theorem dX1_parent_14 : decode cX1_parent 14 = .ok (.iconst (-1), 1) := by decide +kernel
theorem dX1_parent_15 : decode cX1_parent 15 = .ok (.ireturn, 1) := by decide +kernel
theorem dX1_parent_16 : decode cX1_parent 16 = .ok (.aload_n 0, 1) := by decide +kernel
theorem dX1_parent_17 : decode cX1_parent 17 = .ok (.iload_n 1, 1) := by decide +kernel
theorem dX1_parent_18 : decode cX1_parent 18 = .ok (.iconst (-1), 1) := by decide +kernel
theorem dX1_parent_19 : decode cX1_parent 19 = .ok (.invokevirtual 73, 3) := by decide +kernel
theorem dX1_parent_22 : decode cX1_parent 22 = .ok (.pop, 1) := by decide +kernel
theorem dX1_parent_23 : decode cX1_parent 23 = .ok (.aload_n 0, 1) := by decide +kernel
theorem dX1_parent_24 : decode cX1_parent 24 = .ok (.getfield 29, 3) := by decide +kernel
theorem dX1_parent_27 : decode cX1_parent 27 = .ok (.iload_n 2, 1) := by decide +kernel
theorem dX1_parent_28 : decode cX1_parent 28 = .ok (.iaload, 1) := by decide +kernel
theorem dX1_parent_29 : decode cX1_parent 29 = .ok (.ireturn, 1) := by decide +kernel

theorem dX1_label_0 : decode cX1_label 0 = .ok (.iload_n 1, 1) := by decide +kernel
theorem dX1_label_1 : decode cX1_label 1 = .ok (.invokestatic 62, 3) := by decide +kernel
theorem dX1_label_4 : decode cX1_label 4 = .ok (.ifCond .ne 10, 3) := by decide +kernel
theorem dX1_label_7 : decode cX1_label 7 = .ok (.iload_n 2, 1) := by decide +kernel
theorem dX1_label_8 : decode cX1_label 8 = .ok (.invokestatic 66, 3) := by decide +kernel
theorem dX1_label_11 : decode cX1_label 11 = .ok (.ifCond .eq 5, 3) := by decide +kernel
theorem dX1_label_14 : decode cX1_label 14 = .ok (.iconst 0, 1) := by decide +kernel
theorem dX1_label_15 : decode cX1_label 15 = .ok (.ireturn, 1) := by decide +kernel
theorem dX1_label_16 : decode cX1_label 16 = .ok (.aload_n 0, 1) := by decide +kernel
theorem dX1_label_17 : decode cX1_label 17 = .ok (.iload_n 1, 1) := by decide +kernel
theorem dX1_label_18 : decode cX1_label 18 = .ok (.iconst (-1), 1) := by decide +kernel
theorem dX1_label_19 : decode cX1_label 19 = .ok (.invokevirtual 73, 3) := by decide +kernel
theorem dX1_label_22 : decode cX1_label 22 = .ok (.pop, 1) := by decide +kernel
theorem dX1_label_23 : decode cX1_label 23 = .ok (.aload_n 0, 1) := by decide +kernel
theorem dX1_label_24 : decode cX1_label 24 = .ok (.getfield 32, 3) := by decide +kernel
theorem dX1_label_27 : decode cX1_label 27 = .ok (.iload_n 2, 1) := by decide +kernel
theorem dX1_label_28 : decode cX1_label 28 = .ok (.iaload, 1) := by decide +kernel
theorem dX1_label_29 : decode cX1_label 29 = .ok (.ireturn, 1) := by decide +kernel

theorem dX1_children_0 : decode cX1_children 0 = .ok (.iload_n 1, 1) := by decide +kernel
theorem dX1_children_1 : decode cX1_children 1 = .ok (.invokestatic 62, 3) := by decide +kernel
theorem dX1_children_4 : decode cX1_children 4 = .ok (.ifCond .ne 10, 3) := by decide +kernel
theorem dX1_children_7 : decode cX1_children 7 = .ok (.iload_n 2, 1) := by decide +kernel
theorem dX1_children_8 : decode cX1_children 8 = .ok (.invokestatic 66, 3) := by decide +kernel
theorem dX1_children_11 : decode cX1_children 11 = .ok (.ifCond .eq 5, 3) := by decide +kernel
theorem dX1_children_14 : decode cX1_children 14 = .ok (.iconst (-1), 1) := by decide +kernel
theorem dX1_children_15 : decode cX1_children 15 = .ok (.ireturn, 1) := by decide +kernel
theorem dX1_children_16 : decode cX1_children 16 = .ok (.aload_n 0, 1) := by decide +kernel
theorem dX1_children_17 : decode cX1_children 17 = .ok (.iload_n 1, 1) := by decide +kernel
theorem dX1_children_18 : decode cX1_children 18 = .ok (.iconst (-1), 1) := by decide +kernel
theorem dX1_children_19 : decode cX1_children 19 = .ok (.invokevirtual 73, 3) := by decide +kernel
theorem dX1_children_22 : decode cX1_children 22 = .ok (.pop, 1) := by decide +kernel
theorem dX1_children_23 : decode cX1_children 23 = .ok (.iconst 0, 1) := by decide +kernel
theorem dX1_children_24 : decode cX1_children 24 = .ok (.istore_n 3, 1) := by decide +kernel
theorem dX1_children_25 : decode cX1_children 25 = .ok (.iconst 0, 1) := by decide +kernel
theorem dX1_children_26 : decode cX1_children 26 = .ok (.istore 4, 2) := by decide +kernel
theorem dX1_children_28 : decode cX1_children 28 = .ok (.iload 4, 2) := by decide +kernel
theorem dX1_children_30 : decode cX1_children 30 = .ok (.bipush 10, 2) := by decide +kernel
theorem dX1_children_32 : decode cX1_children 32 = .ok (.if_icmp .ge 23, 3) := by decide +kernel
theorem dX1_children_35 : decode cX1_children 35 = .ok (.aload_n 0, 1) := by decide +kernel
theorem dX1_children_36 : decode cX1_children 36 = .ok (.getfield 29, 3) := by decide +kernel
theorem dX1_children_39 : decode cX1_children 39 = .ok (.iload 4, 2) := by decide +kernel
theorem dX1_children_41 : decode cX1_children 41 = .ok (.iaload, 1) := by decide +kernel
theorem dX1_children_42 : decode cX1_children 42 = .ok (.iload_n 2, 1) := by decide +kernel
theorem dX1_children_43 : decode cX1_children 43 = .ok (.if_icmp .ne 6, 3) := by decide +kernel
theorem dX1_children_46 : decode cX1_children 46 = .ok (.iinc 3 1, 3) := by decide +kernel
theorem dX1_children_49 : decode cX1_children 49 = .ok (.iinc 4 1, 3) := by decide +kernel
theorem dX1_children_52 : decode cX1_children 52 = .ok (.goto (-24), 3) := by decide +kernel
theorem dX1_children_55 : decode cX1_children 55 = .ok (.iload_n 3, 1) := by decide +kernel
theorem dX1_children_56 : decode cX1_children 56 = .ok (.ireturn, 1) := by decide +kernel

theorem dX1_depth_0 : decode cX1_depth 0 = .ok (.iload_n 1, 1) := by decide +kernel
theorem dX1_depth_1 : decode cX1_depth 1 = .ok (.invokestatic 62, 3) := by decide +kernel
theorem dX1_depth_4 : decode cX1_depth 4 = .ok (.ifCond .ne 10, 3) := by decide +kernel
theorem dX1_depth_7 : decode cX1_depth 7 = .ok (.iload_n 2, 1) := by decide +kernel
theorem dX1_depth_8 : decode cX1_depth 8 = .ok (.invokestatic 66, 3) := by decide +kernel
theorem dX1_depth_11 : decode cX1_depth 11 = .ok (.ifCond .eq 5, 3) := by decide +kernel
theorem dX1_depth_14 : decode cX1_depth 14 = .ok (.iconst (-1), 1) := by decide +kernel
theorem dX1_depth_15 : decode cX1_depth 15 = .ok (.ireturn, 1) := by decide +kernel
theorem dX1_depth_16 : decode cX1_depth 16 = .ok (.aload_n 0, 1) := by decide +kernel
theorem dX1_depth_17 : decode cX1_depth 17 = .ok (.iload_n 1, 1) := by decide +kernel
theorem dX1_depth_18 : decode cX1_depth 18 = .ok (.iconst (-1), 1) := by decide +kernel
theorem dX1_depth_19 : decode cX1_depth 19 = .ok (.invokevirtual 73, 3) := by decide +kernel
theorem dX1_depth_22 : decode cX1_depth 22 = .ok (.pop, 1) := by decide +kernel
theorem dX1_depth_23 : decode cX1_depth 23 = .ok (.iconst 0, 1) := by decide +kernel
theorem dX1_depth_24 : decode cX1_depth 24 = .ok (.istore_n 3, 1) := by decide +kernel
theorem dX1_depth_25 : decode cX1_depth 25 = .ok (.iload_n 2, 1) := by decide +kernel
theorem dX1_depth_26 : decode cX1_depth 26 = .ok (.istore 4, 2) := by decide +kernel
theorem dX1_depth_28 : decode cX1_depth 28 = .ok (.iload_n 3, 1) := by decide +kernel
theorem dX1_depth_29 : decode cX1_depth 29 = .ok (.bipush 10, 2) := by decide +kernel
theorem dX1_depth_31 : decode cX1_depth 31 = .ok (.if_icmp .ge 28, 3) := by decide +kernel
theorem dX1_depth_34 : decode cX1_depth 34 = .ok (.aload_n 0, 1) := by decide +kernel
theorem dX1_depth_35 : decode cX1_depth 35 = .ok (.getfield 29, 3) := by decide +kernel
theorem dX1_depth_38 : decode cX1_depth 38 = .ok (.iload 4, 2) := by decide +kernel
theorem dX1_depth_40 : decode cX1_depth 40 = .ok (.iaload, 1) := by decide +kernel
theorem dX1_depth_41 : decode cX1_depth 41 = .ok (.ifCond .lt 18, 3) := by decide +kernel
theorem dX1_depth_44 : decode cX1_depth 44 = .ok (.aload_n 0, 1) := by decide +kernel
theorem dX1_depth_45 : decode cX1_depth 45 = .ok (.getfield 29, 3) := by decide +kernel
theorem dX1_depth_48 : decode cX1_depth 48 = .ok (.iload 4, 2) := by decide +kernel
theorem dX1_depth_50 : decode cX1_depth 50 = .ok (.iaload, 1) := by decide +kernel
theorem dX1_depth_51 : decode cX1_depth 51 = .ok (.istore 4, 2) := by decide +kernel
theorem dX1_depth_53 : decode cX1_depth 53 = .ok (.iinc 3 1, 3) := by decide +kernel
theorem dX1_depth_56 : decode cX1_depth 56 = .ok (.goto (-28), 3) := by decide +kernel
theorem dX1_depth_59 : decode cX1_depth 59 = .ok (.iload_n 3, 1) := by decide +kernel
theorem dX1_depth_60 : decode cX1_depth 60 = .ok (.ireturn, 1) := by decide +kernel

theorem dX1_skipped_0 : decode cX1_skipped 0 = .ok (.iload_n 1, 1) := by decide +kernel
theorem dX1_skipped_1 : decode cX1_skipped 1 = .ok (.invokestatic 62, 3) := by decide +kernel
theorem dX1_skipped_4 : decode cX1_skipped 4 = .ok (.ifCond .eq 5, 3) := by decide +kernel
theorem dX1_skipped_7 : decode cX1_skipped 7 = .ok (.iconst (-1), 1) := by decide +kernel
theorem dX1_skipped_8 : decode cX1_skipped 8 = .ok (.ireturn, 1) := by decide +kernel
theorem dX1_skipped_9 : decode cX1_skipped 9 = .ok (.aload_n 0, 1) := by decide +kernel
theorem dX1_skipped_10 : decode cX1_skipped 10 = .ok (.iload_n 1, 1) := by decide +kernel
theorem dX1_skipped_11 : decode cX1_skipped 11 = .ok (.iconst (-1), 1) := by decide +kernel
theorem dX1_skipped_12 : decode cX1_skipped 12 = .ok (.invokevirtual 73, 3) := by decide +kernel
theorem dX1_skipped_15 : decode cX1_skipped 15 = .ok (.pop, 1) := by decide +kernel
theorem dX1_skipped_16 : decode cX1_skipped 16 = .ok (.aload_n 0, 1) := by decide +kernel
theorem dX1_skipped_17 : decode cX1_skipped 17 = .ok (.getfield 52, 3) := by decide +kernel
theorem dX1_skipped_20 : decode cX1_skipped 20 = .ok (.ireturn, 1) := by decide +kernel

theorem dX1_alike_0 : decode cX1_alike 0 = .ok (.iload_n 1, 1) := by decide +kernel
theorem dX1_alike_1 : decode cX1_alike 1 = .ok (.invokestatic 62, 3) := by decide +kernel
theorem dX1_alike_4 : decode cX1_alike 4 = .ok (.ifCond .ne 10, 3) := by decide +kernel
theorem dX1_alike_7 : decode cX1_alike 7 = .ok (.iload_n 2, 1) := by decide +kernel
theorem dX1_alike_8 : decode cX1_alike 8 = .ok (.invokestatic 62, 3) := by decide +kernel
theorem dX1_alike_11 : decode cX1_alike 11 = .ok (.ifCond .eq 5, 3) := by decide +kernel
theorem dX1_alike_14 : decode cX1_alike 14 = .ok (.iconst (-1), 1) := by decide +kernel
theorem dX1_alike_15 : decode cX1_alike 15 = .ok (.ireturn, 1) := by decide +kernel
theorem dX1_alike_16 : decode cX1_alike 16 = .ok (.aload_n 0, 1) := by decide +kernel
theorem dX1_alike_17 : decode cX1_alike 17 = .ok (.iload_n 1, 1) := by decide +kernel
theorem dX1_alike_18 : decode cX1_alike 18 = .ok (.iconst (-1), 1) := by decide +kernel
theorem dX1_alike_19 : decode cX1_alike 19 = .ok (.invokevirtual 73, 3) := by decide +kernel
theorem dX1_alike_22 : decode cX1_alike 22 = .ok (.pop, 1) := by decide +kernel
theorem dX1_alike_23 : decode cX1_alike 23 = .ok (.iconst 0, 1) := by decide +kernel
theorem dX1_alike_24 : decode cX1_alike 24 = .ok (.istore_n 3, 1) := by decide +kernel
theorem dX1_alike_25 : decode cX1_alike 25 = .ok (.iload_n 3, 1) := by decide +kernel
theorem dX1_alike_26 : decode cX1_alike 26 = .ok (.bipush 10, 2) := by decide +kernel
theorem dX1_alike_28 : decode cX1_alike 28 = .ok (.if_icmp .ge 33, 3) := by decide +kernel
theorem dX1_alike_31 : decode cX1_alike 31 = .ok (.aload_n 0, 1) := by decide +kernel
theorem dX1_alike_32 : decode cX1_alike 32 = .ok (.getfield 38, 3) := by decide +kernel
theorem dX1_alike_35 : decode cX1_alike 35 = .ok (.iload_n 3, 1) := by decide +kernel
theorem dX1_alike_36 : decode cX1_alike 36 = .ok (.aload_n 0, 1) := by decide +kernel
theorem dX1_alike_37 : decode cX1_alike 37 = .ok (.getfield 29, 3) := by decide +kernel
theorem dX1_alike_40 : decode cX1_alike 40 = .ok (.iload_n 3, 1) := by decide +kernel
theorem dX1_alike_41 : decode cX1_alike 41 = .ok (.iaload, 1) := by decide +kernel
theorem dX1_alike_42 : decode cX1_alike 42 = .ok (.iastore, 1) := by decide +kernel
theorem dX1_alike_43 : decode cX1_alike 43 = .ok (.aload_n 0, 1) := by decide +kernel
theorem dX1_alike_44 : decode cX1_alike 44 = .ok (.getfield 41, 3) := by decide +kernel
theorem dX1_alike_47 : decode cX1_alike 47 = .ok (.iload_n 3, 1) := by decide +kernel
theorem dX1_alike_48 : decode cX1_alike 48 = .ok (.aload_n 0, 1) := by decide +kernel
theorem dX1_alike_49 : decode cX1_alike 49 = .ok (.getfield 32, 3) := by decide +kernel
theorem dX1_alike_52 : decode cX1_alike 52 = .ok (.iload_n 3, 1) := by decide +kernel
theorem dX1_alike_53 : decode cX1_alike 53 = .ok (.iaload, 1) := by decide +kernel
theorem dX1_alike_54 : decode cX1_alike 54 = .ok (.iastore, 1) := by decide +kernel
theorem dX1_alike_55 : decode cX1_alike 55 = .ok (.iinc 3 1, 3) := by decide +kernel
theorem dX1_alike_58 : decode cX1_alike 58 = .ok (.goto (-33), 3) := by decide +kernel
theorem dX1_alike_61 : decode cX1_alike 61 = .ok (.aload_n 0, 1) := by decide +kernel
theorem dX1_alike_62 : decode cX1_alike 62 = .ok (.iload_n 2, 1) := by decide +kernel
theorem dX1_alike_63 : decode cX1_alike 63 = .ok (.iconst (-1), 1) := by decide +kernel
theorem dX1_alike_64 : decode cX1_alike 64 = .ok (.invokevirtual 73, 3) := by decide +kernel
theorem dX1_alike_67 : decode cX1_alike 67 = .ok (.pop, 1) := by decide +kernel
theorem dX1_alike_68 : decode cX1_alike 68 = .ok (.iconst 0, 1) := by decide +kernel
theorem dX1_alike_69 : decode cX1_alike 69 = .ok (.istore_n 3, 1) := by decide +kernel
theorem dX1_alike_70 : decode cX1_alike 70 = .ok (.iload_n 3, 1) := by decide +kernel
theorem dX1_alike_71 : decode cX1_alike 71 = .ok (.bipush 10, 2) := by decide +kernel
theorem dX1_alike_73 : decode cX1_alike 73 = .ok (.if_icmp .ge 41, 3) := by decide +kernel
theorem dX1_alike_76 : decode cX1_alike 76 = .ok (.aload_n 0, 1) := by decide +kernel
theorem dX1_alike_77 : decode cX1_alike 77 = .ok (.getfield 38, 3) := by decide +kernel
theorem dX1_alike_80 : decode cX1_alike 80 = .ok (.iload_n 3, 1) := by decide +kernel
theorem dX1_alike_81 : decode cX1_alike 81 = .ok (.iaload, 1) := by decide +kernel
theorem dX1_alike_82 : decode cX1_alike 82 = .ok (.aload_n 0, 1) := by decide +kernel
theorem dX1_alike_83 : decode cX1_alike 83 = .ok (.getfield 29, 3) := by decide +kernel
theorem dX1_alike_86 : decode cX1_alike 86 = .ok (.iload_n 3, 1) := by decide +kernel
theorem dX1_alike_87 : decode cX1_alike 87 = .ok (.iaload, 1) := by decide +kernel
theorem dX1_alike_88 : decode cX1_alike 88 = .ok (.if_icmp .ne 18, 3) := by decide +kernel
theorem dX1_alike_91 : decode cX1_alike 91 = .ok (.aload_n 0, 1) := by decide +kernel
theorem dX1_alike_92 : decode cX1_alike 92 = .ok (.getfield 41, 3) := by decide +kernel
theorem dX1_alike_95 : decode cX1_alike 95 = .ok (.iload_n 3, 1) := by decide +kernel
theorem dX1_alike_96 : decode cX1_alike 96 = .ok (.iaload, 1) := by decide +kernel
theorem dX1_alike_97 : decode cX1_alike 97 = .ok (.aload_n 0, 1) := by decide +kernel
theorem dX1_alike_98 : decode cX1_alike 98 = .ok (.getfield 32, 3) := by decide +kernel
theorem dX1_alike_101 : decode cX1_alike 101 = .ok (.iload_n 3, 1) := by decide +kernel
theorem dX1_alike_102 : decode cX1_alike 102 = .ok (.iaload, 1) := by decide +kernel
theorem dX1_alike_103 : decode cX1_alike 103 = .ok (.if_icmp .eq 5, 3) := by decide +kernel
theorem dX1_alike_106 : decode cX1_alike 106 = .ok (.iconst 0, 1) := by decide +kernel
theorem dX1_alike_107 : decode cX1_alike 107 = .ok (.ireturn, 1) := by decide +kernel
theorem dX1_alike_108 : decode cX1_alike 108 = .ok (.iinc 3 1, 3) := by decide +kernel
theorem dX1_alike_111 : decode cX1_alike 111 = .ok (.goto (-41), 3) := by decide +kernel
theorem dX1_alike_114 : decode cX1_alike 114 = .ok (.iconst 1, 1) := by decide +kernel
theorem dX1_alike_115 : decode cX1_alike 115 = .ok (.ireturn, 1) := by decide +kernel

set_option maxHeartbeats 4000000 in
/-- move, bad arguments -/
theorem metX1_move_bad (l : Launch) (D : va_G) (h : Nat → Nat) (cZ cI : ClassId) (g : Nat → Nat → Nat) (f : Nat → Nat → Int32) (x1 x2 x3 : Int32) (hM : g 0 0 ≤ 60) (hbad : ¬ mt_okm g x1 x2 x3) : Met l yX1_move wsX1_move rmX1_move (mPc D h cZ cI g f [.int x1, .int x2, .int x3]) (va_Qi (fun v (u : zU) => v = -1 ∧ u = (g, f)) (mB D h cZ cI) (mA h)) 0 0 (mA h) := by
  refine m_metI l (by decide) rfl (Nat.le_of_ble_eq_true rfl) ⟨rfl, rfl⟩ (fun p e s m args below meth cd R Q hR S hret ls hl hW => ?_)
  have hl : lv_has ls 5 [(0, .ref (h 0)), (1, .int x1), (2, .int x2), (3, .int x3)] := hl
  refine lv_iload_n (pc := 0) S.1 S.2.1 dX1_move_0 rfl (lv_at hl 1 rfl) ?_
  refine m_calls (pc := 1) (As := [.int x1]) (rest := []) S hW (metX1_bad l x1) (cwX1_bad S.2.2.2.2 (by rw [hR]; decide)) rfl hl.1 rfl (Nat.le_of_ble_eq_true rfl) ⟨Nat.zero_le _, Nat.zero_le _⟩ dX1_move_1 (fun r_1 H locs hp_1 hW => ?_)
  subst hp_1
  refine z_ifb_ne (pc := 4) (tgt := 34) S dX1_move_4 (by decide) (fun c_4 => ?_) (fun c_4 => ?_)
  · refine lv_iconst (pc := 34) (v := -1) S.1 S.2.1 dX1_move_34 (by decide) ?_
    exact hret _ _ _ _ _ _ _ hW ⟨rfl, rfl⟩ dX1_move_35
  · refine lv_iload_n (pc := 7) S.1 S.2.1 dX1_move_7 rfl (lv_at hl 2 rfl) ?_
    refine lv_iconst (pc := 8) (v := nI 1) S.1 S.2.1 dX1_move_8 (by decide) ?_
    refine lv_icmp_lt (pc := 9) (tgt := 34) S.1 S.2.1 dX1_move_9 (by decide) (fun c_9 => ?_) (fun c_9 => ?_)
    · refine lv_iconst (pc := 34) (v := -1) S.1 S.2.1 dX1_move_34 (by decide) ?_
      exact hret _ _ _ _ _ _ _ hW ⟨rfl, rfl⟩ dX1_move_35
    · refine lv_iload_n (pc := 12) S.1 S.2.1 dX1_move_12 rfl (lv_at hl 2 rfl) ?_
      refine lv_bipush (pc := 13) (v := nI 9) S.1 S.2.1 dX1_move_13 (by decide) ?_
      refine lv_icmp_gt (pc := 15) (tgt := 34) S.1 S.2.1 dX1_move_15 (by decide) (fun c_15 => ?_) (fun c_15 => ?_)
      · refine lv_iconst (pc := 34) (v := -1) S.1 S.2.1 dX1_move_34 (by decide) ?_
        exact hret _ _ _ _ _ _ _ hW ⟨rfl, rfl⟩ dX1_move_35
      · refine lv_iload_n (pc := 18) S.1 S.2.1 dX1_move_18 rfl (lv_at hl 3 rfl) ?_
        refine m_calls (pc := 19) (As := [.int x3]) (rest := []) S hW (metX1_badNode l x3) (cwX1_badNode S.2.2.2.2 (by rw [hR]; decide)) rfl hl.1 rfl (Nat.le_of_ble_eq_true rfl) ⟨Nat.zero_le _, Nat.zero_le _⟩ dX1_move_19 (fun r_19 H locs hp_19 hW => ?_)
        subst hp_19
        refine z_ifb_ne (pc := 22) (tgt := 34) S dX1_move_22 (by decide) (fun c_22 => ?_) (fun c_22 => ?_)
        · refine lv_iconst (pc := 34) (v := -1) S.1 S.2.1 dX1_move_34 (by decide) ?_
          exact hret _ _ _ _ _ _ _ hW ⟨rfl, rfl⟩ dX1_move_35
        · refine m_g_0 (pc := 25) S hW (lv_at hl 0 rfl) dX1_move_25 dX1_move_26 ?_
          refine lv_bipush (pc := 29) (v := nI 60) S.1 S.2.1 dX1_move_29 (by decide) ?_
          refine z_icmp_ne (pc := 31) (tgt := 36) (x := g 0 0) (y := 60) S (by omega) (by omega) dX1_move_31 (by decide) (fun c_31 => ?_) (fun c_31 => ?_)
          · exact absurd ⟨Classical.byContradiction c_4, ⟨Int32.not_lt.mp c_9, Int32.not_lt.mp c_15⟩, Classical.byContradiction c_22, by omega⟩ hbad
          · refine lv_iconst (pc := 34) (v := -1) S.1 S.2.1 dX1_move_34 (by decide) ?_
            exact hret _ _ _ _ _ _ _ hW ⟨rfl, rfl⟩ dX1_move_35
set_option maxHeartbeats 4000000 in
/-- name, bad arguments -/
theorem metX1_name_bad (l : Launch) (D : va_G) (h : Nat → Nat) (cZ cI : ClassId) (g : Nat → Nat → Nat) (f : Nat → Nat → Int32) (x1 x2 x3 : Int32) (hM : g 0 0 ≤ 60) (hbad : ¬ mt_okn g x1 x2) : Met l yX1_name wsX1_name rmX1_name (mPc D h cZ cI g f [.int x1, .int x2, .int x3]) (va_Qi (fun v (u : zU) => v = -1 ∧ u = (g, f)) (mB D h cZ cI) (mA h)) 0 0 (mA h) := by
  refine m_metI l (by decide) rfl (Nat.le_of_ble_eq_true rfl) ⟨rfl, rfl⟩ (fun p e s m args below meth cd R Q hR S hret ls hl hW => ?_)
  have hl : lv_has ls 4 [(0, .ref (h 0)), (1, .int x1), (2, .int x2), (3, .int x3)] := hl
  refine lv_iload_n (pc := 0) S.1 S.2.1 dX1_name_0 rfl (lv_at hl 1 rfl) ?_
  refine m_calls (pc := 1) (As := [.int x1]) (rest := []) S hW (metX1_bad l x1) (cwX1_bad S.2.2.2.2 (by rw [hR]; decide)) rfl hl.1 rfl (Nat.le_of_ble_eq_true rfl) ⟨Nat.zero_le _, Nat.zero_le _⟩ dX1_name_1 (fun r_1 H locs hp_1 hW => ?_)
  subst hp_1
  refine z_ifb_ne (pc := 4) (tgt := 23) S dX1_name_4 (by decide) (fun c_4 => ?_) (fun c_4 => ?_)
  · refine lv_iconst (pc := 23) (v := -1) S.1 S.2.1 dX1_name_23 (by decide) ?_
    exact hret _ _ _ _ _ _ _ hW ⟨rfl, rfl⟩ dX1_name_24
  · refine lv_iload_n (pc := 7) S.1 S.2.1 dX1_name_7 rfl (lv_at hl 2 rfl) ?_
    refine m_calls (pc := 8) (As := [.int x2]) (rest := []) S hW (metX1_badNode l x2) (cwX1_badNode S.2.2.2.2 (by rw [hR]; decide)) rfl hl.1 rfl (Nat.le_of_ble_eq_true rfl) ⟨Nat.zero_le _, Nat.zero_le _⟩ dX1_name_8 (fun r_8 H locs hp_8 hW => ?_)
    subst hp_8
    refine z_ifb_ne (pc := 11) (tgt := 23) S dX1_name_11 (by decide) (fun c_11 => ?_) (fun c_11 => ?_)
    · refine lv_iconst (pc := 23) (v := -1) S.1 S.2.1 dX1_name_23 (by decide) ?_
      exact hret _ _ _ _ _ _ _ hW ⟨rfl, rfl⟩ dX1_name_24
    · refine m_g_0 (pc := 14) S hW (lv_at hl 0 rfl) dX1_name_14 dX1_name_15 ?_
      refine lv_bipush (pc := 18) (v := nI 60) S.1 S.2.1 dX1_name_18 (by decide) ?_
      refine z_icmp_ne (pc := 20) (tgt := 25) (x := g 0 0) (y := 60) S (by omega) (by omega) dX1_name_20 (by decide) (fun c_20 => ?_) (fun c_20 => ?_)
      · exact absurd ⟨Classical.byContradiction c_4, Classical.byContradiction c_11, by omega⟩ hbad
      · refine lv_iconst (pc := 23) (v := -1) S.1 S.2.1 dX1_name_23 (by decide) ?_
        exact hret _ _ _ _ _ _ _ hW ⟨rfl, rfl⟩ dX1_name_24
set_option maxHeartbeats 4000000 in
/-- deliver, bad arguments -/
theorem metX1_deliver_bad (l : Launch) (D : va_G) (h : Nat → Nat) (cZ cI : ClassId) (g : Nat → Nat → Nat) (f : Nat → Nat → Int32) (x1 x2 : Int32) (hbad : ¬ (mt_rep x1 ∧ mt_rep x2)) : Met l yX1_deliver wsX1_deliver rmX1_deliver (mPc D h cZ cI g f [.int x1, .int x2]) (va_Qi (fun v (u : zU) => v = -1 ∧ u = (g, f)) (mB D h cZ cI) (mA h)) 0 0 (mA h) := by
  refine m_metI l (by decide) rfl (Nat.le_of_ble_eq_true rfl) ⟨rfl, rfl⟩ (fun p e s m args below meth cd R Q hR S hret ls hl hW => ?_)
  have hl : lv_has ls 4 [(0, .ref (h 0)), (1, .int x1), (2, .int x2)] := hl
  refine lv_iload_n (pc := 0) S.1 S.2.1 dX1_deliver_0 rfl (lv_at hl 1 rfl) ?_
  refine m_calls (pc := 1) (As := [.int x1]) (rest := []) S hW (metX1_bad l x1) (cwX1_bad S.2.2.2.2 (by rw [hR]; decide)) rfl hl.1 rfl (Nat.le_of_ble_eq_true rfl) ⟨Nat.zero_le _, Nat.zero_le _⟩ dX1_deliver_1 (fun r_1 H locs hp_1 hW => ?_)
  subst hp_1
  refine z_ifb_ne (pc := 4) (tgt := 14) S dX1_deliver_4 (by decide) (fun c_4 => ?_) (fun c_4 => ?_)
  · refine lv_iconst (pc := 14) (v := -1) S.1 S.2.1 dX1_deliver_14 (by decide) ?_
    exact hret _ _ _ _ _ _ _ hW ⟨rfl, rfl⟩ dX1_deliver_15
  · refine lv_iload_n (pc := 7) S.1 S.2.1 dX1_deliver_7 rfl (lv_at hl 2 rfl) ?_
    refine m_calls (pc := 8) (As := [.int x2]) (rest := []) S hW (metX1_bad l x2) (cwX1_bad S.2.2.2.2 (by rw [hR]; decide)) rfl hl.1 rfl (Nat.le_of_ble_eq_true rfl) ⟨Nat.zero_le _, Nat.zero_le _⟩ dX1_deliver_8 (fun r_8 H locs hp_8 hW => ?_)
    subst hp_8
    refine z_ifb_eq (pc := 11) (tgt := 16) S dX1_deliver_11 (by decide) (fun c_11 => ?_) (fun c_11 => ?_)
    · exact absurd ⟨Classical.byContradiction c_4, Classical.byContradiction c_11⟩ hbad
    · refine lv_iconst (pc := 14) (v := -1) S.1 S.2.1 dX1_deliver_14 (by decide) ?_
      exact hret _ _ _ _ _ _ _ hW ⟨rfl, rfl⟩ dX1_deliver_15
set_option maxHeartbeats 4000000 in
/-- sync, bad arguments -/
theorem metX1_sync_bad (l : Launch) (D : va_G) (h : Nat → Nat) (cZ cI : ClassId) (g : Nat → Nat → Nat) (f : Nat → Nat → Int32) (x1 x2 : Int32) (hbad : ¬ (mt_rep x1 ∧ mt_rep x2)) : Met l yX1_sync wsX1_sync rmX1_sync (mPc D h cZ cI g f [.int x1, .int x2]) (va_Qi (fun v (u : zU) => v = -1 ∧ u = (g, f)) (mB D h cZ cI) (mA h)) 0 0 (mA h) := by
  refine m_metI l (by decide) rfl (Nat.le_of_ble_eq_true rfl) ⟨rfl, rfl⟩ (fun p e s m args below meth cd R Q hR S hret ls hl hW => ?_)
  have hl : lv_has ls 5 [(0, .ref (h 0)), (1, .int x1), (2, .int x2)] := hl
  refine lv_iload_n (pc := 0) S.1 S.2.1 dX1_sync_0 rfl (lv_at hl 1 rfl) ?_
  refine m_calls (pc := 1) (As := [.int x1]) (rest := []) S hW (metX1_bad l x1) (cwX1_bad S.2.2.2.2 (by rw [hR]; decide)) rfl hl.1 rfl (Nat.le_of_ble_eq_true rfl) ⟨Nat.zero_le _, Nat.zero_le _⟩ dX1_sync_1 (fun r_1 H locs hp_1 hW => ?_)
  subst hp_1
  refine z_ifb_ne (pc := 4) (tgt := 14) S dX1_sync_4 (by decide) (fun c_4 => ?_) (fun c_4 => ?_)
  · refine lv_iconst (pc := 14) (v := -1) S.1 S.2.1 dX1_sync_14 (by decide) ?_
    exact hret _ _ _ _ _ _ _ hW ⟨rfl, rfl⟩ dX1_sync_15
  · refine lv_iload_n (pc := 7) S.1 S.2.1 dX1_sync_7 rfl (lv_at hl 2 rfl) ?_
    refine m_calls (pc := 8) (As := [.int x2]) (rest := []) S hW (metX1_bad l x2) (cwX1_bad S.2.2.2.2 (by rw [hR]; decide)) rfl hl.1 rfl (Nat.le_of_ble_eq_true rfl) ⟨Nat.zero_le _, Nat.zero_le _⟩ dX1_sync_8 (fun r_8 H locs hp_8 hW => ?_)
    subst hp_8
    refine z_ifb_eq (pc := 11) (tgt := 16) S dX1_sync_11 (by decide) (fun c_11 => ?_) (fun c_11 => ?_)
    · exact absurd ⟨Classical.byContradiction c_4, Classical.byContradiction c_11⟩ hbad
    · refine lv_iconst (pc := 14) (v := -1) S.1 S.2.1 dX1_sync_14 (by decide) ?_
      exact hret _ _ _ _ _ _ _ hW ⟨rfl, rfl⟩ dX1_sync_15
set_option maxHeartbeats 4000000 in
/-- alike, bad arguments -/
theorem metX1_alike_bad (l : Launch) (D : va_G) (h : Nat → Nat) (cZ cI : ClassId) (g : Nat → Nat → Nat) (f : Nat → Nat → Int32) (x1 x2 : Int32) (hbad : ¬ (mt_rep x1 ∧ mt_rep x2)) : Met l yX1_alike wsX1_alike rmX1_alike (mPc D h cZ cI g f [.int x1, .int x2]) (va_Qi (fun v (u : zU) => v = -1 ∧ u = (g, f)) (mB D h cZ cI) (mA h)) 0 0 (mA h) := by
  refine m_metI l (by decide) rfl (Nat.le_of_ble_eq_true rfl) ⟨rfl, rfl⟩ (fun p e s m args below meth cd R Q hR S hret ls hl hW => ?_)
  have hl : lv_has ls 4 [(0, .ref (h 0)), (1, .int x1), (2, .int x2)] := hl
  refine lv_iload_n (pc := 0) S.1 S.2.1 dX1_alike_0 rfl (lv_at hl 1 rfl) ?_
  refine m_calls (pc := 1) (As := [.int x1]) (rest := []) S hW (metX1_bad l x1) (cwX1_bad S.2.2.2.2 (by rw [hR]; decide)) rfl hl.1 rfl (Nat.le_of_ble_eq_true rfl) ⟨Nat.zero_le _, Nat.zero_le _⟩ dX1_alike_1 (fun r_1 H locs hp_1 hW => ?_)
  subst hp_1
  refine z_ifb_ne (pc := 4) (tgt := 14) S dX1_alike_4 (by decide) (fun c_4 => ?_) (fun c_4 => ?_)
  · refine lv_iconst (pc := 14) (v := -1) S.1 S.2.1 dX1_alike_14 (by decide) ?_
    exact hret _ _ _ _ _ _ _ hW ⟨rfl, rfl⟩ dX1_alike_15
  · refine lv_iload_n (pc := 7) S.1 S.2.1 dX1_alike_7 rfl (lv_at hl 2 rfl) ?_
    refine m_calls (pc := 8) (As := [.int x2]) (rest := []) S hW (metX1_bad l x2) (cwX1_bad S.2.2.2.2 (by rw [hR]; decide)) rfl hl.1 rfl (Nat.le_of_ble_eq_true rfl) ⟨Nat.zero_le _, Nat.zero_le _⟩ dX1_alike_8 (fun r_8 H locs hp_8 hW => ?_)
    subst hp_8
    refine z_ifb_eq (pc := 11) (tgt := 16) S dX1_alike_11 (by decide) (fun c_11 => ?_) (fun c_11 => ?_)
    · exact absurd ⟨Classical.byContradiction c_4, Classical.byContradiction c_11⟩ hbad
    · refine lv_iconst (pc := 14) (v := -1) S.1 S.2.1 dX1_alike_14 (by decide) ?_
      exact hret _ _ _ _ _ _ _ hW ⟨rfl, rfl⟩ dX1_alike_15
set_option maxHeartbeats 4000000 in
/-- parent, bad arguments -/
theorem metX1_parent_bad (l : Launch) (D : va_G) (h : Nat → Nat) (cZ cI : ClassId) (g : Nat → Nat → Nat) (f : Nat → Nat → Int32) (x1 x2 : Int32) (hbad : ¬ (mt_rep x1 ∧ mt_nod x2)) : Met l yX1_parent wsX1_parent rmX1_parent (mPc D h cZ cI g f [.int x1, .int x2]) (va_Qi (fun v (u : zU) => v = -1 ∧ u = (g, f)) (mB D h cZ cI) (mA h)) 0 0 (mA h) := by
  refine m_metI l (by decide) rfl (Nat.le_of_ble_eq_true rfl) ⟨rfl, rfl⟩ (fun p e s m args below meth cd R Q hR S hret ls hl hW => ?_)
  have hl : lv_has ls 3 [(0, .ref (h 0)), (1, .int x1), (2, .int x2)] := hl
  refine lv_iload_n (pc := 0) S.1 S.2.1 dX1_parent_0 rfl (lv_at hl 1 rfl) ?_
  refine m_calls (pc := 1) (As := [.int x1]) (rest := []) S hW (metX1_bad l x1) (cwX1_bad S.2.2.2.2 (by rw [hR]; decide)) rfl hl.1 rfl (Nat.le_of_ble_eq_true rfl) ⟨Nat.zero_le _, Nat.zero_le _⟩ dX1_parent_1 (fun r_1 H locs hp_1 hW => ?_)
  subst hp_1
  refine z_ifb_ne (pc := 4) (tgt := 14) S dX1_parent_4 (by decide) (fun c_4 => ?_) (fun c_4 => ?_)
  · refine lv_iconst (pc := 14) (v := -1) S.1 S.2.1 dX1_parent_14 (by decide) ?_
    exact hret _ _ _ _ _ _ _ hW ⟨rfl, rfl⟩ dX1_parent_15
  · refine lv_iload_n (pc := 7) S.1 S.2.1 dX1_parent_7 rfl (lv_at hl 2 rfl) ?_
    refine m_calls (pc := 8) (As := [.int x2]) (rest := []) S hW (metX1_badNode l x2) (cwX1_badNode S.2.2.2.2 (by rw [hR]; decide)) rfl hl.1 rfl (Nat.le_of_ble_eq_true rfl) ⟨Nat.zero_le _, Nat.zero_le _⟩ dX1_parent_8 (fun r_8 H locs hp_8 hW => ?_)
    subst hp_8
    refine z_ifb_eq (pc := 11) (tgt := 16) S dX1_parent_11 (by decide) (fun c_11 => ?_) (fun c_11 => ?_)
    · exact absurd ⟨Classical.byContradiction c_4, Classical.byContradiction c_11⟩ hbad
    · refine lv_iconst (pc := 14) (v := -1) S.1 S.2.1 dX1_parent_14 (by decide) ?_
      exact hret _ _ _ _ _ _ _ hW ⟨rfl, rfl⟩ dX1_parent_15
set_option maxHeartbeats 4000000 in
/-- label, bad arguments -/
theorem metX1_label_bad (l : Launch) (D : va_G) (h : Nat → Nat) (cZ cI : ClassId) (g : Nat → Nat → Nat) (f : Nat → Nat → Int32) (x1 x2 : Int32) (hbad : ¬ (mt_rep x1 ∧ mt_nod x2)) : Met l yX1_label wsX1_label rmX1_label (mPc D h cZ cI g f [.int x1, .int x2]) (va_Qi (fun v (u : zU) => v = 0 ∧ u = (g, f)) (mB D h cZ cI) (mA h)) 0 0 (mA h) := by
  refine m_metI l (by decide) rfl (Nat.le_of_ble_eq_true rfl) ⟨rfl, rfl⟩ (fun p e s m args below meth cd R Q hR S hret ls hl hW => ?_)
  have hl : lv_has ls 3 [(0, .ref (h 0)), (1, .int x1), (2, .int x2)] := hl
  refine lv_iload_n (pc := 0) S.1 S.2.1 dX1_label_0 rfl (lv_at hl 1 rfl) ?_
  refine m_calls (pc := 1) (As := [.int x1]) (rest := []) S hW (metX1_bad l x1) (cwX1_bad S.2.2.2.2 (by rw [hR]; decide)) rfl hl.1 rfl (Nat.le_of_ble_eq_true rfl) ⟨Nat.zero_le _, Nat.zero_le _⟩ dX1_label_1 (fun r_1 H locs hp_1 hW => ?_)
  subst hp_1
  refine z_ifb_ne (pc := 4) (tgt := 14) S dX1_label_4 (by decide) (fun c_4 => ?_) (fun c_4 => ?_)
  · refine lv_iconst (pc := 14) (v := nI 0) S.1 S.2.1 dX1_label_14 (by decide) ?_
    exact hret _ _ _ _ _ _ _ hW ⟨rfl, rfl⟩ dX1_label_15
  · refine lv_iload_n (pc := 7) S.1 S.2.1 dX1_label_7 rfl (lv_at hl 2 rfl) ?_
    refine m_calls (pc := 8) (As := [.int x2]) (rest := []) S hW (metX1_badNode l x2) (cwX1_badNode S.2.2.2.2 (by rw [hR]; decide)) rfl hl.1 rfl (Nat.le_of_ble_eq_true rfl) ⟨Nat.zero_le _, Nat.zero_le _⟩ dX1_label_8 (fun r_8 H locs hp_8 hW => ?_)
    subst hp_8
    refine z_ifb_eq (pc := 11) (tgt := 16) S dX1_label_11 (by decide) (fun c_11 => ?_) (fun c_11 => ?_)
    · exact absurd ⟨Classical.byContradiction c_4, Classical.byContradiction c_11⟩ hbad
    · refine lv_iconst (pc := 14) (v := nI 0) S.1 S.2.1 dX1_label_14 (by decide) ?_
      exact hret _ _ _ _ _ _ _ hW ⟨rfl, rfl⟩ dX1_label_15
set_option maxHeartbeats 4000000 in
/-- children, bad arguments -/
theorem metX1_children_bad (l : Launch) (D : va_G) (h : Nat → Nat) (cZ cI : ClassId) (g : Nat → Nat → Nat) (f : Nat → Nat → Int32) (x1 x2 : Int32) (hbad : ¬ (mt_rep x1 ∧ mt_nod x2)) : Met l yX1_children wsX1_children rmX1_children (mPc D h cZ cI g f [.int x1, .int x2]) (va_Qi (fun v (u : zU) => v = -1 ∧ u = (g, f)) (mB D h cZ cI) (mA h)) 0 0 (mA h) := by
  refine m_metI l (by decide) rfl (Nat.le_of_ble_eq_true rfl) ⟨rfl, rfl⟩ (fun p e s m args below meth cd R Q hR S hret ls hl hW => ?_)
  have hl : lv_has ls 5 [(0, .ref (h 0)), (1, .int x1), (2, .int x2)] := hl
  refine lv_iload_n (pc := 0) S.1 S.2.1 dX1_children_0 rfl (lv_at hl 1 rfl) ?_
  refine m_calls (pc := 1) (As := [.int x1]) (rest := []) S hW (metX1_bad l x1) (cwX1_bad S.2.2.2.2 (by rw [hR]; decide)) rfl hl.1 rfl (Nat.le_of_ble_eq_true rfl) ⟨Nat.zero_le _, Nat.zero_le _⟩ dX1_children_1 (fun r_1 H locs hp_1 hW => ?_)
  subst hp_1
  refine z_ifb_ne (pc := 4) (tgt := 14) S dX1_children_4 (by decide) (fun c_4 => ?_) (fun c_4 => ?_)
  · refine lv_iconst (pc := 14) (v := -1) S.1 S.2.1 dX1_children_14 (by decide) ?_
    exact hret _ _ _ _ _ _ _ hW ⟨rfl, rfl⟩ dX1_children_15
  · refine lv_iload_n (pc := 7) S.1 S.2.1 dX1_children_7 rfl (lv_at hl 2 rfl) ?_
    refine m_calls (pc := 8) (As := [.int x2]) (rest := []) S hW (metX1_badNode l x2) (cwX1_badNode S.2.2.2.2 (by rw [hR]; decide)) rfl hl.1 rfl (Nat.le_of_ble_eq_true rfl) ⟨Nat.zero_le _, Nat.zero_le _⟩ dX1_children_8 (fun r_8 H locs hp_8 hW => ?_)
    subst hp_8
    refine z_ifb_eq (pc := 11) (tgt := 16) S dX1_children_11 (by decide) (fun c_11 => ?_) (fun c_11 => ?_)
    · exact absurd ⟨Classical.byContradiction c_4, Classical.byContradiction c_11⟩ hbad
    · refine lv_iconst (pc := 14) (v := -1) S.1 S.2.1 dX1_children_14 (by decide) ?_
      exact hret _ _ _ _ _ _ _ hW ⟨rfl, rfl⟩ dX1_children_15
set_option maxHeartbeats 4000000 in
/-- depth, bad arguments -/
theorem metX1_depth_bad (l : Launch) (D : va_G) (h : Nat → Nat) (cZ cI : ClassId) (g : Nat → Nat → Nat) (f : Nat → Nat → Int32) (x1 x2 : Int32) (hbad : ¬ (mt_rep x1 ∧ mt_nod x2)) : Met l yX1_depth wsX1_depth rmX1_depth (mPc D h cZ cI g f [.int x1, .int x2]) (va_Qi (fun v (u : zU) => v = -1 ∧ u = (g, f)) (mB D h cZ cI) (mA h)) 0 0 (mA h) := by
  refine m_metI l (by decide) rfl (Nat.le_of_ble_eq_true rfl) ⟨rfl, rfl⟩ (fun p e s m args below meth cd R Q hR S hret ls hl hW => ?_)
  have hl : lv_has ls 5 [(0, .ref (h 0)), (1, .int x1), (2, .int x2)] := hl
  refine lv_iload_n (pc := 0) S.1 S.2.1 dX1_depth_0 rfl (lv_at hl 1 rfl) ?_
  refine m_calls (pc := 1) (As := [.int x1]) (rest := []) S hW (metX1_bad l x1) (cwX1_bad S.2.2.2.2 (by rw [hR]; decide)) rfl hl.1 rfl (Nat.le_of_ble_eq_true rfl) ⟨Nat.zero_le _, Nat.zero_le _⟩ dX1_depth_1 (fun r_1 H locs hp_1 hW => ?_)
  subst hp_1
  refine z_ifb_ne (pc := 4) (tgt := 14) S dX1_depth_4 (by decide) (fun c_4 => ?_) (fun c_4 => ?_)
  · refine lv_iconst (pc := 14) (v := -1) S.1 S.2.1 dX1_depth_14 (by decide) ?_
    exact hret _ _ _ _ _ _ _ hW ⟨rfl, rfl⟩ dX1_depth_15
  · refine lv_iload_n (pc := 7) S.1 S.2.1 dX1_depth_7 rfl (lv_at hl 2 rfl) ?_
    refine m_calls (pc := 8) (As := [.int x2]) (rest := []) S hW (metX1_badNode l x2) (cwX1_badNode S.2.2.2.2 (by rw [hR]; decide)) rfl hl.1 rfl (Nat.le_of_ble_eq_true rfl) ⟨Nat.zero_le _, Nat.zero_le _⟩ dX1_depth_8 (fun r_8 H locs hp_8 hW => ?_)
    subst hp_8
    refine z_ifb_eq (pc := 11) (tgt := 16) S dX1_depth_11 (by decide) (fun c_11 => ?_) (fun c_11 => ?_)
    · exact absurd ⟨Classical.byContradiction c_4, Classical.byContradiction c_11⟩ hbad
    · refine lv_iconst (pc := 14) (v := -1) S.1 S.2.1 dX1_depth_14 (by decide) ?_
      exact hret _ _ _ _ _ _ _ hW ⟨rfl, rfl⟩ dX1_depth_15
set_option maxHeartbeats 4000000 in
/-- skipped, bad argument -/
theorem metX1_skipped_bad (l : Launch) (D : va_G) (h : Nat → Nat) (cZ cI : ClassId) (g : Nat → Nat → Nat) (f : Nat → Nat → Int32) (x1 : Int32) (hbad : ¬ mt_rep x1) : Met l yX1_skipped wsX1_skipped rmX1_skipped (mPc D h cZ cI g f [.int x1]) (va_Qi (fun v (u : zU) => v = -1 ∧ u = (g, f)) (mB D h cZ cI) (mA h)) 0 0 (mA h) := by
  refine m_metI l (by decide) rfl (Nat.le_of_ble_eq_true rfl) ⟨rfl, rfl⟩ (fun p e s m args below meth cd R Q hR S hret ls hl hW => ?_)
  have hl : lv_has ls 2 [(0, .ref (h 0)), (1, .int x1)] := hl
  refine lv_iload_n (pc := 0) S.1 S.2.1 dX1_skipped_0 rfl (lv_at hl 1 rfl) ?_
  refine m_calls (pc := 1) (As := [.int x1]) (rest := []) S hW (metX1_bad l x1) (cwX1_bad S.2.2.2.2 (by rw [hR]; decide)) rfl hl.1 rfl (Nat.le_of_ble_eq_true rfl) ⟨Nat.zero_le _, Nat.zero_le _⟩ dX1_skipped_1 (fun r_1 H locs hp_1 hW => ?_)
  subst hp_1
  refine z_ifb_eq (pc := 4) (tgt := 9) S dX1_skipped_4 (by decide) (fun c_4 => ?_) (fun c_4 => ?_)
  · exact absurd (Classical.byContradiction c_4) hbad
  · refine lv_iconst (pc := 7) (v := -1) S.1 S.2.1 dX1_skipped_7 (by decide) ?_
    exact hret _ _ _ _ _ _ _ hW ⟨rfl, rfl⟩ dX1_skipped_8
set_option maxHeartbeats 4000000 in
/-- move -/
theorem metX1_move_ok (l : Launch) (D : va_G) (h : Nat → Nat) (cZ cI : ClassId) (g : Nat → Nat → Nat) (f : Nat → Nat → Int32) (r nd pp : Nat) (lg : Nat → Nat) (n : Nat) (hr : r < 3) (hn1 : 1 ≤ nd) (hn2 : nd < 10) (hpp : pp < 10) (hM : g 0 0 < 60) (hv : ∀ c, c < g 0 0 → g 6 (60 * r + c) < 2 ∧ g 2 c < 2147483647) (hlog : ∀ mx, mt_MX g r (g 0 0) mx → mt_LV (mt_ng g r 1 nd mx) (st2 f 5 (g 0 0) (nI pp)) r lg n) : Met l yX1_move wsX1_move rmX1_move (mPc D h cZ cI g f [.int (nI r), .int (nI nd), .int (nI pp)]) (va_Qi (fun v (u : zU) => ∃ mx, mt_MX g r (g 0 0) mx ∧ v = bI (mt_KP (mt_mq (mt_ng g r 1 nd mx) (st2 f 5 (g 0 0) (nI pp)) lg) lg (nI (g 0 0)) n) ∧ mt_CO (mt_ng g r 1 nd mx) (st2 f 5 (g 0 0) (nI pp)) lg n u) (mB D h cZ cI) (mA h)) 0 0 (mA h) := by
  refine m_metI l (by decide) rfl (Nat.le_of_ble_eq_true rfl) ⟨rfl, rfl⟩ (fun p e s m args below meth cd R Q hR S hret ls hl hW => ?_)
  have hl : lv_has ls 5 [(0, .ref (h 0)), (1, .int (nI r)), (2, .int (nI nd)), (3, .int (nI pp))] := hl
  refine lv_iload_n (pc := 0) S.1 S.2.1 dX1_move_0 rfl (lv_at hl 1 rfl) ?_
  refine m_calls (pc := 1) (As := [.int (nI r)]) (rest := []) S hW (metX1_bad l (nI r)) (cwX1_bad S.2.2.2.2 (by rw [hR]; decide)) rfl hl.1 rfl (Nat.le_of_ble_eq_true rfl) ⟨Nat.zero_le _, Nat.zero_le _⟩ dX1_move_1 (fun r_1 H locs hp_1 hW => ?_)
  subst hp_1
  refine z_ifb_ne (pc := 4) (tgt := 34) S dX1_move_4 (by decide) (fun c_4 => ?_) (fun c_4 => ?_)
  · exact absurd (mt_rep_nI hr) c_4
  · refine lv_iload_n (pc := 7) S.1 S.2.1 dX1_move_7 rfl (lv_at hl 2 rfl) ?_
    refine lv_iconst (pc := 8) (v := nI 1) S.1 S.2.1 dX1_move_8 (by decide) ?_
    refine z_icmp_lt (pc := 9) (tgt := 34) (x := nd) (y := 1) S (by omega) (by omega) dX1_move_9 (by decide) (fun c_9 => ?_) (fun c_9 => ?_)
    · exfalso; omega
    · refine lv_iload_n (pc := 12) S.1 S.2.1 dX1_move_12 rfl (lv_at hl 2 rfl) ?_
      refine lv_bipush (pc := 13) (v := nI 9) S.1 S.2.1 dX1_move_13 (by decide) ?_
      refine z_icmp_gt (pc := 15) (tgt := 34) (x := nd) (y := 9) S (by omega) (by omega) dX1_move_15 (by decide) (fun c_15 => ?_) (fun c_15 => ?_)
      · exfalso; omega
      · refine lv_iload_n (pc := 18) S.1 S.2.1 dX1_move_18 rfl (lv_at hl 3 rfl) ?_
        refine m_calls (pc := 19) (As := [.int (nI pp)]) (rest := []) S hW (metX1_badNode l (nI pp)) (cwX1_badNode S.2.2.2.2 (by rw [hR]; decide)) rfl hl.1 rfl (Nat.le_of_ble_eq_true rfl) ⟨Nat.zero_le _, Nat.zero_le _⟩ dX1_move_19 (fun r_19 H locs hp_19 hW => ?_)
        subst hp_19
        refine z_ifb_ne (pc := 22) (tgt := 34) S dX1_move_22 (by decide) (fun c_22 => ?_) (fun c_22 => ?_)
        · exact absurd (mt_nod_nI hpp) c_22
        · refine m_g_0 (pc := 25) S hW (lv_at hl 0 rfl) dX1_move_25 dX1_move_26 ?_
          refine lv_bipush (pc := 29) (v := nI 60) S.1 S.2.1 dX1_move_29 (by decide) ?_
          refine z_icmp_ne (pc := 31) (tgt := 36) (x := g 0 0) (y := 60) S (by omega) (by omega) dX1_move_31 (by decide) (fun c_31 => ?_) (fun c_31 => ?_)
          · refine lv_aload_n (pc := 36) S.1 S.2.1 dX1_move_36 rfl (lv_at hl 0 rfl) ?_
            refine lv_iload_n (pc := 37) S.1 S.2.1 dX1_move_37 rfl (lv_at hl 1 rfl) ?_
            refine lv_iconst (pc := 38) (v := nI 1) S.1 S.2.1 dX1_move_38 (by decide) ?_
            refine lv_iload_n (pc := 39) S.1 S.2.1 dX1_move_39 rfl (lv_at hl 2 rfl) ?_
            refine lv_iload_n (pc := 40) S.1 S.2.1 dX1_move_40 rfl (lv_at hl 3 rfl) ?_
            refine m_calli (pc := 41) (As := [.int (nI r), .int (nI 1), .int (nI nd), .int (nI pp)]) (rest := []) S hW (metX1_make l D h cZ cI g f r 1 nd (nI pp) hr (by decide) hM hv) (cwX1_make S.2.2.2.2 (by rw [hR]; decide)) rfl hl.1 rfl (Nat.le_of_ble_eq_true rfl) ⟨Nat.zero_le _, Nat.zero_le _⟩ dX1_move_41 (fun r_41 g_41 f_41 H locs hp_41 hW _ _ => ?_)
            obtain ⟨rfl, mx, hmx, hu⟩ := hp_41
            have e1 : g_41 = (mt_ng g r 1 nd mx) := congrArg Prod.fst hu
            have e2 : f_41 = (st2 f 5 (g 0 0) (nI pp)) := congrArg Prod.snd hu
            rw [e1, e2] at hW
            refine lv_istore (pc := 44) (lv' := [(4, .int (nI (g 0 0))), (0, .ref (h 0)), (1, .int (nI r)), (2, .int (nI nd)), (3, .int (nI pp))]) S.1 S.2.1 dX1_move_44 hl (by decide) rfl (fun ls hl => ?_)
            refine lv_aload_n (pc := 46) S.1 S.2.1 dX1_move_46 rfl (lv_at hl 1 rfl) ?_
            refine lv_iload_n (pc := 47) S.1 S.2.1 dX1_move_47 rfl (lv_at hl 2 rfl) ?_
            refine lv_iload (pc := 48) S.1 S.2.1 dX1_move_48 (lv_at hl 0 rfl) ?_
            refine m_calli (pc := 50) (As := [.int (nI r), .int (nI (g 0 0))]) (rest := []) S hW (metX1_carryOut l D h cZ cI _ _ r (nI (g 0 0)) lg n hr (hlog mx hmx)) (cwX1_carryOut S.2.2.2.2 (by rw [hR]; decide)) rfl hl.1 rfl (Nat.le_of_ble_eq_true rfl) ⟨Nat.zero_le _, Nat.zero_le _⟩ dX1_move_50 (fun r_50 g_50 f_50 H locs hp_50 hW _ _ => ?_)
            obtain ⟨rfl, hco50⟩ := hp_50
            refine z_ifb_eq (pc := 53) (tgt := 60) S dX1_move_53 (by decide) (fun c_53 => ?_) (fun c_53 => ?_)
            · refine lv_iconst (pc := 60) (v := nI 0) S.1 S.2.1 dX1_move_60 (by decide) ?_
              exact hret _ _ _ _ _ _ _ hW ⟨mx, hmx, bI0 c_53, hco50⟩ dX1_move_61
            · refine lv_iconst (pc := 56) (v := nI 1) S.1 S.2.1 dX1_move_56 (by decide) ?_
              refine lv_goto (pc := 57) (tgt := 61) S.1 S.2.1 dX1_move_57 (by decide) ?_
              exact hret _ _ _ _ _ _ _ hW ⟨mx, hmx, bI1 c_53, hco50⟩ dX1_move_61
          · exfalso; omega
set_option maxHeartbeats 4000000 in
/-- name -/
theorem metX1_name_ok (l : Launch) (D : va_G) (h : Nat → Nat) (cZ cI : ClassId) (g : Nat → Nat → Nat) (f : Nat → Nat → Int32) (r nd : Nat) (x : Int32) (hr : r < 3) (hn2 : nd < 10) (hM : g 0 0 < 60) (hv : ∀ c, c < g 0 0 → g 6 (60 * r + c) < 2 ∧ g 2 c < 2147483647) : Met l yX1_name wsX1_name rmX1_name (mPc D h cZ cI g f [.int (nI r), .int (nI nd), .int x]) (va_Qi (fun v (u : zU) => v = 0 ∧ ∃ mx, mt_MX g r (g 0 0) mx ∧ u = (mt_ng g r 0 nd mx, st2 f 5 (g 0 0) x)) (mB D h cZ cI) (mA h)) 0 0 (mA h) := by
  refine m_metI l (by decide) rfl (Nat.le_of_ble_eq_true rfl) ⟨rfl, rfl⟩ (fun p e s m args below meth cd R Q hR S hret ls hl hW => ?_)
  have hl : lv_has ls 4 [(0, .ref (h 0)), (1, .int (nI r)), (2, .int (nI nd)), (3, .int x)] := hl
  refine lv_iload_n (pc := 0) S.1 S.2.1 dX1_name_0 rfl (lv_at hl 1 rfl) ?_
  refine m_calls (pc := 1) (As := [.int (nI r)]) (rest := []) S hW (metX1_bad l (nI r)) (cwX1_bad S.2.2.2.2 (by rw [hR]; decide)) rfl hl.1 rfl (Nat.le_of_ble_eq_true rfl) ⟨Nat.zero_le _, Nat.zero_le _⟩ dX1_name_1 (fun r_1 H locs hp_1 hW => ?_)
  subst hp_1
  refine z_ifb_ne (pc := 4) (tgt := 23) S dX1_name_4 (by decide) (fun c_4 => ?_) (fun c_4 => ?_)
  · exact absurd (mt_rep_nI hr) c_4
  · refine lv_iload_n (pc := 7) S.1 S.2.1 dX1_name_7 rfl (lv_at hl 2 rfl) ?_
    refine m_calls (pc := 8) (As := [.int (nI nd)]) (rest := []) S hW (metX1_badNode l (nI nd)) (cwX1_badNode S.2.2.2.2 (by rw [hR]; decide)) rfl hl.1 rfl (Nat.le_of_ble_eq_true rfl) ⟨Nat.zero_le _, Nat.zero_le _⟩ dX1_name_8 (fun r_8 H locs hp_8 hW => ?_)
    subst hp_8
    refine z_ifb_ne (pc := 11) (tgt := 23) S dX1_name_11 (by decide) (fun c_11 => ?_) (fun c_11 => ?_)
    · exact absurd (mt_nod_nI hn2) c_11
    · refine m_g_0 (pc := 14) S hW (lv_at hl 0 rfl) dX1_name_14 dX1_name_15 ?_
      refine lv_bipush (pc := 18) (v := nI 60) S.1 S.2.1 dX1_name_18 (by decide) ?_
      refine z_icmp_ne (pc := 20) (tgt := 25) (x := g 0 0) (y := 60) S (by omega) (by omega) dX1_name_20 (by decide) (fun c_20 => ?_) (fun c_20 => ?_)
      · refine lv_aload_n (pc := 25) S.1 S.2.1 dX1_name_25 rfl (lv_at hl 0 rfl) ?_
        refine lv_iload_n (pc := 26) S.1 S.2.1 dX1_name_26 rfl (lv_at hl 1 rfl) ?_
        refine lv_iconst (pc := 27) (v := nI 0) S.1 S.2.1 dX1_name_27 (by decide) ?_
        refine lv_iload_n (pc := 28) S.1 S.2.1 dX1_name_28 rfl (lv_at hl 2 rfl) ?_
        refine lv_iload_n (pc := 29) S.1 S.2.1 dX1_name_29 rfl (lv_at hl 3 rfl) ?_
        refine m_calli (pc := 30) (As := [.int (nI r), .int (nI 0), .int (nI nd), .int x]) (rest := []) S hW (metX1_make l D h cZ cI g f r 0 nd x hr (by decide) hM hv) (cwX1_make S.2.2.2.2 (by rw [hR]; decide)) rfl hl.1 rfl (Nat.le_of_ble_eq_true rfl) ⟨Nat.zero_le _, Nat.zero_le _⟩ dX1_name_30 (fun r_30 g_30 f_30 H locs hp_30 hW _ _ => ?_)
        obtain ⟨rfl, mx, hmx, hu⟩ := hp_30
        refine lv_pop (pc := 33) S.1 S.2.1 dX1_name_33 rfl ?_
        refine lv_iconst (pc := 34) (v := nI 0) S.1 S.2.1 dX1_name_34 (by decide) ?_
        exact hret _ _ _ _ _ _ _ hW ⟨rfl, mx, hmx, hu⟩ dX1_name_35
      · exfalso; omega
set_option maxHeartbeats 4000000 in
/-- skipped -/
theorem metX1_skipped_ok (l : Launch) (D : va_G) (h : Nat → Nat) (cZ cI : ClassId) (g : Nat → Nat → Nat) (f : Nat → Nat → Int32) (r : Nat) (lg : Nat → Nat) (n : Nat) (hr : r < 3) (hL : mt_LV g f r lg n) : Met l yX1_skipped wsX1_skipped rmX1_skipped (mPc D h cZ cI g f [.int (nI r)]) (va_Qi (fun v (u : zU) => v = nI (mt_run (mt_mq g f lg) n).2.2 ∧ mt_CO g f lg n u) (mB D h cZ cI) (mA h)) 0 0 (mA h) := by
  refine m_metI l (by decide) rfl (Nat.le_of_ble_eq_true rfl) ⟨rfl, rfl⟩ (fun p e s m args below meth cd R Q hR S hret ls hl hW => ?_)
  have hl : lv_has ls 2 [(0, .ref (h 0)), (1, .int (nI r))] := hl
  refine lv_iload_n (pc := 0) S.1 S.2.1 dX1_skipped_0 rfl (lv_at hl 1 rfl) ?_
  refine m_calls (pc := 1) (As := [.int (nI r)]) (rest := []) S hW (metX1_bad l (nI r)) (cwX1_bad S.2.2.2.2 (by rw [hR]; decide)) rfl hl.1 rfl (Nat.le_of_ble_eq_true rfl) ⟨Nat.zero_le _, Nat.zero_le _⟩ dX1_skipped_1 (fun r_1 H locs hp_1 hW => ?_)
  subst hp_1
  refine z_ifb_eq (pc := 4) (tgt := 9) S dX1_skipped_4 (by decide) (fun c_4 => ?_) (fun c_4 => ?_)
  · refine lv_aload_n (pc := 9) S.1 S.2.1 dX1_skipped_9 rfl (lv_at hl 0 rfl) ?_
    refine lv_iload_n (pc := 10) S.1 S.2.1 dX1_skipped_10 rfl (lv_at hl 1 rfl) ?_
    refine lv_iconst (pc := 11) (v := -1) S.1 S.2.1 dX1_skipped_11 (by decide) ?_
    refine m_calli (pc := 12) (As := [.int (nI r), .int (-1)]) (rest := []) S hW (metX1_carryOut l D h cZ cI _ _ r (-1) lg n hr hL) (cwX1_carryOut S.2.2.2.2 (by rw [hR]; decide)) rfl hl.1 rfl (Nat.le_of_ble_eq_true rfl) ⟨Nat.zero_le _, Nat.zero_le _⟩ dX1_skipped_12 (fun r_12 g_12 f_12 H locs hp_12 hW _ _ => ?_)
    obtain ⟨rfl, hco12⟩ := hp_12
    refine lv_pop (pc := 15) S.1 S.2.1 dX1_skipped_15 rfl ?_
    refine m_g_9 (pc := 16) S hW (lv_at hl 0 rfl) dX1_skipped_16 dX1_skipped_17 ?_
    exact hret _ _ _ _ _ _ _ hW ⟨by rw [← hco12.2.2.1], hco12⟩ dX1_skipped_20
  · exact absurd (mt_rep_nI hr) c_4
set_option maxHeartbeats 4000000 in
/-- deliver: there is nothing -/
theorem metX1_deliver_none (l : Launch) (D : va_G) (h : Nat → Nat) (cZ cI : ClassId) (g : Nat → Nat → Nat) (f : Nat → Nat → Int32) (fr to : Nat) (hfr : fr < 3) (hto : to < 3) (hM : g 0 0 ≤ 60) (hv : ∀ c, c < g 0 0 → g 1 c < 2147483648 ∧ g 6 (60 * to + c) < 2) (hno : ∀ c, c < g 0 0 → g 1 c = fr → ¬ g 6 (60 * to + c) = 0) : Met l yX1_deliver wsX1_deliver rmX1_deliver (mPc D h cZ cI g f [.int (nI fr), .int (nI to)]) (va_Qi (fun v (u : zU) => v = -1 ∧ u = (g, f)) (mB D h cZ cI) (mA h)) 0 0 (mA h) := by
  refine m_metI l (by decide) rfl (Nat.le_of_ble_eq_true rfl) ⟨rfl, rfl⟩ (fun p e s m args below meth cd R Q hR S hret ls hl hW => ?_)
  have hl : lv_has ls 4 [(0, .ref (h 0)), (1, .int (nI fr)), (2, .int (nI to))] := hl
  have loop : ∀ (d i : Nat), i + d = g 0 0 → ∀ (H : Heap) (locs : List Loc), MS D h cZ cI s (mA h) H locs g f → ∀ ls : Array Slot, lv_has ls 4 [(0, .ref (h 0)), (1, .int (nI fr)), (2, .int (nI to)), (3, .int (nI i))] → W p l e R s m args below meth cd H locs 0 0 Q (F0 m 18 ls []) := by
    intro d
    induction d with
    | zero =>
      intro i hid H locs hW ls hl
      refine lv_iload_n (pc := 18) S.1 S.2.1 dX1_deliver_18 rfl (lv_at hl 3 rfl) ?_
      refine m_g_0 (pc := 19) S hW (lv_at hl 0 rfl) dX1_deliver_19 dX1_deliver_20 ?_
      refine z_icmp_ge (pc := 23) (tgt := 74) (x := i) (y := g 0 0) S (by omega) (by omega) dX1_deliver_23 (by decide) (fun c_23 => ?_) (fun c_23 => ?_)
      · refine lv_iconst (pc := 74) (v := -1) S.1 S.2.1 dX1_deliver_74 (by decide) ?_
        exact hret _ _ _ _ _ _ _ hW ⟨rfl, rfl⟩ dX1_deliver_75
      · exfalso; omega
    | succ d ih =>
      intro i hid H locs hW ls hl
      obtain ⟨v1, v2⟩ := hv i (by omega)
      refine lv_iload_n (pc := 18) S.1 S.2.1 dX1_deliver_18 rfl (lv_at hl 3 rfl) ?_
      refine m_g_0 (pc := 19) S hW (lv_at hl 0 rfl) dX1_deliver_19 dX1_deliver_20 ?_
      refine z_icmp_ge (pc := 23) (tgt := 74) (x := i) (y := g 0 0) S (by omega) (by omega) dX1_deliver_23 (by decide) (fun c_23 => ?_) (fun c_23 => ?_)
      · exfalso; omega
      · refine m_g_1 (pc := 26) S hW (lv_at hl 0 rfl) dX1_deliver_26 dX1_deliver_27 ?_
        refine lv_iload_n (pc := 30) S.1 S.2.1 dX1_deliver_30 rfl (lv_at hl 3 rfl) ?_
        refine m_ld_1 (pc := 31) (i := i) (v := g 1 i) S hW (by omega) rfl dX1_deliver_31 ?_
        refine lv_iload_n (pc := 32) S.1 S.2.1 dX1_deliver_32 rfl (lv_at hl 1 rfl) ?_
        refine z_icmp_ne (pc := 33) (tgt := 68) (x := g 1 i) (y := fr) S (by omega) (by omega) dX1_deliver_33 (by decide) (fun c_33 => ?_) (fun c_33 => ?_)
        · refine lv_iinc (pc := 68) (v := nI (i + 1)) (lv' := [(3, .int (nI (i + 1))), (0, .ref (h 0)), (1, .int (nI fr)), (2, .int (nI to))]) S.1 S.2.1 dX1_deliver_68 hl (k := 3) rfl (z_inc1 _) (by decide) rfl (fun ls hl => ?_)
          refine lv_goto (pc := 71) (tgt := 18) S.1 S.2.1 dX1_deliver_71 (by decide) ?_
          exact ih (i + 1) (by omega) _ _ hW ls (lv_sub hl [1, 2, 3, 0] rfl)
        · refine m_g_6 (pc := 36) S hW (lv_at hl 0 rfl) dX1_deliver_36 dX1_deliver_37 ?_
          refine lv_bipush (pc := 40) (v := nI 60) S.1 S.2.1 dX1_deliver_40 (by decide) ?_
          refine lv_iload_n (pc := 42) S.1 S.2.1 dX1_deliver_42 rfl (lv_at hl 2 rfl) ?_
          refine z_imul (pc := 43) (x := 60) (y := to) S dX1_deliver_43 ?_
          refine lv_iload_n (pc := 44) S.1 S.2.1 dX1_deliver_44 rfl (lv_at hl 3 rfl) ?_
          refine z_iadd (pc := 45) (x := 60 * to) (y := i) S dX1_deliver_45 ?_
          refine m_ld_6 (pc := 46) (i := (60 * to) + i) (v := g 6 ((60 * to) + i)) S hW (by omega) rfl dX1_deliver_46 ?_
          refine z_if_ne (pc := 47) (tgt := 68) (x := g 6 ((60 * to) + i)) S (by omega) dX1_deliver_47 (by decide) (fun c_47 => ?_) (fun c_47 => ?_)
          · refine lv_iinc (pc := 68) (v := nI (i + 1)) (lv' := [(3, .int (nI (i + 1))), (0, .ref (h 0)), (1, .int (nI fr)), (2, .int (nI to))]) S.1 S.2.1 dX1_deliver_68 hl (k := 3) rfl (z_inc1 _) (by decide) rfl (fun ls hl => ?_)
            refine lv_goto (pc := 71) (tgt := 18) S.1 S.2.1 dX1_deliver_71 (by decide) ?_
            exact ih (i + 1) (by omega) _ _ hW ls (lv_sub hl [1, 2, 3, 0] rfl)
          · exact absurd c_47 (hno i (by omega) c_33)
  refine lv_iload_n (pc := 0) S.1 S.2.1 dX1_deliver_0 rfl (lv_at hl 1 rfl) ?_
  refine m_calls (pc := 1) (As := [.int (nI fr)]) (rest := []) S hW (metX1_bad l (nI fr)) (cwX1_bad S.2.2.2.2 (by rw [hR]; decide)) rfl hl.1 rfl (Nat.le_of_ble_eq_true rfl) ⟨Nat.zero_le _, Nat.zero_le _⟩ dX1_deliver_1 (fun r_1 H locs hp_1 hW => ?_)
  subst hp_1
  refine z_ifb_ne (pc := 4) (tgt := 14) S dX1_deliver_4 (by decide) (fun c_4 => ?_) (fun c_4 => ?_)
  · exact absurd (mt_rep_nI hfr) c_4
  · refine lv_iload_n (pc := 7) S.1 S.2.1 dX1_deliver_7 rfl (lv_at hl 2 rfl) ?_
    refine m_calls (pc := 8) (As := [.int (nI to)]) (rest := []) S hW (metX1_bad l (nI to)) (cwX1_bad S.2.2.2.2 (by rw [hR]; decide)) rfl hl.1 rfl (Nat.le_of_ble_eq_true rfl) ⟨Nat.zero_le _, Nat.zero_le _⟩ dX1_deliver_8 (fun r_8 H locs hp_8 hW => ?_)
    subst hp_8
    refine z_ifb_eq (pc := 11) (tgt := 16) S dX1_deliver_11 (by decide) (fun c_11 => ?_) (fun c_11 => ?_)
    · refine lv_iconst (pc := 16) (v := nI 0) S.1 S.2.1 dX1_deliver_16 (by decide) ?_
      refine lv_istore_n (pc := 17) (lv' := [(3, .int (nI 0)), (0, .ref (h 0)), (1, .int (nI fr)), (2, .int (nI to))]) S.1 S.2.1 dX1_deliver_17 rfl hl (by decide) rfl (fun ls hl => ?_)
      exact loop (g 0 0) 0 (by omega) _ _ hW ls (lv_sub hl [1, 2, 3, 0] rfl)
    · exact absurd (mt_rep_nI hto) c_11
set_option maxHeartbeats 4000000 in
/-- deliver: the change c -/
theorem metX1_deliver_some (l : Launch) (D : va_G) (h : Nat → Nat) (cZ cI : ClassId) (g : Nat → Nat → Nat) (f : Nat → Nat → Int32) (fr to c : Nat) (lg : Nat → Nat) (n : Nat) (hfr : fr < 3) (hto : to < 3) (hM : g 0 0 ≤ 60) (hv : ∀ c, c < g 0 0 → g 1 c < 2147483648 ∧ g 6 (60 * to + c) < 2) (hc : c < g 0 0) (h1 : g 1 c = fr) (h6 : g 6 (60 * to + c) = 0) (hmin : ∀ d, d < c → g 1 d = fr → ¬ g 6 (60 * to + d) = 0) (hL : mt_LV (st2 g 6 (60 * to + c) 1) f to lg n) : Met l yX1_deliver wsX1_deliver rmX1_deliver (mPc D h cZ cI g f [.int (nI fr), .int (nI to)]) (va_Qi (fun v (u : zU) => v = nI (mt_run (mt_mq (st2 g 6 (60 * to + c) 1) f lg) n).2.2 ∧ mt_CO (st2 g 6 (60 * to + c) 1) f lg n u) (mB D h cZ cI) (mA h)) 0 0 (mA h) := by
  refine m_metI l (by decide) rfl (Nat.le_of_ble_eq_true rfl) ⟨rfl, rfl⟩ (fun p e s m args below meth cd R Q hR S hret ls hl hW => ?_)
  have hl : lv_has ls 4 [(0, .ref (h 0)), (1, .int (nI fr)), (2, .int (nI to))] := hl
  have loop : ∀ (d i : Nat), i + d = c → ∀ (H : Heap) (locs : List Loc), MS D h cZ cI s (mA h) H locs g f → ∀ ls : Array Slot, lv_has ls 4 [(0, .ref (h 0)), (1, .int (nI fr)), (2, .int (nI to)), (3, .int (nI i))] → W p l e R s m args below meth cd H locs 0 0 Q (F0 m 18 ls []) := by
    intro d
    induction d with
    | zero =>
      intro i hid H locs hW ls hl
      obtain ⟨v1, v2⟩ := hv c hc
      have hid : i = c := by omega
      subst hid
      refine lv_iload_n (pc := 18) S.1 S.2.1 dX1_deliver_18 rfl (lv_at hl 3 rfl) ?_
      refine m_g_0 (pc := 19) S hW (lv_at hl 0 rfl) dX1_deliver_19 dX1_deliver_20 ?_
      refine z_icmp_ge (pc := 23) (tgt := 74) (x := i) (y := g 0 0) S (by omega) (by omega) dX1_deliver_23 (by decide) (fun c_23 => ?_) (fun c_23 => ?_)
      · exfalso; omega
      · refine m_g_1 (pc := 26) S hW (lv_at hl 0 rfl) dX1_deliver_26 dX1_deliver_27 ?_
        refine lv_iload_n (pc := 30) S.1 S.2.1 dX1_deliver_30 rfl (lv_at hl 3 rfl) ?_
        refine m_ld_1 (pc := 31) (i := i) (v := g 1 i) S hW (by omega) rfl dX1_deliver_31 ?_
        refine lv_iload_n (pc := 32) S.1 S.2.1 dX1_deliver_32 rfl (lv_at hl 1 rfl) ?_
        refine z_icmp_ne (pc := 33) (tgt := 68) (x := g 1 i) (y := fr) S (by omega) (by omega) dX1_deliver_33 (by decide) (fun c_33 => ?_) (fun c_33 => ?_)
        · exact absurd h1 c_33
        · refine m_g_6 (pc := 36) S hW (lv_at hl 0 rfl) dX1_deliver_36 dX1_deliver_37 ?_
          refine lv_bipush (pc := 40) (v := nI 60) S.1 S.2.1 dX1_deliver_40 (by decide) ?_
          refine lv_iload_n (pc := 42) S.1 S.2.1 dX1_deliver_42 rfl (lv_at hl 2 rfl) ?_
          refine z_imul (pc := 43) (x := 60) (y := to) S dX1_deliver_43 ?_
          refine lv_iload_n (pc := 44) S.1 S.2.1 dX1_deliver_44 rfl (lv_at hl 3 rfl) ?_
          refine z_iadd (pc := 45) (x := 60 * to) (y := i) S dX1_deliver_45 ?_
          refine m_ld_6 (pc := 46) (i := (60 * to) + i) (v := g 6 ((60 * to) + i)) S hW (by omega) rfl dX1_deliver_46 ?_
          refine z_if_ne (pc := 47) (tgt := 68) (x := g 6 ((60 * to) + i)) S (by omega) dX1_deliver_47 (by decide) (fun c_47 => ?_) (fun c_47 => ?_)
          · exact absurd h6 c_47
          · refine m_g_6 (pc := 50) S hW (lv_at hl 0 rfl) dX1_deliver_50 dX1_deliver_51 ?_
            refine lv_bipush (pc := 54) (v := nI 60) S.1 S.2.1 dX1_deliver_54 (by decide) ?_
            refine lv_iload_n (pc := 56) S.1 S.2.1 dX1_deliver_56 rfl (lv_at hl 2 rfl) ?_
            refine z_imul (pc := 57) (x := 60) (y := to) S dX1_deliver_57 ?_
            refine lv_iload_n (pc := 58) S.1 S.2.1 dX1_deliver_58 rfl (lv_at hl 3 rfl) ?_
            refine z_iadd (pc := 59) (x := 60 * to) (y := i) S dX1_deliver_59 ?_
            refine lv_iconst (pc := 60) (v := nI 1) S.1 S.2.1 dX1_deliver_60 (by decide) ?_
            refine m_st_6 (pc := 61) (i := (60 * to) + i) (v := 1) S hW (by omega) (by decide) dX1_deliver_61 (fun H locs hW => ?_)
            refine lv_aload_n (pc := 62) S.1 S.2.1 dX1_deliver_62 rfl (lv_at hl 0 rfl) ?_
            refine lv_iload_n (pc := 63) S.1 S.2.1 dX1_deliver_63 rfl (lv_at hl 2 rfl) ?_
            refine m_calli (pc := 64) (As := [.int (nI to)]) (rest := []) S hW (metX1_skipped_ok l D h cZ cI _ _ to lg n hto hL) (cwX1_skipped S.2.2.2.2 (by rw [hR]; decide)) rfl hl.1 rfl (Nat.le_of_ble_eq_true rfl) ⟨Nat.zero_le _, Nat.zero_le _⟩ dX1_deliver_64 (fun r_64 g_64 f_64 H locs hp_64 hW _ _ => ?_)
            obtain ⟨rfl, hco⟩ := hp_64
            exact hret _ _ _ _ _ _ _ hW ⟨rfl, hco⟩ dX1_deliver_67
    | succ d ih =>
      intro i hid H locs hW ls hl
      obtain ⟨v1, v2⟩ := hv i (by omega)
      refine lv_iload_n (pc := 18) S.1 S.2.1 dX1_deliver_18 rfl (lv_at hl 3 rfl) ?_
      refine m_g_0 (pc := 19) S hW (lv_at hl 0 rfl) dX1_deliver_19 dX1_deliver_20 ?_
      refine z_icmp_ge (pc := 23) (tgt := 74) (x := i) (y := g 0 0) S (by omega) (by omega) dX1_deliver_23 (by decide) (fun c_23 => ?_) (fun c_23 => ?_)
      · exfalso; omega
      · refine m_g_1 (pc := 26) S hW (lv_at hl 0 rfl) dX1_deliver_26 dX1_deliver_27 ?_
        refine lv_iload_n (pc := 30) S.1 S.2.1 dX1_deliver_30 rfl (lv_at hl 3 rfl) ?_
        refine m_ld_1 (pc := 31) (i := i) (v := g 1 i) S hW (by omega) rfl dX1_deliver_31 ?_
        refine lv_iload_n (pc := 32) S.1 S.2.1 dX1_deliver_32 rfl (lv_at hl 1 rfl) ?_
        refine z_icmp_ne (pc := 33) (tgt := 68) (x := g 1 i) (y := fr) S (by omega) (by omega) dX1_deliver_33 (by decide) (fun c_33 => ?_) (fun c_33 => ?_)
        · refine lv_iinc (pc := 68) (v := nI (i + 1)) (lv' := [(3, .int (nI (i + 1))), (0, .ref (h 0)), (1, .int (nI fr)), (2, .int (nI to))]) S.1 S.2.1 dX1_deliver_68 hl (k := 3) rfl (z_inc1 _) (by decide) rfl (fun ls hl => ?_)
          refine lv_goto (pc := 71) (tgt := 18) S.1 S.2.1 dX1_deliver_71 (by decide) ?_
          exact ih (i + 1) (by omega) _ _ hW ls (lv_sub hl [1, 2, 3, 0] rfl)
        · refine m_g_6 (pc := 36) S hW (lv_at hl 0 rfl) dX1_deliver_36 dX1_deliver_37 ?_
          refine lv_bipush (pc := 40) (v := nI 60) S.1 S.2.1 dX1_deliver_40 (by decide) ?_
          refine lv_iload_n (pc := 42) S.1 S.2.1 dX1_deliver_42 rfl (lv_at hl 2 rfl) ?_
          refine z_imul (pc := 43) (x := 60) (y := to) S dX1_deliver_43 ?_
          refine lv_iload_n (pc := 44) S.1 S.2.1 dX1_deliver_44 rfl (lv_at hl 3 rfl) ?_
          refine z_iadd (pc := 45) (x := 60 * to) (y := i) S dX1_deliver_45 ?_
          refine m_ld_6 (pc := 46) (i := (60 * to) + i) (v := g 6 ((60 * to) + i)) S hW (by omega) rfl dX1_deliver_46 ?_
          refine z_if_ne (pc := 47) (tgt := 68) (x := g 6 ((60 * to) + i)) S (by omega) dX1_deliver_47 (by decide) (fun c_47 => ?_) (fun c_47 => ?_)
          · refine lv_iinc (pc := 68) (v := nI (i + 1)) (lv' := [(3, .int (nI (i + 1))), (0, .ref (h 0)), (1, .int (nI fr)), (2, .int (nI to))]) S.1 S.2.1 dX1_deliver_68 hl (k := 3) rfl (z_inc1 _) (by decide) rfl (fun ls hl => ?_)
            refine lv_goto (pc := 71) (tgt := 18) S.1 S.2.1 dX1_deliver_71 (by decide) ?_
            exact ih (i + 1) (by omega) _ _ hW ls (lv_sub hl [1, 2, 3, 0] rfl)
          · exact absurd c_47 (hmin i (by omega) c_33)
  refine lv_iload_n (pc := 0) S.1 S.2.1 dX1_deliver_0 rfl (lv_at hl 1 rfl) ?_
  refine m_calls (pc := 1) (As := [.int (nI fr)]) (rest := []) S hW (metX1_bad l (nI fr)) (cwX1_bad S.2.2.2.2 (by rw [hR]; decide)) rfl hl.1 rfl (Nat.le_of_ble_eq_true rfl) ⟨Nat.zero_le _, Nat.zero_le _⟩ dX1_deliver_1 (fun r_1 H locs hp_1 hW => ?_)
  subst hp_1
  refine z_ifb_ne (pc := 4) (tgt := 14) S dX1_deliver_4 (by decide) (fun c_4 => ?_) (fun c_4 => ?_)
  · exact absurd (mt_rep_nI hfr) c_4
  · refine lv_iload_n (pc := 7) S.1 S.2.1 dX1_deliver_7 rfl (lv_at hl 2 rfl) ?_
    refine m_calls (pc := 8) (As := [.int (nI to)]) (rest := []) S hW (metX1_bad l (nI to)) (cwX1_bad S.2.2.2.2 (by rw [hR]; decide)) rfl hl.1 rfl (Nat.le_of_ble_eq_true rfl) ⟨Nat.zero_le _, Nat.zero_le _⟩ dX1_deliver_8 (fun r_8 H locs hp_8 hW => ?_)
    subst hp_8
    refine z_ifb_eq (pc := 11) (tgt := 16) S dX1_deliver_11 (by decide) (fun c_11 => ?_) (fun c_11 => ?_)
    · refine lv_iconst (pc := 16) (v := nI 0) S.1 S.2.1 dX1_deliver_16 (by decide) ?_
      refine lv_istore_n (pc := 17) (lv' := [(3, .int (nI 0)), (0, .ref (h 0)), (1, .int (nI fr)), (2, .int (nI to))]) S.1 S.2.1 dX1_deliver_17 rfl hl (by decide) rfl (fun ls hl => ?_)
      exact loop c 0 (by omega) _ _ hW ls (lv_sub hl [1, 2, 3, 0] rfl)
    · exact absurd (mt_rep_nI hto) c_11
set_option maxHeartbeats 4000000 in
/-- sync -/
theorem metX1_sync_ok (l : Launch) (D : va_G) (h : Nat → Nat) (cZ cI : ClassId) (g : Nat → Nat → Nat) (f : Nat → Nat → Int32) (fr to : Nat) (hfr : fr < 3) (hto : to < 3) (hM : g 0 0 ≤ 60) (hv : ∀ r c, r < 3 → c < g 0 0 → g 6 (60 * r + c) < 2) : Met l yX1_sync wsX1_sync rmX1_sync (mPc D h cZ cI g f [.int (nI fr), .int (nI to)]) (va_Qi (fun v (u : zU) => v = nI (mt_cnt (mt_mb g fr to) (g 0 0)) ∧ mt_ms g fr to (g 0 0) u.1 ∧ u.2 = f) (mB D h cZ cI) (mA h)) 0 0 (mA h) := by
  refine m_metI l (by decide) rfl (Nat.le_of_ble_eq_true rfl) ⟨rfl, rfl⟩ (fun p e s m args below meth cd R Q hR S hret ls hl hW => ?_)
  have hl : lv_has ls 5 [(0, .ref (h 0)), (1, .int (nI fr)), (2, .int (nI to))] := hl
  have loop : ∀ (d i : Nat) (g1 : Nat → Nat → Nat), i + d = g 0 0 → mt_ms g fr to i g1 → ∀ (H : Heap) (locs : List Loc), MS D h cZ cI s (mA h) H locs g1 f → ∀ ls : Array Slot, lv_has ls 5 [(0, .ref (h 0)), (1, .int (nI fr)), (2, .int (nI to)), (3, .int (nI (mt_cnt (mt_mb g fr to) i))), (4, .int (nI i))] → W p l e R s m args below meth cd H locs 0 0 Q (F0 m 21 ls []) := by
    intro d
    induction d with
    | zero =>
      intro i g1 hid hS H locs hW ls hl
      have e0 : g1 0 0 = g 0 0 := by rw [hS.1 0 (by decide)]
      refine lv_iload (pc := 21) S.1 S.2.1 dX1_sync_21 (lv_at hl 4 rfl) ?_
      refine m_g_0 (pc := 23) S hW (lv_at hl 0 rfl) dX1_sync_23 dX1_sync_24 ?_
      refine z_icmp_ge (pc := 27) (tgt := 82) (x := i) (y := g1 0 0) S (by omega) (by omega) dX1_sync_27 (by decide) (fun c_27 => ?_) (fun c_27 => ?_)
      · refine lv_iload_n (pc := 82) S.1 S.2.1 dX1_sync_82 rfl (lv_at hl 3 rfl) ?_
        exact hret _ _ _ _ _ _ _ hW ⟨by rw [← hid]; rfl, by rw [← hid]; exact hS, rfl⟩ dX1_sync_83
      · exfalso; omega
    | succ d ih =>
      intro i g1 hid hS H locs hW ls hl
      have e0 : g1 0 0 = g 0 0 := by rw [hS.1 0 (by decide)]
      have v1 := hv fr i hfr (by omega)
      have v2 := hv to i hto (by omega)
      have ea := mt_ms_fr hS (show i < 60 by omega)
      have eb := mt_ms_to hS (show i < 60 by omega)
      refine lv_iload (pc := 21) S.1 S.2.1 dX1_sync_21 (lv_at hl 4 rfl) ?_
      refine m_g_0 (pc := 23) S hW (lv_at hl 0 rfl) dX1_sync_23 dX1_sync_24 ?_
      refine z_icmp_ge (pc := 27) (tgt := 82) (x := i) (y := g1 0 0) S (by omega) (by omega) dX1_sync_27 (by decide) (fun c_27 => ?_) (fun c_27 => ?_)
      · exfalso; omega
      · refine m_g_6 (pc := 30) S hW (lv_at hl 0 rfl) dX1_sync_30 dX1_sync_31 ?_
        refine lv_bipush (pc := 34) (v := nI 60) S.1 S.2.1 dX1_sync_34 (by decide) ?_
        refine lv_iload_n (pc := 36) S.1 S.2.1 dX1_sync_36 rfl (lv_at hl 1 rfl) ?_
        refine z_imul (pc := 37) (x := 60) (y := fr) S dX1_sync_37 ?_
        refine lv_iload (pc := 38) S.1 S.2.1 dX1_sync_38 (lv_at hl 4 rfl) ?_
        refine z_iadd (pc := 40) (x := 60 * fr) (y := i) S dX1_sync_40 ?_
        refine m_ld_6 (pc := 41) (i := (60 * fr) + i) (v := g 6 (60 * fr + i)) S hW (by omega) ea dX1_sync_41 ?_
        refine z_if_eq (pc := 42) (tgt := 76) (x := g 6 (60 * fr + i)) S (by omega) dX1_sync_42 (by decide) (fun c_42 => ?_) (fun c_42 => ?_)
        · refine lv_iinc (pc := 76) (v := nI (i + 1)) (lv' := [(4, .int (nI (i + 1))), (0, .ref (h 0)), (1, .int (nI fr)), (2, .int (nI to)), (3, .int (nI (mt_cnt (mt_mb g fr to) i)))]) S.1 S.2.1 dX1_sync_76 hl (k := 4) rfl (z_inc1 _) (by decide) rfl (fun ls hl => ?_)
          refine lv_goto (pc := 79) (tgt := 21) S.1 S.2.1 dX1_sync_79 (by decide) ?_
          exact ih (i + 1) _ (by omega) (mt_ms_no hS (fun z => z.1 c_42)) _ _ hW ls (by rw [mt_cnt_n (fun z => (mt_dec_t.mp z).1 c_42)]; exact lv_sub hl [1, 2, 3, 4, 0] rfl)
        · refine m_g_6 (pc := 45) S hW (lv_at hl 0 rfl) dX1_sync_45 dX1_sync_46 ?_
          refine lv_bipush (pc := 49) (v := nI 60) S.1 S.2.1 dX1_sync_49 (by decide) ?_
          refine lv_iload_n (pc := 51) S.1 S.2.1 dX1_sync_51 rfl (lv_at hl 2 rfl) ?_
          refine z_imul (pc := 52) (x := 60) (y := to) S dX1_sync_52 ?_
          refine lv_iload (pc := 53) S.1 S.2.1 dX1_sync_53 (lv_at hl 4 rfl) ?_
          refine z_iadd (pc := 55) (x := 60 * to) (y := i) S dX1_sync_55 ?_
          refine m_ld_6 (pc := 56) (i := (60 * to) + i) (v := g 6 (60 * to + i)) S hW (by omega) eb dX1_sync_56 ?_
          refine z_if_ne (pc := 57) (tgt := 76) (x := g 6 (60 * to + i)) S (by omega) dX1_sync_57 (by decide) (fun c_57 => ?_) (fun c_57 => ?_)
          · refine lv_iinc (pc := 76) (v := nI (i + 1)) (lv' := [(4, .int (nI (i + 1))), (0, .ref (h 0)), (1, .int (nI fr)), (2, .int (nI to)), (3, .int (nI (mt_cnt (mt_mb g fr to) i)))]) S.1 S.2.1 dX1_sync_76 hl (k := 4) rfl (z_inc1 _) (by decide) rfl (fun ls hl => ?_)
            refine lv_goto (pc := 79) (tgt := 21) S.1 S.2.1 dX1_sync_79 (by decide) ?_
            exact ih (i + 1) _ (by omega) (mt_ms_no hS (fun z => c_57 z.2)) _ _ hW ls (by rw [mt_cnt_n (fun z => c_57 (mt_dec_t.mp z).2)]; exact lv_sub hl [1, 2, 3, 4, 0] rfl)
          · refine m_g_6 (pc := 60) S hW (lv_at hl 0 rfl) dX1_sync_60 dX1_sync_61 ?_
            refine lv_bipush (pc := 64) (v := nI 60) S.1 S.2.1 dX1_sync_64 (by decide) ?_
            refine lv_iload_n (pc := 66) S.1 S.2.1 dX1_sync_66 rfl (lv_at hl 2 rfl) ?_
            refine z_imul (pc := 67) (x := 60) (y := to) S dX1_sync_67 ?_
            refine lv_iload (pc := 68) S.1 S.2.1 dX1_sync_68 (lv_at hl 4 rfl) ?_
            refine z_iadd (pc := 70) (x := 60 * to) (y := i) S dX1_sync_70 ?_
            refine lv_iconst (pc := 71) (v := nI 1) S.1 S.2.1 dX1_sync_71 (by decide) ?_
            refine m_st_6 (pc := 72) (i := (60 * to) + i) (v := 1) S hW (by omega) (by decide) dX1_sync_72 (fun H locs hW => ?_)
            refine lv_iinc (pc := 73) (v := nI ((mt_cnt (mt_mb g fr to) i) + 1)) (lv' := [(3, .int (nI ((mt_cnt (mt_mb g fr to) i) + 1))), (0, .ref (h 0)), (1, .int (nI fr)), (2, .int (nI to)), (4, .int (nI i))]) S.1 S.2.1 dX1_sync_73 hl (k := 3) rfl (z_inc1 _) (by decide) rfl (fun ls hl => ?_)
            refine lv_iinc (pc := 76) (v := nI (i + 1)) (lv' := [(4, .int (nI (i + 1))), (3, .int (nI ((mt_cnt (mt_mb g fr to) i) + 1))), (0, .ref (h 0)), (1, .int (nI fr)), (2, .int (nI to))]) S.1 S.2.1 dX1_sync_76 hl (k := 4) rfl (z_inc1 _) (by decide) rfl (fun ls hl => ?_)
            refine lv_goto (pc := 79) (tgt := 21) S.1 S.2.1 dX1_sync_79 (by decide) ?_
            exact ih (i + 1) _ (by omega) (mt_ms_yes hS (by omega) c_42 c_57) _ _ hW ls (by rw [mt_cnt_s (mt_dec_t.mpr ⟨c_42, c_57⟩)]; exact lv_sub hl [2, 3, 4, 1, 0] rfl)
  refine lv_iload_n (pc := 0) S.1 S.2.1 dX1_sync_0 rfl (lv_at hl 1 rfl) ?_
  refine m_calls (pc := 1) (As := [.int (nI fr)]) (rest := []) S hW (metX1_bad l (nI fr)) (cwX1_bad S.2.2.2.2 (by rw [hR]; decide)) rfl hl.1 rfl (Nat.le_of_ble_eq_true rfl) ⟨Nat.zero_le _, Nat.zero_le _⟩ dX1_sync_1 (fun r_1 H locs hp_1 hW => ?_)
  subst hp_1
  refine z_ifb_ne (pc := 4) (tgt := 14) S dX1_sync_4 (by decide) (fun c_4 => ?_) (fun c_4 => ?_)
  · exact absurd (mt_rep_nI hfr) c_4
  · refine lv_iload_n (pc := 7) S.1 S.2.1 dX1_sync_7 rfl (lv_at hl 2 rfl) ?_
    refine m_calls (pc := 8) (As := [.int (nI to)]) (rest := []) S hW (metX1_bad l (nI to)) (cwX1_bad S.2.2.2.2 (by rw [hR]; decide)) rfl hl.1 rfl (Nat.le_of_ble_eq_true rfl) ⟨Nat.zero_le _, Nat.zero_le _⟩ dX1_sync_8 (fun r_8 H locs hp_8 hW => ?_)
    subst hp_8
    refine z_ifb_eq (pc := 11) (tgt := 16) S dX1_sync_11 (by decide) (fun c_11 => ?_) (fun c_11 => ?_)
    · refine lv_iconst (pc := 16) (v := nI 0) S.1 S.2.1 dX1_sync_16 (by decide) ?_
      refine lv_istore_n (pc := 17) (lv' := [(3, .int (nI 0)), (0, .ref (h 0)), (1, .int (nI fr)), (2, .int (nI to))]) S.1 S.2.1 dX1_sync_17 rfl hl (by decide) rfl (fun ls hl => ?_)
      refine lv_iconst (pc := 18) (v := nI 0) S.1 S.2.1 dX1_sync_18 (by decide) ?_
      refine lv_istore (pc := 19) (lv' := [(4, .int (nI 0)), (3, .int (nI 0)), (0, .ref (h 0)), (1, .int (nI fr)), (2, .int (nI to))]) S.1 S.2.1 dX1_sync_19 hl (by decide) rfl (fun ls hl => ?_)
      exact loop (g 0 0) 0 g (by omega) (mt_ms_0 g fr to) _ _ hW ls (lv_sub hl [2, 3, 4, 1, 0] rfl)
    · exact absurd (mt_rep_nI hto) c_11
set_option maxHeartbeats 4000000 in
/-- parent -/
theorem metX1_parent_ok (l : Launch) (D : va_G) (h : Nat → Nat) (cZ cI : ClassId) (g : Nat → Nat → Nat) (f : Nat → Nat → Int32) (r nd : Nat) (lg : Nat → Nat) (n : Nat) (hr : r < 3) (hn2 : nd < 10) (hL : mt_LV g f r lg n) : Met l yX1_parent wsX1_parent rmX1_parent (mPc D h cZ cI g f [.int (nI r), .int (nI nd)]) (va_Qi (fun v (u : zU) => v = (mt_run (mt_mq g f lg) n).1 nd ∧ mt_CO g f lg n u) (mB D h cZ cI) (mA h)) 0 0 (mA h) := by
  refine m_metI l (by decide) rfl (Nat.le_of_ble_eq_true rfl) ⟨rfl, rfl⟩ (fun p e s m args below meth cd R Q hR S hret ls hl hW => ?_)
  have hl : lv_has ls 3 [(0, .ref (h 0)), (1, .int (nI r)), (2, .int (nI nd))] := hl
  refine lv_iload_n (pc := 0) S.1 S.2.1 dX1_parent_0 rfl (lv_at hl 1 rfl) ?_
  refine m_calls (pc := 1) (As := [.int (nI r)]) (rest := []) S hW (metX1_bad l (nI r)) (cwX1_bad S.2.2.2.2 (by rw [hR]; decide)) rfl hl.1 rfl (Nat.le_of_ble_eq_true rfl) ⟨Nat.zero_le _, Nat.zero_le _⟩ dX1_parent_1 (fun r_1 H locs hp_1 hW => ?_)
  subst hp_1
  refine z_ifb_ne (pc := 4) (tgt := 14) S dX1_parent_4 (by decide) (fun c_4 => ?_) (fun c_4 => ?_)
  · exact absurd (mt_rep_nI hr) c_4
  · refine lv_iload_n (pc := 7) S.1 S.2.1 dX1_parent_7 rfl (lv_at hl 2 rfl) ?_
    refine m_calls (pc := 8) (As := [.int (nI nd)]) (rest := []) S hW (metX1_badNode l (nI nd)) (cwX1_badNode S.2.2.2.2 (by rw [hR]; decide)) rfl hl.1 rfl (Nat.le_of_ble_eq_true rfl) ⟨Nat.zero_le _, Nat.zero_le _⟩ dX1_parent_8 (fun r_8 H locs hp_8 hW => ?_)
    subst hp_8
    refine z_ifb_eq (pc := 11) (tgt := 16) S dX1_parent_11 (by decide) (fun c_11 => ?_) (fun c_11 => ?_)
    · refine lv_aload_n (pc := 16) S.1 S.2.1 dX1_parent_16 rfl (lv_at hl 0 rfl) ?_
      refine lv_iload_n (pc := 17) S.1 S.2.1 dX1_parent_17 rfl (lv_at hl 1 rfl) ?_
      refine lv_iconst (pc := 18) (v := -1) S.1 S.2.1 dX1_parent_18 (by decide) ?_
      refine m_calli (pc := 19) (As := [.int (nI r), .int (-1)]) (rest := []) S hW (metX1_carryOut l D h cZ cI _ _ r (-1) lg n hr hL) (cwX1_carryOut S.2.2.2.2 (by rw [hR]; decide)) rfl hl.1 rfl (Nat.le_of_ble_eq_true rfl) ⟨Nat.zero_le _, Nat.zero_le _⟩ dX1_parent_19 (fun r_19 g_19 f_19 H locs hp_19 hW _ _ => ?_)
      obtain ⟨rfl, hco19⟩ := hp_19
      refine lv_pop (pc := 22) S.1 S.2.1 dX1_parent_22 rfl ?_
      refine m_g_7 (pc := 23) S hW (lv_at hl 0 rfl) dX1_parent_23 dX1_parent_24 ?_
      refine lv_iload_n (pc := 27) S.1 S.2.1 dX1_parent_27 rfl (lv_at hl 2 rfl) ?_
      refine m_ld_7 (pc := 28) (i := nd) (v := f_19 7 nd) S hW (by omega) rfl dX1_parent_28 ?_
      exact hret _ _ _ _ _ _ _ hW ⟨(hco19.2.2.2 nd hn2).1, hco19⟩ dX1_parent_29
    · exact absurd (mt_nod_nI hn2) c_11
set_option maxHeartbeats 4000000 in
/-- label -/
theorem metX1_label_ok (l : Launch) (D : va_G) (h : Nat → Nat) (cZ cI : ClassId) (g : Nat → Nat → Nat) (f : Nat → Nat → Int32) (r nd : Nat) (lg : Nat → Nat) (n : Nat) (hr : r < 3) (hn2 : nd < 10) (hL : mt_LV g f r lg n) : Met l yX1_label wsX1_label rmX1_label (mPc D h cZ cI g f [.int (nI r), .int (nI nd)]) (va_Qi (fun v (u : zU) => v = (mt_run (mt_mq g f lg) n).2.1 nd ∧ mt_CO g f lg n u) (mB D h cZ cI) (mA h)) 0 0 (mA h) := by
  refine m_metI l (by decide) rfl (Nat.le_of_ble_eq_true rfl) ⟨rfl, rfl⟩ (fun p e s m args below meth cd R Q hR S hret ls hl hW => ?_)
  have hl : lv_has ls 3 [(0, .ref (h 0)), (1, .int (nI r)), (2, .int (nI nd))] := hl
  refine lv_iload_n (pc := 0) S.1 S.2.1 dX1_label_0 rfl (lv_at hl 1 rfl) ?_
  refine m_calls (pc := 1) (As := [.int (nI r)]) (rest := []) S hW (metX1_bad l (nI r)) (cwX1_bad S.2.2.2.2 (by rw [hR]; decide)) rfl hl.1 rfl (Nat.le_of_ble_eq_true rfl) ⟨Nat.zero_le _, Nat.zero_le _⟩ dX1_label_1 (fun r_1 H locs hp_1 hW => ?_)
  subst hp_1
  refine z_ifb_ne (pc := 4) (tgt := 14) S dX1_label_4 (by decide) (fun c_4 => ?_) (fun c_4 => ?_)
  · exact absurd (mt_rep_nI hr) c_4
  · refine lv_iload_n (pc := 7) S.1 S.2.1 dX1_label_7 rfl (lv_at hl 2 rfl) ?_
    refine m_calls (pc := 8) (As := [.int (nI nd)]) (rest := []) S hW (metX1_badNode l (nI nd)) (cwX1_badNode S.2.2.2.2 (by rw [hR]; decide)) rfl hl.1 rfl (Nat.le_of_ble_eq_true rfl) ⟨Nat.zero_le _, Nat.zero_le _⟩ dX1_label_8 (fun r_8 H locs hp_8 hW => ?_)
    subst hp_8
    refine z_ifb_eq (pc := 11) (tgt := 16) S dX1_label_11 (by decide) (fun c_11 => ?_) (fun c_11 => ?_)
    · refine lv_aload_n (pc := 16) S.1 S.2.1 dX1_label_16 rfl (lv_at hl 0 rfl) ?_
      refine lv_iload_n (pc := 17) S.1 S.2.1 dX1_label_17 rfl (lv_at hl 1 rfl) ?_
      refine lv_iconst (pc := 18) (v := -1) S.1 S.2.1 dX1_label_18 (by decide) ?_
      refine m_calli (pc := 19) (As := [.int (nI r), .int (-1)]) (rest := []) S hW (metX1_carryOut l D h cZ cI _ _ r (-1) lg n hr hL) (cwX1_carryOut S.2.2.2.2 (by rw [hR]; decide)) rfl hl.1 rfl (Nat.le_of_ble_eq_true rfl) ⟨Nat.zero_le _, Nat.zero_le _⟩ dX1_label_19 (fun r_19 g_19 f_19 H locs hp_19 hW _ _ => ?_)
      obtain ⟨rfl, hco19⟩ := hp_19
      refine lv_pop (pc := 22) S.1 S.2.1 dX1_label_22 rfl ?_
      refine m_g_8 (pc := 23) S hW (lv_at hl 0 rfl) dX1_label_23 dX1_label_24 ?_
      refine lv_iload_n (pc := 27) S.1 S.2.1 dX1_label_27 rfl (lv_at hl 2 rfl) ?_
      refine m_ld_8 (pc := 28) (i := nd) (v := f_19 8 nd) S hW (by omega) rfl dX1_label_28 ?_
      exact hret _ _ _ _ _ _ _ hW ⟨(hco19.2.2.2 nd hn2).2, hco19⟩ dX1_label_29
    · exact absurd (mt_nod_nI hn2) c_11
set_option maxHeartbeats 4000000 in
/-- children -/
theorem metX1_children_ok (l : Launch) (D : va_G) (h : Nat → Nat) (cZ cI : ClassId) (g : Nat → Nat → Nat) (f : Nat → Nat → Int32) (r nd : Nat) (lg : Nat → Nat) (n : Nat) (hr : r < 3) (hn2 : nd < 10) (hL : mt_LV g f r lg n) : Met l yX1_children wsX1_children rmX1_children (mPc D h cZ cI g f [.int (nI r), .int (nI nd)]) (va_Qi (fun v (u : zU) => v = nI (mt_cnt (mt_cb (mt_run (mt_mq g f lg) n).1 nd) 10) ∧ mt_CO g f lg n u) (mB D h cZ cI) (mA h)) 0 0 (mA h) := by
  refine m_metI l (by decide) rfl (Nat.le_of_ble_eq_true rfl) ⟨rfl, rfl⟩ (fun p e s m args below meth cd R Q hR S hret ls hl hW => ?_)
  have hl : lv_has ls 5 [(0, .ref (h 0)), (1, .int (nI r)), (2, .int (nI nd))] := hl
  refine lv_iload_n (pc := 0) S.1 S.2.1 dX1_children_0 rfl (lv_at hl 1 rfl) ?_
  refine m_calls (pc := 1) (As := [.int (nI r)]) (rest := []) S hW (metX1_bad l (nI r)) (cwX1_bad S.2.2.2.2 (by rw [hR]; decide)) rfl hl.1 rfl (Nat.le_of_ble_eq_true rfl) ⟨Nat.zero_le _, Nat.zero_le _⟩ dX1_children_1 (fun r_1 H locs hp_1 hW => ?_)
  subst hp_1
  refine z_ifb_ne (pc := 4) (tgt := 14) S dX1_children_4 (by decide) (fun c_4 => ?_) (fun c_4 => ?_)
  · exact absurd (mt_rep_nI hr) c_4
  · refine lv_iload_n (pc := 7) S.1 S.2.1 dX1_children_7 rfl (lv_at hl 2 rfl) ?_
    refine m_calls (pc := 8) (As := [.int (nI nd)]) (rest := []) S hW (metX1_badNode l (nI nd)) (cwX1_badNode S.2.2.2.2 (by rw [hR]; decide)) rfl hl.1 rfl (Nat.le_of_ble_eq_true rfl) ⟨Nat.zero_le _, Nat.zero_le _⟩ dX1_children_8 (fun r_8 H locs hp_8 hW => ?_)
    subst hp_8
    refine z_ifb_eq (pc := 11) (tgt := 16) S dX1_children_11 (by decide) (fun c_11 => ?_) (fun c_11 => ?_)
    · refine lv_aload_n (pc := 16) S.1 S.2.1 dX1_children_16 rfl (lv_at hl 0 rfl) ?_
      refine lv_iload_n (pc := 17) S.1 S.2.1 dX1_children_17 rfl (lv_at hl 1 rfl) ?_
      refine lv_iconst (pc := 18) (v := -1) S.1 S.2.1 dX1_children_18 (by decide) ?_
      refine m_calli (pc := 19) (As := [.int (nI r), .int (-1)]) (rest := []) S hW (metX1_carryOut l D h cZ cI _ _ r (-1) lg n hr hL) (cwX1_carryOut S.2.2.2.2 (by rw [hR]; decide)) rfl hl.1 rfl (Nat.le_of_ble_eq_true rfl) ⟨Nat.zero_le _, Nat.zero_le _⟩ dX1_children_19 (fun r_19 g_19 f_19 H locs hp_19 hW _ _ => ?_)
      obtain ⟨rfl, hco19⟩ := hp_19
      refine lv_pop (pc := 22) S.1 S.2.1 dX1_children_22 rfl ?_
      have loop : ∀ (d i : Nat), i + d = 10 → ∀ (H : Heap) (locs : List Loc), MS D h cZ cI s (mA h) H locs g_19 f_19 → ∀ ls : Array Slot, lv_has ls 5 [(0, .ref (h 0)), (1, .int (nI r)), (2, .int (nI nd)), (3, .int (nI (mt_cnt (mt_cb (mt_run (mt_mq g f lg) n).1 nd) i))), (4, .int (nI i))] → W p l e R s m args below meth cd H locs 0 0 Q (F0 m 28 ls []) := by
        intro d
        induction d with
        | zero =>
          intro i hid H locs hW ls hl
          have hid : i = 10 := by omega
          subst hid
          refine lv_iload (pc := 28) S.1 S.2.1 dX1_children_28 (lv_at hl 4 rfl) ?_
          refine lv_bipush (pc := 30) (v := nI 10) S.1 S.2.1 dX1_children_30 (by decide) ?_
          refine z_icmp_ge (pc := 32) (tgt := 55) (x := 10) (y := 10) S (by omega) (by omega) dX1_children_32 (by decide) (fun c_32 => ?_) (fun c_32 => ?_)
          · refine lv_iload_n (pc := 55) S.1 S.2.1 dX1_children_55 rfl (lv_at hl 3 rfl) ?_
            exact hret _ _ _ _ _ _ _ hW ⟨rfl, hco19⟩ dX1_children_56
          · exfalso; omega
        | succ d ih =>
          intro i hid H locs hW ls hl
          have ep := (hco19.2.2.2 i (by omega)).1
          refine lv_iload (pc := 28) S.1 S.2.1 dX1_children_28 (lv_at hl 4 rfl) ?_
          refine lv_bipush (pc := 30) (v := nI 10) S.1 S.2.1 dX1_children_30 (by decide) ?_
          refine z_icmp_ge (pc := 32) (tgt := 55) (x := i) (y := 10) S (by omega) (by omega) dX1_children_32 (by decide) (fun c_32 => ?_) (fun c_32 => ?_)
          · exfalso; omega
          · refine m_g_7 (pc := 35) S hW (lv_at hl 0 rfl) dX1_children_35 dX1_children_36 ?_
            refine lv_iload (pc := 39) S.1 S.2.1 dX1_children_39 (lv_at hl 4 rfl) ?_
            refine m_ld_7 (pc := 41) (i := i) (v := (mt_run (mt_mq g f lg) n).1 i) S hW (by omega) ep dX1_children_41 ?_
            refine lv_iload_n (pc := 42) S.1 S.2.1 dX1_children_42 rfl (lv_at hl 2 rfl) ?_
            refine lv_icmp_ne (pc := 43) (tgt := 49) S.1 S.2.1 dX1_children_43 (by decide) (fun c_43 => ?_) (fun c_43 => ?_)
            · refine lv_iinc (pc := 49) (v := nI (i + 1)) (lv' := [(4, .int (nI (i + 1))), (0, .ref (h 0)), (1, .int (nI r)), (2, .int (nI nd)), (3, .int (nI (mt_cnt (mt_cb (mt_run (mt_mq g f lg) n).1 nd) i)))]) S.1 S.2.1 dX1_children_49 hl (k := 4) rfl (z_inc1 _) (by decide) rfl (fun ls hl => ?_)
              refine lv_goto (pc := 52) (tgt := 28) S.1 S.2.1 dX1_children_52 (by decide) ?_
              exact ih (i + 1) (by omega) _ _ hW ls (by rw [mt_cnt_n (fun z => c_43 (mt_dec_t.mp z))]; exact lv_sub hl [1, 2, 3, 4, 0] rfl)
            · refine lv_iinc (pc := 46) (v := nI ((mt_cnt (mt_cb (mt_run (mt_mq g f lg) n).1 nd) i) + 1)) (lv' := [(3, .int (nI ((mt_cnt (mt_cb (mt_run (mt_mq g f lg) n).1 nd) i) + 1))), (0, .ref (h 0)), (1, .int (nI r)), (2, .int (nI nd)), (4, .int (nI i))]) S.1 S.2.1 dX1_children_46 hl (k := 3) rfl (z_inc1 _) (by decide) rfl (fun ls hl => ?_)
              refine lv_iinc (pc := 49) (v := nI (i + 1)) (lv' := [(4, .int (nI (i + 1))), (3, .int (nI ((mt_cnt (mt_cb (mt_run (mt_mq g f lg) n).1 nd) i) + 1))), (0, .ref (h 0)), (1, .int (nI r)), (2, .int (nI nd))]) S.1 S.2.1 dX1_children_49 hl (k := 4) rfl (z_inc1 _) (by decide) rfl (fun ls hl => ?_)
              refine lv_goto (pc := 52) (tgt := 28) S.1 S.2.1 dX1_children_52 (by decide) ?_
              exact ih (i + 1) (by omega) _ _ hW ls (by rw [mt_cnt_s (mt_dec_t.mpr c_43)]; exact lv_sub hl [2, 3, 4, 1, 0] rfl)
      refine lv_iconst (pc := 23) (v := nI 0) S.1 S.2.1 dX1_children_23 (by decide) ?_
      refine lv_istore_n (pc := 24) (lv' := [(3, .int (nI 0)), (0, .ref (h 0)), (1, .int (nI r)), (2, .int (nI nd))]) S.1 S.2.1 dX1_children_24 rfl hl (by decide) rfl (fun ls hl => ?_)
      refine lv_iconst (pc := 25) (v := nI 0) S.1 S.2.1 dX1_children_25 (by decide) ?_
      refine lv_istore (pc := 26) (lv' := [(4, .int (nI 0)), (3, .int (nI 0)), (0, .ref (h 0)), (1, .int (nI r)), (2, .int (nI nd))]) S.1 S.2.1 dX1_children_26 hl (by decide) rfl (fun ls hl => ?_)
      exact loop 10 0 rfl _ _ hW ls (lv_sub hl [2, 3, 4, 1, 0] rfl)
    · exact absurd (mt_nod_nI hn2) c_11
set_option maxHeartbeats 4000000 in
/-- depth -/
theorem metX1_depth_ok (l : Launch) (D : va_G) (h : Nat → Nat) (cZ cI : ClassId) (g : Nat → Nat → Nat) (f : Nat → Nat → Int32) (r nd : Nat) (lg : Nat → Nat) (n : Nat) (hr : r < 3) (hn2 : nd < 10) (hL : mt_LV g f r lg n) : Met l yX1_depth wsX1_depth rmX1_depth (mPc D h cZ cI g f [.int (nI r), .int (nI nd)]) (va_Qi (fun v (u : zU) => v = nI (mt_dp (mt_run (mt_mq g f lg) n).1 10 nd) ∧ mt_CO g f lg n u) (mB D h cZ cI) (mA h)) 0 0 (mA h) := by
  refine m_metI l (by decide) rfl (Nat.le_of_ble_eq_true rfl) ⟨rfl, rfl⟩ (fun p e s m args below meth cd R Q hR S hret ls hl hW => ?_)
  have hl : lv_has ls 5 [(0, .ref (h 0)), (1, .int (nI r)), (2, .int (nI nd))] := hl
  refine lv_iload_n (pc := 0) S.1 S.2.1 dX1_depth_0 rfl (lv_at hl 1 rfl) ?_
  refine m_calls (pc := 1) (As := [.int (nI r)]) (rest := []) S hW (metX1_bad l (nI r)) (cwX1_bad S.2.2.2.2 (by rw [hR]; decide)) rfl hl.1 rfl (Nat.le_of_ble_eq_true rfl) ⟨Nat.zero_le _, Nat.zero_le _⟩ dX1_depth_1 (fun r_1 H locs hp_1 hW => ?_)
  subst hp_1
  refine z_ifb_ne (pc := 4) (tgt := 14) S dX1_depth_4 (by decide) (fun c_4 => ?_) (fun c_4 => ?_)
  · exact absurd (mt_rep_nI hr) c_4
  · refine lv_iload_n (pc := 7) S.1 S.2.1 dX1_depth_7 rfl (lv_at hl 2 rfl) ?_
    refine m_calls (pc := 8) (As := [.int (nI nd)]) (rest := []) S hW (metX1_badNode l (nI nd)) (cwX1_badNode S.2.2.2.2 (by rw [hR]; decide)) rfl hl.1 rfl (Nat.le_of_ble_eq_true rfl) ⟨Nat.zero_le _, Nat.zero_le _⟩ dX1_depth_8 (fun r_8 H locs hp_8 hW => ?_)
    subst hp_8
    refine z_ifb_eq (pc := 11) (tgt := 16) S dX1_depth_11 (by decide) (fun c_11 => ?_) (fun c_11 => ?_)
    · refine lv_aload_n (pc := 16) S.1 S.2.1 dX1_depth_16 rfl (lv_at hl 0 rfl) ?_
      refine lv_iload_n (pc := 17) S.1 S.2.1 dX1_depth_17 rfl (lv_at hl 1 rfl) ?_
      refine lv_iconst (pc := 18) (v := -1) S.1 S.2.1 dX1_depth_18 (by decide) ?_
      refine m_calli (pc := 19) (As := [.int (nI r), .int (-1)]) (rest := []) S hW (metX1_carryOut l D h cZ cI _ _ r (-1) lg n hr hL) (cwX1_carryOut S.2.2.2.2 (by rw [hR]; decide)) rfl hl.1 rfl (Nat.le_of_ble_eq_true rfl) ⟨Nat.zero_le _, Nat.zero_le _⟩ dX1_depth_19 (fun r_19 g_19 f_19 H locs hp_19 hW _ _ => ?_)
      obtain ⟨rfl, hco19⟩ := hp_19
      refine lv_pop (pc := 22) S.1 S.2.1 dX1_depth_22 rfl ?_
      have hok : ∀ j, mt_okp ((mt_run (mt_mq g f lg) n).1 j) := mt_run_okp (fun k hk => (hL.2.2.2.2.2 (lg k) (hL.2.2.1 k hk).1).1)
      have loop : ∀ (d k a : Nat), k + d = 10 → a < 10 → k + mt_dp (mt_run (mt_mq g f lg) n).1 d a = mt_dp (mt_run (mt_mq g f lg) n).1 10 nd → ∀ (H : Heap) (locs : List Loc), MS D h cZ cI s (mA h) H locs g_19 f_19 → ∀ ls : Array Slot, lv_has ls 5 [(0, .ref (h 0)), (1, .int (nI r)), (2, .int (nI nd)), (3, .int (nI k)), (4, .int (nI a))] → W p l e R s m args below meth cd H locs 0 0 Q (F0 m 28 ls []) := by
        intro d
        induction d with
        | zero =>
          intro k a hkd ha hk H locs hW ls hl
          have hk : k = mt_dp (mt_run (mt_mq g f lg) n).1 10 nd := hk
          refine lv_iload_n (pc := 28) S.1 S.2.1 dX1_depth_28 rfl (lv_at hl 3 rfl) ?_
          refine lv_bipush (pc := 29) (v := nI 10) S.1 S.2.1 dX1_depth_29 (by decide) ?_
          refine z_icmp_ge (pc := 31) (tgt := 59) (x := k) (y := 10) S (by omega) (by omega) dX1_depth_31 (by decide) (fun c_31 => ?_) (fun c_31 => ?_)
          · refine lv_iload_n (pc := 59) S.1 S.2.1 dX1_depth_59 rfl (lv_at hl 3 rfl) ?_
            exact hret _ _ _ _ _ _ _ hW ⟨by rw [hk], hco19⟩ dX1_depth_60
          · exfalso; omega
        | succ d ih =>
          intro k a hkd ha hk H locs hW ls hl
          have ep := (hco19.2.2.2 a ha).1
          refine lv_iload_n (pc := 28) S.1 S.2.1 dX1_depth_28 rfl (lv_at hl 3 rfl) ?_
          refine lv_bipush (pc := 29) (v := nI 10) S.1 S.2.1 dX1_depth_29 (by decide) ?_
          refine z_icmp_ge (pc := 31) (tgt := 59) (x := k) (y := 10) S (by omega) (by omega) dX1_depth_31 (by decide) (fun c_31 => ?_) (fun c_31 => ?_)
          · exfalso; omega
          · refine m_g_7 (pc := 34) S hW (lv_at hl 0 rfl) dX1_depth_34 dX1_depth_35 ?_
            refine lv_iload (pc := 38) S.1 S.2.1 dX1_depth_38 (lv_at hl 4 rfl) ?_
            refine m_ld_7 (pc := 40) (i := a) (v := (mt_run (mt_mq g f lg) n).1 a) S hW (by omega) ep dX1_depth_40 ?_
            refine lv_if_lt (pc := 41) (tgt := 59) S.1 S.2.1 dX1_depth_41 (by decide) (fun c_41 => ?_) (fun c_41 => ?_)
            · have hk : k = mt_dp (mt_run (mt_mq g f lg) n).1 10 nd := by
                have z : mt_dp (mt_run (mt_mq g f lg) n).1 (d + 1) a = 0 := by
                  show (if (mt_run (mt_mq g f lg) n).1 a < 0 then 0 else mt_dp (mt_run (mt_mq g f lg) n).1 d ((mt_run (mt_mq g f lg) n).1 a).toNatClampNeg + 1) = 0
                  rw [if_pos c_41]
                omega
              refine lv_iload_n (pc := 59) S.1 S.2.1 dX1_depth_59 rfl (lv_at hl 3 rfl) ?_
              exact hret _ _ _ _ _ _ _ hW ⟨by rw [hk], hco19⟩ dX1_depth_60
            · obtain ⟨j, hj, ej⟩ := mt_okp_neg (hok a) c_41
              have hk : k + 1 + mt_dp (mt_run (mt_mq g f lg) n).1 d j = mt_dp (mt_run (mt_mq g f lg) n).1 10 nd := by
                have z : mt_dp (mt_run (mt_mq g f lg) n).1 (d + 1) a = mt_dp (mt_run (mt_mq g f lg) n).1 d j + 1 := by
                  show (if (mt_run (mt_mq g f lg) n).1 a < 0 then 0 else mt_dp (mt_run (mt_mq g f lg) n).1 d ((mt_run (mt_mq g f lg) n).1 a).toNatClampNeg + 1) = _
                  rw [if_neg c_41, ej, nI_clamp (by omega)]
                omega
              refine m_g_7 (pc := 44) S hW (lv_at hl 0 rfl) dX1_depth_44 dX1_depth_45 ?_
              refine lv_iload (pc := 48) S.1 S.2.1 dX1_depth_48 (lv_at hl 4 rfl) ?_
              refine m_ld_7 (pc := 50) (i := a) (v := nI j) S hW (by omega) (ep.trans ej) dX1_depth_50 ?_
              refine lv_istore (pc := 51) (lv' := [(4, .int (nI j)), (0, .ref (h 0)), (1, .int (nI r)), (2, .int (nI nd)), (3, .int (nI k))]) S.1 S.2.1 dX1_depth_51 hl (by decide) rfl (fun ls hl => ?_)
              refine lv_iinc (pc := 53) (v := nI (k + 1)) (lv' := [(3, .int (nI (k + 1))), (4, .int (nI j)), (0, .ref (h 0)), (1, .int (nI r)), (2, .int (nI nd))]) S.1 S.2.1 dX1_depth_53 hl (k := 4) rfl (z_inc1 _) (by decide) rfl (fun ls hl => ?_)
              refine lv_goto (pc := 56) (tgt := 28) S.1 S.2.1 dX1_depth_56 (by decide) ?_
              exact ih (k + 1) j (by omega) hj hk _ _ hW ls (lv_sub hl [2, 3, 4, 0, 1] rfl)
      refine lv_iconst (pc := 23) (v := nI 0) S.1 S.2.1 dX1_depth_23 (by decide) ?_
      refine lv_istore_n (pc := 24) (lv' := [(3, .int (nI 0)), (0, .ref (h 0)), (1, .int (nI r)), (2, .int (nI nd))]) S.1 S.2.1 dX1_depth_24 rfl hl (by decide) rfl (fun ls hl => ?_)
      refine lv_iload_n (pc := 25) S.1 S.2.1 dX1_depth_25 rfl (lv_at hl 3 rfl) ?_
      refine lv_istore (pc := 26) (lv' := [(4, .int (nI nd)), (3, .int (nI 0)), (0, .ref (h 0)), (1, .int (nI r)), (2, .int (nI nd))]) S.1 S.2.1 dX1_depth_26 hl (by decide) rfl (fun ls hl => ?_)
      exact loop 10 0 nd rfl hn2 (by omega) _ _ hW ls (lv_sub hl [2, 3, 4, 1, 0] rfl)
    · exact absurd (mt_nod_nI hn2) c_11
set_option maxHeartbeats 4000000 in
/-- alike -/
theorem metX1_alike_ok (l : Launch) (D : va_G) (h : Nat → Nat) (cZ cI : ClassId) (g : Nat → Nat → Nat) (f : Nat → Nat → Int32) (a b : Nat) (la lb : Nat → Nat) (na nb : Nat) (ha : a < 3) (hb : b < 3) (hLa : mt_LV g f a la na) (hLb : mt_LV g f b lb nb) : Met l yX1_alike wsX1_alike rmX1_alike (mPc D h cZ cI g f [.int (nI a), .int (nI b)]) (va_Qi (fun v (u : zU) => v = bI (∀ j, j < 10 → ((mt_run (mt_mq g f la) na).1 j = (mt_run (mt_mq g f lb) nb).1 j ∧ (mt_run (mt_mq g f la) na).2.1 j = (mt_run (mt_mq g f lb) nb).2.1 j)) ∧ (∀ a, a ≠ 9 → a ≠ 10 → u.1 a = g a) ∧ (∀ a, a ≠ 7 → a ≠ 8 → a ≠ 11 → a ≠ 12 → u.2 a = f a)) (mB D h cZ cI) (mA h)) 0 0 (mA h) := by
  refine m_metI l (by decide) rfl (Nat.le_of_ble_eq_true rfl) ⟨rfl, rfl⟩ (fun p e s m args below meth cd R Q hR S hret ls hl hW => ?_)
  have hl : lv_has ls 4 [(0, .ref (h 0)), (1, .int (nI a)), (2, .int (nI b))] := hl
  refine lv_iload_n (pc := 0) S.1 S.2.1 dX1_alike_0 rfl (lv_at hl 1 rfl) ?_
  refine m_calls (pc := 1) (As := [.int (nI a)]) (rest := []) S hW (metX1_bad l (nI a)) (cwX1_bad S.2.2.2.2 (by rw [hR]; decide)) rfl hl.1 rfl (Nat.le_of_ble_eq_true rfl) ⟨Nat.zero_le _, Nat.zero_le _⟩ dX1_alike_1 (fun r_1 H locs hp_1 hW => ?_)
  subst hp_1
  refine z_ifb_ne (pc := 4) (tgt := 14) S dX1_alike_4 (by decide) (fun c_4 => ?_) (fun c_4 => ?_)
  · exact absurd (mt_rep_nI ha) c_4
  · refine lv_iload_n (pc := 7) S.1 S.2.1 dX1_alike_7 rfl (lv_at hl 2 rfl) ?_
    refine m_calls (pc := 8) (As := [.int (nI b)]) (rest := []) S hW (metX1_bad l (nI b)) (cwX1_bad S.2.2.2.2 (by rw [hR]; decide)) rfl hl.1 rfl (Nat.le_of_ble_eq_true rfl) ⟨Nat.zero_le _, Nat.zero_le _⟩ dX1_alike_8 (fun r_8 H locs hp_8 hW => ?_)
    subst hp_8
    refine z_ifb_eq (pc := 11) (tgt := 16) S dX1_alike_11 (by decide) (fun c_11 => ?_) (fun c_11 => ?_)
    · refine lv_aload_n (pc := 16) S.1 S.2.1 dX1_alike_16 rfl (lv_at hl 0 rfl) ?_
      refine lv_iload_n (pc := 17) S.1 S.2.1 dX1_alike_17 rfl (lv_at hl 1 rfl) ?_
      refine lv_iconst (pc := 18) (v := -1) S.1 S.2.1 dX1_alike_18 (by decide) ?_
      refine m_calli (pc := 19) (As := [.int (nI a), .int (-1)]) (rest := []) S hW (metX1_carryOut l D h cZ cI _ _ a (-1) la na ha hLa) (cwX1_carryOut S.2.2.2.2 (by rw [hR]; decide)) rfl hl.1 rfl (Nat.le_of_ble_eq_true rfl) ⟨Nat.zero_le _, Nat.zero_le _⟩ dX1_alike_19 (fun r_19 g_19 f_19 H locs hp_19 hW _ _ => ?_)
      obtain ⟨rfl, hco19⟩ := hp_19
      refine lv_pop (pc := 22) S.1 S.2.1 dX1_alike_22 rfl ?_
      have aft : ∀ (f1 : Nat → Nat → Int32) (H : Heap) (locs : List Loc) (ls : Array Slot), (∀ a, a ≠ 11 → a ≠ 12 → f1 a = f_19 a) → (∀ j, j < 10 → f1 11 j = (mt_run (mt_mq g f la) na).1 j ∧ f1 12 j = (mt_run (mt_mq g f la) na).2.1 j) → MS D h cZ cI s (mA h) H locs g_19 f1 → lv_has ls 4 [(0, .ref (h 0)), (1, .int (nI a)), (2, .int (nI b))] → W p l e R s m args below meth cd H locs 0 0 Q (F0 m 61 ls []) := by
        intro f1 H locs ls a1 a2 hW hl
        have hLb2 : mt_LV g_19 f1 b lb nb := mt_LV_congr (hco19.1 0 (by decide) (by decide)) (hco19.1 1 (by decide) (by decide)) (hco19.1 2 (by decide) (by decide)) (hco19.1 3 (by decide) (by decide)) (hco19.1 4 (by decide) (by decide)) (hco19.1 6 (by decide) (by decide)) ((a1 5 (by decide) (by decide)).trans (hco19.2.1 5 (by decide) (by decide))) hLb
        have hmq : mt_mq g_19 f1 lb = mt_mq g f lb := mt_mq_congr (hco19.1 3 (by decide) (by decide)) (hco19.1 4 (by decide) (by decide)) ((a1 5 (by decide) (by decide)).trans (hco19.2.1 5 (by decide) (by decide))) lb
        refine lv_aload_n (pc := 61) S.1 S.2.1 dX1_alike_61 rfl (lv_at hl 0 rfl) ?_
        refine lv_iload_n (pc := 62) S.1 S.2.1 dX1_alike_62 rfl (lv_at hl 2 rfl) ?_
        refine lv_iconst (pc := 63) (v := -1) S.1 S.2.1 dX1_alike_63 (by decide) ?_
        refine m_calli (pc := 64) (As := [.int (nI b), .int (-1)]) (rest := []) S hW (metX1_carryOut l D h cZ cI _ _ b (-1) lb nb hb hLb2) (cwX1_carryOut S.2.2.2.2 (by rw [hR]; decide)) rfl hl.1 rfl (Nat.le_of_ble_eq_true rfl) ⟨Nat.zero_le _, Nat.zero_le _⟩ dX1_alike_64 (fun r_64 g_64 f_64 H locs hp_64 hW _ _ => ?_)
        obtain ⟨rfl, hco64⟩ := hp_64
        refine lv_pop (pc := 67) S.1 S.2.1 dX1_alike_67 rfl ?_
        unfold mt_CO at hco64
        rw [hmq] at hco64
        have hu1 : ∀ a, a ≠ 9 → a ≠ 10 → g_64 a = g a := fun a h9 h10 => (hco64.1 a h9 h10).trans (hco19.1 a h9 h10)
        have hu2 : ∀ a, a ≠ 7 → a ≠ 8 → a ≠ 11 → a ≠ 12 → f_64 a = f a := fun a h7 h8 h11 h12 => ((hco64.2.1 a h7 h8).trans (a1 a h11 h12)).trans (hco19.2.1 a h7 h8)
        have e11 : f_64 11 = f1 11 := hco64.2.1 11 (by decide) (by decide)
        have e12 : f_64 12 = f1 12 := hco64.2.1 12 (by decide) (by decide)
        have loop2 : ∀ (d i : Nat), i + d = 10 → (∀ j, j < i → ((mt_run (mt_mq g f la) na).1 j = (mt_run (mt_mq g f lb) nb).1 j ∧ (mt_run (mt_mq g f la) na).2.1 j = (mt_run (mt_mq g f lb) nb).2.1 j)) → ∀ (H : Heap) (locs : List Loc), MS D h cZ cI s (mA h) H locs g_64 f_64 → ∀ ls : Array Slot, lv_has ls 4 [(0, .ref (h 0)), (1, .int (nI a)), (2, .int (nI b)), (3, .int (nI i))] → W p l e R s m args below meth cd H locs 0 0 Q (F0 m 70 ls []) := by
          intro d
          induction d with
          | zero =>
            intro i hid hall H locs hW ls hl
            have hid : i = 10 := by omega
            subst hid
            refine lv_iload_n (pc := 70) S.1 S.2.1 dX1_alike_70 rfl (lv_at hl 3 rfl) ?_
            refine lv_bipush (pc := 71) (v := nI 10) S.1 S.2.1 dX1_alike_71 (by decide) ?_
            refine z_icmp_ge (pc := 73) (tgt := 114) (x := 10) (y := 10) S (by omega) (by omega) dX1_alike_73 (by decide) (fun c_73 => ?_) (fun c_73 => ?_)
            · refine lv_iconst (pc := 114) (v := nI 1) S.1 S.2.1 dX1_alike_114 (by decide) ?_
              exact hret _ _ _ _ _ _ _ hW ⟨bI1 hall, hu1, hu2⟩ dX1_alike_115
            · exfalso; omega
          | succ d ih =>
            intro i hid hall H locs hW ls hl
            have p1 : f_64 11 i = (mt_run (mt_mq g f la) na).1 i := by rw [e11]; exact (a2 i (by omega)).1
            have p2 : f_64 12 i = (mt_run (mt_mq g f la) na).2.1 i := by rw [e12]; exact (a2 i (by omega)).2
            have p3 := (hco64.2.2.2 i (by omega)).1
            have p4 := (hco64.2.2.2 i (by omega)).2
            refine lv_iload_n (pc := 70) S.1 S.2.1 dX1_alike_70 rfl (lv_at hl 3 rfl) ?_
            refine lv_bipush (pc := 71) (v := nI 10) S.1 S.2.1 dX1_alike_71 (by decide) ?_
            refine z_icmp_ge (pc := 73) (tgt := 114) (x := i) (y := 10) S (by omega) (by omega) dX1_alike_73 (by decide) (fun c_73 => ?_) (fun c_73 => ?_)
            · exfalso; omega
            · refine m_g_11 (pc := 76) S hW (lv_at hl 0 rfl) dX1_alike_76 dX1_alike_77 ?_
              refine lv_iload_n (pc := 80) S.1 S.2.1 dX1_alike_80 rfl (lv_at hl 3 rfl) ?_
              refine m_ld_11 (pc := 81) (i := i) (v := (mt_run (mt_mq g f la) na).1 i) S hW (by omega) p1 dX1_alike_81 ?_
              refine m_g_7 (pc := 82) S hW (lv_at hl 0 rfl) dX1_alike_82 dX1_alike_83 ?_
              refine lv_iload_n (pc := 86) S.1 S.2.1 dX1_alike_86 rfl (lv_at hl 3 rfl) ?_
              refine m_ld_7 (pc := 87) (i := i) (v := (mt_run (mt_mq g f lb) nb).1 i) S hW (by omega) p3 dX1_alike_87 ?_
              refine lv_icmp_ne (pc := 88) (tgt := 106) S.1 S.2.1 dX1_alike_88 (by decide) (fun c_88 => ?_) (fun c_88 => ?_)
              · refine lv_iconst (pc := 106) (v := nI 0) S.1 S.2.1 dX1_alike_106 (by decide) ?_
                exact hret _ _ _ _ _ _ _ hW ⟨bI0 (fun z => c_88 (z i (by omega)).1), hu1, hu2⟩ dX1_alike_107
              · refine m_g_12 (pc := 91) S hW (lv_at hl 0 rfl) dX1_alike_91 dX1_alike_92 ?_
                refine lv_iload_n (pc := 95) S.1 S.2.1 dX1_alike_95 rfl (lv_at hl 3 rfl) ?_
                refine m_ld_12 (pc := 96) (i := i) (v := (mt_run (mt_mq g f la) na).2.1 i) S hW (by omega) p2 dX1_alike_96 ?_
                refine m_g_8 (pc := 97) S hW (lv_at hl 0 rfl) dX1_alike_97 dX1_alike_98 ?_
                refine lv_iload_n (pc := 101) S.1 S.2.1 dX1_alike_101 rfl (lv_at hl 3 rfl) ?_
                refine m_ld_8 (pc := 102) (i := i) (v := (mt_run (mt_mq g f lb) nb).2.1 i) S hW (by omega) p4 dX1_alike_102 ?_
                refine lv_icmp_eq (pc := 103) (tgt := 108) S.1 S.2.1 dX1_alike_103 (by decide) (fun c_103 => ?_) (fun c_103 => ?_)
                · refine lv_iinc (pc := 108) (v := nI (i + 1)) (lv' := [(3, .int (nI (i + 1))), (0, .ref (h 0)), (1, .int (nI a)), (2, .int (nI b))]) S.1 S.2.1 dX1_alike_108 hl (k := 3) rfl (z_inc1 _) (by decide) rfl (fun ls hl => ?_)
                  refine lv_goto (pc := 111) (tgt := 70) S.1 S.2.1 dX1_alike_111 (by decide) ?_
                  exact ih (i + 1) (by omega) (fun j hj => by
                    by_cases e : j = i
                    · rw [e]; exact ⟨c_88, c_103⟩
                    · exact hall j (by omega)) _ _ hW ls (lv_sub hl [1, 2, 3, 0] rfl)
                · refine lv_iconst (pc := 106) (v := nI 0) S.1 S.2.1 dX1_alike_106 (by decide) ?_
                  exact hret _ _ _ _ _ _ _ hW ⟨bI0 (fun z => c_103 (z i (by omega)).2), hu1, hu2⟩ dX1_alike_107
        refine lv_iconst (pc := 68) (v := nI 0) S.1 S.2.1 dX1_alike_68 (by decide) ?_
        refine lv_istore_n (pc := 69) (lv' := [(3, .int (nI 0)), (0, .ref (h 0)), (1, .int (nI a)), (2, .int (nI b))]) S.1 S.2.1 dX1_alike_69 rfl hl (by decide) rfl (fun ls hl => ?_)
        exact loop2 10 0 rfl (fun j hj => absurd hj (by omega)) _ _ hW ls (lv_sub hl [1, 2, 3, 0] rfl)
      have loop1 : ∀ (d i : Nat) (f1 : Nat → Nat → Int32), i + d = 10 → (∀ a, a ≠ 11 → a ≠ 12 → f1 a = f_19 a) → (∀ j, j < i → f1 11 j = (mt_run (mt_mq g f la) na).1 j ∧ f1 12 j = (mt_run (mt_mq g f la) na).2.1 j) → ∀ (H : Heap) (locs : List Loc), MS D h cZ cI s (mA h) H locs g_19 f1 → ∀ ls : Array Slot, lv_has ls 4 [(0, .ref (h 0)), (1, .int (nI a)), (2, .int (nI b)), (3, .int (nI i))] → W p l e R s m args below meth cd H locs 0 0 Q (F0 m 25 ls []) := by
        intro d
        induction d with
        | zero =>
          intro i f1 hid a1 a2 H locs hW ls hl
          have hid : i = 10 := by omega
          subst hid
          refine lv_iload_n (pc := 25) S.1 S.2.1 dX1_alike_25 rfl (lv_at hl 3 rfl) ?_
          refine lv_bipush (pc := 26) (v := nI 10) S.1 S.2.1 dX1_alike_26 (by decide) ?_
          refine z_icmp_ge (pc := 28) (tgt := 61) (x := 10) (y := 10) S (by omega) (by omega) dX1_alike_28 (by decide) (fun c_28 => ?_) (fun c_28 => ?_)
          · exact aft f1 H locs ls a1 a2 hW (lv_sub hl [0, 1, 2] rfl)
          · exfalso; omega
        | succ d ih =>
          intro i f1 hid a1 a2 H locs hW ls hl
          have p1 : f1 7 i = (mt_run (mt_mq g f la) na).1 i := by rw [a1 7 (by decide) (by decide)]; exact (hco19.2.2.2 i (by omega)).1
          have p2 : f1 8 i = (mt_run (mt_mq g f la) na).2.1 i := by rw [a1 8 (by decide) (by decide)]; exact (hco19.2.2.2 i (by omega)).2
          refine lv_iload_n (pc := 25) S.1 S.2.1 dX1_alike_25 rfl (lv_at hl 3 rfl) ?_
          refine lv_bipush (pc := 26) (v := nI 10) S.1 S.2.1 dX1_alike_26 (by decide) ?_
          refine z_icmp_ge (pc := 28) (tgt := 61) (x := i) (y := 10) S (by omega) (by omega) dX1_alike_28 (by decide) (fun c_28 => ?_) (fun c_28 => ?_)
          · exfalso; omega
          · refine m_g_11 (pc := 31) S hW (lv_at hl 0 rfl) dX1_alike_31 dX1_alike_32 ?_
            refine lv_iload_n (pc := 35) S.1 S.2.1 dX1_alike_35 rfl (lv_at hl 3 rfl) ?_
            refine m_g_7 (pc := 36) S hW (lv_at hl 0 rfl) dX1_alike_36 dX1_alike_37 ?_
            refine lv_iload_n (pc := 40) S.1 S.2.1 dX1_alike_40 rfl (lv_at hl 3 rfl) ?_
            refine m_ld_7 (pc := 41) (i := i) (v := (mt_run (mt_mq g f la) na).1 i) S hW (by omega) p1 dX1_alike_41 ?_
            refine m_st_11 (pc := 42) (i := i) (v := (mt_run (mt_mq g f la) na).1 i) S hW (by omega) dX1_alike_42 (fun H locs hW => ?_)
            refine m_g_12 (pc := 43) S hW (lv_at hl 0 rfl) dX1_alike_43 dX1_alike_44 ?_
            refine lv_iload_n (pc := 47) S.1 S.2.1 dX1_alike_47 rfl (lv_at hl 3 rfl) ?_
            refine m_g_8 (pc := 48) S hW (lv_at hl 0 rfl) dX1_alike_48 dX1_alike_49 ?_
            refine lv_iload_n (pc := 52) S.1 S.2.1 dX1_alike_52 rfl (lv_at hl 3 rfl) ?_
            refine m_ld_8 (pc := 53) (i := i) (v := (mt_run (mt_mq g f la) na).2.1 i) S hW (by omega) p2 dX1_alike_53 ?_
            refine m_st_12 (pc := 54) (i := i) (v := (mt_run (mt_mq g f la) na).2.1 i) S hW (by omega) dX1_alike_54 (fun H locs hW => ?_)
            refine lv_iinc (pc := 55) (v := nI (i + 1)) (lv' := [(3, .int (nI (i + 1))), (0, .ref (h 0)), (1, .int (nI a)), (2, .int (nI b))]) S.1 S.2.1 dX1_alike_55 hl (k := 3) rfl (z_inc1 _) (by decide) rfl (fun ls hl => ?_)
            refine lv_goto (pc := 58) (tgt := 25) S.1 S.2.1 dX1_alike_58 (by decide) ?_
            refine ih (i + 1) _ (by omega) (fun a h11 h12 => by rw [st2_k _ _ _ _ h12, st2_k _ _ _ _ h11, a1 a h11 h12]) (fun j hj => ?_) _ _ hW ls (lv_sub hl [1, 2, 3, 0] rfl)
            by_cases e : j = i
            · rw [e, st2_eq, st2_k _ _ _ _ (show (11 : Nat) ≠ 12 by decide), st2_eq]; exact ⟨rfl, rfl⟩
            · rw [st2_ne _ _ _ _ e, st2_k _ _ _ _ (show (11 : Nat) ≠ 12 by decide), st2_ne _ _ _ _ e, st2_k _ _ _ _ (show (12 : Nat) ≠ 11 by decide)]; exact a2 j (by omega)
      refine lv_iconst (pc := 23) (v := nI 0) S.1 S.2.1 dX1_alike_23 (by decide) ?_
      refine lv_istore_n (pc := 24) (lv' := [(3, .int (nI 0)), (0, .ref (h 0)), (1, .int (nI a)), (2, .int (nI b))]) S.1 S.2.1 dX1_alike_24 rfl hl (by decide) rfl (fun ls hl => ?_)
      exact loop1 10 0 f_19 rfl (fun _ _ _ => rfl) (fun j hj => absurd hj (by omega)) _ _ hW ls (lv_sub hl [1, 2, 3, 0] rfl)
    · exact absurd (mt_rep_nI hb) c_11
end
section
set_option maxRecDepth 100000
section IR
variable {cc : ByteArray} {nL : Nat} {own : String} {D : va_G}
theorem i_metV (l : Launch) {y : MethodName} {rm : Room} {a0 sz ci mc ms : Nat} {fs : List Value} {S : Type} {post : S → Prop} {B : S → State → Prop} (hy : plainName y.cls = true) (hcls : y.cls = own) (hname : y.name = "<init>") (hlen : (lg_sl [.ref a0]).length ≤ nL) (body : ∀ (p : Program) (e : Env) (s : State) (m : MethodId) (args : Array Value) (below : List Frame) (meth : Method) (c : Code) (R : Room) (Q : State → Prop), R = rm → CallFix p m c cc nL s args lw_all own → meth.name = "<init>" → va_P D vwCl [(a0, .inr (ci, fs))] s.heap → va_K D vwCl [] s → va_D (va_A [(a0, .inr (ci, fs))] sz) [(a0, .inr (ci, fs))] → (∀ q, s.heap.size ≤ q → va_A [(a0, .inr (ci, fs))] sz q) → (∀ (u : S) (H : Heap) (locs : List Loc) (ls : Array Slot) (pc : Nat), (∀ t : State, t.heap = H → s.vm.Alike t.vm → B u t) → post u → va_S (va_A [(a0, .inr (ci, fs))] sz) s.heap H locs → decode cc pc = .ok (.return_, 1) → W p l e R s m args below meth c H locs mc ms Q (F0 m pc ls [])) → ∀ ls : Array Slot, lv_has ls nL [(0, .ref a0)] → W p l e R s m args below meth c s.heap [] 0 0 Q (F0 m 0 ls [])) : Met l y (ws_ y cc nL none) rm (va_Pc [.ref a0] (fun U => U.heap.size = sz ∧ va_P D vwCl [(a0, .inr (ci, fs))] U.heap ∧ va_K D vwCl [] U ∧ va_D (fun _ => True) [(a0, .inr (ci, fs))])) (va_Qv post B (va_A [(a0, .inr (ci, fs))] sz)) mc ms (va_A [(a0, .inr (ci, fs))] sz) := by
  refine Met.ofW (cc := cc) (maxL := nL) (ret := none) hy rfl ?_
  intro p e s m args below meth c s₁ B9 hml hv
  obtain ⟨rfl, hsz, hP, hK, hD⟩ := hv
  have hts := atoms_spec (ws := ws_ y cc nL none) B9.pre
  have hts : ∀ w ∈ lw_all, w.before _ s = true := fun w h => hts w (List.mem_cons_of_mem _ h)
  have hown : s.vm.findClass own = some m.cls := by rw [← hcls]; exact findClass_of_methodNamed B9.named
  have hlocks := B9.notSynchronized
  have hin : meth.name = "<init>" := by rw [← hname]; exact (name_of_methodNamed B9.named B9.method).1
  have hl := lv_entry [.ref a0] (n := nL) hlen
  rw [lg_entry_eq]
  refine body p e s m _ below meth c _ _ rfl ⟨B9.exec, B9.bytes, hml, hown, hts⟩ hin hP hK hD.self (fun q h => Or.inr (by rw [← hsz]; exact h)) ?_ _ hl
  intro u H locs ls pc hB hp hS hdg
  exact W.vret B9.exec B9.bytes B9.returns (fun t ht hM9 => ⟨⟨u, rfl, hp, hB t ht hM9.alike⟩, hS.F ht⟩) hS.2.2 hdg
end IR
abbrev zI : Type := (Nat → Nat) × (ClassId × ClassId) × (Nat → Nat → Int32)
theorem dX0_init_0 : decode cX0_init 0 = .ok (.aload_n 0, 1) := by decide +kernel
theorem dX0_init_1 : decode cX0_init 1 = .ok (.invokespecial 1, 3) := by decide +kernel
theorem dX0_init_4 : decode cX0_init 4 = .ok (.aload_n 0, 1) := by decide +kernel
theorem dX0_init_5 : decode cX0_init 5 = .ok (.bipush 60, 2) := by decide +kernel
theorem dX0_init_7 : decode cX0_init 7 = .ok (.newarray .boolean, 2) := by decide +kernel
theorem dX0_init_9 : decode cX0_init 9 = .ok (.putfield 7, 3) := by decide +kernel
theorem dX0_init_12 : decode cX0_init 12 = .ok (.aload_n 0, 1) := by decide +kernel
theorem dX0_init_13 : decode cX0_init 13 = .ok (.bipush 60, 2) := by decide +kernel
theorem dX0_init_15 : decode cX0_init 15 = .ok (.newarray .int, 2) := by decide +kernel
theorem dX0_init_17 : decode cX0_init 17 = .ok (.putfield 13, 3) := by decide +kernel
theorem dX0_init_20 : decode cX0_init 20 = .ok (.aload_n 0, 1) := by decide +kernel
theorem dX0_init_21 : decode cX0_init 21 = .ok (.bipush 60, 2) := by decide +kernel
theorem dX0_init_23 : decode cX0_init 23 = .ok (.newarray .int, 2) := by decide +kernel
theorem dX0_init_25 : decode cX0_init 25 = .ok (.putfield 17, 3) := by decide +kernel
theorem dX0_init_28 : decode cX0_init 28 = .ok (.aload_n 0, 1) := by decide +kernel
theorem dX0_init_29 : decode cX0_init 29 = .ok (.bipush 60, 2) := by decide +kernel
theorem dX0_init_31 : decode cX0_init 31 = .ok (.newarray .int, 2) := by decide +kernel
theorem dX0_init_33 : decode cX0_init 33 = .ok (.putfield 20, 3) := by decide +kernel
theorem dX0_init_36 : decode cX0_init 36 = .ok (.aload_n 0, 1) := by decide +kernel
theorem dX0_init_37 : decode cX0_init 37 = .ok (.bipush 60, 2) := by decide +kernel
theorem dX0_init_39 : decode cX0_init 39 = .ok (.newarray .int, 2) := by decide +kernel
theorem dX0_init_41 : decode cX0_init 41 = .ok (.putfield 23, 3) := by decide +kernel
theorem dX0_init_44 : decode cX0_init 44 = .ok (.aload_n 0, 1) := by decide +kernel
theorem dX0_init_45 : decode cX0_init 45 = .ok (.bipush 60, 2) := by decide +kernel
theorem dX0_init_47 : decode cX0_init 47 = .ok (.newarray .int, 2) := by decide +kernel
theorem dX0_init_49 : decode cX0_init 49 = .ok (.putfield 26, 3) := by decide +kernel
theorem dX0_init_52 : decode cX0_init 52 = .ok (.aload_n 0, 1) := by decide +kernel
theorem dX0_init_53 : decode cX0_init 53 = .ok (.iconst 3, 1) := by decide +kernel
theorem dX0_init_54 : decode cX0_init 54 = .ok (.newarray .int, 2) := by decide +kernel
theorem dX0_init_56 : decode cX0_init 56 = .ok (.putfield 29, 3) := by decide +kernel
theorem dX0_init_59 : decode cX0_init 59 = .ok (.aload_n 0, 1) := by decide +kernel
theorem dX0_init_60 : decode cX0_init 60 = .ok (.sipush 183, 3) := by decide +kernel
theorem dX0_init_63 : decode cX0_init 63 = .ok (.newarray .int, 2) := by decide +kernel
theorem dX0_init_65 : decode cX0_init 65 = .ok (.putfield 32, 3) := by decide +kernel
theorem dX0_init_68 : decode cX0_init 68 = .ok (.aload_n 0, 1) := by decide +kernel
theorem dX0_init_69 : decode cX0_init 69 = .ok (.bipush 9, 2) := by decide +kernel
theorem dX0_init_71 : decode cX0_init 71 = .ok (.newarray .int, 2) := by decide +kernel
theorem dX0_init_73 : decode cX0_init 73 = .ok (.putfield 35, 3) := by decide +kernel
theorem dX0_init_76 : decode cX0_init 76 = .ok (.aload_n 0, 1) := by decide +kernel
theorem dX0_init_77 : decode cX0_init 77 = .ok (.iconst 3, 1) := by decide +kernel
theorem dX0_init_78 : decode cX0_init 78 = .ok (.newarray .int, 2) := by decide +kernel
theorem dX0_init_80 : decode cX0_init 80 = .ok (.putfield 38, 3) := by decide +kernel
theorem dX0_init_83 : decode cX0_init 83 = .ok (.aload_n 0, 1) := by decide +kernel
theorem dX0_init_84 : decode cX0_init 84 = .ok (.iconst 3, 1) := by decide +kernel
theorem dX0_init_85 : decode cX0_init 85 = .ok (.newarray .int, 2) := by decide +kernel
theorem dX0_init_87 : decode cX0_init 87 = .ok (.putfield 41, 3) := by decide +kernel
theorem dX0_init_90 : decode cX0_init 90 = .ok (.aload_n 0, 1) := by decide +kernel
theorem dX0_init_91 : decode cX0_init 91 = .ok (.sipush 180, 3) := by decide +kernel
theorem dX0_init_94 : decode cX0_init 94 = .ok (.newarray .int, 2) := by decide +kernel
theorem dX0_init_96 : decode cX0_init 96 = .ok (.putfield 44, 3) := by decide +kernel
theorem dX0_init_99 : decode cX0_init 99 = .ok (.aload_n 0, 1) := by decide +kernel
theorem dX0_init_100 : decode cX0_init 100 = .ok (.sipush 180, 3) := by decide +kernel
theorem dX0_init_103 : decode cX0_init 103 = .ok (.newarray .int, 2) := by decide +kernel
theorem dX0_init_105 : decode cX0_init 105 = .ok (.putfield 47, 3) := by decide +kernel
theorem dX0_init_108 : decode cX0_init 108 = .ok (.aload_n 0, 1) := by decide +kernel
theorem dX0_init_109 : decode cX0_init 109 = .ok (.sipush 180, 3) := by decide +kernel
theorem dX0_init_112 : decode cX0_init 112 = .ok (.newarray .boolean, 2) := by decide +kernel
theorem dX0_init_114 : decode cX0_init 114 = .ok (.putfield 50, 3) := by decide +kernel
theorem dX0_init_117 : decode cX0_init 117 = .ok (.aload_n 0, 1) := by decide +kernel
theorem dX0_init_118 : decode cX0_init 118 = .ok (.iconst 3, 1) := by decide +kernel
theorem dX0_init_119 : decode cX0_init 119 = .ok (.newarray .int, 2) := by decide +kernel
theorem dX0_init_121 : decode cX0_init 121 = .ok (.putfield 53, 3) := by decide +kernel
theorem dX0_init_124 : decode cX0_init 124 = .ok (.aload_n 0, 1) := by decide +kernel
theorem dX0_init_125 : decode cX0_init 125 = .ok (.bipush 30, 2) := by decide +kernel
theorem dX0_init_127 : decode cX0_init 127 = .ok (.newarray .int, 2) := by decide +kernel
theorem dX0_init_129 : decode cX0_init 129 = .ok (.putfield 56, 3) := by decide +kernel
theorem dX0_init_132 : decode cX0_init 132 = .ok (.aload_n 0, 1) := by decide +kernel
theorem dX0_init_133 : decode cX0_init 133 = .ok (.bipush 30, 2) := by decide +kernel
theorem dX0_init_135 : decode cX0_init 135 = .ok (.newarray .int, 2) := by decide +kernel
theorem dX0_init_137 : decode cX0_init 137 = .ok (.putfield 59, 3) := by decide +kernel
theorem dX0_init_140 : decode cX0_init 140 = .ok (.iconst 0, 1) := by decide +kernel
theorem dX0_init_141 : decode cX0_init 141 = .ok (.istore_n 1, 1) := by decide +kernel
theorem dX0_init_142 : decode cX0_init 142 = .ok (.iload_n 1, 1) := by decide +kernel
theorem dX0_init_143 : decode cX0_init 143 = .ok (.bipush 30, 2) := by decide +kernel
theorem dX0_init_145 : decode cX0_init 145 = .ok (.if_icmp .ge 16, 3) := by decide +kernel
theorem dX0_init_148 : decode cX0_init 148 = .ok (.aload_n 0, 1) := by decide +kernel
theorem dX0_init_149 : decode cX0_init 149 = .ok (.getfield 56, 3) := by decide +kernel
theorem dX0_init_152 : decode cX0_init 152 = .ok (.iload_n 1, 1) := by decide +kernel
theorem dX0_init_153 : decode cX0_init 153 = .ok (.iconst (-1), 1) := by decide +kernel
theorem dX0_init_154 : decode cX0_init 154 = .ok (.iastore, 1) := by decide +kernel
theorem dX0_init_155 : decode cX0_init 155 = .ok (.iinc 1 1, 3) := by decide +kernel
theorem dX0_init_158 : decode cX0_init 158 = .ok (.goto (-16), 3) := by decide +kernel
theorem dX0_init_161 : decode cX0_init 161 = .ok (.return_, 1) := by decide +kernel
abbrev fsX0 : List Value := [.int 0, .null, .null, .null, .null, .null, .null, .null, .null, .null, .null, .null, .null, .null, .null, .null, .null, .null]
abbrev rmX0_init : Room := { frames := 1, cells := 17, slots := 1164, locals := 12 }
abbrev wsX0_init : List Cond := ws_ yX0_init cX0_init 2 none
/-- the world behind the constructor -/
def xBi (D : va_G) (A : Nat → Prop) (u : zI) (t : State) : Prop := va_P D vwCl (xw u.1 u.2.1.1 u.2.1.2 (fun _ _ => 0) u.2.2) t.heap ∧ va_K D vwCl (zty u.2.1.1 u.2.1.2) t ∧ va_D A (xw u.1 u.2.1.1 u.2.1.2 (fun _ _ => 0) u.2.2)
def xPi (a0 : Nat) (u : zI) : Prop := u.1 0 = a0 ∧ (∀ i, i < 30 → u.2.2 16 i = -1) ∧ ∀ k i, k ≠ 16 → u.2.2 k i = 0
set_option maxHeartbeats 8000000 in
theorem metX0_init (l : Launch) (D : va_G) (a0 sz : Nat) : Met l yX0_init wsX0_init rmX0_init (va_Pc [.ref a0] (fun U => U.heap.size = sz ∧ va_P D vwCl [(a0, .inr (0, fsX0))] U.heap ∧ va_K D vwCl [] U ∧ va_D (fun _ => True) [(a0, .inr (0, fsX0))])) (va_Qv (xPi a0) (xBi D (va_A [(a0, .inr (0, fsX0))] sz)) (va_A [(a0, .inr (0, fsX0))] sz)) 17 1164 (va_A [(a0, .inr (0, fsX0))] sz) := by
  refine i_metV (own := RX0) l (by decide) rfl rfl (Nat.le_of_ble_eq_true rfl) (fun p e s m args below meth cd R Q hR S hin hP hK hD hA hret ls hl => ?_)
  generalize va_A [(a0, .inr (0, fsX0))] sz = A at hD hA hret ⊢
  have hS : va_S A s.heap s.heap [] := va_S.rf
  refine lv_aload_n (pc := 0) S.1 S.2.1 dX0_init_0 rfl (lv_at hl 0 rfl) ?_
  refine W.objInit S.1 S.2.1 S.2.2.2.1 (S.2.2.2.2 _ q20) (S.2.2.2.2 _ q21) (S.2.2.2.2 _ q22) rfl (by rw [S.2.2.1]; exact hl.1) rfl dX0_init_1 (by rw [hR]; decide) (by rw [hR]; exact Nat.le_of_ble_eq_true rfl) ?_
  refine W.eq (g2 := F0 m 4 ls []) rfl ?_
  have hP : va_P D vwCl [(a0, .inr (0, [.int 0, .null, .null, .null, .null, .null, .null, .null, .null, .null, .null, .null, .null, .null, .null, .null, .null, .null]))] s.heap := hP
  have hD : va_D A [(a0, .inr (0, [.int 0, .null, .null, .null, .null, .null, .null, .null, .null, .null, .null, .null, .null, .null, .null, .null, .null, .null]))] := hD
  refine lv_aload_n (pc := 4) S.1 S.2.1 dX0_init_4 rfl (lv_at hl 0 rfl) ?_
  refine lv_bipush (pc := 5) (v := nI 60) S.1 S.2.1 dX0_init_5 (by decide) ?_
  refine va_newa (pc := 7) (D := D) (atype := .boolean) (ty := .boolean) (N' := 60) (a0 := (60, .inl (fun _ => 0))) S.1 S.2.1 (S.2.2.2.2 _ q78) rfl hK hP hD hS hA (fun cA => rfl) (nI_pos (by decide)) (nI_clamp (by decide)) (by decide) (by rw [hR]; decide) (by rw [hR]; decide) dX0_init_7 (fun q1 c1 H hK hP hD hS => ?_)
  refine W.cs (cells' := 1) (slots' := 60) rfl rfl ?_
  have hK : va_K D vwCl [(c1, .boolean)] s := hK
  have hP : va_P D vwCl [(a0, .inr (0, [.int 0, .null, .null, .null, .null, .null, .null, .null, .null, .null, .null, .null, .null, .null, .null, .null, .null, .null])), (q1, .inl (c1, 60, .inl (fun _ => 0)))] H := hP
  have hD : va_D A [(a0, .inr (0, [.int 0, .null, .null, .null, .null, .null, .null, .null, .null, .null, .null, .null, .null, .null, .null, .null, .null, .null])), (q1, .inl (c1, 60, .inl (fun _ => 0)))] := hD
  refine va_putF (pc := 9) (D := D) (ci := 0) (v := .ref q1) (ty := .array .boolean) (C := RX0) (T := TX0) (N := 18) S.1 S.2.1 S.2.2.2.2 in_X0 tyX0 tyX0_ok nmX0 S.2.2.2.1 hK hP hD hS 0 rfl rfl 1 (by decide) (S.2.2.2.2 _ q24) (fun _ h9 => h9) rfl hin rfl (by decide +kernel) rfl rfl (Nat.le_of_ble_eq_true rfl) dX0_init_9 (fun H locs hP hD hS => ?_)
  have hP : va_P D vwCl [(a0, .inr (0, [.int 0, .ref q1, .null, .null, .null, .null, .null, .null, .null, .null, .null, .null, .null, .null, .null, .null, .null, .null])), (q1, .inl (c1, 60, .inl (fun _ => 0)))] H := hP
  have hD : va_D A [(a0, .inr (0, [.int 0, .ref q1, .null, .null, .null, .null, .null, .null, .null, .null, .null, .null, .null, .null, .null, .null, .null, .null])), (q1, .inl (c1, 60, .inl (fun _ => 0)))] := hD
  refine lv_aload_n (pc := 12) S.1 S.2.1 dX0_init_12 rfl (lv_at hl 0 rfl) ?_
  refine lv_bipush (pc := 13) (v := nI 60) S.1 S.2.1 dX0_init_13 (by decide) ?_
  refine va_newa (pc := 15) (D := D) (atype := .int) (ty := .int) (N' := 60) (a0 := (60, .inl (fun _ => 0))) S.1 S.2.1 (S.2.2.2.2 _ q79) rfl hK hP hD hS hA (fun cA => rfl) (nI_pos (by decide)) (nI_clamp (by decide)) (by decide) (by rw [hR]; decide) (by rw [hR]; decide) dX0_init_15 (fun q2 c2 H hK hP hD hS => ?_)
  refine W.cs (cells' := 2) (slots' := 120) rfl rfl ?_
  have hK : va_K D vwCl [(c1, .boolean), (c2, .int)] s := hK
  have hP : va_P D vwCl [(a0, .inr (0, [.int 0, .ref q1, .null, .null, .null, .null, .null, .null, .null, .null, .null, .null, .null, .null, .null, .null, .null, .null])), (q1, .inl (c1, 60, .inl (fun _ => 0))), (q2, .inl (c2, 60, .inl (fun _ => 0)))] H := hP
  have hD : va_D A [(a0, .inr (0, [.int 0, .ref q1, .null, .null, .null, .null, .null, .null, .null, .null, .null, .null, .null, .null, .null, .null, .null, .null])), (q1, .inl (c1, 60, .inl (fun _ => 0))), (q2, .inl (c2, 60, .inl (fun _ => 0)))] := hD
  refine va_putF (pc := 17) (D := D) (ci := 0) (v := .ref q2) (ty := .array .int) (C := RX0) (T := TX0) (N := 18) S.1 S.2.1 S.2.2.2.2 in_X0 tyX0 tyX0_ok nmX0 S.2.2.2.1 hK hP hD hS 0 rfl rfl 2 (by decide) (S.2.2.2.2 _ q25) (fun _ h9 => h9) rfl hin rfl (by decide +kernel) rfl rfl (Nat.le_of_ble_eq_true rfl) dX0_init_17 (fun H locs hP hD hS => ?_)
  have hP : va_P D vwCl [(a0, .inr (0, [.int 0, .ref q1, .ref q2, .null, .null, .null, .null, .null, .null, .null, .null, .null, .null, .null, .null, .null, .null, .null])), (q1, .inl (c1, 60, .inl (fun _ => 0))), (q2, .inl (c2, 60, .inl (fun _ => 0)))] H := hP
  have hD : va_D A [(a0, .inr (0, [.int 0, .ref q1, .ref q2, .null, .null, .null, .null, .null, .null, .null, .null, .null, .null, .null, .null, .null, .null, .null])), (q1, .inl (c1, 60, .inl (fun _ => 0))), (q2, .inl (c2, 60, .inl (fun _ => 0)))] := hD
  refine lv_aload_n (pc := 20) S.1 S.2.1 dX0_init_20 rfl (lv_at hl 0 rfl) ?_
  refine lv_bipush (pc := 21) (v := nI 60) S.1 S.2.1 dX0_init_21 (by decide) ?_
  refine va_newa (pc := 23) (D := D) (atype := .int) (ty := .int) (N' := 60) (a0 := (60, .inl (fun _ => 0))) S.1 S.2.1 (S.2.2.2.2 _ q79) rfl hK hP hD hS hA (fun cA => rfl) (nI_pos (by decide)) (nI_clamp (by decide)) (by decide) (by rw [hR]; decide) (by rw [hR]; decide) dX0_init_23 (fun q3 c3 H hK hP hD hS => ?_)
  refine W.cs (cells' := 3) (slots' := 180) rfl rfl ?_
  have hK : va_K D vwCl [(c1, .boolean), (c2, .int), (c3, .int)] s := hK
  obtain rfl : c2 = c3 := Option.some.inj ((show s.vm.findClass ("[" ++ FieldType.int.toString) = some c2 from (hK.2 1 _ rfl).2).symm.trans (show s.vm.findClass ("[" ++ FieldType.int.toString) = some c3 from (hK.2 2 _ rfl).2))
  have hK := hK.sub (tys' := [(c1, .boolean), (c2, .int)]) [0, 1] rfl
  have hP : va_P D vwCl [(a0, .inr (0, [.int 0, .ref q1, .ref q2, .null, .null, .null, .null, .null, .null, .null, .null, .null, .null, .null, .null, .null, .null, .null])), (q1, .inl (c1, 60, .inl (fun _ => 0))), (q2, .inl (c2, 60, .inl (fun _ => 0))), (q3, .inl (c2, 60, .inl (fun _ => 0)))] H := hP
  have hD : va_D A [(a0, .inr (0, [.int 0, .ref q1, .ref q2, .null, .null, .null, .null, .null, .null, .null, .null, .null, .null, .null, .null, .null, .null, .null])), (q1, .inl (c1, 60, .inl (fun _ => 0))), (q2, .inl (c2, 60, .inl (fun _ => 0))), (q3, .inl (c2, 60, .inl (fun _ => 0)))] := hD
  refine va_putF (pc := 25) (D := D) (ci := 0) (v := .ref q3) (ty := .array .int) (C := RX0) (T := TX0) (N := 18) S.1 S.2.1 S.2.2.2.2 in_X0 tyX0 tyX0_ok nmX0 S.2.2.2.1 hK hP hD hS 0 rfl rfl 3 (by decide) (S.2.2.2.2 _ q26) (fun _ h9 => h9) rfl hin rfl (by decide +kernel) rfl rfl (Nat.le_of_ble_eq_true rfl) dX0_init_25 (fun H locs hP hD hS => ?_)
  have hP : va_P D vwCl [(a0, .inr (0, [.int 0, .ref q1, .ref q2, .ref q3, .null, .null, .null, .null, .null, .null, .null, .null, .null, .null, .null, .null, .null, .null])), (q1, .inl (c1, 60, .inl (fun _ => 0))), (q2, .inl (c2, 60, .inl (fun _ => 0))), (q3, .inl (c2, 60, .inl (fun _ => 0)))] H := hP
  have hD : va_D A [(a0, .inr (0, [.int 0, .ref q1, .ref q2, .ref q3, .null, .null, .null, .null, .null, .null, .null, .null, .null, .null, .null, .null, .null, .null])), (q1, .inl (c1, 60, .inl (fun _ => 0))), (q2, .inl (c2, 60, .inl (fun _ => 0))), (q3, .inl (c2, 60, .inl (fun _ => 0)))] := hD
  refine lv_aload_n (pc := 28) S.1 S.2.1 dX0_init_28 rfl (lv_at hl 0 rfl) ?_
  refine lv_bipush (pc := 29) (v := nI 60) S.1 S.2.1 dX0_init_29 (by decide) ?_
  refine va_newa (pc := 31) (D := D) (atype := .int) (ty := .int) (N' := 60) (a0 := (60, .inl (fun _ => 0))) S.1 S.2.1 (S.2.2.2.2 _ q79) rfl hK hP hD hS hA (fun cA => rfl) (nI_pos (by decide)) (nI_clamp (by decide)) (by decide) (by rw [hR]; decide) (by rw [hR]; decide) dX0_init_31 (fun q4 c4 H hK hP hD hS => ?_)
  refine W.cs (cells' := 4) (slots' := 240) rfl rfl ?_
  have hK : va_K D vwCl [(c1, .boolean), (c2, .int), (c4, .int)] s := hK
  obtain rfl : c2 = c4 := Option.some.inj ((show s.vm.findClass ("[" ++ FieldType.int.toString) = some c2 from (hK.2 1 _ rfl).2).symm.trans (show s.vm.findClass ("[" ++ FieldType.int.toString) = some c4 from (hK.2 2 _ rfl).2))
  have hK := hK.sub (tys' := [(c1, .boolean), (c2, .int)]) [0, 1] rfl
  have hP : va_P D vwCl [(a0, .inr (0, [.int 0, .ref q1, .ref q2, .ref q3, .null, .null, .null, .null, .null, .null, .null, .null, .null, .null, .null, .null, .null, .null])), (q1, .inl (c1, 60, .inl (fun _ => 0))), (q2, .inl (c2, 60, .inl (fun _ => 0))), (q3, .inl (c2, 60, .inl (fun _ => 0))), (q4, .inl (c2, 60, .inl (fun _ => 0)))] H := hP
  have hD : va_D A [(a0, .inr (0, [.int 0, .ref q1, .ref q2, .ref q3, .null, .null, .null, .null, .null, .null, .null, .null, .null, .null, .null, .null, .null, .null])), (q1, .inl (c1, 60, .inl (fun _ => 0))), (q2, .inl (c2, 60, .inl (fun _ => 0))), (q3, .inl (c2, 60, .inl (fun _ => 0))), (q4, .inl (c2, 60, .inl (fun _ => 0)))] := hD
  refine va_putF (pc := 33) (D := D) (ci := 0) (v := .ref q4) (ty := .array .int) (C := RX0) (T := TX0) (N := 18) S.1 S.2.1 S.2.2.2.2 in_X0 tyX0 tyX0_ok nmX0 S.2.2.2.1 hK hP hD hS 0 rfl rfl 4 (by decide) (S.2.2.2.2 _ q27) (fun _ h9 => h9) rfl hin rfl (by decide +kernel) rfl rfl (Nat.le_of_ble_eq_true rfl) dX0_init_33 (fun H locs hP hD hS => ?_)
  have hP : va_P D vwCl [(a0, .inr (0, [.int 0, .ref q1, .ref q2, .ref q3, .ref q4, .null, .null, .null, .null, .null, .null, .null, .null, .null, .null, .null, .null, .null])), (q1, .inl (c1, 60, .inl (fun _ => 0))), (q2, .inl (c2, 60, .inl (fun _ => 0))), (q3, .inl (c2, 60, .inl (fun _ => 0))), (q4, .inl (c2, 60, .inl (fun _ => 0)))] H := hP
  have hD : va_D A [(a0, .inr (0, [.int 0, .ref q1, .ref q2, .ref q3, .ref q4, .null, .null, .null, .null, .null, .null, .null, .null, .null, .null, .null, .null, .null])), (q1, .inl (c1, 60, .inl (fun _ => 0))), (q2, .inl (c2, 60, .inl (fun _ => 0))), (q3, .inl (c2, 60, .inl (fun _ => 0))), (q4, .inl (c2, 60, .inl (fun _ => 0)))] := hD
  refine lv_aload_n (pc := 36) S.1 S.2.1 dX0_init_36 rfl (lv_at hl 0 rfl) ?_
  refine lv_bipush (pc := 37) (v := nI 60) S.1 S.2.1 dX0_init_37 (by decide) ?_
  refine va_newa (pc := 39) (D := D) (atype := .int) (ty := .int) (N' := 60) (a0 := (60, .inl (fun _ => 0))) S.1 S.2.1 (S.2.2.2.2 _ q79) rfl hK hP hD hS hA (fun cA => rfl) (nI_pos (by decide)) (nI_clamp (by decide)) (by decide) (by rw [hR]; decide) (by rw [hR]; decide) dX0_init_39 (fun q5 c5 H hK hP hD hS => ?_)
  refine W.cs (cells' := 5) (slots' := 300) rfl rfl ?_
  have hK : va_K D vwCl [(c1, .boolean), (c2, .int), (c5, .int)] s := hK
  obtain rfl : c2 = c5 := Option.some.inj ((show s.vm.findClass ("[" ++ FieldType.int.toString) = some c2 from (hK.2 1 _ rfl).2).symm.trans (show s.vm.findClass ("[" ++ FieldType.int.toString) = some c5 from (hK.2 2 _ rfl).2))
  have hK := hK.sub (tys' := [(c1, .boolean), (c2, .int)]) [0, 1] rfl
  have hP : va_P D vwCl [(a0, .inr (0, [.int 0, .ref q1, .ref q2, .ref q3, .ref q4, .null, .null, .null, .null, .null, .null, .null, .null, .null, .null, .null, .null, .null])), (q1, .inl (c1, 60, .inl (fun _ => 0))), (q2, .inl (c2, 60, .inl (fun _ => 0))), (q3, .inl (c2, 60, .inl (fun _ => 0))), (q4, .inl (c2, 60, .inl (fun _ => 0))), (q5, .inl (c2, 60, .inl (fun _ => 0)))] H := hP
  have hD : va_D A [(a0, .inr (0, [.int 0, .ref q1, .ref q2, .ref q3, .ref q4, .null, .null, .null, .null, .null, .null, .null, .null, .null, .null, .null, .null, .null])), (q1, .inl (c1, 60, .inl (fun _ => 0))), (q2, .inl (c2, 60, .inl (fun _ => 0))), (q3, .inl (c2, 60, .inl (fun _ => 0))), (q4, .inl (c2, 60, .inl (fun _ => 0))), (q5, .inl (c2, 60, .inl (fun _ => 0)))] := hD
  refine va_putF (pc := 41) (D := D) (ci := 0) (v := .ref q5) (ty := .array .int) (C := RX0) (T := TX0) (N := 18) S.1 S.2.1 S.2.2.2.2 in_X0 tyX0 tyX0_ok nmX0 S.2.2.2.1 hK hP hD hS 0 rfl rfl 5 (by decide) (S.2.2.2.2 _ q28) (fun _ h9 => h9) rfl hin rfl (by decide +kernel) rfl rfl (Nat.le_of_ble_eq_true rfl) dX0_init_41 (fun H locs hP hD hS => ?_)
  have hP : va_P D vwCl [(a0, .inr (0, [.int 0, .ref q1, .ref q2, .ref q3, .ref q4, .ref q5, .null, .null, .null, .null, .null, .null, .null, .null, .null, .null, .null, .null])), (q1, .inl (c1, 60, .inl (fun _ => 0))), (q2, .inl (c2, 60, .inl (fun _ => 0))), (q3, .inl (c2, 60, .inl (fun _ => 0))), (q4, .inl (c2, 60, .inl (fun _ => 0))), (q5, .inl (c2, 60, .inl (fun _ => 0)))] H := hP
  have hD : va_D A [(a0, .inr (0, [.int 0, .ref q1, .ref q2, .ref q3, .ref q4, .ref q5, .null, .null, .null, .null, .null, .null, .null, .null, .null, .null, .null, .null])), (q1, .inl (c1, 60, .inl (fun _ => 0))), (q2, .inl (c2, 60, .inl (fun _ => 0))), (q3, .inl (c2, 60, .inl (fun _ => 0))), (q4, .inl (c2, 60, .inl (fun _ => 0))), (q5, .inl (c2, 60, .inl (fun _ => 0)))] := hD
  refine lv_aload_n (pc := 44) S.1 S.2.1 dX0_init_44 rfl (lv_at hl 0 rfl) ?_
  refine lv_bipush (pc := 45) (v := nI 60) S.1 S.2.1 dX0_init_45 (by decide) ?_
  refine va_newa (pc := 47) (D := D) (atype := .int) (ty := .int) (N' := 60) (a0 := (60, .inl (fun _ => 0))) S.1 S.2.1 (S.2.2.2.2 _ q79) rfl hK hP hD hS hA (fun cA => rfl) (nI_pos (by decide)) (nI_clamp (by decide)) (by decide) (by rw [hR]; decide) (by rw [hR]; decide) dX0_init_47 (fun q6 c6 H hK hP hD hS => ?_)
  refine W.cs (cells' := 6) (slots' := 360) rfl rfl ?_
  have hK : va_K D vwCl [(c1, .boolean), (c2, .int), (c6, .int)] s := hK
  obtain rfl : c2 = c6 := Option.some.inj ((show s.vm.findClass ("[" ++ FieldType.int.toString) = some c2 from (hK.2 1 _ rfl).2).symm.trans (show s.vm.findClass ("[" ++ FieldType.int.toString) = some c6 from (hK.2 2 _ rfl).2))
  have hK := hK.sub (tys' := [(c1, .boolean), (c2, .int)]) [0, 1] rfl
  have hP : va_P D vwCl [(a0, .inr (0, [.int 0, .ref q1, .ref q2, .ref q3, .ref q4, .ref q5, .null, .null, .null, .null, .null, .null, .null, .null, .null, .null, .null, .null])), (q1, .inl (c1, 60, .inl (fun _ => 0))), (q2, .inl (c2, 60, .inl (fun _ => 0))), (q3, .inl (c2, 60, .inl (fun _ => 0))), (q4, .inl (c2, 60, .inl (fun _ => 0))), (q5, .inl (c2, 60, .inl (fun _ => 0))), (q6, .inl (c2, 60, .inl (fun _ => 0)))] H := hP
  have hD : va_D A [(a0, .inr (0, [.int 0, .ref q1, .ref q2, .ref q3, .ref q4, .ref q5, .null, .null, .null, .null, .null, .null, .null, .null, .null, .null, .null, .null])), (q1, .inl (c1, 60, .inl (fun _ => 0))), (q2, .inl (c2, 60, .inl (fun _ => 0))), (q3, .inl (c2, 60, .inl (fun _ => 0))), (q4, .inl (c2, 60, .inl (fun _ => 0))), (q5, .inl (c2, 60, .inl (fun _ => 0))), (q6, .inl (c2, 60, .inl (fun _ => 0)))] := hD
  refine va_putF (pc := 49) (D := D) (ci := 0) (v := .ref q6) (ty := .array .int) (C := RX0) (T := TX0) (N := 18) S.1 S.2.1 S.2.2.2.2 in_X0 tyX0 tyX0_ok nmX0 S.2.2.2.1 hK hP hD hS 0 rfl rfl 6 (by decide) (S.2.2.2.2 _ q29) (fun _ h9 => h9) rfl hin rfl (by decide +kernel) rfl rfl (Nat.le_of_ble_eq_true rfl) dX0_init_49 (fun H locs hP hD hS => ?_)
  have hP : va_P D vwCl [(a0, .inr (0, [.int 0, .ref q1, .ref q2, .ref q3, .ref q4, .ref q5, .ref q6, .null, .null, .null, .null, .null, .null, .null, .null, .null, .null, .null])), (q1, .inl (c1, 60, .inl (fun _ => 0))), (q2, .inl (c2, 60, .inl (fun _ => 0))), (q3, .inl (c2, 60, .inl (fun _ => 0))), (q4, .inl (c2, 60, .inl (fun _ => 0))), (q5, .inl (c2, 60, .inl (fun _ => 0))), (q6, .inl (c2, 60, .inl (fun _ => 0)))] H := hP
  have hD : va_D A [(a0, .inr (0, [.int 0, .ref q1, .ref q2, .ref q3, .ref q4, .ref q5, .ref q6, .null, .null, .null, .null, .null, .null, .null, .null, .null, .null, .null])), (q1, .inl (c1, 60, .inl (fun _ => 0))), (q2, .inl (c2, 60, .inl (fun _ => 0))), (q3, .inl (c2, 60, .inl (fun _ => 0))), (q4, .inl (c2, 60, .inl (fun _ => 0))), (q5, .inl (c2, 60, .inl (fun _ => 0))), (q6, .inl (c2, 60, .inl (fun _ => 0)))] := hD
  refine lv_aload_n (pc := 52) S.1 S.2.1 dX0_init_52 rfl (lv_at hl 0 rfl) ?_
  refine lv_iconst (pc := 53) (v := nI 3) S.1 S.2.1 dX0_init_53 (by decide) ?_
  refine va_newa (pc := 54) (D := D) (atype := .int) (ty := .int) (N' := 3) (a0 := (3, .inl (fun _ => 0))) S.1 S.2.1 (S.2.2.2.2 _ q79) rfl hK hP hD hS hA (fun cA => rfl) (nI_pos (by decide)) (nI_clamp (by decide)) (by decide) (by rw [hR]; decide) (by rw [hR]; decide) dX0_init_54 (fun q7 c7 H hK hP hD hS => ?_)
  refine W.cs (cells' := 7) (slots' := 363) rfl rfl ?_
  have hK : va_K D vwCl [(c1, .boolean), (c2, .int), (c7, .int)] s := hK
  obtain rfl : c2 = c7 := Option.some.inj ((show s.vm.findClass ("[" ++ FieldType.int.toString) = some c2 from (hK.2 1 _ rfl).2).symm.trans (show s.vm.findClass ("[" ++ FieldType.int.toString) = some c7 from (hK.2 2 _ rfl).2))
  have hK := hK.sub (tys' := [(c1, .boolean), (c2, .int)]) [0, 1] rfl
  have hP : va_P D vwCl [(a0, .inr (0, [.int 0, .ref q1, .ref q2, .ref q3, .ref q4, .ref q5, .ref q6, .null, .null, .null, .null, .null, .null, .null, .null, .null, .null, .null])), (q1, .inl (c1, 60, .inl (fun _ => 0))), (q2, .inl (c2, 60, .inl (fun _ => 0))), (q3, .inl (c2, 60, .inl (fun _ => 0))), (q4, .inl (c2, 60, .inl (fun _ => 0))), (q5, .inl (c2, 60, .inl (fun _ => 0))), (q6, .inl (c2, 60, .inl (fun _ => 0))), (q7, .inl (c2, 3, .inl (fun _ => 0)))] H := hP
  have hD : va_D A [(a0, .inr (0, [.int 0, .ref q1, .ref q2, .ref q3, .ref q4, .ref q5, .ref q6, .null, .null, .null, .null, .null, .null, .null, .null, .null, .null, .null])), (q1, .inl (c1, 60, .inl (fun _ => 0))), (q2, .inl (c2, 60, .inl (fun _ => 0))), (q3, .inl (c2, 60, .inl (fun _ => 0))), (q4, .inl (c2, 60, .inl (fun _ => 0))), (q5, .inl (c2, 60, .inl (fun _ => 0))), (q6, .inl (c2, 60, .inl (fun _ => 0))), (q7, .inl (c2, 3, .inl (fun _ => 0)))] := hD
  refine va_putF (pc := 56) (D := D) (ci := 0) (v := .ref q7) (ty := .array .int) (C := RX0) (T := TX0) (N := 18) S.1 S.2.1 S.2.2.2.2 in_X0 tyX0 tyX0_ok nmX0 S.2.2.2.1 hK hP hD hS 0 rfl rfl 7 (by decide) (S.2.2.2.2 _ q30) (fun _ h9 => h9) rfl hin rfl (by decide +kernel) rfl rfl (Nat.le_of_ble_eq_true rfl) dX0_init_56 (fun H locs hP hD hS => ?_)
  have hP : va_P D vwCl [(a0, .inr (0, [.int 0, .ref q1, .ref q2, .ref q3, .ref q4, .ref q5, .ref q6, .ref q7, .null, .null, .null, .null, .null, .null, .null, .null, .null, .null])), (q1, .inl (c1, 60, .inl (fun _ => 0))), (q2, .inl (c2, 60, .inl (fun _ => 0))), (q3, .inl (c2, 60, .inl (fun _ => 0))), (q4, .inl (c2, 60, .inl (fun _ => 0))), (q5, .inl (c2, 60, .inl (fun _ => 0))), (q6, .inl (c2, 60, .inl (fun _ => 0))), (q7, .inl (c2, 3, .inl (fun _ => 0)))] H := hP
  have hD : va_D A [(a0, .inr (0, [.int 0, .ref q1, .ref q2, .ref q3, .ref q4, .ref q5, .ref q6, .ref q7, .null, .null, .null, .null, .null, .null, .null, .null, .null, .null])), (q1, .inl (c1, 60, .inl (fun _ => 0))), (q2, .inl (c2, 60, .inl (fun _ => 0))), (q3, .inl (c2, 60, .inl (fun _ => 0))), (q4, .inl (c2, 60, .inl (fun _ => 0))), (q5, .inl (c2, 60, .inl (fun _ => 0))), (q6, .inl (c2, 60, .inl (fun _ => 0))), (q7, .inl (c2, 3, .inl (fun _ => 0)))] := hD
  refine lv_aload_n (pc := 59) S.1 S.2.1 dX0_init_59 rfl (lv_at hl 0 rfl) ?_
  refine lv_sipush (pc := 60) (v := nI 183) S.1 S.2.1 dX0_init_60 (by decide) ?_
  refine va_newa (pc := 63) (D := D) (atype := .int) (ty := .int) (N' := 183) (a0 := (183, .inl (fun _ => 0))) S.1 S.2.1 (S.2.2.2.2 _ q79) rfl hK hP hD hS hA (fun cA => rfl) (nI_pos (by decide)) (nI_clamp (by decide)) (by decide) (by rw [hR]; decide) (by rw [hR]; decide) dX0_init_63 (fun q8 c8 H hK hP hD hS => ?_)
  refine W.cs (cells' := 8) (slots' := 546) rfl rfl ?_
  have hK : va_K D vwCl [(c1, .boolean), (c2, .int), (c8, .int)] s := hK
  obtain rfl : c2 = c8 := Option.some.inj ((show s.vm.findClass ("[" ++ FieldType.int.toString) = some c2 from (hK.2 1 _ rfl).2).symm.trans (show s.vm.findClass ("[" ++ FieldType.int.toString) = some c8 from (hK.2 2 _ rfl).2))
  have hK := hK.sub (tys' := [(c1, .boolean), (c2, .int)]) [0, 1] rfl
  have hP : va_P D vwCl [(a0, .inr (0, [.int 0, .ref q1, .ref q2, .ref q3, .ref q4, .ref q5, .ref q6, .ref q7, .null, .null, .null, .null, .null, .null, .null, .null, .null, .null])), (q1, .inl (c1, 60, .inl (fun _ => 0))), (q2, .inl (c2, 60, .inl (fun _ => 0))), (q3, .inl (c2, 60, .inl (fun _ => 0))), (q4, .inl (c2, 60, .inl (fun _ => 0))), (q5, .inl (c2, 60, .inl (fun _ => 0))), (q6, .inl (c2, 60, .inl (fun _ => 0))), (q7, .inl (c2, 3, .inl (fun _ => 0))), (q8, .inl (c2, 183, .inl (fun _ => 0)))] H := hP
  have hD : va_D A [(a0, .inr (0, [.int 0, .ref q1, .ref q2, .ref q3, .ref q4, .ref q5, .ref q6, .ref q7, .null, .null, .null, .null, .null, .null, .null, .null, .null, .null])), (q1, .inl (c1, 60, .inl (fun _ => 0))), (q2, .inl (c2, 60, .inl (fun _ => 0))), (q3, .inl (c2, 60, .inl (fun _ => 0))), (q4, .inl (c2, 60, .inl (fun _ => 0))), (q5, .inl (c2, 60, .inl (fun _ => 0))), (q6, .inl (c2, 60, .inl (fun _ => 0))), (q7, .inl (c2, 3, .inl (fun _ => 0))), (q8, .inl (c2, 183, .inl (fun _ => 0)))] := hD
  refine va_putF (pc := 65) (D := D) (ci := 0) (v := .ref q8) (ty := .array .int) (C := RX0) (T := TX0) (N := 18) S.1 S.2.1 S.2.2.2.2 in_X0 tyX0 tyX0_ok nmX0 S.2.2.2.1 hK hP hD hS 0 rfl rfl 8 (by decide) (S.2.2.2.2 _ q31) (fun _ h9 => h9) rfl hin rfl (by decide +kernel) rfl rfl (Nat.le_of_ble_eq_true rfl) dX0_init_65 (fun H locs hP hD hS => ?_)
  have hP : va_P D vwCl [(a0, .inr (0, [.int 0, .ref q1, .ref q2, .ref q3, .ref q4, .ref q5, .ref q6, .ref q7, .ref q8, .null, .null, .null, .null, .null, .null, .null, .null, .null])), (q1, .inl (c1, 60, .inl (fun _ => 0))), (q2, .inl (c2, 60, .inl (fun _ => 0))), (q3, .inl (c2, 60, .inl (fun _ => 0))), (q4, .inl (c2, 60, .inl (fun _ => 0))), (q5, .inl (c2, 60, .inl (fun _ => 0))), (q6, .inl (c2, 60, .inl (fun _ => 0))), (q7, .inl (c2, 3, .inl (fun _ => 0))), (q8, .inl (c2, 183, .inl (fun _ => 0)))] H := hP
  have hD : va_D A [(a0, .inr (0, [.int 0, .ref q1, .ref q2, .ref q3, .ref q4, .ref q5, .ref q6, .ref q7, .ref q8, .null, .null, .null, .null, .null, .null, .null, .null, .null])), (q1, .inl (c1, 60, .inl (fun _ => 0))), (q2, .inl (c2, 60, .inl (fun _ => 0))), (q3, .inl (c2, 60, .inl (fun _ => 0))), (q4, .inl (c2, 60, .inl (fun _ => 0))), (q5, .inl (c2, 60, .inl (fun _ => 0))), (q6, .inl (c2, 60, .inl (fun _ => 0))), (q7, .inl (c2, 3, .inl (fun _ => 0))), (q8, .inl (c2, 183, .inl (fun _ => 0)))] := hD
  refine lv_aload_n (pc := 68) S.1 S.2.1 dX0_init_68 rfl (lv_at hl 0 rfl) ?_
  refine lv_bipush (pc := 69) (v := nI 9) S.1 S.2.1 dX0_init_69 (by decide) ?_
  refine va_newa (pc := 71) (D := D) (atype := .int) (ty := .int) (N' := 9) (a0 := (9, .inl (fun _ => 0))) S.1 S.2.1 (S.2.2.2.2 _ q79) rfl hK hP hD hS hA (fun cA => rfl) (nI_pos (by decide)) (nI_clamp (by decide)) (by decide) (by rw [hR]; decide) (by rw [hR]; decide) dX0_init_71 (fun q9 c9 H hK hP hD hS => ?_)
  refine W.cs (cells' := 9) (slots' := 555) rfl rfl ?_
  have hK : va_K D vwCl [(c1, .boolean), (c2, .int), (c9, .int)] s := hK
  obtain rfl : c2 = c9 := Option.some.inj ((show s.vm.findClass ("[" ++ FieldType.int.toString) = some c2 from (hK.2 1 _ rfl).2).symm.trans (show s.vm.findClass ("[" ++ FieldType.int.toString) = some c9 from (hK.2 2 _ rfl).2))
  have hK := hK.sub (tys' := [(c1, .boolean), (c2, .int)]) [0, 1] rfl
  have hP : va_P D vwCl [(a0, .inr (0, [.int 0, .ref q1, .ref q2, .ref q3, .ref q4, .ref q5, .ref q6, .ref q7, .ref q8, .null, .null, .null, .null, .null, .null, .null, .null, .null])), (q1, .inl (c1, 60, .inl (fun _ => 0))), (q2, .inl (c2, 60, .inl (fun _ => 0))), (q3, .inl (c2, 60, .inl (fun _ => 0))), (q4, .inl (c2, 60, .inl (fun _ => 0))), (q5, .inl (c2, 60, .inl (fun _ => 0))), (q6, .inl (c2, 60, .inl (fun _ => 0))), (q7, .inl (c2, 3, .inl (fun _ => 0))), (q8, .inl (c2, 183, .inl (fun _ => 0))), (q9, .inl (c2, 9, .inl (fun _ => 0)))] H := hP
  have hD : va_D A [(a0, .inr (0, [.int 0, .ref q1, .ref q2, .ref q3, .ref q4, .ref q5, .ref q6, .ref q7, .ref q8, .null, .null, .null, .null, .null, .null, .null, .null, .null])), (q1, .inl (c1, 60, .inl (fun _ => 0))), (q2, .inl (c2, 60, .inl (fun _ => 0))), (q3, .inl (c2, 60, .inl (fun _ => 0))), (q4, .inl (c2, 60, .inl (fun _ => 0))), (q5, .inl (c2, 60, .inl (fun _ => 0))), (q6, .inl (c2, 60, .inl (fun _ => 0))), (q7, .inl (c2, 3, .inl (fun _ => 0))), (q8, .inl (c2, 183, .inl (fun _ => 0))), (q9, .inl (c2, 9, .inl (fun _ => 0)))] := hD
  refine va_putF (pc := 73) (D := D) (ci := 0) (v := .ref q9) (ty := .array .int) (C := RX0) (T := TX0) (N := 18) S.1 S.2.1 S.2.2.2.2 in_X0 tyX0 tyX0_ok nmX0 S.2.2.2.1 hK hP hD hS 0 rfl rfl 9 (by decide) (S.2.2.2.2 _ q32) (fun _ h9 => h9) rfl hin rfl (by decide +kernel) rfl rfl (Nat.le_of_ble_eq_true rfl) dX0_init_73 (fun H locs hP hD hS => ?_)
  have hP : va_P D vwCl [(a0, .inr (0, [.int 0, .ref q1, .ref q2, .ref q3, .ref q4, .ref q5, .ref q6, .ref q7, .ref q8, .ref q9, .null, .null, .null, .null, .null, .null, .null, .null])), (q1, .inl (c1, 60, .inl (fun _ => 0))), (q2, .inl (c2, 60, .inl (fun _ => 0))), (q3, .inl (c2, 60, .inl (fun _ => 0))), (q4, .inl (c2, 60, .inl (fun _ => 0))), (q5, .inl (c2, 60, .inl (fun _ => 0))), (q6, .inl (c2, 60, .inl (fun _ => 0))), (q7, .inl (c2, 3, .inl (fun _ => 0))), (q8, .inl (c2, 183, .inl (fun _ => 0))), (q9, .inl (c2, 9, .inl (fun _ => 0)))] H := hP
  have hD : va_D A [(a0, .inr (0, [.int 0, .ref q1, .ref q2, .ref q3, .ref q4, .ref q5, .ref q6, .ref q7, .ref q8, .ref q9, .null, .null, .null, .null, .null, .null, .null, .null])), (q1, .inl (c1, 60, .inl (fun _ => 0))), (q2, .inl (c2, 60, .inl (fun _ => 0))), (q3, .inl (c2, 60, .inl (fun _ => 0))), (q4, .inl (c2, 60, .inl (fun _ => 0))), (q5, .inl (c2, 60, .inl (fun _ => 0))), (q6, .inl (c2, 60, .inl (fun _ => 0))), (q7, .inl (c2, 3, .inl (fun _ => 0))), (q8, .inl (c2, 183, .inl (fun _ => 0))), (q9, .inl (c2, 9, .inl (fun _ => 0)))] := hD
  refine lv_aload_n (pc := 76) S.1 S.2.1 dX0_init_76 rfl (lv_at hl 0 rfl) ?_
  refine lv_iconst (pc := 77) (v := nI 3) S.1 S.2.1 dX0_init_77 (by decide) ?_
  refine va_newa (pc := 78) (D := D) (atype := .int) (ty := .int) (N' := 3) (a0 := (3, .inl (fun _ => 0))) S.1 S.2.1 (S.2.2.2.2 _ q79) rfl hK hP hD hS hA (fun cA => rfl) (nI_pos (by decide)) (nI_clamp (by decide)) (by decide) (by rw [hR]; decide) (by rw [hR]; decide) dX0_init_78 (fun q10 c10 H hK hP hD hS => ?_)
  refine W.cs (cells' := 10) (slots' := 558) rfl rfl ?_
  have hK : va_K D vwCl [(c1, .boolean), (c2, .int), (c10, .int)] s := hK
  obtain rfl : c2 = c10 := Option.some.inj ((show s.vm.findClass ("[" ++ FieldType.int.toString) = some c2 from (hK.2 1 _ rfl).2).symm.trans (show s.vm.findClass ("[" ++ FieldType.int.toString) = some c10 from (hK.2 2 _ rfl).2))
  have hK := hK.sub (tys' := [(c1, .boolean), (c2, .int)]) [0, 1] rfl
  have hP : va_P D vwCl [(a0, .inr (0, [.int 0, .ref q1, .ref q2, .ref q3, .ref q4, .ref q5, .ref q6, .ref q7, .ref q8, .ref q9, .null, .null, .null, .null, .null, .null, .null, .null])), (q1, .inl (c1, 60, .inl (fun _ => 0))), (q2, .inl (c2, 60, .inl (fun _ => 0))), (q3, .inl (c2, 60, .inl (fun _ => 0))), (q4, .inl (c2, 60, .inl (fun _ => 0))), (q5, .inl (c2, 60, .inl (fun _ => 0))), (q6, .inl (c2, 60, .inl (fun _ => 0))), (q7, .inl (c2, 3, .inl (fun _ => 0))), (q8, .inl (c2, 183, .inl (fun _ => 0))), (q9, .inl (c2, 9, .inl (fun _ => 0))), (q10, .inl (c2, 3, .inl (fun _ => 0)))] H := hP
  have hD : va_D A [(a0, .inr (0, [.int 0, .ref q1, .ref q2, .ref q3, .ref q4, .ref q5, .ref q6, .ref q7, .ref q8, .ref q9, .null, .null, .null, .null, .null, .null, .null, .null])), (q1, .inl (c1, 60, .inl (fun _ => 0))), (q2, .inl (c2, 60, .inl (fun _ => 0))), (q3, .inl (c2, 60, .inl (fun _ => 0))), (q4, .inl (c2, 60, .inl (fun _ => 0))), (q5, .inl (c2, 60, .inl (fun _ => 0))), (q6, .inl (c2, 60, .inl (fun _ => 0))), (q7, .inl (c2, 3, .inl (fun _ => 0))), (q8, .inl (c2, 183, .inl (fun _ => 0))), (q9, .inl (c2, 9, .inl (fun _ => 0))), (q10, .inl (c2, 3, .inl (fun _ => 0)))] := hD
  refine va_putF (pc := 80) (D := D) (ci := 0) (v := .ref q10) (ty := .array .int) (C := RX0) (T := TX0) (N := 18) S.1 S.2.1 S.2.2.2.2 in_X0 tyX0 tyX0_ok nmX0 S.2.2.2.1 hK hP hD hS 0 rfl rfl 10 (by decide) (S.2.2.2.2 _ q33) (fun _ h9 => h9) rfl hin rfl (by decide +kernel) rfl rfl (Nat.le_of_ble_eq_true rfl) dX0_init_80 (fun H locs hP hD hS => ?_)
  have hP : va_P D vwCl [(a0, .inr (0, [.int 0, .ref q1, .ref q2, .ref q3, .ref q4, .ref q5, .ref q6, .ref q7, .ref q8, .ref q9, .ref q10, .null, .null, .null, .null, .null, .null, .null])), (q1, .inl (c1, 60, .inl (fun _ => 0))), (q2, .inl (c2, 60, .inl (fun _ => 0))), (q3, .inl (c2, 60, .inl (fun _ => 0))), (q4, .inl (c2, 60, .inl (fun _ => 0))), (q5, .inl (c2, 60, .inl (fun _ => 0))), (q6, .inl (c2, 60, .inl (fun _ => 0))), (q7, .inl (c2, 3, .inl (fun _ => 0))), (q8, .inl (c2, 183, .inl (fun _ => 0))), (q9, .inl (c2, 9, .inl (fun _ => 0))), (q10, .inl (c2, 3, .inl (fun _ => 0)))] H := hP
  have hD : va_D A [(a0, .inr (0, [.int 0, .ref q1, .ref q2, .ref q3, .ref q4, .ref q5, .ref q6, .ref q7, .ref q8, .ref q9, .ref q10, .null, .null, .null, .null, .null, .null, .null])), (q1, .inl (c1, 60, .inl (fun _ => 0))), (q2, .inl (c2, 60, .inl (fun _ => 0))), (q3, .inl (c2, 60, .inl (fun _ => 0))), (q4, .inl (c2, 60, .inl (fun _ => 0))), (q5, .inl (c2, 60, .inl (fun _ => 0))), (q6, .inl (c2, 60, .inl (fun _ => 0))), (q7, .inl (c2, 3, .inl (fun _ => 0))), (q8, .inl (c2, 183, .inl (fun _ => 0))), (q9, .inl (c2, 9, .inl (fun _ => 0))), (q10, .inl (c2, 3, .inl (fun _ => 0)))] := hD
  refine lv_aload_n (pc := 83) S.1 S.2.1 dX0_init_83 rfl (lv_at hl 0 rfl) ?_
  refine lv_iconst (pc := 84) (v := nI 3) S.1 S.2.1 dX0_init_84 (by decide) ?_
  refine va_newa (pc := 85) (D := D) (atype := .int) (ty := .int) (N' := 3) (a0 := (3, .inl (fun _ => 0))) S.1 S.2.1 (S.2.2.2.2 _ q79) rfl hK hP hD hS hA (fun cA => rfl) (nI_pos (by decide)) (nI_clamp (by decide)) (by decide) (by rw [hR]; decide) (by rw [hR]; decide) dX0_init_85 (fun q11 c11 H hK hP hD hS => ?_)
  refine W.cs (cells' := 11) (slots' := 561) rfl rfl ?_
  have hK : va_K D vwCl [(c1, .boolean), (c2, .int), (c11, .int)] s := hK
  obtain rfl : c2 = c11 := Option.some.inj ((show s.vm.findClass ("[" ++ FieldType.int.toString) = some c2 from (hK.2 1 _ rfl).2).symm.trans (show s.vm.findClass ("[" ++ FieldType.int.toString) = some c11 from (hK.2 2 _ rfl).2))
  have hK := hK.sub (tys' := [(c1, .boolean), (c2, .int)]) [0, 1] rfl
  have hP : va_P D vwCl [(a0, .inr (0, [.int 0, .ref q1, .ref q2, .ref q3, .ref q4, .ref q5, .ref q6, .ref q7, .ref q8, .ref q9, .ref q10, .null, .null, .null, .null, .null, .null, .null])), (q1, .inl (c1, 60, .inl (fun _ => 0))), (q2, .inl (c2, 60, .inl (fun _ => 0))), (q3, .inl (c2, 60, .inl (fun _ => 0))), (q4, .inl (c2, 60, .inl (fun _ => 0))), (q5, .inl (c2, 60, .inl (fun _ => 0))), (q6, .inl (c2, 60, .inl (fun _ => 0))), (q7, .inl (c2, 3, .inl (fun _ => 0))), (q8, .inl (c2, 183, .inl (fun _ => 0))), (q9, .inl (c2, 9, .inl (fun _ => 0))), (q10, .inl (c2, 3, .inl (fun _ => 0))), (q11, .inl (c2, 3, .inl (fun _ => 0)))] H := hP
  have hD : va_D A [(a0, .inr (0, [.int 0, .ref q1, .ref q2, .ref q3, .ref q4, .ref q5, .ref q6, .ref q7, .ref q8, .ref q9, .ref q10, .null, .null, .null, .null, .null, .null, .null])), (q1, .inl (c1, 60, .inl (fun _ => 0))), (q2, .inl (c2, 60, .inl (fun _ => 0))), (q3, .inl (c2, 60, .inl (fun _ => 0))), (q4, .inl (c2, 60, .inl (fun _ => 0))), (q5, .inl (c2, 60, .inl (fun _ => 0))), (q6, .inl (c2, 60, .inl (fun _ => 0))), (q7, .inl (c2, 3, .inl (fun _ => 0))), (q8, .inl (c2, 183, .inl (fun _ => 0))), (q9, .inl (c2, 9, .inl (fun _ => 0))), (q10, .inl (c2, 3, .inl (fun _ => 0))), (q11, .inl (c2, 3, .inl (fun _ => 0)))] := hD
  refine va_putF (pc := 87) (D := D) (ci := 0) (v := .ref q11) (ty := .array .int) (C := RX0) (T := TX0) (N := 18) S.1 S.2.1 S.2.2.2.2 in_X0 tyX0 tyX0_ok nmX0 S.2.2.2.1 hK hP hD hS 0 rfl rfl 11 (by decide) (S.2.2.2.2 _ q34) (fun _ h9 => h9) rfl hin rfl (by decide +kernel) rfl rfl (Nat.le_of_ble_eq_true rfl) dX0_init_87 (fun H locs hP hD hS => ?_)
  have hP : va_P D vwCl [(a0, .inr (0, [.int 0, .ref q1, .ref q2, .ref q3, .ref q4, .ref q5, .ref q6, .ref q7, .ref q8, .ref q9, .ref q10, .ref q11, .null, .null, .null, .null, .null, .null])), (q1, .inl (c1, 60, .inl (fun _ => 0))), (q2, .inl (c2, 60, .inl (fun _ => 0))), (q3, .inl (c2, 60, .inl (fun _ => 0))), (q4, .inl (c2, 60, .inl (fun _ => 0))), (q5, .inl (c2, 60, .inl (fun _ => 0))), (q6, .inl (c2, 60, .inl (fun _ => 0))), (q7, .inl (c2, 3, .inl (fun _ => 0))), (q8, .inl (c2, 183, .inl (fun _ => 0))), (q9, .inl (c2, 9, .inl (fun _ => 0))), (q10, .inl (c2, 3, .inl (fun _ => 0))), (q11, .inl (c2, 3, .inl (fun _ => 0)))] H := hP
  have hD : va_D A [(a0, .inr (0, [.int 0, .ref q1, .ref q2, .ref q3, .ref q4, .ref q5, .ref q6, .ref q7, .ref q8, .ref q9, .ref q10, .ref q11, .null, .null, .null, .null, .null, .null])), (q1, .inl (c1, 60, .inl (fun _ => 0))), (q2, .inl (c2, 60, .inl (fun _ => 0))), (q3, .inl (c2, 60, .inl (fun _ => 0))), (q4, .inl (c2, 60, .inl (fun _ => 0))), (q5, .inl (c2, 60, .inl (fun _ => 0))), (q6, .inl (c2, 60, .inl (fun _ => 0))), (q7, .inl (c2, 3, .inl (fun _ => 0))), (q8, .inl (c2, 183, .inl (fun _ => 0))), (q9, .inl (c2, 9, .inl (fun _ => 0))), (q10, .inl (c2, 3, .inl (fun _ => 0))), (q11, .inl (c2, 3, .inl (fun _ => 0)))] := hD
  refine lv_aload_n (pc := 90) S.1 S.2.1 dX0_init_90 rfl (lv_at hl 0 rfl) ?_
  refine lv_sipush (pc := 91) (v := nI 180) S.1 S.2.1 dX0_init_91 (by decide) ?_
  refine va_newa (pc := 94) (D := D) (atype := .int) (ty := .int) (N' := 180) (a0 := (180, .inl (fun _ => 0))) S.1 S.2.1 (S.2.2.2.2 _ q79) rfl hK hP hD hS hA (fun cA => rfl) (nI_pos (by decide)) (nI_clamp (by decide)) (by decide) (by rw [hR]; decide) (by rw [hR]; decide) dX0_init_94 (fun q12 c12 H hK hP hD hS => ?_)
  refine W.cs (cells' := 12) (slots' := 741) rfl rfl ?_
  have hK : va_K D vwCl [(c1, .boolean), (c2, .int), (c12, .int)] s := hK
  obtain rfl : c2 = c12 := Option.some.inj ((show s.vm.findClass ("[" ++ FieldType.int.toString) = some c2 from (hK.2 1 _ rfl).2).symm.trans (show s.vm.findClass ("[" ++ FieldType.int.toString) = some c12 from (hK.2 2 _ rfl).2))
  have hK := hK.sub (tys' := [(c1, .boolean), (c2, .int)]) [0, 1] rfl
  have hP : va_P D vwCl [(a0, .inr (0, [.int 0, .ref q1, .ref q2, .ref q3, .ref q4, .ref q5, .ref q6, .ref q7, .ref q8, .ref q9, .ref q10, .ref q11, .null, .null, .null, .null, .null, .null])), (q1, .inl (c1, 60, .inl (fun _ => 0))), (q2, .inl (c2, 60, .inl (fun _ => 0))), (q3, .inl (c2, 60, .inl (fun _ => 0))), (q4, .inl (c2, 60, .inl (fun _ => 0))), (q5, .inl (c2, 60, .inl (fun _ => 0))), (q6, .inl (c2, 60, .inl (fun _ => 0))), (q7, .inl (c2, 3, .inl (fun _ => 0))), (q8, .inl (c2, 183, .inl (fun _ => 0))), (q9, .inl (c2, 9, .inl (fun _ => 0))), (q10, .inl (c2, 3, .inl (fun _ => 0))), (q11, .inl (c2, 3, .inl (fun _ => 0))), (q12, .inl (c2, 180, .inl (fun _ => 0)))] H := hP
  have hD : va_D A [(a0, .inr (0, [.int 0, .ref q1, .ref q2, .ref q3, .ref q4, .ref q5, .ref q6, .ref q7, .ref q8, .ref q9, .ref q10, .ref q11, .null, .null, .null, .null, .null, .null])), (q1, .inl (c1, 60, .inl (fun _ => 0))), (q2, .inl (c2, 60, .inl (fun _ => 0))), (q3, .inl (c2, 60, .inl (fun _ => 0))), (q4, .inl (c2, 60, .inl (fun _ => 0))), (q5, .inl (c2, 60, .inl (fun _ => 0))), (q6, .inl (c2, 60, .inl (fun _ => 0))), (q7, .inl (c2, 3, .inl (fun _ => 0))), (q8, .inl (c2, 183, .inl (fun _ => 0))), (q9, .inl (c2, 9, .inl (fun _ => 0))), (q10, .inl (c2, 3, .inl (fun _ => 0))), (q11, .inl (c2, 3, .inl (fun _ => 0))), (q12, .inl (c2, 180, .inl (fun _ => 0)))] := hD
  refine va_putF (pc := 96) (D := D) (ci := 0) (v := .ref q12) (ty := .array .int) (C := RX0) (T := TX0) (N := 18) S.1 S.2.1 S.2.2.2.2 in_X0 tyX0 tyX0_ok nmX0 S.2.2.2.1 hK hP hD hS 0 rfl rfl 12 (by decide) (S.2.2.2.2 _ q35) (fun _ h9 => h9) rfl hin rfl (by decide +kernel) rfl rfl (Nat.le_of_ble_eq_true rfl) dX0_init_96 (fun H locs hP hD hS => ?_)
  have hP : va_P D vwCl [(a0, .inr (0, [.int 0, .ref q1, .ref q2, .ref q3, .ref q4, .ref q5, .ref q6, .ref q7, .ref q8, .ref q9, .ref q10, .ref q11, .ref q12, .null, .null, .null, .null, .null])), (q1, .inl (c1, 60, .inl (fun _ => 0))), (q2, .inl (c2, 60, .inl (fun _ => 0))), (q3, .inl (c2, 60, .inl (fun _ => 0))), (q4, .inl (c2, 60, .inl (fun _ => 0))), (q5, .inl (c2, 60, .inl (fun _ => 0))), (q6, .inl (c2, 60, .inl (fun _ => 0))), (q7, .inl (c2, 3, .inl (fun _ => 0))), (q8, .inl (c2, 183, .inl (fun _ => 0))), (q9, .inl (c2, 9, .inl (fun _ => 0))), (q10, .inl (c2, 3, .inl (fun _ => 0))), (q11, .inl (c2, 3, .inl (fun _ => 0))), (q12, .inl (c2, 180, .inl (fun _ => 0)))] H := hP
  have hD : va_D A [(a0, .inr (0, [.int 0, .ref q1, .ref q2, .ref q3, .ref q4, .ref q5, .ref q6, .ref q7, .ref q8, .ref q9, .ref q10, .ref q11, .ref q12, .null, .null, .null, .null, .null])), (q1, .inl (c1, 60, .inl (fun _ => 0))), (q2, .inl (c2, 60, .inl (fun _ => 0))), (q3, .inl (c2, 60, .inl (fun _ => 0))), (q4, .inl (c2, 60, .inl (fun _ => 0))), (q5, .inl (c2, 60, .inl (fun _ => 0))), (q6, .inl (c2, 60, .inl (fun _ => 0))), (q7, .inl (c2, 3, .inl (fun _ => 0))), (q8, .inl (c2, 183, .inl (fun _ => 0))), (q9, .inl (c2, 9, .inl (fun _ => 0))), (q10, .inl (c2, 3, .inl (fun _ => 0))), (q11, .inl (c2, 3, .inl (fun _ => 0))), (q12, .inl (c2, 180, .inl (fun _ => 0)))] := hD
  refine lv_aload_n (pc := 99) S.1 S.2.1 dX0_init_99 rfl (lv_at hl 0 rfl) ?_
  refine lv_sipush (pc := 100) (v := nI 180) S.1 S.2.1 dX0_init_100 (by decide) ?_
  refine va_newa (pc := 103) (D := D) (atype := .int) (ty := .int) (N' := 180) (a0 := (180, .inl (fun _ => 0))) S.1 S.2.1 (S.2.2.2.2 _ q79) rfl hK hP hD hS hA (fun cA => rfl) (nI_pos (by decide)) (nI_clamp (by decide)) (by decide) (by rw [hR]; decide) (by rw [hR]; decide) dX0_init_103 (fun q13 c13 H hK hP hD hS => ?_)
  refine W.cs (cells' := 13) (slots' := 921) rfl rfl ?_
  have hK : va_K D vwCl [(c1, .boolean), (c2, .int), (c13, .int)] s := hK
  obtain rfl : c2 = c13 := Option.some.inj ((show s.vm.findClass ("[" ++ FieldType.int.toString) = some c2 from (hK.2 1 _ rfl).2).symm.trans (show s.vm.findClass ("[" ++ FieldType.int.toString) = some c13 from (hK.2 2 _ rfl).2))
  have hK := hK.sub (tys' := [(c1, .boolean), (c2, .int)]) [0, 1] rfl
  have hP : va_P D vwCl [(a0, .inr (0, [.int 0, .ref q1, .ref q2, .ref q3, .ref q4, .ref q5, .ref q6, .ref q7, .ref q8, .ref q9, .ref q10, .ref q11, .ref q12, .null, .null, .null, .null, .null])), (q1, .inl (c1, 60, .inl (fun _ => 0))), (q2, .inl (c2, 60, .inl (fun _ => 0))), (q3, .inl (c2, 60, .inl (fun _ => 0))), (q4, .inl (c2, 60, .inl (fun _ => 0))), (q5, .inl (c2, 60, .inl (fun _ => 0))), (q6, .inl (c2, 60, .inl (fun _ => 0))), (q7, .inl (c2, 3, .inl (fun _ => 0))), (q8, .inl (c2, 183, .inl (fun _ => 0))), (q9, .inl (c2, 9, .inl (fun _ => 0))), (q10, .inl (c2, 3, .inl (fun _ => 0))), (q11, .inl (c2, 3, .inl (fun _ => 0))), (q12, .inl (c2, 180, .inl (fun _ => 0))), (q13, .inl (c2, 180, .inl (fun _ => 0)))] H := hP
  have hD : va_D A [(a0, .inr (0, [.int 0, .ref q1, .ref q2, .ref q3, .ref q4, .ref q5, .ref q6, .ref q7, .ref q8, .ref q9, .ref q10, .ref q11, .ref q12, .null, .null, .null, .null, .null])), (q1, .inl (c1, 60, .inl (fun _ => 0))), (q2, .inl (c2, 60, .inl (fun _ => 0))), (q3, .inl (c2, 60, .inl (fun _ => 0))), (q4, .inl (c2, 60, .inl (fun _ => 0))), (q5, .inl (c2, 60, .inl (fun _ => 0))), (q6, .inl (c2, 60, .inl (fun _ => 0))), (q7, .inl (c2, 3, .inl (fun _ => 0))), (q8, .inl (c2, 183, .inl (fun _ => 0))), (q9, .inl (c2, 9, .inl (fun _ => 0))), (q10, .inl (c2, 3, .inl (fun _ => 0))), (q11, .inl (c2, 3, .inl (fun _ => 0))), (q12, .inl (c2, 180, .inl (fun _ => 0))), (q13, .inl (c2, 180, .inl (fun _ => 0)))] := hD
  refine va_putF (pc := 105) (D := D) (ci := 0) (v := .ref q13) (ty := .array .int) (C := RX0) (T := TX0) (N := 18) S.1 S.2.1 S.2.2.2.2 in_X0 tyX0 tyX0_ok nmX0 S.2.2.2.1 hK hP hD hS 0 rfl rfl 13 (by decide) (S.2.2.2.2 _ q36) (fun _ h9 => h9) rfl hin rfl (by decide +kernel) rfl rfl (Nat.le_of_ble_eq_true rfl) dX0_init_105 (fun H locs hP hD hS => ?_)
  have hP : va_P D vwCl [(a0, .inr (0, [.int 0, .ref q1, .ref q2, .ref q3, .ref q4, .ref q5, .ref q6, .ref q7, .ref q8, .ref q9, .ref q10, .ref q11, .ref q12, .ref q13, .null, .null, .null, .null])), (q1, .inl (c1, 60, .inl (fun _ => 0))), (q2, .inl (c2, 60, .inl (fun _ => 0))), (q3, .inl (c2, 60, .inl (fun _ => 0))), (q4, .inl (c2, 60, .inl (fun _ => 0))), (q5, .inl (c2, 60, .inl (fun _ => 0))), (q6, .inl (c2, 60, .inl (fun _ => 0))), (q7, .inl (c2, 3, .inl (fun _ => 0))), (q8, .inl (c2, 183, .inl (fun _ => 0))), (q9, .inl (c2, 9, .inl (fun _ => 0))), (q10, .inl (c2, 3, .inl (fun _ => 0))), (q11, .inl (c2, 3, .inl (fun _ => 0))), (q12, .inl (c2, 180, .inl (fun _ => 0))), (q13, .inl (c2, 180, .inl (fun _ => 0)))] H := hP
  have hD : va_D A [(a0, .inr (0, [.int 0, .ref q1, .ref q2, .ref q3, .ref q4, .ref q5, .ref q6, .ref q7, .ref q8, .ref q9, .ref q10, .ref q11, .ref q12, .ref q13, .null, .null, .null, .null])), (q1, .inl (c1, 60, .inl (fun _ => 0))), (q2, .inl (c2, 60, .inl (fun _ => 0))), (q3, .inl (c2, 60, .inl (fun _ => 0))), (q4, .inl (c2, 60, .inl (fun _ => 0))), (q5, .inl (c2, 60, .inl (fun _ => 0))), (q6, .inl (c2, 60, .inl (fun _ => 0))), (q7, .inl (c2, 3, .inl (fun _ => 0))), (q8, .inl (c2, 183, .inl (fun _ => 0))), (q9, .inl (c2, 9, .inl (fun _ => 0))), (q10, .inl (c2, 3, .inl (fun _ => 0))), (q11, .inl (c2, 3, .inl (fun _ => 0))), (q12, .inl (c2, 180, .inl (fun _ => 0))), (q13, .inl (c2, 180, .inl (fun _ => 0)))] := hD
  refine lv_aload_n (pc := 108) S.1 S.2.1 dX0_init_108 rfl (lv_at hl 0 rfl) ?_
  refine lv_sipush (pc := 109) (v := nI 180) S.1 S.2.1 dX0_init_109 (by decide) ?_
  refine va_newa (pc := 112) (D := D) (atype := .boolean) (ty := .boolean) (N' := 180) (a0 := (180, .inl (fun _ => 0))) S.1 S.2.1 (S.2.2.2.2 _ q78) rfl hK hP hD hS hA (fun cA => rfl) (nI_pos (by decide)) (nI_clamp (by decide)) (by decide) (by rw [hR]; decide) (by rw [hR]; decide) dX0_init_112 (fun q14 c14 H hK hP hD hS => ?_)
  refine W.cs (cells' := 14) (slots' := 1101) rfl rfl ?_
  have hK : va_K D vwCl [(c1, .boolean), (c2, .int), (c14, .boolean)] s := hK
  obtain rfl : c1 = c14 := Option.some.inj ((show s.vm.findClass ("[" ++ FieldType.boolean.toString) = some c1 from (hK.2 0 _ rfl).2).symm.trans (show s.vm.findClass ("[" ++ FieldType.boolean.toString) = some c14 from (hK.2 2 _ rfl).2))
  have hK := hK.sub (tys' := [(c1, .boolean), (c2, .int)]) [0, 1] rfl
  have hP : va_P D vwCl [(a0, .inr (0, [.int 0, .ref q1, .ref q2, .ref q3, .ref q4, .ref q5, .ref q6, .ref q7, .ref q8, .ref q9, .ref q10, .ref q11, .ref q12, .ref q13, .null, .null, .null, .null])), (q1, .inl (c1, 60, .inl (fun _ => 0))), (q2, .inl (c2, 60, .inl (fun _ => 0))), (q3, .inl (c2, 60, .inl (fun _ => 0))), (q4, .inl (c2, 60, .inl (fun _ => 0))), (q5, .inl (c2, 60, .inl (fun _ => 0))), (q6, .inl (c2, 60, .inl (fun _ => 0))), (q7, .inl (c2, 3, .inl (fun _ => 0))), (q8, .inl (c2, 183, .inl (fun _ => 0))), (q9, .inl (c2, 9, .inl (fun _ => 0))), (q10, .inl (c2, 3, .inl (fun _ => 0))), (q11, .inl (c2, 3, .inl (fun _ => 0))), (q12, .inl (c2, 180, .inl (fun _ => 0))), (q13, .inl (c2, 180, .inl (fun _ => 0))), (q14, .inl (c1, 180, .inl (fun _ => 0)))] H := hP
  have hD : va_D A [(a0, .inr (0, [.int 0, .ref q1, .ref q2, .ref q3, .ref q4, .ref q5, .ref q6, .ref q7, .ref q8, .ref q9, .ref q10, .ref q11, .ref q12, .ref q13, .null, .null, .null, .null])), (q1, .inl (c1, 60, .inl (fun _ => 0))), (q2, .inl (c2, 60, .inl (fun _ => 0))), (q3, .inl (c2, 60, .inl (fun _ => 0))), (q4, .inl (c2, 60, .inl (fun _ => 0))), (q5, .inl (c2, 60, .inl (fun _ => 0))), (q6, .inl (c2, 60, .inl (fun _ => 0))), (q7, .inl (c2, 3, .inl (fun _ => 0))), (q8, .inl (c2, 183, .inl (fun _ => 0))), (q9, .inl (c2, 9, .inl (fun _ => 0))), (q10, .inl (c2, 3, .inl (fun _ => 0))), (q11, .inl (c2, 3, .inl (fun _ => 0))), (q12, .inl (c2, 180, .inl (fun _ => 0))), (q13, .inl (c2, 180, .inl (fun _ => 0))), (q14, .inl (c1, 180, .inl (fun _ => 0)))] := hD
  refine va_putF (pc := 114) (D := D) (ci := 0) (v := .ref q14) (ty := .array .boolean) (C := RX0) (T := TX0) (N := 18) S.1 S.2.1 S.2.2.2.2 in_X0 tyX0 tyX0_ok nmX0 S.2.2.2.1 hK hP hD hS 0 rfl rfl 14 (by decide) (S.2.2.2.2 _ q37) (fun _ h9 => h9) rfl hin rfl (by decide +kernel) rfl rfl (Nat.le_of_ble_eq_true rfl) dX0_init_114 (fun H locs hP hD hS => ?_)
  have hP : va_P D vwCl [(a0, .inr (0, [.int 0, .ref q1, .ref q2, .ref q3, .ref q4, .ref q5, .ref q6, .ref q7, .ref q8, .ref q9, .ref q10, .ref q11, .ref q12, .ref q13, .ref q14, .null, .null, .null])), (q1, .inl (c1, 60, .inl (fun _ => 0))), (q2, .inl (c2, 60, .inl (fun _ => 0))), (q3, .inl (c2, 60, .inl (fun _ => 0))), (q4, .inl (c2, 60, .inl (fun _ => 0))), (q5, .inl (c2, 60, .inl (fun _ => 0))), (q6, .inl (c2, 60, .inl (fun _ => 0))), (q7, .inl (c2, 3, .inl (fun _ => 0))), (q8, .inl (c2, 183, .inl (fun _ => 0))), (q9, .inl (c2, 9, .inl (fun _ => 0))), (q10, .inl (c2, 3, .inl (fun _ => 0))), (q11, .inl (c2, 3, .inl (fun _ => 0))), (q12, .inl (c2, 180, .inl (fun _ => 0))), (q13, .inl (c2, 180, .inl (fun _ => 0))), (q14, .inl (c1, 180, .inl (fun _ => 0)))] H := hP
  have hD : va_D A [(a0, .inr (0, [.int 0, .ref q1, .ref q2, .ref q3, .ref q4, .ref q5, .ref q6, .ref q7, .ref q8, .ref q9, .ref q10, .ref q11, .ref q12, .ref q13, .ref q14, .null, .null, .null])), (q1, .inl (c1, 60, .inl (fun _ => 0))), (q2, .inl (c2, 60, .inl (fun _ => 0))), (q3, .inl (c2, 60, .inl (fun _ => 0))), (q4, .inl (c2, 60, .inl (fun _ => 0))), (q5, .inl (c2, 60, .inl (fun _ => 0))), (q6, .inl (c2, 60, .inl (fun _ => 0))), (q7, .inl (c2, 3, .inl (fun _ => 0))), (q8, .inl (c2, 183, .inl (fun _ => 0))), (q9, .inl (c2, 9, .inl (fun _ => 0))), (q10, .inl (c2, 3, .inl (fun _ => 0))), (q11, .inl (c2, 3, .inl (fun _ => 0))), (q12, .inl (c2, 180, .inl (fun _ => 0))), (q13, .inl (c2, 180, .inl (fun _ => 0))), (q14, .inl (c1, 180, .inl (fun _ => 0)))] := hD
  refine lv_aload_n (pc := 117) S.1 S.2.1 dX0_init_117 rfl (lv_at hl 0 rfl) ?_
  refine lv_iconst (pc := 118) (v := nI 3) S.1 S.2.1 dX0_init_118 (by decide) ?_
  refine va_newa (pc := 119) (D := D) (atype := .int) (ty := .int) (N' := 3) (a0 := (3, .inl (fun _ => 0))) S.1 S.2.1 (S.2.2.2.2 _ q79) rfl hK hP hD hS hA (fun cA => rfl) (nI_pos (by decide)) (nI_clamp (by decide)) (by decide) (by rw [hR]; decide) (by rw [hR]; decide) dX0_init_119 (fun q15 c15 H hK hP hD hS => ?_)
  refine W.cs (cells' := 15) (slots' := 1104) rfl rfl ?_
  have hK : va_K D vwCl [(c1, .boolean), (c2, .int), (c15, .int)] s := hK
  obtain rfl : c2 = c15 := Option.some.inj ((show s.vm.findClass ("[" ++ FieldType.int.toString) = some c2 from (hK.2 1 _ rfl).2).symm.trans (show s.vm.findClass ("[" ++ FieldType.int.toString) = some c15 from (hK.2 2 _ rfl).2))
  have hK := hK.sub (tys' := [(c1, .boolean), (c2, .int)]) [0, 1] rfl
  have hP : va_P D vwCl [(a0, .inr (0, [.int 0, .ref q1, .ref q2, .ref q3, .ref q4, .ref q5, .ref q6, .ref q7, .ref q8, .ref q9, .ref q10, .ref q11, .ref q12, .ref q13, .ref q14, .null, .null, .null])), (q1, .inl (c1, 60, .inl (fun _ => 0))), (q2, .inl (c2, 60, .inl (fun _ => 0))), (q3, .inl (c2, 60, .inl (fun _ => 0))), (q4, .inl (c2, 60, .inl (fun _ => 0))), (q5, .inl (c2, 60, .inl (fun _ => 0))), (q6, .inl (c2, 60, .inl (fun _ => 0))), (q7, .inl (c2, 3, .inl (fun _ => 0))), (q8, .inl (c2, 183, .inl (fun _ => 0))), (q9, .inl (c2, 9, .inl (fun _ => 0))), (q10, .inl (c2, 3, .inl (fun _ => 0))), (q11, .inl (c2, 3, .inl (fun _ => 0))), (q12, .inl (c2, 180, .inl (fun _ => 0))), (q13, .inl (c2, 180, .inl (fun _ => 0))), (q14, .inl (c1, 180, .inl (fun _ => 0))), (q15, .inl (c2, 3, .inl (fun _ => 0)))] H := hP
  have hD : va_D A [(a0, .inr (0, [.int 0, .ref q1, .ref q2, .ref q3, .ref q4, .ref q5, .ref q6, .ref q7, .ref q8, .ref q9, .ref q10, .ref q11, .ref q12, .ref q13, .ref q14, .null, .null, .null])), (q1, .inl (c1, 60, .inl (fun _ => 0))), (q2, .inl (c2, 60, .inl (fun _ => 0))), (q3, .inl (c2, 60, .inl (fun _ => 0))), (q4, .inl (c2, 60, .inl (fun _ => 0))), (q5, .inl (c2, 60, .inl (fun _ => 0))), (q6, .inl (c2, 60, .inl (fun _ => 0))), (q7, .inl (c2, 3, .inl (fun _ => 0))), (q8, .inl (c2, 183, .inl (fun _ => 0))), (q9, .inl (c2, 9, .inl (fun _ => 0))), (q10, .inl (c2, 3, .inl (fun _ => 0))), (q11, .inl (c2, 3, .inl (fun _ => 0))), (q12, .inl (c2, 180, .inl (fun _ => 0))), (q13, .inl (c2, 180, .inl (fun _ => 0))), (q14, .inl (c1, 180, .inl (fun _ => 0))), (q15, .inl (c2, 3, .inl (fun _ => 0)))] := hD
  refine va_putF (pc := 121) (D := D) (ci := 0) (v := .ref q15) (ty := .array .int) (C := RX0) (T := TX0) (N := 18) S.1 S.2.1 S.2.2.2.2 in_X0 tyX0 tyX0_ok nmX0 S.2.2.2.1 hK hP hD hS 0 rfl rfl 15 (by decide) (S.2.2.2.2 _ q38) (fun _ h9 => h9) rfl hin rfl (by decide +kernel) rfl rfl (Nat.le_of_ble_eq_true rfl) dX0_init_121 (fun H locs hP hD hS => ?_)
  have hP : va_P D vwCl [(a0, .inr (0, [.int 0, .ref q1, .ref q2, .ref q3, .ref q4, .ref q5, .ref q6, .ref q7, .ref q8, .ref q9, .ref q10, .ref q11, .ref q12, .ref q13, .ref q14, .ref q15, .null, .null])), (q1, .inl (c1, 60, .inl (fun _ => 0))), (q2, .inl (c2, 60, .inl (fun _ => 0))), (q3, .inl (c2, 60, .inl (fun _ => 0))), (q4, .inl (c2, 60, .inl (fun _ => 0))), (q5, .inl (c2, 60, .inl (fun _ => 0))), (q6, .inl (c2, 60, .inl (fun _ => 0))), (q7, .inl (c2, 3, .inl (fun _ => 0))), (q8, .inl (c2, 183, .inl (fun _ => 0))), (q9, .inl (c2, 9, .inl (fun _ => 0))), (q10, .inl (c2, 3, .inl (fun _ => 0))), (q11, .inl (c2, 3, .inl (fun _ => 0))), (q12, .inl (c2, 180, .inl (fun _ => 0))), (q13, .inl (c2, 180, .inl (fun _ => 0))), (q14, .inl (c1, 180, .inl (fun _ => 0))), (q15, .inl (c2, 3, .inl (fun _ => 0)))] H := hP
  have hD : va_D A [(a0, .inr (0, [.int 0, .ref q1, .ref q2, .ref q3, .ref q4, .ref q5, .ref q6, .ref q7, .ref q8, .ref q9, .ref q10, .ref q11, .ref q12, .ref q13, .ref q14, .ref q15, .null, .null])), (q1, .inl (c1, 60, .inl (fun _ => 0))), (q2, .inl (c2, 60, .inl (fun _ => 0))), (q3, .inl (c2, 60, .inl (fun _ => 0))), (q4, .inl (c2, 60, .inl (fun _ => 0))), (q5, .inl (c2, 60, .inl (fun _ => 0))), (q6, .inl (c2, 60, .inl (fun _ => 0))), (q7, .inl (c2, 3, .inl (fun _ => 0))), (q8, .inl (c2, 183, .inl (fun _ => 0))), (q9, .inl (c2, 9, .inl (fun _ => 0))), (q10, .inl (c2, 3, .inl (fun _ => 0))), (q11, .inl (c2, 3, .inl (fun _ => 0))), (q12, .inl (c2, 180, .inl (fun _ => 0))), (q13, .inl (c2, 180, .inl (fun _ => 0))), (q14, .inl (c1, 180, .inl (fun _ => 0))), (q15, .inl (c2, 3, .inl (fun _ => 0)))] := hD
  refine lv_aload_n (pc := 124) S.1 S.2.1 dX0_init_124 rfl (lv_at hl 0 rfl) ?_
  refine lv_bipush (pc := 125) (v := nI 30) S.1 S.2.1 dX0_init_125 (by decide) ?_
  refine va_newa (pc := 127) (D := D) (atype := .int) (ty := .int) (N' := 30) (a0 := (30, .inl (fun _ => 0))) S.1 S.2.1 (S.2.2.2.2 _ q79) rfl hK hP hD hS hA (fun cA => rfl) (nI_pos (by decide)) (nI_clamp (by decide)) (by decide) (by rw [hR]; decide) (by rw [hR]; decide) dX0_init_127 (fun q16 c16 H hK hP hD hS => ?_)
  refine W.cs (cells' := 16) (slots' := 1134) rfl rfl ?_
  have hK : va_K D vwCl [(c1, .boolean), (c2, .int), (c16, .int)] s := hK
  obtain rfl : c2 = c16 := Option.some.inj ((show s.vm.findClass ("[" ++ FieldType.int.toString) = some c2 from (hK.2 1 _ rfl).2).symm.trans (show s.vm.findClass ("[" ++ FieldType.int.toString) = some c16 from (hK.2 2 _ rfl).2))
  have hK := hK.sub (tys' := [(c1, .boolean), (c2, .int)]) [0, 1] rfl
  have hP : va_P D vwCl [(a0, .inr (0, [.int 0, .ref q1, .ref q2, .ref q3, .ref q4, .ref q5, .ref q6, .ref q7, .ref q8, .ref q9, .ref q10, .ref q11, .ref q12, .ref q13, .ref q14, .ref q15, .null, .null])), (q1, .inl (c1, 60, .inl (fun _ => 0))), (q2, .inl (c2, 60, .inl (fun _ => 0))), (q3, .inl (c2, 60, .inl (fun _ => 0))), (q4, .inl (c2, 60, .inl (fun _ => 0))), (q5, .inl (c2, 60, .inl (fun _ => 0))), (q6, .inl (c2, 60, .inl (fun _ => 0))), (q7, .inl (c2, 3, .inl (fun _ => 0))), (q8, .inl (c2, 183, .inl (fun _ => 0))), (q9, .inl (c2, 9, .inl (fun _ => 0))), (q10, .inl (c2, 3, .inl (fun _ => 0))), (q11, .inl (c2, 3, .inl (fun _ => 0))), (q12, .inl (c2, 180, .inl (fun _ => 0))), (q13, .inl (c2, 180, .inl (fun _ => 0))), (q14, .inl (c1, 180, .inl (fun _ => 0))), (q15, .inl (c2, 3, .inl (fun _ => 0))), (q16, .inl (c2, 30, .inl (fun _ => 0)))] H := hP
  have hD : va_D A [(a0, .inr (0, [.int 0, .ref q1, .ref q2, .ref q3, .ref q4, .ref q5, .ref q6, .ref q7, .ref q8, .ref q9, .ref q10, .ref q11, .ref q12, .ref q13, .ref q14, .ref q15, .null, .null])), (q1, .inl (c1, 60, .inl (fun _ => 0))), (q2, .inl (c2, 60, .inl (fun _ => 0))), (q3, .inl (c2, 60, .inl (fun _ => 0))), (q4, .inl (c2, 60, .inl (fun _ => 0))), (q5, .inl (c2, 60, .inl (fun _ => 0))), (q6, .inl (c2, 60, .inl (fun _ => 0))), (q7, .inl (c2, 3, .inl (fun _ => 0))), (q8, .inl (c2, 183, .inl (fun _ => 0))), (q9, .inl (c2, 9, .inl (fun _ => 0))), (q10, .inl (c2, 3, .inl (fun _ => 0))), (q11, .inl (c2, 3, .inl (fun _ => 0))), (q12, .inl (c2, 180, .inl (fun _ => 0))), (q13, .inl (c2, 180, .inl (fun _ => 0))), (q14, .inl (c1, 180, .inl (fun _ => 0))), (q15, .inl (c2, 3, .inl (fun _ => 0))), (q16, .inl (c2, 30, .inl (fun _ => 0)))] := hD
  refine va_putF (pc := 129) (D := D) (ci := 0) (v := .ref q16) (ty := .array .int) (C := RX0) (T := TX0) (N := 18) S.1 S.2.1 S.2.2.2.2 in_X0 tyX0 tyX0_ok nmX0 S.2.2.2.1 hK hP hD hS 0 rfl rfl 16 (by decide) (S.2.2.2.2 _ q39) (fun _ h9 => h9) rfl hin rfl (by decide +kernel) rfl rfl (Nat.le_of_ble_eq_true rfl) dX0_init_129 (fun H locs hP hD hS => ?_)
  have hP : va_P D vwCl [(a0, .inr (0, [.int 0, .ref q1, .ref q2, .ref q3, .ref q4, .ref q5, .ref q6, .ref q7, .ref q8, .ref q9, .ref q10, .ref q11, .ref q12, .ref q13, .ref q14, .ref q15, .ref q16, .null])), (q1, .inl (c1, 60, .inl (fun _ => 0))), (q2, .inl (c2, 60, .inl (fun _ => 0))), (q3, .inl (c2, 60, .inl (fun _ => 0))), (q4, .inl (c2, 60, .inl (fun _ => 0))), (q5, .inl (c2, 60, .inl (fun _ => 0))), (q6, .inl (c2, 60, .inl (fun _ => 0))), (q7, .inl (c2, 3, .inl (fun _ => 0))), (q8, .inl (c2, 183, .inl (fun _ => 0))), (q9, .inl (c2, 9, .inl (fun _ => 0))), (q10, .inl (c2, 3, .inl (fun _ => 0))), (q11, .inl (c2, 3, .inl (fun _ => 0))), (q12, .inl (c2, 180, .inl (fun _ => 0))), (q13, .inl (c2, 180, .inl (fun _ => 0))), (q14, .inl (c1, 180, .inl (fun _ => 0))), (q15, .inl (c2, 3, .inl (fun _ => 0))), (q16, .inl (c2, 30, .inl (fun _ => 0)))] H := hP
  have hD : va_D A [(a0, .inr (0, [.int 0, .ref q1, .ref q2, .ref q3, .ref q4, .ref q5, .ref q6, .ref q7, .ref q8, .ref q9, .ref q10, .ref q11, .ref q12, .ref q13, .ref q14, .ref q15, .ref q16, .null])), (q1, .inl (c1, 60, .inl (fun _ => 0))), (q2, .inl (c2, 60, .inl (fun _ => 0))), (q3, .inl (c2, 60, .inl (fun _ => 0))), (q4, .inl (c2, 60, .inl (fun _ => 0))), (q5, .inl (c2, 60, .inl (fun _ => 0))), (q6, .inl (c2, 60, .inl (fun _ => 0))), (q7, .inl (c2, 3, .inl (fun _ => 0))), (q8, .inl (c2, 183, .inl (fun _ => 0))), (q9, .inl (c2, 9, .inl (fun _ => 0))), (q10, .inl (c2, 3, .inl (fun _ => 0))), (q11, .inl (c2, 3, .inl (fun _ => 0))), (q12, .inl (c2, 180, .inl (fun _ => 0))), (q13, .inl (c2, 180, .inl (fun _ => 0))), (q14, .inl (c1, 180, .inl (fun _ => 0))), (q15, .inl (c2, 3, .inl (fun _ => 0))), (q16, .inl (c2, 30, .inl (fun _ => 0)))] := hD
  refine lv_aload_n (pc := 132) S.1 S.2.1 dX0_init_132 rfl (lv_at hl 0 rfl) ?_
  refine lv_bipush (pc := 133) (v := nI 30) S.1 S.2.1 dX0_init_133 (by decide) ?_
  refine va_newa (pc := 135) (D := D) (atype := .int) (ty := .int) (N' := 30) (a0 := (30, .inl (fun _ => 0))) S.1 S.2.1 (S.2.2.2.2 _ q79) rfl hK hP hD hS hA (fun cA => rfl) (nI_pos (by decide)) (nI_clamp (by decide)) (by decide) (by rw [hR]; decide) (by rw [hR]; decide) dX0_init_135 (fun q17 c17 H hK hP hD hS => ?_)
  refine W.cs (cells' := 17) (slots' := 1164) rfl rfl ?_
  have hK : va_K D vwCl [(c1, .boolean), (c2, .int), (c17, .int)] s := hK
  obtain rfl : c2 = c17 := Option.some.inj ((show s.vm.findClass ("[" ++ FieldType.int.toString) = some c2 from (hK.2 1 _ rfl).2).symm.trans (show s.vm.findClass ("[" ++ FieldType.int.toString) = some c17 from (hK.2 2 _ rfl).2))
  have hK := hK.sub (tys' := [(c1, .boolean), (c2, .int)]) [0, 1] rfl
  have hP : va_P D vwCl [(a0, .inr (0, [.int 0, .ref q1, .ref q2, .ref q3, .ref q4, .ref q5, .ref q6, .ref q7, .ref q8, .ref q9, .ref q10, .ref q11, .ref q12, .ref q13, .ref q14, .ref q15, .ref q16, .null])), (q1, .inl (c1, 60, .inl (fun _ => 0))), (q2, .inl (c2, 60, .inl (fun _ => 0))), (q3, .inl (c2, 60, .inl (fun _ => 0))), (q4, .inl (c2, 60, .inl (fun _ => 0))), (q5, .inl (c2, 60, .inl (fun _ => 0))), (q6, .inl (c2, 60, .inl (fun _ => 0))), (q7, .inl (c2, 3, .inl (fun _ => 0))), (q8, .inl (c2, 183, .inl (fun _ => 0))), (q9, .inl (c2, 9, .inl (fun _ => 0))), (q10, .inl (c2, 3, .inl (fun _ => 0))), (q11, .inl (c2, 3, .inl (fun _ => 0))), (q12, .inl (c2, 180, .inl (fun _ => 0))), (q13, .inl (c2, 180, .inl (fun _ => 0))), (q14, .inl (c1, 180, .inl (fun _ => 0))), (q15, .inl (c2, 3, .inl (fun _ => 0))), (q16, .inl (c2, 30, .inl (fun _ => 0))), (q17, .inl (c2, 30, .inl (fun _ => 0)))] H := hP
  have hD : va_D A [(a0, .inr (0, [.int 0, .ref q1, .ref q2, .ref q3, .ref q4, .ref q5, .ref q6, .ref q7, .ref q8, .ref q9, .ref q10, .ref q11, .ref q12, .ref q13, .ref q14, .ref q15, .ref q16, .null])), (q1, .inl (c1, 60, .inl (fun _ => 0))), (q2, .inl (c2, 60, .inl (fun _ => 0))), (q3, .inl (c2, 60, .inl (fun _ => 0))), (q4, .inl (c2, 60, .inl (fun _ => 0))), (q5, .inl (c2, 60, .inl (fun _ => 0))), (q6, .inl (c2, 60, .inl (fun _ => 0))), (q7, .inl (c2, 3, .inl (fun _ => 0))), (q8, .inl (c2, 183, .inl (fun _ => 0))), (q9, .inl (c2, 9, .inl (fun _ => 0))), (q10, .inl (c2, 3, .inl (fun _ => 0))), (q11, .inl (c2, 3, .inl (fun _ => 0))), (q12, .inl (c2, 180, .inl (fun _ => 0))), (q13, .inl (c2, 180, .inl (fun _ => 0))), (q14, .inl (c1, 180, .inl (fun _ => 0))), (q15, .inl (c2, 3, .inl (fun _ => 0))), (q16, .inl (c2, 30, .inl (fun _ => 0))), (q17, .inl (c2, 30, .inl (fun _ => 0)))] := hD
  refine va_putF (pc := 137) (D := D) (ci := 0) (v := .ref q17) (ty := .array .int) (C := RX0) (T := TX0) (N := 18) S.1 S.2.1 S.2.2.2.2 in_X0 tyX0 tyX0_ok nmX0 S.2.2.2.1 hK hP hD hS 0 rfl rfl 17 (by decide) (S.2.2.2.2 _ q40) (fun _ h9 => h9) rfl hin rfl (by decide +kernel) rfl rfl (Nat.le_of_ble_eq_true rfl) dX0_init_137 (fun H locs hP hD hS => ?_)
  have hP : va_P D vwCl [(a0, .inr (0, [.int 0, .ref q1, .ref q2, .ref q3, .ref q4, .ref q5, .ref q6, .ref q7, .ref q8, .ref q9, .ref q10, .ref q11, .ref q12, .ref q13, .ref q14, .ref q15, .ref q16, .ref q17])), (q1, .inl (c1, 60, .inl (fun _ => 0))), (q2, .inl (c2, 60, .inl (fun _ => 0))), (q3, .inl (c2, 60, .inl (fun _ => 0))), (q4, .inl (c2, 60, .inl (fun _ => 0))), (q5, .inl (c2, 60, .inl (fun _ => 0))), (q6, .inl (c2, 60, .inl (fun _ => 0))), (q7, .inl (c2, 3, .inl (fun _ => 0))), (q8, .inl (c2, 183, .inl (fun _ => 0))), (q9, .inl (c2, 9, .inl (fun _ => 0))), (q10, .inl (c2, 3, .inl (fun _ => 0))), (q11, .inl (c2, 3, .inl (fun _ => 0))), (q12, .inl (c2, 180, .inl (fun _ => 0))), (q13, .inl (c2, 180, .inl (fun _ => 0))), (q14, .inl (c1, 180, .inl (fun _ => 0))), (q15, .inl (c2, 3, .inl (fun _ => 0))), (q16, .inl (c2, 30, .inl (fun _ => 0))), (q17, .inl (c2, 30, .inl (fun _ => 0)))] H := hP
  have hD : va_D A [(a0, .inr (0, [.int 0, .ref q1, .ref q2, .ref q3, .ref q4, .ref q5, .ref q6, .ref q7, .ref q8, .ref q9, .ref q10, .ref q11, .ref q12, .ref q13, .ref q14, .ref q15, .ref q16, .ref q17])), (q1, .inl (c1, 60, .inl (fun _ => 0))), (q2, .inl (c2, 60, .inl (fun _ => 0))), (q3, .inl (c2, 60, .inl (fun _ => 0))), (q4, .inl (c2, 60, .inl (fun _ => 0))), (q5, .inl (c2, 60, .inl (fun _ => 0))), (q6, .inl (c2, 60, .inl (fun _ => 0))), (q7, .inl (c2, 3, .inl (fun _ => 0))), (q8, .inl (c2, 183, .inl (fun _ => 0))), (q9, .inl (c2, 9, .inl (fun _ => 0))), (q10, .inl (c2, 3, .inl (fun _ => 0))), (q11, .inl (c2, 3, .inl (fun _ => 0))), (q12, .inl (c2, 180, .inl (fun _ => 0))), (q13, .inl (c2, 180, .inl (fun _ => 0))), (q14, .inl (c1, 180, .inl (fun _ => 0))), (q15, .inl (c2, 3, .inl (fun _ => 0))), (q16, .inl (c2, 30, .inl (fun _ => 0))), (q17, .inl (c2, 30, .inl (fun _ => 0)))] := hD
  have hK := hK.sub (tys' := zty c1 c2) [0, 1] rfl
  obtain ⟨h0, eh⟩ : ∃ h0 : Nat → Nat, h0 = fun k => [a0, q1, q2, q3, q4, q5, q6, q7, q8, q9, q10, q11, q12, q13, q14, q15, q16, q17].getD k 0 := ⟨_, rfl⟩
  have hW : XS D h0 c1 c2 s A H locs (fun _ _ => 0) (fun _ _ => 0) := by subst eh; exact ⟨hK, hP, hD, hS⟩
  have e0 : h0 0 = a0 := by subst eh; rfl
  rw [← e0] at hl
  have loop : ∀ (d i : Nat) (f1 : Nat → Nat → Int32), i + d = 30 → (∀ j, j < i → f1 16 j = -1) → (∀ k i, k ≠ 16 → f1 k i = 0) → ∀ (H : Heap) (locs : List Loc), XS D h0 c1 c2 s A H locs (fun _ _ => 0) f1 → ∀ ls : Array Slot, lv_has ls 2 [(0, .ref (h0 0)), (1, .int (nI i))] → W p l e R s m args below meth cd H locs 17 1164 Q (F0 m 142 ls []) := by
    intro d
    induction d with
    | zero =>
      intro i f1 hid a1 a2 H locs hW ls hl
      have hid : i = 30 := by omega
      subst hid
      refine lv_iload_n (pc := 142) S.1 S.2.1 dX0_init_142 rfl (lv_at hl 1 rfl) ?_
      refine lv_bipush (pc := 143) (v := nI 30) S.1 S.2.1 dX0_init_143 (by decide) ?_
      refine z_icmp_ge (pc := 145) (tgt := 161) (x := 30) (y := 30) S (by omega) (by omega) dX0_init_145 (by decide) (fun c_145 => ?_) (fun c_145 => ?_)
      · exact hret (h0, (c1, c2), f1) H locs ls 161 (fun t ht hM9 => ⟨by rw [ht]; exact hW.2.1, va_K.moved hM9 hW.1, hW.2.2.1⟩) ⟨e0, a1, a2⟩ hW.2.2.2 dX0_init_161
      · exfalso; omega
    | succ d ih =>
      intro i f1 hid a1 a2 H locs hW ls hl
      refine lv_iload_n (pc := 142) S.1 S.2.1 dX0_init_142 rfl (lv_at hl 1 rfl) ?_
      refine lv_bipush (pc := 143) (v := nI 30) S.1 S.2.1 dX0_init_143 (by decide) ?_
      refine z_icmp_ge (pc := 145) (tgt := 161) (x := i) (y := 30) S (by omega) (by omega) dX0_init_145 (by decide) (fun c_145 => ?_) (fun c_145 => ?_)
      · exfalso; omega
      · refine x_g_16 (pc := 148) S hW (lv_at hl 0 rfl) dX0_init_148 dX0_init_149 ?_
        refine lv_iload_n (pc := 152) S.1 S.2.1 dX0_init_152 rfl (lv_at hl 1 rfl) ?_
        refine lv_iconst (pc := 153) (v := -1) S.1 S.2.1 dX0_init_153 (by decide) ?_
        refine x_st_16 (pc := 154) (i := i) (v := (-1)) S hW (by omega) dX0_init_154 (fun H locs hW => ?_)
        refine lv_iinc (pc := 155) (v := nI (i + 1)) (lv' := [(1, .int (nI (i + 1))), (0, .ref (h0 0))]) S.1 S.2.1 dX0_init_155 hl (k := 1) rfl (z_inc1 _) (by decide) rfl (fun ls hl => ?_)
        refine lv_goto (pc := 158) (tgt := 142) S.1 S.2.1 dX0_init_158 (by decide) ?_
        refine ih (i + 1) _ (by omega) (fun j hj => ?_) (fun k i hk => by rw [st2_k _ _ _ _ hk]; exact a2 k i hk) _ _ hW ls (lv_sub hl [1, 0] rfl)
        by_cases e : j = i
        · rw [e, st2_eq]
        · rw [st2_ne _ _ _ _ e]; exact a1 j (by omega)
  refine lv_iconst (pc := 140) (v := nI 0) S.1 S.2.1 dX0_init_140 (by decide) ?_
  refine lv_istore_n (pc := 141) (lv' := [(1, .int (nI 0)), (0, .ref (h0 0))]) S.1 S.2.1 dX0_init_141 rfl hl (by decide) rfl (fun ls hl => ?_)
  exact loop 30 0 _ rfl (fun j hj => absurd hj (by omega)) (fun _ _ _ => rfl) _ _ hW ls (lv_sub hl [1, 0] rfl)
theorem dX1_init_0 : decode cX1_init 0 = .ok (.aload_n 0, 1) := by decide +kernel
theorem dX1_init_1 : decode cX1_init 1 = .ok (.invokespecial 1, 3) := by decide +kernel
theorem dX1_init_4 : decode cX1_init 4 = .ok (.aload_n 0, 1) := by decide +kernel
theorem dX1_init_5 : decode cX1_init 5 = .ok (.bipush 60, 2) := by decide +kernel
theorem dX1_init_7 : decode cX1_init 7 = .ok (.newarray .int, 2) := by decide +kernel
theorem dX1_init_9 : decode cX1_init 9 = .ok (.putfield 7, 3) := by decide +kernel
theorem dX1_init_12 : decode cX1_init 12 = .ok (.aload_n 0, 1) := by decide +kernel
theorem dX1_init_13 : decode cX1_init 13 = .ok (.bipush 60, 2) := by decide +kernel
theorem dX1_init_15 : decode cX1_init 15 = .ok (.newarray .int, 2) := by decide +kernel
theorem dX1_init_17 : decode cX1_init 17 = .ok (.putfield 13, 3) := by decide +kernel
theorem dX1_init_20 : decode cX1_init 20 = .ok (.aload_n 0, 1) := by decide +kernel
theorem dX1_init_21 : decode cX1_init 21 = .ok (.bipush 60, 2) := by decide +kernel
theorem dX1_init_23 : decode cX1_init 23 = .ok (.newarray .boolean, 2) := by decide +kernel
theorem dX1_init_25 : decode cX1_init 25 = .ok (.putfield 16, 3) := by decide +kernel
theorem dX1_init_28 : decode cX1_init 28 = .ok (.aload_n 0, 1) := by decide +kernel
theorem dX1_init_29 : decode cX1_init 29 = .ok (.bipush 60, 2) := by decide +kernel
theorem dX1_init_31 : decode cX1_init 31 = .ok (.newarray .int, 2) := by decide +kernel
theorem dX1_init_33 : decode cX1_init 33 = .ok (.putfield 20, 3) := by decide +kernel
theorem dX1_init_36 : decode cX1_init 36 = .ok (.aload_n 0, 1) := by decide +kernel
theorem dX1_init_37 : decode cX1_init 37 = .ok (.bipush 60, 2) := by decide +kernel
theorem dX1_init_39 : decode cX1_init 39 = .ok (.newarray .int, 2) := by decide +kernel
theorem dX1_init_41 : decode cX1_init 41 = .ok (.putfield 23, 3) := by decide +kernel
theorem dX1_init_44 : decode cX1_init 44 = .ok (.aload_n 0, 1) := by decide +kernel
theorem dX1_init_45 : decode cX1_init 45 = .ok (.sipush 180, 3) := by decide +kernel
theorem dX1_init_48 : decode cX1_init 48 = .ok (.newarray .boolean, 2) := by decide +kernel
theorem dX1_init_50 : decode cX1_init 50 = .ok (.putfield 26, 3) := by decide +kernel
theorem dX1_init_53 : decode cX1_init 53 = .ok (.aload_n 0, 1) := by decide +kernel
theorem dX1_init_54 : decode cX1_init 54 = .ok (.bipush 10, 2) := by decide +kernel
theorem dX1_init_56 : decode cX1_init 56 = .ok (.newarray .int, 2) := by decide +kernel
theorem dX1_init_58 : decode cX1_init 58 = .ok (.putfield 29, 3) := by decide +kernel
theorem dX1_init_61 : decode cX1_init 61 = .ok (.aload_n 0, 1) := by decide +kernel
theorem dX1_init_62 : decode cX1_init 62 = .ok (.bipush 10, 2) := by decide +kernel
theorem dX1_init_64 : decode cX1_init 64 = .ok (.newarray .int, 2) := by decide +kernel
theorem dX1_init_66 : decode cX1_init 66 = .ok (.putfield 32, 3) := by decide +kernel
theorem dX1_init_69 : decode cX1_init 69 = .ok (.aload_n 0, 1) := by decide +kernel
theorem dX1_init_70 : decode cX1_init 70 = .ok (.bipush 60, 2) := by decide +kernel
theorem dX1_init_72 : decode cX1_init 72 = .ok (.newarray .boolean, 2) := by decide +kernel
theorem dX1_init_74 : decode cX1_init 74 = .ok (.putfield 35, 3) := by decide +kernel
theorem dX1_init_77 : decode cX1_init 77 = .ok (.aload_n 0, 1) := by decide +kernel
theorem dX1_init_78 : decode cX1_init 78 = .ok (.bipush 10, 2) := by decide +kernel
theorem dX1_init_80 : decode cX1_init 80 = .ok (.newarray .int, 2) := by decide +kernel
theorem dX1_init_82 : decode cX1_init 82 = .ok (.putfield 38, 3) := by decide +kernel
theorem dX1_init_85 : decode cX1_init 85 = .ok (.aload_n 0, 1) := by decide +kernel
theorem dX1_init_86 : decode cX1_init 86 = .ok (.bipush 10, 2) := by decide +kernel
theorem dX1_init_88 : decode cX1_init 88 = .ok (.newarray .int, 2) := by decide +kernel
theorem dX1_init_90 : decode cX1_init 90 = .ok (.putfield 41, 3) := by decide +kernel
theorem dX1_init_93 : decode cX1_init 93 = .ok (.return_, 1) := by decide +kernel
abbrev fsX1 : List Value := [.int 0, .null, .null, .null, .null, .null, .null, .null, .null, .int 0, .null, .null, .null]
abbrev rmX1_init : Room := { frames := 1, cells := 11, slots := 580, locals := 12 }
abbrev wsX1_init : List Cond := ws_ yX1_init cX1_init 1 none
/-- the world behind the constructor -/
def mBi (D : va_G) (A : Nat → Prop) (u : zI) (t : State) : Prop := va_P D vwCl (mw u.1 u.2.1.1 u.2.1.2 (fun _ _ => 0) u.2.2) t.heap ∧ va_K D vwCl (zty u.2.1.1 u.2.1.2) t ∧ va_D A (mw u.1 u.2.1.1 u.2.1.2 (fun _ _ => 0) u.2.2)
def mPi (a0 : Nat) (u : zI) : Prop := u.1 0 = a0
set_option maxHeartbeats 8000000 in
theorem metX1_init (l : Launch) (D : va_G) (a0 sz : Nat) : Met l yX1_init wsX1_init rmX1_init (va_Pc [.ref a0] (fun U => U.heap.size = sz ∧ va_P D vwCl [(a0, .inr (1, fsX1))] U.heap ∧ va_K D vwCl [] U ∧ va_D (fun _ => True) [(a0, .inr (1, fsX1))])) (va_Qv (mPi a0) (mBi D (va_A [(a0, .inr (1, fsX1))] sz)) (va_A [(a0, .inr (1, fsX1))] sz)) 11 580 (va_A [(a0, .inr (1, fsX1))] sz) := by
  refine i_metV (own := RX1) l (by decide) rfl rfl (Nat.le_of_ble_eq_true rfl) (fun p e s m args below meth cd R Q hR S hin hP hK hD hA hret ls hl => ?_)
  generalize va_A [(a0, .inr (1, fsX1))] sz = A at hD hA hret ⊢
  have hS : va_S A s.heap s.heap [] := va_S.rf
  refine lv_aload_n (pc := 0) S.1 S.2.1 dX1_init_0 rfl (lv_at hl 0 rfl) ?_
  refine W.objInit S.1 S.2.1 S.2.2.2.1 (S.2.2.2.2 _ q159) (S.2.2.2.2 _ q21) (S.2.2.2.2 _ q22) rfl (by rw [S.2.2.1]; exact hl.1) rfl dX1_init_1 (by rw [hR]; decide) (by rw [hR]; exact Nat.le_of_ble_eq_true rfl) ?_
  refine W.eq (g2 := F0 m 4 ls []) rfl ?_
  have hP : va_P D vwCl [(a0, .inr (1, [.int 0, .null, .null, .null, .null, .null, .null, .null, .null, .int 0, .null, .null, .null]))] s.heap := hP
  have hD : va_D A [(a0, .inr (1, [.int 0, .null, .null, .null, .null, .null, .null, .null, .null, .int 0, .null, .null, .null]))] := hD
  refine lv_aload_n (pc := 4) S.1 S.2.1 dX1_init_4 rfl (lv_at hl 0 rfl) ?_
  refine lv_bipush (pc := 5) (v := nI 60) S.1 S.2.1 dX1_init_5 (by decide) ?_
  refine va_newa (pc := 7) (D := D) (atype := .int) (ty := .int) (N' := 60) (a0 := (60, .inl (fun _ => 0))) S.1 S.2.1 (S.2.2.2.2 _ q79) rfl hK hP hD hS hA (fun cA => rfl) (nI_pos (by decide)) (nI_clamp (by decide)) (by decide) (by rw [hR]; decide) (by rw [hR]; decide) dX1_init_7 (fun q1 c1 H hK hP hD hS => ?_)
  refine W.cs (cells' := 1) (slots' := 60) rfl rfl ?_
  have hK : va_K D vwCl [(c1, .int)] s := hK
  have hP : va_P D vwCl [(a0, .inr (1, [.int 0, .null, .null, .null, .null, .null, .null, .null, .null, .int 0, .null, .null, .null])), (q1, .inl (c1, 60, .inl (fun _ => 0)))] H := hP
  have hD : va_D A [(a0, .inr (1, [.int 0, .null, .null, .null, .null, .null, .null, .null, .null, .int 0, .null, .null, .null])), (q1, .inl (c1, 60, .inl (fun _ => 0)))] := hD
  refine va_putF (pc := 9) (D := D) (ci := 1) (v := .ref q1) (ty := .array .int) (C := RX1) (T := TX1) (N := 13) S.1 S.2.1 S.2.2.2.2 in_X1 tyX1 tyX1_ok nmX1 S.2.2.2.1 hK hP hD hS 0 rfl rfl 1 (by decide) (S.2.2.2.2 _ q161) (fun _ h9 => h9) rfl hin rfl (by decide +kernel) rfl rfl (Nat.le_of_ble_eq_true rfl) dX1_init_9 (fun H locs hP hD hS => ?_)
  have hP : va_P D vwCl [(a0, .inr (1, [.int 0, .ref q1, .null, .null, .null, .null, .null, .null, .null, .int 0, .null, .null, .null])), (q1, .inl (c1, 60, .inl (fun _ => 0)))] H := hP
  have hD : va_D A [(a0, .inr (1, [.int 0, .ref q1, .null, .null, .null, .null, .null, .null, .null, .int 0, .null, .null, .null])), (q1, .inl (c1, 60, .inl (fun _ => 0)))] := hD
  refine lv_aload_n (pc := 12) S.1 S.2.1 dX1_init_12 rfl (lv_at hl 0 rfl) ?_
  refine lv_bipush (pc := 13) (v := nI 60) S.1 S.2.1 dX1_init_13 (by decide) ?_
  refine va_newa (pc := 15) (D := D) (atype := .int) (ty := .int) (N' := 60) (a0 := (60, .inl (fun _ => 0))) S.1 S.2.1 (S.2.2.2.2 _ q79) rfl hK hP hD hS hA (fun cA => rfl) (nI_pos (by decide)) (nI_clamp (by decide)) (by decide) (by rw [hR]; decide) (by rw [hR]; decide) dX1_init_15 (fun q2 c2 H hK hP hD hS => ?_)
  refine W.cs (cells' := 2) (slots' := 120) rfl rfl ?_
  have hK : va_K D vwCl [(c1, .int), (c2, .int)] s := hK
  obtain rfl : c1 = c2 := Option.some.inj ((show s.vm.findClass ("[" ++ FieldType.int.toString) = some c1 from (hK.2 0 _ rfl).2).symm.trans (show s.vm.findClass ("[" ++ FieldType.int.toString) = some c2 from (hK.2 1 _ rfl).2))
  have hK := hK.sub (tys' := [(c1, .int)]) [0] rfl
  have hP : va_P D vwCl [(a0, .inr (1, [.int 0, .ref q1, .null, .null, .null, .null, .null, .null, .null, .int 0, .null, .null, .null])), (q1, .inl (c1, 60, .inl (fun _ => 0))), (q2, .inl (c1, 60, .inl (fun _ => 0)))] H := hP
  have hD : va_D A [(a0, .inr (1, [.int 0, .ref q1, .null, .null, .null, .null, .null, .null, .null, .int 0, .null, .null, .null])), (q1, .inl (c1, 60, .inl (fun _ => 0))), (q2, .inl (c1, 60, .inl (fun _ => 0)))] := hD
  refine va_putF (pc := 17) (D := D) (ci := 1) (v := .ref q2) (ty := .array .int) (C := RX1) (T := TX1) (N := 13) S.1 S.2.1 S.2.2.2.2 in_X1 tyX1 tyX1_ok nmX1 S.2.2.2.1 hK hP hD hS 0 rfl rfl 2 (by decide) (S.2.2.2.2 _ q162) (fun _ h9 => h9) rfl hin rfl (by decide +kernel) rfl rfl (Nat.le_of_ble_eq_true rfl) dX1_init_17 (fun H locs hP hD hS => ?_)
  have hP : va_P D vwCl [(a0, .inr (1, [.int 0, .ref q1, .ref q2, .null, .null, .null, .null, .null, .null, .int 0, .null, .null, .null])), (q1, .inl (c1, 60, .inl (fun _ => 0))), (q2, .inl (c1, 60, .inl (fun _ => 0)))] H := hP
  have hD : va_D A [(a0, .inr (1, [.int 0, .ref q1, .ref q2, .null, .null, .null, .null, .null, .null, .int 0, .null, .null, .null])), (q1, .inl (c1, 60, .inl (fun _ => 0))), (q2, .inl (c1, 60, .inl (fun _ => 0)))] := hD
  refine lv_aload_n (pc := 20) S.1 S.2.1 dX1_init_20 rfl (lv_at hl 0 rfl) ?_
  refine lv_bipush (pc := 21) (v := nI 60) S.1 S.2.1 dX1_init_21 (by decide) ?_
  refine va_newa (pc := 23) (D := D) (atype := .boolean) (ty := .boolean) (N' := 60) (a0 := (60, .inl (fun _ => 0))) S.1 S.2.1 (S.2.2.2.2 _ q78) rfl hK hP hD hS hA (fun cA => rfl) (nI_pos (by decide)) (nI_clamp (by decide)) (by decide) (by rw [hR]; decide) (by rw [hR]; decide) dX1_init_23 (fun q3 c3 H hK hP hD hS => ?_)
  refine W.cs (cells' := 3) (slots' := 180) rfl rfl ?_
  have hK : va_K D vwCl [(c1, .int), (c3, .boolean)] s := hK
  have hP : va_P D vwCl [(a0, .inr (1, [.int 0, .ref q1, .ref q2, .null, .null, .null, .null, .null, .null, .int 0, .null, .null, .null])), (q1, .inl (c1, 60, .inl (fun _ => 0))), (q2, .inl (c1, 60, .inl (fun _ => 0))), (q3, .inl (c3, 60, .inl (fun _ => 0)))] H := hP
  have hD : va_D A [(a0, .inr (1, [.int 0, .ref q1, .ref q2, .null, .null, .null, .null, .null, .null, .int 0, .null, .null, .null])), (q1, .inl (c1, 60, .inl (fun _ => 0))), (q2, .inl (c1, 60, .inl (fun _ => 0))), (q3, .inl (c3, 60, .inl (fun _ => 0)))] := hD
  refine va_putF (pc := 25) (D := D) (ci := 1) (v := .ref q3) (ty := .array .boolean) (C := RX1) (T := TX1) (N := 13) S.1 S.2.1 S.2.2.2.2 in_X1 tyX1 tyX1_ok nmX1 S.2.2.2.1 hK hP hD hS 0 rfl rfl 3 (by decide) (S.2.2.2.2 _ q163) (fun _ h9 => h9) rfl hin rfl (by decide +kernel) rfl rfl (Nat.le_of_ble_eq_true rfl) dX1_init_25 (fun H locs hP hD hS => ?_)
  have hP : va_P D vwCl [(a0, .inr (1, [.int 0, .ref q1, .ref q2, .ref q3, .null, .null, .null, .null, .null, .int 0, .null, .null, .null])), (q1, .inl (c1, 60, .inl (fun _ => 0))), (q2, .inl (c1, 60, .inl (fun _ => 0))), (q3, .inl (c3, 60, .inl (fun _ => 0)))] H := hP
  have hD : va_D A [(a0, .inr (1, [.int 0, .ref q1, .ref q2, .ref q3, .null, .null, .null, .null, .null, .int 0, .null, .null, .null])), (q1, .inl (c1, 60, .inl (fun _ => 0))), (q2, .inl (c1, 60, .inl (fun _ => 0))), (q3, .inl (c3, 60, .inl (fun _ => 0)))] := hD
  refine lv_aload_n (pc := 28) S.1 S.2.1 dX1_init_28 rfl (lv_at hl 0 rfl) ?_
  refine lv_bipush (pc := 29) (v := nI 60) S.1 S.2.1 dX1_init_29 (by decide) ?_
  refine va_newa (pc := 31) (D := D) (atype := .int) (ty := .int) (N' := 60) (a0 := (60, .inl (fun _ => 0))) S.1 S.2.1 (S.2.2.2.2 _ q79) rfl hK hP hD hS hA (fun cA => rfl) (nI_pos (by decide)) (nI_clamp (by decide)) (by decide) (by rw [hR]; decide) (by rw [hR]; decide) dX1_init_31 (fun q4 c4 H hK hP hD hS => ?_)
  refine W.cs (cells' := 4) (slots' := 240) rfl rfl ?_
  have hK : va_K D vwCl [(c1, .int), (c3, .boolean), (c4, .int)] s := hK
  obtain rfl : c1 = c4 := Option.some.inj ((show s.vm.findClass ("[" ++ FieldType.int.toString) = some c1 from (hK.2 0 _ rfl).2).symm.trans (show s.vm.findClass ("[" ++ FieldType.int.toString) = some c4 from (hK.2 2 _ rfl).2))
  have hK := hK.sub (tys' := [(c1, .int), (c3, .boolean)]) [0, 1] rfl
  have hP : va_P D vwCl [(a0, .inr (1, [.int 0, .ref q1, .ref q2, .ref q3, .null, .null, .null, .null, .null, .int 0, .null, .null, .null])), (q1, .inl (c1, 60, .inl (fun _ => 0))), (q2, .inl (c1, 60, .inl (fun _ => 0))), (q3, .inl (c3, 60, .inl (fun _ => 0))), (q4, .inl (c1, 60, .inl (fun _ => 0)))] H := hP
  have hD : va_D A [(a0, .inr (1, [.int 0, .ref q1, .ref q2, .ref q3, .null, .null, .null, .null, .null, .int 0, .null, .null, .null])), (q1, .inl (c1, 60, .inl (fun _ => 0))), (q2, .inl (c1, 60, .inl (fun _ => 0))), (q3, .inl (c3, 60, .inl (fun _ => 0))), (q4, .inl (c1, 60, .inl (fun _ => 0)))] := hD
  refine va_putF (pc := 33) (D := D) (ci := 1) (v := .ref q4) (ty := .array .int) (C := RX1) (T := TX1) (N := 13) S.1 S.2.1 S.2.2.2.2 in_X1 tyX1 tyX1_ok nmX1 S.2.2.2.1 hK hP hD hS 0 rfl rfl 4 (by decide) (S.2.2.2.2 _ q164) (fun _ h9 => h9) rfl hin rfl (by decide +kernel) rfl rfl (Nat.le_of_ble_eq_true rfl) dX1_init_33 (fun H locs hP hD hS => ?_)
  have hP : va_P D vwCl [(a0, .inr (1, [.int 0, .ref q1, .ref q2, .ref q3, .ref q4, .null, .null, .null, .null, .int 0, .null, .null, .null])), (q1, .inl (c1, 60, .inl (fun _ => 0))), (q2, .inl (c1, 60, .inl (fun _ => 0))), (q3, .inl (c3, 60, .inl (fun _ => 0))), (q4, .inl (c1, 60, .inl (fun _ => 0)))] H := hP
  have hD : va_D A [(a0, .inr (1, [.int 0, .ref q1, .ref q2, .ref q3, .ref q4, .null, .null, .null, .null, .int 0, .null, .null, .null])), (q1, .inl (c1, 60, .inl (fun _ => 0))), (q2, .inl (c1, 60, .inl (fun _ => 0))), (q3, .inl (c3, 60, .inl (fun _ => 0))), (q4, .inl (c1, 60, .inl (fun _ => 0)))] := hD
  refine lv_aload_n (pc := 36) S.1 S.2.1 dX1_init_36 rfl (lv_at hl 0 rfl) ?_
  refine lv_bipush (pc := 37) (v := nI 60) S.1 S.2.1 dX1_init_37 (by decide) ?_
  refine va_newa (pc := 39) (D := D) (atype := .int) (ty := .int) (N' := 60) (a0 := (60, .inl (fun _ => 0))) S.1 S.2.1 (S.2.2.2.2 _ q79) rfl hK hP hD hS hA (fun cA => rfl) (nI_pos (by decide)) (nI_clamp (by decide)) (by decide) (by rw [hR]; decide) (by rw [hR]; decide) dX1_init_39 (fun q5 c5 H hK hP hD hS => ?_)
  refine W.cs (cells' := 5) (slots' := 300) rfl rfl ?_
  have hK : va_K D vwCl [(c1, .int), (c3, .boolean), (c5, .int)] s := hK
  obtain rfl : c1 = c5 := Option.some.inj ((show s.vm.findClass ("[" ++ FieldType.int.toString) = some c1 from (hK.2 0 _ rfl).2).symm.trans (show s.vm.findClass ("[" ++ FieldType.int.toString) = some c5 from (hK.2 2 _ rfl).2))
  have hK := hK.sub (tys' := [(c1, .int), (c3, .boolean)]) [0, 1] rfl
  have hP : va_P D vwCl [(a0, .inr (1, [.int 0, .ref q1, .ref q2, .ref q3, .ref q4, .null, .null, .null, .null, .int 0, .null, .null, .null])), (q1, .inl (c1, 60, .inl (fun _ => 0))), (q2, .inl (c1, 60, .inl (fun _ => 0))), (q3, .inl (c3, 60, .inl (fun _ => 0))), (q4, .inl (c1, 60, .inl (fun _ => 0))), (q5, .inl (c1, 60, .inl (fun _ => 0)))] H := hP
  have hD : va_D A [(a0, .inr (1, [.int 0, .ref q1, .ref q2, .ref q3, .ref q4, .null, .null, .null, .null, .int 0, .null, .null, .null])), (q1, .inl (c1, 60, .inl (fun _ => 0))), (q2, .inl (c1, 60, .inl (fun _ => 0))), (q3, .inl (c3, 60, .inl (fun _ => 0))), (q4, .inl (c1, 60, .inl (fun _ => 0))), (q5, .inl (c1, 60, .inl (fun _ => 0)))] := hD
  refine va_putF (pc := 41) (D := D) (ci := 1) (v := .ref q5) (ty := .array .int) (C := RX1) (T := TX1) (N := 13) S.1 S.2.1 S.2.2.2.2 in_X1 tyX1 tyX1_ok nmX1 S.2.2.2.1 hK hP hD hS 0 rfl rfl 5 (by decide) (S.2.2.2.2 _ q165) (fun _ h9 => h9) rfl hin rfl (by decide +kernel) rfl rfl (Nat.le_of_ble_eq_true rfl) dX1_init_41 (fun H locs hP hD hS => ?_)
  have hP : va_P D vwCl [(a0, .inr (1, [.int 0, .ref q1, .ref q2, .ref q3, .ref q4, .ref q5, .null, .null, .null, .int 0, .null, .null, .null])), (q1, .inl (c1, 60, .inl (fun _ => 0))), (q2, .inl (c1, 60, .inl (fun _ => 0))), (q3, .inl (c3, 60, .inl (fun _ => 0))), (q4, .inl (c1, 60, .inl (fun _ => 0))), (q5, .inl (c1, 60, .inl (fun _ => 0)))] H := hP
  have hD : va_D A [(a0, .inr (1, [.int 0, .ref q1, .ref q2, .ref q3, .ref q4, .ref q5, .null, .null, .null, .int 0, .null, .null, .null])), (q1, .inl (c1, 60, .inl (fun _ => 0))), (q2, .inl (c1, 60, .inl (fun _ => 0))), (q3, .inl (c3, 60, .inl (fun _ => 0))), (q4, .inl (c1, 60, .inl (fun _ => 0))), (q5, .inl (c1, 60, .inl (fun _ => 0)))] := hD
  refine lv_aload_n (pc := 44) S.1 S.2.1 dX1_init_44 rfl (lv_at hl 0 rfl) ?_
  refine lv_sipush (pc := 45) (v := nI 180) S.1 S.2.1 dX1_init_45 (by decide) ?_
  refine va_newa (pc := 48) (D := D) (atype := .boolean) (ty := .boolean) (N' := 180) (a0 := (180, .inl (fun _ => 0))) S.1 S.2.1 (S.2.2.2.2 _ q78) rfl hK hP hD hS hA (fun cA => rfl) (nI_pos (by decide)) (nI_clamp (by decide)) (by decide) (by rw [hR]; decide) (by rw [hR]; decide) dX1_init_48 (fun q6 c6 H hK hP hD hS => ?_)
  refine W.cs (cells' := 6) (slots' := 480) rfl rfl ?_
  have hK : va_K D vwCl [(c1, .int), (c3, .boolean), (c6, .boolean)] s := hK
  obtain rfl : c3 = c6 := Option.some.inj ((show s.vm.findClass ("[" ++ FieldType.boolean.toString) = some c3 from (hK.2 1 _ rfl).2).symm.trans (show s.vm.findClass ("[" ++ FieldType.boolean.toString) = some c6 from (hK.2 2 _ rfl).2))
  have hK := hK.sub (tys' := [(c1, .int), (c3, .boolean)]) [0, 1] rfl
  have hP : va_P D vwCl [(a0, .inr (1, [.int 0, .ref q1, .ref q2, .ref q3, .ref q4, .ref q5, .null, .null, .null, .int 0, .null, .null, .null])), (q1, .inl (c1, 60, .inl (fun _ => 0))), (q2, .inl (c1, 60, .inl (fun _ => 0))), (q3, .inl (c3, 60, .inl (fun _ => 0))), (q4, .inl (c1, 60, .inl (fun _ => 0))), (q5, .inl (c1, 60, .inl (fun _ => 0))), (q6, .inl (c3, 180, .inl (fun _ => 0)))] H := hP
  have hD : va_D A [(a0, .inr (1, [.int 0, .ref q1, .ref q2, .ref q3, .ref q4, .ref q5, .null, .null, .null, .int 0, .null, .null, .null])), (q1, .inl (c1, 60, .inl (fun _ => 0))), (q2, .inl (c1, 60, .inl (fun _ => 0))), (q3, .inl (c3, 60, .inl (fun _ => 0))), (q4, .inl (c1, 60, .inl (fun _ => 0))), (q5, .inl (c1, 60, .inl (fun _ => 0))), (q6, .inl (c3, 180, .inl (fun _ => 0)))] := hD
  refine va_putF (pc := 50) (D := D) (ci := 1) (v := .ref q6) (ty := .array .boolean) (C := RX1) (T := TX1) (N := 13) S.1 S.2.1 S.2.2.2.2 in_X1 tyX1 tyX1_ok nmX1 S.2.2.2.1 hK hP hD hS 0 rfl rfl 6 (by decide) (S.2.2.2.2 _ q166) (fun _ h9 => h9) rfl hin rfl (by decide +kernel) rfl rfl (Nat.le_of_ble_eq_true rfl) dX1_init_50 (fun H locs hP hD hS => ?_)
  have hP : va_P D vwCl [(a0, .inr (1, [.int 0, .ref q1, .ref q2, .ref q3, .ref q4, .ref q5, .ref q6, .null, .null, .int 0, .null, .null, .null])), (q1, .inl (c1, 60, .inl (fun _ => 0))), (q2, .inl (c1, 60, .inl (fun _ => 0))), (q3, .inl (c3, 60, .inl (fun _ => 0))), (q4, .inl (c1, 60, .inl (fun _ => 0))), (q5, .inl (c1, 60, .inl (fun _ => 0))), (q6, .inl (c3, 180, .inl (fun _ => 0)))] H := hP
  have hD : va_D A [(a0, .inr (1, [.int 0, .ref q1, .ref q2, .ref q3, .ref q4, .ref q5, .ref q6, .null, .null, .int 0, .null, .null, .null])), (q1, .inl (c1, 60, .inl (fun _ => 0))), (q2, .inl (c1, 60, .inl (fun _ => 0))), (q3, .inl (c3, 60, .inl (fun _ => 0))), (q4, .inl (c1, 60, .inl (fun _ => 0))), (q5, .inl (c1, 60, .inl (fun _ => 0))), (q6, .inl (c3, 180, .inl (fun _ => 0)))] := hD
  refine lv_aload_n (pc := 53) S.1 S.2.1 dX1_init_53 rfl (lv_at hl 0 rfl) ?_
  refine lv_bipush (pc := 54) (v := nI 10) S.1 S.2.1 dX1_init_54 (by decide) ?_
  refine va_newa (pc := 56) (D := D) (atype := .int) (ty := .int) (N' := 10) (a0 := (10, .inl (fun _ => 0))) S.1 S.2.1 (S.2.2.2.2 _ q79) rfl hK hP hD hS hA (fun cA => rfl) (nI_pos (by decide)) (nI_clamp (by decide)) (by decide) (by rw [hR]; decide) (by rw [hR]; decide) dX1_init_56 (fun q7 c7 H hK hP hD hS => ?_)
  refine W.cs (cells' := 7) (slots' := 490) rfl rfl ?_
  have hK : va_K D vwCl [(c1, .int), (c3, .boolean), (c7, .int)] s := hK
  obtain rfl : c1 = c7 := Option.some.inj ((show s.vm.findClass ("[" ++ FieldType.int.toString) = some c1 from (hK.2 0 _ rfl).2).symm.trans (show s.vm.findClass ("[" ++ FieldType.int.toString) = some c7 from (hK.2 2 _ rfl).2))
  have hK := hK.sub (tys' := [(c1, .int), (c3, .boolean)]) [0, 1] rfl
  have hP : va_P D vwCl [(a0, .inr (1, [.int 0, .ref q1, .ref q2, .ref q3, .ref q4, .ref q5, .ref q6, .null, .null, .int 0, .null, .null, .null])), (q1, .inl (c1, 60, .inl (fun _ => 0))), (q2, .inl (c1, 60, .inl (fun _ => 0))), (q3, .inl (c3, 60, .inl (fun _ => 0))), (q4, .inl (c1, 60, .inl (fun _ => 0))), (q5, .inl (c1, 60, .inl (fun _ => 0))), (q6, .inl (c3, 180, .inl (fun _ => 0))), (q7, .inl (c1, 10, .inl (fun _ => 0)))] H := hP
  have hD : va_D A [(a0, .inr (1, [.int 0, .ref q1, .ref q2, .ref q3, .ref q4, .ref q5, .ref q6, .null, .null, .int 0, .null, .null, .null])), (q1, .inl (c1, 60, .inl (fun _ => 0))), (q2, .inl (c1, 60, .inl (fun _ => 0))), (q3, .inl (c3, 60, .inl (fun _ => 0))), (q4, .inl (c1, 60, .inl (fun _ => 0))), (q5, .inl (c1, 60, .inl (fun _ => 0))), (q6, .inl (c3, 180, .inl (fun _ => 0))), (q7, .inl (c1, 10, .inl (fun _ => 0)))] := hD
  refine va_putF (pc := 58) (D := D) (ci := 1) (v := .ref q7) (ty := .array .int) (C := RX1) (T := TX1) (N := 13) S.1 S.2.1 S.2.2.2.2 in_X1 tyX1 tyX1_ok nmX1 S.2.2.2.1 hK hP hD hS 0 rfl rfl 7 (by decide) (S.2.2.2.2 _ q167) (fun _ h9 => h9) rfl hin rfl (by decide +kernel) rfl rfl (Nat.le_of_ble_eq_true rfl) dX1_init_58 (fun H locs hP hD hS => ?_)
  have hP : va_P D vwCl [(a0, .inr (1, [.int 0, .ref q1, .ref q2, .ref q3, .ref q4, .ref q5, .ref q6, .ref q7, .null, .int 0, .null, .null, .null])), (q1, .inl (c1, 60, .inl (fun _ => 0))), (q2, .inl (c1, 60, .inl (fun _ => 0))), (q3, .inl (c3, 60, .inl (fun _ => 0))), (q4, .inl (c1, 60, .inl (fun _ => 0))), (q5, .inl (c1, 60, .inl (fun _ => 0))), (q6, .inl (c3, 180, .inl (fun _ => 0))), (q7, .inl (c1, 10, .inl (fun _ => 0)))] H := hP
  have hD : va_D A [(a0, .inr (1, [.int 0, .ref q1, .ref q2, .ref q3, .ref q4, .ref q5, .ref q6, .ref q7, .null, .int 0, .null, .null, .null])), (q1, .inl (c1, 60, .inl (fun _ => 0))), (q2, .inl (c1, 60, .inl (fun _ => 0))), (q3, .inl (c3, 60, .inl (fun _ => 0))), (q4, .inl (c1, 60, .inl (fun _ => 0))), (q5, .inl (c1, 60, .inl (fun _ => 0))), (q6, .inl (c3, 180, .inl (fun _ => 0))), (q7, .inl (c1, 10, .inl (fun _ => 0)))] := hD
  refine lv_aload_n (pc := 61) S.1 S.2.1 dX1_init_61 rfl (lv_at hl 0 rfl) ?_
  refine lv_bipush (pc := 62) (v := nI 10) S.1 S.2.1 dX1_init_62 (by decide) ?_
  refine va_newa (pc := 64) (D := D) (atype := .int) (ty := .int) (N' := 10) (a0 := (10, .inl (fun _ => 0))) S.1 S.2.1 (S.2.2.2.2 _ q79) rfl hK hP hD hS hA (fun cA => rfl) (nI_pos (by decide)) (nI_clamp (by decide)) (by decide) (by rw [hR]; decide) (by rw [hR]; decide) dX1_init_64 (fun q8 c8 H hK hP hD hS => ?_)
  refine W.cs (cells' := 8) (slots' := 500) rfl rfl ?_
  have hK : va_K D vwCl [(c1, .int), (c3, .boolean), (c8, .int)] s := hK
  obtain rfl : c1 = c8 := Option.some.inj ((show s.vm.findClass ("[" ++ FieldType.int.toString) = some c1 from (hK.2 0 _ rfl).2).symm.trans (show s.vm.findClass ("[" ++ FieldType.int.toString) = some c8 from (hK.2 2 _ rfl).2))
  have hK := hK.sub (tys' := [(c1, .int), (c3, .boolean)]) [0, 1] rfl
  have hP : va_P D vwCl [(a0, .inr (1, [.int 0, .ref q1, .ref q2, .ref q3, .ref q4, .ref q5, .ref q6, .ref q7, .null, .int 0, .null, .null, .null])), (q1, .inl (c1, 60, .inl (fun _ => 0))), (q2, .inl (c1, 60, .inl (fun _ => 0))), (q3, .inl (c3, 60, .inl (fun _ => 0))), (q4, .inl (c1, 60, .inl (fun _ => 0))), (q5, .inl (c1, 60, .inl (fun _ => 0))), (q6, .inl (c3, 180, .inl (fun _ => 0))), (q7, .inl (c1, 10, .inl (fun _ => 0))), (q8, .inl (c1, 10, .inl (fun _ => 0)))] H := hP
  have hD : va_D A [(a0, .inr (1, [.int 0, .ref q1, .ref q2, .ref q3, .ref q4, .ref q5, .ref q6, .ref q7, .null, .int 0, .null, .null, .null])), (q1, .inl (c1, 60, .inl (fun _ => 0))), (q2, .inl (c1, 60, .inl (fun _ => 0))), (q3, .inl (c3, 60, .inl (fun _ => 0))), (q4, .inl (c1, 60, .inl (fun _ => 0))), (q5, .inl (c1, 60, .inl (fun _ => 0))), (q6, .inl (c3, 180, .inl (fun _ => 0))), (q7, .inl (c1, 10, .inl (fun _ => 0))), (q8, .inl (c1, 10, .inl (fun _ => 0)))] := hD
  refine va_putF (pc := 66) (D := D) (ci := 1) (v := .ref q8) (ty := .array .int) (C := RX1) (T := TX1) (N := 13) S.1 S.2.1 S.2.2.2.2 in_X1 tyX1 tyX1_ok nmX1 S.2.2.2.1 hK hP hD hS 0 rfl rfl 8 (by decide) (S.2.2.2.2 _ q168) (fun _ h9 => h9) rfl hin rfl (by decide +kernel) rfl rfl (Nat.le_of_ble_eq_true rfl) dX1_init_66 (fun H locs hP hD hS => ?_)
  have hP : va_P D vwCl [(a0, .inr (1, [.int 0, .ref q1, .ref q2, .ref q3, .ref q4, .ref q5, .ref q6, .ref q7, .ref q8, .int 0, .null, .null, .null])), (q1, .inl (c1, 60, .inl (fun _ => 0))), (q2, .inl (c1, 60, .inl (fun _ => 0))), (q3, .inl (c3, 60, .inl (fun _ => 0))), (q4, .inl (c1, 60, .inl (fun _ => 0))), (q5, .inl (c1, 60, .inl (fun _ => 0))), (q6, .inl (c3, 180, .inl (fun _ => 0))), (q7, .inl (c1, 10, .inl (fun _ => 0))), (q8, .inl (c1, 10, .inl (fun _ => 0)))] H := hP
  have hD : va_D A [(a0, .inr (1, [.int 0, .ref q1, .ref q2, .ref q3, .ref q4, .ref q5, .ref q6, .ref q7, .ref q8, .int 0, .null, .null, .null])), (q1, .inl (c1, 60, .inl (fun _ => 0))), (q2, .inl (c1, 60, .inl (fun _ => 0))), (q3, .inl (c3, 60, .inl (fun _ => 0))), (q4, .inl (c1, 60, .inl (fun _ => 0))), (q5, .inl (c1, 60, .inl (fun _ => 0))), (q6, .inl (c3, 180, .inl (fun _ => 0))), (q7, .inl (c1, 10, .inl (fun _ => 0))), (q8, .inl (c1, 10, .inl (fun _ => 0)))] := hD
  refine lv_aload_n (pc := 69) S.1 S.2.1 dX1_init_69 rfl (lv_at hl 0 rfl) ?_
  refine lv_bipush (pc := 70) (v := nI 60) S.1 S.2.1 dX1_init_70 (by decide) ?_
  refine va_newa (pc := 72) (D := D) (atype := .boolean) (ty := .boolean) (N' := 60) (a0 := (60, .inl (fun _ => 0))) S.1 S.2.1 (S.2.2.2.2 _ q78) rfl hK hP hD hS hA (fun cA => rfl) (nI_pos (by decide)) (nI_clamp (by decide)) (by decide) (by rw [hR]; decide) (by rw [hR]; decide) dX1_init_72 (fun q10 c10 H hK hP hD hS => ?_)
  refine W.cs (cells' := 9) (slots' := 560) rfl rfl ?_
  have hK : va_K D vwCl [(c1, .int), (c3, .boolean), (c10, .boolean)] s := hK
  obtain rfl : c3 = c10 := Option.some.inj ((show s.vm.findClass ("[" ++ FieldType.boolean.toString) = some c3 from (hK.2 1 _ rfl).2).symm.trans (show s.vm.findClass ("[" ++ FieldType.boolean.toString) = some c10 from (hK.2 2 _ rfl).2))
  have hK := hK.sub (tys' := [(c1, .int), (c3, .boolean)]) [0, 1] rfl
  have hP : va_P D vwCl [(a0, .inr (1, [.int 0, .ref q1, .ref q2, .ref q3, .ref q4, .ref q5, .ref q6, .ref q7, .ref q8, .int 0, .null, .null, .null])), (q1, .inl (c1, 60, .inl (fun _ => 0))), (q2, .inl (c1, 60, .inl (fun _ => 0))), (q3, .inl (c3, 60, .inl (fun _ => 0))), (q4, .inl (c1, 60, .inl (fun _ => 0))), (q5, .inl (c1, 60, .inl (fun _ => 0))), (q6, .inl (c3, 180, .inl (fun _ => 0))), (q7, .inl (c1, 10, .inl (fun _ => 0))), (q8, .inl (c1, 10, .inl (fun _ => 0))), (q10, .inl (c3, 60, .inl (fun _ => 0)))] H := hP
  have hD : va_D A [(a0, .inr (1, [.int 0, .ref q1, .ref q2, .ref q3, .ref q4, .ref q5, .ref q6, .ref q7, .ref q8, .int 0, .null, .null, .null])), (q1, .inl (c1, 60, .inl (fun _ => 0))), (q2, .inl (c1, 60, .inl (fun _ => 0))), (q3, .inl (c3, 60, .inl (fun _ => 0))), (q4, .inl (c1, 60, .inl (fun _ => 0))), (q5, .inl (c1, 60, .inl (fun _ => 0))), (q6, .inl (c3, 180, .inl (fun _ => 0))), (q7, .inl (c1, 10, .inl (fun _ => 0))), (q8, .inl (c1, 10, .inl (fun _ => 0))), (q10, .inl (c3, 60, .inl (fun _ => 0)))] := hD
  refine va_putF (pc := 74) (D := D) (ci := 1) (v := .ref q10) (ty := .array .boolean) (C := RX1) (T := TX1) (N := 13) S.1 S.2.1 S.2.2.2.2 in_X1 tyX1 tyX1_ok nmX1 S.2.2.2.1 hK hP hD hS 0 rfl rfl 10 (by decide) (S.2.2.2.2 _ q170) (fun _ h9 => h9) rfl hin rfl (by decide +kernel) rfl rfl (Nat.le_of_ble_eq_true rfl) dX1_init_74 (fun H locs hP hD hS => ?_)
  have hP : va_P D vwCl [(a0, .inr (1, [.int 0, .ref q1, .ref q2, .ref q3, .ref q4, .ref q5, .ref q6, .ref q7, .ref q8, .int 0, .ref q10, .null, .null])), (q1, .inl (c1, 60, .inl (fun _ => 0))), (q2, .inl (c1, 60, .inl (fun _ => 0))), (q3, .inl (c3, 60, .inl (fun _ => 0))), (q4, .inl (c1, 60, .inl (fun _ => 0))), (q5, .inl (c1, 60, .inl (fun _ => 0))), (q6, .inl (c3, 180, .inl (fun _ => 0))), (q7, .inl (c1, 10, .inl (fun _ => 0))), (q8, .inl (c1, 10, .inl (fun _ => 0))), (q10, .inl (c3, 60, .inl (fun _ => 0)))] H := hP
  have hD : va_D A [(a0, .inr (1, [.int 0, .ref q1, .ref q2, .ref q3, .ref q4, .ref q5, .ref q6, .ref q7, .ref q8, .int 0, .ref q10, .null, .null])), (q1, .inl (c1, 60, .inl (fun _ => 0))), (q2, .inl (c1, 60, .inl (fun _ => 0))), (q3, .inl (c3, 60, .inl (fun _ => 0))), (q4, .inl (c1, 60, .inl (fun _ => 0))), (q5, .inl (c1, 60, .inl (fun _ => 0))), (q6, .inl (c3, 180, .inl (fun _ => 0))), (q7, .inl (c1, 10, .inl (fun _ => 0))), (q8, .inl (c1, 10, .inl (fun _ => 0))), (q10, .inl (c3, 60, .inl (fun _ => 0)))] := hD
  refine lv_aload_n (pc := 77) S.1 S.2.1 dX1_init_77 rfl (lv_at hl 0 rfl) ?_
  refine lv_bipush (pc := 78) (v := nI 10) S.1 S.2.1 dX1_init_78 (by decide) ?_
  refine va_newa (pc := 80) (D := D) (atype := .int) (ty := .int) (N' := 10) (a0 := (10, .inl (fun _ => 0))) S.1 S.2.1 (S.2.2.2.2 _ q79) rfl hK hP hD hS hA (fun cA => rfl) (nI_pos (by decide)) (nI_clamp (by decide)) (by decide) (by rw [hR]; decide) (by rw [hR]; decide) dX1_init_80 (fun q11 c11 H hK hP hD hS => ?_)
  refine W.cs (cells' := 10) (slots' := 570) rfl rfl ?_
  have hK : va_K D vwCl [(c1, .int), (c3, .boolean), (c11, .int)] s := hK
  obtain rfl : c1 = c11 := Option.some.inj ((show s.vm.findClass ("[" ++ FieldType.int.toString) = some c1 from (hK.2 0 _ rfl).2).symm.trans (show s.vm.findClass ("[" ++ FieldType.int.toString) = some c11 from (hK.2 2 _ rfl).2))
  have hK := hK.sub (tys' := [(c1, .int), (c3, .boolean)]) [0, 1] rfl
  have hP : va_P D vwCl [(a0, .inr (1, [.int 0, .ref q1, .ref q2, .ref q3, .ref q4, .ref q5, .ref q6, .ref q7, .ref q8, .int 0, .ref q10, .null, .null])), (q1, .inl (c1, 60, .inl (fun _ => 0))), (q2, .inl (c1, 60, .inl (fun _ => 0))), (q3, .inl (c3, 60, .inl (fun _ => 0))), (q4, .inl (c1, 60, .inl (fun _ => 0))), (q5, .inl (c1, 60, .inl (fun _ => 0))), (q6, .inl (c3, 180, .inl (fun _ => 0))), (q7, .inl (c1, 10, .inl (fun _ => 0))), (q8, .inl (c1, 10, .inl (fun _ => 0))), (q10, .inl (c3, 60, .inl (fun _ => 0))), (q11, .inl (c1, 10, .inl (fun _ => 0)))] H := hP
  have hD : va_D A [(a0, .inr (1, [.int 0, .ref q1, .ref q2, .ref q3, .ref q4, .ref q5, .ref q6, .ref q7, .ref q8, .int 0, .ref q10, .null, .null])), (q1, .inl (c1, 60, .inl (fun _ => 0))), (q2, .inl (c1, 60, .inl (fun _ => 0))), (q3, .inl (c3, 60, .inl (fun _ => 0))), (q4, .inl (c1, 60, .inl (fun _ => 0))), (q5, .inl (c1, 60, .inl (fun _ => 0))), (q6, .inl (c3, 180, .inl (fun _ => 0))), (q7, .inl (c1, 10, .inl (fun _ => 0))), (q8, .inl (c1, 10, .inl (fun _ => 0))), (q10, .inl (c3, 60, .inl (fun _ => 0))), (q11, .inl (c1, 10, .inl (fun _ => 0)))] := hD
  refine va_putF (pc := 82) (D := D) (ci := 1) (v := .ref q11) (ty := .array .int) (C := RX1) (T := TX1) (N := 13) S.1 S.2.1 S.2.2.2.2 in_X1 tyX1 tyX1_ok nmX1 S.2.2.2.1 hK hP hD hS 0 rfl rfl 11 (by decide) (S.2.2.2.2 _ q171) (fun _ h9 => h9) rfl hin rfl (by decide +kernel) rfl rfl (Nat.le_of_ble_eq_true rfl) dX1_init_82 (fun H locs hP hD hS => ?_)
  have hP : va_P D vwCl [(a0, .inr (1, [.int 0, .ref q1, .ref q2, .ref q3, .ref q4, .ref q5, .ref q6, .ref q7, .ref q8, .int 0, .ref q10, .ref q11, .null])), (q1, .inl (c1, 60, .inl (fun _ => 0))), (q2, .inl (c1, 60, .inl (fun _ => 0))), (q3, .inl (c3, 60, .inl (fun _ => 0))), (q4, .inl (c1, 60, .inl (fun _ => 0))), (q5, .inl (c1, 60, .inl (fun _ => 0))), (q6, .inl (c3, 180, .inl (fun _ => 0))), (q7, .inl (c1, 10, .inl (fun _ => 0))), (q8, .inl (c1, 10, .inl (fun _ => 0))), (q10, .inl (c3, 60, .inl (fun _ => 0))), (q11, .inl (c1, 10, .inl (fun _ => 0)))] H := hP
  have hD : va_D A [(a0, .inr (1, [.int 0, .ref q1, .ref q2, .ref q3, .ref q4, .ref q5, .ref q6, .ref q7, .ref q8, .int 0, .ref q10, .ref q11, .null])), (q1, .inl (c1, 60, .inl (fun _ => 0))), (q2, .inl (c1, 60, .inl (fun _ => 0))), (q3, .inl (c3, 60, .inl (fun _ => 0))), (q4, .inl (c1, 60, .inl (fun _ => 0))), (q5, .inl (c1, 60, .inl (fun _ => 0))), (q6, .inl (c3, 180, .inl (fun _ => 0))), (q7, .inl (c1, 10, .inl (fun _ => 0))), (q8, .inl (c1, 10, .inl (fun _ => 0))), (q10, .inl (c3, 60, .inl (fun _ => 0))), (q11, .inl (c1, 10, .inl (fun _ => 0)))] := hD
  refine lv_aload_n (pc := 85) S.1 S.2.1 dX1_init_85 rfl (lv_at hl 0 rfl) ?_
  refine lv_bipush (pc := 86) (v := nI 10) S.1 S.2.1 dX1_init_86 (by decide) ?_
  refine va_newa (pc := 88) (D := D) (atype := .int) (ty := .int) (N' := 10) (a0 := (10, .inl (fun _ => 0))) S.1 S.2.1 (S.2.2.2.2 _ q79) rfl hK hP hD hS hA (fun cA => rfl) (nI_pos (by decide)) (nI_clamp (by decide)) (by decide) (by rw [hR]; decide) (by rw [hR]; decide) dX1_init_88 (fun q12 c12 H hK hP hD hS => ?_)
  refine W.cs (cells' := 11) (slots' := 580) rfl rfl ?_
  have hK : va_K D vwCl [(c1, .int), (c3, .boolean), (c12, .int)] s := hK
  obtain rfl : c1 = c12 := Option.some.inj ((show s.vm.findClass ("[" ++ FieldType.int.toString) = some c1 from (hK.2 0 _ rfl).2).symm.trans (show s.vm.findClass ("[" ++ FieldType.int.toString) = some c12 from (hK.2 2 _ rfl).2))
  have hK := hK.sub (tys' := [(c1, .int), (c3, .boolean)]) [0, 1] rfl
  have hP : va_P D vwCl [(a0, .inr (1, [.int 0, .ref q1, .ref q2, .ref q3, .ref q4, .ref q5, .ref q6, .ref q7, .ref q8, .int 0, .ref q10, .ref q11, .null])), (q1, .inl (c1, 60, .inl (fun _ => 0))), (q2, .inl (c1, 60, .inl (fun _ => 0))), (q3, .inl (c3, 60, .inl (fun _ => 0))), (q4, .inl (c1, 60, .inl (fun _ => 0))), (q5, .inl (c1, 60, .inl (fun _ => 0))), (q6, .inl (c3, 180, .inl (fun _ => 0))), (q7, .inl (c1, 10, .inl (fun _ => 0))), (q8, .inl (c1, 10, .inl (fun _ => 0))), (q10, .inl (c3, 60, .inl (fun _ => 0))), (q11, .inl (c1, 10, .inl (fun _ => 0))), (q12, .inl (c1, 10, .inl (fun _ => 0)))] H := hP
  have hD : va_D A [(a0, .inr (1, [.int 0, .ref q1, .ref q2, .ref q3, .ref q4, .ref q5, .ref q6, .ref q7, .ref q8, .int 0, .ref q10, .ref q11, .null])), (q1, .inl (c1, 60, .inl (fun _ => 0))), (q2, .inl (c1, 60, .inl (fun _ => 0))), (q3, .inl (c3, 60, .inl (fun _ => 0))), (q4, .inl (c1, 60, .inl (fun _ => 0))), (q5, .inl (c1, 60, .inl (fun _ => 0))), (q6, .inl (c3, 180, .inl (fun _ => 0))), (q7, .inl (c1, 10, .inl (fun _ => 0))), (q8, .inl (c1, 10, .inl (fun _ => 0))), (q10, .inl (c3, 60, .inl (fun _ => 0))), (q11, .inl (c1, 10, .inl (fun _ => 0))), (q12, .inl (c1, 10, .inl (fun _ => 0)))] := hD
  refine va_putF (pc := 90) (D := D) (ci := 1) (v := .ref q12) (ty := .array .int) (C := RX1) (T := TX1) (N := 13) S.1 S.2.1 S.2.2.2.2 in_X1 tyX1 tyX1_ok nmX1 S.2.2.2.1 hK hP hD hS 0 rfl rfl 12 (by decide) (S.2.2.2.2 _ q172) (fun _ h9 => h9) rfl hin rfl (by decide +kernel) rfl rfl (Nat.le_of_ble_eq_true rfl) dX1_init_90 (fun H locs hP hD hS => ?_)
  have hP : va_P D vwCl [(a0, .inr (1, [.int 0, .ref q1, .ref q2, .ref q3, .ref q4, .ref q5, .ref q6, .ref q7, .ref q8, .int 0, .ref q10, .ref q11, .ref q12])), (q1, .inl (c1, 60, .inl (fun _ => 0))), (q2, .inl (c1, 60, .inl (fun _ => 0))), (q3, .inl (c3, 60, .inl (fun _ => 0))), (q4, .inl (c1, 60, .inl (fun _ => 0))), (q5, .inl (c1, 60, .inl (fun _ => 0))), (q6, .inl (c3, 180, .inl (fun _ => 0))), (q7, .inl (c1, 10, .inl (fun _ => 0))), (q8, .inl (c1, 10, .inl (fun _ => 0))), (q10, .inl (c3, 60, .inl (fun _ => 0))), (q11, .inl (c1, 10, .inl (fun _ => 0))), (q12, .inl (c1, 10, .inl (fun _ => 0)))] H := hP
  have hD : va_D A [(a0, .inr (1, [.int 0, .ref q1, .ref q2, .ref q3, .ref q4, .ref q5, .ref q6, .ref q7, .ref q8, .int 0, .ref q10, .ref q11, .ref q12])), (q1, .inl (c1, 60, .inl (fun _ => 0))), (q2, .inl (c1, 60, .inl (fun _ => 0))), (q3, .inl (c3, 60, .inl (fun _ => 0))), (q4, .inl (c1, 60, .inl (fun _ => 0))), (q5, .inl (c1, 60, .inl (fun _ => 0))), (q6, .inl (c3, 180, .inl (fun _ => 0))), (q7, .inl (c1, 10, .inl (fun _ => 0))), (q8, .inl (c1, 10, .inl (fun _ => 0))), (q10, .inl (c3, 60, .inl (fun _ => 0))), (q11, .inl (c1, 10, .inl (fun _ => 0))), (q12, .inl (c1, 10, .inl (fun _ => 0)))] := hD
  have hK := hK.sub (tys' := zty c3 c1) [1, 0] rfl
  obtain ⟨h0, eh⟩ : ∃ h0 : Nat → Nat, h0 = fun k => [a0, q1, q2, q3, q4, q5, q6, q7, q8, a0, q10, q11, q12].getD k 0 := ⟨_, rfl⟩
  have hW : MS D h0 c3 c1 s A H locs (fun _ _ => 0) (fun _ _ => 0) := by subst eh; exact ⟨hK, hP, hD, hS⟩
  have e0 : h0 0 = a0 := by subst eh; rfl
  exact hret (h0, (c3, c1), fun _ _ => 0) H locs ls 93 (fun t ht hM9 => ⟨by rw [ht]; exact hW.2.1, va_K.moved hM9 hW.1, hW.2.2.1⟩) e0 hW.2.2.2 dX1_init_93
end
section
/-! the component and the model side by side: the plain side -/
set_option maxRecDepth 100000
def mt_CI (g : Nat → Nat → Nat) (f : Nat → Nat → Int32) (g2 : Nat → Nat → Nat) (f2 : Nat → Nat → Int32) : Prop := g2 0 0 = g 0 0 ∧ (∀ c, c < g 0 0 → g2 1 c = g 5 c ∧ g2 2 c = g 4 c ∧ mt_mc g2 f2 c = mt_c g f c) ∧ (∀ r c, r < 3 → c < 60 → g2 6 (60 * r + c) < 2 ∧ (¬ g2 6 (60 * r + c) = 0 ↔ c < g 0 0 ∧ mt_kn g r c))
theorem mt_CI_congr {g g2 g3 : Nat → Nat → Nat} {f f2 f3 : Nat → Nat → Int32} (h0 : g3 0 = g2 0) (h1 : g3 1 = g2 1) (h2 : g3 2 = g2 2) (h3 : g3 3 = g2 3) (h4 : g3 4 = g2 4) (h6 : g3 6 = g2 6) (h5 : f3 5 = f2 5) (h : mt_CI g f g2 f2) : mt_CI g f g3 f3 := by
  unfold mt_CI mt_mc at *
  rw [h0, h1, h2, h3, h4, h5, h6]
  exact h
theorem mt_CI_CO {g g2 : Nat → Nat → Nat} {f f2 : Nat → Nat → Int32} {lg : Nat → Nat} {n : Nat} {u : zU} (h : mt_CI g f g2 f2) (hc : mt_CO g2 f2 lg n u) : mt_CI g f u.1 u.2 :=
  mt_CI_congr (hc.1 0 (by decide) (by decide)) (hc.1 1 (by decide) (by decide)) (hc.1 2 (by decide) (by decide)) (hc.1 3 (by decide) (by decide)) (hc.1 4 (by decide) (by decide)) (hc.1 6 (by decide) (by decide)) (hc.2.1 5 (by decide) (by decide)) h
theorem mt_CI_LV {g g2 : Nat → Nat → Nat} {f f2 : Nat → Nat → Int32} {r : Nat} (hX : mt_XI g f) (hC : mt_CI g f g2 f2) (hr : r < 3) : mt_LV g2 f2 r (fun k => g 12 (60 * r + k)) (g 11 r) := by
  obtain ⟨c1, c2, c3⟩ := hC
  have hR := (hX.2 r hr).1
  have hln := mt_RV_ln hX.1 hR
  have hM := hX.1.1
  refine ⟨by omega, by omega, fun k hk => ?_, fun j k hj hk => ?_, fun c hc h6 => ?_, fun c hc => ?_⟩
  · have h := hR.2.2.2.2.1 k hk
    exact ⟨by rw [c1]; exact h.1, (c3 r (g 12 (60 * r + k)) hr (by omega)).2.mpr h⟩
  · have h := hR.2.2.2.2.2.1 j k hj hk
    have h1 := (hR.2.2.2.2.1 j (by omega)).1
    have h2 := (hR.2.2.2.2.1 k hk).1
    unfold mt_ea at h ⊢
    rw [(c2 _ h1).1, (c2 _ h1).2.1, (c2 _ h2).1, (c2 _ h2).2.1]
    exact h
  · rw [c1] at hc
    have h := (c3 r c hr (by omega)).2.mp h6
    exact hR.2.2.2.2.2.2.1 c h.1 h.2
  · rw [c1] at hc
    obtain ⟨s1, s2, s3, s4, s5⟩ := hX.1.2.1 c hc
    obtain ⟨z1, z2, z3⟩ := c2 c hc
    exact ⟨by rw [z3]; exact s1, by omega, by omega, (c3 r c hr (by omega)).1⟩
theorem mt_CI_run {g g2 : Nat → Nat → Nat} {f f2 : Nat → Nat → Int32} {r n : Nat} (hX : mt_XI g f) (hC : mt_CI g f g2 f2) (hr : r < 3) (hn : n ≤ g 11 r) : mt_run (mt_mq g2 f2 (fun k => g 12 (60 * r + k))) n = mt_run (mt_q g f r) n :=
  mt_run_congr (fun k hk => (hC.2.1 _ ((hX.2 r hr).1.2.2.2.2.1 k (by omega)).1).2.2)
theorem mt_CI_mx {g g2 : Nat → Nat → Nat} {f f2 : Nat → Nat → Int32} {r mx : Nat} (hX : mt_XI g f) (hC : mt_CI g f g2 f2) (hr : r < 3) (hm : mt_MX g2 r (g2 0 0) mx) : mx = g 10 r := by
  obtain ⟨c1, c2, c3⟩ := hC
  have hR := (hX.2 r hr).1
  have hM := hX.1.1
  rw [c1] at hm
  apply Nat.le_antisymm
  · rcases hm.2 with z | ⟨c, z1, z2, z3⟩
    · omega
    · have h := (c3 r c hr (by omega)).2.mp z2
      rw [← z3, (c2 c z1).2.1]
      exact hR.2.1 c z1 h.2
  · rcases hR.2.2.1 with z | ⟨c, z1, z2, z3⟩
    · omega
    · rw [← z3, ← (c2 c z1).2.1]
      exact hm.1 c z1 ((c3 r c hr (by omega)).2.mpr ⟨z1, z2⟩)
theorem mt_CI_make {g g2 g' : Nat → Nat → Nat} {f f2 f' : Nat → Nat → Int32} {r b nd mx : Nat} {x : Int32} (hX : mt_XI g f) (hC : mt_CI g f g2 f2) (hr : r < 3) (hM : g 0 0 < 60) (hK : mt_MK g f r (b, nd, x) g' f') (hm : mt_MX g2 r (g2 0 0) mx) : mt_CI g' f' (mt_ng g2 r b nd mx) (st2 f2 5 (g2 0 0) x) := by
  have emx := mt_CI_mx hX hC hr hm
  obtain ⟨c1, c2, c3⟩ := hC
  obtain ⟨k1, k2, k3, k4, k5, k6, k7, k8, k9⟩ := hK
  refine ⟨?_, fun c hc => ?_, fun r2 c hr2 hc => ?_⟩
  · rw [k2]
    show st2 _ 0 0 (g2 0 0 + 1) 0 0 = _
    rw [st2_eq, c1]
  · rw [k2] at hc
    by_cases e : c = g 0 0
    · subst e
      rw [k6, k5, k4]
      refine ⟨?_, ?_, ?_⟩
      · simp [mt_ng, st2, c1]
      · simp [mt_ng, st2, c1, emx]
      · unfold mt_mc
        simp [mt_ng, st2, c1]
    · have hc2 : c < g 0 0 := by omega
      have hne : ¬ c = g2 0 0 := by rw [c1]; exact e
      obtain ⟨z1, z2, z3⟩ := c2 c hc2
      obtain ⟨y1, y2, y3⟩ := k3 c hc2
      rw [y1, y2, y3, ← z1, ← z2, ← z3]
      refine ⟨?_, ?_, ?_⟩
      · simp [mt_ng, st2, hne]
      · simp [mt_ng, st2, hne]
      · unfold mt_mc
        simp [mt_ng, st2, hne]
  · have e6 : mt_ng g2 r b nd mx 6 (60 * r2 + c) = if 60 * r2 + c = 60 * r + g2 0 0 then 1 else g2 6 (60 * r2 + c) := by
      simp [mt_ng, st2]
    rw [e6, k2]
    by_cases e : 60 * r2 + c = 60 * r + g2 0 0
    · rw [if_pos e]
      have e1 : r2 = r := by omega
      have e2 : c = g 0 0 := by omega
      subst e1; subst e2
      exact ⟨by decide, fun _ => ⟨by omega, (k7 r2 hr2).2.mpr rfl⟩, fun _ => by decide⟩
    · rw [if_neg e]
      obtain ⟨z1, z2⟩ := c3 r2 c hr2 hc
      refine ⟨z1, ?_⟩
      rw [z2]
      by_cases y : c < g 0 0
      · rw [(k7 r2 hr2).1 c y]
        exact ⟨fun z => ⟨by omega, z.2⟩, fun z => ⟨y, z.2⟩⟩
      · constructor
        · exact fun z => absurd z.1 y
        · intro z
          have e2 : c = g 0 0 := by omega
          subst e2
          have := (k7 r2 hr2).2.mp z.2
          subst this
          exact absurd (by rw [c1]) e
theorem mt_CI_learn {g g2 g' : Nat → Nat → Nat} {f f2 f' : Nat → Nat → Int32} {r c : Nat} (hX : mt_XI g f) (hC : mt_CI g f g2 f2) (hr : r < 3) (hc : c < g 0 0) (hL : mt_LN g f r c g' f') : mt_CI g' f' (st2 g2 6 (60 * r + c) 1) f2 := by
  obtain ⟨c1, c2, c3⟩ := hC
  obtain ⟨l1, l2, l3, l4⟩ := hL
  have hM := hX.1.1
  refine ⟨?_, fun d hd => ?_, fun r2 d hr2 hd => ?_⟩
  · rw [st2_k _ _ _ _ (by decide), c1, l2]
  · rw [l2] at hd
    rw [(l3 d).1, (l3 d).2.1, (l3 d).2.2]
    exact c2 d hd
  · rw [st2_at, l2]
    obtain ⟨z1, z2⟩ := c3 r2 d hr2 hd
    by_cases e : 60 * r2 + d = 60 * r + c
    · have e1 : r2 = r := by omega
      have e2 : d = c := by omega
      subst e1; subst e2
      rw [if_pos ⟨rfl, rfl⟩]
      exact ⟨by decide, fun _ => ⟨hc, (l4 r2 hr2 d hc).mpr (Or.inr ⟨rfl, rfl⟩)⟩, fun _ => by decide⟩
    · rw [if_neg (fun z => e z.2)]
      refine ⟨z1, ?_⟩
      rw [z2]
      constructor
      · exact fun y => ⟨y.1, (l4 r2 hr2 d y.1).mpr (Or.inl y.2)⟩
      · intro y
        rcases (l4 r2 hr2 d y.1).mp y.2 with q | q
        · exact ⟨y.1, q⟩
        · exact absurd (by rw [q.1, q.2]) e
theorem mt_CI_sync {g g2 g' g3 : Nat → Nat → Nat} {f f2 f' : Nat → Nat → Int32} {fr to : Nat} (hX : mt_XI g f) (hC : mt_CI g f g2 f2) (hfr : fr < 3) (hto : to < 3) (hS : mt_SY g f fr to (g 0 0) g' f') (hm : mt_ms g2 fr to (g2 0 0) g3) : mt_CI g' f' g3 f2 := by
  obtain ⟨c1, c2, c3⟩ := hC
  obtain ⟨s1, s2, s3, s4⟩ := hS
  obtain ⟨m1, m2, m3⟩ := hm
  have hM := hX.1.1
  refine ⟨?_, fun d hd => ?_, fun r2 d hr2 hd => ?_⟩
  · rw [m1 0 (by decide), c1, s2]
  · rw [s2] at hd
    rw [(s3 d).1, (s3 d).2.1, (s3 d).2.2, m1 1 (by decide), m1 2 (by decide)]
    unfold mt_mc
    rw [m1 3 (by decide), m1 4 (by decide)]
    exact c2 d hd
  · rw [s2]
    obtain ⟨z1, z2⟩ := c3 r2 d hr2 hd
    obtain ⟨y1, y2⟩ := c3 fr d hfr hd
    by_cases e : r2 = to
    · subst e
      rw [m3 d hd, c1]
      by_cases q : d < g 0 0 ∧ ¬ g2 6 (60 * fr + d) = 0 ∧ g2 6 (60 * r2 + d) = 0
      · rw [if_pos q]
        refine ⟨by decide, fun _ => ⟨q.1, (s4 r2 hr2 d q.1).mpr (Or.inr ⟨rfl, q.1, (y2.mp q.2.1).2⟩)⟩, fun _ => by decide⟩
      · rw [if_neg q]
        refine ⟨z1, ?_⟩
        constructor
        · intro x
          have := z2.mp x
          exact ⟨this.1, (s4 r2 hr2 d this.1).mpr (Or.inl this.2)⟩
        · intro x
          rcases (s4 r2 hr2 d x.1).mp x.2 with k | k
          · exact z2.mpr ⟨x.1, k⟩
          · exact fun k2 => q ⟨x.1, y2.mpr ⟨x.1, k.2.2⟩, k2⟩
    · rw [m2 _ (by omega)]
      refine ⟨z1, ?_⟩
      rw [z2]
      constructor
      · exact fun x => ⟨x.1, (s4 r2 hr2 d x.1).mpr (Or.inl x.2)⟩
      · intro x
        rcases (s4 r2 hr2 d x.1).mp x.2 with k | k
        · exact ⟨x.1, k⟩
        · exact absurd k.1 e
theorem mt_CI_cnt {g g2 : Nat → Nat → Nat} {f f2 : Nat → Nat → Int32} {fr to : Nat} (hX : mt_XI g f) (hC : mt_CI g f g2 f2) (hfr : fr < 3) (hto : to < 3) : mt_cnt (mt_sb g fr to) (g 0 0) = mt_cnt (mt_mb g2 fr to) (g2 0 0) := by
  obtain ⟨c1, c2, c3⟩ := hC
  have hM := hX.1.1
  rw [c1]
  refine mt_cnt_congr (fun d hd => mt_dec_congr ?_)
  have z1 := (c3 fr d hfr (by omega)).2
  have z2 := (c3 to d hto (by omega)).2
  constructor
  · intro y
    refine ⟨z1.mpr ⟨hd, y.1⟩, ?_⟩
    exact Classical.byContradiction (fun q => y.2 (z2.mp q).2)
  · intro y
    exact ⟨(z1.mp y.1).2, fun q => absurd y.2 (z2.mpr ⟨hd, q⟩)⟩
/-- the answer of move -/
theorem mt_mv_eq {g g2 : Nat → Nat → Nat} {f f2 : Nat → Nat → Int32} {r n c : Nat} {x : mtQ} (hX : mt_XI g f) (hC : mt_CI g f g2 f2) (hr : r < 3) (h11 : g 11 r = n + 1) (h12 : g 12 (60 * r + n) = c) (hq : mt_q g f r n = x) (hx : ¬ x.1 = 0) : bI (mt_sk (mt_run (mt_q g f r) n) x = true) = bI (mt_KP (mt_mq g2 f2 (fun k => g 12 (60 * r + k))) (fun k => g 12 (60 * r + k)) (nI c) (g 11 r)) := by
  have hR := (hX.2 r hr).1
  have hM := hX.1.1
  have hqn : mt_mq g2 f2 (fun k => g 12 (60 * r + k)) n = x := by
    rw [← hq]
    exact (hC.2.1 _ (hR.2.2.2.2.1 n (by omega)).1).2.2
  apply bI_congr
  constructor
  · intro z
    refine ⟨n, by omega, ?_, ?_, ?_⟩
    · show nI (g 12 (60 * r + n)) = nI c
      rw [h12]
    · rw [hqn]; exact hx
    · rw [hqn, mt_CI_run hX hC hr (by omega)]; exact z
  · rintro ⟨j, j1, j2, j3, j4⟩
    have j2 : nI (g 12 (60 * r + j)) = nI c := j2
    have b1 := (hR.2.2.2.2.1 j j1).1
    have b2 := (hR.2.2.2.2.1 n (by omega)).1
    rw [← h12] at j2
    have j5 := (nI_eq (by omega) (by omega)).mp j2
    have j6 : j = n := by
      rcases Nat.lt_trichotomy j n with y | y | y
      · have := hR.2.2.2.2.2.1 j n y (by omega)
        rw [j5] at this
        exact absurd this mt_ea_irr
      · exact y
      · omega
    subst j6
    rw [hqn, mt_CI_run hX hC hr (by omega)] at j4
    exact j4
theorem mt_XI_0 {f : Nat → Nat → Int32} (h1 : ∀ i, i < 30 → f 16 i = -1) (h2 : ∀ k i, k ≠ 16 → f k i = 0) : mt_XI (fun _ _ => 0) f := by
  refine ⟨⟨by decide, fun c hc => absurd hc (Nat.not_lt_zero _), fun o j _ hj h => (Nat.not_succ_le_zero _ (Nat.le_trans hj h)).elim, rfl, fun c d _ hd => absurd hd (Nat.not_lt_zero _)⟩, fun r hr => ⟨⟨fun o _ => Nat.le_refl _, fun c hc => absurd hc (Nat.not_lt_zero _), Or.inl rfl, rfl, fun k hk => absurd hk (Nat.not_lt_zero _), fun j k _ hk => absurd hk (Nat.not_lt_zero _), fun c hc => absurd hc (Nat.not_lt_zero _), ⟨rfl, fun j hj => ⟨h1 _ (by omega), h2 _ _ (by decide)⟩⟩, fun k hk => absurd hk (Nat.not_lt_zero _)⟩, rfl⟩⟩
theorem mt_CI_0 {f f2 : Nat → Nat → Int32} : mt_CI (fun _ _ => 0) f (fun _ _ => 0) f2 := ⟨rfl, fun c hc => absurd hc (Nat.not_lt_zero _), fun r c _ _ => ⟨Nat.zero_lt_two, fun z => absurd rfl z, fun z => absurd z.1 (Nat.not_lt_zero _)⟩⟩
end
section
set_option maxRecDepth 100000
theorem dL_law_0 : decode cL_law 0 = .ok (.new 7, 3) := by decide +kernel
theorem dL_law_3 : decode cL_law 3 = .ok (.dup, 1) := by decide +kernel
theorem dL_law_4 : decode cL_law 4 = .ok (.invokespecial 9, 3) := by decide +kernel
theorem dL_law_7 : decode cL_law 7 = .ok (.astore_n 1, 1) := by decide +kernel
theorem dL_law_8 : decode cL_law 8 = .ok (.new 10, 3) := by decide +kernel
theorem dL_law_11 : decode cL_law 11 = .ok (.dup, 1) := by decide +kernel
theorem dL_law_12 : decode cL_law 12 = .ok (.invokespecial 12, 3) := by decide +kernel
theorem dL_law_15 : decode cL_law 15 = .ok (.astore_n 2, 1) := by decide +kernel
theorem dL_law_16 : decode cL_law 16 = .ok (.iconst 0, 1) := by decide +kernel
theorem dL_law_17 : decode cL_law 17 = .ok (.istore_n 3, 1) := by decide +kernel
theorem dL_law_18 : decode cL_law 18 = .ok (.iload_n 3, 1) := by decide +kernel
theorem dL_law_19 : decode cL_law 19 = .ok (.aload_n 0, 1) := by decide +kernel
theorem dL_law_20 : decode cL_law 20 = .ok (.arraylength, 1) := by decide +kernel
theorem dL_law_21 : decode cL_law 21 = .ok (.iconst 4, 1) := by decide +kernel
theorem dL_law_22 : decode cL_law 22 = .ok (.isub, 1) := by decide +kernel
theorem dL_law_23 : decode cL_law 23 = .ok (.if_icmp .gt 411, 3) := by decide +kernel
theorem dL_law_26 : decode cL_law 26 = .ok (.aload_n 0, 1) := by decide +kernel
theorem dL_law_27 : decode cL_law 27 = .ok (.iload_n 3, 1) := by decide +kernel
theorem dL_law_28 : decode cL_law 28 = .ok (.iaload, 1) := by decide +kernel
theorem dL_law_29 : decode cL_law 29 = .ok (.bipush 15, 2) := by decide +kernel
theorem dL_law_31 : decode cL_law 31 = .ok (.iand, 1) := by decide +kernel
theorem dL_law_32 : decode cL_law 32 = .ok (.tableswitch 396 0 9 #[56, 99, 142, 175, 208, 241, 274, 307, 340, 363], 56) := by decide +kernel
theorem dL_law_88 : decode cL_law 88 = .ok (.aload_n 1, 1) := by decide +kernel
theorem dL_law_89 : decode cL_law 89 = .ok (.aload_n 0, 1) := by decide +kernel
theorem dL_law_90 : decode cL_law 90 = .ok (.iload_n 3, 1) := by decide +kernel
theorem dL_law_91 : decode cL_law 91 = .ok (.iconst 1, 1) := by decide +kernel
theorem dL_law_92 : decode cL_law 92 = .ok (.iadd, 1) := by decide +kernel
theorem dL_law_93 : decode cL_law 93 = .ok (.iaload, 1) := by decide +kernel
theorem dL_law_94 : decode cL_law 94 = .ok (.aload_n 0, 1) := by decide +kernel
theorem dL_law_95 : decode cL_law 95 = .ok (.iload_n 3, 1) := by decide +kernel
theorem dL_law_96 : decode cL_law 96 = .ok (.iconst 2, 1) := by decide +kernel
theorem dL_law_97 : decode cL_law 97 = .ok (.iadd, 1) := by decide +kernel
theorem dL_law_98 : decode cL_law 98 = .ok (.iaload, 1) := by decide +kernel
theorem dL_law_99 : decode cL_law 99 = .ok (.aload_n 0, 1) := by decide +kernel
theorem dL_law_100 : decode cL_law 100 = .ok (.iload_n 3, 1) := by decide +kernel
theorem dL_law_101 : decode cL_law 101 = .ok (.iconst 3, 1) := by decide +kernel
theorem dL_law_102 : decode cL_law 102 = .ok (.iadd, 1) := by decide +kernel
theorem dL_law_103 : decode cL_law 103 = .ok (.iaload, 1) := by decide +kernel
theorem dL_law_104 : decode cL_law 104 = .ok (.invokevirtual 13, 3) := by decide +kernel
theorem dL_law_107 : decode cL_law 107 = .ok (.aload_n 2, 1) := by decide +kernel
theorem dL_law_108 : decode cL_law 108 = .ok (.aload_n 0, 1) := by decide +kernel
theorem dL_law_109 : decode cL_law 109 = .ok (.iload_n 3, 1) := by decide +kernel
theorem dL_law_110 : decode cL_law 110 = .ok (.iconst 1, 1) := by decide +kernel
theorem dL_law_111 : decode cL_law 111 = .ok (.iadd, 1) := by decide +kernel
theorem dL_law_112 : decode cL_law 112 = .ok (.iaload, 1) := by decide +kernel
theorem dL_law_113 : decode cL_law 113 = .ok (.aload_n 0, 1) := by decide +kernel
theorem dL_law_114 : decode cL_law 114 = .ok (.iload_n 3, 1) := by decide +kernel
theorem dL_law_115 : decode cL_law 115 = .ok (.iconst 2, 1) := by decide +kernel
theorem dL_law_116 : decode cL_law 116 = .ok (.iadd, 1) := by decide +kernel
theorem dL_law_117 : decode cL_law 117 = .ok (.iaload, 1) := by decide +kernel
theorem dL_law_118 : decode cL_law 118 = .ok (.aload_n 0, 1) := by decide +kernel
theorem dL_law_119 : decode cL_law 119 = .ok (.iload_n 3, 1) := by decide +kernel
theorem dL_law_120 : decode cL_law 120 = .ok (.iconst 3, 1) := by decide +kernel
theorem dL_law_121 : decode cL_law 121 = .ok (.iadd, 1) := by decide +kernel
theorem dL_law_122 : decode cL_law 122 = .ok (.iaload, 1) := by decide +kernel
theorem dL_law_123 : decode cL_law 123 = .ok (.invokevirtual 17, 3) := by decide +kernel
theorem dL_law_126 : decode cL_law 126 = .ok (.if_icmp .eq 302, 3) := by decide +kernel
theorem dL_law_129 : decode cL_law 129 = .ok (.iconst 0, 1) := by decide +kernel
theorem dL_law_130 : decode cL_law 130 = .ok (.ireturn, 1) := by decide +kernel
theorem dL_law_131 : decode cL_law 131 = .ok (.aload_n 1, 1) := by decide +kernel
theorem dL_law_132 : decode cL_law 132 = .ok (.aload_n 0, 1) := by decide +kernel
theorem dL_law_133 : decode cL_law 133 = .ok (.iload_n 3, 1) := by decide +kernel
theorem dL_law_134 : decode cL_law 134 = .ok (.iconst 1, 1) := by decide +kernel
theorem dL_law_135 : decode cL_law 135 = .ok (.iadd, 1) := by decide +kernel
theorem dL_law_136 : decode cL_law 136 = .ok (.iaload, 1) := by decide +kernel
theorem dL_law_137 : decode cL_law 137 = .ok (.aload_n 0, 1) := by decide +kernel
theorem dL_law_138 : decode cL_law 138 = .ok (.iload_n 3, 1) := by decide +kernel
theorem dL_law_139 : decode cL_law 139 = .ok (.iconst 2, 1) := by decide +kernel
theorem dL_law_140 : decode cL_law 140 = .ok (.iadd, 1) := by decide +kernel
theorem dL_law_141 : decode cL_law 141 = .ok (.iaload, 1) := by decide +kernel
theorem dL_law_142 : decode cL_law 142 = .ok (.aload_n 0, 1) := by decide +kernel
theorem dL_law_143 : decode cL_law 143 = .ok (.iload_n 3, 1) := by decide +kernel
theorem dL_law_144 : decode cL_law 144 = .ok (.iconst 3, 1) := by decide +kernel
theorem dL_law_145 : decode cL_law 145 = .ok (.iadd, 1) := by decide +kernel
theorem dL_law_146 : decode cL_law 146 = .ok (.iaload, 1) := by decide +kernel
theorem dL_law_147 : decode cL_law 147 = .ok (.invokevirtual 18, 3) := by decide +kernel
theorem dL_law_150 : decode cL_law 150 = .ok (.aload_n 2, 1) := by decide +kernel
theorem dL_law_151 : decode cL_law 151 = .ok (.aload_n 0, 1) := by decide +kernel
theorem dL_law_152 : decode cL_law 152 = .ok (.iload_n 3, 1) := by decide +kernel
theorem dL_law_153 : decode cL_law 153 = .ok (.iconst 1, 1) := by decide +kernel
theorem dL_law_154 : decode cL_law 154 = .ok (.iadd, 1) := by decide +kernel
theorem dL_law_155 : decode cL_law 155 = .ok (.iaload, 1) := by decide +kernel
theorem dL_law_156 : decode cL_law 156 = .ok (.aload_n 0, 1) := by decide +kernel
theorem dL_law_157 : decode cL_law 157 = .ok (.iload_n 3, 1) := by decide +kernel
theorem dL_law_158 : decode cL_law 158 = .ok (.iconst 2, 1) := by decide +kernel
theorem dL_law_159 : decode cL_law 159 = .ok (.iadd, 1) := by decide +kernel
theorem dL_law_160 : decode cL_law 160 = .ok (.iaload, 1) := by decide +kernel
theorem dL_law_161 : decode cL_law 161 = .ok (.aload_n 0, 1) := by decide +kernel
theorem dL_law_162 : decode cL_law 162 = .ok (.iload_n 3, 1) := by decide +kernel
theorem dL_law_163 : decode cL_law 163 = .ok (.iconst 3, 1) := by decide +kernel
theorem dL_law_164 : decode cL_law 164 = .ok (.iadd, 1) := by decide +kernel
theorem dL_law_165 : decode cL_law 165 = .ok (.iaload, 1) := by decide +kernel
theorem dL_law_166 : decode cL_law 166 = .ok (.invokevirtual 21, 3) := by decide +kernel
theorem dL_law_169 : decode cL_law 169 = .ok (.if_icmp .eq 259, 3) := by decide +kernel
theorem dL_law_172 : decode cL_law 172 = .ok (.iconst 0, 1) := by decide +kernel
theorem dL_law_173 : decode cL_law 173 = .ok (.ireturn, 1) := by decide +kernel
theorem dL_law_174 : decode cL_law 174 = .ok (.aload_n 1, 1) := by decide +kernel
theorem dL_law_175 : decode cL_law 175 = .ok (.aload_n 0, 1) := by decide +kernel
theorem dL_law_176 : decode cL_law 176 = .ok (.iload_n 3, 1) := by decide +kernel
theorem dL_law_177 : decode cL_law 177 = .ok (.iconst 1, 1) := by decide +kernel
theorem dL_law_178 : decode cL_law 178 = .ok (.iadd, 1) := by decide +kernel
theorem dL_law_179 : decode cL_law 179 = .ok (.iaload, 1) := by decide +kernel
theorem dL_law_180 : decode cL_law 180 = .ok (.aload_n 0, 1) := by decide +kernel
theorem dL_law_181 : decode cL_law 181 = .ok (.iload_n 3, 1) := by decide +kernel
theorem dL_law_182 : decode cL_law 182 = .ok (.iconst 2, 1) := by decide +kernel
theorem dL_law_183 : decode cL_law 183 = .ok (.iadd, 1) := by decide +kernel
theorem dL_law_184 : decode cL_law 184 = .ok (.iaload, 1) := by decide +kernel
theorem dL_law_185 : decode cL_law 185 = .ok (.invokevirtual 22, 3) := by decide +kernel
theorem dL_law_188 : decode cL_law 188 = .ok (.aload_n 2, 1) := by decide +kernel
theorem dL_law_189 : decode cL_law 189 = .ok (.aload_n 0, 1) := by decide +kernel
theorem dL_law_190 : decode cL_law 190 = .ok (.iload_n 3, 1) := by decide +kernel
theorem dL_law_191 : decode cL_law 191 = .ok (.iconst 1, 1) := by decide +kernel
theorem dL_law_192 : decode cL_law 192 = .ok (.iadd, 1) := by decide +kernel
theorem dL_law_193 : decode cL_law 193 = .ok (.iaload, 1) := by decide +kernel
theorem dL_law_194 : decode cL_law 194 = .ok (.aload_n 0, 1) := by decide +kernel
theorem dL_law_195 : decode cL_law 195 = .ok (.iload_n 3, 1) := by decide +kernel
theorem dL_law_196 : decode cL_law 196 = .ok (.iconst 2, 1) := by decide +kernel
theorem dL_law_197 : decode cL_law 197 = .ok (.iadd, 1) := by decide +kernel
theorem dL_law_198 : decode cL_law 198 = .ok (.iaload, 1) := by decide +kernel
theorem dL_law_199 : decode cL_law 199 = .ok (.invokevirtual 26, 3) := by decide +kernel
theorem dL_law_202 : decode cL_law 202 = .ok (.if_icmp .eq 226, 3) := by decide +kernel
theorem dL_law_205 : decode cL_law 205 = .ok (.iconst 0, 1) := by decide +kernel
theorem dL_law_206 : decode cL_law 206 = .ok (.ireturn, 1) := by decide +kernel
theorem dL_law_207 : decode cL_law 207 = .ok (.aload_n 1, 1) := by decide +kernel
theorem dL_law_208 : decode cL_law 208 = .ok (.aload_n 0, 1) := by decide +kernel
theorem dL_law_209 : decode cL_law 209 = .ok (.iload_n 3, 1) := by decide +kernel
theorem dL_law_210 : decode cL_law 210 = .ok (.iconst 1, 1) := by decide +kernel
theorem dL_law_211 : decode cL_law 211 = .ok (.iadd, 1) := by decide +kernel
theorem dL_law_212 : decode cL_law 212 = .ok (.iaload, 1) := by decide +kernel
theorem dL_law_213 : decode cL_law 213 = .ok (.aload_n 0, 1) := by decide +kernel
theorem dL_law_214 : decode cL_law 214 = .ok (.iload_n 3, 1) := by decide +kernel
theorem dL_law_215 : decode cL_law 215 = .ok (.iconst 2, 1) := by decide +kernel
theorem dL_law_216 : decode cL_law 216 = .ok (.iadd, 1) := by decide +kernel
theorem dL_law_217 : decode cL_law 217 = .ok (.iaload, 1) := by decide +kernel
theorem dL_law_218 : decode cL_law 218 = .ok (.invokevirtual 27, 3) := by decide +kernel
theorem dL_law_221 : decode cL_law 221 = .ok (.aload_n 2, 1) := by decide +kernel
theorem dL_law_222 : decode cL_law 222 = .ok (.aload_n 0, 1) := by decide +kernel
theorem dL_law_223 : decode cL_law 223 = .ok (.iload_n 3, 1) := by decide +kernel
theorem dL_law_224 : decode cL_law 224 = .ok (.iconst 1, 1) := by decide +kernel
theorem dL_law_225 : decode cL_law 225 = .ok (.iadd, 1) := by decide +kernel
theorem dL_law_226 : decode cL_law 226 = .ok (.iaload, 1) := by decide +kernel
theorem dL_law_227 : decode cL_law 227 = .ok (.aload_n 0, 1) := by decide +kernel
theorem dL_law_228 : decode cL_law 228 = .ok (.iload_n 3, 1) := by decide +kernel
theorem dL_law_229 : decode cL_law 229 = .ok (.iconst 2, 1) := by decide +kernel
theorem dL_law_230 : decode cL_law 230 = .ok (.iadd, 1) := by decide +kernel
theorem dL_law_231 : decode cL_law 231 = .ok (.iaload, 1) := by decide +kernel
theorem dL_law_232 : decode cL_law 232 = .ok (.invokevirtual 30, 3) := by decide +kernel
theorem dL_law_235 : decode cL_law 235 = .ok (.if_icmp .eq 193, 3) := by decide +kernel
theorem dL_law_238 : decode cL_law 238 = .ok (.iconst 0, 1) := by decide +kernel
theorem dL_law_239 : decode cL_law 239 = .ok (.ireturn, 1) := by decide +kernel
theorem dL_law_240 : decode cL_law 240 = .ok (.aload_n 1, 1) := by decide +kernel
theorem dL_law_241 : decode cL_law 241 = .ok (.aload_n 0, 1) := by decide +kernel
theorem dL_law_242 : decode cL_law 242 = .ok (.iload_n 3, 1) := by decide +kernel
theorem dL_law_243 : decode cL_law 243 = .ok (.iconst 1, 1) := by decide +kernel
theorem dL_law_244 : decode cL_law 244 = .ok (.iadd, 1) := by decide +kernel
theorem dL_law_245 : decode cL_law 245 = .ok (.iaload, 1) := by decide +kernel
theorem dL_law_246 : decode cL_law 246 = .ok (.aload_n 0, 1) := by decide +kernel
theorem dL_law_247 : decode cL_law 247 = .ok (.iload_n 3, 1) := by decide +kernel
theorem dL_law_248 : decode cL_law 248 = .ok (.iconst 2, 1) := by decide +kernel
theorem dL_law_249 : decode cL_law 249 = .ok (.iadd, 1) := by decide +kernel
theorem dL_law_250 : decode cL_law 250 = .ok (.iaload, 1) := by decide +kernel
theorem dL_law_251 : decode cL_law 251 = .ok (.invokevirtual 31, 3) := by decide +kernel
theorem dL_law_254 : decode cL_law 254 = .ok (.aload_n 2, 1) := by decide +kernel
theorem dL_law_255 : decode cL_law 255 = .ok (.aload_n 0, 1) := by decide +kernel
theorem dL_law_256 : decode cL_law 256 = .ok (.iload_n 3, 1) := by decide +kernel
theorem dL_law_257 : decode cL_law 257 = .ok (.iconst 1, 1) := by decide +kernel
theorem dL_law_258 : decode cL_law 258 = .ok (.iadd, 1) := by decide +kernel
theorem dL_law_259 : decode cL_law 259 = .ok (.iaload, 1) := by decide +kernel
theorem dL_law_260 : decode cL_law 260 = .ok (.aload_n 0, 1) := by decide +kernel
theorem dL_law_261 : decode cL_law 261 = .ok (.iload_n 3, 1) := by decide +kernel
theorem dL_law_262 : decode cL_law 262 = .ok (.iconst 2, 1) := by decide +kernel
theorem dL_law_263 : decode cL_law 263 = .ok (.iadd, 1) := by decide +kernel
theorem dL_law_264 : decode cL_law 264 = .ok (.iaload, 1) := by decide +kernel
theorem dL_law_265 : decode cL_law 265 = .ok (.invokevirtual 34, 3) := by decide +kernel
theorem dL_law_268 : decode cL_law 268 = .ok (.if_icmp .eq 160, 3) := by decide +kernel
theorem dL_law_271 : decode cL_law 271 = .ok (.iconst 0, 1) := by decide +kernel
theorem dL_law_272 : decode cL_law 272 = .ok (.ireturn, 1) := by decide +kernel
theorem dL_law_273 : decode cL_law 273 = .ok (.aload_n 1, 1) := by decide +kernel
theorem dL_law_274 : decode cL_law 274 = .ok (.aload_n 0, 1) := by decide +kernel
theorem dL_law_275 : decode cL_law 275 = .ok (.iload_n 3, 1) := by decide +kernel
theorem dL_law_276 : decode cL_law 276 = .ok (.iconst 1, 1) := by decide +kernel
theorem dL_law_277 : decode cL_law 277 = .ok (.iadd, 1) := by decide +kernel
theorem dL_law_278 : decode cL_law 278 = .ok (.iaload, 1) := by decide +kernel
theorem dL_law_279 : decode cL_law 279 = .ok (.aload_n 0, 1) := by decide +kernel
theorem dL_law_280 : decode cL_law 280 = .ok (.iload_n 3, 1) := by decide +kernel
theorem dL_law_281 : decode cL_law 281 = .ok (.iconst 2, 1) := by decide +kernel
theorem dL_law_282 : decode cL_law 282 = .ok (.iadd, 1) := by decide +kernel
theorem dL_law_283 : decode cL_law 283 = .ok (.iaload, 1) := by decide +kernel
theorem dL_law_284 : decode cL_law 284 = .ok (.invokevirtual 35, 3) := by decide +kernel
theorem dL_law_287 : decode cL_law 287 = .ok (.aload_n 2, 1) := by decide +kernel
theorem dL_law_288 : decode cL_law 288 = .ok (.aload_n 0, 1) := by decide +kernel
theorem dL_law_289 : decode cL_law 289 = .ok (.iload_n 3, 1) := by decide +kernel
theorem dL_law_290 : decode cL_law 290 = .ok (.iconst 1, 1) := by decide +kernel
theorem dL_law_291 : decode cL_law 291 = .ok (.iadd, 1) := by decide +kernel
theorem dL_law_292 : decode cL_law 292 = .ok (.iaload, 1) := by decide +kernel
theorem dL_law_293 : decode cL_law 293 = .ok (.aload_n 0, 1) := by decide +kernel
theorem dL_law_294 : decode cL_law 294 = .ok (.iload_n 3, 1) := by decide +kernel
theorem dL_law_295 : decode cL_law 295 = .ok (.iconst 2, 1) := by decide +kernel
theorem dL_law_296 : decode cL_law 296 = .ok (.iadd, 1) := by decide +kernel
theorem dL_law_297 : decode cL_law 297 = .ok (.iaload, 1) := by decide +kernel
theorem dL_law_298 : decode cL_law 298 = .ok (.invokevirtual 38, 3) := by decide +kernel
theorem dL_law_301 : decode cL_law 301 = .ok (.if_icmp .eq 127, 3) := by decide +kernel
theorem dL_law_304 : decode cL_law 304 = .ok (.iconst 0, 1) := by decide +kernel
theorem dL_law_305 : decode cL_law 305 = .ok (.ireturn, 1) := by decide +kernel
theorem dL_law_306 : decode cL_law 306 = .ok (.aload_n 1, 1) := by decide +kernel
theorem dL_law_307 : decode cL_law 307 = .ok (.aload_n 0, 1) := by decide +kernel
theorem dL_law_308 : decode cL_law 308 = .ok (.iload_n 3, 1) := by decide +kernel
theorem dL_law_309 : decode cL_law 309 = .ok (.iconst 1, 1) := by decide +kernel
theorem dL_law_310 : decode cL_law 310 = .ok (.iadd, 1) := by decide +kernel
theorem dL_law_311 : decode cL_law 311 = .ok (.iaload, 1) := by decide +kernel
theorem dL_law_312 : decode cL_law 312 = .ok (.aload_n 0, 1) := by decide +kernel
theorem dL_law_313 : decode cL_law 313 = .ok (.iload_n 3, 1) := by decide +kernel
theorem dL_law_314 : decode cL_law 314 = .ok (.iconst 2, 1) := by decide +kernel
theorem dL_law_315 : decode cL_law 315 = .ok (.iadd, 1) := by decide +kernel
theorem dL_law_316 : decode cL_law 316 = .ok (.iaload, 1) := by decide +kernel
theorem dL_law_317 : decode cL_law 317 = .ok (.invokevirtual 39, 3) := by decide +kernel
theorem dL_law_320 : decode cL_law 320 = .ok (.aload_n 2, 1) := by decide +kernel
theorem dL_law_321 : decode cL_law 321 = .ok (.aload_n 0, 1) := by decide +kernel
theorem dL_law_322 : decode cL_law 322 = .ok (.iload_n 3, 1) := by decide +kernel
theorem dL_law_323 : decode cL_law 323 = .ok (.iconst 1, 1) := by decide +kernel
theorem dL_law_324 : decode cL_law 324 = .ok (.iadd, 1) := by decide +kernel
theorem dL_law_325 : decode cL_law 325 = .ok (.iaload, 1) := by decide +kernel
theorem dL_law_326 : decode cL_law 326 = .ok (.aload_n 0, 1) := by decide +kernel
theorem dL_law_327 : decode cL_law 327 = .ok (.iload_n 3, 1) := by decide +kernel
theorem dL_law_328 : decode cL_law 328 = .ok (.iconst 2, 1) := by decide +kernel
theorem dL_law_329 : decode cL_law 329 = .ok (.iadd, 1) := by decide +kernel
theorem dL_law_330 : decode cL_law 330 = .ok (.iaload, 1) := by decide +kernel
theorem dL_law_331 : decode cL_law 331 = .ok (.invokevirtual 42, 3) := by decide +kernel
theorem dL_law_334 : decode cL_law 334 = .ok (.if_icmp .eq 94, 3) := by decide +kernel
theorem dL_law_337 : decode cL_law 337 = .ok (.iconst 0, 1) := by decide +kernel
theorem dL_law_338 : decode cL_law 338 = .ok (.ireturn, 1) := by decide +kernel
theorem dL_law_339 : decode cL_law 339 = .ok (.aload_n 1, 1) := by decide +kernel
theorem dL_law_340 : decode cL_law 340 = .ok (.aload_n 0, 1) := by decide +kernel
theorem dL_law_341 : decode cL_law 341 = .ok (.iload_n 3, 1) := by decide +kernel
theorem dL_law_342 : decode cL_law 342 = .ok (.iconst 1, 1) := by decide +kernel
theorem dL_law_343 : decode cL_law 343 = .ok (.iadd, 1) := by decide +kernel
theorem dL_law_344 : decode cL_law 344 = .ok (.iaload, 1) := by decide +kernel
theorem dL_law_345 : decode cL_law 345 = .ok (.aload_n 0, 1) := by decide +kernel
theorem dL_law_346 : decode cL_law 346 = .ok (.iload_n 3, 1) := by decide +kernel
theorem dL_law_347 : decode cL_law 347 = .ok (.iconst 2, 1) := by decide +kernel
theorem dL_law_348 : decode cL_law 348 = .ok (.iadd, 1) := by decide +kernel
theorem dL_law_349 : decode cL_law 349 = .ok (.iaload, 1) := by decide +kernel
theorem dL_law_350 : decode cL_law 350 = .ok (.invokevirtual 43, 3) := by decide +kernel
theorem dL_law_353 : decode cL_law 353 = .ok (.aload_n 2, 1) := by decide +kernel
theorem dL_law_354 : decode cL_law 354 = .ok (.aload_n 0, 1) := by decide +kernel
theorem dL_law_355 : decode cL_law 355 = .ok (.iload_n 3, 1) := by decide +kernel
theorem dL_law_356 : decode cL_law 356 = .ok (.iconst 1, 1) := by decide +kernel
theorem dL_law_357 : decode cL_law 357 = .ok (.iadd, 1) := by decide +kernel
theorem dL_law_358 : decode cL_law 358 = .ok (.iaload, 1) := by decide +kernel
theorem dL_law_359 : decode cL_law 359 = .ok (.aload_n 0, 1) := by decide +kernel
theorem dL_law_360 : decode cL_law 360 = .ok (.iload_n 3, 1) := by decide +kernel
theorem dL_law_361 : decode cL_law 361 = .ok (.iconst 2, 1) := by decide +kernel
theorem dL_law_362 : decode cL_law 362 = .ok (.iadd, 1) := by decide +kernel
theorem dL_law_363 : decode cL_law 363 = .ok (.iaload, 1) := by decide +kernel
theorem dL_law_364 : decode cL_law 364 = .ok (.invokevirtual 46, 3) := by decide +kernel
theorem dL_law_367 : decode cL_law 367 = .ok (.if_icmp .eq 61, 3) := by decide +kernel
theorem dL_law_370 : decode cL_law 370 = .ok (.iconst 0, 1) := by decide +kernel
theorem dL_law_371 : decode cL_law 371 = .ok (.ireturn, 1) := by decide +kernel
theorem dL_law_372 : decode cL_law 372 = .ok (.aload_n 1, 1) := by decide +kernel
theorem dL_law_373 : decode cL_law 373 = .ok (.aload_n 0, 1) := by decide +kernel
theorem dL_law_374 : decode cL_law 374 = .ok (.iload_n 3, 1) := by decide +kernel
theorem dL_law_375 : decode cL_law 375 = .ok (.iconst 1, 1) := by decide +kernel
theorem dL_law_376 : decode cL_law 376 = .ok (.iadd, 1) := by decide +kernel
theorem dL_law_377 : decode cL_law 377 = .ok (.iaload, 1) := by decide +kernel
theorem dL_law_378 : decode cL_law 378 = .ok (.invokevirtual 47, 3) := by decide +kernel
theorem dL_law_381 : decode cL_law 381 = .ok (.aload_n 2, 1) := by decide +kernel
theorem dL_law_382 : decode cL_law 382 = .ok (.aload_n 0, 1) := by decide +kernel
theorem dL_law_383 : decode cL_law 383 = .ok (.iload_n 3, 1) := by decide +kernel
theorem dL_law_384 : decode cL_law 384 = .ok (.iconst 1, 1) := by decide +kernel
theorem dL_law_385 : decode cL_law 385 = .ok (.iadd, 1) := by decide +kernel
theorem dL_law_386 : decode cL_law 386 = .ok (.iaload, 1) := by decide +kernel
theorem dL_law_387 : decode cL_law 387 = .ok (.invokevirtual 51, 3) := by decide +kernel
theorem dL_law_390 : decode cL_law 390 = .ok (.if_icmp .eq 38, 3) := by decide +kernel
theorem dL_law_393 : decode cL_law 393 = .ok (.iconst 0, 1) := by decide +kernel
theorem dL_law_394 : decode cL_law 394 = .ok (.ireturn, 1) := by decide +kernel
theorem dL_law_395 : decode cL_law 395 = .ok (.aload_n 1, 1) := by decide +kernel
theorem dL_law_396 : decode cL_law 396 = .ok (.aload_n 0, 1) := by decide +kernel
theorem dL_law_397 : decode cL_law 397 = .ok (.iload_n 3, 1) := by decide +kernel
theorem dL_law_398 : decode cL_law 398 = .ok (.iconst 1, 1) := by decide +kernel
theorem dL_law_399 : decode cL_law 399 = .ok (.iadd, 1) := by decide +kernel
theorem dL_law_400 : decode cL_law 400 = .ok (.iaload, 1) := by decide +kernel
theorem dL_law_401 : decode cL_law 401 = .ok (.aload_n 0, 1) := by decide +kernel
theorem dL_law_402 : decode cL_law 402 = .ok (.iload_n 3, 1) := by decide +kernel
theorem dL_law_403 : decode cL_law 403 = .ok (.iconst 2, 1) := by decide +kernel
theorem dL_law_404 : decode cL_law 404 = .ok (.iadd, 1) := by decide +kernel
theorem dL_law_405 : decode cL_law 405 = .ok (.iaload, 1) := by decide +kernel
theorem dL_law_406 : decode cL_law 406 = .ok (.invokevirtual 52, 3) := by decide +kernel
theorem dL_law_409 : decode cL_law 409 = .ok (.aload_n 2, 1) := by decide +kernel
theorem dL_law_410 : decode cL_law 410 = .ok (.aload_n 0, 1) := by decide +kernel
theorem dL_law_411 : decode cL_law 411 = .ok (.iload_n 3, 1) := by decide +kernel
theorem dL_law_412 : decode cL_law 412 = .ok (.iconst 1, 1) := by decide +kernel
theorem dL_law_413 : decode cL_law 413 = .ok (.iadd, 1) := by decide +kernel
theorem dL_law_414 : decode cL_law 414 = .ok (.iaload, 1) := by decide +kernel
theorem dL_law_415 : decode cL_law 415 = .ok (.aload_n 0, 1) := by decide +kernel
theorem dL_law_416 : decode cL_law 416 = .ok (.iload_n 3, 1) := by decide +kernel
theorem dL_law_417 : decode cL_law 417 = .ok (.iconst 2, 1) := by decide +kernel
theorem dL_law_418 : decode cL_law 418 = .ok (.iadd, 1) := by decide +kernel
theorem dL_law_419 : decode cL_law 419 = .ok (.iaload, 1) := by decide +kernel
theorem dL_law_420 : decode cL_law 420 = .ok (.invokevirtual 55, 3) := by decide +kernel
theorem dL_law_423 : decode cL_law 423 = .ok (.if_icmp .eq 5, 3) := by decide +kernel
theorem dL_law_426 : decode cL_law 426 = .ok (.iconst 0, 1) := by decide +kernel
theorem dL_law_427 : decode cL_law 427 = .ok (.ireturn, 1) := by decide +kernel
theorem dL_law_428 : decode cL_law 428 = .ok (.iinc 3 4, 3) := by decide +kernel
theorem dL_law_431 : decode cL_law 431 = .ok (.goto (-413), 3) := by decide +kernel
theorem dL_law_434 : decode cL_law 434 = .ok (.iconst 1, 1) := by decide +kernel
theorem dL_law_435 : decode cL_law 435 = .ok (.ireturn, 1) := by decide +kernel
def lA (s : State) : Nat → Prop := fun q => s.heap.size ≤ q
section LR
variable {p : Program} {l : Launch} {e : Env} {R : Room} {s : State} {m : MethodId} {args : Array Value} {below : List Frame} {meth : Method} {cd : Code} {H H1 : Heap} {locs locs1 : List Loc} {cells slots : Nat} {Q : State → Prop}
variable {cc : ByteArray} {nL pc : Nat} {ls : Array Slot} {rest : List Value} {D : va_G} {hx hm : Nat → Nat} {cZ cI cZ2 cI2 : ClassId} {A : Nat → Prop} {g g2 : Nat → Nat → Nat} {f f2 : Nat → Nat → Int32} {own : String} {b L : Nat} {xs : Nat → Int32}
theorem l_sld (S : CallFix p m cd cc nL s args lw_all own) (hX : va_X b L xs s s.heap) (hbl : b < s.heap.size) (hL : L ≤ 256) (hS : va_S (lA s) s.heap H locs) {j : Nat} {v : Int32} (hj : j < L) (hv : xs j = v) (hdg : decode cc pc = .ok (.iaload, 1)) (kk : W p l e R s m args below meth cd H locs cells slots Q (F0 m (pc + 1) ls (.int v :: rest))) : W p l e R s m args below meth cd H locs cells slots Q (F0 m pc ls (.int (nI j) :: .ref b :: rest)) := by
  subst hv
  refine va_sld S.1 S.2.1 hX hbl (Nat.not_le.mpr hbl) hS (vp_in_nI hj (by omega)) hdg ?_
  rw [nI_clamp (by omega)]
  exact kk
theorem l_mkeep (hM : MS D hm cZ2 cI2 s A H locs g2 f2) (hk : ∀ q : Nat, q < H.size → ¬ xA hx q → H1[q]? = H[q]?) (hdis : ∀ q, xA hx q → mA hm q → False) (hS : va_S A s.heap H1 locs1) : MS D hm cZ2 cI2 s A H1 locs1 g2 f2 :=
  ⟨hM.1, hM.2.1.kept (fun k q hq => hk q.1 (hM.2.1 k q hq).lt (fun z => hdis _ z (mw_A hq))), hM.2.2.1, hS⟩
theorem l_xkeep (hM : XS D hx cZ cI s A H locs g f) (hk : ∀ q : Nat, q < H.size → ¬ mA hm q → H1[q]? = H[q]?) (hdis : ∀ q, xA hx q → mA hm q → False) (hS : va_S A s.heap H1 locs1) : XS D hx cZ cI s A H1 locs1 g f :=
  ⟨hM.1, hM.2.1.kept (fun k q hq => hk q.1 (hM.2.1 k q hq).lt (fun z => hdis _ (xw_A hq) z)), hM.2.2.1, hS⟩
end LR
set_option maxHeartbeats 4000000 in
/-- move -/
theorem law_0 {p : Program} {l : Launch} {e : Env} {s : State} {m : MethodId} {below : List Frame} {meth : Method} {cd : Code} {H : Heap} {locs : List Loc} {Q : State → Prop} {ls : Array Slot} {D : va_G} {hx hm : Nat → Nat} {cZ cI cZ2 cI2 : ClassId} {g g2 : Nat → Nat → Nat} {f f2 : Nat → Nat → Int32} {b L i : Nat} {xs : Nat → Int32} (S : CallFix p m cd cL_law 4 s #[Value.ref b] lw_all "MoveTreeLaw") (hX : va_X b L xs s s.heap) (hbl : b < s.heap.size) (hL : L ≤ 256) (hi : i + 3 < L) (hl : lv_has ls 4 [(0, .ref b), (1, .ref (hx 0)), (2, .ref (hm 0)), (3, .int (nI i))]) (hdis : ∀ q, xA hx q → mA hm q → False) (hXS : XS D hx cZ cI s (lA s) H locs g f) (hMS : MS D hm cZ2 cI2 s (lA s) H locs g2 f2) (hXI : mt_XI g f) (hCI : mt_CI g f g2 f2) (kk : ∀ (H : Heap) (locs : List Loc) (g : Nat → Nat → Nat) (f : Nat → Nat → Int32) (g2 : Nat → Nat → Nat) (f2 : Nat → Nat → Int32), XS D hx cZ cI s (lA s) H locs g f → MS D hm cZ2 cI2 s (lA s) H locs g2 f2 → mt_XI g f → mt_CI g f g2 f2 → W p l e room_1 s m #[Value.ref b] below meth cd H locs 30 1775 Q (F0 m 428 ls [])) : W p l e room_1 s m #[Value.ref b] below meth cd H locs 30 1775 Q (F0 m 88 ls []) := by
  have hM60 : g 0 0 ≤ 60 := hXI.1.1
  have hc0 := hCI.1
  refine lv_aload_n (pc := 88) S.1 S.2.1 dL_law_88 rfl (lv_at hl 1 rfl) ?_
  refine lv_aload_n (pc := 89) S.1 S.2.1 dL_law_89 rfl (lv_at hl 0 rfl) ?_
  refine lv_iload_n (pc := 90) S.1 S.2.1 dL_law_90 rfl (lv_at hl 3 rfl) ?_
  refine lv_iconst (pc := 91) (v := nI 1) S.1 S.2.1 dL_law_91 (by decide) ?_
  refine z_iadd (pc := 92) (x := i) (y := 1) S dL_law_92 ?_
  refine l_sld (pc := 93) (j := i + 1) (v := xs (i + 1)) S hX hbl hL hXS.2.2.2 (by omega) rfl dL_law_93 ?_
  refine lv_aload_n (pc := 94) S.1 S.2.1 dL_law_94 rfl (lv_at hl 0 rfl) ?_
  refine lv_iload_n (pc := 95) S.1 S.2.1 dL_law_95 rfl (lv_at hl 3 rfl) ?_
  refine lv_iconst (pc := 96) (v := nI 2) S.1 S.2.1 dL_law_96 (by decide) ?_
  refine z_iadd (pc := 97) (x := i) (y := 2) S dL_law_97 ?_
  refine l_sld (pc := 98) (j := i + 2) (v := xs (i + 2)) S hX hbl hL hXS.2.2.2 (by omega) rfl dL_law_98 ?_
  refine lv_aload_n (pc := 99) S.1 S.2.1 dL_law_99 rfl (lv_at hl 0 rfl) ?_
  refine lv_iload_n (pc := 100) S.1 S.2.1 dL_law_100 rfl (lv_at hl 3 rfl) ?_
  refine lv_iconst (pc := 101) (v := nI 3) S.1 S.2.1 dL_law_101 (by decide) ?_
  refine z_iadd (pc := 102) (x := i) (y := 3) S dL_law_102 ?_
  refine l_sld (pc := 103) (j := i + 3) (v := xs (i + 3)) S hX hbl hL hXS.2.2.2 (by omega) rfl dL_law_103 ?_
  refine x_calli (pc := 104) (As := [.int (xs (i + 1)), .int (xs (i + 2)), .int (xs (i + 3))]) (rest := []) S hXS (metX0_move l D hx cZ cI g f (xs (i + 1)) (xs (i + 2)) (xs (i + 3)) hXI) (clX0_move S.2.2.2.2 (by decide)) rfl hl.1 rfl (Nat.le_of_ble_eq_true rfl) (by decide) dL_law_104 (fun r1 g1 f1 H1 locs1 hp1 hXS1 _ hk1 => ?_)
  have hMS1 := l_mkeep hMS hk1 hdis hXS1.2.2.2
  rcases hp1 with ⟨hok, r, nd, pp, hr, hn1, hn2, hpp, e1, e2, e3, hK, ev⟩ | ⟨hno, ev, eg, ef⟩
  · have hM : g 0 0 < 60 := hok.2.2.2
    have hK : mt_MK g f r (1, nd, nI pp) g1 f1 := hK
    have hv : ∀ c, c < g2 0 0 → g2 6 (60 * r + c) < 2 ∧ g2 2 c < 2147483647 := fun c hc => ⟨(hCI.2.2 r c hr (by omega)).1, by rw [(hCI.2.1 c (by omega)).2.1]; have := (hXI.1.2.1 c (by omega)).2.1; omega⟩
    refine lv_aload_n (pc := 107) S.1 S.2.1 dL_law_107 rfl (lv_at hl 2 rfl) ?_
    refine lv_aload_n (pc := 108) S.1 S.2.1 dL_law_108 rfl (lv_at hl 0 rfl) ?_
    refine lv_iload_n (pc := 109) S.1 S.2.1 dL_law_109 rfl (lv_at hl 3 rfl) ?_
    refine lv_iconst (pc := 110) (v := nI 1) S.1 S.2.1 dL_law_110 (by decide) ?_
    refine z_iadd (pc := 111) (x := i) (y := 1) S dL_law_111 ?_
    refine l_sld (pc := 112) (j := i + 1) (v := nI r) S hX hbl hL hMS1.2.2.2 (by omega) e1 dL_law_112 ?_
    refine lv_aload_n (pc := 113) S.1 S.2.1 dL_law_113 rfl (lv_at hl 0 rfl) ?_
    refine lv_iload_n (pc := 114) S.1 S.2.1 dL_law_114 rfl (lv_at hl 3 rfl) ?_
    refine lv_iconst (pc := 115) (v := nI 2) S.1 S.2.1 dL_law_115 (by decide) ?_
    refine z_iadd (pc := 116) (x := i) (y := 2) S dL_law_116 ?_
    refine l_sld (pc := 117) (j := i + 2) (v := nI nd) S hX hbl hL hMS1.2.2.2 (by omega) e2 dL_law_117 ?_
    refine lv_aload_n (pc := 118) S.1 S.2.1 dL_law_118 rfl (lv_at hl 0 rfl) ?_
    refine lv_iload_n (pc := 119) S.1 S.2.1 dL_law_119 rfl (lv_at hl 3 rfl) ?_
    refine lv_iconst (pc := 120) (v := nI 3) S.1 S.2.1 dL_law_120 (by decide) ?_
    refine z_iadd (pc := 121) (x := i) (y := 3) S dL_law_121 ?_
    refine l_sld (pc := 122) (j := i + 3) (v := nI pp) S hX hbl hL hMS1.2.2.2 (by omega) e3 dL_law_122 ?_
    refine m_calli (pc := 123) (As := [.int (nI r), .int (nI nd), .int (nI pp)]) (rest := [.int r1]) S hMS1 (metX1_move_ok l D hm cZ2 cI2 g2 f2 r nd pp (fun k => g1 12 (60 * r + k)) (g1 11 r) hr hn1 hn2 hpp (by omega) hv (fun mx hmx => mt_CI_LV hK.1 (mt_CI_make hXI hCI hr hM hK hmx) hr)) (clX1_move S.2.2.2.2 (by decide)) rfl hl.1 rfl (Nat.le_of_ble_eq_true rfl) (by decide) dL_law_123 (fun r2 g3 f3 H2 locs2 hp2 hMS2 _ hk2 => ?_)
    have hXS2 := l_xkeep hXS1 hk2 hdis hMS2.2.2.2
    obtain ⟨mx, hmx, ev2, hco⟩ := hp2
    have hCI1 := mt_CI_make hXI hCI hr hM hK hmx
    obtain ⟨k1, k2, k3, k4, k5, k6, k7, k8, k9⟩ := id hK
    have heq : r1 = r2 := by
      rw [ev, ev2]
      exact mt_mv_eq k1 hCI1 hr k8 (show g1 12 (60 * r + g 11 r) = g2 0 0 by rw [k9, hc0]) (show mt_q g1 f1 r (g 11 r) = (1, nd, nI pp) by unfold mt_q; rw [k9, k4]) (by show ¬ (1 : Nat) = 0; decide)
    refine lv_icmp_eq (pc := 126) (tgt := 428) S.1 S.2.1 dL_law_126 (by decide) (fun _ => ?_) (fun z => absurd heq z)
    exact kk _ _ _ _ _ _ hXS2 hMS2 hK.1 (mt_CI_CO hCI1 hco)
  · have eg : g1 = g := eg
    have ef : f1 = f := ef
    rw [eg, ef] at hXS1
    refine lv_aload_n (pc := 107) S.1 S.2.1 dL_law_107 rfl (lv_at hl 2 rfl) ?_
    refine lv_aload_n (pc := 108) S.1 S.2.1 dL_law_108 rfl (lv_at hl 0 rfl) ?_
    refine lv_iload_n (pc := 109) S.1 S.2.1 dL_law_109 rfl (lv_at hl 3 rfl) ?_
    refine lv_iconst (pc := 110) (v := nI 1) S.1 S.2.1 dL_law_110 (by decide) ?_
    refine z_iadd (pc := 111) (x := i) (y := 1) S dL_law_111 ?_
    refine l_sld (pc := 112) (j := i + 1) (v := xs (i + 1)) S hX hbl hL hMS1.2.2.2 (by omega) rfl dL_law_112 ?_
    refine lv_aload_n (pc := 113) S.1 S.2.1 dL_law_113 rfl (lv_at hl 0 rfl) ?_
    refine lv_iload_n (pc := 114) S.1 S.2.1 dL_law_114 rfl (lv_at hl 3 rfl) ?_
    refine lv_iconst (pc := 115) (v := nI 2) S.1 S.2.1 dL_law_115 (by decide) ?_
    refine z_iadd (pc := 116) (x := i) (y := 2) S dL_law_116 ?_
    refine l_sld (pc := 117) (j := i + 2) (v := xs (i + 2)) S hX hbl hL hMS1.2.2.2 (by omega) rfl dL_law_117 ?_
    refine lv_aload_n (pc := 118) S.1 S.2.1 dL_law_118 rfl (lv_at hl 0 rfl) ?_
    refine lv_iload_n (pc := 119) S.1 S.2.1 dL_law_119 rfl (lv_at hl 3 rfl) ?_
    refine lv_iconst (pc := 120) (v := nI 3) S.1 S.2.1 dL_law_120 (by decide) ?_
    refine z_iadd (pc := 121) (x := i) (y := 3) S dL_law_121 ?_
    refine l_sld (pc := 122) (j := i + 3) (v := xs (i + 3)) S hX hbl hL hMS1.2.2.2 (by omega) rfl dL_law_122 ?_
    refine m_calli (pc := 123) (As := [.int (xs (i + 1)), .int (xs (i + 2)), .int (xs (i + 3))]) (rest := [.int r1]) S hMS1 (metX1_move_bad l D hm cZ2 cI2 g2 f2 (xs (i + 1)) (xs (i + 2)) (xs (i + 3)) (by omega) (fun z => hno ⟨z.1, z.2.1, z.2.2.1, by have := z.2.2.2; omega⟩)) (clX1_move S.2.2.2.2 (by decide)) rfl hl.1 rfl (Nat.le_of_ble_eq_true rfl) (by decide) dL_law_123 (fun r2 g3 f3 H2 locs2 hp2 hMS2 _ hk2 => ?_)
    have hXS2 := l_xkeep hXS1 hk2 hdis hMS2.2.2.2
    have eg3 : g3 = g2 := congrArg Prod.fst hp2.2
    have ef3 : f3 = f2 := congrArg Prod.snd hp2.2
    rw [eg3, ef3] at hMS2
    have heq : r1 = r2 := by rw [ev, hp2.1]
    refine lv_icmp_eq (pc := 126) (tgt := 428) S.1 S.2.1 dL_law_126 (by decide) (fun _ => ?_) (fun z => absurd heq z)
    exact kk _ _ _ _ _ _ hXS2 hMS2 hXI hCI
set_option maxHeartbeats 4000000 in
/-- name -/
theorem law_1 {p : Program} {l : Launch} {e : Env} {s : State} {m : MethodId} {below : List Frame} {meth : Method} {cd : Code} {H : Heap} {locs : List Loc} {Q : State → Prop} {ls : Array Slot} {D : va_G} {hx hm : Nat → Nat} {cZ cI cZ2 cI2 : ClassId} {g g2 : Nat → Nat → Nat} {f f2 : Nat → Nat → Int32} {b L i : Nat} {xs : Nat → Int32} (S : CallFix p m cd cL_law 4 s #[Value.ref b] lw_all "MoveTreeLaw") (hX : va_X b L xs s s.heap) (hbl : b < s.heap.size) (hL : L ≤ 256) (hi : i + 3 < L) (hl : lv_has ls 4 [(0, .ref b), (1, .ref (hx 0)), (2, .ref (hm 0)), (3, .int (nI i))]) (hdis : ∀ q, xA hx q → mA hm q → False) (hXS : XS D hx cZ cI s (lA s) H locs g f) (hMS : MS D hm cZ2 cI2 s (lA s) H locs g2 f2) (hXI : mt_XI g f) (hCI : mt_CI g f g2 f2) (kk : ∀ (H : Heap) (locs : List Loc) (g : Nat → Nat → Nat) (f : Nat → Nat → Int32) (g2 : Nat → Nat → Nat) (f2 : Nat → Nat → Int32), XS D hx cZ cI s (lA s) H locs g f → MS D hm cZ2 cI2 s (lA s) H locs g2 f2 → mt_XI g f → mt_CI g f g2 f2 → W p l e room_1 s m #[Value.ref b] below meth cd H locs 30 1775 Q (F0 m 428 ls [])) : W p l e room_1 s m #[Value.ref b] below meth cd H locs 30 1775 Q (F0 m 131 ls []) := by
  have hM60 : g 0 0 ≤ 60 := hXI.1.1
  have hc0 := hCI.1
  refine lv_aload_n (pc := 131) S.1 S.2.1 dL_law_131 rfl (lv_at hl 1 rfl) ?_
  refine lv_aload_n (pc := 132) S.1 S.2.1 dL_law_132 rfl (lv_at hl 0 rfl) ?_
  refine lv_iload_n (pc := 133) S.1 S.2.1 dL_law_133 rfl (lv_at hl 3 rfl) ?_
  refine lv_iconst (pc := 134) (v := nI 1) S.1 S.2.1 dL_law_134 (by decide) ?_
  refine z_iadd (pc := 135) (x := i) (y := 1) S dL_law_135 ?_
  refine l_sld (pc := 136) (j := i + 1) (v := xs (i + 1)) S hX hbl hL hXS.2.2.2 (by omega) rfl dL_law_136 ?_
  refine lv_aload_n (pc := 137) S.1 S.2.1 dL_law_137 rfl (lv_at hl 0 rfl) ?_
  refine lv_iload_n (pc := 138) S.1 S.2.1 dL_law_138 rfl (lv_at hl 3 rfl) ?_
  refine lv_iconst (pc := 139) (v := nI 2) S.1 S.2.1 dL_law_139 (by decide) ?_
  refine z_iadd (pc := 140) (x := i) (y := 2) S dL_law_140 ?_
  refine l_sld (pc := 141) (j := i + 2) (v := xs (i + 2)) S hX hbl hL hXS.2.2.2 (by omega) rfl dL_law_141 ?_
  refine lv_aload_n (pc := 142) S.1 S.2.1 dL_law_142 rfl (lv_at hl 0 rfl) ?_
  refine lv_iload_n (pc := 143) S.1 S.2.1 dL_law_143 rfl (lv_at hl 3 rfl) ?_
  refine lv_iconst (pc := 144) (v := nI 3) S.1 S.2.1 dL_law_144 (by decide) ?_
  refine z_iadd (pc := 145) (x := i) (y := 3) S dL_law_145 ?_
  refine l_sld (pc := 146) (j := i + 3) (v := xs (i + 3)) S hX hbl hL hXS.2.2.2 (by omega) rfl dL_law_146 ?_
  refine x_calli (pc := 147) (As := [.int (xs (i + 1)), .int (xs (i + 2)), .int (xs (i + 3))]) (rest := []) S hXS (metX0_name l D hx cZ cI g f (xs (i + 1)) (xs (i + 2)) (xs (i + 3)) hXI) (clX0_name S.2.2.2.2 (by decide)) rfl hl.1 rfl (Nat.le_of_ble_eq_true rfl) (by decide) dL_law_147 (fun r1 g1 f1 H1 locs1 hp1 hXS1 _ hk1 => ?_)
  have hMS1 := l_mkeep hMS hk1 hdis hXS1.2.2.2
  rcases hp1 with ⟨hok, ev, r, nd, hr, hn2, e1, e2, hK⟩ | ⟨hno, ev, eg, ef⟩
  · have hM : g 0 0 < 60 := hok.2.2
    have hK : mt_MK g f r (0, nd, xs (i + 3)) g1 f1 := hK
    have hv : ∀ c, c < g2 0 0 → g2 6 (60 * r + c) < 2 ∧ g2 2 c < 2147483647 := fun c hc => ⟨(hCI.2.2 r c hr (by omega)).1, by rw [(hCI.2.1 c (by omega)).2.1]; have := (hXI.1.2.1 c (by omega)).2.1; omega⟩
    refine lv_aload_n (pc := 150) S.1 S.2.1 dL_law_150 rfl (lv_at hl 2 rfl) ?_
    refine lv_aload_n (pc := 151) S.1 S.2.1 dL_law_151 rfl (lv_at hl 0 rfl) ?_
    refine lv_iload_n (pc := 152) S.1 S.2.1 dL_law_152 rfl (lv_at hl 3 rfl) ?_
    refine lv_iconst (pc := 153) (v := nI 1) S.1 S.2.1 dL_law_153 (by decide) ?_
    refine z_iadd (pc := 154) (x := i) (y := 1) S dL_law_154 ?_
    refine l_sld (pc := 155) (j := i + 1) (v := nI r) S hX hbl hL hMS1.2.2.2 (by omega) e1 dL_law_155 ?_
    refine lv_aload_n (pc := 156) S.1 S.2.1 dL_law_156 rfl (lv_at hl 0 rfl) ?_
    refine lv_iload_n (pc := 157) S.1 S.2.1 dL_law_157 rfl (lv_at hl 3 rfl) ?_
    refine lv_iconst (pc := 158) (v := nI 2) S.1 S.2.1 dL_law_158 (by decide) ?_
    refine z_iadd (pc := 159) (x := i) (y := 2) S dL_law_159 ?_
    refine l_sld (pc := 160) (j := i + 2) (v := nI nd) S hX hbl hL hMS1.2.2.2 (by omega) e2 dL_law_160 ?_
    refine lv_aload_n (pc := 161) S.1 S.2.1 dL_law_161 rfl (lv_at hl 0 rfl) ?_
    refine lv_iload_n (pc := 162) S.1 S.2.1 dL_law_162 rfl (lv_at hl 3 rfl) ?_
    refine lv_iconst (pc := 163) (v := nI 3) S.1 S.2.1 dL_law_163 (by decide) ?_
    refine z_iadd (pc := 164) (x := i) (y := 3) S dL_law_164 ?_
    refine l_sld (pc := 165) (j := i + 3) (v := xs (i + 3)) S hX hbl hL hMS1.2.2.2 (by omega) rfl dL_law_165 ?_
    refine m_calli (pc := 166) (As := [.int (nI r), .int (nI nd), .int (xs (i + 3))]) (rest := [.int r1]) S hMS1 (metX1_name_ok l D hm cZ2 cI2 g2 f2 r nd (xs (i + 3)) hr hn2 (by omega) hv) (clX1_name S.2.2.2.2 (by decide)) rfl hl.1 rfl (Nat.le_of_ble_eq_true rfl) (by decide) dL_law_166 (fun r2 g3 f3 H2 locs2 hp2 hMS2 _ hk2 => ?_)
    have hXS2 := l_xkeep hXS1 hk2 hdis hMS2.2.2.2
    obtain ⟨ev2, mx, hmx, hu⟩ := hp2
    have hCI1 := mt_CI_make hXI hCI hr hM hK hmx
    have eg3 : g3 = mt_ng g2 r 0 nd mx := congrArg Prod.fst hu
    have ef3 : f3 = st2 f2 5 (g2 0 0) (xs (i + 3)) := congrArg Prod.snd hu
    rw [eg3, ef3] at hMS2
    have heq : r1 = r2 := by rw [ev, ev2]
    refine lv_icmp_eq (pc := 169) (tgt := 428) S.1 S.2.1 dL_law_169 (by decide) (fun _ => ?_) (fun z => absurd heq z)
    exact kk _ _ _ _ _ _ hXS2 hMS2 hK.1 hCI1
  · have eg : g1 = g := eg
    have ef : f1 = f := ef
    rw [eg, ef] at hXS1
    refine lv_aload_n (pc := 150) S.1 S.2.1 dL_law_150 rfl (lv_at hl 2 rfl) ?_
    refine lv_aload_n (pc := 151) S.1 S.2.1 dL_law_151 rfl (lv_at hl 0 rfl) ?_
    refine lv_iload_n (pc := 152) S.1 S.2.1 dL_law_152 rfl (lv_at hl 3 rfl) ?_
    refine lv_iconst (pc := 153) (v := nI 1) S.1 S.2.1 dL_law_153 (by decide) ?_
    refine z_iadd (pc := 154) (x := i) (y := 1) S dL_law_154 ?_
    refine l_sld (pc := 155) (j := i + 1) (v := xs (i + 1)) S hX hbl hL hMS1.2.2.2 (by omega) rfl dL_law_155 ?_
    refine lv_aload_n (pc := 156) S.1 S.2.1 dL_law_156 rfl (lv_at hl 0 rfl) ?_
    refine lv_iload_n (pc := 157) S.1 S.2.1 dL_law_157 rfl (lv_at hl 3 rfl) ?_
    refine lv_iconst (pc := 158) (v := nI 2) S.1 S.2.1 dL_law_158 (by decide) ?_
    refine z_iadd (pc := 159) (x := i) (y := 2) S dL_law_159 ?_
    refine l_sld (pc := 160) (j := i + 2) (v := xs (i + 2)) S hX hbl hL hMS1.2.2.2 (by omega) rfl dL_law_160 ?_
    refine lv_aload_n (pc := 161) S.1 S.2.1 dL_law_161 rfl (lv_at hl 0 rfl) ?_
    refine lv_iload_n (pc := 162) S.1 S.2.1 dL_law_162 rfl (lv_at hl 3 rfl) ?_
    refine lv_iconst (pc := 163) (v := nI 3) S.1 S.2.1 dL_law_163 (by decide) ?_
    refine z_iadd (pc := 164) (x := i) (y := 3) S dL_law_164 ?_
    refine l_sld (pc := 165) (j := i + 3) (v := xs (i + 3)) S hX hbl hL hMS1.2.2.2 (by omega) rfl dL_law_165 ?_
    refine m_calli (pc := 166) (As := [.int (xs (i + 1)), .int (xs (i + 2)), .int (xs (i + 3))]) (rest := [.int r1]) S hMS1 (metX1_name_bad l D hm cZ2 cI2 g2 f2 (xs (i + 1)) (xs (i + 2)) (xs (i + 3)) (by omega) (fun z => hno ⟨z.1, z.2.1, by have := z.2.2; omega⟩)) (clX1_name S.2.2.2.2 (by decide)) rfl hl.1 rfl (Nat.le_of_ble_eq_true rfl) (by decide) dL_law_166 (fun r2 g3 f3 H2 locs2 hp2 hMS2 _ hk2 => ?_)
    have hXS2 := l_xkeep hXS1 hk2 hdis hMS2.2.2.2
    have eg3 : g3 = g2 := congrArg Prod.fst hp2.2
    have ef3 : f3 = f2 := congrArg Prod.snd hp2.2
    rw [eg3, ef3] at hMS2
    have heq : r1 = r2 := by rw [ev, hp2.1]
    refine lv_icmp_eq (pc := 169) (tgt := 428) S.1 S.2.1 dL_law_169 (by decide) (fun _ => ?_) (fun z => absurd heq z)
    exact kk _ _ _ _ _ _ hXS2 hMS2 hXI hCI
set_option maxHeartbeats 4000000 in
/-- deliver -/
theorem law_2 {p : Program} {l : Launch} {e : Env} {s : State} {m : MethodId} {below : List Frame} {meth : Method} {cd : Code} {H : Heap} {locs : List Loc} {Q : State → Prop} {ls : Array Slot} {D : va_G} {hx hm : Nat → Nat} {cZ cI cZ2 cI2 : ClassId} {g g2 : Nat → Nat → Nat} {f f2 : Nat → Nat → Int32} {b L i : Nat} {xs : Nat → Int32} (S : CallFix p m cd cL_law 4 s #[Value.ref b] lw_all "MoveTreeLaw") (hX : va_X b L xs s s.heap) (hbl : b < s.heap.size) (hL : L ≤ 256) (hi : i + 3 < L) (hl : lv_has ls 4 [(0, .ref b), (1, .ref (hx 0)), (2, .ref (hm 0)), (3, .int (nI i))]) (hdis : ∀ q, xA hx q → mA hm q → False) (hXS : XS D hx cZ cI s (lA s) H locs g f) (hMS : MS D hm cZ2 cI2 s (lA s) H locs g2 f2) (hXI : mt_XI g f) (hCI : mt_CI g f g2 f2) (kk : ∀ (H : Heap) (locs : List Loc) (g : Nat → Nat → Nat) (f : Nat → Nat → Int32) (g2 : Nat → Nat → Nat) (f2 : Nat → Nat → Int32), XS D hx cZ cI s (lA s) H locs g f → MS D hm cZ2 cI2 s (lA s) H locs g2 f2 → mt_XI g f → mt_CI g f g2 f2 → W p l e room_1 s m #[Value.ref b] below meth cd H locs 30 1775 Q (F0 m 428 ls [])) : W p l e room_1 s m #[Value.ref b] below meth cd H locs 30 1775 Q (F0 m 174 ls []) := by
  have hM60 : g 0 0 ≤ 60 := hXI.1.1
  have hc0 := hCI.1
  refine lv_aload_n (pc := 174) S.1 S.2.1 dL_law_174 rfl (lv_at hl 1 rfl) ?_
  refine lv_aload_n (pc := 175) S.1 S.2.1 dL_law_175 rfl (lv_at hl 0 rfl) ?_
  refine lv_iload_n (pc := 176) S.1 S.2.1 dL_law_176 rfl (lv_at hl 3 rfl) ?_
  refine lv_iconst (pc := 177) (v := nI 1) S.1 S.2.1 dL_law_177 (by decide) ?_
  refine z_iadd (pc := 178) (x := i) (y := 1) S dL_law_178 ?_
  refine l_sld (pc := 179) (j := i + 1) (v := xs (i + 1)) S hX hbl hL hXS.2.2.2 (by omega) rfl dL_law_179 ?_
  refine lv_aload_n (pc := 180) S.1 S.2.1 dL_law_180 rfl (lv_at hl 0 rfl) ?_
  refine lv_iload_n (pc := 181) S.1 S.2.1 dL_law_181 rfl (lv_at hl 3 rfl) ?_
  refine lv_iconst (pc := 182) (v := nI 2) S.1 S.2.1 dL_law_182 (by decide) ?_
  refine z_iadd (pc := 183) (x := i) (y := 2) S dL_law_183 ?_
  refine l_sld (pc := 184) (j := i + 2) (v := xs (i + 2)) S hX hbl hL hXS.2.2.2 (by omega) rfl dL_law_184 ?_
  refine x_calli (pc := 185) (As := [.int (xs (i + 1)), .int (xs (i + 2))]) (rest := []) S hXS (metX0_deliver l D hx cZ cI g f (xs (i + 1)) (xs (i + 2)) hXI) (clX0_deliver S.2.2.2.2 (by decide)) rfl hl.1 rfl (Nat.le_of_ble_eq_true rfl) (by decide) dL_law_185 (fun r1 g1 f1 H1 locs1 hp1 hXS1 _ hk1 => ?_)
  have hMS1 := l_mkeep hMS hk1 hdis hXS1.2.2.2
  rcases hp1 with ⟨fr, to, hfr, hto, e1, e2, ⟨hle, ev, eg, ef⟩ | ⟨c, hc, h5, hnk, h6, hLN, ev⟩⟩ | ⟨hno, ev, eg, ef⟩
  · have eg : g1 = g := eg
    have ef : f1 = f := ef
    rw [eg, ef] at hXS1
    have hv : ∀ c, c < g2 0 0 → g2 1 c < 2147483648 ∧ g2 6 (60 * to + c) < 2 := fun c hc => ⟨by rw [(hCI.2.1 c (by omega)).1]; have := (hXI.1.2.1 c (by omega)).2.2.1; omega, (hCI.2.2 to c hto (by omega)).1⟩
    have hno : ∀ c, c < g2 0 0 → g2 1 c = fr → ¬ g2 6 (60 * to + c) = 0 := by
      intro c hc h1
      have hc2 : c < g 0 0 := by omega
      rw [(hCI.2.1 c hc2).1] at h1
      refine (hCI.2.2 to c hto (by omega)).2.mpr ⟨hc2, ?_⟩
      unfold mt_kn
      have := (hXI.1.2.1 c hc2).2.2.2.2
      rw [h1] at this ⊢
      omega
    refine lv_aload_n (pc := 188) S.1 S.2.1 dL_law_188 rfl (lv_at hl 2 rfl) ?_
    refine lv_aload_n (pc := 189) S.1 S.2.1 dL_law_189 rfl (lv_at hl 0 rfl) ?_
    refine lv_iload_n (pc := 190) S.1 S.2.1 dL_law_190 rfl (lv_at hl 3 rfl) ?_
    refine lv_iconst (pc := 191) (v := nI 1) S.1 S.2.1 dL_law_191 (by decide) ?_
    refine z_iadd (pc := 192) (x := i) (y := 1) S dL_law_192 ?_
    refine l_sld (pc := 193) (j := i + 1) (v := nI fr) S hX hbl hL hMS1.2.2.2 (by omega) e1 dL_law_193 ?_
    refine lv_aload_n (pc := 194) S.1 S.2.1 dL_law_194 rfl (lv_at hl 0 rfl) ?_
    refine lv_iload_n (pc := 195) S.1 S.2.1 dL_law_195 rfl (lv_at hl 3 rfl) ?_
    refine lv_iconst (pc := 196) (v := nI 2) S.1 S.2.1 dL_law_196 (by decide) ?_
    refine z_iadd (pc := 197) (x := i) (y := 2) S dL_law_197 ?_
    refine l_sld (pc := 198) (j := i + 2) (v := nI to) S hX hbl hL hMS1.2.2.2 (by omega) e2 dL_law_198 ?_
    refine m_calli (pc := 199) (As := [.int (nI fr), .int (nI to)]) (rest := [.int r1]) S hMS1 (metX1_deliver_none l D hm cZ2 cI2 g2 f2 fr to hfr hto (by omega) hv hno) (clX1_deliver S.2.2.2.2 (by decide)) rfl hl.1 rfl (Nat.le_of_ble_eq_true rfl) (by decide) dL_law_199 (fun r2 g3 f3 H2 locs2 hp2 hMS2 _ hk2 => ?_)
    have hXS2 := l_xkeep hXS1 hk2 hdis hMS2.2.2.2
    have eg3 : g3 = g2 := congrArg Prod.fst hp2.2
    have ef3 : f3 = f2 := congrArg Prod.snd hp2.2
    rw [eg3, ef3] at hMS2
    have heq : r1 = r2 := by rw [ev, hp2.1]
    refine lv_icmp_eq (pc := 202) (tgt := 428) S.1 S.2.1 dL_law_202 (by decide) (fun _ => ?_) (fun z => absurd heq z)
    exact kk _ _ _ _ _ _ hXS2 hMS2 hXI hCI
  · have hLN : mt_LN g f to c g1 f1 := hLN
    have hv : ∀ c, c < g2 0 0 → g2 1 c < 2147483648 ∧ g2 6 (60 * to + c) < 2 := fun c hc => ⟨by rw [(hCI.2.1 c (by omega)).1]; have := (hXI.1.2.1 c (by omega)).2.2.1; omega, (hCI.2.2 to c hto (by omega)).1⟩
    have hCI1 := mt_CI_learn hXI hCI hto hc hLN
    have h1 : g2 1 c = fr := by rw [(hCI.2.1 c hc).1]; exact h5
    have h60 : g2 6 (60 * to + c) = 0 := Classical.byContradiction (fun z => hnk ((hCI.2.2 to c hto (by omega)).2.mp z).2)
    have hmin : ∀ d, d < c → g2 1 d = fr → ¬ g2 6 (60 * to + d) = 0 := by
      intro d hd h1d
      have hd2 : d < g 0 0 := by omega
      rw [(hCI.2.1 d hd2).1] at h1d
      refine (hCI.2.2 to d hto (by omega)).2.mpr ⟨hd2, ?_⟩
      have := (hXI.1.2.2.2.2 d c hd hc (by rw [h1d, h5])).1
      unfold mt_kn
      rw [h1d]
      omega
    refine lv_aload_n (pc := 188) S.1 S.2.1 dL_law_188 rfl (lv_at hl 2 rfl) ?_
    refine lv_aload_n (pc := 189) S.1 S.2.1 dL_law_189 rfl (lv_at hl 0 rfl) ?_
    refine lv_iload_n (pc := 190) S.1 S.2.1 dL_law_190 rfl (lv_at hl 3 rfl) ?_
    refine lv_iconst (pc := 191) (v := nI 1) S.1 S.2.1 dL_law_191 (by decide) ?_
    refine z_iadd (pc := 192) (x := i) (y := 1) S dL_law_192 ?_
    refine l_sld (pc := 193) (j := i + 1) (v := nI fr) S hX hbl hL hMS1.2.2.2 (by omega) e1 dL_law_193 ?_
    refine lv_aload_n (pc := 194) S.1 S.2.1 dL_law_194 rfl (lv_at hl 0 rfl) ?_
    refine lv_iload_n (pc := 195) S.1 S.2.1 dL_law_195 rfl (lv_at hl 3 rfl) ?_
    refine lv_iconst (pc := 196) (v := nI 2) S.1 S.2.1 dL_law_196 (by decide) ?_
    refine z_iadd (pc := 197) (x := i) (y := 2) S dL_law_197 ?_
    refine l_sld (pc := 198) (j := i + 2) (v := nI to) S hX hbl hL hMS1.2.2.2 (by omega) e2 dL_law_198 ?_
    refine m_calli (pc := 199) (As := [.int (nI fr), .int (nI to)]) (rest := [.int r1]) S hMS1 (metX1_deliver_some l D hm cZ2 cI2 g2 f2 fr to c (fun k => g1 12 (60 * to + k)) (g1 11 to) hfr hto (by omega) hv (by omega) h1 h60 hmin (mt_CI_LV hLN.1 hCI1 hto)) (clX1_deliver S.2.2.2.2 (by decide)) rfl hl.1 rfl (Nat.le_of_ble_eq_true rfl) (by decide) dL_law_199 (fun r2 g3 f3 H2 locs2 hp2 hMS2 _ hk2 => ?_)
    have hXS2 := l_xkeep hXS1 hk2 hdis hMS2.2.2.2
    obtain ⟨ev2, hco⟩ := hp2
    have heq : r1 = r2 := by
      rw [ev, ev2, mt_CI_run hLN.1 hCI1 hto (Nat.le_refl _)]
      show nI (g1 15 to) = _
      rw [(hLN.1.2 to hto).1.2.2.2.2.2.2.2.1.1]
    refine lv_icmp_eq (pc := 202) (tgt := 428) S.1 S.2.1 dL_law_202 (by decide) (fun _ => ?_) (fun z => absurd heq z)
    exact kk _ _ _ _ _ _ hXS2 hMS2 hLN.1 (mt_CI_CO hCI1 hco)
  · have eg : g1 = g := eg
    have ef : f1 = f := ef
    rw [eg, ef] at hXS1
    refine lv_aload_n (pc := 188) S.1 S.2.1 dL_law_188 rfl (lv_at hl 2 rfl) ?_
    refine lv_aload_n (pc := 189) S.1 S.2.1 dL_law_189 rfl (lv_at hl 0 rfl) ?_
    refine lv_iload_n (pc := 190) S.1 S.2.1 dL_law_190 rfl (lv_at hl 3 rfl) ?_
    refine lv_iconst (pc := 191) (v := nI 1) S.1 S.2.1 dL_law_191 (by decide) ?_
    refine z_iadd (pc := 192) (x := i) (y := 1) S dL_law_192 ?_
    refine l_sld (pc := 193) (j := i + 1) (v := xs (i + 1)) S hX hbl hL hMS1.2.2.2 (by omega) rfl dL_law_193 ?_
    refine lv_aload_n (pc := 194) S.1 S.2.1 dL_law_194 rfl (lv_at hl 0 rfl) ?_
    refine lv_iload_n (pc := 195) S.1 S.2.1 dL_law_195 rfl (lv_at hl 3 rfl) ?_
    refine lv_iconst (pc := 196) (v := nI 2) S.1 S.2.1 dL_law_196 (by decide) ?_
    refine z_iadd (pc := 197) (x := i) (y := 2) S dL_law_197 ?_
    refine l_sld (pc := 198) (j := i + 2) (v := xs (i + 2)) S hX hbl hL hMS1.2.2.2 (by omega) rfl dL_law_198 ?_
    refine m_calli (pc := 199) (As := [.int (xs (i + 1)), .int (xs (i + 2))]) (rest := [.int r1]) S hMS1 (metX1_deliver_bad l D hm cZ2 cI2 g2 f2 (xs (i + 1)) (xs (i + 2)) (hno)) (clX1_deliver S.2.2.2.2 (by decide)) rfl hl.1 rfl (Nat.le_of_ble_eq_true rfl) (by decide) dL_law_199 (fun r2 g3 f3 H2 locs2 hp2 hMS2 _ hk2 => ?_)
    have hXS2 := l_xkeep hXS1 hk2 hdis hMS2.2.2.2
    have eg3 : g3 = g2 := congrArg Prod.fst hp2.2
    have ef3 : f3 = f2 := congrArg Prod.snd hp2.2
    rw [eg3, ef3] at hMS2
    have heq : r1 = r2 := by rw [ev, hp2.1]
    refine lv_icmp_eq (pc := 202) (tgt := 428) S.1 S.2.1 dL_law_202 (by decide) (fun _ => ?_) (fun z => absurd heq z)
    exact kk _ _ _ _ _ _ hXS2 hMS2 hXI hCI
set_option maxHeartbeats 4000000 in
/-- sync -/
theorem law_3 {p : Program} {l : Launch} {e : Env} {s : State} {m : MethodId} {below : List Frame} {meth : Method} {cd : Code} {H : Heap} {locs : List Loc} {Q : State → Prop} {ls : Array Slot} {D : va_G} {hx hm : Nat → Nat} {cZ cI cZ2 cI2 : ClassId} {g g2 : Nat → Nat → Nat} {f f2 : Nat → Nat → Int32} {b L i : Nat} {xs : Nat → Int32} (S : CallFix p m cd cL_law 4 s #[Value.ref b] lw_all "MoveTreeLaw") (hX : va_X b L xs s s.heap) (hbl : b < s.heap.size) (hL : L ≤ 256) (hi : i + 3 < L) (hl : lv_has ls 4 [(0, .ref b), (1, .ref (hx 0)), (2, .ref (hm 0)), (3, .int (nI i))]) (hdis : ∀ q, xA hx q → mA hm q → False) (hXS : XS D hx cZ cI s (lA s) H locs g f) (hMS : MS D hm cZ2 cI2 s (lA s) H locs g2 f2) (hXI : mt_XI g f) (hCI : mt_CI g f g2 f2) (kk : ∀ (H : Heap) (locs : List Loc) (g : Nat → Nat → Nat) (f : Nat → Nat → Int32) (g2 : Nat → Nat → Nat) (f2 : Nat → Nat → Int32), XS D hx cZ cI s (lA s) H locs g f → MS D hm cZ2 cI2 s (lA s) H locs g2 f2 → mt_XI g f → mt_CI g f g2 f2 → W p l e room_1 s m #[Value.ref b] below meth cd H locs 30 1775 Q (F0 m 428 ls [])) : W p l e room_1 s m #[Value.ref b] below meth cd H locs 30 1775 Q (F0 m 207 ls []) := by
  have hM60 : g 0 0 ≤ 60 := hXI.1.1
  have hc0 := hCI.1
  refine lv_aload_n (pc := 207) S.1 S.2.1 dL_law_207 rfl (lv_at hl 1 rfl) ?_
  refine lv_aload_n (pc := 208) S.1 S.2.1 dL_law_208 rfl (lv_at hl 0 rfl) ?_
  refine lv_iload_n (pc := 209) S.1 S.2.1 dL_law_209 rfl (lv_at hl 3 rfl) ?_
  refine lv_iconst (pc := 210) (v := nI 1) S.1 S.2.1 dL_law_210 (by decide) ?_
  refine z_iadd (pc := 211) (x := i) (y := 1) S dL_law_211 ?_
  refine l_sld (pc := 212) (j := i + 1) (v := xs (i + 1)) S hX hbl hL hXS.2.2.2 (by omega) rfl dL_law_212 ?_
  refine lv_aload_n (pc := 213) S.1 S.2.1 dL_law_213 rfl (lv_at hl 0 rfl) ?_
  refine lv_iload_n (pc := 214) S.1 S.2.1 dL_law_214 rfl (lv_at hl 3 rfl) ?_
  refine lv_iconst (pc := 215) (v := nI 2) S.1 S.2.1 dL_law_215 (by decide) ?_
  refine z_iadd (pc := 216) (x := i) (y := 2) S dL_law_216 ?_
  refine l_sld (pc := 217) (j := i + 2) (v := xs (i + 2)) S hX hbl hL hXS.2.2.2 (by omega) rfl dL_law_217 ?_
  refine x_calli (pc := 218) (As := [.int (xs (i + 1)), .int (xs (i + 2))]) (rest := []) S hXS (metX0_sync l D hx cZ cI g f (xs (i + 1)) (xs (i + 2)) hXI) (clX0_sync S.2.2.2.2 (by decide)) rfl hl.1 rfl (Nat.le_of_ble_eq_true rfl) (by decide) dL_law_218 (fun r1 g1 f1 H1 locs1 hp1 hXS1 _ hk1 => ?_)
  have hMS1 := l_mkeep hMS hk1 hdis hXS1.2.2.2
  rcases hp1 with ⟨fr, to, hfr, hto, e1, e2, hSY, ev⟩ | ⟨hno, ev, eg, ef⟩
  · have hSY : mt_SY g f fr to (g 0 0) g1 f1 := hSY
    refine lv_aload_n (pc := 221) S.1 S.2.1 dL_law_221 rfl (lv_at hl 2 rfl) ?_
    refine lv_aload_n (pc := 222) S.1 S.2.1 dL_law_222 rfl (lv_at hl 0 rfl) ?_
    refine lv_iload_n (pc := 223) S.1 S.2.1 dL_law_223 rfl (lv_at hl 3 rfl) ?_
    refine lv_iconst (pc := 224) (v := nI 1) S.1 S.2.1 dL_law_224 (by decide) ?_
    refine z_iadd (pc := 225) (x := i) (y := 1) S dL_law_225 ?_
    refine l_sld (pc := 226) (j := i + 1) (v := nI fr) S hX hbl hL hMS1.2.2.2 (by omega) e1 dL_law_226 ?_
    refine lv_aload_n (pc := 227) S.1 S.2.1 dL_law_227 rfl (lv_at hl 0 rfl) ?_
    refine lv_iload_n (pc := 228) S.1 S.2.1 dL_law_228 rfl (lv_at hl 3 rfl) ?_
    refine lv_iconst (pc := 229) (v := nI 2) S.1 S.2.1 dL_law_229 (by decide) ?_
    refine z_iadd (pc := 230) (x := i) (y := 2) S dL_law_230 ?_
    refine l_sld (pc := 231) (j := i + 2) (v := nI to) S hX hbl hL hMS1.2.2.2 (by omega) e2 dL_law_231 ?_
    refine m_calli (pc := 232) (As := [.int (nI fr), .int (nI to)]) (rest := [.int r1]) S hMS1 (metX1_sync_ok l D hm cZ2 cI2 g2 f2 fr to hfr hto (by omega) (fun r c hr hc => (hCI.2.2 r c hr (by omega)).1)) (clX1_sync S.2.2.2.2 (by decide)) rfl hl.1 rfl (Nat.le_of_ble_eq_true rfl) (by decide) dL_law_232 (fun r2 g3 f3 H2 locs2 hp2 hMS2 _ hk2 => ?_)
    have hXS2 := l_xkeep hXS1 hk2 hdis hMS2.2.2.2
    obtain ⟨ev2, hms, ef3⟩ := hp2
    have ef3 : f3 = f2 := ef3
    rw [ef3] at hMS2
    have heq : r1 = r2 := by rw [ev, ev2, mt_CI_cnt hXI hCI hfr hto]
    refine lv_icmp_eq (pc := 235) (tgt := 428) S.1 S.2.1 dL_law_235 (by decide) (fun _ => ?_) (fun z => absurd heq z)
    exact kk _ _ _ _ _ _ hXS2 hMS2 hSY.1 (mt_CI_sync hXI hCI hfr hto hSY hms)
  · have eg : g1 = g := eg
    have ef : f1 = f := ef
    rw [eg, ef] at hXS1
    refine lv_aload_n (pc := 221) S.1 S.2.1 dL_law_221 rfl (lv_at hl 2 rfl) ?_
    refine lv_aload_n (pc := 222) S.1 S.2.1 dL_law_222 rfl (lv_at hl 0 rfl) ?_
    refine lv_iload_n (pc := 223) S.1 S.2.1 dL_law_223 rfl (lv_at hl 3 rfl) ?_
    refine lv_iconst (pc := 224) (v := nI 1) S.1 S.2.1 dL_law_224 (by decide) ?_
    refine z_iadd (pc := 225) (x := i) (y := 1) S dL_law_225 ?_
    refine l_sld (pc := 226) (j := i + 1) (v := xs (i + 1)) S hX hbl hL hMS1.2.2.2 (by omega) rfl dL_law_226 ?_
    refine lv_aload_n (pc := 227) S.1 S.2.1 dL_law_227 rfl (lv_at hl 0 rfl) ?_
    refine lv_iload_n (pc := 228) S.1 S.2.1 dL_law_228 rfl (lv_at hl 3 rfl) ?_
    refine lv_iconst (pc := 229) (v := nI 2) S.1 S.2.1 dL_law_229 (by decide) ?_
    refine z_iadd (pc := 230) (x := i) (y := 2) S dL_law_230 ?_
    refine l_sld (pc := 231) (j := i + 2) (v := xs (i + 2)) S hX hbl hL hMS1.2.2.2 (by omega) rfl dL_law_231 ?_
    refine m_calli (pc := 232) (As := [.int (xs (i + 1)), .int (xs (i + 2))]) (rest := [.int r1]) S hMS1 (metX1_sync_bad l D hm cZ2 cI2 g2 f2 (xs (i + 1)) (xs (i + 2)) (hno)) (clX1_sync S.2.2.2.2 (by decide)) rfl hl.1 rfl (Nat.le_of_ble_eq_true rfl) (by decide) dL_law_232 (fun r2 g3 f3 H2 locs2 hp2 hMS2 _ hk2 => ?_)
    have hXS2 := l_xkeep hXS1 hk2 hdis hMS2.2.2.2
    have eg3 : g3 = g2 := congrArg Prod.fst hp2.2
    have ef3 : f3 = f2 := congrArg Prod.snd hp2.2
    rw [eg3, ef3] at hMS2
    have heq : r1 = r2 := by rw [ev, hp2.1]
    refine lv_icmp_eq (pc := 235) (tgt := 428) S.1 S.2.1 dL_law_235 (by decide) (fun _ => ?_) (fun z => absurd heq z)
    exact kk _ _ _ _ _ _ hXS2 hMS2 hXI hCI
set_option maxHeartbeats 4000000 in
/-- parent -/
theorem law_4 {p : Program} {l : Launch} {e : Env} {s : State} {m : MethodId} {below : List Frame} {meth : Method} {cd : Code} {H : Heap} {locs : List Loc} {Q : State → Prop} {ls : Array Slot} {D : va_G} {hx hm : Nat → Nat} {cZ cI cZ2 cI2 : ClassId} {g g2 : Nat → Nat → Nat} {f f2 : Nat → Nat → Int32} {b L i : Nat} {xs : Nat → Int32} (S : CallFix p m cd cL_law 4 s #[Value.ref b] lw_all "MoveTreeLaw") (hX : va_X b L xs s s.heap) (hbl : b < s.heap.size) (hL : L ≤ 256) (hi : i + 3 < L) (hl : lv_has ls 4 [(0, .ref b), (1, .ref (hx 0)), (2, .ref (hm 0)), (3, .int (nI i))]) (hdis : ∀ q, xA hx q → mA hm q → False) (hXS : XS D hx cZ cI s (lA s) H locs g f) (hMS : MS D hm cZ2 cI2 s (lA s) H locs g2 f2) (hXI : mt_XI g f) (hCI : mt_CI g f g2 f2) (kk : ∀ (H : Heap) (locs : List Loc) (g : Nat → Nat → Nat) (f : Nat → Nat → Int32) (g2 : Nat → Nat → Nat) (f2 : Nat → Nat → Int32), XS D hx cZ cI s (lA s) H locs g f → MS D hm cZ2 cI2 s (lA s) H locs g2 f2 → mt_XI g f → mt_CI g f g2 f2 → W p l e room_1 s m #[Value.ref b] below meth cd H locs 30 1775 Q (F0 m 428 ls [])) : W p l e room_1 s m #[Value.ref b] below meth cd H locs 30 1775 Q (F0 m 240 ls []) := by
  have hM60 : g 0 0 ≤ 60 := hXI.1.1
  have hc0 := hCI.1
  refine lv_aload_n (pc := 240) S.1 S.2.1 dL_law_240 rfl (lv_at hl 1 rfl) ?_
  refine lv_aload_n (pc := 241) S.1 S.2.1 dL_law_241 rfl (lv_at hl 0 rfl) ?_
  refine lv_iload_n (pc := 242) S.1 S.2.1 dL_law_242 rfl (lv_at hl 3 rfl) ?_
  refine lv_iconst (pc := 243) (v := nI 1) S.1 S.2.1 dL_law_243 (by decide) ?_
  refine z_iadd (pc := 244) (x := i) (y := 1) S dL_law_244 ?_
  refine l_sld (pc := 245) (j := i + 1) (v := xs (i + 1)) S hX hbl hL hXS.2.2.2 (by omega) rfl dL_law_245 ?_
  refine lv_aload_n (pc := 246) S.1 S.2.1 dL_law_246 rfl (lv_at hl 0 rfl) ?_
  refine lv_iload_n (pc := 247) S.1 S.2.1 dL_law_247 rfl (lv_at hl 3 rfl) ?_
  refine lv_iconst (pc := 248) (v := nI 2) S.1 S.2.1 dL_law_248 (by decide) ?_
  refine z_iadd (pc := 249) (x := i) (y := 2) S dL_law_249 ?_
  refine l_sld (pc := 250) (j := i + 2) (v := xs (i + 2)) S hX hbl hL hXS.2.2.2 (by omega) rfl dL_law_250 ?_
  refine x_calli (pc := 251) (As := [.int (xs (i + 1)), .int (xs (i + 2))]) (rest := []) S hXS (metX0_parent l D hx cZ cI g f (xs (i + 1)) (xs (i + 2))) (clX0_parent S.2.2.2.2 (by decide)) rfl hl.1 rfl (Nat.le_of_ble_eq_true rfl) (by decide) dL_law_251 (fun r1 g1 f1 H1 locs1 hp1 hXS1 _ hk1 => ?_)
  have hMS1 := l_mkeep hMS hk1 hdis hXS1.2.2.2
  have eg : g1 = g := congrArg Prod.fst hp1.2
  have ef : f1 = f := congrArg Prod.snd hp1.2
  rw [eg, ef] at hXS1
  rcases hp1.1 with ⟨r, n, hr, hn, e1, e2, ev⟩ | ⟨hno, ev⟩
  · have hDI := (hXI.2 r hr).1.2.2.2.2.2.2.2.1
    refine lv_aload_n (pc := 254) S.1 S.2.1 dL_law_254 rfl (lv_at hl 2 rfl) ?_
    refine lv_aload_n (pc := 255) S.1 S.2.1 dL_law_255 rfl (lv_at hl 0 rfl) ?_
    refine lv_iload_n (pc := 256) S.1 S.2.1 dL_law_256 rfl (lv_at hl 3 rfl) ?_
    refine lv_iconst (pc := 257) (v := nI 1) S.1 S.2.1 dL_law_257 (by decide) ?_
    refine z_iadd (pc := 258) (x := i) (y := 1) S dL_law_258 ?_
    refine l_sld (pc := 259) (j := i + 1) (v := nI r) S hX hbl hL hMS1.2.2.2 (by omega) e1 dL_law_259 ?_
    refine lv_aload_n (pc := 260) S.1 S.2.1 dL_law_260 rfl (lv_at hl 0 rfl) ?_
    refine lv_iload_n (pc := 261) S.1 S.2.1 dL_law_261 rfl (lv_at hl 3 rfl) ?_
    refine lv_iconst (pc := 262) (v := nI 2) S.1 S.2.1 dL_law_262 (by decide) ?_
    refine z_iadd (pc := 263) (x := i) (y := 2) S dL_law_263 ?_
    refine l_sld (pc := 264) (j := i + 2) (v := nI n) S hX hbl hL hMS1.2.2.2 (by omega) e2 dL_law_264 ?_
    refine m_calli (pc := 265) (As := [.int (nI r), .int (nI n)]) (rest := [.int r1]) S hMS1 (metX1_parent_ok l D hm cZ2 cI2 g2 f2 r n (fun k => g 12 (60 * r + k)) (g 11 r) hr hn (mt_CI_LV hXI hCI hr)) (clX1_parent S.2.2.2.2 (by decide)) rfl hl.1 rfl (Nat.le_of_ble_eq_true rfl) (by decide) dL_law_265 (fun r2 g3 f3 H2 locs2 hp2 hMS2 _ hk2 => ?_)
    have hXS2 := l_xkeep hXS1 hk2 hdis hMS2.2.2.2
    obtain ⟨ev2, hco⟩ := hp2
    have heq : r1 = r2 := by
      rw [ev, ev2, mt_CI_run hXI hCI hr (Nat.le_refl _)]
      exact (hDI.2 n hn).1
    refine lv_icmp_eq (pc := 268) (tgt := 428) S.1 S.2.1 dL_law_268 (by decide) (fun _ => ?_) (fun z => absurd heq z)
    exact kk _ _ _ _ _ _ hXS2 hMS2 hXI (mt_CI_CO hCI hco)
  · skip
    refine lv_aload_n (pc := 254) S.1 S.2.1 dL_law_254 rfl (lv_at hl 2 rfl) ?_
    refine lv_aload_n (pc := 255) S.1 S.2.1 dL_law_255 rfl (lv_at hl 0 rfl) ?_
    refine lv_iload_n (pc := 256) S.1 S.2.1 dL_law_256 rfl (lv_at hl 3 rfl) ?_
    refine lv_iconst (pc := 257) (v := nI 1) S.1 S.2.1 dL_law_257 (by decide) ?_
    refine z_iadd (pc := 258) (x := i) (y := 1) S dL_law_258 ?_
    refine l_sld (pc := 259) (j := i + 1) (v := xs (i + 1)) S hX hbl hL hMS1.2.2.2 (by omega) rfl dL_law_259 ?_
    refine lv_aload_n (pc := 260) S.1 S.2.1 dL_law_260 rfl (lv_at hl 0 rfl) ?_
    refine lv_iload_n (pc := 261) S.1 S.2.1 dL_law_261 rfl (lv_at hl 3 rfl) ?_
    refine lv_iconst (pc := 262) (v := nI 2) S.1 S.2.1 dL_law_262 (by decide) ?_
    refine z_iadd (pc := 263) (x := i) (y := 2) S dL_law_263 ?_
    refine l_sld (pc := 264) (j := i + 2) (v := xs (i + 2)) S hX hbl hL hMS1.2.2.2 (by omega) rfl dL_law_264 ?_
    refine m_calli (pc := 265) (As := [.int (xs (i + 1)), .int (xs (i + 2))]) (rest := [.int r1]) S hMS1 (metX1_parent_bad l D hm cZ2 cI2 g2 f2 (xs (i + 1)) (xs (i + 2)) (hno)) (clX1_parent S.2.2.2.2 (by decide)) rfl hl.1 rfl (Nat.le_of_ble_eq_true rfl) (by decide) dL_law_265 (fun r2 g3 f3 H2 locs2 hp2 hMS2 _ hk2 => ?_)
    have hXS2 := l_xkeep hXS1 hk2 hdis hMS2.2.2.2
    have eg3 : g3 = g2 := congrArg Prod.fst hp2.2
    have ef3 : f3 = f2 := congrArg Prod.snd hp2.2
    rw [eg3, ef3] at hMS2
    have heq : r1 = r2 := by rw [ev, hp2.1]
    refine lv_icmp_eq (pc := 268) (tgt := 428) S.1 S.2.1 dL_law_268 (by decide) (fun _ => ?_) (fun z => absurd heq z)
    exact kk _ _ _ _ _ _ hXS2 hMS2 hXI hCI
set_option maxHeartbeats 4000000 in
/-- label -/
theorem law_5 {p : Program} {l : Launch} {e : Env} {s : State} {m : MethodId} {below : List Frame} {meth : Method} {cd : Code} {H : Heap} {locs : List Loc} {Q : State → Prop} {ls : Array Slot} {D : va_G} {hx hm : Nat → Nat} {cZ cI cZ2 cI2 : ClassId} {g g2 : Nat → Nat → Nat} {f f2 : Nat → Nat → Int32} {b L i : Nat} {xs : Nat → Int32} (S : CallFix p m cd cL_law 4 s #[Value.ref b] lw_all "MoveTreeLaw") (hX : va_X b L xs s s.heap) (hbl : b < s.heap.size) (hL : L ≤ 256) (hi : i + 3 < L) (hl : lv_has ls 4 [(0, .ref b), (1, .ref (hx 0)), (2, .ref (hm 0)), (3, .int (nI i))]) (hdis : ∀ q, xA hx q → mA hm q → False) (hXS : XS D hx cZ cI s (lA s) H locs g f) (hMS : MS D hm cZ2 cI2 s (lA s) H locs g2 f2) (hXI : mt_XI g f) (hCI : mt_CI g f g2 f2) (kk : ∀ (H : Heap) (locs : List Loc) (g : Nat → Nat → Nat) (f : Nat → Nat → Int32) (g2 : Nat → Nat → Nat) (f2 : Nat → Nat → Int32), XS D hx cZ cI s (lA s) H locs g f → MS D hm cZ2 cI2 s (lA s) H locs g2 f2 → mt_XI g f → mt_CI g f g2 f2 → W p l e room_1 s m #[Value.ref b] below meth cd H locs 30 1775 Q (F0 m 428 ls [])) : W p l e room_1 s m #[Value.ref b] below meth cd H locs 30 1775 Q (F0 m 273 ls []) := by
  have hM60 : g 0 0 ≤ 60 := hXI.1.1
  have hc0 := hCI.1
  refine lv_aload_n (pc := 273) S.1 S.2.1 dL_law_273 rfl (lv_at hl 1 rfl) ?_
  refine lv_aload_n (pc := 274) S.1 S.2.1 dL_law_274 rfl (lv_at hl 0 rfl) ?_
  refine lv_iload_n (pc := 275) S.1 S.2.1 dL_law_275 rfl (lv_at hl 3 rfl) ?_
  refine lv_iconst (pc := 276) (v := nI 1) S.1 S.2.1 dL_law_276 (by decide) ?_
  refine z_iadd (pc := 277) (x := i) (y := 1) S dL_law_277 ?_
  refine l_sld (pc := 278) (j := i + 1) (v := xs (i + 1)) S hX hbl hL hXS.2.2.2 (by omega) rfl dL_law_278 ?_
  refine lv_aload_n (pc := 279) S.1 S.2.1 dL_law_279 rfl (lv_at hl 0 rfl) ?_
  refine lv_iload_n (pc := 280) S.1 S.2.1 dL_law_280 rfl (lv_at hl 3 rfl) ?_
  refine lv_iconst (pc := 281) (v := nI 2) S.1 S.2.1 dL_law_281 (by decide) ?_
  refine z_iadd (pc := 282) (x := i) (y := 2) S dL_law_282 ?_
  refine l_sld (pc := 283) (j := i + 2) (v := xs (i + 2)) S hX hbl hL hXS.2.2.2 (by omega) rfl dL_law_283 ?_
  refine x_calli (pc := 284) (As := [.int (xs (i + 1)), .int (xs (i + 2))]) (rest := []) S hXS (metX0_label l D hx cZ cI g f (xs (i + 1)) (xs (i + 2))) (clX0_label S.2.2.2.2 (by decide)) rfl hl.1 rfl (Nat.le_of_ble_eq_true rfl) (by decide) dL_law_284 (fun r1 g1 f1 H1 locs1 hp1 hXS1 _ hk1 => ?_)
  have hMS1 := l_mkeep hMS hk1 hdis hXS1.2.2.2
  have eg : g1 = g := congrArg Prod.fst hp1.2
  have ef : f1 = f := congrArg Prod.snd hp1.2
  rw [eg, ef] at hXS1
  rcases hp1.1 with ⟨r, n, hr, hn, e1, e2, ev⟩ | ⟨hno, ev⟩
  · have hDI := (hXI.2 r hr).1.2.2.2.2.2.2.2.1
    refine lv_aload_n (pc := 287) S.1 S.2.1 dL_law_287 rfl (lv_at hl 2 rfl) ?_
    refine lv_aload_n (pc := 288) S.1 S.2.1 dL_law_288 rfl (lv_at hl 0 rfl) ?_
    refine lv_iload_n (pc := 289) S.1 S.2.1 dL_law_289 rfl (lv_at hl 3 rfl) ?_
    refine lv_iconst (pc := 290) (v := nI 1) S.1 S.2.1 dL_law_290 (by decide) ?_
    refine z_iadd (pc := 291) (x := i) (y := 1) S dL_law_291 ?_
    refine l_sld (pc := 292) (j := i + 1) (v := nI r) S hX hbl hL hMS1.2.2.2 (by omega) e1 dL_law_292 ?_
    refine lv_aload_n (pc := 293) S.1 S.2.1 dL_law_293 rfl (lv_at hl 0 rfl) ?_
    refine lv_iload_n (pc := 294) S.1 S.2.1 dL_law_294 rfl (lv_at hl 3 rfl) ?_
    refine lv_iconst (pc := 295) (v := nI 2) S.1 S.2.1 dL_law_295 (by decide) ?_
    refine z_iadd (pc := 296) (x := i) (y := 2) S dL_law_296 ?_
    refine l_sld (pc := 297) (j := i + 2) (v := nI n) S hX hbl hL hMS1.2.2.2 (by omega) e2 dL_law_297 ?_
    refine m_calli (pc := 298) (As := [.int (nI r), .int (nI n)]) (rest := [.int r1]) S hMS1 (metX1_label_ok l D hm cZ2 cI2 g2 f2 r n (fun k => g 12 (60 * r + k)) (g 11 r) hr hn (mt_CI_LV hXI hCI hr)) (clX1_label S.2.2.2.2 (by decide)) rfl hl.1 rfl (Nat.le_of_ble_eq_true rfl) (by decide) dL_law_298 (fun r2 g3 f3 H2 locs2 hp2 hMS2 _ hk2 => ?_)
    have hXS2 := l_xkeep hXS1 hk2 hdis hMS2.2.2.2
    obtain ⟨ev2, hco⟩ := hp2
    have heq : r1 = r2 := by
      rw [ev, ev2, mt_CI_run hXI hCI hr (Nat.le_refl _)]
      exact (hDI.2 n hn).2
    refine lv_icmp_eq (pc := 301) (tgt := 428) S.1 S.2.1 dL_law_301 (by decide) (fun _ => ?_) (fun z => absurd heq z)
    exact kk _ _ _ _ _ _ hXS2 hMS2 hXI (mt_CI_CO hCI hco)
  · skip
    refine lv_aload_n (pc := 287) S.1 S.2.1 dL_law_287 rfl (lv_at hl 2 rfl) ?_
    refine lv_aload_n (pc := 288) S.1 S.2.1 dL_law_288 rfl (lv_at hl 0 rfl) ?_
    refine lv_iload_n (pc := 289) S.1 S.2.1 dL_law_289 rfl (lv_at hl 3 rfl) ?_
    refine lv_iconst (pc := 290) (v := nI 1) S.1 S.2.1 dL_law_290 (by decide) ?_
    refine z_iadd (pc := 291) (x := i) (y := 1) S dL_law_291 ?_
    refine l_sld (pc := 292) (j := i + 1) (v := xs (i + 1)) S hX hbl hL hMS1.2.2.2 (by omega) rfl dL_law_292 ?_
    refine lv_aload_n (pc := 293) S.1 S.2.1 dL_law_293 rfl (lv_at hl 0 rfl) ?_
    refine lv_iload_n (pc := 294) S.1 S.2.1 dL_law_294 rfl (lv_at hl 3 rfl) ?_
    refine lv_iconst (pc := 295) (v := nI 2) S.1 S.2.1 dL_law_295 (by decide) ?_
    refine z_iadd (pc := 296) (x := i) (y := 2) S dL_law_296 ?_
    refine l_sld (pc := 297) (j := i + 2) (v := xs (i + 2)) S hX hbl hL hMS1.2.2.2 (by omega) rfl dL_law_297 ?_
    refine m_calli (pc := 298) (As := [.int (xs (i + 1)), .int (xs (i + 2))]) (rest := [.int r1]) S hMS1 (metX1_label_bad l D hm cZ2 cI2 g2 f2 (xs (i + 1)) (xs (i + 2)) (hno)) (clX1_label S.2.2.2.2 (by decide)) rfl hl.1 rfl (Nat.le_of_ble_eq_true rfl) (by decide) dL_law_298 (fun r2 g3 f3 H2 locs2 hp2 hMS2 _ hk2 => ?_)
    have hXS2 := l_xkeep hXS1 hk2 hdis hMS2.2.2.2
    have eg3 : g3 = g2 := congrArg Prod.fst hp2.2
    have ef3 : f3 = f2 := congrArg Prod.snd hp2.2
    rw [eg3, ef3] at hMS2
    have heq : r1 = r2 := by rw [ev, hp2.1]
    refine lv_icmp_eq (pc := 301) (tgt := 428) S.1 S.2.1 dL_law_301 (by decide) (fun _ => ?_) (fun z => absurd heq z)
    exact kk _ _ _ _ _ _ hXS2 hMS2 hXI hCI
set_option maxHeartbeats 4000000 in
/-- children -/
theorem law_6 {p : Program} {l : Launch} {e : Env} {s : State} {m : MethodId} {below : List Frame} {meth : Method} {cd : Code} {H : Heap} {locs : List Loc} {Q : State → Prop} {ls : Array Slot} {D : va_G} {hx hm : Nat → Nat} {cZ cI cZ2 cI2 : ClassId} {g g2 : Nat → Nat → Nat} {f f2 : Nat → Nat → Int32} {b L i : Nat} {xs : Nat → Int32} (S : CallFix p m cd cL_law 4 s #[Value.ref b] lw_all "MoveTreeLaw") (hX : va_X b L xs s s.heap) (hbl : b < s.heap.size) (hL : L ≤ 256) (hi : i + 3 < L) (hl : lv_has ls 4 [(0, .ref b), (1, .ref (hx 0)), (2, .ref (hm 0)), (3, .int (nI i))]) (hdis : ∀ q, xA hx q → mA hm q → False) (hXS : XS D hx cZ cI s (lA s) H locs g f) (hMS : MS D hm cZ2 cI2 s (lA s) H locs g2 f2) (hXI : mt_XI g f) (hCI : mt_CI g f g2 f2) (kk : ∀ (H : Heap) (locs : List Loc) (g : Nat → Nat → Nat) (f : Nat → Nat → Int32) (g2 : Nat → Nat → Nat) (f2 : Nat → Nat → Int32), XS D hx cZ cI s (lA s) H locs g f → MS D hm cZ2 cI2 s (lA s) H locs g2 f2 → mt_XI g f → mt_CI g f g2 f2 → W p l e room_1 s m #[Value.ref b] below meth cd H locs 30 1775 Q (F0 m 428 ls [])) : W p l e room_1 s m #[Value.ref b] below meth cd H locs 30 1775 Q (F0 m 306 ls []) := by
  have hM60 : g 0 0 ≤ 60 := hXI.1.1
  have hc0 := hCI.1
  refine lv_aload_n (pc := 306) S.1 S.2.1 dL_law_306 rfl (lv_at hl 1 rfl) ?_
  refine lv_aload_n (pc := 307) S.1 S.2.1 dL_law_307 rfl (lv_at hl 0 rfl) ?_
  refine lv_iload_n (pc := 308) S.1 S.2.1 dL_law_308 rfl (lv_at hl 3 rfl) ?_
  refine lv_iconst (pc := 309) (v := nI 1) S.1 S.2.1 dL_law_309 (by decide) ?_
  refine z_iadd (pc := 310) (x := i) (y := 1) S dL_law_310 ?_
  refine l_sld (pc := 311) (j := i + 1) (v := xs (i + 1)) S hX hbl hL hXS.2.2.2 (by omega) rfl dL_law_311 ?_
  refine lv_aload_n (pc := 312) S.1 S.2.1 dL_law_312 rfl (lv_at hl 0 rfl) ?_
  refine lv_iload_n (pc := 313) S.1 S.2.1 dL_law_313 rfl (lv_at hl 3 rfl) ?_
  refine lv_iconst (pc := 314) (v := nI 2) S.1 S.2.1 dL_law_314 (by decide) ?_
  refine z_iadd (pc := 315) (x := i) (y := 2) S dL_law_315 ?_
  refine l_sld (pc := 316) (j := i + 2) (v := xs (i + 2)) S hX hbl hL hXS.2.2.2 (by omega) rfl dL_law_316 ?_
  refine x_calli (pc := 317) (As := [.int (xs (i + 1)), .int (xs (i + 2))]) (rest := []) S hXS (metX0_children l D hx cZ cI g f (xs (i + 1)) (xs (i + 2))) (clX0_children S.2.2.2.2 (by decide)) rfl hl.1 rfl (Nat.le_of_ble_eq_true rfl) (by decide) dL_law_317 (fun r1 g1 f1 H1 locs1 hp1 hXS1 _ hk1 => ?_)
  have hMS1 := l_mkeep hMS hk1 hdis hXS1.2.2.2
  have eg : g1 = g := congrArg Prod.fst hp1.2
  have ef : f1 = f := congrArg Prod.snd hp1.2
  rw [eg, ef] at hXS1
  rcases hp1.1 with ⟨r, n, hr, hn, e1, e2, ev⟩ | ⟨hno, ev⟩
  · have hDI := (hXI.2 r hr).1.2.2.2.2.2.2.2.1
    refine lv_aload_n (pc := 320) S.1 S.2.1 dL_law_320 rfl (lv_at hl 2 rfl) ?_
    refine lv_aload_n (pc := 321) S.1 S.2.1 dL_law_321 rfl (lv_at hl 0 rfl) ?_
    refine lv_iload_n (pc := 322) S.1 S.2.1 dL_law_322 rfl (lv_at hl 3 rfl) ?_
    refine lv_iconst (pc := 323) (v := nI 1) S.1 S.2.1 dL_law_323 (by decide) ?_
    refine z_iadd (pc := 324) (x := i) (y := 1) S dL_law_324 ?_
    refine l_sld (pc := 325) (j := i + 1) (v := nI r) S hX hbl hL hMS1.2.2.2 (by omega) e1 dL_law_325 ?_
    refine lv_aload_n (pc := 326) S.1 S.2.1 dL_law_326 rfl (lv_at hl 0 rfl) ?_
    refine lv_iload_n (pc := 327) S.1 S.2.1 dL_law_327 rfl (lv_at hl 3 rfl) ?_
    refine lv_iconst (pc := 328) (v := nI 2) S.1 S.2.1 dL_law_328 (by decide) ?_
    refine z_iadd (pc := 329) (x := i) (y := 2) S dL_law_329 ?_
    refine l_sld (pc := 330) (j := i + 2) (v := nI n) S hX hbl hL hMS1.2.2.2 (by omega) e2 dL_law_330 ?_
    refine m_calli (pc := 331) (As := [.int (nI r), .int (nI n)]) (rest := [.int r1]) S hMS1 (metX1_children_ok l D hm cZ2 cI2 g2 f2 r n (fun k => g 12 (60 * r + k)) (g 11 r) hr hn (mt_CI_LV hXI hCI hr)) (clX1_children S.2.2.2.2 (by decide)) rfl hl.1 rfl (Nat.le_of_ble_eq_true rfl) (by decide) dL_law_331 (fun r2 g3 f3 H2 locs2 hp2 hMS2 _ hk2 => ?_)
    have hXS2 := l_xkeep hXS1 hk2 hdis hMS2.2.2.2
    obtain ⟨ev2, hco⟩ := hp2
    have heq : r1 = r2 := by
      rw [ev, ev2, mt_CI_run hXI hCI hr (Nat.le_refl _)]
      exact congrArg nI (mt_cnt_congr (fun j hj => mt_dec_congr (by show (f 16 (10 * r + j) = nI n) ↔ _; rw [(hDI.2 j hj).1])))
    refine lv_icmp_eq (pc := 334) (tgt := 428) S.1 S.2.1 dL_law_334 (by decide) (fun _ => ?_) (fun z => absurd heq z)
    exact kk _ _ _ _ _ _ hXS2 hMS2 hXI (mt_CI_CO hCI hco)
  · skip
    refine lv_aload_n (pc := 320) S.1 S.2.1 dL_law_320 rfl (lv_at hl 2 rfl) ?_
    refine lv_aload_n (pc := 321) S.1 S.2.1 dL_law_321 rfl (lv_at hl 0 rfl) ?_
    refine lv_iload_n (pc := 322) S.1 S.2.1 dL_law_322 rfl (lv_at hl 3 rfl) ?_
    refine lv_iconst (pc := 323) (v := nI 1) S.1 S.2.1 dL_law_323 (by decide) ?_
    refine z_iadd (pc := 324) (x := i) (y := 1) S dL_law_324 ?_
    refine l_sld (pc := 325) (j := i + 1) (v := xs (i + 1)) S hX hbl hL hMS1.2.2.2 (by omega) rfl dL_law_325 ?_
    refine lv_aload_n (pc := 326) S.1 S.2.1 dL_law_326 rfl (lv_at hl 0 rfl) ?_
    refine lv_iload_n (pc := 327) S.1 S.2.1 dL_law_327 rfl (lv_at hl 3 rfl) ?_
    refine lv_iconst (pc := 328) (v := nI 2) S.1 S.2.1 dL_law_328 (by decide) ?_
    refine z_iadd (pc := 329) (x := i) (y := 2) S dL_law_329 ?_
    refine l_sld (pc := 330) (j := i + 2) (v := xs (i + 2)) S hX hbl hL hMS1.2.2.2 (by omega) rfl dL_law_330 ?_
    refine m_calli (pc := 331) (As := [.int (xs (i + 1)), .int (xs (i + 2))]) (rest := [.int r1]) S hMS1 (metX1_children_bad l D hm cZ2 cI2 g2 f2 (xs (i + 1)) (xs (i + 2)) (hno)) (clX1_children S.2.2.2.2 (by decide)) rfl hl.1 rfl (Nat.le_of_ble_eq_true rfl) (by decide) dL_law_331 (fun r2 g3 f3 H2 locs2 hp2 hMS2 _ hk2 => ?_)
    have hXS2 := l_xkeep hXS1 hk2 hdis hMS2.2.2.2
    have eg3 : g3 = g2 := congrArg Prod.fst hp2.2
    have ef3 : f3 = f2 := congrArg Prod.snd hp2.2
    rw [eg3, ef3] at hMS2
    have heq : r1 = r2 := by rw [ev, hp2.1]
    refine lv_icmp_eq (pc := 334) (tgt := 428) S.1 S.2.1 dL_law_334 (by decide) (fun _ => ?_) (fun z => absurd heq z)
    exact kk _ _ _ _ _ _ hXS2 hMS2 hXI hCI
set_option maxHeartbeats 4000000 in
/-- depth -/
theorem law_7 {p : Program} {l : Launch} {e : Env} {s : State} {m : MethodId} {below : List Frame} {meth : Method} {cd : Code} {H : Heap} {locs : List Loc} {Q : State → Prop} {ls : Array Slot} {D : va_G} {hx hm : Nat → Nat} {cZ cI cZ2 cI2 : ClassId} {g g2 : Nat → Nat → Nat} {f f2 : Nat → Nat → Int32} {b L i : Nat} {xs : Nat → Int32} (S : CallFix p m cd cL_law 4 s #[Value.ref b] lw_all "MoveTreeLaw") (hX : va_X b L xs s s.heap) (hbl : b < s.heap.size) (hL : L ≤ 256) (hi : i + 3 < L) (hl : lv_has ls 4 [(0, .ref b), (1, .ref (hx 0)), (2, .ref (hm 0)), (3, .int (nI i))]) (hdis : ∀ q, xA hx q → mA hm q → False) (hXS : XS D hx cZ cI s (lA s) H locs g f) (hMS : MS D hm cZ2 cI2 s (lA s) H locs g2 f2) (hXI : mt_XI g f) (hCI : mt_CI g f g2 f2) (kk : ∀ (H : Heap) (locs : List Loc) (g : Nat → Nat → Nat) (f : Nat → Nat → Int32) (g2 : Nat → Nat → Nat) (f2 : Nat → Nat → Int32), XS D hx cZ cI s (lA s) H locs g f → MS D hm cZ2 cI2 s (lA s) H locs g2 f2 → mt_XI g f → mt_CI g f g2 f2 → W p l e room_1 s m #[Value.ref b] below meth cd H locs 30 1775 Q (F0 m 428 ls [])) : W p l e room_1 s m #[Value.ref b] below meth cd H locs 30 1775 Q (F0 m 339 ls []) := by
  have hM60 : g 0 0 ≤ 60 := hXI.1.1
  have hc0 := hCI.1
  refine lv_aload_n (pc := 339) S.1 S.2.1 dL_law_339 rfl (lv_at hl 1 rfl) ?_
  refine lv_aload_n (pc := 340) S.1 S.2.1 dL_law_340 rfl (lv_at hl 0 rfl) ?_
  refine lv_iload_n (pc := 341) S.1 S.2.1 dL_law_341 rfl (lv_at hl 3 rfl) ?_
  refine lv_iconst (pc := 342) (v := nI 1) S.1 S.2.1 dL_law_342 (by decide) ?_
  refine z_iadd (pc := 343) (x := i) (y := 1) S dL_law_343 ?_
  refine l_sld (pc := 344) (j := i + 1) (v := xs (i + 1)) S hX hbl hL hXS.2.2.2 (by omega) rfl dL_law_344 ?_
  refine lv_aload_n (pc := 345) S.1 S.2.1 dL_law_345 rfl (lv_at hl 0 rfl) ?_
  refine lv_iload_n (pc := 346) S.1 S.2.1 dL_law_346 rfl (lv_at hl 3 rfl) ?_
  refine lv_iconst (pc := 347) (v := nI 2) S.1 S.2.1 dL_law_347 (by decide) ?_
  refine z_iadd (pc := 348) (x := i) (y := 2) S dL_law_348 ?_
  refine l_sld (pc := 349) (j := i + 2) (v := xs (i + 2)) S hX hbl hL hXS.2.2.2 (by omega) rfl dL_law_349 ?_
  refine x_calli (pc := 350) (As := [.int (xs (i + 1)), .int (xs (i + 2))]) (rest := []) S hXS (metX0_depth l D hx cZ cI g f (xs (i + 1)) (xs (i + 2)) hXI) (clX0_depth S.2.2.2.2 (by decide)) rfl hl.1 rfl (Nat.le_of_ble_eq_true rfl) (by decide) dL_law_350 (fun r1 g1 f1 H1 locs1 hp1 hXS1 _ hk1 => ?_)
  have hMS1 := l_mkeep hMS hk1 hdis hXS1.2.2.2
  have eg : g1 = g := congrArg Prod.fst hp1.2
  have ef : f1 = f := congrArg Prod.snd hp1.2
  rw [eg, ef] at hXS1
  rcases hp1.1 with ⟨r, n, hr, hn, e1, e2, ev⟩ | ⟨hno, ev⟩
  · have hDI := (hXI.2 r hr).1.2.2.2.2.2.2.2.1
    refine lv_aload_n (pc := 353) S.1 S.2.1 dL_law_353 rfl (lv_at hl 2 rfl) ?_
    refine lv_aload_n (pc := 354) S.1 S.2.1 dL_law_354 rfl (lv_at hl 0 rfl) ?_
    refine lv_iload_n (pc := 355) S.1 S.2.1 dL_law_355 rfl (lv_at hl 3 rfl) ?_
    refine lv_iconst (pc := 356) (v := nI 1) S.1 S.2.1 dL_law_356 (by decide) ?_
    refine z_iadd (pc := 357) (x := i) (y := 1) S dL_law_357 ?_
    refine l_sld (pc := 358) (j := i + 1) (v := nI r) S hX hbl hL hMS1.2.2.2 (by omega) e1 dL_law_358 ?_
    refine lv_aload_n (pc := 359) S.1 S.2.1 dL_law_359 rfl (lv_at hl 0 rfl) ?_
    refine lv_iload_n (pc := 360) S.1 S.2.1 dL_law_360 rfl (lv_at hl 3 rfl) ?_
    refine lv_iconst (pc := 361) (v := nI 2) S.1 S.2.1 dL_law_361 (by decide) ?_
    refine z_iadd (pc := 362) (x := i) (y := 2) S dL_law_362 ?_
    refine l_sld (pc := 363) (j := i + 2) (v := nI n) S hX hbl hL hMS1.2.2.2 (by omega) e2 dL_law_363 ?_
    refine m_calli (pc := 364) (As := [.int (nI r), .int (nI n)]) (rest := [.int r1]) S hMS1 (metX1_depth_ok l D hm cZ2 cI2 g2 f2 r n (fun k => g 12 (60 * r + k)) (g 11 r) hr hn (mt_CI_LV hXI hCI hr)) (clX1_depth S.2.2.2.2 (by decide)) rfl hl.1 rfl (Nat.le_of_ble_eq_true rfl) (by decide) dL_law_364 (fun r2 g3 f3 H2 locs2 hp2 hMS2 _ hk2 => ?_)
    have hXS2 := l_xkeep hXS1 hk2 hdis hMS2.2.2.2
    obtain ⟨ev2, hco⟩ := hp2
    have heq : r1 = r2 := by
      rw [ev, ev2, mt_CI_run hXI hCI hr (Nat.le_refl _)]
      rw [mt_dp_congr (fun j hj => (hDI.2 j hj).1) (mt_XI_okp hXI hr) 10 n hn]
    refine lv_icmp_eq (pc := 367) (tgt := 428) S.1 S.2.1 dL_law_367 (by decide) (fun _ => ?_) (fun z => absurd heq z)
    exact kk _ _ _ _ _ _ hXS2 hMS2 hXI (mt_CI_CO hCI hco)
  · skip
    refine lv_aload_n (pc := 353) S.1 S.2.1 dL_law_353 rfl (lv_at hl 2 rfl) ?_
    refine lv_aload_n (pc := 354) S.1 S.2.1 dL_law_354 rfl (lv_at hl 0 rfl) ?_
    refine lv_iload_n (pc := 355) S.1 S.2.1 dL_law_355 rfl (lv_at hl 3 rfl) ?_
    refine lv_iconst (pc := 356) (v := nI 1) S.1 S.2.1 dL_law_356 (by decide) ?_
    refine z_iadd (pc := 357) (x := i) (y := 1) S dL_law_357 ?_
    refine l_sld (pc := 358) (j := i + 1) (v := xs (i + 1)) S hX hbl hL hMS1.2.2.2 (by omega) rfl dL_law_358 ?_
    refine lv_aload_n (pc := 359) S.1 S.2.1 dL_law_359 rfl (lv_at hl 0 rfl) ?_
    refine lv_iload_n (pc := 360) S.1 S.2.1 dL_law_360 rfl (lv_at hl 3 rfl) ?_
    refine lv_iconst (pc := 361) (v := nI 2) S.1 S.2.1 dL_law_361 (by decide) ?_
    refine z_iadd (pc := 362) (x := i) (y := 2) S dL_law_362 ?_
    refine l_sld (pc := 363) (j := i + 2) (v := xs (i + 2)) S hX hbl hL hMS1.2.2.2 (by omega) rfl dL_law_363 ?_
    refine m_calli (pc := 364) (As := [.int (xs (i + 1)), .int (xs (i + 2))]) (rest := [.int r1]) S hMS1 (metX1_depth_bad l D hm cZ2 cI2 g2 f2 (xs (i + 1)) (xs (i + 2)) (hno)) (clX1_depth S.2.2.2.2 (by decide)) rfl hl.1 rfl (Nat.le_of_ble_eq_true rfl) (by decide) dL_law_364 (fun r2 g3 f3 H2 locs2 hp2 hMS2 _ hk2 => ?_)
    have hXS2 := l_xkeep hXS1 hk2 hdis hMS2.2.2.2
    have eg3 : g3 = g2 := congrArg Prod.fst hp2.2
    have ef3 : f3 = f2 := congrArg Prod.snd hp2.2
    rw [eg3, ef3] at hMS2
    have heq : r1 = r2 := by rw [ev, hp2.1]
    refine lv_icmp_eq (pc := 367) (tgt := 428) S.1 S.2.1 dL_law_367 (by decide) (fun _ => ?_) (fun z => absurd heq z)
    exact kk _ _ _ _ _ _ hXS2 hMS2 hXI hCI
set_option maxHeartbeats 4000000 in
/-- skipped -/
theorem law_8 {p : Program} {l : Launch} {e : Env} {s : State} {m : MethodId} {below : List Frame} {meth : Method} {cd : Code} {H : Heap} {locs : List Loc} {Q : State → Prop} {ls : Array Slot} {D : va_G} {hx hm : Nat → Nat} {cZ cI cZ2 cI2 : ClassId} {g g2 : Nat → Nat → Nat} {f f2 : Nat → Nat → Int32} {b L i : Nat} {xs : Nat → Int32} (S : CallFix p m cd cL_law 4 s #[Value.ref b] lw_all "MoveTreeLaw") (hX : va_X b L xs s s.heap) (hbl : b < s.heap.size) (hL : L ≤ 256) (hi : i + 3 < L) (hl : lv_has ls 4 [(0, .ref b), (1, .ref (hx 0)), (2, .ref (hm 0)), (3, .int (nI i))]) (hdis : ∀ q, xA hx q → mA hm q → False) (hXS : XS D hx cZ cI s (lA s) H locs g f) (hMS : MS D hm cZ2 cI2 s (lA s) H locs g2 f2) (hXI : mt_XI g f) (hCI : mt_CI g f g2 f2) (kk : ∀ (H : Heap) (locs : List Loc) (g : Nat → Nat → Nat) (f : Nat → Nat → Int32) (g2 : Nat → Nat → Nat) (f2 : Nat → Nat → Int32), XS D hx cZ cI s (lA s) H locs g f → MS D hm cZ2 cI2 s (lA s) H locs g2 f2 → mt_XI g f → mt_CI g f g2 f2 → W p l e room_1 s m #[Value.ref b] below meth cd H locs 30 1775 Q (F0 m 428 ls [])) : W p l e room_1 s m #[Value.ref b] below meth cd H locs 30 1775 Q (F0 m 372 ls []) := by
  have hM60 : g 0 0 ≤ 60 := hXI.1.1
  have hc0 := hCI.1
  refine lv_aload_n (pc := 372) S.1 S.2.1 dL_law_372 rfl (lv_at hl 1 rfl) ?_
  refine lv_aload_n (pc := 373) S.1 S.2.1 dL_law_373 rfl (lv_at hl 0 rfl) ?_
  refine lv_iload_n (pc := 374) S.1 S.2.1 dL_law_374 rfl (lv_at hl 3 rfl) ?_
  refine lv_iconst (pc := 375) (v := nI 1) S.1 S.2.1 dL_law_375 (by decide) ?_
  refine z_iadd (pc := 376) (x := i) (y := 1) S dL_law_376 ?_
  refine l_sld (pc := 377) (j := i + 1) (v := xs (i + 1)) S hX hbl hL hXS.2.2.2 (by omega) rfl dL_law_377 ?_
  refine x_calli (pc := 378) (As := [.int (xs (i + 1))]) (rest := []) S hXS (metX0_skipped l D hx cZ cI g f (xs (i + 1))) (clX0_skipped S.2.2.2.2 (by decide)) rfl hl.1 rfl (Nat.le_of_ble_eq_true rfl) (by decide) dL_law_378 (fun r1 g1 f1 H1 locs1 hp1 hXS1 _ hk1 => ?_)
  have hMS1 := l_mkeep hMS hk1 hdis hXS1.2.2.2
  have eg : g1 = g := congrArg Prod.fst hp1.2
  have ef : f1 = f := congrArg Prod.snd hp1.2
  rw [eg, ef] at hXS1
  rcases hp1.1 with ⟨r, hr, e1, ev⟩ | ⟨hno, ev⟩
  · have hDI := (hXI.2 r hr).1.2.2.2.2.2.2.2.1
    refine lv_aload_n (pc := 381) S.1 S.2.1 dL_law_381 rfl (lv_at hl 2 rfl) ?_
    refine lv_aload_n (pc := 382) S.1 S.2.1 dL_law_382 rfl (lv_at hl 0 rfl) ?_
    refine lv_iload_n (pc := 383) S.1 S.2.1 dL_law_383 rfl (lv_at hl 3 rfl) ?_
    refine lv_iconst (pc := 384) (v := nI 1) S.1 S.2.1 dL_law_384 (by decide) ?_
    refine z_iadd (pc := 385) (x := i) (y := 1) S dL_law_385 ?_
    refine l_sld (pc := 386) (j := i + 1) (v := nI r) S hX hbl hL hMS1.2.2.2 (by omega) e1 dL_law_386 ?_
    refine m_calli (pc := 387) (As := [.int (nI r)]) (rest := [.int r1]) S hMS1 (metX1_skipped_ok l D hm cZ2 cI2 g2 f2 r (fun k => g 12 (60 * r + k)) (g 11 r) hr (mt_CI_LV hXI hCI hr)) (clX1_skipped S.2.2.2.2 (by decide)) rfl hl.1 rfl (Nat.le_of_ble_eq_true rfl) (by decide) dL_law_387 (fun r2 g3 f3 H2 locs2 hp2 hMS2 _ hk2 => ?_)
    have hXS2 := l_xkeep hXS1 hk2 hdis hMS2.2.2.2
    obtain ⟨ev2, hco⟩ := hp2
    have heq : r1 = r2 := by
      rw [ev, ev2, mt_CI_run hXI hCI hr (Nat.le_refl _), hDI.1]
    refine lv_icmp_eq (pc := 390) (tgt := 428) S.1 S.2.1 dL_law_390 (by decide) (fun _ => ?_) (fun z => absurd heq z)
    exact kk _ _ _ _ _ _ hXS2 hMS2 hXI (mt_CI_CO hCI hco)
  · skip
    refine lv_aload_n (pc := 381) S.1 S.2.1 dL_law_381 rfl (lv_at hl 2 rfl) ?_
    refine lv_aload_n (pc := 382) S.1 S.2.1 dL_law_382 rfl (lv_at hl 0 rfl) ?_
    refine lv_iload_n (pc := 383) S.1 S.2.1 dL_law_383 rfl (lv_at hl 3 rfl) ?_
    refine lv_iconst (pc := 384) (v := nI 1) S.1 S.2.1 dL_law_384 (by decide) ?_
    refine z_iadd (pc := 385) (x := i) (y := 1) S dL_law_385 ?_
    refine l_sld (pc := 386) (j := i + 1) (v := xs (i + 1)) S hX hbl hL hMS1.2.2.2 (by omega) rfl dL_law_386 ?_
    refine m_calli (pc := 387) (As := [.int (xs (i + 1))]) (rest := [.int r1]) S hMS1 (metX1_skipped_bad l D hm cZ2 cI2 g2 f2 (xs (i + 1)) (hno)) (clX1_skipped S.2.2.2.2 (by decide)) rfl hl.1 rfl (Nat.le_of_ble_eq_true rfl) (by decide) dL_law_387 (fun r2 g3 f3 H2 locs2 hp2 hMS2 _ hk2 => ?_)
    have hXS2 := l_xkeep hXS1 hk2 hdis hMS2.2.2.2
    have eg3 : g3 = g2 := congrArg Prod.fst hp2.2
    have ef3 : f3 = f2 := congrArg Prod.snd hp2.2
    rw [eg3, ef3] at hMS2
    have heq : r1 = r2 := by rw [ev, hp2.1]
    refine lv_icmp_eq (pc := 390) (tgt := 428) S.1 S.2.1 dL_law_390 (by decide) (fun _ => ?_) (fun z => absurd heq z)
    exact kk _ _ _ _ _ _ hXS2 hMS2 hXI hCI
set_option maxHeartbeats 4000000 in
/-- alike -/
theorem law_9 {p : Program} {l : Launch} {e : Env} {s : State} {m : MethodId} {below : List Frame} {meth : Method} {cd : Code} {H : Heap} {locs : List Loc} {Q : State → Prop} {ls : Array Slot} {D : va_G} {hx hm : Nat → Nat} {cZ cI cZ2 cI2 : ClassId} {g g2 : Nat → Nat → Nat} {f f2 : Nat → Nat → Int32} {b L i : Nat} {xs : Nat → Int32} (S : CallFix p m cd cL_law 4 s #[Value.ref b] lw_all "MoveTreeLaw") (hX : va_X b L xs s s.heap) (hbl : b < s.heap.size) (hL : L ≤ 256) (hi : i + 3 < L) (hl : lv_has ls 4 [(0, .ref b), (1, .ref (hx 0)), (2, .ref (hm 0)), (3, .int (nI i))]) (hdis : ∀ q, xA hx q → mA hm q → False) (hXS : XS D hx cZ cI s (lA s) H locs g f) (hMS : MS D hm cZ2 cI2 s (lA s) H locs g2 f2) (hXI : mt_XI g f) (hCI : mt_CI g f g2 f2) (kk : ∀ (H : Heap) (locs : List Loc) (g : Nat → Nat → Nat) (f : Nat → Nat → Int32) (g2 : Nat → Nat → Nat) (f2 : Nat → Nat → Int32), XS D hx cZ cI s (lA s) H locs g f → MS D hm cZ2 cI2 s (lA s) H locs g2 f2 → mt_XI g f → mt_CI g f g2 f2 → W p l e room_1 s m #[Value.ref b] below meth cd H locs 30 1775 Q (F0 m 428 ls [])) : W p l e room_1 s m #[Value.ref b] below meth cd H locs 30 1775 Q (F0 m 395 ls []) := by
  have hM60 : g 0 0 ≤ 60 := hXI.1.1
  have hc0 := hCI.1
  refine lv_aload_n (pc := 395) S.1 S.2.1 dL_law_395 rfl (lv_at hl 1 rfl) ?_
  refine lv_aload_n (pc := 396) S.1 S.2.1 dL_law_396 rfl (lv_at hl 0 rfl) ?_
  refine lv_iload_n (pc := 397) S.1 S.2.1 dL_law_397 rfl (lv_at hl 3 rfl) ?_
  refine lv_iconst (pc := 398) (v := nI 1) S.1 S.2.1 dL_law_398 (by decide) ?_
  refine z_iadd (pc := 399) (x := i) (y := 1) S dL_law_399 ?_
  refine l_sld (pc := 400) (j := i + 1) (v := xs (i + 1)) S hX hbl hL hXS.2.2.2 (by omega) rfl dL_law_400 ?_
  refine lv_aload_n (pc := 401) S.1 S.2.1 dL_law_401 rfl (lv_at hl 0 rfl) ?_
  refine lv_iload_n (pc := 402) S.1 S.2.1 dL_law_402 rfl (lv_at hl 3 rfl) ?_
  refine lv_iconst (pc := 403) (v := nI 2) S.1 S.2.1 dL_law_403 (by decide) ?_
  refine z_iadd (pc := 404) (x := i) (y := 2) S dL_law_404 ?_
  refine l_sld (pc := 405) (j := i + 2) (v := xs (i + 2)) S hX hbl hL hXS.2.2.2 (by omega) rfl dL_law_405 ?_
  refine x_calli (pc := 406) (As := [.int (xs (i + 1)), .int (xs (i + 2))]) (rest := []) S hXS (metX0_alike l D hx cZ cI g f (xs (i + 1)) (xs (i + 2))) (clX0_alike S.2.2.2.2 (by decide)) rfl hl.1 rfl (Nat.le_of_ble_eq_true rfl) (by decide) dL_law_406 (fun r1 g1 f1 H1 locs1 hp1 hXS1 _ hk1 => ?_)
  have hMS1 := l_mkeep hMS hk1 hdis hXS1.2.2.2
  have eg : g1 = g := congrArg Prod.fst hp1.2
  have ef : f1 = f := congrArg Prod.snd hp1.2
  rw [eg, ef] at hXS1
  rcases hp1.1 with ⟨ra, rb, ha, hb, e1, e2, ev⟩ | ⟨hno, ev⟩
  · have hDa := (hXI.2 ra ha).1.2.2.2.2.2.2.2.1
    have hDb := (hXI.2 rb hb).1.2.2.2.2.2.2.2.1
    refine lv_aload_n (pc := 409) S.1 S.2.1 dL_law_409 rfl (lv_at hl 2 rfl) ?_
    refine lv_aload_n (pc := 410) S.1 S.2.1 dL_law_410 rfl (lv_at hl 0 rfl) ?_
    refine lv_iload_n (pc := 411) S.1 S.2.1 dL_law_411 rfl (lv_at hl 3 rfl) ?_
    refine lv_iconst (pc := 412) (v := nI 1) S.1 S.2.1 dL_law_412 (by decide) ?_
    refine z_iadd (pc := 413) (x := i) (y := 1) S dL_law_413 ?_
    refine l_sld (pc := 414) (j := i + 1) (v := nI ra) S hX hbl hL hMS1.2.2.2 (by omega) e1 dL_law_414 ?_
    refine lv_aload_n (pc := 415) S.1 S.2.1 dL_law_415 rfl (lv_at hl 0 rfl) ?_
    refine lv_iload_n (pc := 416) S.1 S.2.1 dL_law_416 rfl (lv_at hl 3 rfl) ?_
    refine lv_iconst (pc := 417) (v := nI 2) S.1 S.2.1 dL_law_417 (by decide) ?_
    refine z_iadd (pc := 418) (x := i) (y := 2) S dL_law_418 ?_
    refine l_sld (pc := 419) (j := i + 2) (v := nI rb) S hX hbl hL hMS1.2.2.2 (by omega) e2 dL_law_419 ?_
    refine m_calli (pc := 420) (As := [.int (nI ra), .int (nI rb)]) (rest := [.int r1]) S hMS1 (metX1_alike_ok l D hm cZ2 cI2 g2 f2 ra rb (fun k => g 12 (60 * ra + k)) (fun k => g 12 (60 * rb + k)) (g 11 ra) (g 11 rb) ha hb (mt_CI_LV hXI hCI ha) (mt_CI_LV hXI hCI hb)) (clX1_alike S.2.2.2.2 (by decide)) rfl hl.1 rfl (Nat.le_of_ble_eq_true rfl) (by decide) dL_law_420 (fun r2 g3 f3 H2 locs2 hp2 hMS2 _ hk2 => ?_)
    have hXS2 := l_xkeep hXS1 hk2 hdis hMS2.2.2.2
    obtain ⟨ev2, hu1, hu2⟩ := hp2
    have heq : r1 = r2 := by
      rw [ev, ev2, mt_CI_run hXI hCI ha (Nat.le_refl _), mt_CI_run hXI hCI hb (Nat.le_refl _)]
      refine bI_congr (forall_congr' (fun j => ?_))
      constructor
      · intro z hj
        rw [← (hDa.2 j hj).1, ← (hDa.2 j hj).2, ← (hDb.2 j hj).1, ← (hDb.2 j hj).2]
        exact z hj
      · intro z hj
        rw [(hDa.2 j hj).1, (hDa.2 j hj).2, (hDb.2 j hj).1, (hDb.2 j hj).2]
        exact z hj
    refine lv_icmp_eq (pc := 423) (tgt := 428) S.1 S.2.1 dL_law_423 (by decide) (fun _ => ?_) (fun z => absurd heq z)
    exact kk _ _ _ _ _ _ hXS2 hMS2 hXI (mt_CI_congr (hu1 0 (by decide) (by decide)) (hu1 1 (by decide) (by decide)) (hu1 2 (by decide) (by decide)) (hu1 3 (by decide) (by decide)) (hu1 4 (by decide) (by decide)) (hu1 6 (by decide) (by decide)) (hu2 5 (by decide) (by decide) (by decide) (by decide)) hCI)
  · skip
    refine lv_aload_n (pc := 409) S.1 S.2.1 dL_law_409 rfl (lv_at hl 2 rfl) ?_
    refine lv_aload_n (pc := 410) S.1 S.2.1 dL_law_410 rfl (lv_at hl 0 rfl) ?_
    refine lv_iload_n (pc := 411) S.1 S.2.1 dL_law_411 rfl (lv_at hl 3 rfl) ?_
    refine lv_iconst (pc := 412) (v := nI 1) S.1 S.2.1 dL_law_412 (by decide) ?_
    refine z_iadd (pc := 413) (x := i) (y := 1) S dL_law_413 ?_
    refine l_sld (pc := 414) (j := i + 1) (v := xs (i + 1)) S hX hbl hL hMS1.2.2.2 (by omega) rfl dL_law_414 ?_
    refine lv_aload_n (pc := 415) S.1 S.2.1 dL_law_415 rfl (lv_at hl 0 rfl) ?_
    refine lv_iload_n (pc := 416) S.1 S.2.1 dL_law_416 rfl (lv_at hl 3 rfl) ?_
    refine lv_iconst (pc := 417) (v := nI 2) S.1 S.2.1 dL_law_417 (by decide) ?_
    refine z_iadd (pc := 418) (x := i) (y := 2) S dL_law_418 ?_
    refine l_sld (pc := 419) (j := i + 2) (v := xs (i + 2)) S hX hbl hL hMS1.2.2.2 (by omega) rfl dL_law_419 ?_
    refine m_calli (pc := 420) (As := [.int (xs (i + 1)), .int (xs (i + 2))]) (rest := [.int r1]) S hMS1 (metX1_alike_bad l D hm cZ2 cI2 g2 f2 (xs (i + 1)) (xs (i + 2)) (hno)) (clX1_alike S.2.2.2.2 (by decide)) rfl hl.1 rfl (Nat.le_of_ble_eq_true rfl) (by decide) dL_law_420 (fun r2 g3 f3 H2 locs2 hp2 hMS2 _ hk2 => ?_)
    have hXS2 := l_xkeep hXS1 hk2 hdis hMS2.2.2.2
    have eg3 : g3 = g2 := congrArg Prod.fst hp2.2
    have ef3 : f3 = f2 := congrArg Prod.snd hp2.2
    rw [eg3, ef3] at hMS2
    have heq : r1 = r2 := by rw [ev, hp2.1]
    refine lv_icmp_eq (pc := 423) (tgt := 428) S.1 S.2.1 dL_law_423 (by decide) (fun _ => ?_) (fun z => absurd heq z)
    exact kk _ _ _ _ _ _ hXS2 hMS2 hXI hCI
end
section
set_option maxRecDepth 100000
def R_law : String := "MoveTreeLaw"
def lw_P (b : Addr) (xs : List Int32) (args : Array Value) (s : State) : Prop := args = #[.ref b] ∧ s.IntsAt b xs ∧ xs.length ≤ 256 ∧ (Jvm.Cond.and given_1 narrow_1).before args s = true
def lw_Q (_ : Array Value) (s : State) (o : Outcome) (t : State) : Prop := o = .returned (some (.int 1)) ∧ Framed s o t [] 600000 7290000
def lw_Z (below : List Frame) (a : Array Value) (s : State) : State → Prop := fun t => ∃ o, t.status = .running ∧ Ended t below o ∧ lw_Q a s o t
/-- the law's own end, with 1 on the stack, nothing written that was there before, its room as the claim has it -/
theorem lw_ret {p : Program} {l : Launch} {e : Env} {s : State} {m : MethodId} {below : List Frame} {meth : Method} {c : Code} {b : Nat} (hx : p.tables.exec = Jvm.exec) (hb : c.code = code) (hr : meth.sig.returnType = ret) (hlocks : meth.locks = false) {pc : Nat} {H : Heap} {ls : Array Slot} (hdg : decode code pc = .ok (.ireturn, 1)) : W p l e room_1 s m #[Value.ref b] below meth c H [] 600000 7290000 (lw_Z below #[Value.ref b] s) (F0 m pc ls [.int 1]) := by
  intro T hT X
  obtain ⟨fs, hret, hrun, hended, hW, hframe⟩ := X.leave (v := some (.int 1)) (hlocks := hlocks) (fun h => by rw [hr] at h; cases h)
  have hmeth' : T.vm.method? m = some meth := X.method'
  refine ⟨T.setFrames fs, ?_, .returned (some (.int 1)), hrun, hended, rfl, ⟨_, rfl⟩, hW, hframe⟩
  jvm_step X.here [X.here.top, hx, hb, hdg, hmeth', hr, ret, narrow_b1]
  (try refine ⟨rfl, ?_⟩); (try refine ⟨rfl, ?_⟩)
  first | (intro acts; rw [hret _ acts rfl rfl rfl]) | rw [hret _ _ rfl rfl rfl]
  exact Steps.refl _
/-- what holds at the law's entry: the machine, the code, the tables' words (any of lw_tbl by 'hts w (by decide +kernel)'), the script of L ints xs at the cell b, what the Statement gives of the start (any of its parts by flat_of_before) -/
def lw_At (p : Program) (s : State) (m : MethodId) (meth : Method) (c : Code) (b L : Nat) (xs : Nat → Int32) : Prop :=
  p.tables.exec = Jvm.exec ∧ c.code = code ∧ meth.sig.returnType = ret ∧ c.maxLocals = 4 ∧ s.vm.findClass R_law = some m.cls ∧ (∀ w ∈ lw_tbl, w.before #[Value.ref b] s = true) ∧ va_X b L xs s s.heap ∧ b < s.heap.size ∧ meth.locks = false ∧ (Jvm.Cond.and given_1 narrow_1).before #[Value.ref b] s = true
theorem va_P_app {D : va_G} {cl : List vw_C} {w1 w2 : va_W} {H : Heap} (h : va_P D cl (w1 ++ w2) H) : va_P D cl w1 H ∧ va_P D cl w2 H := by
  constructor
  · intro k q hk
    obtain ⟨i, hi⟩ := List.getElem?_of_mem (List.mem_append_left w2 (List.mem_of_getElem? hk))
    exact h i q hi
  · intro k q hk
    obtain ⟨i, hi⟩ := List.getElem?_of_mem (List.mem_append_right w1 (List.mem_of_getElem? hk))
    exact h i q hi
theorem va_D_one {A : Nat → Prop} {a : Nat} {e : va_E} (h : A a) : va_D A [(a, e)] := by
  refine ⟨fun i j x y hi hj _ => ?_, fun k q hk => ?_⟩
  · have h1 : i < 1 := (List.getElem?_eq_some_iff.mp hi).1
    have h2 : j < 1 := (List.getElem?_eq_some_iff.mp hj).1
    omega
  · rw [List.mem_singleton.mp (List.mem_of_getElem? hk)]
    exact h
theorem xw_at {h : Nat → Nat} {cZ cI : ClassId} {g : Nat → Nat → Nat} {f : Nat → Nat → Int32} {q : Nat} (hq : xA h q) : ∃ (i : Nat) (e : va_E), i < 18 ∧ (xw h cZ cI g f)[i]? = some (q, e) := by
  obtain ⟨k, hk, h9, rfl⟩ := hq
  match k, hk, h9 with
  | 0, _, _ => exact ⟨0, _, by decide, xw_0⟩
  | 1, _, _ => exact ⟨1, _, by decide, xw_1⟩
  | 2, _, _ => exact ⟨2, _, by decide, xw_2⟩
  | 3, _, _ => exact ⟨3, _, by decide, xw_3⟩
  | 4, _, _ => exact ⟨4, _, by decide, xw_4⟩
  | 5, _, _ => exact ⟨5, _, by decide, xw_5⟩
  | 6, _, _ => exact ⟨6, _, by decide, xw_6⟩
  | 7, _, _ => exact ⟨7, _, by decide, xw_7⟩
  | 8, _, _ => exact ⟨8, _, by decide, xw_8⟩
  | 9, _, _ => exact ⟨9, _, by decide, xw_9⟩
  | 10, _, _ => exact ⟨10, _, by decide, xw_10⟩
  | 11, _, _ => exact ⟨11, _, by decide, xw_11⟩
  | 12, _, _ => exact ⟨12, _, by decide, xw_12⟩
  | 13, _, _ => exact ⟨13, _, by decide, xw_13⟩
  | 14, _, _ => exact ⟨14, _, by decide, xw_14⟩
  | 15, _, _ => exact ⟨15, _, by decide, xw_15⟩
  | 16, _, _ => exact ⟨16, _, by decide, xw_16⟩
  | 17, _, _ => exact ⟨17, _, by decide, xw_17⟩
  | k + 18, hk, _ => exact absurd hk (by omega)
theorem i_defX0 : ∀ j, j < 18 → defaultValue (tyX0 j) = vp_V fsX0 j := by
  intro j hj
  match j, hj with
  | 0, _ => rfl
  | 1, _ => rfl
  | 2, _ => rfl
  | 3, _ => rfl
  | 4, _ => rfl
  | 5, _ => rfl
  | 6, _ => rfl
  | 7, _ => rfl
  | 8, _ => rfl
  | 9, _ => rfl
  | 10, _ => rfl
  | 11, _ => rfl
  | 12, _ => rfl
  | 13, _ => rfl
  | 14, _ => rfl
  | 15, _ => rfl
  | 16, _ => rfl
  | 17, _ => rfl
  | k + 18, hj => exact absurd hj (by omega)
theorem mw_at {h : Nat → Nat} {cZ cI : ClassId} {g : Nat → Nat → Nat} {f : Nat → Nat → Int32} {q : Nat} (hq : mA h q) : ∃ (i : Nat) (e : va_E), i < 12 ∧ (mw h cZ cI g f)[i]? = some (q, e) := by
  obtain ⟨k, hk, h9, rfl⟩ := hq
  match k, hk, h9 with
  | 0, _, _ => exact ⟨0, _, by decide, mw_0⟩
  | 1, _, _ => exact ⟨1, _, by decide, mw_1⟩
  | 2, _, _ => exact ⟨2, _, by decide, mw_2⟩
  | 3, _, _ => exact ⟨3, _, by decide, mw_3⟩
  | 4, _, _ => exact ⟨4, _, by decide, mw_4⟩
  | 5, _, _ => exact ⟨5, _, by decide, mw_5⟩
  | 6, _, _ => exact ⟨6, _, by decide, mw_6⟩
  | 7, _, _ => exact ⟨7, _, by decide, mw_7⟩
  | 8, _, _ => exact ⟨8, _, by decide, mw_8⟩
  | 9, _, h9 => exact absurd rfl h9
  | 10, _, _ => exact ⟨9, _, by decide, mw_10⟩
  | 11, _, _ => exact ⟨10, _, by decide, mw_11⟩
  | 12, _, _ => exact ⟨11, _, by decide, mw_12⟩
  | k + 13, hk, _ => exact absurd hk (by omega)
theorem i_defX1 : ∀ j, j < 13 → defaultValue (tyX1 j) = vp_V fsX1 j := by
  intro j hj
  match j, hj with
  | 0, _ => rfl
  | 1, _ => rfl
  | 2, _ => rfl
  | 3, _ => rfl
  | 4, _ => rfl
  | 5, _ => rfl
  | 6, _ => rfl
  | 7, _ => rfl
  | 8, _ => rfl
  | 9, _ => rfl
  | 10, _ => rfl
  | 11, _ => rfl
  | 12, _ => rfl
  | k + 13, hj => exact absurd hj (by omega)
/-- the head of the law's loop -/
theorem law_head {p : Program} {l : Launch} {e : Env} {s : State} {m : MethodId} {below : List Frame} {meth : Method} {cd : Code} {Q : State → Prop} {hx hm : Nat → Nat} {b L : Nat} {xs : Nat → Int32} (S : CallFix p m cd cL_law 4 s #[Value.ref b] lw_all "MoveTreeLaw") (hX : va_X b L xs s s.heap) (hbl : b < s.heap.size) (hL : L ≤ 256) {i : Nat} {H : Heap} {locs : List Loc} {ls : Array Slot} (hS : va_S (lA s) s.heap H locs) (hi : i ≤ 1000) (hl : lv_has ls 4 [(0, .ref b), (1, .ref (hx 0)), (2, .ref (hm 0)), (3, .int (nI i))]) (kx : L < i + 4 → W p l e room_1 s m #[Value.ref b] below meth cd H locs 30 1775 Q (F0 m 434 ls [])) (kg : i + 3 < L → W p l e room_1 s m #[Value.ref b] below meth cd H locs 30 1775 Q (F0 m 26 ls [])) : W p l e room_1 s m #[Value.ref b] below meth cd H locs 30 1775 Q (F0 m 18 ls []) := by
  refine lv_iload_n (pc := 18) S.1 S.2.1 dL_law_18 rfl (lv_at hl 3 rfl) ?_
  refine lv_aload_n (pc := 19) S.1 S.2.1 dL_law_19 rfl (lv_at hl 0 rfl) ?_
  refine va_slen (pc := 20) S.1 S.2.1 hX hbl (Nat.not_le.mpr hbl) hS dL_law_20 ?_
  refine W.eq (g2 := F0 m 21 ls [.int (nI L), .int (nI i)]) rfl ?_
  refine lv_iconst (pc := 21) (v := nI 4) S.1 S.2.1 dL_law_21 (by decide) ?_
  by_cases h4 : 4 ≤ L
  · refine z_isub (pc := 22) (x := L) (y := 4) S h4 dL_law_22 ?_
    refine z_icmp_gt (pc := 23) (tgt := 434) (x := i) (y := L - 4) S (by omega) (by omega) dL_law_23 (by decide) (fun z => kx (by omega)) (fun z => kg (by omega))
  · refine lv_isub (pc := 22) S.1 S.2.1 dL_law_22 ?_
    refine lv_icmp_gt (pc := 23) (tgt := 434) S.1 S.2.1 dL_law_23 (by decide) (fun z => kx (by omega)) (fun z => ?_)
    exact absurd (Int32.lt_of_lt_of_le (pk_sneg (a := L) (b := 4) (by decide) (by omega)) (nI_pos' (by omega))) z
set_option maxHeartbeats 4000000 in
/-- the law's loop -/
theorem law_loop {p : Program} {l : Launch} {e : Env} {s : State} {m : MethodId} {below : List Frame} {meth : Method} {cd : Code} {D : va_G} {hx hm : Nat → Nat} {cZ cI cZ2 cI2 : ClassId} {b L : Nat} {xs : Nat → Int32} (S : CallFix p m cd cL_law 4 s #[Value.ref b] lw_all "MoveTreeLaw") (hX : va_X b L xs s s.heap) (hbl : b < s.heap.size) (hL : L ≤ 256) (hr : meth.sig.returnType = ret) (hlocks : meth.locks = false) (hdis : ∀ q, xA hx q → mA hm q → False) : ∀ (n i : Nat), L + 1 ≤ i + n → i ≤ L + 4 → ∀ (H : Heap) (locs : List Loc) (g : Nat → Nat → Nat) (f : Nat → Nat → Int32) (g2 : Nat → Nat → Nat) (f2 : Nat → Nat → Int32), XS D hx cZ cI s (lA s) H locs g f → MS D hm cZ2 cI2 s (lA s) H locs g2 f2 → mt_XI g f → mt_CI g f g2 f2 → ∀ ls : Array Slot, lv_has ls 4 [(0, .ref b), (1, .ref (hx 0)), (2, .ref (hm 0)), (3, .int (nI i))] → W p l e room_1 s m #[Value.ref b] below meth cd H locs 30 1775 (lw_Z below #[Value.ref b] s) (F0 m 18 ls []) := by
  have hend : ∀ (H : Heap) (locs : List Loc) (ls : Array Slot), va_S (lA s) s.heap H locs → W p l e room_1 s m #[Value.ref b] below meth cd H locs 30 1775 (lw_Z below #[Value.ref b] s) (F0 m 434 ls []) := by
    intro H locs ls hS
    refine lv_iconst (pc := 434) (v := 1) S.1 S.2.1 dL_law_434 (by decide) ?_
    refine va_forget (fun q hq => hS.2.2 q hq) ?_
    refine W.widen (k := 600000) (n := 7290000) (by decide) (by decide) ?_
    exact lw_ret S.1 S.2.1 hr hlocks dL_law_435
  intro n
  induction n with
  | zero =>
    intro i h1 h2 H locs g f g2 f2 hXS hMS hXI hCI ls hl
    exact law_head S hX hbl hL hXS.2.2.2 (by omega) hl (fun _ => hend H locs ls hXS.2.2.2) (fun z => absurd z (by omega))
  | succ n ih =>
    intro i h1 h2 H locs g f g2 f2 hXS hMS hXI hCI ls hl
    refine law_head S hX hbl hL hXS.2.2.2 (by omega) hl (fun _ => hend H locs ls hXS.2.2.2) (fun hi => ?_)
    have kk : ∀ (H : Heap) (locs : List Loc) (g : Nat → Nat → Nat) (f : Nat → Nat → Int32) (g2 : Nat → Nat → Nat) (f2 : Nat → Nat → Int32), XS D hx cZ cI s (lA s) H locs g f → MS D hm cZ2 cI2 s (lA s) H locs g2 f2 → mt_XI g f → mt_CI g f g2 f2 → W p l e room_1 s m #[Value.ref b] below meth cd H locs 30 1775 (lw_Z below #[Value.ref b] s) (F0 m 428 ls []) := by
      intro H locs g f g2 f2 hXS hMS hXI hCI
      refine lv_iinc (pc := 428) (v := nI (i + 4)) (lv' := [(3, .int (nI (i + 4))), (0, .ref b), (1, .ref (hx 0)), (2, .ref (hm 0))]) S.1 S.2.1 dL_law_428 hl (k := 3) rfl (z_inc4 _) (by decide) rfl (fun ls hl => ?_)
      refine lv_goto (pc := 431) (tgt := 18) S.1 S.2.1 dL_law_431 (by decide) ?_
      exact ih (i + 4) (by omega) (by omega) H locs g f g2 f2 hXS hMS hXI hCI ls (lv_sub hl [1, 2, 3, 0] rfl)
    refine lv_aload_n (pc := 26) S.1 S.2.1 dL_law_26 rfl (lv_at hl 0 rfl) ?_
    refine lv_iload_n (pc := 27) S.1 S.2.1 dL_law_27 rfl (lv_at hl 3 rfl) ?_
    refine l_sld (pc := 28) (j := i) (v := xs i) S hX hbl hL hXS.2.2.2 (by omega) rfl dL_law_28 ?_
    refine lv_bipush (pc := 29) (v := 15) S.1 S.2.1 dL_law_29 (by decide) ?_
    refine lv_iand (pc := 31) S.1 S.2.1 dL_law_31 ?_
    obtain ⟨k, hk, ek⟩ := pk_andE (xs i) (m := 15) 4 (by decide)
    refine z_top (pc := 32) (y := nI k) ek ?_
    by_cases h10 : k < 10
    · match k, h10 with
      | 0, _ => exact lv_tableIn (pc := 32) (tgt := 88) (off := 56) S.1 S.2.1 dL_law_32 (by decide) (by decide) rfl (by decide) (law_0 S hX hbl hL hi hl hdis hXS hMS hXI hCI kk)
      | 1, _ => exact lv_tableIn (pc := 32) (tgt := 131) (off := 99) S.1 S.2.1 dL_law_32 (by decide) (by decide) rfl (by decide) (law_1 S hX hbl hL hi hl hdis hXS hMS hXI hCI kk)
      | 2, _ => exact lv_tableIn (pc := 32) (tgt := 174) (off := 142) S.1 S.2.1 dL_law_32 (by decide) (by decide) rfl (by decide) (law_2 S hX hbl hL hi hl hdis hXS hMS hXI hCI kk)
      | 3, _ => exact lv_tableIn (pc := 32) (tgt := 207) (off := 175) S.1 S.2.1 dL_law_32 (by decide) (by decide) rfl (by decide) (law_3 S hX hbl hL hi hl hdis hXS hMS hXI hCI kk)
      | 4, _ => exact lv_tableIn (pc := 32) (tgt := 240) (off := 208) S.1 S.2.1 dL_law_32 (by decide) (by decide) rfl (by decide) (law_4 S hX hbl hL hi hl hdis hXS hMS hXI hCI kk)
      | 5, _ => exact lv_tableIn (pc := 32) (tgt := 273) (off := 241) S.1 S.2.1 dL_law_32 (by decide) (by decide) rfl (by decide) (law_5 S hX hbl hL hi hl hdis hXS hMS hXI hCI kk)
      | 6, _ => exact lv_tableIn (pc := 32) (tgt := 306) (off := 274) S.1 S.2.1 dL_law_32 (by decide) (by decide) rfl (by decide) (law_6 S hX hbl hL hi hl hdis hXS hMS hXI hCI kk)
      | 7, _ => exact lv_tableIn (pc := 32) (tgt := 339) (off := 307) S.1 S.2.1 dL_law_32 (by decide) (by decide) rfl (by decide) (law_7 S hX hbl hL hi hl hdis hXS hMS hXI hCI kk)
      | 8, _ => exact lv_tableIn (pc := 32) (tgt := 372) (off := 340) S.1 S.2.1 dL_law_32 (by decide) (by decide) rfl (by decide) (law_8 S hX hbl hL hi hl hdis hXS hMS hXI hCI kk)
      | 9, _ => exact lv_tableIn (pc := 32) (tgt := 395) (off := 363) S.1 S.2.1 dL_law_32 (by decide) (by decide) rfl (by decide) (law_9 S hX hbl hL hi hl hdis hXS hMS hXI hCI kk)
      | k + 10, hk => exact absurd hk (by omega)
    · exact lv_tableOut (pc := 32) (tgt := 428) S.1 S.2.1 dL_law_32 (Or.inr (by rw [nI_toInt (by omega)]; omega)) (by decide) (kk H locs g f g2 f2 hXS hMS hXI hCI)
set_option maxHeartbeats 4000000 in
theorem whole_start {p : Program} {e : Env} {s : State} {m : MethodId} {below : List Frame} {meth : Method} {c : Code} (l : Launch) {b L : Nat} {xs : Nat → Int32} (hL : L ≤ 256) (C0 : lw_At p s m meth c b L xs) : W p l e room_1 s m #[Value.ref b] below meth c s.heap [] 0 0 (lw_Z below #[Value.ref b] s) (entryFrame m ([Value.ref b] : List Value).toArray 4) := by
  obtain ⟨hx, hb, hr, hml, hown, hts, hX, hbl, hlocks, hgv⟩ := C0
  have hall : ∀ w ∈ lw_all, w.before #[Value.ref b] s = true := fun w h => hts w (lw_all_tbl h)
  have S : CallFix p m c cL_law 4 s #[Value.ref b] lw_all "MoveTreeLaw" := ⟨hx, hb, hml, hown, hall⟩
  have hA : ∀ q, s.heap.size ≤ q → lA s q := fun _ h => h
  obtain ⟨c0, iS0, hKn0⟩ := u_known (C := RX0) (T := TX0) (N := 18) (n := 18) hall in_X0 (hall _ q16)
  obtain ⟨c1, iS1, hKn1⟩ := u_known (C := RX1) (T := TX1) (N := 13) (n := 13) hall in_X1 (hall _ q155)
  obtain ⟨D, hKc⟩ : ∃ D : va_G, ∀ (k : Nat) (q : vw_C), vwCl[k]? = some q → u_Kn s q.1 q.2.1 q.2.2 (D.1 k) (D.2 k) := by
    refine ⟨(fun k => if k = 0 then c0 else c1, fun k => if k = 0 then iS0 else iS1), ?_⟩
    intro k q hq
    match k, hq with
    | 0, hq => cases hq; exact hKn0
    | 1, hq => cases hq; exact hKn1
    | k + 2, hq => simp [vwCl] at hq
  have hS : va_S (lA s) s.heap s.heap [] := va_S.rf
  have hK0 : va_K D vwCl [] s := ⟨hKc, fun k q h => by simp at h⟩
  have hP : va_P D vwCl [] s.heap := fun k q h => by simp at h
  have hD : va_D (lA s) [] := ⟨fun i j p q h => by simp at h, fun k q h => by simp at h⟩
  have hl := lv_entry ([.ref b]) (n := 4) (Nat.le_of_ble_eq_true rfl)
  rw [lg_entry_eq]
  generalize (lg_sl ([.ref b]) ++ List.replicate (4 - (lg_sl ([.ref b])).length) Slot.unset).toArray = ls at hl ⊢
  have hl : lv_has ls 4 [(0, .ref b)] := hl
  refine va_new (pc := 0) (ci := 0) (fs := fsX0) (C := RX0) (T := TX0) (N := 18) hx hb hall in_X0 tyX0 tyX0_ok hown (hall _ q15) (hall _ q16) (hall _ q13) hK0 hP hD hS hA rfl i_defX0 (by decide) (by decide) dL_law_0 (fun a0 H hP hD hS => ?_)
  have hP : va_P D vwCl [(a0, .inr (0, fsX0))] H := hP
  have hD : va_D (lA s) [(a0, .inr (0, fsX0))] := hD
  refine W.cs (cells' := 1) (slots' := 18) rfl rfl ?_
  refine lv_dup (pc := 3) hx hb dL_law_3 rfl ?_
  have hFc := va_free (wc := [(a0, .inr (0, fsX0))]) hD hS hA [0] rfl
  refine va_callv (va_runI (As := []) (rest := [.ref a0]) S (metX0_init l D a0 H.size) (cwI 0 hall (lw_meth q19) rfl rfl rfl (hall _ q13) (hall _ q17) (hall _ q18) rfl (by decide +kernel) (by decide)) ⟨fun a U g mk q => by obtain ⟨q0, q1, qP, qK, qD⟩ := q; exact ⟨q0, q1, qP, va_K.moved (u := U) (U := U.calling g mk a) (Vm.Alike.refl U.vm) qK, qD⟩, fun U hU hW => ⟨rfl, by rw [hU], by rw [hU]; exact hP, va_K.moved hW.alike hK0, hD.weaken (fun _ _ _ _ => trivial)⟩⟩ rfl rfl hl.1 rfl (lv_room (Nat.le_of_ble_eq_true rfl)) dL_law_4 (by decide)) hS (fun q _ h => hFc q h) hFc (fun u t H1 locs ht hvm hw1 hB hz1 hk1 hS => ?_)
  obtain ⟨ax, ⟨cZ, cI⟩, f0⟩ := u
  obtain ⟨e0, i1, i2⟩ := hw1
  obtain ⟨hP1, hK1, hD1⟩ := hB
  have hXS : XS D ax cZ cI s (lA s) H1 locs (fun _ _ => 0) f0 := ⟨va_K.moved hvm.symm hK1, by rw [← ht]; exact hP1, hD1.weaken (fun k q _ z => hFc q.1 z), hS⟩
  have e0 : ax 0 = a0 := e0
  refine W.cs (cells' := 18) (slots' := 1182) rfl rfl ?_
  refine lv_astore_n (pc := 7) (lv' := [(1, .ref a0), (0, .ref b)]) hx hb dL_law_7 rfl hl (by decide) rfl (fun ls hl => ?_)
  refine va_new (pc := 8) (ci := 1) (fs := fsX1) (C := RX1) (T := TX1) (N := 13) hx hb hall in_X1 tyX1 tyX1_ok hown (hall _ q154) (hall _ q155) (hall _ q14) hXS.1 hXS.2.1 hXS.2.2.1 hXS.2.2.2 hA rfl i_defX1 (by decide) (by decide) dL_law_8 (fun a1 H2 hP2 hD2 hS2 => ?_)
  obtain ⟨hPx, hPm⟩ := va_P_app hP2
  have h18 : (xw ax cZ cI (fun _ _ => 0) f0 ++ [(a1, .inr (1, fsX1))])[18]? = some (a1, .inr (1, fsX1)) := rfl
  have ha1 : lA s a1 := hD2.2 18 _ h18
  have hne : ∀ q, xA ax q → q ≠ a1 ∧ q < H2.size := by
    intro q hq
    obtain ⟨i, e9, hi, hiq⟩ := xw_at (cZ := cZ) (cI := cI) (g := fun _ _ => 0) (f := f0) hq
    refine ⟨fun z => ?_, (hPx i _ hiq).lt⟩
    have hiq2 : (xw ax cZ cI (fun _ _ => 0) f0 ++ [(a1, .inr (1, fsX1))])[i]? = some (q, e9) := by
      rw [List.getElem?_append_left (List.getElem?_eq_some_iff.mp hiq).1]
      exact hiq
    have := hD2.1 i 18 _ _ hiq2 h18 z
    omega
  refine W.cs (cells' := 19) (slots' := 1195) rfl rfl ?_
  refine lv_dup (pc := 11) hx hb dL_law_11 rfl ?_
  have hFm : ∀ q, va_A [(a1, .inr (1, fsX1))] H2.size q → lA s q := by
    intro q hq
    rcases hq with ⟨k, e9, hk⟩ | hq
    · have := List.mem_singleton.mp (List.mem_of_getElem? hk)
      rw [show q = a1 from congrArg Prod.fst this]
      exact ha1
    · exact Nat.le_trans hS2.1 hq
  refine va_callv (va_runI (As := []) (rest := [.ref a1]) S (metX1_init l D a1 H2.size) (cwI 0 hall (lw_meth q158) rfl rfl rfl (hall _ q14) (hall _ q156) (hall _ q157) rfl (by decide +kernel) (by decide)) ⟨fun a U g mk q => by obtain ⟨q0, q1, qP, qK, qD⟩ := q; exact ⟨q0, q1, qP, va_K.moved (u := U) (U := U.calling g mk a) (Vm.Alike.refl U.vm) qK, qD⟩, fun U hU hW => ⟨rfl, by rw [hU], by rw [hU]; exact hPm, va_K.moved hW.alike hK0, va_D_one trivial⟩⟩ rfl rfl hl.1 rfl (lv_room (Nat.le_of_ble_eq_true rfl)) dL_law_12 (by decide)) hS2 (fun q _ h => hFm q h) hFm (fun u t H3 locs3 ht3 hvm3 hw3 hB3 hz3 hk3 hS3 => ?_)
  obtain ⟨am, ⟨cZ2, cI2⟩, f3⟩ := u
  obtain ⟨hP3, hK3, hD3⟩ := hB3
  have e3 : am 0 = a1 := hw3
  have hMS : MS D am cZ2 cI2 s (lA s) H3 locs3 (fun _ _ => 0) f3 := ⟨va_K.moved hvm3.symm hK3, by rw [← ht3]; exact hP3, hD3.weaken (fun k q _ z => hFm q.1 z), hS3⟩
  have hnotA : ∀ q, xA ax q → ¬ va_A [(a1, .inr (1, fsX1))] H2.size q := by
    intro q hq z
    obtain ⟨n1, n2⟩ := hne q hq
    rcases z with ⟨k, e9, hk⟩ | z
    · have := List.mem_singleton.mp (List.mem_of_getElem? hk)
      exact n1 (congrArg Prod.fst this)
    · omega
  have hXS3 : XS D ax cZ cI s (lA s) H3 locs3 (fun _ _ => 0) f0 := ⟨hXS.1, hPx.kept (fun k q hq => hk3 q.1 (hPx k q hq).lt (hnotA _ (xw_A hq))), hXS.2.2.1, hS3⟩
  have hdis : ∀ q, xA ax q → mA am q → False := by
    intro q hq hq2
    obtain ⟨i, e9, hi, hiq⟩ := mw_at (cZ := cZ2) (cI := cI2) (g := fun _ _ => 0) (f := f3) hq2
    exact hnotA q hq (hD3.2 i _ hiq)
  refine W.cs (cells' := 30) (slots' := 1775) rfl rfl ?_
  refine lv_astore_n (pc := 15) (lv' := [(2, .ref a1), (1, .ref a0), (0, .ref b)]) hx hb dL_law_15 rfl hl (by decide) rfl (fun ls hl => ?_)
  refine lv_iconst (pc := 16) (v := nI 0) hx hb dL_law_16 (by decide) ?_
  refine lv_istore_n (pc := 17) (lv' := [(3, .int (nI 0)), (2, .ref a1), (1, .ref a0), (0, .ref b)]) hx hb dL_law_17 rfl hl (by decide) rfl (fun ls hl => ?_)
  rw [← e0, ← e3] at hl
  exact law_loop S hX hbl hL hr hlocks hdis (L + 1) 0 (by omega) (by omega) H3 locs3 _ _ _ _ hXS3 hMS (mt_XI_0 i1 i2) mt_CI_0 ls (lv_sub hl [3, 2, 1, 0] rfl)
end
section
set_option maxRecDepth 100000
set_option maxHeartbeats 4000000 in
theorem lw_walk (l : Launch) (b : Addr) (xs : List Int32) : MetFree l x (headSpec (Jvm.Cond.code x code maxLocals ret :: tables_1) room_1) (lw_P b xs) (fun _ _ _ _ _ => True) lw_Q := by
  refine MetFree.of_bodyS (code := code) (maxLocals := maxLocals) (ret := ret) (by decide) ?_ ?_
  · intro args s m h hn
    obtain ⟨meth, c, h1, h2, h3, h4, h5, h6, -, -⟩ := Cond.code_spec hn (atoms_spec (ws := Jvm.Cond.code x code maxLocals ret :: tables_1) h _ List.mem_cons_self)
    exact ⟨meth, c, h1, h2, h3, h4, h5, h6⟩
  · intro p e s m args below meth c s₁ B hml0 hP _
    obtain ⟨rfl, hx, hbd, hgv⟩ := hP
    obtain ⟨scr, harrAt, hlist, hof, hsmall⟩ := hx
    obtain ⟨hcb, hkn, -, -⟩ := State.arrayAt?_spec harrAt
    have hown : s.vm.findClass R_law = some m.cls := findClass_of_methodNamed B.named
    have hts0 : ∀ c ∈ (Jvm.Cond.code x code maxLocals ret :: tables_1), c.before #[Value.ref b] s = true := atoms_spec (ws := Jvm.Cond.code x code maxLocals ret :: tables_1) B.pre
    have hts : ∀ w ∈ lw_tbl, w.before #[Value.ref b] s = true := k2_hts_sels lw_privs (fun w hw => hts0 w (List.mem_cons_of_mem _ hw)) lw_privs_ok
    have hml : c.maxLocals = 4 := B.maxLocals_eq (hts0 _ List.mem_cons_self)
    have X₀ : Stand p l e room_1 s m #[Value.ref b] below meth c s₁ [] 0 0 := Stand.of_body B
    have hh0 : s₁.heap = s.heap := by rw [B.state]; rfl
    have hsz : scr.slots.size = xs.length := by rw [← Array.length_toList, hlist, List.length_map]
    have hval : ∀ j : Nat, j < xs.length → scr.slots[j]? = some (.int (xs.getD j 0)) := fun j hj => by
      rw [← Array.getElem?_toList, hlist]
      simp [hj]
    have hbl : b < s.heap.size := (Array.getElem?_eq_some_iff.mp hcb).1
    have hX : va_X b xs.length (fun j => xs.getD j 0) s s.heap := ⟨scr, hcb, hof, hkn, hsz, hval⟩
    have K : W p l e room_1 s m #[Value.ref b] below meth c s₁.heap [] 0 0 (lw_Z below #[Value.ref b] s) (entryFrame m ([Value.ref b] : List Value).toArray 4) := by
      rw [hh0]
      exact whole_start l hbd ⟨B.exec, B.bytes, B.returns, hml, hown, hts, hX, hbl, B.notSynchronized, hgv⟩
    obtain ⟨t, a1, o, b1, b2, b3⟩ := K s₁ rfl X₀
    exact ⟨t, o, a1, b1, b2, b3⟩
theorem lw_pre_spec {args : Array Value} {s : State} (h : (Jvm.Cond.and given_1 narrow_1).before args s = true) (hr : rest_1_c.before args s = true) : ∃ (b : Addr) (xs : List Int32), lw_P b xs args s := by
  have hs := flat_of_before _ h
  have hq := flat_of_before _ hr
  have hc : (Cond.count 1).before args s = true := hs _ (by decide +kernel)
  have harr : (Cond.arrayOf (.arg 0) .int).before args s = true := hs _ (by decide +kernel)
  have hle : (Cond.le (.length (.arg 0)) (.int 256)).before args s = true := hs _ (by decide +kernel)
  have hlen : (Cond.isInt (.length (.arg 0))).before args s = true := hq _ (by decide +kernel)
  have hall : (Cond.all (.arg 0) (.isInt (.elem (.arg 0) (.index 0)))).before args s = true := hq _ (by decide +kernel)
  obtain ⟨b, xs, hb, hx⟩ := State.ints_of_pre rfl harr hlen hall
  have hsm : xs.length < 2 ^ 31 := hx.choose_spec.2.2.2
  have hev : (Term.length (.arg 0)).eval args s none [] s = some (.int xs.length.toInt32) := hx.length_eval hb
  have hv := Cond.le_ints hev (show (Term.int 256).eval args s none [] s = some (.int 256) from rfl)
  have hd : xs.length.toInt32 ≤ 256 := by
    simpa [Cond.before, Cond.holds, hv] using hle
  have hN : xs.length ≤ 256 := (Int32.ofNat_le_ofNat hsm (by decide)).mp (show Int32.ofNat xs.length ≤ Int32.ofNat 256 from hd)
  exact ⟨b, xs, Cond.one_arg hc (show args[0]? = some (.ref b) from hb), hx, hN, h⟩
theorem lw_comes (l : Launch) : Comes l x (Jvm.Cond.code x code maxLocals ret :: tables_1) room_1 (fun tb e args s => Calls_1 tb e args s ∧ rest_1 tb e args s ∧ Pre_1 tb e args s)
    (fun _ _ args s o t => lw_Q args s o t) := by
  intro p e ha hc hk s m args below hf hfit hheap happ hpre
  obtain ⟨b, xs, hP⟩ := lw_pre_spec hpre.2.2 hpre.2.1
  obtain ⟨k, o, h1, h2, h3, hQ⟩ := lw_walk l b xs p e ha hc hk s m args below hf ((Spec.applies_iff_loose hf).mp happ).1 hP trivial
  exact ⟨k, o, h1, h2, h3, hQ⟩
theorem lw_frame {s t : State} {o : Outcome} {args : Array Value} (h : Framed s o t [] 600000 7290000) :
    Framed s o t (fieldLocs frame_1_writes args s ++ arrayLocs frame_1_arrays args s ++ staticLocs frame_1_statics s) 600000 7290000 := h
theorem lw_limb (L : Cond) (hL : ∀ (args : Array Value) (s t : State), L.after args s (.returned (some (.int 1))) t = true) :
    ArmFor flags0 classFile x code maxLocals ret World_1 tables_1 room_1 Calls_1 rest_1 Pre_1
      (fun tb e a s o t => postC L tb e a s o t ∧ Framed s o t (fieldLocs frame_1_writes a s ++ arrayLocs frame_1_arrays a s ++ staticLocs frame_1_statics s) 600000 7290000) := by
  intro l _ _ _ p e ha hc hk s m args below hf hfit hheap happ hpre
  obtain ⟨k, o, h1, h2, h3, rfl, hF⟩ := lw_comes l p e ha hc hk s m args below hf hfit hheap happ hpre
  exact ⟨k, _, h1, h2, h3, hL args s _, lw_frame hF⟩
theorem i_vc : Claimed_1_1 ∧ Claimed_1_2 := ⟨lw_limb limb_1_1 (fun args s t => by simp [limb_1_1, Cond.after, Cond.holds, Cond.value]), lw_limb limb_1_2 (fun args s t => Cond.after_iff.mpr (by
  first | (rw [show limb_1_2 = Cond.eq .result (.int 1) from rfl, Cond.eq_ints (x := 1) (y := 1) rfl rfl]; simp; done) | (simp [limb_1_2, Cond.value, Term.eval]; done)))⟩
end
