section
-- ===== PART A: the tables' words
/-- a method that is called within its own code alone, by its rows of tables_1 -/
def lw_okq (q : MethodName × Nat) : Prop := (q.1.cls ≠ "java/lang/invoke/MethodHandle" ∧ q.1.cls ≠ "java/lang/invoke/VarHandle") ∧ Cond.instantiable q.1.cls q.2 ∈ tables_1 ∧ Cond.privateMethod q.1 ∈ tables_1 ∧ Cond.instanceMethod q.1 ∈ tables_1
set_option maxRecDepth 100000
theorem lw_t1 {w : Cond} (h : w ∈ tables_1_1) : w ∈ tables_1 := List.mem_append_left _ h
theorem lw_t2 {w : Cond} (h : w ∈ tables_1_2) : w ∈ tables_1 := List.mem_append_right _ h
theorem lw_p0 : lw_okq (⟨"PegTables", "forget", "()V"⟩, 16) := ⟨⟨by decide +kernel, by decide +kernel⟩, lw_t1 (List.mem_of_getElem? (i := 4) rfl), lw_t1 (List.mem_of_getElem? (i := 16) rfl), lw_t1 (List.mem_of_getElem? (i := 17) rfl)⟩
theorem lw_p1 : lw_okq (⟨"PegTables", "workOut", "(II)V"⟩, 16) := ⟨⟨by decide +kernel, by decide +kernel⟩, lw_t1 (List.mem_of_getElem? (i := 4) rfl), lw_t1 (List.mem_of_getElem? (i := 87) rfl), lw_t1 (List.mem_of_getElem? (i := 88) rfl)⟩
theorem lw_p2 : lw_okq (⟨"PegTables", "putOn", "(II)V"⟩, 16) := ⟨⟨by decide +kernel, by decide +kernel⟩, lw_t1 (List.mem_of_getElem? (i := 4) rfl), lw_t1 (List.mem_of_getElem? (i := 91) rfl), lw_t1 (List.mem_of_getElem? (i := 92) rfl)⟩
theorem lw_p3 : lw_okq (⟨"PegTables", "goOn", "(I)V"⟩, 16) := ⟨⟨by decide +kernel, by decide +kernel⟩, lw_t1 (List.mem_of_getElem? (i := 4) rfl), lw_t1 (List.mem_of_getElem? (i := 95) rfl), lw_t1 (List.mem_of_getElem? (i := 96) rfl)⟩
theorem lw_p4 : lw_okq (⟨"PegTables", "single", "(III)I"⟩, 16) := ⟨⟨by decide +kernel, by decide +kernel⟩, lw_t1 (List.mem_of_getElem? (i := 4) rfl), lw_t1 (List.mem_of_getElem? (i := 99) rfl), lw_t1 (List.mem_of_getElem? (i := 100) rfl)⟩
theorem lw_p5 : lw_okq (⟨"PegTables", "finish", "(II)V"⟩, 16) := ⟨⟨by decide +kernel, by decide +kernel⟩, lw_t1 (List.mem_of_getElem? (i := 4) rfl), lw_t1 (List.mem_of_getElem? (i := 103) rfl), lw_t1 (List.mem_of_getElem? (i := 104) rfl)⟩
theorem lw_p6 : lw_okq (⟨"PegTables", "begin", "(IIII)V"⟩, 16) := ⟨⟨by decide +kernel, by decide +kernel⟩, lw_t1 (List.mem_of_getElem? (i := 4) rfl), lw_t1 (List.mem_of_getElem? (i := 107) rfl), lw_t1 (List.mem_of_getElem? (i := 108) rfl)⟩
theorem lw_p7 : lw_okq (⟨"PegTables", "need", "(IIII)V"⟩, 16) := ⟨⟨by decide +kernel, by decide +kernel⟩, lw_t1 (List.mem_of_getElem? (i := 4) rfl), lw_t1 (List.mem_of_getElem? (i := 111) rfl), lw_t1 (List.mem_of_getElem? (i := 112) rfl)⟩
theorem lw_p8 : lw_okq (⟨"PegTables", "afterFirst", "(IIII)V"⟩, 16) := ⟨⟨by decide +kernel, by decide +kernel⟩, lw_t1 (List.mem_of_getElem? (i := 4) rfl), lw_t1 (List.mem_of_getElem? (i := 115) rfl), lw_t1 (List.mem_of_getElem? (i := 116) rfl)⟩
theorem lw_p9 : lw_okq (⟨"PegTables", "afterSecond", "(IIII)V"⟩, 16) := ⟨⟨by decide +kernel, by decide +kernel⟩, lw_t1 (List.mem_of_getElem? (i := 4) rfl), lw_t1 (List.mem_of_getElem? (i := 119) rfl), lw_t1 (List.mem_of_getElem? (i := 120) rfl)⟩
theorem lw_p10 : lw_okq (⟨"PegTablesModel", "work", "()V"⟩, 11) := ⟨⟨by decide +kernel, by decide +kernel⟩, lw_t1 (List.mem_of_getElem? (i := 140) rfl), lw_t1 (List.mem_of_getElem? (i := 206) rfl), lw_t1 (List.mem_of_getElem? (i := 207) rfl)⟩
theorem lw_p11 : lw_okq (⟨"PegTablesModel", "follows", "(II)I"⟩, 11) := ⟨⟨by decide +kernel, by decide +kernel⟩, lw_t1 (List.mem_of_getElem? (i := 140) rfl), lw_t1 (List.mem_of_getElem? (i := 210) rfl), lw_t1 (List.mem_of_getElem? (i := 211) rfl)⟩
theorem lw_p12 : lw_okq (⟨"PegTablesModel", "called", "(II)I"⟩, 11) := ⟨⟨by decide +kernel, by decide +kernel⟩, lw_t1 (List.mem_of_getElem? (i := 140) rfl), lw_t1 (List.mem_of_getElem? (i := 214) rfl), lw_t1 (List.mem_of_getElem? (i := 215) rfl)⟩
theorem lw_p13 : lw_okq (⟨"PegTablesModel", "joined", "(III)I"⟩, 11) := ⟨⟨by decide +kernel, by decide +kernel⟩, lw_t1 (List.mem_of_getElem? (i := 140) rfl), lw_t1 (List.mem_of_getElem? (i := 218) rfl), lw_t1 (List.mem_of_getElem? (i := 219) rfl)⟩
theorem lw_p14 : lw_okq (⟨"PegTablesModel", "first", "(II)I"⟩, 11) := ⟨⟨by decide +kernel, by decide +kernel⟩, lw_t1 (List.mem_of_getElem? (i := 140) rfl), lw_t1 (List.mem_of_getElem? (i := 230) rfl), lw_t1 (List.mem_of_getElem? (i := 231) rfl)⟩
def lw_privs_1 : List (MethodName × Nat) := [(⟨"PegTables", "forget", "()V"⟩, 16), (⟨"PegTables", "workOut", "(II)V"⟩, 16), (⟨"PegTables", "putOn", "(II)V"⟩, 16), (⟨"PegTables", "goOn", "(I)V"⟩, 16), (⟨"PegTables", "single", "(III)I"⟩, 16), (⟨"PegTables", "finish", "(II)V"⟩, 16), (⟨"PegTables", "begin", "(IIII)V"⟩, 16), (⟨"PegTables", "need", "(IIII)V"⟩, 16), (⟨"PegTables", "afterFirst", "(IIII)V"⟩, 16), (⟨"PegTables", "afterSecond", "(IIII)V"⟩, 16), (⟨"PegTablesModel", "work", "()V"⟩, 11), (⟨"PegTablesModel", "follows", "(II)I"⟩, 11), (⟨"PegTablesModel", "called", "(II)I"⟩, 11), (⟨"PegTablesModel", "joined", "(III)I"⟩, 11), (⟨"PegTablesModel", "first", "(II)I"⟩, 11)]
theorem lw_r1 : ∀ q ∈ lw_privs_1, lw_okq q := List.forall_mem_cons.mpr ⟨lw_p0, List.forall_mem_cons.mpr ⟨lw_p1, List.forall_mem_cons.mpr ⟨lw_p2, List.forall_mem_cons.mpr ⟨lw_p3, List.forall_mem_cons.mpr ⟨lw_p4, List.forall_mem_cons.mpr ⟨lw_p5, List.forall_mem_cons.mpr ⟨lw_p6, List.forall_mem_cons.mpr ⟨lw_p7, List.forall_mem_cons.mpr ⟨lw_p8, List.forall_mem_cons.mpr ⟨lw_p9, List.forall_mem_cons.mpr ⟨lw_p10, List.forall_mem_cons.mpr ⟨lw_p11, List.forall_mem_cons.mpr ⟨lw_p12, List.forall_mem_cons.mpr ⟨lw_p13, List.forall_mem_cons.mpr ⟨lw_p14, fun _ h => absurd h List.not_mem_nil⟩⟩⟩⟩⟩⟩⟩⟩⟩⟩⟩⟩⟩⟩⟩
def lw_privs : List (MethodName × Nat) := lw_privs_1
def lw_tbl : List Cond := k2_sels lw_privs ++ tables_1
theorem lw_privs_ok : ∀ q ∈ lw_privs, lw_okq q := lw_r1
-- ===== ONE list of words for every method: the tables' words that hold all through a run =====
def lw_all : List Cond := lw_tbl.filter goodWord
/-- a word of the tables by its place: claim/WORDS.tsv -/
theorem lw_w {w : Cond} (i : Nat) (h : lw_tbl[i]? = some w) (g : goodWord w = true) : w ∈ lw_all := List.mem_filter.mpr ⟨List.mem_of_getElem? h, g⟩
theorem lw_all_tbl {w : Cond} (h : w ∈ lw_all) : w ∈ lw_tbl := (List.mem_filter.mp h).1
theorem lw_self : GoodIn lw_all lw_all := fun w h => ⟨h, good_of_word (List.mem_filter.mp h).2⟩
/-- the words of an object's fields, by their places -/
theorem lw_in (ws : List Cond) (ps : List Nat) (hp : ws = ps.filterMap (fun i => lw_tbl[i]?)) (hg : ws.all goodWord = true) : ∀ w ∈ ws, w ∈ lw_all := by
  intro w h
  have h1 := List.all_eq_true.mp hg w h
  rw [hp] at h
  obtain ⟨i, -, hi⟩ := List.mem_filterMap.mp h
  exact lw_w i hi h1
/-- the words of a contract for the method y with code b, L locals, answer r -/
abbrev ws_ (y : MethodName) (b : ByteArray) (L : Nat) (r : Option FieldType) : List Cond := Cond.code y b L r :: lw_all
theorem lw_meth {y : MethodName} {b : ByteArray} {L : Nat} {r : Option FieldType} (h : Cond.code y b L r ∈ lw_all) : GoodIn lw_all (ws_ y b L r) := by
  intro w hw
  rcases List.mem_cons.mp hw with e | e
  · rw [e]
    exact lw_self _ h
  · exact lw_self _ e
theorem lw_app {a c : List Cond} (ha : ∀ w ∈ a, w ∈ lw_all) (hc : GoodIn lw_all c) : GoodIn lw_all (a ++ c) := by
  intro w hw
  rcases List.mem_append.mp hw with e | e
  · exact lw_self w (ha w e)
  · exact hc w e
/-- what a call through an object asks: cwV n hts (lw_V ..) -/
theorem lw_V {own : String} {idx : Nat} {C : String} {y : MethodName} {b : ByteArray} {L : Nat} {r : Option FieldType} (h1 : Cond.methodLink own idx y ∈ lw_all) (h2 : Cond.instanceMethod y ∈ lw_all) (h3 : Cond.selects C y y ∈ lw_all) (h4 : Cond.initialized C ∈ lw_all) (h5 : Cond.code y b L r ∈ lw_all) : GoodIn lw_all (wsV own idx C y (ws_ y b L r)) := by
  refine lw_app ?_ (lw_meth h5)
  intro w hw
  simp only [List.mem_cons, List.not_mem_nil, or_false] at hw
  rcases hw with e | e | e | e
  · rw [e]; exact h1
  · rw [e]; exact h2
  · rw [e]; exact h3
  · rw [e]; exact h4
/-- what a static call asks: va_cwS n hts (lw_S ..) -/
theorem lw_S {own : String} {idx : Nat} {y : MethodName} {b : ByteArray} {L : Nat} {r : Option FieldType} (h1 : Cond.methodLink own idx y ∈ lw_all) (h2 : Cond.static y ∈ lw_all) (h3 : Cond.initialized y.cls ∈ lw_all) (h4 : Cond.code y b L r ∈ lw_all) : GoodIn lw_all (va_wsS own idx y (ws_ y b L r)) := by
  refine lw_app ?_ (lw_meth h4)
  intro w hw
  simp only [List.mem_cons, List.not_mem_nil, or_false] at hw
  rcases hw with e | e | e
  · rw [e]; exact h1
  · rw [e]; exact h2
  · rw [e]; exact h3
/-- the words of a contract for a method WITH HANDLERS (hh: its table) -/
abbrev wsW_ (y : MethodName) (b : ByteArray) (L : Nat) (r : Option FieldType) (hh : List (Nat × Nat × Nat × Nat)) : List Cond := Cond.codeWith y b L r hh :: lw_all
theorem lw_methW {y : MethodName} {b : ByteArray} {L : Nat} {r : Option FieldType} {hh : List (Nat × Nat × Nat × Nat)} (h : Cond.codeWith y b L r hh ∈ lw_all) : GoodIn lw_all (wsW_ y b L r hh) := by
  intro w hw
  rcases List.mem_cons.mp hw with e | e
  · rw [e]
    exact lw_self _ h
  · exact lw_self _ e
/-- any list of words by their places (lw_in), good -/
theorem lw_good {ws : List Cond} (h : ∀ w ∈ ws, w ∈ lw_all) : GoodIn lw_all ws := fun w hw => lw_self w (h w hw)
/-- what a call of a method with handlers asks: vx_cwVW n hts (lw_VW ..), vx_cwSW n hts (lw_SW ..) -/
theorem lw_VW {own : String} {idx : Nat} {C : String} {y : MethodName} {b : ByteArray} {L : Nat} {r : Option FieldType} {hh : List (Nat × Nat × Nat × Nat)} (h1 : Cond.methodLink own idx y ∈ lw_all) (h2 : Cond.instanceMethod y ∈ lw_all) (h3 : Cond.selects C y y ∈ lw_all) (h4 : Cond.initialized C ∈ lw_all) (h5 : Cond.codeWith y b L r hh ∈ lw_all) : GoodIn lw_all (wsV own idx C y (wsW_ y b L r hh)) := by
  refine lw_app ?_ (lw_methW h5)
  intro w hw
  simp only [List.mem_cons, List.not_mem_nil, or_false] at hw
  rcases hw with e | e | e | e
  · rw [e]; exact h1
  · rw [e]; exact h2
  · rw [e]; exact h3
  · rw [e]; exact h4
theorem lw_SW {own : String} {idx : Nat} {y : MethodName} {b : ByteArray} {L : Nat} {r : Option FieldType} {hh : List (Nat × Nat × Nat × Nat)} (h1 : Cond.methodLink own idx y ∈ lw_all) (h2 : Cond.static y ∈ lw_all) (h3 : Cond.initialized y.cls ∈ lw_all) (h4 : Cond.codeWith y b L r hh ∈ lw_all) : GoodIn lw_all (va_wsS own idx y (wsW_ y b L r hh)) := by
  refine lw_app ?_ (lw_methW h4)
  intro w hw
  simp only [List.mem_cons, List.not_mem_nil, or_false] at hw
  rcases hw with e | e | e
  · rw [e]; exact h1
  · rw [e]; exact h2
  · rw [e]; exact h3
/-- a word by its place in its run of the tables -/
theorem lw_at {r : List Cond} (hr : ∀ w ∈ r, w ∈ lw_tbl) {w : Cond} (i : Nat) (h : r[i]? = some w) : w ∈ lw_tbl := hr w (List.mem_of_getElem? h)
theorem lw_g {w : Cond} (h : w ∈ lw_tbl) (g : goodWord w = true) : w ∈ lw_all := List.mem_filter.mpr ⟨h, g⟩
theorem lw_ms : ∀ w ∈ k2_sels lw_privs, w ∈ lw_tbl := fun w h => show w ∈ k2_sels lw_privs ++ tables_1 from List.mem_append_left _ h
theorem lw_m1 : ∀ w ∈ tables_1_1, w ∈ lw_tbl := fun w h => show w ∈ k2_sels lw_privs ++ tables_1 from List.mem_append_right (k2_sels lw_privs) (show w ∈ tables_1 from List.mem_append_left _ h)
theorem lw_m2 : ∀ w ∈ tables_1_2, w ∈ lw_tbl := fun w h => show w ∈ k2_sels lw_privs ++ tables_1 from List.mem_append_right (k2_sels lw_privs) (show w ∈ tables_1 from List.mem_append_right _ h)
theorem qs0 : (Cond.selects "PegTables" ⟨"PegTables", "forget", "()V"⟩ ⟨"PegTables", "forget", "()V"⟩) ∈ lw_all := lw_g (lw_at lw_ms 0 rfl) rfl
theorem qs1 : (Cond.selects "PegTables" ⟨"PegTables", "workOut", "(II)V"⟩ ⟨"PegTables", "workOut", "(II)V"⟩) ∈ lw_all := lw_g (lw_at lw_ms 1 rfl) rfl
theorem qs2 : (Cond.selects "PegTables" ⟨"PegTables", "putOn", "(II)V"⟩ ⟨"PegTables", "putOn", "(II)V"⟩) ∈ lw_all := lw_g (lw_at lw_ms 2 rfl) rfl
theorem qs3 : (Cond.selects "PegTables" ⟨"PegTables", "goOn", "(I)V"⟩ ⟨"PegTables", "goOn", "(I)V"⟩) ∈ lw_all := lw_g (lw_at lw_ms 3 rfl) rfl
theorem qs4 : (Cond.selects "PegTables" ⟨"PegTables", "single", "(III)I"⟩ ⟨"PegTables", "single", "(III)I"⟩) ∈ lw_all := lw_g (lw_at lw_ms 4 rfl) rfl
theorem qs5 : (Cond.selects "PegTables" ⟨"PegTables", "finish", "(II)V"⟩ ⟨"PegTables", "finish", "(II)V"⟩) ∈ lw_all := lw_g (lw_at lw_ms 5 rfl) rfl
theorem qs6 : (Cond.selects "PegTables" ⟨"PegTables", "begin", "(IIII)V"⟩ ⟨"PegTables", "begin", "(IIII)V"⟩) ∈ lw_all := lw_g (lw_at lw_ms 6 rfl) rfl
theorem qs7 : (Cond.selects "PegTables" ⟨"PegTables", "need", "(IIII)V"⟩ ⟨"PegTables", "need", "(IIII)V"⟩) ∈ lw_all := lw_g (lw_at lw_ms 7 rfl) rfl
theorem qs8 : (Cond.selects "PegTables" ⟨"PegTables", "afterFirst", "(IIII)V"⟩ ⟨"PegTables", "afterFirst", "(IIII)V"⟩) ∈ lw_all := lw_g (lw_at lw_ms 8 rfl) rfl
theorem qs9 : (Cond.selects "PegTables" ⟨"PegTables", "afterSecond", "(IIII)V"⟩ ⟨"PegTables", "afterSecond", "(IIII)V"⟩) ∈ lw_all := lw_g (lw_at lw_ms 9 rfl) rfl
theorem qs10 : (Cond.selects "PegTablesModel" ⟨"PegTablesModel", "work", "()V"⟩ ⟨"PegTablesModel", "work", "()V"⟩) ∈ lw_all := lw_g (lw_at lw_ms 10 rfl) rfl
theorem qs11 : (Cond.selects "PegTablesModel" ⟨"PegTablesModel", "follows", "(II)I"⟩ ⟨"PegTablesModel", "follows", "(II)I"⟩) ∈ lw_all := lw_g (lw_at lw_ms 11 rfl) rfl
theorem qs12 : (Cond.selects "PegTablesModel" ⟨"PegTablesModel", "called", "(II)I"⟩ ⟨"PegTablesModel", "called", "(II)I"⟩) ∈ lw_all := lw_g (lw_at lw_ms 12 rfl) rfl
theorem qs13 : (Cond.selects "PegTablesModel" ⟨"PegTablesModel", "joined", "(III)I"⟩ ⟨"PegTablesModel", "joined", "(III)I"⟩) ∈ lw_all := lw_g (lw_at lw_ms 13 rfl) rfl
theorem qs14 : (Cond.selects "PegTablesModel" ⟨"PegTablesModel", "first", "(II)I"⟩ ⟨"PegTablesModel", "first", "(II)I"⟩) ∈ lw_all := lw_g (lw_at lw_ms 14 rfl) rfl
end
section
set_option maxRecDepth 100000
/-! java/lang/Object -/
def RJ0 : String := "java/lang/Object"
abbrev cJ0_init : ByteArray := object_method_1_code
def yJ0_init : MethodName := ⟨RJ0, "<init>", "()V"⟩
theorem q24 : (Jvm.Cond.instanceMethod ({ cls := "java/lang/Object", name := "<init>", desc := "()V" } : Jvm.MethodName)) ∈ lw_all := lw_g (lw_at lw_m1 9 rfl) rfl
theorem q25 : (Jvm.Cond.code ({ cls := "java/lang/Object", name := "<init>", desc := "()V" } : Jvm.MethodName) object_method_1_code (1 : Nat) (Option.none : Option Jvm.ClassFile.FieldType)) ∈ lw_all := lw_g (lw_at lw_m1 10 rfl) rfl
/-! PegTables -/
def RX0 : String := "PegTables"
def TX0 : u_T := fun k => match k with
  | 0 => ("PegTables", "tokens", "I", false)
  | 1 => ("PegTables", "nodes", "I", false)
  | 2 => ("PegTables", "op", "[I", true)
  | 3 => ("PegTables", "argument", "[I", true)
  | 4 => ("PegTables", "left", "[I", true)
  | 5 => ("PegTables", "right", "[I", true)
  | 6 => ("PegTables", "stackSize", "I", false)
  | 7 => ("PegTables", "stack", "[I", true)
  | 8 => ("PegTables", "ruleNode", "[I", true)
  | 9 => ("PegTables", "length", "I", false)
  | 10 => ("PegTables", "text", "[I", true)
  | 11 => ("PegTables", "outcome", "[I", true)
  | 12 => ("PegTables", "depth", "I", false)
  | 13 => ("PegTables", "waiting", "[I", true)
  | 14 => ("PegTables", "stage", "[I", true)
  | _ => ("PegTables", "taken", "[I", true)
def tyX0 : Nat → FieldType := fun k => match k with
  | 0 => .int
  | 1 => .int
  | 2 => .array .int
  | 3 => .array .int
  | 4 => .array .int
  | 5 => .array .int
  | 6 => .int
  | 7 => .array .int
  | 8 => .array .int
  | 9 => .int
  | 10 => .array .int
  | 11 => .array .int
  | 12 => .int
  | 13 => .array .int
  | 14 => .array .int
  | _ => .array .int
abbrev wsX00 : List Cond := u_ws RX0 TX0 16
set_option maxRecDepth 100000 in
theorem nmX0 : ∀ a, a < 16 → ∀ b, b < 16 → a ≠ b → (TX0 a).2.1 ≠ (TX0 b).2.1 := by decide +kernel
set_option maxRecDepth 100000 in
theorem tyX0_ok : ∀ k, k < 16 → parseFieldDescriptor (TX0 k).2.2.1 = some (tyX0 k) := by decide +kernel
abbrev cX0_init : ByteArray := prog_1_method_1_code
def yX0_init : MethodName := ⟨RX0, "<init>", "()V"⟩
abbrev cX0_clear : ByteArray := prog_1_method_3_code
def yX0_clear : MethodName := ⟨RX0, "clear", "()V"⟩
abbrev cX0_forget : ByteArray := prog_1_method_11_code
def yX0_forget : MethodName := ⟨RX0, "forget", "()V"⟩
abbrev cX0_token : ByteArray := prog_1_method_2_code
def yX0_token : MethodName := ⟨RX0, "token", "(II)I"⟩
abbrev cX0_type : ByteArray := prog_1_method_4_code
def yX0_type : MethodName := ⟨RX0, "type", "(I)I"⟩
abbrev cX0_erase : ByteArray := prog_1_method_5_code
def yX0_erase : MethodName := ⟨RX0, "erase", "()V"⟩
abbrev cX0_match : ByteArray := prog_1_method_6_code
def yX0_match : MethodName := ⟨RX0, "match", "(II)I"⟩
abbrev cX0_workOut : ByteArray := prog_1_method_12_code
def yX0_workOut : MethodName := ⟨RX0, "workOut", "(II)V"⟩
abbrev cX0_putOn : ByteArray := prog_1_method_13_code
def yX0_putOn : MethodName := ⟨RX0, "putOn", "(II)V"⟩
abbrev cX0_goOn : ByteArray := prog_1_method_14_code
def yX0_goOn : MethodName := ⟨RX0, "goOn", "(I)V"⟩
abbrev cX0_single : ByteArray := prog_1_method_15_code
def yX0_single : MethodName := ⟨RX0, "single", "(III)I"⟩
abbrev cX0_finish : ByteArray := prog_1_method_19_code
def yX0_finish : MethodName := ⟨RX0, "finish", "(II)V"⟩
abbrev cX0_begin : ByteArray := prog_1_method_16_code
def yX0_begin : MethodName := ⟨RX0, "begin", "(IIII)V"⟩
abbrev cX0_need : ByteArray := prog_1_method_20_code
def yX0_need : MethodName := ⟨RX0, "need", "(IIII)V"⟩
abbrev cX0_afterFirst : ByteArray := prog_1_method_17_code
def yX0_afterFirst : MethodName := ⟨RX0, "afterFirst", "(IIII)V"⟩
abbrev cX0_afterSecond : ByteArray := prog_1_method_18_code
def yX0_afterSecond : MethodName := ⟨RX0, "afterSecond", "(IIII)V"⟩
abbrev cX0_matches : ByteArray := prog_1_method_7_code
def yX0_matches : MethodName := ⟨RX0, "matches", "(I)I"⟩
abbrev cX0_find : ByteArray := prog_1_method_8_code
def yX0_find : MethodName := ⟨RX0, "find", "(II)I"⟩
abbrev cX0_whole : ByteArray := prog_1_method_9_code
def yX0_whole : MethodName := ⟨RX0, "whole", "(I)I"⟩
abbrev cX0_stuck : ByteArray := prog_1_method_10_code
def yX0_stuck : MethodName := ⟨RX0, "stuck", "(I)I"⟩
theorem q16 : (Jvm.Cond.initialized "PegTables") ∈ lw_all := lw_g (lw_at lw_m1 1 rfl) rfl
theorem q19 : (Jvm.Cond.instantiable "PegTables" (16 : Nat)) ∈ lw_all := lw_g (lw_at lw_m1 4 rfl) rfl
theorem q21 : (Jvm.Cond.instanceMethod ({ cls := "PegTables", name := "<init>", desc := "()V" } : Jvm.MethodName)) ∈ lw_all := lw_g (lw_at lw_m1 6 rfl) rfl
theorem q22 : (Jvm.Cond.code ({ cls := "PegTables", name := "<init>", desc := "()V" } : Jvm.MethodName) prog_1_method_1_code (1 : Nat) (Option.none : Option Jvm.ClassFile.FieldType)) ∈ lw_all := lw_g (lw_at lw_m1 7 rfl) rfl
theorem q23 : (Jvm.Cond.methodLink "PegTables" (1 : Nat) ({ cls := "java/lang/Object", name := "<init>", desc := "()V" } : Jvm.MethodName)) ∈ lw_all := lw_g (lw_at lw_m1 8 rfl) rfl
theorem q26 : (Jvm.Cond.methodLink "PegTables" (43 : Nat) ({ cls := "PegTables", name := "clear", desc := "()V" } : Jvm.MethodName)) ∈ lw_all := lw_g (lw_at lw_m1 11 rfl) rfl
theorem q27 : (Jvm.Cond.instanceMethod ({ cls := "PegTables", name := "clear", desc := "()V" } : Jvm.MethodName)) ∈ lw_all := lw_g (lw_at lw_m1 12 rfl) rfl
theorem q28 : (Jvm.Cond.selects "PegTables" ({ cls := "PegTables", name := "clear", desc := "()V" } : Jvm.MethodName) ({ cls := "PegTables", name := "clear", desc := "()V" } : Jvm.MethodName)) ∈ lw_all := lw_g (lw_at lw_m1 13 rfl) rfl
theorem q29 : (Jvm.Cond.code ({ cls := "PegTables", name := "clear", desc := "()V" } : Jvm.MethodName) prog_1_method_3_code (2 : Nat) (Option.none : Option Jvm.ClassFile.FieldType)) ∈ lw_all := lw_g (lw_at lw_m1 14 rfl) rfl
theorem q30 : (Jvm.Cond.methodLink "PegTables" (53 : Nat) ({ cls := "PegTables", name := "forget", desc := "()V" } : Jvm.MethodName)) ∈ lw_all := lw_g (lw_at lw_m1 15 rfl) rfl
theorem q31 : (Jvm.Cond.privateMethod ({ cls := "PegTables", name := "forget", desc := "()V" } : Jvm.MethodName)) ∈ lw_tbl := lw_at lw_m1 16 rfl
theorem q32 : (Jvm.Cond.instanceMethod ({ cls := "PegTables", name := "forget", desc := "()V" } : Jvm.MethodName)) ∈ lw_all := lw_g (lw_at lw_m1 17 rfl) rfl
theorem q33 : (Jvm.Cond.code ({ cls := "PegTables", name := "forget", desc := "()V" } : Jvm.MethodName) prog_1_method_11_code (2 : Nat) (Option.none : Option Jvm.ClassFile.FieldType)) ∈ lw_all := lw_g (lw_at lw_m1 18 rfl) rfl
theorem q34 : (Jvm.Cond.fieldLink "PegTables" (50 : Nat) "PegTables" "tokens" "I") ∈ lw_all := lw_g (lw_at lw_m1 19 rfl) rfl
theorem q35 : (Jvm.Cond.fieldLink "PegTables" (56 : Nat) "PegTables" "nodes" "I") ∈ lw_all := lw_g (lw_at lw_m1 20 rfl) rfl
theorem q36 : (Jvm.Cond.fieldLink "PegTables" (7 : Nat) "PegTables" "op" "[I") ∈ lw_all := lw_g (lw_at lw_m1 21 rfl) rfl
theorem q37 : (Jvm.Cond.fieldLink "PegTables" (13 : Nat) "PegTables" "argument" "[I") ∈ lw_all := lw_g (lw_at lw_m1 22 rfl) rfl
theorem q38 : (Jvm.Cond.fieldLink "PegTables" (16 : Nat) "PegTables" "left" "[I") ∈ lw_all := lw_g (lw_at lw_m1 23 rfl) rfl
theorem q39 : (Jvm.Cond.fieldLink "PegTables" (19 : Nat) "PegTables" "right" "[I") ∈ lw_all := lw_g (lw_at lw_m1 24 rfl) rfl
theorem q40 : (Jvm.Cond.fieldLink "PegTables" (46 : Nat) "PegTables" "stackSize" "I") ∈ lw_all := lw_g (lw_at lw_m1 25 rfl) rfl
theorem q41 : (Jvm.Cond.fieldLink "PegTables" (22 : Nat) "PegTables" "stack" "[I") ∈ lw_all := lw_g (lw_at lw_m1 26 rfl) rfl
theorem q42 : (Jvm.Cond.fieldLink "PegTables" (25 : Nat) "PegTables" "ruleNode" "[I") ∈ lw_all := lw_g (lw_at lw_m1 27 rfl) rfl
theorem q43 : (Jvm.Cond.fieldLink "PegTables" (59 : Nat) "PegTables" "length" "I") ∈ lw_all := lw_g (lw_at lw_m1 28 rfl) rfl
theorem q44 : (Jvm.Cond.fieldLink "PegTables" (28 : Nat) "PegTables" "text" "[I") ∈ lw_all := lw_g (lw_at lw_m1 29 rfl) rfl
theorem q45 : (Jvm.Cond.fieldLink "PegTables" (31 : Nat) "PegTables" "outcome" "[I") ∈ lw_all := lw_g (lw_at lw_m1 30 rfl) rfl
theorem q46 : (Jvm.Cond.fieldLink "PegTables" (70 : Nat) "PegTables" "depth" "I") ∈ lw_all := lw_g (lw_at lw_m1 31 rfl) rfl
theorem q47 : (Jvm.Cond.fieldLink "PegTables" (34 : Nat) "PegTables" "waiting" "[I") ∈ lw_all := lw_g (lw_at lw_m1 32 rfl) rfl
theorem q48 : (Jvm.Cond.fieldLink "PegTables" (37 : Nat) "PegTables" "stage" "[I") ∈ lw_all := lw_g (lw_at lw_m1 33 rfl) rfl
theorem q49 : (Jvm.Cond.fieldLink "PegTables" (40 : Nat) "PegTables" "taken" "[I") ∈ lw_all := lw_g (lw_at lw_m1 34 rfl) rfl
theorem q50 : (Jvm.Cond.lays "PegTables" "PegTables" "tokens" "I") ∈ lw_all := lw_g (lw_at lw_m1 35 rfl) rfl
theorem q51 : (Jvm.Cond.soleField "PegTables" "tokens") ∈ lw_all := lw_g (lw_at lw_m1 36 rfl) rfl
theorem q52 : (Jvm.Cond.lays "PegTables" "PegTables" "nodes" "I") ∈ lw_all := lw_g (lw_at lw_m1 37 rfl) rfl
theorem q53 : (Jvm.Cond.soleField "PegTables" "nodes") ∈ lw_all := lw_g (lw_at lw_m1 38 rfl) rfl
theorem q54 : (Jvm.Cond.laysFinal "PegTables" "PegTables" "op" "[I") ∈ lw_all := lw_g (lw_at lw_m1 39 rfl) rfl
theorem q55 : (Jvm.Cond.soleField "PegTables" "op") ∈ lw_all := lw_g (lw_at lw_m1 40 rfl) rfl
theorem q56 : (Jvm.Cond.laysFinal "PegTables" "PegTables" "argument" "[I") ∈ lw_all := lw_g (lw_at lw_m1 41 rfl) rfl
theorem q57 : (Jvm.Cond.soleField "PegTables" "argument") ∈ lw_all := lw_g (lw_at lw_m1 42 rfl) rfl
theorem q58 : (Jvm.Cond.laysFinal "PegTables" "PegTables" "left" "[I") ∈ lw_all := lw_g (lw_at lw_m1 43 rfl) rfl
theorem q59 : (Jvm.Cond.soleField "PegTables" "left") ∈ lw_all := lw_g (lw_at lw_m1 44 rfl) rfl
theorem q60 : (Jvm.Cond.laysFinal "PegTables" "PegTables" "right" "[I") ∈ lw_all := lw_g (lw_at lw_m1 45 rfl) rfl
theorem q61 : (Jvm.Cond.soleField "PegTables" "right") ∈ lw_all := lw_g (lw_at lw_m1 46 rfl) rfl
theorem q62 : (Jvm.Cond.lays "PegTables" "PegTables" "stackSize" "I") ∈ lw_all := lw_g (lw_at lw_m1 47 rfl) rfl
theorem q63 : (Jvm.Cond.soleField "PegTables" "stackSize") ∈ lw_all := lw_g (lw_at lw_m1 48 rfl) rfl
theorem q64 : (Jvm.Cond.laysFinal "PegTables" "PegTables" "stack" "[I") ∈ lw_all := lw_g (lw_at lw_m1 49 rfl) rfl
theorem q65 : (Jvm.Cond.soleField "PegTables" "stack") ∈ lw_all := lw_g (lw_at lw_m1 50 rfl) rfl
theorem q66 : (Jvm.Cond.laysFinal "PegTables" "PegTables" "ruleNode" "[I") ∈ lw_all := lw_g (lw_at lw_m1 51 rfl) rfl
theorem q67 : (Jvm.Cond.soleField "PegTables" "ruleNode") ∈ lw_all := lw_g (lw_at lw_m1 52 rfl) rfl
theorem q68 : (Jvm.Cond.lays "PegTables" "PegTables" "length" "I") ∈ lw_all := lw_g (lw_at lw_m1 53 rfl) rfl
theorem q69 : (Jvm.Cond.soleField "PegTables" "length") ∈ lw_all := lw_g (lw_at lw_m1 54 rfl) rfl
theorem q70 : (Jvm.Cond.laysFinal "PegTables" "PegTables" "text" "[I") ∈ lw_all := lw_g (lw_at lw_m1 55 rfl) rfl
theorem q71 : (Jvm.Cond.soleField "PegTables" "text") ∈ lw_all := lw_g (lw_at lw_m1 56 rfl) rfl
theorem q72 : (Jvm.Cond.laysFinal "PegTables" "PegTables" "outcome" "[I") ∈ lw_all := lw_g (lw_at lw_m1 57 rfl) rfl
theorem q73 : (Jvm.Cond.soleField "PegTables" "outcome") ∈ lw_all := lw_g (lw_at lw_m1 58 rfl) rfl
theorem q74 : (Jvm.Cond.lays "PegTables" "PegTables" "depth" "I") ∈ lw_all := lw_g (lw_at lw_m1 59 rfl) rfl
theorem q75 : (Jvm.Cond.soleField "PegTables" "depth") ∈ lw_all := lw_g (lw_at lw_m1 60 rfl) rfl
theorem q76 : (Jvm.Cond.laysFinal "PegTables" "PegTables" "waiting" "[I") ∈ lw_all := lw_g (lw_at lw_m1 61 rfl) rfl
theorem q77 : (Jvm.Cond.soleField "PegTables" "waiting") ∈ lw_all := lw_g (lw_at lw_m1 62 rfl) rfl
theorem q78 : (Jvm.Cond.laysFinal "PegTables" "PegTables" "stage" "[I") ∈ lw_all := lw_g (lw_at lw_m1 63 rfl) rfl
theorem q79 : (Jvm.Cond.soleField "PegTables" "stage") ∈ lw_all := lw_g (lw_at lw_m1 64 rfl) rfl
theorem q80 : (Jvm.Cond.laysFinal "PegTables" "PegTables" "taken" "[I") ∈ lw_all := lw_g (lw_at lw_m1 65 rfl) rfl
theorem q81 : (Jvm.Cond.soleField "PegTables" "taken") ∈ lw_all := lw_g (lw_at lw_m1 66 rfl) rfl
theorem q82 : (Jvm.Cond.superclass "PegTables" "java/lang/Object") ∈ lw_all := lw_g (lw_at lw_m1 67 rfl) rfl
theorem q85 : (Jvm.Cond.instanceMethod ({ cls := "PegTables", name := "token", desc := "(II)I" } : Jvm.MethodName)) ∈ lw_all := lw_g (lw_at lw_m1 70 rfl) rfl
theorem q86 : (Jvm.Cond.selects "PegTables" ({ cls := "PegTables", name := "token", desc := "(II)I" } : Jvm.MethodName) ({ cls := "PegTables", name := "token", desc := "(II)I" } : Jvm.MethodName)) ∈ lw_all := lw_g (lw_at lw_m1 71 rfl) rfl
theorem q87 : (Jvm.Cond.code ({ cls := "PegTables", name := "token", desc := "(II)I" } : Jvm.MethodName) prog_1_method_2_code (4 : Nat) (Option.some Jvm.ClassFile.FieldType.int)) ∈ lw_all := lw_g (lw_at lw_m1 72 rfl) rfl
theorem q90 : (Jvm.Cond.instanceMethod ({ cls := "PegTables", name := "type", desc := "(I)I" } : Jvm.MethodName)) ∈ lw_all := lw_g (lw_at lw_m1 75 rfl) rfl
theorem q91 : (Jvm.Cond.selects "PegTables" ({ cls := "PegTables", name := "type", desc := "(I)I" } : Jvm.MethodName) ({ cls := "PegTables", name := "type", desc := "(I)I" } : Jvm.MethodName)) ∈ lw_all := lw_g (lw_at lw_m1 76 rfl) rfl
theorem q92 : (Jvm.Cond.code ({ cls := "PegTables", name := "type", desc := "(I)I" } : Jvm.MethodName) prog_1_method_4_code (2 : Nat) (Option.some Jvm.ClassFile.FieldType.int)) ∈ lw_all := lw_g (lw_at lw_m1 77 rfl) rfl
theorem q94 : (Jvm.Cond.instanceMethod ({ cls := "PegTables", name := "erase", desc := "()V" } : Jvm.MethodName)) ∈ lw_all := lw_g (lw_at lw_m1 79 rfl) rfl
theorem q95 : (Jvm.Cond.selects "PegTables" ({ cls := "PegTables", name := "erase", desc := "()V" } : Jvm.MethodName) ({ cls := "PegTables", name := "erase", desc := "()V" } : Jvm.MethodName)) ∈ lw_all := lw_g (lw_at lw_m1 80 rfl) rfl
theorem q96 : (Jvm.Cond.code ({ cls := "PegTables", name := "erase", desc := "()V" } : Jvm.MethodName) prog_1_method_5_code (1 : Nat) (Option.none : Option Jvm.ClassFile.FieldType)) ∈ lw_all := lw_g (lw_at lw_m1 81 rfl) rfl
theorem q98 : (Jvm.Cond.instanceMethod ({ cls := "PegTables", name := "match", desc := "(II)I" } : Jvm.MethodName)) ∈ lw_all := lw_g (lw_at lw_m1 83 rfl) rfl
theorem q99 : (Jvm.Cond.selects "PegTables" ({ cls := "PegTables", name := "match", desc := "(II)I" } : Jvm.MethodName) ({ cls := "PegTables", name := "match", desc := "(II)I" } : Jvm.MethodName)) ∈ lw_all := lw_g (lw_at lw_m1 84 rfl) rfl
theorem q100 : (Jvm.Cond.code ({ cls := "PegTables", name := "match", desc := "(II)I" } : Jvm.MethodName) prog_1_method_6_code (3 : Nat) (Option.some Jvm.ClassFile.FieldType.int)) ∈ lw_all := lw_g (lw_at lw_m1 85 rfl) rfl
theorem q101 : (Jvm.Cond.methodLink "PegTables" (62 : Nat) ({ cls := "PegTables", name := "workOut", desc := "(II)V" } : Jvm.MethodName)) ∈ lw_all := lw_g (lw_at lw_m1 86 rfl) rfl
theorem q102 : (Jvm.Cond.privateMethod ({ cls := "PegTables", name := "workOut", desc := "(II)V" } : Jvm.MethodName)) ∈ lw_tbl := lw_at lw_m1 87 rfl
theorem q103 : (Jvm.Cond.instanceMethod ({ cls := "PegTables", name := "workOut", desc := "(II)V" } : Jvm.MethodName)) ∈ lw_all := lw_g (lw_at lw_m1 88 rfl) rfl
theorem q104 : (Jvm.Cond.code ({ cls := "PegTables", name := "workOut", desc := "(II)V" } : Jvm.MethodName) prog_1_method_12_code (4 : Nat) (Option.none : Option Jvm.ClassFile.FieldType)) ∈ lw_all := lw_g (lw_at lw_m1 89 rfl) rfl
theorem q105 : (Jvm.Cond.methodLink "PegTables" (73 : Nat) ({ cls := "PegTables", name := "putOn", desc := "(II)V" } : Jvm.MethodName)) ∈ lw_all := lw_g (lw_at lw_m1 90 rfl) rfl
theorem q106 : (Jvm.Cond.privateMethod ({ cls := "PegTables", name := "putOn", desc := "(II)V" } : Jvm.MethodName)) ∈ lw_tbl := lw_at lw_m1 91 rfl
theorem q107 : (Jvm.Cond.instanceMethod ({ cls := "PegTables", name := "putOn", desc := "(II)V" } : Jvm.MethodName)) ∈ lw_all := lw_g (lw_at lw_m1 92 rfl) rfl
theorem q108 : (Jvm.Cond.code ({ cls := "PegTables", name := "putOn", desc := "(II)V" } : Jvm.MethodName) prog_1_method_13_code (4 : Nat) (Option.none : Option Jvm.ClassFile.FieldType)) ∈ lw_all := lw_g (lw_at lw_m1 93 rfl) rfl
theorem q109 : (Jvm.Cond.methodLink "PegTables" (76 : Nat) ({ cls := "PegTables", name := "goOn", desc := "(I)V" } : Jvm.MethodName)) ∈ lw_all := lw_g (lw_at lw_m1 94 rfl) rfl
theorem q110 : (Jvm.Cond.privateMethod ({ cls := "PegTables", name := "goOn", desc := "(I)V" } : Jvm.MethodName)) ∈ lw_tbl := lw_at lw_m1 95 rfl
theorem q111 : (Jvm.Cond.instanceMethod ({ cls := "PegTables", name := "goOn", desc := "(I)V" } : Jvm.MethodName)) ∈ lw_all := lw_g (lw_at lw_m1 96 rfl) rfl
theorem q112 : (Jvm.Cond.code ({ cls := "PegTables", name := "goOn", desc := "(I)V" } : Jvm.MethodName) prog_1_method_14_code (6 : Nat) (Option.none : Option Jvm.ClassFile.FieldType)) ∈ lw_all := lw_g (lw_at lw_m1 97 rfl) rfl
theorem q113 : (Jvm.Cond.methodLink "PegTables" (80 : Nat) ({ cls := "PegTables", name := "single", desc := "(III)I" } : Jvm.MethodName)) ∈ lw_all := lw_g (lw_at lw_m1 98 rfl) rfl
theorem q114 : (Jvm.Cond.privateMethod ({ cls := "PegTables", name := "single", desc := "(III)I" } : Jvm.MethodName)) ∈ lw_tbl := lw_at lw_m1 99 rfl
theorem q115 : (Jvm.Cond.instanceMethod ({ cls := "PegTables", name := "single", desc := "(III)I" } : Jvm.MethodName)) ∈ lw_all := lw_g (lw_at lw_m1 100 rfl) rfl
theorem q116 : (Jvm.Cond.code ({ cls := "PegTables", name := "single", desc := "(III)I" } : Jvm.MethodName) prog_1_method_15_code (4 : Nat) (Option.some Jvm.ClassFile.FieldType.int)) ∈ lw_all := lw_g (lw_at lw_m1 101 rfl) rfl
theorem q117 : (Jvm.Cond.methodLink "PegTables" (84 : Nat) ({ cls := "PegTables", name := "finish", desc := "(II)V" } : Jvm.MethodName)) ∈ lw_all := lw_g (lw_at lw_m1 102 rfl) rfl
theorem q118 : (Jvm.Cond.privateMethod ({ cls := "PegTables", name := "finish", desc := "(II)V" } : Jvm.MethodName)) ∈ lw_tbl := lw_at lw_m1 103 rfl
theorem q119 : (Jvm.Cond.instanceMethod ({ cls := "PegTables", name := "finish", desc := "(II)V" } : Jvm.MethodName)) ∈ lw_all := lw_g (lw_at lw_m1 104 rfl) rfl
theorem q120 : (Jvm.Cond.code ({ cls := "PegTables", name := "finish", desc := "(II)V" } : Jvm.MethodName) prog_1_method_19_code (3 : Nat) (Option.none : Option Jvm.ClassFile.FieldType)) ∈ lw_all := lw_g (lw_at lw_m1 105 rfl) rfl
theorem q121 : (Jvm.Cond.methodLink "PegTables" (87 : Nat) ({ cls := "PegTables", name := "begin", desc := "(IIII)V" } : Jvm.MethodName)) ∈ lw_all := lw_g (lw_at lw_m1 106 rfl) rfl
theorem q122 : (Jvm.Cond.privateMethod ({ cls := "PegTables", name := "begin", desc := "(IIII)V" } : Jvm.MethodName)) ∈ lw_tbl := lw_at lw_m1 107 rfl
theorem q123 : (Jvm.Cond.instanceMethod ({ cls := "PegTables", name := "begin", desc := "(IIII)V" } : Jvm.MethodName)) ∈ lw_all := lw_g (lw_at lw_m1 108 rfl) rfl
theorem q124 : (Jvm.Cond.code ({ cls := "PegTables", name := "begin", desc := "(IIII)V" } : Jvm.MethodName) prog_1_method_16_code (6 : Nat) (Option.none : Option Jvm.ClassFile.FieldType)) ∈ lw_all := lw_g (lw_at lw_m1 109 rfl) rfl
theorem q125 : (Jvm.Cond.methodLink "PegTables" (97 : Nat) ({ cls := "PegTables", name := "need", desc := "(IIII)V" } : Jvm.MethodName)) ∈ lw_all := lw_g (lw_at lw_m1 110 rfl) rfl
theorem q126 : (Jvm.Cond.privateMethod ({ cls := "PegTables", name := "need", desc := "(IIII)V" } : Jvm.MethodName)) ∈ lw_tbl := lw_at lw_m1 111 rfl
theorem q127 : (Jvm.Cond.instanceMethod ({ cls := "PegTables", name := "need", desc := "(IIII)V" } : Jvm.MethodName)) ∈ lw_all := lw_g (lw_at lw_m1 112 rfl) rfl
theorem q128 : (Jvm.Cond.code ({ cls := "PegTables", name := "need", desc := "(IIII)V" } : Jvm.MethodName) prog_1_method_20_code (7 : Nat) (Option.none : Option Jvm.ClassFile.FieldType)) ∈ lw_all := lw_g (lw_at lw_m1 113 rfl) rfl
theorem q129 : (Jvm.Cond.methodLink "PegTables" (91 : Nat) ({ cls := "PegTables", name := "afterFirst", desc := "(IIII)V" } : Jvm.MethodName)) ∈ lw_all := lw_g (lw_at lw_m1 114 rfl) rfl
theorem q130 : (Jvm.Cond.privateMethod ({ cls := "PegTables", name := "afterFirst", desc := "(IIII)V" } : Jvm.MethodName)) ∈ lw_tbl := lw_at lw_m1 115 rfl
theorem q131 : (Jvm.Cond.instanceMethod ({ cls := "PegTables", name := "afterFirst", desc := "(IIII)V" } : Jvm.MethodName)) ∈ lw_all := lw_g (lw_at lw_m1 116 rfl) rfl
theorem q132 : (Jvm.Cond.code ({ cls := "PegTables", name := "afterFirst", desc := "(IIII)V" } : Jvm.MethodName) prog_1_method_17_code (7 : Nat) (Option.none : Option Jvm.ClassFile.FieldType)) ∈ lw_all := lw_g (lw_at lw_m1 117 rfl) rfl
theorem q133 : (Jvm.Cond.methodLink "PegTables" (94 : Nat) ({ cls := "PegTables", name := "afterSecond", desc := "(IIII)V" } : Jvm.MethodName)) ∈ lw_all := lw_g (lw_at lw_m1 118 rfl) rfl
theorem q134 : (Jvm.Cond.privateMethod ({ cls := "PegTables", name := "afterSecond", desc := "(IIII)V" } : Jvm.MethodName)) ∈ lw_tbl := lw_at lw_m1 119 rfl
theorem q135 : (Jvm.Cond.instanceMethod ({ cls := "PegTables", name := "afterSecond", desc := "(IIII)V" } : Jvm.MethodName)) ∈ lw_all := lw_g (lw_at lw_m1 120 rfl) rfl
theorem q136 : (Jvm.Cond.code ({ cls := "PegTables", name := "afterSecond", desc := "(IIII)V" } : Jvm.MethodName) prog_1_method_18_code (7 : Nat) (Option.none : Option Jvm.ClassFile.FieldType)) ∈ lw_all := lw_g (lw_at lw_m1 121 rfl) rfl
theorem q138 : (Jvm.Cond.instanceMethod ({ cls := "PegTables", name := "matches", desc := "(I)I" } : Jvm.MethodName)) ∈ lw_all := lw_g (lw_at lw_m1 123 rfl) rfl
theorem q139 : (Jvm.Cond.selects "PegTables" ({ cls := "PegTables", name := "matches", desc := "(I)I" } : Jvm.MethodName) ({ cls := "PegTables", name := "matches", desc := "(I)I" } : Jvm.MethodName)) ∈ lw_all := lw_g (lw_at lw_m1 124 rfl) rfl
theorem q140 : (Jvm.Cond.code ({ cls := "PegTables", name := "matches", desc := "(I)I" } : Jvm.MethodName) prog_1_method_7_code (5 : Nat) (Option.some Jvm.ClassFile.FieldType.int)) ∈ lw_all := lw_g (lw_at lw_m1 125 rfl) rfl
theorem q141 : (Jvm.Cond.methodLink "PegTables" (66 : Nat) ({ cls := "PegTables", name := "match", desc := "(II)I" } : Jvm.MethodName)) ∈ lw_all := lw_g (lw_at lw_m1 126 rfl) rfl
theorem q143 : (Jvm.Cond.instanceMethod ({ cls := "PegTables", name := "find", desc := "(II)I" } : Jvm.MethodName)) ∈ lw_all := lw_g (lw_at lw_m1 128 rfl) rfl
theorem q144 : (Jvm.Cond.selects "PegTables" ({ cls := "PegTables", name := "find", desc := "(II)I" } : Jvm.MethodName) ({ cls := "PegTables", name := "find", desc := "(II)I" } : Jvm.MethodName)) ∈ lw_all := lw_g (lw_at lw_m1 129 rfl) rfl
theorem q145 : (Jvm.Cond.code ({ cls := "PegTables", name := "find", desc := "(II)I" } : Jvm.MethodName) prog_1_method_8_code (5 : Nat) (Option.some Jvm.ClassFile.FieldType.int)) ∈ lw_all := lw_g (lw_at lw_m1 130 rfl) rfl
theorem q147 : (Jvm.Cond.instanceMethod ({ cls := "PegTables", name := "whole", desc := "(I)I" } : Jvm.MethodName)) ∈ lw_all := lw_g (lw_at lw_m1 132 rfl) rfl
theorem q148 : (Jvm.Cond.selects "PegTables" ({ cls := "PegTables", name := "whole", desc := "(I)I" } : Jvm.MethodName) ({ cls := "PegTables", name := "whole", desc := "(I)I" } : Jvm.MethodName)) ∈ lw_all := lw_g (lw_at lw_m1 133 rfl) rfl
theorem q149 : (Jvm.Cond.code ({ cls := "PegTables", name := "whole", desc := "(I)I" } : Jvm.MethodName) prog_1_method_9_code (3 : Nat) (Option.some Jvm.ClassFile.FieldType.int)) ∈ lw_all := lw_g (lw_at lw_m1 134 rfl) rfl
theorem q151 : (Jvm.Cond.instanceMethod ({ cls := "PegTables", name := "stuck", desc := "(I)I" } : Jvm.MethodName)) ∈ lw_all := lw_g (lw_at lw_m1 136 rfl) rfl
theorem q152 : (Jvm.Cond.selects "PegTables" ({ cls := "PegTables", name := "stuck", desc := "(I)I" } : Jvm.MethodName) ({ cls := "PegTables", name := "stuck", desc := "(I)I" } : Jvm.MethodName)) ∈ lw_all := lw_g (lw_at lw_m1 137 rfl) rfl
theorem q153 : (Jvm.Cond.code ({ cls := "PegTables", name := "stuck", desc := "(I)I" } : Jvm.MethodName) prog_1_method_10_code (5 : Nat) (Option.some Jvm.ClassFile.FieldType.int)) ∈ lw_all := lw_g (lw_at lw_m1 138 rfl) rfl
theorem in_X0 : ∀ w ∈ wsX00, w ∈ lw_all := lw_in wsX00 [50, 52, 54, 56, 58, 60, 62, 64, 66, 68, 70, 72, 74, 76, 78, 80] (by decide +kernel) (by decide +kernel)
/-! PegTablesModel -/
def RX1 : String := "PegTablesModel"
def TX1 : u_T := fun k => match k with
  | 0 => ("PegTablesModel", "tokens", "I", false)
  | 1 => ("PegTablesModel", "codes", "[I", true)
  | 2 => ("PegTablesModel", "args", "[I", true)
  | 3 => ("PegTablesModel", "firsts", "[I", true)
  | 4 => ("PegTablesModel", "lasts", "[I", true)
  | 5 => ("PegTablesModel", "height", "I", false)
  | 6 => ("PegTablesModel", "stack", "[I", true)
  | 7 => ("PegTablesModel", "rules", "[I", true)
  | 8 => ("PegTablesModel", "letters", "I", false)
  | 9 => ("PegTablesModel", "text", "[I", true)
  | _ => ("PegTablesModel", "outcomes", "[I", true)
def tyX1 : Nat → FieldType := fun k => match k with
  | 0 => .int
  | 1 => .array .int
  | 2 => .array .int
  | 3 => .array .int
  | 4 => .array .int
  | 5 => .int
  | 6 => .array .int
  | 7 => .array .int
  | 8 => .int
  | 9 => .array .int
  | _ => .array .int
abbrev wsX10 : List Cond := u_ws RX1 TX1 11
theorem nmX1 : ∀ a, a < 11 → ∀ b, b < 11 → a ≠ b → (TX1 a).2.1 ≠ (TX1 b).2.1 := by decide +kernel
theorem tyX1_ok : ∀ k, k < 11 → parseFieldDescriptor (TX1 k).2.2.1 = some (tyX1 k) := by decide +kernel
abbrev cX1_init : ByteArray := prog_3_method_1_code
def yX1_init : MethodName := ⟨RX1, "<init>", "()V"⟩
abbrev cX1_token : ByteArray := prog_3_method_3_code
def yX1_token : MethodName := ⟨RX1, "token", "(II)I"⟩
abbrev cX1_takes : ByteArray := prog_3_method_2_code
def yX1_takes : MethodName := ⟨RX1, "takes", "(I)I"⟩
abbrev cX1_clear : ByteArray := prog_3_method_4_code
def yX1_clear : MethodName := ⟨RX1, "clear", "()V"⟩
abbrev cX1_type : ByteArray := prog_3_method_5_code
def yX1_type : MethodName := ⟨RX1, "type", "(I)I"⟩
abbrev cX1_erase : ByteArray := prog_3_method_6_code
def yX1_erase : MethodName := ⟨RX1, "erase", "()V"⟩
abbrev cX1_match : ByteArray := prog_3_method_12_code
def yX1_match : MethodName := ⟨RX1, "match", "(II)I"⟩
abbrev cX1_bad : ByteArray := prog_3_method_11_code
def yX1_bad : MethodName := ⟨RX1, "bad", "(I)Z"⟩
abbrev cX1_work : ByteArray := prog_3_method_10_code
def yX1_work : MethodName := ⟨RX1, "work", "()V"⟩
abbrev cX1_follows : ByteArray := prog_3_method_9_code
def yX1_follows : MethodName := ⟨RX1, "follows", "(II)I"⟩
abbrev cX1_called : ByteArray := prog_3_method_7_code
def yX1_called : MethodName := ⟨RX1, "called", "(II)I"⟩
abbrev cX1_joined : ByteArray := prog_3_method_8_code
def yX1_joined : MethodName := ⟨RX1, "joined", "(III)I"⟩
abbrev cX1_matches : ByteArray := prog_3_method_14_code
def yX1_matches : MethodName := ⟨RX1, "matches", "(I)I"⟩
abbrev cX1_find : ByteArray := prog_3_method_15_code
def yX1_find : MethodName := ⟨RX1, "find", "(II)I"⟩
abbrev cX1_first : ByteArray := prog_3_method_13_code
def yX1_first : MethodName := ⟨RX1, "first", "(II)I"⟩
abbrev cX1_whole : ByteArray := prog_3_method_16_code
def yX1_whole : MethodName := ⟨RX1, "whole", "(I)I"⟩
abbrev cX1_stuck : ByteArray := prog_3_method_17_code
def yX1_stuck : MethodName := ⟨RX1, "stuck", "(I)I"⟩
theorem q17 : (Jvm.Cond.initialized "PegTablesModel") ∈ lw_all := lw_g (lw_at lw_m1 2 rfl) rfl
theorem q155 : (Jvm.Cond.instantiable "PegTablesModel" (11 : Nat)) ∈ lw_all := lw_g (lw_at lw_m1 140 rfl) rfl
theorem q157 : (Jvm.Cond.instanceMethod ({ cls := "PegTablesModel", name := "<init>", desc := "()V" } : Jvm.MethodName)) ∈ lw_all := lw_g (lw_at lw_m1 142 rfl) rfl
theorem q158 : (Jvm.Cond.code ({ cls := "PegTablesModel", name := "<init>", desc := "()V" } : Jvm.MethodName) prog_3_method_1_code (2 : Nat) (Option.none : Option Jvm.ClassFile.FieldType)) ∈ lw_all := lw_g (lw_at lw_m1 143 rfl) rfl
theorem q159 : (Jvm.Cond.methodLink "PegTablesModel" (1 : Nat) ({ cls := "java/lang/Object", name := "<init>", desc := "()V" } : Jvm.MethodName)) ∈ lw_all := lw_g (lw_at lw_m1 144 rfl) rfl
theorem q160 : (Jvm.Cond.fieldLink "PegTablesModel" (42 : Nat) "PegTablesModel" "tokens" "I") ∈ lw_all := lw_g (lw_at lw_m1 145 rfl) rfl
theorem q161 : (Jvm.Cond.fieldLink "PegTablesModel" (7 : Nat) "PegTablesModel" "codes" "[I") ∈ lw_all := lw_g (lw_at lw_m1 146 rfl) rfl
theorem q162 : (Jvm.Cond.fieldLink "PegTablesModel" (13 : Nat) "PegTablesModel" "args" "[I") ∈ lw_all := lw_g (lw_at lw_m1 147 rfl) rfl
theorem q163 : (Jvm.Cond.fieldLink "PegTablesModel" (16 : Nat) "PegTablesModel" "firsts" "[I") ∈ lw_all := lw_g (lw_at lw_m1 148 rfl) rfl
theorem q164 : (Jvm.Cond.fieldLink "PegTablesModel" (19 : Nat) "PegTablesModel" "lasts" "[I") ∈ lw_all := lw_g (lw_at lw_m1 149 rfl) rfl
theorem q165 : (Jvm.Cond.fieldLink "PegTablesModel" (34 : Nat) "PegTablesModel" "height" "I") ∈ lw_all := lw_g (lw_at lw_m1 150 rfl) rfl
theorem q166 : (Jvm.Cond.fieldLink "PegTablesModel" (22 : Nat) "PegTablesModel" "stack" "[I") ∈ lw_all := lw_g (lw_at lw_m1 151 rfl) rfl
theorem q167 : (Jvm.Cond.fieldLink "PegTablesModel" (25 : Nat) "PegTablesModel" "rules" "[I") ∈ lw_all := lw_g (lw_at lw_m1 152 rfl) rfl
theorem q168 : (Jvm.Cond.fieldLink "PegTablesModel" (45 : Nat) "PegTablesModel" "letters" "I") ∈ lw_all := lw_g (lw_at lw_m1 153 rfl) rfl
theorem q169 : (Jvm.Cond.fieldLink "PegTablesModel" (28 : Nat) "PegTablesModel" "text" "[I") ∈ lw_all := lw_g (lw_at lw_m1 154 rfl) rfl
theorem q170 : (Jvm.Cond.fieldLink "PegTablesModel" (31 : Nat) "PegTablesModel" "outcomes" "[I") ∈ lw_all := lw_g (lw_at lw_m1 155 rfl) rfl
theorem q171 : (Jvm.Cond.lays "PegTablesModel" "PegTablesModel" "tokens" "I") ∈ lw_all := lw_g (lw_at lw_m1 156 rfl) rfl
theorem q172 : (Jvm.Cond.soleField "PegTablesModel" "tokens") ∈ lw_all := lw_g (lw_at lw_m1 157 rfl) rfl
theorem q173 : (Jvm.Cond.laysFinal "PegTablesModel" "PegTablesModel" "codes" "[I") ∈ lw_all := lw_g (lw_at lw_m1 158 rfl) rfl
theorem q174 : (Jvm.Cond.soleField "PegTablesModel" "codes") ∈ lw_all := lw_g (lw_at lw_m1 159 rfl) rfl
theorem q175 : (Jvm.Cond.laysFinal "PegTablesModel" "PegTablesModel" "args" "[I") ∈ lw_all := lw_g (lw_at lw_m1 160 rfl) rfl
theorem q176 : (Jvm.Cond.soleField "PegTablesModel" "args") ∈ lw_all := lw_g (lw_at lw_m1 161 rfl) rfl
theorem q177 : (Jvm.Cond.laysFinal "PegTablesModel" "PegTablesModel" "firsts" "[I") ∈ lw_all := lw_g (lw_at lw_m1 162 rfl) rfl
theorem q178 : (Jvm.Cond.soleField "PegTablesModel" "firsts") ∈ lw_all := lw_g (lw_at lw_m1 163 rfl) rfl
theorem q179 : (Jvm.Cond.laysFinal "PegTablesModel" "PegTablesModel" "lasts" "[I") ∈ lw_all := lw_g (lw_at lw_m1 164 rfl) rfl
theorem q180 : (Jvm.Cond.soleField "PegTablesModel" "lasts") ∈ lw_all := lw_g (lw_at lw_m1 165 rfl) rfl
theorem q181 : (Jvm.Cond.lays "PegTablesModel" "PegTablesModel" "height" "I") ∈ lw_all := lw_g (lw_at lw_m1 166 rfl) rfl
theorem q182 : (Jvm.Cond.soleField "PegTablesModel" "height") ∈ lw_all := lw_g (lw_at lw_m1 167 rfl) rfl
theorem q183 : (Jvm.Cond.laysFinal "PegTablesModel" "PegTablesModel" "stack" "[I") ∈ lw_all := lw_g (lw_at lw_m1 168 rfl) rfl
theorem q184 : (Jvm.Cond.soleField "PegTablesModel" "stack") ∈ lw_all := lw_g (lw_at lw_m1 169 rfl) rfl
theorem q185 : (Jvm.Cond.laysFinal "PegTablesModel" "PegTablesModel" "rules" "[I") ∈ lw_all := lw_g (lw_at lw_m1 170 rfl) rfl
theorem q186 : (Jvm.Cond.soleField "PegTablesModel" "rules") ∈ lw_all := lw_g (lw_at lw_m1 171 rfl) rfl
theorem q187 : (Jvm.Cond.lays "PegTablesModel" "PegTablesModel" "letters" "I") ∈ lw_all := lw_g (lw_at lw_m1 172 rfl) rfl
theorem q188 : (Jvm.Cond.soleField "PegTablesModel" "letters") ∈ lw_all := lw_g (lw_at lw_m1 173 rfl) rfl
theorem q189 : (Jvm.Cond.laysFinal "PegTablesModel" "PegTablesModel" "text" "[I") ∈ lw_all := lw_g (lw_at lw_m1 174 rfl) rfl
theorem q190 : (Jvm.Cond.soleField "PegTablesModel" "text") ∈ lw_all := lw_g (lw_at lw_m1 175 rfl) rfl
theorem q191 : (Jvm.Cond.laysFinal "PegTablesModel" "PegTablesModel" "outcomes" "[I") ∈ lw_all := lw_g (lw_at lw_m1 176 rfl) rfl
theorem q192 : (Jvm.Cond.soleField "PegTablesModel" "outcomes") ∈ lw_all := lw_g (lw_at lw_m1 177 rfl) rfl
theorem q193 : (Jvm.Cond.superclass "PegTablesModel" "java/lang/Object") ∈ lw_all := lw_g (lw_at lw_m1 178 rfl) rfl
theorem q195 : (Jvm.Cond.instanceMethod ({ cls := "PegTablesModel", name := "token", desc := "(II)I" } : Jvm.MethodName)) ∈ lw_all := lw_g (lw_at lw_m1 180 rfl) rfl
theorem q196 : (Jvm.Cond.selects "PegTablesModel" ({ cls := "PegTablesModel", name := "token", desc := "(II)I" } : Jvm.MethodName) ({ cls := "PegTablesModel", name := "token", desc := "(II)I" } : Jvm.MethodName)) ∈ lw_all := lw_g (lw_at lw_m1 181 rfl) rfl
theorem q197 : (Jvm.Cond.code ({ cls := "PegTablesModel", name := "token", desc := "(II)I" } : Jvm.MethodName) prog_3_method_3_code (3 : Nat) (Option.some Jvm.ClassFile.FieldType.int)) ∈ lw_all := lw_g (lw_at lw_m1 182 rfl) rfl
theorem q198 : (Jvm.Cond.methodLink "PegTablesModel" (38 : Nat) ({ cls := "PegTablesModel", name := "takes", desc := "(I)I" } : Jvm.MethodName)) ∈ lw_all := lw_g (lw_at lw_m1 183 rfl) rfl
theorem q199 : (Jvm.Cond.static ({ cls := "PegTablesModel", name := "takes", desc := "(I)I" } : Jvm.MethodName)) ∈ lw_all := lw_g (lw_at lw_m1 184 rfl) rfl
theorem q200 : (Jvm.Cond.code ({ cls := "PegTablesModel", name := "takes", desc := "(I)I" } : Jvm.MethodName) prog_3_method_2_code (1 : Nat) (Option.some Jvm.ClassFile.FieldType.int)) ∈ lw_all := lw_g (lw_at lw_m1 185 rfl) rfl
theorem q202 : (Jvm.Cond.instanceMethod ({ cls := "PegTablesModel", name := "clear", desc := "()V" } : Jvm.MethodName)) ∈ lw_all := lw_g (lw_at lw_m1 187 rfl) rfl
theorem q203 : (Jvm.Cond.selects "PegTablesModel" ({ cls := "PegTablesModel", name := "clear", desc := "()V" } : Jvm.MethodName) ({ cls := "PegTablesModel", name := "clear", desc := "()V" } : Jvm.MethodName)) ∈ lw_all := lw_g (lw_at lw_m1 188 rfl) rfl
theorem q204 : (Jvm.Cond.code ({ cls := "PegTablesModel", name := "clear", desc := "()V" } : Jvm.MethodName) prog_3_method_4_code (2 : Nat) (Option.none : Option Jvm.ClassFile.FieldType)) ∈ lw_all := lw_g (lw_at lw_m1 189 rfl) rfl
theorem q206 : (Jvm.Cond.instanceMethod ({ cls := "PegTablesModel", name := "type", desc := "(I)I" } : Jvm.MethodName)) ∈ lw_all := lw_g (lw_at lw_m1 191 rfl) rfl
theorem q207 : (Jvm.Cond.selects "PegTablesModel" ({ cls := "PegTablesModel", name := "type", desc := "(I)I" } : Jvm.MethodName) ({ cls := "PegTablesModel", name := "type", desc := "(I)I" } : Jvm.MethodName)) ∈ lw_all := lw_g (lw_at lw_m1 192 rfl) rfl
theorem q208 : (Jvm.Cond.code ({ cls := "PegTablesModel", name := "type", desc := "(I)I" } : Jvm.MethodName) prog_3_method_5_code (2 : Nat) (Option.some Jvm.ClassFile.FieldType.int)) ∈ lw_all := lw_g (lw_at lw_m1 193 rfl) rfl
theorem q210 : (Jvm.Cond.instanceMethod ({ cls := "PegTablesModel", name := "erase", desc := "()V" } : Jvm.MethodName)) ∈ lw_all := lw_g (lw_at lw_m1 195 rfl) rfl
theorem q211 : (Jvm.Cond.selects "PegTablesModel" ({ cls := "PegTablesModel", name := "erase", desc := "()V" } : Jvm.MethodName) ({ cls := "PegTablesModel", name := "erase", desc := "()V" } : Jvm.MethodName)) ∈ lw_all := lw_g (lw_at lw_m1 196 rfl) rfl
theorem q212 : (Jvm.Cond.code ({ cls := "PegTablesModel", name := "erase", desc := "()V" } : Jvm.MethodName) prog_3_method_6_code (1 : Nat) (Option.none : Option Jvm.ClassFile.FieldType)) ∈ lw_all := lw_g (lw_at lw_m1 197 rfl) rfl
theorem q214 : (Jvm.Cond.instanceMethod ({ cls := "PegTablesModel", name := "match", desc := "(II)I" } : Jvm.MethodName)) ∈ lw_all := lw_g (lw_at lw_m1 199 rfl) rfl
theorem q215 : (Jvm.Cond.selects "PegTablesModel" ({ cls := "PegTablesModel", name := "match", desc := "(II)I" } : Jvm.MethodName) ({ cls := "PegTablesModel", name := "match", desc := "(II)I" } : Jvm.MethodName)) ∈ lw_all := lw_g (lw_at lw_m1 200 rfl) rfl
theorem q216 : (Jvm.Cond.code ({ cls := "PegTablesModel", name := "match", desc := "(II)I" } : Jvm.MethodName) prog_3_method_12_code (3 : Nat) (Option.some Jvm.ClassFile.FieldType.int)) ∈ lw_all := lw_g (lw_at lw_m1 201 rfl) rfl
theorem q217 : (Jvm.Cond.methodLink "PegTablesModel" (59 : Nat) ({ cls := "PegTablesModel", name := "bad", desc := "(I)Z" } : Jvm.MethodName)) ∈ lw_all := lw_g (lw_at lw_m1 202 rfl) rfl
theorem q218 : (Jvm.Cond.static ({ cls := "PegTablesModel", name := "bad", desc := "(I)Z" } : Jvm.MethodName)) ∈ lw_all := lw_g (lw_at lw_m1 203 rfl) rfl
theorem q219 : (Jvm.Cond.code ({ cls := "PegTablesModel", name := "bad", desc := "(I)Z" } : Jvm.MethodName) prog_3_method_11_code (1 : Nat) (Option.some Jvm.ClassFile.FieldType.boolean)) ∈ lw_all := lw_g (lw_at lw_m1 204 rfl) rfl
theorem q220 : (Jvm.Cond.methodLink "PegTablesModel" (63 : Nat) ({ cls := "PegTablesModel", name := "work", desc := "()V" } : Jvm.MethodName)) ∈ lw_all := lw_g (lw_at lw_m1 205 rfl) rfl
theorem q221 : (Jvm.Cond.privateMethod ({ cls := "PegTablesModel", name := "work", desc := "()V" } : Jvm.MethodName)) ∈ lw_tbl := lw_at lw_m1 206 rfl
theorem q222 : (Jvm.Cond.instanceMethod ({ cls := "PegTablesModel", name := "work", desc := "()V" } : Jvm.MethodName)) ∈ lw_all := lw_g (lw_at lw_m1 207 rfl) rfl
theorem q223 : (Jvm.Cond.code ({ cls := "PegTablesModel", name := "work", desc := "()V" } : Jvm.MethodName) prog_3_method_10_code (5 : Nat) (Option.none : Option Jvm.ClassFile.FieldType)) ∈ lw_all := lw_g (lw_at lw_m1 208 rfl) rfl
theorem q224 : (Jvm.Cond.methodLink "PegTablesModel" (56 : Nat) ({ cls := "PegTablesModel", name := "follows", desc := "(II)I" } : Jvm.MethodName)) ∈ lw_all := lw_g (lw_at lw_m1 209 rfl) rfl
theorem q225 : (Jvm.Cond.privateMethod ({ cls := "PegTablesModel", name := "follows", desc := "(II)I" } : Jvm.MethodName)) ∈ lw_tbl := lw_at lw_m1 210 rfl
theorem q226 : (Jvm.Cond.instanceMethod ({ cls := "PegTablesModel", name := "follows", desc := "(II)I" } : Jvm.MethodName)) ∈ lw_all := lw_g (lw_at lw_m1 211 rfl) rfl
theorem q227 : (Jvm.Cond.code ({ cls := "PegTablesModel", name := "follows", desc := "(II)I" } : Jvm.MethodName) prog_3_method_9_code (6 : Nat) (Option.some Jvm.ClassFile.FieldType.int)) ∈ lw_all := lw_g (lw_at lw_m1 212 rfl) rfl
theorem q228 : (Jvm.Cond.methodLink "PegTablesModel" (48 : Nat) ({ cls := "PegTablesModel", name := "called", desc := "(II)I" } : Jvm.MethodName)) ∈ lw_all := lw_g (lw_at lw_m1 213 rfl) rfl
theorem q229 : (Jvm.Cond.privateMethod ({ cls := "PegTablesModel", name := "called", desc := "(II)I" } : Jvm.MethodName)) ∈ lw_tbl := lw_at lw_m1 214 rfl
theorem q230 : (Jvm.Cond.instanceMethod ({ cls := "PegTablesModel", name := "called", desc := "(II)I" } : Jvm.MethodName)) ∈ lw_all := lw_g (lw_at lw_m1 215 rfl) rfl
theorem q231 : (Jvm.Cond.code ({ cls := "PegTablesModel", name := "called", desc := "(II)I" } : Jvm.MethodName) prog_3_method_7_code (3 : Nat) (Option.some Jvm.ClassFile.FieldType.int)) ∈ lw_all := lw_g (lw_at lw_m1 216 rfl) rfl
theorem q232 : (Jvm.Cond.methodLink "PegTablesModel" (52 : Nat) ({ cls := "PegTablesModel", name := "joined", desc := "(III)I" } : Jvm.MethodName)) ∈ lw_all := lw_g (lw_at lw_m1 217 rfl) rfl
theorem q233 : (Jvm.Cond.privateMethod ({ cls := "PegTablesModel", name := "joined", desc := "(III)I" } : Jvm.MethodName)) ∈ lw_tbl := lw_at lw_m1 218 rfl
theorem q234 : (Jvm.Cond.instanceMethod ({ cls := "PegTablesModel", name := "joined", desc := "(III)I" } : Jvm.MethodName)) ∈ lw_all := lw_g (lw_at lw_m1 219 rfl) rfl
theorem q235 : (Jvm.Cond.code ({ cls := "PegTablesModel", name := "joined", desc := "(III)I" } : Jvm.MethodName) prog_3_method_8_code (6 : Nat) (Option.some Jvm.ClassFile.FieldType.int)) ∈ lw_all := lw_g (lw_at lw_m1 220 rfl) rfl
theorem q237 : (Jvm.Cond.instanceMethod ({ cls := "PegTablesModel", name := "matches", desc := "(I)I" } : Jvm.MethodName)) ∈ lw_all := lw_g (lw_at lw_m1 222 rfl) rfl
theorem q238 : (Jvm.Cond.selects "PegTablesModel" ({ cls := "PegTablesModel", name := "matches", desc := "(I)I" } : Jvm.MethodName) ({ cls := "PegTablesModel", name := "matches", desc := "(I)I" } : Jvm.MethodName)) ∈ lw_all := lw_g (lw_at lw_m1 223 rfl) rfl
theorem q239 : (Jvm.Cond.code ({ cls := "PegTablesModel", name := "matches", desc := "(I)I" } : Jvm.MethodName) prog_3_method_14_code (4 : Nat) (Option.some Jvm.ClassFile.FieldType.int)) ∈ lw_all := lw_g (lw_at lw_m1 224 rfl) rfl
theorem q241 : (Jvm.Cond.instanceMethod ({ cls := "PegTablesModel", name := "find", desc := "(II)I" } : Jvm.MethodName)) ∈ lw_all := lw_g (lw_at lw_m1 226 rfl) rfl
theorem q242 : (Jvm.Cond.selects "PegTablesModel" ({ cls := "PegTablesModel", name := "find", desc := "(II)I" } : Jvm.MethodName) ({ cls := "PegTablesModel", name := "find", desc := "(II)I" } : Jvm.MethodName)) ∈ lw_all := lw_g (lw_at lw_m1 227 rfl) rfl
theorem q243 : (Jvm.Cond.code ({ cls := "PegTablesModel", name := "find", desc := "(II)I" } : Jvm.MethodName) prog_3_method_15_code (3 : Nat) (Option.some Jvm.ClassFile.FieldType.int)) ∈ lw_all := lw_g (lw_at lw_m1 228 rfl) rfl
theorem q244 : (Jvm.Cond.methodLink "PegTablesModel" (66 : Nat) ({ cls := "PegTablesModel", name := "first", desc := "(II)I" } : Jvm.MethodName)) ∈ lw_all := lw_g (lw_at lw_m1 229 rfl) rfl
theorem q245 : (Jvm.Cond.privateMethod ({ cls := "PegTablesModel", name := "first", desc := "(II)I" } : Jvm.MethodName)) ∈ lw_tbl := lw_at lw_m1 230 rfl
theorem q246 : (Jvm.Cond.instanceMethod ({ cls := "PegTablesModel", name := "first", desc := "(II)I" } : Jvm.MethodName)) ∈ lw_all := lw_g (lw_at lw_m1 231 rfl) rfl
theorem q247 : (Jvm.Cond.code ({ cls := "PegTablesModel", name := "first", desc := "(II)I" } : Jvm.MethodName) prog_3_method_13_code (4 : Nat) (Option.some Jvm.ClassFile.FieldType.int)) ∈ lw_all := lw_g (lw_at lw_m1 232 rfl) rfl
theorem q249 : (Jvm.Cond.instanceMethod ({ cls := "PegTablesModel", name := "whole", desc := "(I)I" } : Jvm.MethodName)) ∈ lw_all := lw_g (lw_at lw_m1 234 rfl) rfl
theorem q250 : (Jvm.Cond.selects "PegTablesModel" ({ cls := "PegTablesModel", name := "whole", desc := "(I)I" } : Jvm.MethodName) ({ cls := "PegTablesModel", name := "whole", desc := "(I)I" } : Jvm.MethodName)) ∈ lw_all := lw_g (lw_at lw_m1 235 rfl) rfl
theorem q251 : (Jvm.Cond.code ({ cls := "PegTablesModel", name := "whole", desc := "(I)I" } : Jvm.MethodName) prog_3_method_16_code (2 : Nat) (Option.some Jvm.ClassFile.FieldType.int)) ∈ lw_all := lw_g (lw_at lw_m1 236 rfl) rfl
theorem q253 : (Jvm.Cond.instanceMethod ({ cls := "PegTablesModel", name := "stuck", desc := "(I)I" } : Jvm.MethodName)) ∈ lw_all := lw_g (lw_at lw_m1 238 rfl) rfl
theorem q254 : (Jvm.Cond.selects "PegTablesModel" ({ cls := "PegTablesModel", name := "stuck", desc := "(I)I" } : Jvm.MethodName) ({ cls := "PegTablesModel", name := "stuck", desc := "(I)I" } : Jvm.MethodName)) ∈ lw_all := lw_g (lw_at lw_m1 239 rfl) rfl
theorem q255 : (Jvm.Cond.code ({ cls := "PegTablesModel", name := "stuck", desc := "(I)I" } : Jvm.MethodName) prog_3_method_17_code (4 : Nat) (Option.some Jvm.ClassFile.FieldType.int)) ∈ lw_all := lw_g (lw_at lw_m2 0 rfl) rfl
theorem in_X1 : ∀ w ∈ wsX10, w ∈ lw_all := lw_in wsX10 [171, 173, 175, 177, 179, 181, 183, 185, 187, 189, 191] (by decide +kernel) (by decide +kernel)
/-! the law's own entry -/
abbrev cL_law : ByteArray := code
theorem q83 : (Jvm.Cond.arrayClass Jvm.ClassFile.FieldType.int) ∈ lw_all := lw_g (lw_at lw_m1 68 rfl) rfl
theorem q15 : (Jvm.Cond.initialized "PegTablesLaw") ∈ lw_all := lw_g (lw_at lw_m1 0 rfl) rfl
theorem q18 : (Jvm.Cond.classLink "PegTablesLaw" (7 : Nat) "PegTables") ∈ lw_all := lw_g (lw_at lw_m1 3 rfl) rfl
theorem q20 : (Jvm.Cond.methodLink "PegTablesLaw" (9 : Nat) ({ cls := "PegTables", name := "<init>", desc := "()V" } : Jvm.MethodName)) ∈ lw_all := lw_g (lw_at lw_m1 5 rfl) rfl
theorem q84 : (Jvm.Cond.methodLink "PegTablesLaw" (13 : Nat) ({ cls := "PegTables", name := "token", desc := "(II)I" } : Jvm.MethodName)) ∈ lw_all := lw_g (lw_at lw_m1 69 rfl) rfl
theorem q88 : (Jvm.Cond.methodLink "PegTablesLaw" (18 : Nat) ({ cls := "PegTables", name := "clear", desc := "()V" } : Jvm.MethodName)) ∈ lw_all := lw_g (lw_at lw_m1 73 rfl) rfl
theorem q89 : (Jvm.Cond.methodLink "PegTablesLaw" (22 : Nat) ({ cls := "PegTables", name := "type", desc := "(I)I" } : Jvm.MethodName)) ∈ lw_all := lw_g (lw_at lw_m1 74 rfl) rfl
theorem q93 : (Jvm.Cond.methodLink "PegTablesLaw" (27 : Nat) ({ cls := "PegTables", name := "erase", desc := "()V" } : Jvm.MethodName)) ∈ lw_all := lw_g (lw_at lw_m1 78 rfl) rfl
theorem q97 : (Jvm.Cond.methodLink "PegTablesLaw" (31 : Nat) ({ cls := "PegTables", name := "match", desc := "(II)I" } : Jvm.MethodName)) ∈ lw_all := lw_g (lw_at lw_m1 82 rfl) rfl
theorem q137 : (Jvm.Cond.methodLink "PegTablesLaw" (35 : Nat) ({ cls := "PegTables", name := "matches", desc := "(I)I" } : Jvm.MethodName)) ∈ lw_all := lw_g (lw_at lw_m1 122 rfl) rfl
theorem q142 : (Jvm.Cond.methodLink "PegTablesLaw" (39 : Nat) ({ cls := "PegTables", name := "find", desc := "(II)I" } : Jvm.MethodName)) ∈ lw_all := lw_g (lw_at lw_m1 127 rfl) rfl
theorem q146 : (Jvm.Cond.methodLink "PegTablesLaw" (43 : Nat) ({ cls := "PegTables", name := "whole", desc := "(I)I" } : Jvm.MethodName)) ∈ lw_all := lw_g (lw_at lw_m1 131 rfl) rfl
theorem q150 : (Jvm.Cond.methodLink "PegTablesLaw" (47 : Nat) ({ cls := "PegTables", name := "stuck", desc := "(I)I" } : Jvm.MethodName)) ∈ lw_all := lw_g (lw_at lw_m1 135 rfl) rfl
theorem q154 : (Jvm.Cond.classLink "PegTablesLaw" (10 : Nat) "PegTablesModel") ∈ lw_all := lw_g (lw_at lw_m1 139 rfl) rfl
theorem q156 : (Jvm.Cond.methodLink "PegTablesLaw" (12 : Nat) ({ cls := "PegTablesModel", name := "<init>", desc := "()V" } : Jvm.MethodName)) ∈ lw_all := lw_g (lw_at lw_m1 141 rfl) rfl
theorem q194 : (Jvm.Cond.methodLink "PegTablesLaw" (17 : Nat) ({ cls := "PegTablesModel", name := "token", desc := "(II)I" } : Jvm.MethodName)) ∈ lw_all := lw_g (lw_at lw_m1 179 rfl) rfl
theorem q201 : (Jvm.Cond.methodLink "PegTablesLaw" (21 : Nat) ({ cls := "PegTablesModel", name := "clear", desc := "()V" } : Jvm.MethodName)) ∈ lw_all := lw_g (lw_at lw_m1 186 rfl) rfl
theorem q205 : (Jvm.Cond.methodLink "PegTablesLaw" (26 : Nat) ({ cls := "PegTablesModel", name := "type", desc := "(I)I" } : Jvm.MethodName)) ∈ lw_all := lw_g (lw_at lw_m1 190 rfl) rfl
theorem q209 : (Jvm.Cond.methodLink "PegTablesLaw" (30 : Nat) ({ cls := "PegTablesModel", name := "erase", desc := "()V" } : Jvm.MethodName)) ∈ lw_all := lw_g (lw_at lw_m1 194 rfl) rfl
theorem q213 : (Jvm.Cond.methodLink "PegTablesLaw" (34 : Nat) ({ cls := "PegTablesModel", name := "match", desc := "(II)I" } : Jvm.MethodName)) ∈ lw_all := lw_g (lw_at lw_m1 198 rfl) rfl
theorem q236 : (Jvm.Cond.methodLink "PegTablesLaw" (38 : Nat) ({ cls := "PegTablesModel", name := "matches", desc := "(I)I" } : Jvm.MethodName)) ∈ lw_all := lw_g (lw_at lw_m1 221 rfl) rfl
theorem q240 : (Jvm.Cond.methodLink "PegTablesLaw" (42 : Nat) ({ cls := "PegTablesModel", name := "find", desc := "(II)I" } : Jvm.MethodName)) ∈ lw_all := lw_g (lw_at lw_m1 225 rfl) rfl
theorem q248 : (Jvm.Cond.methodLink "PegTablesLaw" (46 : Nat) ({ cls := "PegTablesModel", name := "whole", desc := "(I)I" } : Jvm.MethodName)) ∈ lw_all := lw_g (lw_at lw_m1 233 rfl) rfl
theorem q252 : (Jvm.Cond.methodLink "PegTablesLaw" (50 : Nat) ({ cls := "PegTablesModel", name := "stuck", desc := "(I)I" } : Jvm.MethodName)) ∈ lw_all := lw_g (lw_at lw_m1 237 rfl) rfl
end
section
set_option maxRecDepth 100000
theorem dX0_init_0 : decode cX0_init 0 = .ok (.aload_n 0, 1) := by decide +kernel
theorem dX0_init_1 : decode cX0_init 1 = .ok (.invokespecial 1, 3) := by decide +kernel
theorem dX0_init_4 : decode cX0_init 4 = .ok (.aload_n 0, 1) := by decide +kernel
theorem dX0_init_5 : decode cX0_init 5 = .ok (.bipush 40, 2) := by decide +kernel
theorem dX0_init_7 : decode cX0_init 7 = .ok (.newarray .int, 2) := by decide +kernel
theorem dX0_init_9 : decode cX0_init 9 = .ok (.putfield 7, 3) := by decide +kernel
theorem dX0_init_12 : decode cX0_init 12 = .ok (.aload_n 0, 1) := by decide +kernel
theorem dX0_init_13 : decode cX0_init 13 = .ok (.bipush 40, 2) := by decide +kernel
theorem dX0_init_15 : decode cX0_init 15 = .ok (.newarray .int, 2) := by decide +kernel
theorem dX0_init_17 : decode cX0_init 17 = .ok (.putfield 13, 3) := by decide +kernel
theorem dX0_init_20 : decode cX0_init 20 = .ok (.aload_n 0, 1) := by decide +kernel
theorem dX0_init_21 : decode cX0_init 21 = .ok (.bipush 40, 2) := by decide +kernel
theorem dX0_init_23 : decode cX0_init 23 = .ok (.newarray .int, 2) := by decide +kernel
theorem dX0_init_25 : decode cX0_init 25 = .ok (.putfield 16, 3) := by decide +kernel
theorem dX0_init_28 : decode cX0_init 28 = .ok (.aload_n 0, 1) := by decide +kernel
theorem dX0_init_29 : decode cX0_init 29 = .ok (.bipush 40, 2) := by decide +kernel
theorem dX0_init_31 : decode cX0_init 31 = .ok (.newarray .int, 2) := by decide +kernel
theorem dX0_init_33 : decode cX0_init 33 = .ok (.putfield 19, 3) := by decide +kernel
theorem dX0_init_36 : decode cX0_init 36 = .ok (.aload_n 0, 1) := by decide +kernel
theorem dX0_init_37 : decode cX0_init 37 = .ok (.bipush 40, 2) := by decide +kernel
theorem dX0_init_39 : decode cX0_init 39 = .ok (.newarray .int, 2) := by decide +kernel
theorem dX0_init_41 : decode cX0_init 41 = .ok (.putfield 22, 3) := by decide +kernel
theorem dX0_init_44 : decode cX0_init 44 = .ok (.aload_n 0, 1) := by decide +kernel
theorem dX0_init_45 : decode cX0_init 45 = .ok (.iconst 4, 1) := by decide +kernel
theorem dX0_init_46 : decode cX0_init 46 = .ok (.newarray .int, 2) := by decide +kernel
theorem dX0_init_48 : decode cX0_init 48 = .ok (.putfield 25, 3) := by decide +kernel
theorem dX0_init_51 : decode cX0_init 51 = .ok (.aload_n 0, 1) := by decide +kernel
theorem dX0_init_52 : decode cX0_init 52 = .ok (.bipush 20, 2) := by decide +kernel
theorem dX0_init_54 : decode cX0_init 54 = .ok (.newarray .int, 2) := by decide +kernel
theorem dX0_init_56 : decode cX0_init 56 = .ok (.putfield 28, 3) := by decide +kernel
theorem dX0_init_59 : decode cX0_init 59 = .ok (.aload_n 0, 1) := by decide +kernel
theorem dX0_init_60 : decode cX0_init 60 = .ok (.sipush 840, 3) := by decide +kernel
theorem dX0_init_63 : decode cX0_init 63 = .ok (.newarray .int, 2) := by decide +kernel
theorem dX0_init_65 : decode cX0_init 65 = .ok (.putfield 31, 3) := by decide +kernel
theorem dX0_init_68 : decode cX0_init 68 = .ok (.aload_n 0, 1) := by decide +kernel
theorem dX0_init_69 : decode cX0_init 69 = .ok (.sipush 840, 3) := by decide +kernel
theorem dX0_init_72 : decode cX0_init 72 = .ok (.newarray .int, 2) := by decide +kernel
theorem dX0_init_74 : decode cX0_init 74 = .ok (.putfield 34, 3) := by decide +kernel
theorem dX0_init_77 : decode cX0_init 77 = .ok (.aload_n 0, 1) := by decide +kernel
theorem dX0_init_78 : decode cX0_init 78 = .ok (.sipush 840, 3) := by decide +kernel
theorem dX0_init_81 : decode cX0_init 81 = .ok (.newarray .int, 2) := by decide +kernel
theorem dX0_init_83 : decode cX0_init 83 = .ok (.putfield 37, 3) := by decide +kernel
theorem dX0_init_86 : decode cX0_init 86 = .ok (.aload_n 0, 1) := by decide +kernel
theorem dX0_init_87 : decode cX0_init 87 = .ok (.sipush 840, 3) := by decide +kernel
theorem dX0_init_90 : decode cX0_init 90 = .ok (.newarray .int, 2) := by decide +kernel
theorem dX0_init_92 : decode cX0_init 92 = .ok (.putfield 40, 3) := by decide +kernel
theorem dX0_init_95 : decode cX0_init 95 = .ok (.aload_n 0, 1) := by decide +kernel
theorem dX0_init_96 : decode cX0_init 96 = .ok (.invokevirtual 43, 3) := by decide +kernel
theorem dX0_init_99 : decode cX0_init 99 = .ok (.return_, 1) := by decide +kernel
theorem dX0_clear_0 : decode cX0_clear 0 = .ok (.aload_n 0, 1) := by decide +kernel
theorem dX0_clear_1 : decode cX0_clear 1 = .ok (.iconst 0, 1) := by decide +kernel
theorem dX0_clear_2 : decode cX0_clear 2 = .ok (.putfield 50, 3) := by decide +kernel
theorem dX0_clear_5 : decode cX0_clear 5 = .ok (.aload_n 0, 1) := by decide +kernel
theorem dX0_clear_6 : decode cX0_clear 6 = .ok (.iconst 0, 1) := by decide +kernel
theorem dX0_clear_7 : decode cX0_clear 7 = .ok (.putfield 56, 3) := by decide +kernel
theorem dX0_clear_10 : decode cX0_clear 10 = .ok (.aload_n 0, 1) := by decide +kernel
theorem dX0_clear_11 : decode cX0_clear 11 = .ok (.iconst 0, 1) := by decide +kernel
theorem dX0_clear_12 : decode cX0_clear 12 = .ok (.putfield 46, 3) := by decide +kernel
theorem dX0_clear_15 : decode cX0_clear 15 = .ok (.iconst 0, 1) := by decide +kernel
theorem dX0_clear_16 : decode cX0_clear 16 = .ok (.istore_n 1, 1) := by decide +kernel
theorem dX0_clear_17 : decode cX0_clear 17 = .ok (.iload_n 1, 1) := by decide +kernel
theorem dX0_clear_18 : decode cX0_clear 18 = .ok (.iconst 4, 1) := by decide +kernel
theorem dX0_clear_19 : decode cX0_clear 19 = .ok (.if_icmp .ge 16, 3) := by decide +kernel
theorem dX0_clear_22 : decode cX0_clear 22 = .ok (.aload_n 0, 1) := by decide +kernel
theorem dX0_clear_23 : decode cX0_clear 23 = .ok (.getfield 25, 3) := by decide +kernel
theorem dX0_clear_26 : decode cX0_clear 26 = .ok (.iload_n 1, 1) := by decide +kernel
theorem dX0_clear_27 : decode cX0_clear 27 = .ok (.iconst (-1), 1) := by decide +kernel
theorem dX0_clear_28 : decode cX0_clear 28 = .ok (.iastore, 1) := by decide +kernel
theorem dX0_clear_29 : decode cX0_clear 29 = .ok (.iinc 1 1, 3) := by decide +kernel
theorem dX0_clear_32 : decode cX0_clear 32 = .ok (.goto (-15), 3) := by decide +kernel
theorem dX0_clear_35 : decode cX0_clear 35 = .ok (.aload_n 0, 1) := by decide +kernel
theorem dX0_clear_36 : decode cX0_clear 36 = .ok (.invokevirtual 53, 3) := by decide +kernel
theorem dX0_clear_39 : decode cX0_clear 39 = .ok (.return_, 1) := by decide +kernel
theorem dX0_forget_0 : decode cX0_forget 0 = .ok (.iconst 0, 1) := by decide +kernel
theorem dX0_forget_1 : decode cX0_forget 1 = .ok (.istore_n 1, 1) := by decide +kernel
theorem dX0_forget_2 : decode cX0_forget 2 = .ok (.iload_n 1, 1) := by decide +kernel
theorem dX0_forget_3 : decode cX0_forget 3 = .ok (.sipush 840, 3) := by decide +kernel
theorem dX0_forget_6 : decode cX0_forget 6 = .ok (.if_icmp .ge 17, 3) := by decide +kernel
theorem dX0_forget_9 : decode cX0_forget 9 = .ok (.aload_n 0, 1) := by decide +kernel
theorem dX0_forget_10 : decode cX0_forget 10 = .ok (.getfield 31, 3) := by decide +kernel
theorem dX0_forget_13 : decode cX0_forget 13 = .ok (.iload_n 1, 1) := by decide +kernel
theorem dX0_forget_14 : decode cX0_forget 14 = .ok (.bipush (-3), 2) := by decide +kernel
theorem dX0_forget_16 : decode cX0_forget 16 = .ok (.iastore, 1) := by decide +kernel
theorem dX0_forget_17 : decode cX0_forget 17 = .ok (.iinc 1 1, 3) := by decide +kernel
theorem dX0_forget_20 : decode cX0_forget 20 = .ok (.goto (-18), 3) := by decide +kernel
theorem dX0_forget_23 : decode cX0_forget 23 = .ok (.return_, 1) := by decide +kernel
theorem dX0_token_0 : decode cX0_token 0 = .ok (.iload_n 1, 1) := by decide +kernel
theorem dX0_token_1 : decode cX0_token 1 = .ok (.iconst 3, 1) := by decide +kernel
theorem dX0_token_2 : decode cX0_token 2 = .ok (.if_icmp .gt 7, 3) := by decide +kernel
theorem dX0_token_5 : decode cX0_token 5 = .ok (.iconst 0, 1) := by decide +kernel
theorem dX0_token_6 : decode cX0_token 6 = .ok (.goto 13, 3) := by decide +kernel
theorem dX0_token_9 : decode cX0_token 9 = .ok (.iload_n 1, 1) := by decide +kernel
theorem dX0_token_10 : decode cX0_token 10 = .ok (.iconst 5, 1) := by decide +kernel
theorem dX0_token_11 : decode cX0_token 11 = .ok (.if_icmp .gt 7, 3) := by decide +kernel
theorem dX0_token_14 : decode cX0_token 14 = .ok (.iconst 2, 1) := by decide +kernel
theorem dX0_token_15 : decode cX0_token 15 = .ok (.goto 4, 3) := by decide +kernel
theorem dX0_token_18 : decode cX0_token 18 = .ok (.iconst 1, 1) := by decide +kernel
theorem dX0_token_19 : decode cX0_token 19 = .ok (.istore_n 3, 1) := by decide +kernel
theorem dX0_token_20 : decode cX0_token 20 = .ok (.iload_n 1, 1) := by decide +kernel
theorem dX0_token_21 : decode cX0_token 21 = .ok (.ifCond .lt 26, 3) := by decide +kernel
theorem dX0_token_24 : decode cX0_token 24 = .ok (.iload_n 1, 1) := by decide +kernel
theorem dX0_token_25 : decode cX0_token 25 = .ok (.bipush 10, 2) := by decide +kernel
theorem dX0_token_27 : decode cX0_token 27 = .ok (.if_icmp .gt 20, 3) := by decide +kernel
theorem dX0_token_30 : decode cX0_token 30 = .ok (.aload_n 0, 1) := by decide +kernel
theorem dX0_token_31 : decode cX0_token 31 = .ok (.getfield 46, 3) := by decide +kernel
theorem dX0_token_34 : decode cX0_token 34 = .ok (.iload_n 3, 1) := by decide +kernel
theorem dX0_token_35 : decode cX0_token 35 = .ok (.if_icmp .lt 12, 3) := by decide +kernel
theorem dX0_token_38 : decode cX0_token 38 = .ok (.aload_n 0, 1) := by decide +kernel
theorem dX0_token_39 : decode cX0_token 39 = .ok (.getfield 50, 3) := by decide +kernel
theorem dX0_token_42 : decode cX0_token 42 = .ok (.bipush 40, 2) := by decide +kernel
theorem dX0_token_44 : decode cX0_token 44 = .ok (.if_icmp .lt 5, 3) := by decide +kernel
theorem dX0_token_47 : decode cX0_token 47 = .ok (.iconst (-1), 1) := by decide +kernel
theorem dX0_token_48 : decode cX0_token 48 = .ok (.ireturn, 1) := by decide +kernel
theorem dX0_token_49 : decode cX0_token 49 = .ok (.aload_n 0, 1) := by decide +kernel
theorem dX0_token_50 : decode cX0_token 50 = .ok (.dup, 1) := by decide +kernel
theorem dX0_token_51 : decode cX0_token 51 = .ok (.getfield 50, 3) := by decide +kernel
theorem dX0_token_54 : decode cX0_token 54 = .ok (.iconst 1, 1) := by decide +kernel
theorem dX0_token_55 : decode cX0_token 55 = .ok (.iadd, 1) := by decide +kernel
theorem dX0_token_56 : decode cX0_token 56 = .ok (.putfield 50, 3) := by decide +kernel
theorem dX0_token_59 : decode cX0_token 59 = .ok (.iload_n 1, 1) := by decide +kernel
theorem dX0_token_60 : decode cX0_token 60 = .ok (.bipush 10, 2) := by decide +kernel
theorem dX0_token_62 : decode cX0_token 62 = .ok (.if_icmp .ne 39, 3) := by decide +kernel
theorem dX0_token_65 : decode cX0_token 65 = .ok (.aload_n 0, 1) := by decide +kernel
theorem dX0_token_66 : decode cX0_token 66 = .ok (.dup, 1) := by decide +kernel
theorem dX0_token_67 : decode cX0_token 67 = .ok (.getfield 46, 3) := by decide +kernel
theorem dX0_token_70 : decode cX0_token 70 = .ok (.iconst 1, 1) := by decide +kernel
theorem dX0_token_71 : decode cX0_token 71 = .ok (.isub, 1) := by decide +kernel
theorem dX0_token_72 : decode cX0_token 72 = .ok (.putfield 46, 3) := by decide +kernel
theorem dX0_token_75 : decode cX0_token 75 = .ok (.aload_n 0, 1) := by decide +kernel
theorem dX0_token_76 : decode cX0_token 76 = .ok (.getfield 25, 3) := by decide +kernel
theorem dX0_token_79 : decode cX0_token 79 = .ok (.iload_n 2, 1) := by decide +kernel
theorem dX0_token_80 : decode cX0_token 80 = .ok (.iconst 3, 1) := by decide +kernel
theorem dX0_token_81 : decode cX0_token 81 = .ok (.iand, 1) := by decide +kernel
theorem dX0_token_82 : decode cX0_token 82 = .ok (.aload_n 0, 1) := by decide +kernel
theorem dX0_token_83 : decode cX0_token 83 = .ok (.getfield 22, 3) := by decide +kernel
theorem dX0_token_86 : decode cX0_token 86 = .ok (.aload_n 0, 1) := by decide +kernel
theorem dX0_token_87 : decode cX0_token 87 = .ok (.getfield 46, 3) := by decide +kernel
theorem dX0_token_90 : decode cX0_token 90 = .ok (.iaload, 1) := by decide +kernel
theorem dX0_token_91 : decode cX0_token 91 = .ok (.iastore, 1) := by decide +kernel
theorem dX0_token_92 : decode cX0_token 92 = .ok (.aload_n 0, 1) := by decide +kernel
theorem dX0_token_93 : decode cX0_token 93 = .ok (.invokevirtual 53, 3) := by decide +kernel
theorem dX0_token_96 : decode cX0_token 96 = .ok (.aload_n 0, 1) := by decide +kernel
theorem dX0_token_97 : decode cX0_token 97 = .ok (.getfield 46, 3) := by decide +kernel
theorem dX0_token_100 : decode cX0_token 100 = .ok (.ireturn, 1) := by decide +kernel
theorem dX0_token_101 : decode cX0_token 101 = .ok (.aload_n 0, 1) := by decide +kernel
theorem dX0_token_102 : decode cX0_token 102 = .ok (.getfield 7, 3) := by decide +kernel
theorem dX0_token_105 : decode cX0_token 105 = .ok (.aload_n 0, 1) := by decide +kernel
theorem dX0_token_106 : decode cX0_token 106 = .ok (.getfield 56, 3) := by decide +kernel
theorem dX0_token_109 : decode cX0_token 109 = .ok (.iload_n 1, 1) := by decide +kernel
theorem dX0_token_110 : decode cX0_token 110 = .ok (.iastore, 1) := by decide +kernel
theorem dX0_token_111 : decode cX0_token 111 = .ok (.aload_n 0, 1) := by decide +kernel
theorem dX0_token_112 : decode cX0_token 112 = .ok (.getfield 13, 3) := by decide +kernel
theorem dX0_token_115 : decode cX0_token 115 = .ok (.aload_n 0, 1) := by decide +kernel
theorem dX0_token_116 : decode cX0_token 116 = .ok (.getfield 56, 3) := by decide +kernel
theorem dX0_token_119 : decode cX0_token 119 = .ok (.iload_n 2, 1) := by decide +kernel
theorem dX0_token_120 : decode cX0_token 120 = .ok (.iconst 3, 1) := by decide +kernel
theorem dX0_token_121 : decode cX0_token 121 = .ok (.iand, 1) := by decide +kernel
theorem dX0_token_122 : decode cX0_token 122 = .ok (.iastore, 1) := by decide +kernel
theorem dX0_token_123 : decode cX0_token 123 = .ok (.aload_n 0, 1) := by decide +kernel
theorem dX0_token_124 : decode cX0_token 124 = .ok (.getfield 16, 3) := by decide +kernel
theorem dX0_token_127 : decode cX0_token 127 = .ok (.aload_n 0, 1) := by decide +kernel
theorem dX0_token_128 : decode cX0_token 128 = .ok (.getfield 56, 3) := by decide +kernel
theorem dX0_token_131 : decode cX0_token 131 = .ok (.iload_n 3, 1) := by decide +kernel
theorem dX0_token_132 : decode cX0_token 132 = .ok (.ifCond .le 17, 3) := by decide +kernel
theorem dX0_token_135 : decode cX0_token 135 = .ok (.aload_n 0, 1) := by decide +kernel
theorem dX0_token_136 : decode cX0_token 136 = .ok (.getfield 22, 3) := by decide +kernel
theorem dX0_token_139 : decode cX0_token 139 = .ok (.aload_n 0, 1) := by decide +kernel
theorem dX0_token_140 : decode cX0_token 140 = .ok (.getfield 46, 3) := by decide +kernel
theorem dX0_token_143 : decode cX0_token 143 = .ok (.iload_n 3, 1) := by decide +kernel
theorem dX0_token_144 : decode cX0_token 144 = .ok (.isub, 1) := by decide +kernel
theorem dX0_token_145 : decode cX0_token 145 = .ok (.iaload, 1) := by decide +kernel
theorem dX0_token_146 : decode cX0_token 146 = .ok (.goto 4, 3) := by decide +kernel
theorem dX0_token_149 : decode cX0_token 149 = .ok (.iconst (-1), 1) := by decide +kernel
theorem dX0_token_150 : decode cX0_token 150 = .ok (.iastore, 1) := by decide +kernel
theorem dX0_token_151 : decode cX0_token 151 = .ok (.aload_n 0, 1) := by decide +kernel
theorem dX0_token_152 : decode cX0_token 152 = .ok (.getfield 19, 3) := by decide +kernel
theorem dX0_token_155 : decode cX0_token 155 = .ok (.aload_n 0, 1) := by decide +kernel
theorem dX0_token_156 : decode cX0_token 156 = .ok (.getfield 56, 3) := by decide +kernel
theorem dX0_token_159 : decode cX0_token 159 = .ok (.iload_n 3, 1) := by decide +kernel
theorem dX0_token_160 : decode cX0_token 160 = .ok (.iconst 2, 1) := by decide +kernel
theorem dX0_token_161 : decode cX0_token 161 = .ok (.if_icmp .ne 17, 3) := by decide +kernel
theorem dX0_token_164 : decode cX0_token 164 = .ok (.aload_n 0, 1) := by decide +kernel
theorem dX0_token_165 : decode cX0_token 165 = .ok (.getfield 22, 3) := by decide +kernel
theorem dX0_token_168 : decode cX0_token 168 = .ok (.aload_n 0, 1) := by decide +kernel
theorem dX0_token_169 : decode cX0_token 169 = .ok (.getfield 46, 3) := by decide +kernel
theorem dX0_token_172 : decode cX0_token 172 = .ok (.iconst 1, 1) := by decide +kernel
theorem dX0_token_173 : decode cX0_token 173 = .ok (.isub, 1) := by decide +kernel
theorem dX0_token_174 : decode cX0_token 174 = .ok (.iaload, 1) := by decide +kernel
theorem dX0_token_175 : decode cX0_token 175 = .ok (.goto 4, 3) := by decide +kernel
theorem dX0_token_178 : decode cX0_token 178 = .ok (.iconst (-1), 1) := by decide +kernel
theorem dX0_token_179 : decode cX0_token 179 = .ok (.iastore, 1) := by decide +kernel
theorem dX0_token_180 : decode cX0_token 180 = .ok (.aload_n 0, 1) := by decide +kernel
theorem dX0_token_181 : decode cX0_token 181 = .ok (.dup, 1) := by decide +kernel
theorem dX0_token_182 : decode cX0_token 182 = .ok (.getfield 46, 3) := by decide +kernel
theorem dX0_token_185 : decode cX0_token 185 = .ok (.iload_n 3, 1) := by decide +kernel
theorem dX0_token_186 : decode cX0_token 186 = .ok (.isub, 1) := by decide +kernel
theorem dX0_token_187 : decode cX0_token 187 = .ok (.putfield 46, 3) := by decide +kernel
theorem dX0_token_190 : decode cX0_token 190 = .ok (.aload_n 0, 1) := by decide +kernel
theorem dX0_token_191 : decode cX0_token 191 = .ok (.getfield 22, 3) := by decide +kernel
theorem dX0_token_194 : decode cX0_token 194 = .ok (.aload_n 0, 1) := by decide +kernel
theorem dX0_token_195 : decode cX0_token 195 = .ok (.getfield 46, 3) := by decide +kernel
theorem dX0_token_198 : decode cX0_token 198 = .ok (.aload_n 0, 1) := by decide +kernel
theorem dX0_token_199 : decode cX0_token 199 = .ok (.getfield 56, 3) := by decide +kernel
theorem dX0_token_202 : decode cX0_token 202 = .ok (.iastore, 1) := by decide +kernel
theorem dX0_token_203 : decode cX0_token 203 = .ok (.aload_n 0, 1) := by decide +kernel
theorem dX0_token_204 : decode cX0_token 204 = .ok (.dup, 1) := by decide +kernel
theorem dX0_token_205 : decode cX0_token 205 = .ok (.getfield 46, 3) := by decide +kernel
theorem dX0_token_208 : decode cX0_token 208 = .ok (.iconst 1, 1) := by decide +kernel
theorem dX0_token_209 : decode cX0_token 209 = .ok (.iadd, 1) := by decide +kernel
theorem dX0_token_210 : decode cX0_token 210 = .ok (.putfield 46, 3) := by decide +kernel
theorem dX0_token_213 : decode cX0_token 213 = .ok (.aload_n 0, 1) := by decide +kernel
theorem dX0_token_214 : decode cX0_token 214 = .ok (.dup, 1) := by decide +kernel
theorem dX0_token_215 : decode cX0_token 215 = .ok (.getfield 56, 3) := by decide +kernel
theorem dX0_token_218 : decode cX0_token 218 = .ok (.iconst 1, 1) := by decide +kernel
theorem dX0_token_219 : decode cX0_token 219 = .ok (.iadd, 1) := by decide +kernel
theorem dX0_token_220 : decode cX0_token 220 = .ok (.putfield 56, 3) := by decide +kernel
theorem dX0_token_223 : decode cX0_token 223 = .ok (.aload_n 0, 1) := by decide +kernel
theorem dX0_token_224 : decode cX0_token 224 = .ok (.getfield 46, 3) := by decide +kernel
theorem dX0_token_227 : decode cX0_token 227 = .ok (.ireturn, 1) := by decide +kernel
theorem dX0_type_0 : decode cX0_type 0 = .ok (.aload_n 0, 1) := by decide +kernel
theorem dX0_type_1 : decode cX0_type 1 = .ok (.getfield 59, 3) := by decide +kernel
theorem dX0_type_4 : decode cX0_type 4 = .ok (.bipush 20, 2) := by decide +kernel
theorem dX0_type_6 : decode cX0_type 6 = .ok (.if_icmp .lt 5, 3) := by decide +kernel
theorem dX0_type_9 : decode cX0_type 9 = .ok (.iconst (-1), 1) := by decide +kernel
theorem dX0_type_10 : decode cX0_type 10 = .ok (.ireturn, 1) := by decide +kernel
theorem dX0_type_11 : decode cX0_type 11 = .ok (.aload_n 0, 1) := by decide +kernel
theorem dX0_type_12 : decode cX0_type 12 = .ok (.getfield 28, 3) := by decide +kernel
theorem dX0_type_15 : decode cX0_type 15 = .ok (.aload_n 0, 1) := by decide +kernel
theorem dX0_type_16 : decode cX0_type 16 = .ok (.getfield 59, 3) := by decide +kernel
theorem dX0_type_19 : decode cX0_type 19 = .ok (.iload_n 1, 1) := by decide +kernel
theorem dX0_type_20 : decode cX0_type 20 = .ok (.iconst 3, 1) := by decide +kernel
theorem dX0_type_21 : decode cX0_type 21 = .ok (.iand, 1) := by decide +kernel
theorem dX0_type_22 : decode cX0_type 22 = .ok (.iastore, 1) := by decide +kernel
theorem dX0_type_23 : decode cX0_type 23 = .ok (.aload_n 0, 1) := by decide +kernel
theorem dX0_type_24 : decode cX0_type 24 = .ok (.dup, 1) := by decide +kernel
theorem dX0_type_25 : decode cX0_type 25 = .ok (.getfield 59, 3) := by decide +kernel
theorem dX0_type_28 : decode cX0_type 28 = .ok (.iconst 1, 1) := by decide +kernel
theorem dX0_type_29 : decode cX0_type 29 = .ok (.iadd, 1) := by decide +kernel
theorem dX0_type_30 : decode cX0_type 30 = .ok (.putfield 59, 3) := by decide +kernel
theorem dX0_type_33 : decode cX0_type 33 = .ok (.aload_n 0, 1) := by decide +kernel
theorem dX0_type_34 : decode cX0_type 34 = .ok (.invokevirtual 53, 3) := by decide +kernel
theorem dX0_type_37 : decode cX0_type 37 = .ok (.aload_n 0, 1) := by decide +kernel
theorem dX0_type_38 : decode cX0_type 38 = .ok (.getfield 59, 3) := by decide +kernel
theorem dX0_type_41 : decode cX0_type 41 = .ok (.ireturn, 1) := by decide +kernel
theorem dX0_erase_0 : decode cX0_erase 0 = .ok (.aload_n 0, 1) := by decide +kernel
theorem dX0_erase_1 : decode cX0_erase 1 = .ok (.iconst 0, 1) := by decide +kernel
theorem dX0_erase_2 : decode cX0_erase 2 = .ok (.putfield 59, 3) := by decide +kernel
theorem dX0_erase_5 : decode cX0_erase 5 = .ok (.aload_n 0, 1) := by decide +kernel
theorem dX0_erase_6 : decode cX0_erase 6 = .ok (.invokevirtual 53, 3) := by decide +kernel
theorem dX0_erase_9 : decode cX0_erase 9 = .ok (.return_, 1) := by decide +kernel
theorem dX0_match_0 : decode cX0_match 0 = .ok (.iload_n 1, 1) := by decide +kernel
theorem dX0_match_1 : decode cX0_match 1 = .ok (.ifCond .lt 20, 3) := by decide +kernel
theorem dX0_match_4 : decode cX0_match 4 = .ok (.iload_n 1, 1) := by decide +kernel
theorem dX0_match_5 : decode cX0_match 5 = .ok (.iconst 3, 1) := by decide +kernel
theorem dX0_match_6 : decode cX0_match 6 = .ok (.if_icmp .gt 15, 3) := by decide +kernel
theorem dX0_match_9 : decode cX0_match 9 = .ok (.iload_n 2, 1) := by decide +kernel
theorem dX0_match_10 : decode cX0_match 10 = .ok (.ifCond .lt 11, 3) := by decide +kernel
theorem dX0_match_13 : decode cX0_match 13 = .ok (.iload_n 2, 1) := by decide +kernel
theorem dX0_match_14 : decode cX0_match 14 = .ok (.aload_n 0, 1) := by decide +kernel
theorem dX0_match_15 : decode cX0_match 15 = .ok (.getfield 59, 3) := by decide +kernel
theorem dX0_match_18 : decode cX0_match 18 = .ok (.if_icmp .le 6, 3) := by decide +kernel
theorem dX0_match_21 : decode cX0_match 21 = .ok (.bipush (-3), 2) := by decide +kernel
theorem dX0_match_23 : decode cX0_match 23 = .ok (.ireturn, 1) := by decide +kernel
theorem dX0_match_24 : decode cX0_match 24 = .ok (.aload_n 0, 1) := by decide +kernel
theorem dX0_match_25 : decode cX0_match 25 = .ok (.getfield 25, 3) := by decide +kernel
theorem dX0_match_28 : decode cX0_match 28 = .ok (.iload_n 1, 1) := by decide +kernel
theorem dX0_match_29 : decode cX0_match 29 = .ok (.iaload, 1) := by decide +kernel
theorem dX0_match_30 : decode cX0_match 30 = .ok (.ifCond .ge 5, 3) := by decide +kernel
theorem dX0_match_33 : decode cX0_match 33 = .ok (.iconst (-1), 1) := by decide +kernel
theorem dX0_match_34 : decode cX0_match 34 = .ok (.ireturn, 1) := by decide +kernel
theorem dX0_match_35 : decode cX0_match 35 = .ok (.aload_n 0, 1) := by decide +kernel
theorem dX0_match_36 : decode cX0_match 36 = .ok (.aload_n 0, 1) := by decide +kernel
theorem dX0_match_37 : decode cX0_match 37 = .ok (.getfield 25, 3) := by decide +kernel
theorem dX0_match_40 : decode cX0_match 40 = .ok (.iload_n 1, 1) := by decide +kernel
theorem dX0_match_41 : decode cX0_match 41 = .ok (.iaload, 1) := by decide +kernel
theorem dX0_match_42 : decode cX0_match 42 = .ok (.iload_n 2, 1) := by decide +kernel
theorem dX0_match_43 : decode cX0_match 43 = .ok (.invokevirtual 62, 3) := by decide +kernel
theorem dX0_match_46 : decode cX0_match 46 = .ok (.aload_n 0, 1) := by decide +kernel
theorem dX0_match_47 : decode cX0_match 47 = .ok (.getfield 31, 3) := by decide +kernel
theorem dX0_match_50 : decode cX0_match 50 = .ok (.bipush 21, 2) := by decide +kernel
theorem dX0_match_52 : decode cX0_match 52 = .ok (.aload_n 0, 1) := by decide +kernel
theorem dX0_match_53 : decode cX0_match 53 = .ok (.getfield 25, 3) := by decide +kernel
theorem dX0_match_56 : decode cX0_match 56 = .ok (.iload_n 1, 1) := by decide +kernel
theorem dX0_match_57 : decode cX0_match 57 = .ok (.iaload, 1) := by decide +kernel
theorem dX0_match_58 : decode cX0_match 58 = .ok (.imul, 1) := by decide +kernel
theorem dX0_match_59 : decode cX0_match 59 = .ok (.iload_n 2, 1) := by decide +kernel
theorem dX0_match_60 : decode cX0_match 60 = .ok (.iadd, 1) := by decide +kernel
theorem dX0_match_61 : decode cX0_match 61 = .ok (.iaload, 1) := by decide +kernel
theorem dX0_match_62 : decode cX0_match 62 = .ok (.ireturn, 1) := by decide +kernel
theorem dX0_workOut_0 : decode cX0_workOut 0 = .ok (.aload_n 0, 1) := by decide +kernel
theorem dX0_workOut_1 : decode cX0_workOut 1 = .ok (.iconst 0, 1) := by decide +kernel
theorem dX0_workOut_2 : decode cX0_workOut 2 = .ok (.putfield 70, 3) := by decide +kernel
theorem dX0_workOut_5 : decode cX0_workOut 5 = .ok (.aload_n 0, 1) := by decide +kernel
theorem dX0_workOut_6 : decode cX0_workOut 6 = .ok (.getfield 31, 3) := by decide +kernel
theorem dX0_workOut_9 : decode cX0_workOut 9 = .ok (.bipush 21, 2) := by decide +kernel
theorem dX0_workOut_11 : decode cX0_workOut 11 = .ok (.iload_n 1, 1) := by decide +kernel
theorem dX0_workOut_12 : decode cX0_workOut 12 = .ok (.imul, 1) := by decide +kernel
theorem dX0_workOut_13 : decode cX0_workOut 13 = .ok (.iload_n 2, 1) := by decide +kernel
theorem dX0_workOut_14 : decode cX0_workOut 14 = .ok (.iadd, 1) := by decide +kernel
theorem dX0_workOut_15 : decode cX0_workOut 15 = .ok (.iaload, 1) := by decide +kernel
theorem dX0_workOut_16 : decode cX0_workOut 16 = .ok (.bipush (-3), 2) := by decide +kernel
theorem dX0_workOut_18 : decode cX0_workOut 18 = .ok (.if_icmp .ne 9, 3) := by decide +kernel
theorem dX0_workOut_21 : decode cX0_workOut 21 = .ok (.aload_n 0, 1) := by decide +kernel
theorem dX0_workOut_22 : decode cX0_workOut 22 = .ok (.iload_n 1, 1) := by decide +kernel
theorem dX0_workOut_23 : decode cX0_workOut 23 = .ok (.iload_n 2, 1) := by decide +kernel
theorem dX0_workOut_24 : decode cX0_workOut 24 = .ok (.invokevirtual 73, 3) := by decide +kernel
theorem dX0_workOut_27 : decode cX0_workOut 27 = .ok (.iconst 0, 1) := by decide +kernel
theorem dX0_workOut_28 : decode cX0_workOut 28 = .ok (.istore_n 3, 1) := by decide +kernel
theorem dX0_workOut_29 : decode cX0_workOut 29 = .ok (.iload_n 3, 1) := by decide +kernel
theorem dX0_workOut_30 : decode cX0_workOut 30 = .ok (.sipush 3000, 3) := by decide +kernel
theorem dX0_workOut_33 : decode cX0_workOut 33 = .ok (.if_icmp .ge 26, 3) := by decide +kernel
theorem dX0_workOut_36 : decode cX0_workOut 36 = .ok (.aload_n 0, 1) := by decide +kernel
theorem dX0_workOut_37 : decode cX0_workOut 37 = .ok (.getfield 70, 3) := by decide +kernel
theorem dX0_workOut_40 : decode cX0_workOut 40 = .ok (.ifCond .le 19, 3) := by decide +kernel
theorem dX0_workOut_43 : decode cX0_workOut 43 = .ok (.aload_n 0, 1) := by decide +kernel
theorem dX0_workOut_44 : decode cX0_workOut 44 = .ok (.aload_n 0, 1) := by decide +kernel
theorem dX0_workOut_45 : decode cX0_workOut 45 = .ok (.getfield 70, 3) := by decide +kernel
theorem dX0_workOut_48 : decode cX0_workOut 48 = .ok (.iconst 1, 1) := by decide +kernel
theorem dX0_workOut_49 : decode cX0_workOut 49 = .ok (.isub, 1) := by decide +kernel
theorem dX0_workOut_50 : decode cX0_workOut 50 = .ok (.invokevirtual 76, 3) := by decide +kernel
theorem dX0_workOut_53 : decode cX0_workOut 53 = .ok (.iinc 3 1, 3) := by decide +kernel
theorem dX0_workOut_56 : decode cX0_workOut 56 = .ok (.goto (-27), 3) := by decide +kernel
theorem dX0_workOut_59 : decode cX0_workOut 59 = .ok (.return_, 1) := by decide +kernel
theorem dX0_putOn_0 : decode cX0_putOn 0 = .ok (.bipush 21, 2) := by decide +kernel
theorem dX0_putOn_2 : decode cX0_putOn 2 = .ok (.iload_n 1, 1) := by decide +kernel
theorem dX0_putOn_3 : decode cX0_putOn 3 = .ok (.imul, 1) := by decide +kernel
theorem dX0_putOn_4 : decode cX0_putOn 4 = .ok (.iload_n 2, 1) := by decide +kernel
theorem dX0_putOn_5 : decode cX0_putOn 5 = .ok (.iadd, 1) := by decide +kernel
theorem dX0_putOn_6 : decode cX0_putOn 6 = .ok (.istore_n 3, 1) := by decide +kernel
theorem dX0_putOn_7 : decode cX0_putOn 7 = .ok (.aload_n 0, 1) := by decide +kernel
theorem dX0_putOn_8 : decode cX0_putOn 8 = .ok (.getfield 31, 3) := by decide +kernel
theorem dX0_putOn_11 : decode cX0_putOn 11 = .ok (.iload_n 3, 1) := by decide +kernel
theorem dX0_putOn_12 : decode cX0_putOn 12 = .ok (.bipush (-4), 2) := by decide +kernel
theorem dX0_putOn_14 : decode cX0_putOn 14 = .ok (.iastore, 1) := by decide +kernel
theorem dX0_putOn_15 : decode cX0_putOn 15 = .ok (.aload_n 0, 1) := by decide +kernel
theorem dX0_putOn_16 : decode cX0_putOn 16 = .ok (.getfield 34, 3) := by decide +kernel
theorem dX0_putOn_19 : decode cX0_putOn 19 = .ok (.aload_n 0, 1) := by decide +kernel
theorem dX0_putOn_20 : decode cX0_putOn 20 = .ok (.getfield 70, 3) := by decide +kernel
theorem dX0_putOn_23 : decode cX0_putOn 23 = .ok (.iload_n 3, 1) := by decide +kernel
theorem dX0_putOn_24 : decode cX0_putOn 24 = .ok (.iastore, 1) := by decide +kernel
theorem dX0_putOn_25 : decode cX0_putOn 25 = .ok (.aload_n 0, 1) := by decide +kernel
theorem dX0_putOn_26 : decode cX0_putOn 26 = .ok (.getfield 37, 3) := by decide +kernel
theorem dX0_putOn_29 : decode cX0_putOn 29 = .ok (.aload_n 0, 1) := by decide +kernel
theorem dX0_putOn_30 : decode cX0_putOn 30 = .ok (.getfield 70, 3) := by decide +kernel
theorem dX0_putOn_33 : decode cX0_putOn 33 = .ok (.iconst 0, 1) := by decide +kernel
theorem dX0_putOn_34 : decode cX0_putOn 34 = .ok (.iastore, 1) := by decide +kernel
theorem dX0_putOn_35 : decode cX0_putOn 35 = .ok (.aload_n 0, 1) := by decide +kernel
theorem dX0_putOn_36 : decode cX0_putOn 36 = .ok (.dup, 1) := by decide +kernel
theorem dX0_putOn_37 : decode cX0_putOn 37 = .ok (.getfield 70, 3) := by decide +kernel
theorem dX0_putOn_40 : decode cX0_putOn 40 = .ok (.iconst 1, 1) := by decide +kernel
theorem dX0_putOn_41 : decode cX0_putOn 41 = .ok (.iadd, 1) := by decide +kernel
theorem dX0_putOn_42 : decode cX0_putOn 42 = .ok (.putfield 70, 3) := by decide +kernel
theorem dX0_putOn_45 : decode cX0_putOn 45 = .ok (.return_, 1) := by decide +kernel
theorem dX0_goOn_0 : decode cX0_goOn 0 = .ok (.aload_n 0, 1) := by decide +kernel
theorem dX0_goOn_1 : decode cX0_goOn 1 = .ok (.getfield 34, 3) := by decide +kernel
theorem dX0_goOn_4 : decode cX0_goOn 4 = .ok (.iload_n 1, 1) := by decide +kernel
theorem dX0_goOn_5 : decode cX0_goOn 5 = .ok (.iaload, 1) := by decide +kernel
theorem dX0_goOn_6 : decode cX0_goOn 6 = .ok (.bipush 21, 2) := by decide +kernel
theorem dX0_goOn_8 : decode cX0_goOn 8 = .ok (.idiv, 1) := by decide +kernel
theorem dX0_goOn_9 : decode cX0_goOn 9 = .ok (.istore_n 2, 1) := by decide +kernel
theorem dX0_goOn_10 : decode cX0_goOn 10 = .ok (.aload_n 0, 1) := by decide +kernel
theorem dX0_goOn_11 : decode cX0_goOn 11 = .ok (.getfield 34, 3) := by decide +kernel
theorem dX0_goOn_14 : decode cX0_goOn 14 = .ok (.iload_n 1, 1) := by decide +kernel
theorem dX0_goOn_15 : decode cX0_goOn 15 = .ok (.iaload, 1) := by decide +kernel
theorem dX0_goOn_16 : decode cX0_goOn 16 = .ok (.bipush 21, 2) := by decide +kernel
theorem dX0_goOn_18 : decode cX0_goOn 18 = .ok (.irem, 1) := by decide +kernel
theorem dX0_goOn_19 : decode cX0_goOn 19 = .ok (.istore_n 3, 1) := by decide +kernel
theorem dX0_goOn_20 : decode cX0_goOn 20 = .ok (.aload_n 0, 1) := by decide +kernel
theorem dX0_goOn_21 : decode cX0_goOn 21 = .ok (.getfield 7, 3) := by decide +kernel
theorem dX0_goOn_24 : decode cX0_goOn 24 = .ok (.iload_n 2, 1) := by decide +kernel
theorem dX0_goOn_25 : decode cX0_goOn 25 = .ok (.iaload, 1) := by decide +kernel
theorem dX0_goOn_26 : decode cX0_goOn 26 = .ok (.istore 4, 2) := by decide +kernel
theorem dX0_goOn_28 : decode cX0_goOn 28 = .ok (.iload 4, 2) := by decide +kernel
theorem dX0_goOn_30 : decode cX0_goOn 30 = .ok (.iconst 2, 1) := by decide +kernel
theorem dX0_goOn_31 : decode cX0_goOn 31 = .ok (.if_icmp .gt 28, 3) := by decide +kernel
theorem dX0_goOn_34 : decode cX0_goOn 34 = .ok (.aload_n 0, 1) := by decide +kernel
theorem dX0_goOn_35 : decode cX0_goOn 35 = .ok (.iload 4, 2) := by decide +kernel
theorem dX0_goOn_37 : decode cX0_goOn 37 = .ok (.aload_n 0, 1) := by decide +kernel
theorem dX0_goOn_38 : decode cX0_goOn 38 = .ok (.getfield 13, 3) := by decide +kernel
theorem dX0_goOn_41 : decode cX0_goOn 41 = .ok (.iload_n 2, 1) := by decide +kernel
theorem dX0_goOn_42 : decode cX0_goOn 42 = .ok (.iaload, 1) := by decide +kernel
theorem dX0_goOn_43 : decode cX0_goOn 43 = .ok (.iload_n 3, 1) := by decide +kernel
theorem dX0_goOn_44 : decode cX0_goOn 44 = .ok (.invokevirtual 80, 3) := by decide +kernel
theorem dX0_goOn_47 : decode cX0_goOn 47 = .ok (.istore 5, 2) := by decide +kernel
theorem dX0_goOn_49 : decode cX0_goOn 49 = .ok (.aload_n 0, 1) := by decide +kernel
theorem dX0_goOn_50 : decode cX0_goOn 50 = .ok (.iload_n 1, 1) := by decide +kernel
theorem dX0_goOn_51 : decode cX0_goOn 51 = .ok (.iload 5, 2) := by decide +kernel
theorem dX0_goOn_53 : decode cX0_goOn 53 = .ok (.invokevirtual 84, 3) := by decide +kernel
theorem dX0_goOn_56 : decode cX0_goOn 56 = .ok (.goto 55, 3) := by decide +kernel
theorem dX0_goOn_59 : decode cX0_goOn 59 = .ok (.aload_n 0, 1) := by decide +kernel
theorem dX0_goOn_60 : decode cX0_goOn 60 = .ok (.getfield 37, 3) := by decide +kernel
theorem dX0_goOn_63 : decode cX0_goOn 63 = .ok (.iload_n 1, 1) := by decide +kernel
theorem dX0_goOn_64 : decode cX0_goOn 64 = .ok (.iaload, 1) := by decide +kernel
theorem dX0_goOn_65 : decode cX0_goOn 65 = .ok (.ifCond .ne 15, 3) := by decide +kernel
theorem dX0_goOn_68 : decode cX0_goOn 68 = .ok (.aload_n 0, 1) := by decide +kernel
theorem dX0_goOn_69 : decode cX0_goOn 69 = .ok (.iload_n 1, 1) := by decide +kernel
theorem dX0_goOn_70 : decode cX0_goOn 70 = .ok (.iload_n 2, 1) := by decide +kernel
theorem dX0_goOn_71 : decode cX0_goOn 71 = .ok (.iload_n 3, 1) := by decide +kernel
theorem dX0_goOn_72 : decode cX0_goOn 72 = .ok (.iload 4, 2) := by decide +kernel
theorem dX0_goOn_74 : decode cX0_goOn 74 = .ok (.invokevirtual 87, 3) := by decide +kernel
theorem dX0_goOn_77 : decode cX0_goOn 77 = .ok (.goto 34, 3) := by decide +kernel
theorem dX0_goOn_80 : decode cX0_goOn 80 = .ok (.aload_n 0, 1) := by decide +kernel
theorem dX0_goOn_81 : decode cX0_goOn 81 = .ok (.getfield 37, 3) := by decide +kernel
theorem dX0_goOn_84 : decode cX0_goOn 84 = .ok (.iload_n 1, 1) := by decide +kernel
theorem dX0_goOn_85 : decode cX0_goOn 85 = .ok (.iaload, 1) := by decide +kernel
theorem dX0_goOn_86 : decode cX0_goOn 86 = .ok (.iconst 1, 1) := by decide +kernel
theorem dX0_goOn_87 : decode cX0_goOn 87 = .ok (.if_icmp .ne 15, 3) := by decide +kernel
theorem dX0_goOn_90 : decode cX0_goOn 90 = .ok (.aload_n 0, 1) := by decide +kernel
theorem dX0_goOn_91 : decode cX0_goOn 91 = .ok (.iload_n 1, 1) := by decide +kernel
theorem dX0_goOn_92 : decode cX0_goOn 92 = .ok (.iload_n 2, 1) := by decide +kernel
theorem dX0_goOn_93 : decode cX0_goOn 93 = .ok (.iload_n 3, 1) := by decide +kernel
theorem dX0_goOn_94 : decode cX0_goOn 94 = .ok (.iload 4, 2) := by decide +kernel
theorem dX0_goOn_96 : decode cX0_goOn 96 = .ok (.invokevirtual 91, 3) := by decide +kernel
theorem dX0_goOn_99 : decode cX0_goOn 99 = .ok (.goto 12, 3) := by decide +kernel
theorem dX0_goOn_102 : decode cX0_goOn 102 = .ok (.aload_n 0, 1) := by decide +kernel
theorem dX0_goOn_103 : decode cX0_goOn 103 = .ok (.iload_n 1, 1) := by decide +kernel
theorem dX0_goOn_104 : decode cX0_goOn 104 = .ok (.iload_n 2, 1) := by decide +kernel
theorem dX0_goOn_105 : decode cX0_goOn 105 = .ok (.iload_n 3, 1) := by decide +kernel
theorem dX0_goOn_106 : decode cX0_goOn 106 = .ok (.iload 4, 2) := by decide +kernel
theorem dX0_goOn_108 : decode cX0_goOn 108 = .ok (.invokevirtual 94, 3) := by decide +kernel
end
section
set_option maxRecDepth 100000
theorem dX0_goOn_111 : decode cX0_goOn 111 = .ok (.return_, 1) := by decide +kernel
theorem dX0_single_0 : decode cX0_single 0 = .ok (.iload_n 1, 1) := by decide +kernel
theorem dX0_single_1 : decode cX0_single 1 = .ok (.iconst 2, 1) := by decide +kernel
theorem dX0_single_2 : decode cX0_single 2 = .ok (.if_icmp .ne 5, 3) := by decide +kernel
theorem dX0_single_5 : decode cX0_single 5 = .ok (.iconst 0, 1) := by decide +kernel
theorem dX0_single_6 : decode cX0_single 6 = .ok (.ireturn, 1) := by decide +kernel
theorem dX0_single_7 : decode cX0_single 7 = .ok (.iload_n 3, 1) := by decide +kernel
theorem dX0_single_8 : decode cX0_single 8 = .ok (.aload_n 0, 1) := by decide +kernel
theorem dX0_single_9 : decode cX0_single 9 = .ok (.getfield 59, 3) := by decide +kernel
theorem dX0_single_12 : decode cX0_single 12 = .ok (.if_icmp .ge 22, 3) := by decide +kernel
theorem dX0_single_15 : decode cX0_single 15 = .ok (.iload_n 1, 1) := by decide +kernel
theorem dX0_single_16 : decode cX0_single 16 = .ok (.iconst 1, 1) := by decide +kernel
theorem dX0_single_17 : decode cX0_single 17 = .ok (.if_icmp .eq 13, 3) := by decide +kernel
theorem dX0_single_20 : decode cX0_single 20 = .ok (.aload_n 0, 1) := by decide +kernel
theorem dX0_single_21 : decode cX0_single 21 = .ok (.getfield 28, 3) := by decide +kernel
theorem dX0_single_24 : decode cX0_single 24 = .ok (.iload_n 3, 1) := by decide +kernel
theorem dX0_single_25 : decode cX0_single 25 = .ok (.iaload, 1) := by decide +kernel
theorem dX0_single_26 : decode cX0_single 26 = .ok (.iload_n 2, 1) := by decide +kernel
theorem dX0_single_27 : decode cX0_single 27 = .ok (.if_icmp .ne 7, 3) := by decide +kernel
theorem dX0_single_30 : decode cX0_single 30 = .ok (.iconst 1, 1) := by decide +kernel
theorem dX0_single_31 : decode cX0_single 31 = .ok (.goto 4, 3) := by decide +kernel
theorem dX0_single_34 : decode cX0_single 34 = .ok (.iconst (-1), 1) := by decide +kernel
theorem dX0_single_35 : decode cX0_single 35 = .ok (.ireturn, 1) := by decide +kernel
theorem dX0_finish_0 : decode cX0_finish 0 = .ok (.aload_n 0, 1) := by decide +kernel
theorem dX0_finish_1 : decode cX0_finish 1 = .ok (.getfield 31, 3) := by decide +kernel
theorem dX0_finish_4 : decode cX0_finish 4 = .ok (.aload_n 0, 1) := by decide +kernel
theorem dX0_finish_5 : decode cX0_finish 5 = .ok (.getfield 34, 3) := by decide +kernel
theorem dX0_finish_8 : decode cX0_finish 8 = .ok (.iload_n 1, 1) := by decide +kernel
theorem dX0_finish_9 : decode cX0_finish 9 = .ok (.iaload, 1) := by decide +kernel
theorem dX0_finish_10 : decode cX0_finish 10 = .ok (.iload_n 2, 1) := by decide +kernel
theorem dX0_finish_11 : decode cX0_finish 11 = .ok (.iastore, 1) := by decide +kernel
theorem dX0_finish_12 : decode cX0_finish 12 = .ok (.aload_n 0, 1) := by decide +kernel
theorem dX0_finish_13 : decode cX0_finish 13 = .ok (.iload_n 1, 1) := by decide +kernel
theorem dX0_finish_14 : decode cX0_finish 14 = .ok (.putfield 70, 3) := by decide +kernel
theorem dX0_finish_17 : decode cX0_finish 17 = .ok (.return_, 1) := by decide +kernel
theorem dX0_begin_0 : decode cX0_begin 0 = .ok (.iload 4, 2) := by decide +kernel
theorem dX0_begin_2 : decode cX0_begin 2 = .ok (.iconst 3, 1) := by decide +kernel
theorem dX0_begin_3 : decode cX0_begin 3 = .ok (.if_icmp .ne 17, 3) := by decide +kernel
theorem dX0_begin_6 : decode cX0_begin 6 = .ok (.aload_n 0, 1) := by decide +kernel
theorem dX0_begin_7 : decode cX0_begin 7 = .ok (.getfield 25, 3) := by decide +kernel
theorem dX0_begin_10 : decode cX0_begin 10 = .ok (.aload_n 0, 1) := by decide +kernel
theorem dX0_begin_11 : decode cX0_begin 11 = .ok (.getfield 13, 3) := by decide +kernel
theorem dX0_begin_14 : decode cX0_begin 14 = .ok (.iload_n 2, 1) := by decide +kernel
theorem dX0_begin_15 : decode cX0_begin 15 = .ok (.iaload, 1) := by decide +kernel
theorem dX0_begin_16 : decode cX0_begin 16 = .ok (.iaload, 1) := by decide +kernel
theorem dX0_begin_17 : decode cX0_begin 17 = .ok (.goto 9, 3) := by decide +kernel
theorem dX0_begin_20 : decode cX0_begin 20 = .ok (.aload_n 0, 1) := by decide +kernel
theorem dX0_begin_21 : decode cX0_begin 21 = .ok (.getfield 16, 3) := by decide +kernel
theorem dX0_begin_24 : decode cX0_begin 24 = .ok (.iload_n 2, 1) := by decide +kernel
theorem dX0_begin_25 : decode cX0_begin 25 = .ok (.iaload, 1) := by decide +kernel
theorem dX0_begin_26 : decode cX0_begin 26 = .ok (.istore 5, 2) := by decide +kernel
theorem dX0_begin_28 : decode cX0_begin 28 = .ok (.iload 5, 2) := by decide +kernel
theorem dX0_begin_30 : decode cX0_begin 30 = .ok (.ifCond .ge 12, 3) := by decide +kernel
theorem dX0_begin_33 : decode cX0_begin 33 = .ok (.aload_n 0, 1) := by decide +kernel
theorem dX0_begin_34 : decode cX0_begin 34 = .ok (.iload_n 1, 1) := by decide +kernel
theorem dX0_begin_35 : decode cX0_begin 35 = .ok (.iconst (-1), 1) := by decide +kernel
theorem dX0_begin_36 : decode cX0_begin 36 = .ok (.invokevirtual 84, 3) := by decide +kernel
theorem dX0_begin_39 : decode cX0_begin 39 = .ok (.goto 12, 3) := by decide +kernel
theorem dX0_begin_42 : decode cX0_begin 42 = .ok (.aload_n 0, 1) := by decide +kernel
theorem dX0_begin_43 : decode cX0_begin 43 = .ok (.iload_n 1, 1) := by decide +kernel
theorem dX0_begin_44 : decode cX0_begin 44 = .ok (.iload 5, 2) := by decide +kernel
theorem dX0_begin_46 : decode cX0_begin 46 = .ok (.iload_n 3, 1) := by decide +kernel
theorem dX0_begin_47 : decode cX0_begin 47 = .ok (.iconst 1, 1) := by decide +kernel
theorem dX0_begin_48 : decode cX0_begin 48 = .ok (.invokevirtual 97, 3) := by decide +kernel
theorem dX0_begin_51 : decode cX0_begin 51 = .ok (.return_, 1) := by decide +kernel
theorem dX0_need_0 : decode cX0_need 0 = .ok (.aload_n 0, 1) := by decide +kernel
theorem dX0_need_1 : decode cX0_need 1 = .ok (.getfield 37, 3) := by decide +kernel
theorem dX0_need_4 : decode cX0_need 4 = .ok (.iload_n 1, 1) := by decide +kernel
theorem dX0_need_5 : decode cX0_need 5 = .ok (.iload 4, 2) := by decide +kernel
theorem dX0_need_7 : decode cX0_need 7 = .ok (.iastore, 1) := by decide +kernel
theorem dX0_need_8 : decode cX0_need 8 = .ok (.aload_n 0, 1) := by decide +kernel
theorem dX0_need_9 : decode cX0_need 9 = .ok (.getfield 31, 3) := by decide +kernel
theorem dX0_need_12 : decode cX0_need 12 = .ok (.bipush 21, 2) := by decide +kernel
theorem dX0_need_14 : decode cX0_need 14 = .ok (.iload_n 2, 1) := by decide +kernel
theorem dX0_need_15 : decode cX0_need 15 = .ok (.imul, 1) := by decide +kernel
theorem dX0_need_16 : decode cX0_need 16 = .ok (.iload_n 3, 1) := by decide +kernel
theorem dX0_need_17 : decode cX0_need 17 = .ok (.iadd, 1) := by decide +kernel
theorem dX0_need_18 : decode cX0_need 18 = .ok (.iaload, 1) := by decide +kernel
theorem dX0_need_19 : decode cX0_need 19 = .ok (.istore 5, 2) := by decide +kernel
theorem dX0_need_21 : decode cX0_need 21 = .ok (.iload 5, 2) := by decide +kernel
theorem dX0_need_23 : decode cX0_need 23 = .ok (.bipush (-3), 2) := by decide +kernel
theorem dX0_need_25 : decode cX0_need 25 = .ok (.if_icmp .ne 12, 3) := by decide +kernel
theorem dX0_need_28 : decode cX0_need 28 = .ok (.aload_n 0, 1) := by decide +kernel
theorem dX0_need_29 : decode cX0_need 29 = .ok (.iload_n 2, 1) := by decide +kernel
theorem dX0_need_30 : decode cX0_need 30 = .ok (.iload_n 3, 1) := by decide +kernel
theorem dX0_need_31 : decode cX0_need 31 = .ok (.invokevirtual 73, 3) := by decide +kernel
theorem dX0_need_34 : decode cX0_need 34 = .ok (.goto 54, 3) := by decide +kernel
theorem dX0_need_37 : decode cX0_need 37 = .ok (.iload 5, 2) := by decide +kernel
theorem dX0_need_39 : decode cX0_need 39 = .ok (.bipush (-4), 2) := by decide +kernel
theorem dX0_need_41 : decode cX0_need 41 = .ok (.if_icmp .eq 10, 3) := by decide +kernel
theorem dX0_need_44 : decode cX0_need 44 = .ok (.iload 5, 2) := by decide +kernel
theorem dX0_need_46 : decode cX0_need 46 = .ok (.bipush (-2), 2) := by decide +kernel
theorem dX0_need_48 : decode cX0_need 48 = .ok (.if_icmp .ne 40, 3) := by decide +kernel
theorem dX0_need_51 : decode cX0_need 51 = .ok (.iconst 0, 1) := by decide +kernel
theorem dX0_need_52 : decode cX0_need 52 = .ok (.istore 6, 2) := by decide +kernel
theorem dX0_need_54 : decode cX0_need 54 = .ok (.iload 6, 2) := by decide +kernel
theorem dX0_need_56 : decode cX0_need 56 = .ok (.aload_n 0, 1) := by decide +kernel
theorem dX0_need_57 : decode cX0_need 57 = .ok (.getfield 70, 3) := by decide +kernel
theorem dX0_need_60 : decode cX0_need 60 = .ok (.if_icmp .ge 23, 3) := by decide +kernel
theorem dX0_need_63 : decode cX0_need 63 = .ok (.aload_n 0, 1) := by decide +kernel
theorem dX0_need_64 : decode cX0_need 64 = .ok (.getfield 31, 3) := by decide +kernel
theorem dX0_need_67 : decode cX0_need 67 = .ok (.aload_n 0, 1) := by decide +kernel
theorem dX0_need_68 : decode cX0_need 68 = .ok (.getfield 34, 3) := by decide +kernel
theorem dX0_need_71 : decode cX0_need 71 = .ok (.iload 6, 2) := by decide +kernel
theorem dX0_need_73 : decode cX0_need 73 = .ok (.iaload, 1) := by decide +kernel
theorem dX0_need_74 : decode cX0_need 74 = .ok (.bipush (-2), 2) := by decide +kernel
theorem dX0_need_76 : decode cX0_need 76 = .ok (.iastore, 1) := by decide +kernel
theorem dX0_need_77 : decode cX0_need 77 = .ok (.iinc 6 1, 3) := by decide +kernel
theorem dX0_need_80 : decode cX0_need 80 = .ok (.goto (-26), 3) := by decide +kernel
theorem dX0_need_83 : decode cX0_need 83 = .ok (.aload_n 0, 1) := by decide +kernel
theorem dX0_need_84 : decode cX0_need 84 = .ok (.iconst 0, 1) := by decide +kernel
theorem dX0_need_85 : decode cX0_need 85 = .ok (.putfield 70, 3) := by decide +kernel
theorem dX0_need_88 : decode cX0_need 88 = .ok (.return_, 1) := by decide +kernel
theorem dX0_afterFirst_0 : decode cX0_afterFirst 0 = .ok (.iload 4, 2) := by decide +kernel
theorem dX0_afterFirst_2 : decode cX0_afterFirst 2 = .ok (.iconst 3, 1) := by decide +kernel
theorem dX0_afterFirst_3 : decode cX0_afterFirst 3 = .ok (.if_icmp .ne 17, 3) := by decide +kernel
theorem dX0_afterFirst_6 : decode cX0_afterFirst 6 = .ok (.aload_n 0, 1) := by decide +kernel
theorem dX0_afterFirst_7 : decode cX0_afterFirst 7 = .ok (.getfield 25, 3) := by decide +kernel
theorem dX0_afterFirst_10 : decode cX0_afterFirst 10 = .ok (.aload_n 0, 1) := by decide +kernel
theorem dX0_afterFirst_11 : decode cX0_afterFirst 11 = .ok (.getfield 13, 3) := by decide +kernel
theorem dX0_afterFirst_14 : decode cX0_afterFirst 14 = .ok (.iload_n 2, 1) := by decide +kernel
theorem dX0_afterFirst_15 : decode cX0_afterFirst 15 = .ok (.iaload, 1) := by decide +kernel
theorem dX0_afterFirst_16 : decode cX0_afterFirst 16 = .ok (.iaload, 1) := by decide +kernel
theorem dX0_afterFirst_17 : decode cX0_afterFirst 17 = .ok (.goto 9, 3) := by decide +kernel
theorem dX0_afterFirst_20 : decode cX0_afterFirst 20 = .ok (.aload_n 0, 1) := by decide +kernel
theorem dX0_afterFirst_21 : decode cX0_afterFirst 21 = .ok (.getfield 16, 3) := by decide +kernel
theorem dX0_afterFirst_24 : decode cX0_afterFirst 24 = .ok (.iload_n 2, 1) := by decide +kernel
theorem dX0_afterFirst_25 : decode cX0_afterFirst 25 = .ok (.iaload, 1) := by decide +kernel
theorem dX0_afterFirst_26 : decode cX0_afterFirst 26 = .ok (.istore 5, 2) := by decide +kernel
theorem dX0_afterFirst_28 : decode cX0_afterFirst 28 = .ok (.aload_n 0, 1) := by decide +kernel
theorem dX0_afterFirst_29 : decode cX0_afterFirst 29 = .ok (.getfield 31, 3) := by decide +kernel
theorem dX0_afterFirst_32 : decode cX0_afterFirst 32 = .ok (.bipush 21, 2) := by decide +kernel
theorem dX0_afterFirst_34 : decode cX0_afterFirst 34 = .ok (.iload 5, 2) := by decide +kernel
theorem dX0_afterFirst_36 : decode cX0_afterFirst 36 = .ok (.imul, 1) := by decide +kernel
theorem dX0_afterFirst_37 : decode cX0_afterFirst 37 = .ok (.iload_n 3, 1) := by decide +kernel
theorem dX0_afterFirst_38 : decode cX0_afterFirst 38 = .ok (.iadd, 1) := by decide +kernel
theorem dX0_afterFirst_39 : decode cX0_afterFirst 39 = .ok (.iaload, 1) := by decide +kernel
theorem dX0_afterFirst_40 : decode cX0_afterFirst 40 = .ok (.istore 6, 2) := by decide +kernel
theorem dX0_afterFirst_42 : decode cX0_afterFirst 42 = .ok (.iload 4, 2) := by decide +kernel
theorem dX0_afterFirst_44 : decode cX0_afterFirst 44 = .ok (.iconst 3, 1) := by decide +kernel
theorem dX0_afterFirst_45 : decode cX0_afterFirst 45 = .ok (.if_icmp .ne 13, 3) := by decide +kernel
theorem dX0_afterFirst_48 : decode cX0_afterFirst 48 = .ok (.aload_n 0, 1) := by decide +kernel
theorem dX0_afterFirst_49 : decode cX0_afterFirst 49 = .ok (.iload_n 1, 1) := by decide +kernel
theorem dX0_afterFirst_50 : decode cX0_afterFirst 50 = .ok (.iload 6, 2) := by decide +kernel
theorem dX0_afterFirst_52 : decode cX0_afterFirst 52 = .ok (.invokevirtual 84, 3) := by decide +kernel
theorem dX0_afterFirst_55 : decode cX0_afterFirst 55 = .ok (.goto 199, 3) := by decide +kernel
theorem dX0_afterFirst_58 : decode cX0_afterFirst 58 = .ok (.iload 4, 2) := by decide +kernel
theorem dX0_afterFirst_60 : decode cX0_afterFirst 60 = .ok (.iconst 4, 1) := by decide +kernel
theorem dX0_afterFirst_61 : decode cX0_afterFirst 61 = .ok (.if_icmp .ne 35, 3) := by decide +kernel
theorem dX0_afterFirst_64 : decode cX0_afterFirst 64 = .ok (.iload 6, 2) := by decide +kernel
theorem dX0_afterFirst_66 : decode cX0_afterFirst 66 = .ok (.ifCond .lt 30, 3) := by decide +kernel
theorem dX0_afterFirst_69 : decode cX0_afterFirst 69 = .ok (.aload_n 0, 1) := by decide +kernel
theorem dX0_afterFirst_70 : decode cX0_afterFirst 70 = .ok (.getfield 40, 3) := by decide +kernel
theorem dX0_afterFirst_73 : decode cX0_afterFirst 73 = .ok (.iload_n 1, 1) := by decide +kernel
theorem dX0_afterFirst_74 : decode cX0_afterFirst 74 = .ok (.iload 6, 2) := by decide +kernel
theorem dX0_afterFirst_76 : decode cX0_afterFirst 76 = .ok (.iastore, 1) := by decide +kernel
theorem dX0_afterFirst_77 : decode cX0_afterFirst 77 = .ok (.aload_n 0, 1) := by decide +kernel
theorem dX0_afterFirst_78 : decode cX0_afterFirst 78 = .ok (.iload_n 1, 1) := by decide +kernel
theorem dX0_afterFirst_79 : decode cX0_afterFirst 79 = .ok (.aload_n 0, 1) := by decide +kernel
theorem dX0_afterFirst_80 : decode cX0_afterFirst 80 = .ok (.getfield 19, 3) := by decide +kernel
theorem dX0_afterFirst_83 : decode cX0_afterFirst 83 = .ok (.iload_n 2, 1) := by decide +kernel
theorem dX0_afterFirst_84 : decode cX0_afterFirst 84 = .ok (.iaload, 1) := by decide +kernel
theorem dX0_afterFirst_85 : decode cX0_afterFirst 85 = .ok (.iload_n 3, 1) := by decide +kernel
theorem dX0_afterFirst_86 : decode cX0_afterFirst 86 = .ok (.iload 6, 2) := by decide +kernel
theorem dX0_afterFirst_88 : decode cX0_afterFirst 88 = .ok (.iadd, 1) := by decide +kernel
theorem dX0_afterFirst_89 : decode cX0_afterFirst 89 = .ok (.iconst 2, 1) := by decide +kernel
theorem dX0_afterFirst_90 : decode cX0_afterFirst 90 = .ok (.invokevirtual 97, 3) := by decide +kernel
theorem dX0_afterFirst_93 : decode cX0_afterFirst 93 = .ok (.goto 161, 3) := by decide +kernel
theorem dX0_afterFirst_96 : decode cX0_afterFirst 96 = .ok (.iload 4, 2) := by decide +kernel
theorem dX0_afterFirst_98 : decode cX0_afterFirst 98 = .ok (.iconst 5, 1) := by decide +kernel
theorem dX0_afterFirst_99 : decode cX0_afterFirst 99 = .ok (.if_icmp .ne 31, 3) := by decide +kernel
theorem dX0_afterFirst_102 : decode cX0_afterFirst 102 = .ok (.iload 6, 2) := by decide +kernel
theorem dX0_afterFirst_104 : decode cX0_afterFirst 104 = .ok (.ifCond .ge 26, 3) := by decide +kernel
theorem dX0_afterFirst_107 : decode cX0_afterFirst 107 = .ok (.aload_n 0, 1) := by decide +kernel
theorem dX0_afterFirst_108 : decode cX0_afterFirst 108 = .ok (.getfield 40, 3) := by decide +kernel
theorem dX0_afterFirst_111 : decode cX0_afterFirst 111 = .ok (.iload_n 1, 1) := by decide +kernel
theorem dX0_afterFirst_112 : decode cX0_afterFirst 112 = .ok (.iconst 0, 1) := by decide +kernel
theorem dX0_afterFirst_113 : decode cX0_afterFirst 113 = .ok (.iastore, 1) := by decide +kernel
theorem dX0_afterFirst_114 : decode cX0_afterFirst 114 = .ok (.aload_n 0, 1) := by decide +kernel
theorem dX0_afterFirst_115 : decode cX0_afterFirst 115 = .ok (.iload_n 1, 1) := by decide +kernel
theorem dX0_afterFirst_116 : decode cX0_afterFirst 116 = .ok (.aload_n 0, 1) := by decide +kernel
theorem dX0_afterFirst_117 : decode cX0_afterFirst 117 = .ok (.getfield 19, 3) := by decide +kernel
theorem dX0_afterFirst_120 : decode cX0_afterFirst 120 = .ok (.iload_n 2, 1) := by decide +kernel
theorem dX0_afterFirst_121 : decode cX0_afterFirst 121 = .ok (.iaload, 1) := by decide +kernel
theorem dX0_afterFirst_122 : decode cX0_afterFirst 122 = .ok (.iload_n 3, 1) := by decide +kernel
theorem dX0_afterFirst_123 : decode cX0_afterFirst 123 = .ok (.iconst 2, 1) := by decide +kernel
theorem dX0_afterFirst_124 : decode cX0_afterFirst 124 = .ok (.invokevirtual 97, 3) := by decide +kernel
theorem dX0_afterFirst_127 : decode cX0_afterFirst 127 = .ok (.goto 127, 3) := by decide +kernel
theorem dX0_afterFirst_130 : decode cX0_afterFirst 130 = .ok (.iload 4, 2) := by decide +kernel
theorem dX0_afterFirst_132 : decode cX0_afterFirst 132 = .ok (.bipush 6, 2) := by decide +kernel
theorem dX0_afterFirst_134 : decode cX0_afterFirst 134 = .ok (.if_icmp .ne 30, 3) := by decide +kernel
theorem dX0_afterFirst_137 : decode cX0_afterFirst 137 = .ok (.iload 6, 2) := by decide +kernel
theorem dX0_afterFirst_139 : decode cX0_afterFirst 139 = .ok (.ifCond .le 25, 3) := by decide +kernel
theorem dX0_afterFirst_142 : decode cX0_afterFirst 142 = .ok (.aload_n 0, 1) := by decide +kernel
theorem dX0_afterFirst_143 : decode cX0_afterFirst 143 = .ok (.getfield 40, 3) := by decide +kernel
theorem dX0_afterFirst_146 : decode cX0_afterFirst 146 = .ok (.iload_n 1, 1) := by decide +kernel
theorem dX0_afterFirst_147 : decode cX0_afterFirst 147 = .ok (.iload 6, 2) := by decide +kernel
theorem dX0_afterFirst_149 : decode cX0_afterFirst 149 = .ok (.iastore, 1) := by decide +kernel
theorem dX0_afterFirst_150 : decode cX0_afterFirst 150 = .ok (.aload_n 0, 1) := by decide +kernel
theorem dX0_afterFirst_151 : decode cX0_afterFirst 151 = .ok (.iload_n 1, 1) := by decide +kernel
theorem dX0_afterFirst_152 : decode cX0_afterFirst 152 = .ok (.iload_n 2, 1) := by decide +kernel
theorem dX0_afterFirst_153 : decode cX0_afterFirst 153 = .ok (.iload_n 3, 1) := by decide +kernel
theorem dX0_afterFirst_154 : decode cX0_afterFirst 154 = .ok (.iload 6, 2) := by decide +kernel
theorem dX0_afterFirst_156 : decode cX0_afterFirst 156 = .ok (.iadd, 1) := by decide +kernel
theorem dX0_afterFirst_157 : decode cX0_afterFirst 157 = .ok (.iconst 2, 1) := by decide +kernel
theorem dX0_afterFirst_158 : decode cX0_afterFirst 158 = .ok (.invokevirtual 97, 3) := by decide +kernel
theorem dX0_afterFirst_161 : decode cX0_afterFirst 161 = .ok (.goto 93, 3) := by decide +kernel
theorem dX0_afterFirst_164 : decode cX0_afterFirst 164 = .ok (.iload 4, 2) := by decide +kernel
theorem dX0_afterFirst_166 : decode cX0_afterFirst 166 = .ok (.bipush 6, 2) := by decide +kernel
theorem dX0_afterFirst_168 : decode cX0_afterFirst 168 = .ok (.if_icmp .eq 10, 3) := by decide +kernel
theorem dX0_afterFirst_171 : decode cX0_afterFirst 171 = .ok (.iload 4, 2) := by decide +kernel
theorem dX0_afterFirst_173 : decode cX0_afterFirst 173 = .ok (.bipush 7, 2) := by decide +kernel
theorem dX0_afterFirst_175 : decode cX0_afterFirst 175 = .ok (.if_icmp .ne 22, 3) := by decide +kernel
theorem dX0_afterFirst_178 : decode cX0_afterFirst 178 = .ok (.aload_n 0, 1) := by decide +kernel
theorem dX0_afterFirst_179 : decode cX0_afterFirst 179 = .ok (.iload_n 1, 1) := by decide +kernel
theorem dX0_afterFirst_180 : decode cX0_afterFirst 180 = .ok (.iload 6, 2) := by decide +kernel
theorem dX0_afterFirst_182 : decode cX0_afterFirst 182 = .ok (.ifCond .ge 7, 3) := by decide +kernel
theorem dX0_afterFirst_185 : decode cX0_afterFirst 185 = .ok (.iconst 0, 1) := by decide +kernel
theorem dX0_afterFirst_186 : decode cX0_afterFirst 186 = .ok (.goto 5, 3) := by decide +kernel
theorem dX0_afterFirst_189 : decode cX0_afterFirst 189 = .ok (.iload 6, 2) := by decide +kernel
theorem dX0_afterFirst_191 : decode cX0_afterFirst 191 = .ok (.invokevirtual 84, 3) := by decide +kernel
theorem dX0_afterFirst_194 : decode cX0_afterFirst 194 = .ok (.goto 60, 3) := by decide +kernel
theorem dX0_afterFirst_197 : decode cX0_afterFirst 197 = .ok (.iload 4, 2) := by decide +kernel
theorem dX0_afterFirst_199 : decode cX0_afterFirst 199 = .ok (.bipush 8, 2) := by decide +kernel
theorem dX0_afterFirst_201 : decode cX0_afterFirst 201 = .ok (.if_icmp .ne 21, 3) := by decide +kernel
theorem dX0_afterFirst_204 : decode cX0_afterFirst 204 = .ok (.aload_n 0, 1) := by decide +kernel
theorem dX0_afterFirst_205 : decode cX0_afterFirst 205 = .ok (.iload_n 1, 1) := by decide +kernel
theorem dX0_afterFirst_206 : decode cX0_afterFirst 206 = .ok (.iload 6, 2) := by decide +kernel
theorem dX0_afterFirst_208 : decode cX0_afterFirst 208 = .ok (.ifCond .ge 7, 3) := by decide +kernel
theorem dX0_afterFirst_211 : decode cX0_afterFirst 211 = .ok (.iconst (-1), 1) := by decide +kernel
theorem dX0_afterFirst_212 : decode cX0_afterFirst 212 = .ok (.goto 4, 3) := by decide +kernel
theorem dX0_afterFirst_215 : decode cX0_afterFirst 215 = .ok (.iconst 0, 1) := by decide +kernel
theorem dX0_afterFirst_216 : decode cX0_afterFirst 216 = .ok (.invokevirtual 84, 3) := by decide +kernel
theorem dX0_afterFirst_219 : decode cX0_afterFirst 219 = .ok (.goto 35, 3) := by decide +kernel
theorem dX0_afterFirst_222 : decode cX0_afterFirst 222 = .ok (.iload 4, 2) := by decide +kernel
theorem dX0_afterFirst_224 : decode cX0_afterFirst 224 = .ok (.bipush 9, 2) := by decide +kernel
theorem dX0_afterFirst_226 : decode cX0_afterFirst 226 = .ok (.if_icmp .ne 21, 3) := by decide +kernel
theorem dX0_afterFirst_229 : decode cX0_afterFirst 229 = .ok (.aload_n 0, 1) := by decide +kernel
theorem dX0_afterFirst_230 : decode cX0_afterFirst 230 = .ok (.iload_n 1, 1) := by decide +kernel
theorem dX0_afterFirst_231 : decode cX0_afterFirst 231 = .ok (.iload 6, 2) := by decide +kernel
theorem dX0_afterFirst_233 : decode cX0_afterFirst 233 = .ok (.ifCond .ge 7, 3) := by decide +kernel
theorem dX0_afterFirst_236 : decode cX0_afterFirst 236 = .ok (.iconst 0, 1) := by decide +kernel
theorem dX0_afterFirst_237 : decode cX0_afterFirst 237 = .ok (.goto 4, 3) := by decide +kernel
theorem dX0_afterFirst_240 : decode cX0_afterFirst 240 = .ok (.iconst (-1), 1) := by decide +kernel
theorem dX0_afterFirst_241 : decode cX0_afterFirst 241 = .ok (.invokevirtual 84, 3) := by decide +kernel
theorem dX0_afterFirst_244 : decode cX0_afterFirst 244 = .ok (.goto 10, 3) := by decide +kernel
theorem dX0_afterFirst_247 : decode cX0_afterFirst 247 = .ok (.aload_n 0, 1) := by decide +kernel
theorem dX0_afterFirst_248 : decode cX0_afterFirst 248 = .ok (.iload_n 1, 1) := by decide +kernel
theorem dX0_afterFirst_249 : decode cX0_afterFirst 249 = .ok (.iload 6, 2) := by decide +kernel
theorem dX0_afterFirst_251 : decode cX0_afterFirst 251 = .ok (.invokevirtual 84, 3) := by decide +kernel
theorem dX0_afterFirst_254 : decode cX0_afterFirst 254 = .ok (.return_, 1) := by decide +kernel
theorem dX0_afterSecond_0 : decode cX0_afterSecond 0 = .ok (.iload 4, 2) := by decide +kernel
theorem dX0_afterSecond_2 : decode cX0_afterSecond 2 = .ok (.bipush 6, 2) := by decide +kernel
theorem dX0_afterSecond_4 : decode cX0_afterSecond 4 = .ok (.if_icmp .ne 7, 3) := by decide +kernel
theorem dX0_afterSecond_7 : decode cX0_afterSecond 7 = .ok (.iload_n 2, 1) := by decide +kernel
theorem dX0_afterSecond_8 : decode cX0_afterSecond 8 = .ok (.goto 9, 3) := by decide +kernel
theorem dX0_afterSecond_11 : decode cX0_afterSecond 11 = .ok (.aload_n 0, 1) := by decide +kernel
theorem dX0_afterSecond_12 : decode cX0_afterSecond 12 = .ok (.getfield 19, 3) := by decide +kernel
theorem dX0_afterSecond_15 : decode cX0_afterSecond 15 = .ok (.iload_n 2, 1) := by decide +kernel
theorem dX0_afterSecond_16 : decode cX0_afterSecond 16 = .ok (.iaload, 1) := by decide +kernel
theorem dX0_afterSecond_17 : decode cX0_afterSecond 17 = .ok (.istore 5, 2) := by decide +kernel
theorem dX0_afterSecond_19 : decode cX0_afterSecond 19 = .ok (.aload_n 0, 1) := by decide +kernel
theorem dX0_afterSecond_20 : decode cX0_afterSecond 20 = .ok (.getfield 31, 3) := by decide +kernel
theorem dX0_afterSecond_23 : decode cX0_afterSecond 23 = .ok (.bipush 21, 2) := by decide +kernel
theorem dX0_afterSecond_25 : decode cX0_afterSecond 25 = .ok (.iload 5, 2) := by decide +kernel
theorem dX0_afterSecond_27 : decode cX0_afterSecond 27 = .ok (.imul, 1) := by decide +kernel
theorem dX0_afterSecond_28 : decode cX0_afterSecond 28 = .ok (.iload_n 3, 1) := by decide +kernel
theorem dX0_afterSecond_29 : decode cX0_afterSecond 29 = .ok (.iadd, 1) := by decide +kernel
theorem dX0_afterSecond_30 : decode cX0_afterSecond 30 = .ok (.aload_n 0, 1) := by decide +kernel
theorem dX0_afterSecond_31 : decode cX0_afterSecond 31 = .ok (.getfield 40, 3) := by decide +kernel
theorem dX0_afterSecond_34 : decode cX0_afterSecond 34 = .ok (.iload_n 1, 1) := by decide +kernel
theorem dX0_afterSecond_35 : decode cX0_afterSecond 35 = .ok (.iaload, 1) := by decide +kernel
theorem dX0_afterSecond_36 : decode cX0_afterSecond 36 = .ok (.iadd, 1) := by decide +kernel
theorem dX0_afterSecond_37 : decode cX0_afterSecond 37 = .ok (.iaload, 1) := by decide +kernel
theorem dX0_afterSecond_38 : decode cX0_afterSecond 38 = .ok (.istore 6, 2) := by decide +kernel
theorem dX0_afterSecond_40 : decode cX0_afterSecond 40 = .ok (.aload_n 0, 1) := by decide +kernel
theorem dX0_afterSecond_41 : decode cX0_afterSecond 41 = .ok (.iload_n 1, 1) := by decide +kernel
theorem dX0_afterSecond_42 : decode cX0_afterSecond 42 = .ok (.iload 6, 2) := by decide +kernel
theorem dX0_afterSecond_44 : decode cX0_afterSecond 44 = .ok (.ifCond .ge 7, 3) := by decide +kernel
theorem dX0_afterSecond_47 : decode cX0_afterSecond 47 = .ok (.iconst (-1), 1) := by decide +kernel
theorem dX0_afterSecond_48 : decode cX0_afterSecond 48 = .ok (.goto 12, 3) := by decide +kernel
theorem dX0_afterSecond_51 : decode cX0_afterSecond 51 = .ok (.aload_n 0, 1) := by decide +kernel
theorem dX0_afterSecond_52 : decode cX0_afterSecond 52 = .ok (.getfield 40, 3) := by decide +kernel
theorem dX0_afterSecond_55 : decode cX0_afterSecond 55 = .ok (.iload_n 1, 1) := by decide +kernel
theorem dX0_afterSecond_56 : decode cX0_afterSecond 56 = .ok (.iaload, 1) := by decide +kernel
theorem dX0_afterSecond_57 : decode cX0_afterSecond 57 = .ok (.iload 6, 2) := by decide +kernel
theorem dX0_afterSecond_59 : decode cX0_afterSecond 59 = .ok (.iadd, 1) := by decide +kernel
theorem dX0_afterSecond_60 : decode cX0_afterSecond 60 = .ok (.invokevirtual 84, 3) := by decide +kernel
theorem dX0_afterSecond_63 : decode cX0_afterSecond 63 = .ok (.return_, 1) := by decide +kernel
theorem dX0_matches_0 : decode cX0_matches 0 = .ok (.iload_n 1, 1) := by decide +kernel
theorem dX0_matches_1 : decode cX0_matches 1 = .ok (.ifCond .lt 8, 3) := by decide +kernel
theorem dX0_matches_4 : decode cX0_matches 4 = .ok (.iload_n 1, 1) := by decide +kernel
theorem dX0_matches_5 : decode cX0_matches 5 = .ok (.iconst 3, 1) := by decide +kernel
theorem dX0_matches_6 : decode cX0_matches 6 = .ok (.if_icmp .le 6, 3) := by decide +kernel
theorem dX0_matches_9 : decode cX0_matches 9 = .ok (.bipush (-3), 2) := by decide +kernel
theorem dX0_matches_11 : decode cX0_matches 11 = .ok (.ireturn, 1) := by decide +kernel
theorem dX0_matches_12 : decode cX0_matches 12 = .ok (.iconst 0, 1) := by decide +kernel
theorem dX0_matches_13 : decode cX0_matches 13 = .ok (.istore_n 2, 1) := by decide +kernel
theorem dX0_matches_14 : decode cX0_matches 14 = .ok (.iconst 0, 1) := by decide +kernel
theorem dX0_matches_15 : decode cX0_matches 15 = .ok (.istore_n 3, 1) := by decide +kernel
theorem dX0_matches_16 : decode cX0_matches 16 = .ok (.iload_n 3, 1) := by decide +kernel
theorem dX0_matches_17 : decode cX0_matches 17 = .ok (.aload_n 0, 1) := by decide +kernel
theorem dX0_matches_18 : decode cX0_matches 18 = .ok (.getfield 59, 3) := by decide +kernel
theorem dX0_matches_21 : decode cX0_matches 21 = .ok (.if_icmp .gt 30, 3) := by decide +kernel
theorem dX0_matches_24 : decode cX0_matches 24 = .ok (.aload_n 0, 1) := by decide +kernel
theorem dX0_matches_25 : decode cX0_matches 25 = .ok (.iload_n 1, 1) := by decide +kernel
theorem dX0_matches_26 : decode cX0_matches 26 = .ok (.iload_n 3, 1) := by decide +kernel
theorem dX0_matches_27 : decode cX0_matches 27 = .ok (.invokevirtual 66, 3) := by decide +kernel
theorem dX0_matches_30 : decode cX0_matches 30 = .ok (.istore 4, 2) := by decide +kernel
theorem dX0_matches_32 : decode cX0_matches 32 = .ok (.iload_n 2, 1) := by decide +kernel
theorem dX0_matches_33 : decode cX0_matches 33 = .ok (.iload 4, 2) := by decide +kernel
theorem dX0_matches_35 : decode cX0_matches 35 = .ok (.ifCond .lt 7, 3) := by decide +kernel
theorem dX0_matches_38 : decode cX0_matches 38 = .ok (.iconst 1, 1) := by decide +kernel
theorem dX0_matches_39 : decode cX0_matches 39 = .ok (.goto 4, 3) := by decide +kernel
theorem dX0_matches_42 : decode cX0_matches 42 = .ok (.iconst 0, 1) := by decide +kernel
theorem dX0_matches_43 : decode cX0_matches 43 = .ok (.iadd, 1) := by decide +kernel
theorem dX0_matches_44 : decode cX0_matches 44 = .ok (.istore_n 2, 1) := by decide +kernel
theorem dX0_matches_45 : decode cX0_matches 45 = .ok (.iinc 3 1, 3) := by decide +kernel
theorem dX0_matches_48 : decode cX0_matches 48 = .ok (.goto (-32), 3) := by decide +kernel
theorem dX0_matches_51 : decode cX0_matches 51 = .ok (.iload_n 2, 1) := by decide +kernel
theorem dX0_matches_52 : decode cX0_matches 52 = .ok (.ireturn, 1) := by decide +kernel
theorem dX0_find_0 : decode cX0_find 0 = .ok (.iload_n 1, 1) := by decide +kernel
theorem dX0_find_1 : decode cX0_find 1 = .ok (.ifCond .lt 8, 3) := by decide +kernel
theorem dX0_find_4 : decode cX0_find 4 = .ok (.iload_n 1, 1) := by decide +kernel
theorem dX0_find_5 : decode cX0_find 5 = .ok (.iconst 3, 1) := by decide +kernel
theorem dX0_find_6 : decode cX0_find 6 = .ok (.if_icmp .le 6, 3) := by decide +kernel
theorem dX0_find_9 : decode cX0_find 9 = .ok (.bipush (-3), 2) := by decide +kernel
theorem dX0_find_11 : decode cX0_find 11 = .ok (.ireturn, 1) := by decide +kernel
theorem dX0_find_12 : decode cX0_find 12 = .ok (.iload_n 2, 1) := by decide +kernel
theorem dX0_find_13 : decode cX0_find 13 = .ok (.ifCond .ge 7, 3) := by decide +kernel
theorem dX0_find_16 : decode cX0_find 16 = .ok (.iconst 0, 1) := by decide +kernel
theorem dX0_find_17 : decode cX0_find 17 = .ok (.goto 4, 3) := by decide +kernel
theorem dX0_find_20 : decode cX0_find 20 = .ok (.iload_n 2, 1) := by decide +kernel
theorem dX0_find_21 : decode cX0_find 21 = .ok (.istore_n 3, 1) := by decide +kernel
theorem dX0_find_22 : decode cX0_find 22 = .ok (.iload_n 3, 1) := by decide +kernel
theorem dX0_find_23 : decode cX0_find 23 = .ok (.aload_n 0, 1) := by decide +kernel
theorem dX0_find_24 : decode cX0_find 24 = .ok (.getfield 59, 3) := by decide +kernel
theorem dX0_find_27 : decode cX0_find 27 = .ok (.if_icmp .gt 24, 3) := by decide +kernel
theorem dX0_find_30 : decode cX0_find 30 = .ok (.aload_n 0, 1) := by decide +kernel
theorem dX0_find_31 : decode cX0_find 31 = .ok (.iload_n 1, 1) := by decide +kernel
theorem dX0_find_32 : decode cX0_find 32 = .ok (.iload_n 3, 1) := by decide +kernel
theorem dX0_find_33 : decode cX0_find 33 = .ok (.invokevirtual 66, 3) := by decide +kernel
theorem dX0_find_36 : decode cX0_find 36 = .ok (.istore 4, 2) := by decide +kernel
theorem dX0_find_38 : decode cX0_find 38 = .ok (.iload 4, 2) := by decide +kernel
theorem dX0_find_40 : decode cX0_find 40 = .ok (.ifCond .lt 5, 3) := by decide +kernel
theorem dX0_find_43 : decode cX0_find 43 = .ok (.iload_n 3, 1) := by decide +kernel
theorem dX0_find_44 : decode cX0_find 44 = .ok (.ireturn, 1) := by decide +kernel
theorem dX0_find_45 : decode cX0_find 45 = .ok (.iinc 3 1, 3) := by decide +kernel
theorem dX0_find_48 : decode cX0_find 48 = .ok (.goto (-26), 3) := by decide +kernel
theorem dX0_find_51 : decode cX0_find 51 = .ok (.iconst (-1), 1) := by decide +kernel
theorem dX0_find_52 : decode cX0_find 52 = .ok (.ireturn, 1) := by decide +kernel
theorem dX0_whole_0 : decode cX0_whole 0 = .ok (.iload_n 1, 1) := by decide +kernel
theorem dX0_whole_1 : decode cX0_whole 1 = .ok (.ifCond .lt 8, 3) := by decide +kernel
theorem dX0_whole_4 : decode cX0_whole 4 = .ok (.iload_n 1, 1) := by decide +kernel
theorem dX0_whole_5 : decode cX0_whole 5 = .ok (.iconst 3, 1) := by decide +kernel
theorem dX0_whole_6 : decode cX0_whole 6 = .ok (.if_icmp .le 6, 3) := by decide +kernel
theorem dX0_whole_9 : decode cX0_whole 9 = .ok (.bipush (-3), 2) := by decide +kernel
theorem dX0_whole_11 : decode cX0_whole 11 = .ok (.ireturn, 1) := by decide +kernel
theorem dX0_whole_12 : decode cX0_whole 12 = .ok (.aload_n 0, 1) := by decide +kernel
theorem dX0_whole_13 : decode cX0_whole 13 = .ok (.iload_n 1, 1) := by decide +kernel
theorem dX0_whole_14 : decode cX0_whole 14 = .ok (.iconst 0, 1) := by decide +kernel
theorem dX0_whole_15 : decode cX0_whole 15 = .ok (.invokevirtual 66, 3) := by decide +kernel
theorem dX0_whole_18 : decode cX0_whole 18 = .ok (.istore_n 2, 1) := by decide +kernel
theorem dX0_whole_19 : decode cX0_whole 19 = .ok (.iload_n 2, 1) := by decide +kernel
theorem dX0_whole_20 : decode cX0_whole 20 = .ok (.aload_n 0, 1) := by decide +kernel
theorem dX0_whole_21 : decode cX0_whole 21 = .ok (.getfield 59, 3) := by decide +kernel
theorem dX0_whole_24 : decode cX0_whole 24 = .ok (.if_icmp .ne 7, 3) := by decide +kernel
theorem dX0_whole_27 : decode cX0_whole 27 = .ok (.iconst 1, 1) := by decide +kernel
theorem dX0_whole_28 : decode cX0_whole 28 = .ok (.goto 4, 3) := by decide +kernel
theorem dX0_whole_31 : decode cX0_whole 31 = .ok (.iconst 0, 1) := by decide +kernel
theorem dX0_whole_32 : decode cX0_whole 32 = .ok (.ireturn, 1) := by decide +kernel
theorem dX0_stuck_0 : decode cX0_stuck 0 = .ok (.iload_n 1, 1) := by decide +kernel
theorem dX0_stuck_1 : decode cX0_stuck 1 = .ok (.ifCond .lt 8, 3) := by decide +kernel
theorem dX0_stuck_4 : decode cX0_stuck 4 = .ok (.iload_n 1, 1) := by decide +kernel
theorem dX0_stuck_5 : decode cX0_stuck 5 = .ok (.iconst 3, 1) := by decide +kernel
theorem dX0_stuck_6 : decode cX0_stuck 6 = .ok (.if_icmp .le 6, 3) := by decide +kernel
theorem dX0_stuck_9 : decode cX0_stuck 9 = .ok (.bipush (-3), 2) := by decide +kernel
theorem dX0_stuck_11 : decode cX0_stuck 11 = .ok (.ireturn, 1) := by decide +kernel
theorem dX0_stuck_12 : decode cX0_stuck 12 = .ok (.iconst 0, 1) := by decide +kernel
theorem dX0_stuck_13 : decode cX0_stuck 13 = .ok (.istore_n 2, 1) := by decide +kernel
theorem dX0_stuck_14 : decode cX0_stuck 14 = .ok (.iconst 0, 1) := by decide +kernel
theorem dX0_stuck_15 : decode cX0_stuck 15 = .ok (.istore_n 3, 1) := by decide +kernel
theorem dX0_stuck_16 : decode cX0_stuck 16 = .ok (.iload_n 3, 1) := by decide +kernel
theorem dX0_stuck_17 : decode cX0_stuck 17 = .ok (.aload_n 0, 1) := by decide +kernel
theorem dX0_stuck_18 : decode cX0_stuck 18 = .ok (.getfield 59, 3) := by decide +kernel
theorem dX0_stuck_21 : decode cX0_stuck 21 = .ok (.if_icmp .gt 32, 3) := by decide +kernel
theorem dX0_stuck_24 : decode cX0_stuck 24 = .ok (.aload_n 0, 1) := by decide +kernel
theorem dX0_stuck_25 : decode cX0_stuck 25 = .ok (.iload_n 1, 1) := by decide +kernel
theorem dX0_stuck_26 : decode cX0_stuck 26 = .ok (.iload_n 3, 1) := by decide +kernel
theorem dX0_stuck_27 : decode cX0_stuck 27 = .ok (.invokevirtual 66, 3) := by decide +kernel
theorem dX0_stuck_30 : decode cX0_stuck 30 = .ok (.istore 4, 2) := by decide +kernel
theorem dX0_stuck_32 : decode cX0_stuck 32 = .ok (.iload_n 2, 1) := by decide +kernel
theorem dX0_stuck_33 : decode cX0_stuck 33 = .ok (.iload 4, 2) := by decide +kernel
theorem dX0_stuck_35 : decode cX0_stuck 35 = .ok (.bipush (-2), 2) := by decide +kernel
theorem dX0_stuck_37 : decode cX0_stuck 37 = .ok (.if_icmp .ne 7, 3) := by decide +kernel
theorem dX0_stuck_40 : decode cX0_stuck 40 = .ok (.iconst 1, 1) := by decide +kernel
theorem dX0_stuck_41 : decode cX0_stuck 41 = .ok (.goto 4, 3) := by decide +kernel
theorem dX0_stuck_44 : decode cX0_stuck 44 = .ok (.iconst 0, 1) := by decide +kernel
theorem dX0_stuck_45 : decode cX0_stuck 45 = .ok (.iadd, 1) := by decide +kernel
theorem dX0_stuck_46 : decode cX0_stuck 46 = .ok (.istore_n 2, 1) := by decide +kernel
theorem dX0_stuck_47 : decode cX0_stuck 47 = .ok (.iinc 3 1, 3) := by decide +kernel
theorem dX0_stuck_50 : decode cX0_stuck 50 = .ok (.goto (-34), 3) := by decide +kernel
theorem dX0_stuck_53 : decode cX0_stuck 53 = .ok (.iload_n 2, 1) := by decide +kernel
theorem dX0_stuck_54 : decode cX0_stuck 54 = .ok (.ireturn, 1) := by decide +kernel
end
section
set_option maxRecDepth 100000
theorem dX1_init_0 : decode cX1_init 0 = .ok (.aload_n 0, 1) := by decide +kernel
theorem dX1_init_1 : decode cX1_init 1 = .ok (.invokespecial 1, 3) := by decide +kernel
theorem dX1_init_4 : decode cX1_init 4 = .ok (.aload_n 0, 1) := by decide +kernel
theorem dX1_init_5 : decode cX1_init 5 = .ok (.bipush 40, 2) := by decide +kernel
theorem dX1_init_7 : decode cX1_init 7 = .ok (.newarray .int, 2) := by decide +kernel
theorem dX1_init_9 : decode cX1_init 9 = .ok (.putfield 7, 3) := by decide +kernel
theorem dX1_init_12 : decode cX1_init 12 = .ok (.aload_n 0, 1) := by decide +kernel
theorem dX1_init_13 : decode cX1_init 13 = .ok (.bipush 40, 2) := by decide +kernel
theorem dX1_init_15 : decode cX1_init 15 = .ok (.newarray .int, 2) := by decide +kernel
theorem dX1_init_17 : decode cX1_init 17 = .ok (.putfield 13, 3) := by decide +kernel
theorem dX1_init_20 : decode cX1_init 20 = .ok (.aload_n 0, 1) := by decide +kernel
theorem dX1_init_21 : decode cX1_init 21 = .ok (.bipush 40, 2) := by decide +kernel
theorem dX1_init_23 : decode cX1_init 23 = .ok (.newarray .int, 2) := by decide +kernel
theorem dX1_init_25 : decode cX1_init 25 = .ok (.putfield 16, 3) := by decide +kernel
theorem dX1_init_28 : decode cX1_init 28 = .ok (.aload_n 0, 1) := by decide +kernel
theorem dX1_init_29 : decode cX1_init 29 = .ok (.bipush 40, 2) := by decide +kernel
theorem dX1_init_31 : decode cX1_init 31 = .ok (.newarray .int, 2) := by decide +kernel
theorem dX1_init_33 : decode cX1_init 33 = .ok (.putfield 19, 3) := by decide +kernel
theorem dX1_init_36 : decode cX1_init 36 = .ok (.aload_n 0, 1) := by decide +kernel
theorem dX1_init_37 : decode cX1_init 37 = .ok (.bipush 40, 2) := by decide +kernel
theorem dX1_init_39 : decode cX1_init 39 = .ok (.newarray .int, 2) := by decide +kernel
theorem dX1_init_41 : decode cX1_init 41 = .ok (.putfield 22, 3) := by decide +kernel
theorem dX1_init_44 : decode cX1_init 44 = .ok (.aload_n 0, 1) := by decide +kernel
theorem dX1_init_45 : decode cX1_init 45 = .ok (.iconst 4, 1) := by decide +kernel
theorem dX1_init_46 : decode cX1_init 46 = .ok (.newarray .int, 2) := by decide +kernel
theorem dX1_init_48 : decode cX1_init 48 = .ok (.putfield 25, 3) := by decide +kernel
theorem dX1_init_51 : decode cX1_init 51 = .ok (.aload_n 0, 1) := by decide +kernel
theorem dX1_init_52 : decode cX1_init 52 = .ok (.bipush 20, 2) := by decide +kernel
theorem dX1_init_54 : decode cX1_init 54 = .ok (.newarray .int, 2) := by decide +kernel
theorem dX1_init_56 : decode cX1_init 56 = .ok (.putfield 28, 3) := by decide +kernel
theorem dX1_init_59 : decode cX1_init 59 = .ok (.aload_n 0, 1) := by decide +kernel
theorem dX1_init_60 : decode cX1_init 60 = .ok (.sipush 840, 3) := by decide +kernel
theorem dX1_init_63 : decode cX1_init 63 = .ok (.newarray .int, 2) := by decide +kernel
theorem dX1_init_65 : decode cX1_init 65 = .ok (.putfield 31, 3) := by decide +kernel
theorem dX1_init_68 : decode cX1_init 68 = .ok (.iconst 0, 1) := by decide +kernel
theorem dX1_init_69 : decode cX1_init 69 = .ok (.istore_n 1, 1) := by decide +kernel
theorem dX1_init_70 : decode cX1_init 70 = .ok (.iload_n 1, 1) := by decide +kernel
theorem dX1_init_71 : decode cX1_init 71 = .ok (.iconst 4, 1) := by decide +kernel
theorem dX1_init_72 : decode cX1_init 72 = .ok (.if_icmp .ge 16, 3) := by decide +kernel
theorem dX1_init_75 : decode cX1_init 75 = .ok (.aload_n 0, 1) := by decide +kernel
theorem dX1_init_76 : decode cX1_init 76 = .ok (.getfield 25, 3) := by decide +kernel
theorem dX1_init_79 : decode cX1_init 79 = .ok (.iload_n 1, 1) := by decide +kernel
theorem dX1_init_80 : decode cX1_init 80 = .ok (.iconst (-1), 1) := by decide +kernel
theorem dX1_init_81 : decode cX1_init 81 = .ok (.iastore, 1) := by decide +kernel
theorem dX1_init_82 : decode cX1_init 82 = .ok (.iinc 1 1, 3) := by decide +kernel
theorem dX1_init_85 : decode cX1_init 85 = .ok (.goto (-15), 3) := by decide +kernel
theorem dX1_init_88 : decode cX1_init 88 = .ok (.return_, 1) := by decide +kernel
theorem dX1_token_0 : decode cX1_token 0 = .ok (.iload_n 1, 1) := by decide +kernel
theorem dX1_token_1 : decode cX1_token 1 = .ok (.ifCond .lt 29, 3) := by decide +kernel
theorem dX1_token_4 : decode cX1_token 4 = .ok (.iload_n 1, 1) := by decide +kernel
theorem dX1_token_5 : decode cX1_token 5 = .ok (.bipush 10, 2) := by decide +kernel
theorem dX1_token_7 : decode cX1_token 7 = .ok (.if_icmp .gt 23, 3) := by decide +kernel
theorem dX1_token_10 : decode cX1_token 10 = .ok (.aload_n 0, 1) := by decide +kernel
theorem dX1_token_11 : decode cX1_token 11 = .ok (.getfield 34, 3) := by decide +kernel
theorem dX1_token_14 : decode cX1_token 14 = .ok (.iload_n 1, 1) := by decide +kernel
theorem dX1_token_15 : decode cX1_token 15 = .ok (.invokestatic 38, 3) := by decide +kernel
theorem dX1_token_18 : decode cX1_token 18 = .ok (.if_icmp .lt 12, 3) := by decide +kernel
theorem dX1_token_21 : decode cX1_token 21 = .ok (.aload_n 0, 1) := by decide +kernel
theorem dX1_token_22 : decode cX1_token 22 = .ok (.getfield 42, 3) := by decide +kernel
theorem dX1_token_25 : decode cX1_token 25 = .ok (.bipush 40, 2) := by decide +kernel
theorem dX1_token_27 : decode cX1_token 27 = .ok (.if_icmp .ne 5, 3) := by decide +kernel
theorem dX1_token_30 : decode cX1_token 30 = .ok (.iconst (-1), 1) := by decide +kernel
theorem dX1_token_31 : decode cX1_token 31 = .ok (.ireturn, 1) := by decide +kernel
theorem dX1_token_32 : decode cX1_token 32 = .ok (.aload_n 0, 1) := by decide +kernel
theorem dX1_token_33 : decode cX1_token 33 = .ok (.getfield 7, 3) := by decide +kernel
theorem dX1_token_36 : decode cX1_token 36 = .ok (.aload_n 0, 1) := by decide +kernel
theorem dX1_token_37 : decode cX1_token 37 = .ok (.getfield 42, 3) := by decide +kernel
theorem dX1_token_40 : decode cX1_token 40 = .ok (.iload_n 1, 1) := by decide +kernel
theorem dX1_token_41 : decode cX1_token 41 = .ok (.iastore, 1) := by decide +kernel
theorem dX1_token_42 : decode cX1_token 42 = .ok (.aload_n 0, 1) := by decide +kernel
theorem dX1_token_43 : decode cX1_token 43 = .ok (.getfield 13, 3) := by decide +kernel
theorem dX1_token_46 : decode cX1_token 46 = .ok (.aload_n 0, 1) := by decide +kernel
theorem dX1_token_47 : decode cX1_token 47 = .ok (.getfield 42, 3) := by decide +kernel
theorem dX1_token_50 : decode cX1_token 50 = .ok (.iload_n 2, 1) := by decide +kernel
theorem dX1_token_51 : decode cX1_token 51 = .ok (.iconst 3, 1) := by decide +kernel
theorem dX1_token_52 : decode cX1_token 52 = .ok (.iand, 1) := by decide +kernel
theorem dX1_token_53 : decode cX1_token 53 = .ok (.iastore, 1) := by decide +kernel
theorem dX1_token_54 : decode cX1_token 54 = .ok (.iload_n 1, 1) := by decide +kernel
theorem dX1_token_55 : decode cX1_token 55 = .ok (.invokestatic 38, 3) := by decide +kernel
theorem dX1_token_58 : decode cX1_token 58 = .ok (.ifCond .le 23, 3) := by decide +kernel
theorem dX1_token_61 : decode cX1_token 61 = .ok (.aload_n 0, 1) := by decide +kernel
theorem dX1_token_62 : decode cX1_token 62 = .ok (.getfield 19, 3) := by decide +kernel
theorem dX1_token_65 : decode cX1_token 65 = .ok (.aload_n 0, 1) := by decide +kernel
theorem dX1_token_66 : decode cX1_token 66 = .ok (.getfield 42, 3) := by decide +kernel
theorem dX1_token_69 : decode cX1_token 69 = .ok (.aload_n 0, 1) := by decide +kernel
theorem dX1_token_70 : decode cX1_token 70 = .ok (.getfield 22, 3) := by decide +kernel
theorem dX1_token_73 : decode cX1_token 73 = .ok (.aload_n 0, 1) := by decide +kernel
theorem dX1_token_74 : decode cX1_token 74 = .ok (.getfield 34, 3) := by decide +kernel
theorem dX1_token_77 : decode cX1_token 77 = .ok (.iconst 1, 1) := by decide +kernel
theorem dX1_token_78 : decode cX1_token 78 = .ok (.isub, 1) := by decide +kernel
theorem dX1_token_79 : decode cX1_token 79 = .ok (.iaload, 1) := by decide +kernel
theorem dX1_token_80 : decode cX1_token 80 = .ok (.iastore, 1) := by decide +kernel
theorem dX1_token_81 : decode cX1_token 81 = .ok (.iload_n 1, 1) := by decide +kernel
theorem dX1_token_82 : decode cX1_token 82 = .ok (.invokestatic 38, 3) := by decide +kernel
theorem dX1_token_85 : decode cX1_token 85 = .ok (.iconst 2, 1) := by decide +kernel
theorem dX1_token_86 : decode cX1_token 86 = .ok (.if_icmp .ne 23, 3) := by decide +kernel
theorem dX1_token_89 : decode cX1_token 89 = .ok (.aload_n 0, 1) := by decide +kernel
theorem dX1_token_90 : decode cX1_token 90 = .ok (.getfield 16, 3) := by decide +kernel
theorem dX1_token_93 : decode cX1_token 93 = .ok (.aload_n 0, 1) := by decide +kernel
theorem dX1_token_94 : decode cX1_token 94 = .ok (.getfield 42, 3) := by decide +kernel
theorem dX1_token_97 : decode cX1_token 97 = .ok (.aload_n 0, 1) := by decide +kernel
theorem dX1_token_98 : decode cX1_token 98 = .ok (.getfield 22, 3) := by decide +kernel
theorem dX1_token_101 : decode cX1_token 101 = .ok (.aload_n 0, 1) := by decide +kernel
theorem dX1_token_102 : decode cX1_token 102 = .ok (.getfield 34, 3) := by decide +kernel
theorem dX1_token_105 : decode cX1_token 105 = .ok (.iconst 2, 1) := by decide +kernel
theorem dX1_token_106 : decode cX1_token 106 = .ok (.isub, 1) := by decide +kernel
theorem dX1_token_107 : decode cX1_token 107 = .ok (.iaload, 1) := by decide +kernel
theorem dX1_token_108 : decode cX1_token 108 = .ok (.iastore, 1) := by decide +kernel
theorem dX1_token_109 : decode cX1_token 109 = .ok (.aload_n 0, 1) := by decide +kernel
theorem dX1_token_110 : decode cX1_token 110 = .ok (.dup, 1) := by decide +kernel
theorem dX1_token_111 : decode cX1_token 111 = .ok (.getfield 34, 3) := by decide +kernel
theorem dX1_token_114 : decode cX1_token 114 = .ok (.iload_n 1, 1) := by decide +kernel
theorem dX1_token_115 : decode cX1_token 115 = .ok (.invokestatic 38, 3) := by decide +kernel
theorem dX1_token_118 : decode cX1_token 118 = .ok (.isub, 1) := by decide +kernel
theorem dX1_token_119 : decode cX1_token 119 = .ok (.putfield 34, 3) := by decide +kernel
theorem dX1_token_122 : decode cX1_token 122 = .ok (.iload_n 1, 1) := by decide +kernel
theorem dX1_token_123 : decode cX1_token 123 = .ok (.bipush 10, 2) := by decide +kernel
theorem dX1_token_125 : decode cX1_token 125 = .ok (.if_icmp .ne 23, 3) := by decide +kernel
theorem dX1_token_128 : decode cX1_token 128 = .ok (.aload_n 0, 1) := by decide +kernel
theorem dX1_token_129 : decode cX1_token 129 = .ok (.getfield 25, 3) := by decide +kernel
theorem dX1_token_132 : decode cX1_token 132 = .ok (.iload_n 2, 1) := by decide +kernel
theorem dX1_token_133 : decode cX1_token 133 = .ok (.iconst 3, 1) := by decide +kernel
theorem dX1_token_134 : decode cX1_token 134 = .ok (.iand, 1) := by decide +kernel
theorem dX1_token_135 : decode cX1_token 135 = .ok (.aload_n 0, 1) := by decide +kernel
theorem dX1_token_136 : decode cX1_token 136 = .ok (.getfield 19, 3) := by decide +kernel
theorem dX1_token_139 : decode cX1_token 139 = .ok (.aload_n 0, 1) := by decide +kernel
theorem dX1_token_140 : decode cX1_token 140 = .ok (.getfield 42, 3) := by decide +kernel
theorem dX1_token_143 : decode cX1_token 143 = .ok (.iaload, 1) := by decide +kernel
theorem dX1_token_144 : decode cX1_token 144 = .ok (.iastore, 1) := by decide +kernel
theorem dX1_token_145 : decode cX1_token 145 = .ok (.goto 26, 3) := by decide +kernel
theorem dX1_token_148 : decode cX1_token 148 = .ok (.aload_n 0, 1) := by decide +kernel
theorem dX1_token_149 : decode cX1_token 149 = .ok (.getfield 22, 3) := by decide +kernel
theorem dX1_token_152 : decode cX1_token 152 = .ok (.aload_n 0, 1) := by decide +kernel
theorem dX1_token_153 : decode cX1_token 153 = .ok (.getfield 34, 3) := by decide +kernel
theorem dX1_token_156 : decode cX1_token 156 = .ok (.aload_n 0, 1) := by decide +kernel
theorem dX1_token_157 : decode cX1_token 157 = .ok (.getfield 42, 3) := by decide +kernel
theorem dX1_token_160 : decode cX1_token 160 = .ok (.iastore, 1) := by decide +kernel
theorem dX1_token_161 : decode cX1_token 161 = .ok (.aload_n 0, 1) := by decide +kernel
theorem dX1_token_162 : decode cX1_token 162 = .ok (.dup, 1) := by decide +kernel
theorem dX1_token_163 : decode cX1_token 163 = .ok (.getfield 34, 3) := by decide +kernel
theorem dX1_token_166 : decode cX1_token 166 = .ok (.iconst 1, 1) := by decide +kernel
theorem dX1_token_167 : decode cX1_token 167 = .ok (.iadd, 1) := by decide +kernel
theorem dX1_token_168 : decode cX1_token 168 = .ok (.putfield 34, 3) := by decide +kernel
theorem dX1_token_171 : decode cX1_token 171 = .ok (.aload_n 0, 1) := by decide +kernel
theorem dX1_token_172 : decode cX1_token 172 = .ok (.dup, 1) := by decide +kernel
theorem dX1_token_173 : decode cX1_token 173 = .ok (.getfield 42, 3) := by decide +kernel
theorem dX1_token_176 : decode cX1_token 176 = .ok (.iconst 1, 1) := by decide +kernel
theorem dX1_token_177 : decode cX1_token 177 = .ok (.iadd, 1) := by decide +kernel
theorem dX1_token_178 : decode cX1_token 178 = .ok (.putfield 42, 3) := by decide +kernel
theorem dX1_token_181 : decode cX1_token 181 = .ok (.aload_n 0, 1) := by decide +kernel
theorem dX1_token_182 : decode cX1_token 182 = .ok (.getfield 34, 3) := by decide +kernel
theorem dX1_token_185 : decode cX1_token 185 = .ok (.ireturn, 1) := by decide +kernel
theorem dX1_takes_0 : decode cX1_takes 0 = .ok (.iload_n 0, 1) := by decide +kernel
theorem dX1_takes_1 : decode cX1_takes 1 = .ok (.iconst 3, 1) := by decide +kernel
theorem dX1_takes_2 : decode cX1_takes 2 = .ok (.if_icmp .gt 7, 3) := by decide +kernel
theorem dX1_takes_5 : decode cX1_takes 5 = .ok (.iconst 0, 1) := by decide +kernel
theorem dX1_takes_6 : decode cX1_takes 6 = .ok (.goto 13, 3) := by decide +kernel
theorem dX1_takes_9 : decode cX1_takes 9 = .ok (.iload_n 0, 1) := by decide +kernel
theorem dX1_takes_10 : decode cX1_takes 10 = .ok (.iconst 5, 1) := by decide +kernel
theorem dX1_takes_11 : decode cX1_takes 11 = .ok (.if_icmp .gt 7, 3) := by decide +kernel
theorem dX1_takes_14 : decode cX1_takes 14 = .ok (.iconst 2, 1) := by decide +kernel
theorem dX1_takes_15 : decode cX1_takes 15 = .ok (.goto 4, 3) := by decide +kernel
theorem dX1_takes_18 : decode cX1_takes 18 = .ok (.iconst 1, 1) := by decide +kernel
theorem dX1_takes_19 : decode cX1_takes 19 = .ok (.ireturn, 1) := by decide +kernel
theorem dX1_clear_0 : decode cX1_clear 0 = .ok (.aload_n 0, 1) := by decide +kernel
theorem dX1_clear_1 : decode cX1_clear 1 = .ok (.iconst 0, 1) := by decide +kernel
theorem dX1_clear_2 : decode cX1_clear 2 = .ok (.putfield 42, 3) := by decide +kernel
theorem dX1_clear_5 : decode cX1_clear 5 = .ok (.aload_n 0, 1) := by decide +kernel
theorem dX1_clear_6 : decode cX1_clear 6 = .ok (.iconst 0, 1) := by decide +kernel
theorem dX1_clear_7 : decode cX1_clear 7 = .ok (.putfield 34, 3) := by decide +kernel
theorem dX1_clear_10 : decode cX1_clear 10 = .ok (.iconst 0, 1) := by decide +kernel
theorem dX1_clear_11 : decode cX1_clear 11 = .ok (.istore_n 1, 1) := by decide +kernel
theorem dX1_clear_12 : decode cX1_clear 12 = .ok (.iload_n 1, 1) := by decide +kernel
theorem dX1_clear_13 : decode cX1_clear 13 = .ok (.iconst 4, 1) := by decide +kernel
theorem dX1_clear_14 : decode cX1_clear 14 = .ok (.if_icmp .ge 16, 3) := by decide +kernel
theorem dX1_clear_17 : decode cX1_clear 17 = .ok (.aload_n 0, 1) := by decide +kernel
theorem dX1_clear_18 : decode cX1_clear 18 = .ok (.getfield 25, 3) := by decide +kernel
theorem dX1_clear_21 : decode cX1_clear 21 = .ok (.iload_n 1, 1) := by decide +kernel
theorem dX1_clear_22 : decode cX1_clear 22 = .ok (.iconst (-1), 1) := by decide +kernel
theorem dX1_clear_23 : decode cX1_clear 23 = .ok (.iastore, 1) := by decide +kernel
theorem dX1_clear_24 : decode cX1_clear 24 = .ok (.iinc 1 1, 3) := by decide +kernel
theorem dX1_clear_27 : decode cX1_clear 27 = .ok (.goto (-15), 3) := by decide +kernel
theorem dX1_clear_30 : decode cX1_clear 30 = .ok (.return_, 1) := by decide +kernel
theorem dX1_type_0 : decode cX1_type 0 = .ok (.aload_n 0, 1) := by decide +kernel
theorem dX1_type_1 : decode cX1_type 1 = .ok (.getfield 45, 3) := by decide +kernel
theorem dX1_type_4 : decode cX1_type 4 = .ok (.bipush 20, 2) := by decide +kernel
theorem dX1_type_6 : decode cX1_type 6 = .ok (.if_icmp .ne 5, 3) := by decide +kernel
theorem dX1_type_9 : decode cX1_type 9 = .ok (.iconst (-1), 1) := by decide +kernel
theorem dX1_type_10 : decode cX1_type 10 = .ok (.ireturn, 1) := by decide +kernel
theorem dX1_type_11 : decode cX1_type 11 = .ok (.aload_n 0, 1) := by decide +kernel
theorem dX1_type_12 : decode cX1_type 12 = .ok (.getfield 28, 3) := by decide +kernel
theorem dX1_type_15 : decode cX1_type 15 = .ok (.aload_n 0, 1) := by decide +kernel
theorem dX1_type_16 : decode cX1_type 16 = .ok (.getfield 45, 3) := by decide +kernel
theorem dX1_type_19 : decode cX1_type 19 = .ok (.iload_n 1, 1) := by decide +kernel
theorem dX1_type_20 : decode cX1_type 20 = .ok (.iconst 3, 1) := by decide +kernel
theorem dX1_type_21 : decode cX1_type 21 = .ok (.iand, 1) := by decide +kernel
theorem dX1_type_22 : decode cX1_type 22 = .ok (.iastore, 1) := by decide +kernel
theorem dX1_type_23 : decode cX1_type 23 = .ok (.aload_n 0, 1) := by decide +kernel
theorem dX1_type_24 : decode cX1_type 24 = .ok (.dup, 1) := by decide +kernel
theorem dX1_type_25 : decode cX1_type 25 = .ok (.getfield 45, 3) := by decide +kernel
theorem dX1_type_28 : decode cX1_type 28 = .ok (.iconst 1, 1) := by decide +kernel
theorem dX1_type_29 : decode cX1_type 29 = .ok (.iadd, 1) := by decide +kernel
theorem dX1_type_30 : decode cX1_type 30 = .ok (.putfield 45, 3) := by decide +kernel
theorem dX1_type_33 : decode cX1_type 33 = .ok (.aload_n 0, 1) := by decide +kernel
theorem dX1_type_34 : decode cX1_type 34 = .ok (.getfield 45, 3) := by decide +kernel
theorem dX1_type_37 : decode cX1_type 37 = .ok (.ireturn, 1) := by decide +kernel
theorem dX1_erase_0 : decode cX1_erase 0 = .ok (.aload_n 0, 1) := by decide +kernel
theorem dX1_erase_1 : decode cX1_erase 1 = .ok (.iconst 0, 1) := by decide +kernel
theorem dX1_erase_2 : decode cX1_erase 2 = .ok (.putfield 45, 3) := by decide +kernel
theorem dX1_erase_5 : decode cX1_erase 5 = .ok (.return_, 1) := by decide +kernel
theorem dX1_match_0 : decode cX1_match 0 = .ok (.iload_n 1, 1) := by decide +kernel
theorem dX1_match_1 : decode cX1_match 1 = .ok (.invokestatic 59, 3) := by decide +kernel
theorem dX1_match_4 : decode cX1_match 4 = .ok (.ifCond .ne 15, 3) := by decide +kernel
theorem dX1_match_7 : decode cX1_match 7 = .ok (.iload_n 2, 1) := by decide +kernel
theorem dX1_match_8 : decode cX1_match 8 = .ok (.ifCond .lt 11, 3) := by decide +kernel
theorem dX1_match_11 : decode cX1_match 11 = .ok (.iload_n 2, 1) := by decide +kernel
theorem dX1_match_12 : decode cX1_match 12 = .ok (.aload_n 0, 1) := by decide +kernel
theorem dX1_match_13 : decode cX1_match 13 = .ok (.getfield 45, 3) := by decide +kernel
theorem dX1_match_16 : decode cX1_match 16 = .ok (.if_icmp .le 6, 3) := by decide +kernel
theorem dX1_match_19 : decode cX1_match 19 = .ok (.bipush (-3), 2) := by decide +kernel
theorem dX1_match_21 : decode cX1_match 21 = .ok (.ireturn, 1) := by decide +kernel
theorem dX1_match_22 : decode cX1_match 22 = .ok (.aload_n 0, 1) := by decide +kernel
theorem dX1_match_23 : decode cX1_match 23 = .ok (.invokevirtual 63, 3) := by decide +kernel
theorem dX1_match_26 : decode cX1_match 26 = .ok (.aload_n 0, 1) := by decide +kernel
theorem dX1_match_27 : decode cX1_match 27 = .ok (.iload_n 1, 1) := by decide +kernel
theorem dX1_match_28 : decode cX1_match 28 = .ok (.iload_n 2, 1) := by decide +kernel
theorem dX1_match_29 : decode cX1_match 29 = .ok (.invokevirtual 48, 3) := by decide +kernel
theorem dX1_match_32 : decode cX1_match 32 = .ok (.ireturn, 1) := by decide +kernel
theorem dX1_bad_0 : decode cX1_bad 0 = .ok (.iload_n 0, 1) := by decide +kernel
theorem dX1_bad_1 : decode cX1_bad 1 = .ok (.ifCond .lt 8, 3) := by decide +kernel
theorem dX1_bad_4 : decode cX1_bad 4 = .ok (.iload_n 0, 1) := by decide +kernel
theorem dX1_bad_5 : decode cX1_bad 5 = .ok (.iconst 3, 1) := by decide +kernel
theorem dX1_bad_6 : decode cX1_bad 6 = .ok (.if_icmp .le 7, 3) := by decide +kernel
theorem dX1_bad_9 : decode cX1_bad 9 = .ok (.iconst 1, 1) := by decide +kernel
theorem dX1_bad_10 : decode cX1_bad 10 = .ok (.goto 4, 3) := by decide +kernel
theorem dX1_bad_13 : decode cX1_bad 13 = .ok (.iconst 0, 1) := by decide +kernel
theorem dX1_bad_14 : decode cX1_bad 14 = .ok (.ireturn, 1) := by decide +kernel
theorem dX1_work_0 : decode cX1_work 0 = .ok (.iconst 0, 1) := by decide +kernel
theorem dX1_work_1 : decode cX1_work 1 = .ok (.istore_n 1, 1) := by decide +kernel
theorem dX1_work_2 : decode cX1_work 2 = .ok (.iload_n 1, 1) := by decide +kernel
theorem dX1_work_3 : decode cX1_work 3 = .ok (.sipush 840, 3) := by decide +kernel
theorem dX1_work_6 : decode cX1_work 6 = .ok (.if_icmp .ge 17, 3) := by decide +kernel
theorem dX1_work_9 : decode cX1_work 9 = .ok (.aload_n 0, 1) := by decide +kernel
theorem dX1_work_10 : decode cX1_work 10 = .ok (.getfield 31, 3) := by decide +kernel
theorem dX1_work_13 : decode cX1_work 13 = .ok (.iload_n 1, 1) := by decide +kernel
theorem dX1_work_14 : decode cX1_work 14 = .ok (.bipush (-2), 2) := by decide +kernel
theorem dX1_work_16 : decode cX1_work 16 = .ok (.iastore, 1) := by decide +kernel
theorem dX1_work_17 : decode cX1_work 17 = .ok (.iinc 1 1, 3) := by decide +kernel
theorem dX1_work_20 : decode cX1_work 20 = .ok (.goto (-18), 3) := by decide +kernel
theorem dX1_work_23 : decode cX1_work 23 = .ok (.iconst 1, 1) := by decide +kernel
theorem dX1_work_24 : decode cX1_work 24 = .ok (.istore_n 1, 1) := by decide +kernel
theorem dX1_work_25 : decode cX1_work 25 = .ok (.iload_n 1, 1) := by decide +kernel
theorem dX1_work_26 : decode cX1_work 26 = .ok (.ifCond .eq 84, 3) := by decide +kernel
theorem dX1_work_29 : decode cX1_work 29 = .ok (.iconst 0, 1) := by decide +kernel
theorem dX1_work_30 : decode cX1_work 30 = .ok (.istore_n 1, 1) := by decide +kernel
theorem dX1_work_31 : decode cX1_work 31 = .ok (.iconst 0, 1) := by decide +kernel
theorem dX1_work_32 : decode cX1_work 32 = .ok (.istore_n 2, 1) := by decide +kernel
theorem dX1_work_33 : decode cX1_work 33 = .ok (.iload_n 2, 1) := by decide +kernel
theorem dX1_work_34 : decode cX1_work 34 = .ok (.bipush 21, 2) := by decide +kernel
theorem dX1_work_36 : decode cX1_work 36 = .ok (.aload_n 0, 1) := by decide +kernel
theorem dX1_work_37 : decode cX1_work 37 = .ok (.getfield 42, 3) := by decide +kernel
theorem dX1_work_40 : decode cX1_work 40 = .ok (.imul, 1) := by decide +kernel
theorem dX1_work_41 : decode cX1_work 41 = .ok (.if_icmp .ge 66, 3) := by decide +kernel
theorem dX1_work_44 : decode cX1_work 44 = .ok (.iload_n 2, 1) := by decide +kernel
theorem dX1_work_45 : decode cX1_work 45 = .ok (.bipush 21, 2) := by decide +kernel
theorem dX1_work_47 : decode cX1_work 47 = .ok (.irem, 1) := by decide +kernel
theorem dX1_work_48 : decode cX1_work 48 = .ok (.istore_n 3, 1) := by decide +kernel
theorem dX1_work_49 : decode cX1_work 49 = .ok (.aload_n 0, 1) := by decide +kernel
theorem dX1_work_50 : decode cX1_work 50 = .ok (.getfield 31, 3) := by decide +kernel
theorem dX1_work_53 : decode cX1_work 53 = .ok (.iload_n 2, 1) := by decide +kernel
theorem dX1_work_54 : decode cX1_work 54 = .ok (.iaload, 1) := by decide +kernel
theorem dX1_work_55 : decode cX1_work 55 = .ok (.bipush (-2), 2) := by decide +kernel
theorem dX1_work_57 : decode cX1_work 57 = .ok (.if_icmp .ne 23, 3) := by decide +kernel
theorem dX1_work_60 : decode cX1_work 60 = .ok (.iload_n 3, 1) := by decide +kernel
theorem dX1_work_61 : decode cX1_work 61 = .ok (.aload_n 0, 1) := by decide +kernel
theorem dX1_work_62 : decode cX1_work 62 = .ok (.getfield 45, 3) := by decide +kernel
theorem dX1_work_65 : decode cX1_work 65 = .ok (.if_icmp .gt 15, 3) := by decide +kernel
theorem dX1_work_68 : decode cX1_work 68 = .ok (.aload_n 0, 1) := by decide +kernel
theorem dX1_work_69 : decode cX1_work 69 = .ok (.iload_n 2, 1) := by decide +kernel
theorem dX1_work_70 : decode cX1_work 70 = .ok (.bipush 21, 2) := by decide +kernel
theorem dX1_work_72 : decode cX1_work 72 = .ok (.idiv, 1) := by decide +kernel
theorem dX1_work_73 : decode cX1_work 73 = .ok (.iload_n 3, 1) := by decide +kernel
theorem dX1_work_74 : decode cX1_work 74 = .ok (.invokevirtual 56, 3) := by decide +kernel
theorem dX1_work_77 : decode cX1_work 77 = .ok (.goto 5, 3) := by decide +kernel
theorem dX1_work_80 : decode cX1_work 80 = .ok (.bipush (-2), 2) := by decide +kernel
theorem dX1_work_82 : decode cX1_work 82 = .ok (.istore 4, 2) := by decide +kernel
theorem dX1_work_84 : decode cX1_work 84 = .ok (.iload 4, 2) := by decide +kernel
theorem dX1_work_86 : decode cX1_work 86 = .ok (.bipush (-2), 2) := by decide +kernel
theorem dX1_work_88 : decode cX1_work 88 = .ok (.if_icmp .eq 13, 3) := by decide +kernel
theorem dX1_work_91 : decode cX1_work 91 = .ok (.aload_n 0, 1) := by decide +kernel
theorem dX1_work_92 : decode cX1_work 92 = .ok (.getfield 31, 3) := by decide +kernel
theorem dX1_work_95 : decode cX1_work 95 = .ok (.iload_n 2, 1) := by decide +kernel
theorem dX1_work_96 : decode cX1_work 96 = .ok (.iload 4, 2) := by decide +kernel
theorem dX1_work_98 : decode cX1_work 98 = .ok (.iastore, 1) := by decide +kernel
theorem dX1_work_99 : decode cX1_work 99 = .ok (.iconst 1, 1) := by decide +kernel
theorem dX1_work_100 : decode cX1_work 100 = .ok (.istore_n 1, 1) := by decide +kernel
theorem dX1_work_101 : decode cX1_work 101 = .ok (.iinc 2 1, 3) := by decide +kernel
theorem dX1_work_104 : decode cX1_work 104 = .ok (.goto (-71), 3) := by decide +kernel
theorem dX1_work_107 : decode cX1_work 107 = .ok (.goto (-82), 3) := by decide +kernel
theorem dX1_work_110 : decode cX1_work 110 = .ok (.return_, 1) := by decide +kernel
end
section
set_option maxRecDepth 100000
theorem dX1_follows_0 : decode cX1_follows 0 = .ok (.aload_n 0, 1) := by decide +kernel
theorem dX1_follows_1 : decode cX1_follows 1 = .ok (.getfield 7, 3) := by decide +kernel
theorem dX1_follows_4 : decode cX1_follows 4 = .ok (.iload_n 1, 1) := by decide +kernel
theorem dX1_follows_5 : decode cX1_follows 5 = .ok (.iaload, 1) := by decide +kernel
theorem dX1_follows_6 : decode cX1_follows 6 = .ok (.istore_n 3, 1) := by decide +kernel
theorem dX1_follows_7 : decode cX1_follows 7 = .ok (.aload_n 0, 1) := by decide +kernel
theorem dX1_follows_8 : decode cX1_follows 8 = .ok (.getfield 31, 3) := by decide +kernel
theorem dX1_follows_11 : decode cX1_follows 11 = .ok (.bipush 21, 2) := by decide +kernel
theorem dX1_follows_13 : decode cX1_follows 13 = .ok (.aload_n 0, 1) := by decide +kernel
theorem dX1_follows_14 : decode cX1_follows 14 = .ok (.getfield 19, 3) := by decide +kernel
theorem dX1_follows_17 : decode cX1_follows 17 = .ok (.iload_n 1, 1) := by decide +kernel
theorem dX1_follows_18 : decode cX1_follows 18 = .ok (.iaload, 1) := by decide +kernel
theorem dX1_follows_19 : decode cX1_follows 19 = .ok (.imul, 1) := by decide +kernel
theorem dX1_follows_20 : decode cX1_follows 20 = .ok (.iload_n 2, 1) := by decide +kernel
theorem dX1_follows_21 : decode cX1_follows 21 = .ok (.iadd, 1) := by decide +kernel
theorem dX1_follows_22 : decode cX1_follows 22 = .ok (.iaload, 1) := by decide +kernel
theorem dX1_follows_23 : decode cX1_follows 23 = .ok (.istore 4, 2) := by decide +kernel
theorem dX1_follows_25 : decode cX1_follows 25 = .ok (.iload_n 3, 1) := by decide +kernel
theorem dX1_follows_26 : decode cX1_follows 26 = .ok (.ifCond .ne 32, 3) := by decide +kernel
theorem dX1_follows_29 : decode cX1_follows 29 = .ok (.iload_n 2, 1) := by decide +kernel
theorem dX1_follows_30 : decode cX1_follows 30 = .ok (.aload_n 0, 1) := by decide +kernel
theorem dX1_follows_31 : decode cX1_follows 31 = .ok (.getfield 45, 3) := by decide +kernel
theorem dX1_follows_34 : decode cX1_follows 34 = .ok (.if_icmp .ge 22, 3) := by decide +kernel
theorem dX1_follows_37 : decode cX1_follows 37 = .ok (.aload_n 0, 1) := by decide +kernel
theorem dX1_follows_38 : decode cX1_follows 38 = .ok (.getfield 28, 3) := by decide +kernel
theorem dX1_follows_41 : decode cX1_follows 41 = .ok (.iload_n 2, 1) := by decide +kernel
theorem dX1_follows_42 : decode cX1_follows 42 = .ok (.iaload, 1) := by decide +kernel
theorem dX1_follows_43 : decode cX1_follows 43 = .ok (.aload_n 0, 1) := by decide +kernel
theorem dX1_follows_44 : decode cX1_follows 44 = .ok (.getfield 13, 3) := by decide +kernel
theorem dX1_follows_47 : decode cX1_follows 47 = .ok (.iload_n 1, 1) := by decide +kernel
theorem dX1_follows_48 : decode cX1_follows 48 = .ok (.iaload, 1) := by decide +kernel
theorem dX1_follows_49 : decode cX1_follows 49 = .ok (.if_icmp .ne 7, 3) := by decide +kernel
theorem dX1_follows_52 : decode cX1_follows 52 = .ok (.iconst 1, 1) := by decide +kernel
theorem dX1_follows_53 : decode cX1_follows 53 = .ok (.goto 4, 3) := by decide +kernel
theorem dX1_follows_56 : decode cX1_follows 56 = .ok (.iconst (-1), 1) := by decide +kernel
theorem dX1_follows_57 : decode cX1_follows 57 = .ok (.ireturn, 1) := by decide +kernel
theorem dX1_follows_58 : decode cX1_follows 58 = .ok (.iload_n 3, 1) := by decide +kernel
theorem dX1_follows_59 : decode cX1_follows 59 = .ok (.iconst 1, 1) := by decide +kernel
theorem dX1_follows_60 : decode cX1_follows 60 = .ok (.if_icmp .ne 17, 3) := by decide +kernel
theorem dX1_follows_63 : decode cX1_follows 63 = .ok (.iload_n 2, 1) := by decide +kernel
theorem dX1_follows_64 : decode cX1_follows 64 = .ok (.aload_n 0, 1) := by decide +kernel
theorem dX1_follows_65 : decode cX1_follows 65 = .ok (.getfield 45, 3) := by decide +kernel
theorem dX1_follows_68 : decode cX1_follows 68 = .ok (.if_icmp .ge 7, 3) := by decide +kernel
theorem dX1_follows_71 : decode cX1_follows 71 = .ok (.iconst 1, 1) := by decide +kernel
theorem dX1_follows_72 : decode cX1_follows 72 = .ok (.goto 4, 3) := by decide +kernel
theorem dX1_follows_75 : decode cX1_follows 75 = .ok (.iconst (-1), 1) := by decide +kernel
theorem dX1_follows_76 : decode cX1_follows 76 = .ok (.ireturn, 1) := by decide +kernel
theorem dX1_follows_77 : decode cX1_follows 77 = .ok (.iload_n 3, 1) := by decide +kernel
theorem dX1_follows_78 : decode cX1_follows 78 = .ok (.iconst 2, 1) := by decide +kernel
theorem dX1_follows_79 : decode cX1_follows 79 = .ok (.if_icmp .ne 5, 3) := by decide +kernel
theorem dX1_follows_82 : decode cX1_follows 82 = .ok (.iconst 0, 1) := by decide +kernel
theorem dX1_follows_83 : decode cX1_follows 83 = .ok (.ireturn, 1) := by decide +kernel
theorem dX1_follows_84 : decode cX1_follows 84 = .ok (.iload_n 3, 1) := by decide +kernel
theorem dX1_follows_85 : decode cX1_follows 85 = .ok (.iconst 3, 1) := by decide +kernel
theorem dX1_follows_86 : decode cX1_follows 86 = .ok (.if_icmp .ne 15, 3) := by decide +kernel
theorem dX1_follows_89 : decode cX1_follows 89 = .ok (.aload_n 0, 1) := by decide +kernel
theorem dX1_follows_90 : decode cX1_follows 90 = .ok (.aload_n 0, 1) := by decide +kernel
theorem dX1_follows_91 : decode cX1_follows 91 = .ok (.getfield 13, 3) := by decide +kernel
theorem dX1_follows_94 : decode cX1_follows 94 = .ok (.iload_n 1, 1) := by decide +kernel
theorem dX1_follows_95 : decode cX1_follows 95 = .ok (.iaload, 1) := by decide +kernel
theorem dX1_follows_96 : decode cX1_follows 96 = .ok (.iload_n 2, 1) := by decide +kernel
theorem dX1_follows_97 : decode cX1_follows 97 = .ok (.invokevirtual 48, 3) := by decide +kernel
theorem dX1_follows_100 : decode cX1_follows 100 = .ok (.ireturn, 1) := by decide +kernel
theorem dX1_follows_101 : decode cX1_follows 101 = .ok (.iload_n 3, 1) := by decide +kernel
theorem dX1_follows_102 : decode cX1_follows 102 = .ok (.iconst 4, 1) := by decide +kernel
theorem dX1_follows_103 : decode cX1_follows 103 = .ok (.if_icmp .ne 21, 3) := by decide +kernel
theorem dX1_follows_106 : decode cX1_follows 106 = .ok (.aload_n 0, 1) := by decide +kernel
theorem dX1_follows_107 : decode cX1_follows 107 = .ok (.aload_n 0, 1) := by decide +kernel
theorem dX1_follows_108 : decode cX1_follows 108 = .ok (.getfield 16, 3) := by decide +kernel
theorem dX1_follows_111 : decode cX1_follows 111 = .ok (.iload_n 1, 1) := by decide +kernel
theorem dX1_follows_112 : decode cX1_follows 112 = .ok (.iaload, 1) := by decide +kernel
theorem dX1_follows_113 : decode cX1_follows 113 = .ok (.aload_n 0, 1) := by decide +kernel
theorem dX1_follows_114 : decode cX1_follows 114 = .ok (.getfield 19, 3) := by decide +kernel
theorem dX1_follows_117 : decode cX1_follows 117 = .ok (.iload_n 1, 1) := by decide +kernel
theorem dX1_follows_118 : decode cX1_follows 118 = .ok (.iaload, 1) := by decide +kernel
theorem dX1_follows_119 : decode cX1_follows 119 = .ok (.iload_n 2, 1) := by decide +kernel
theorem dX1_follows_120 : decode cX1_follows 120 = .ok (.invokevirtual 52, 3) := by decide +kernel
theorem dX1_follows_123 : decode cX1_follows 123 = .ok (.ireturn, 1) := by decide +kernel
theorem dX1_follows_124 : decode cX1_follows 124 = .ok (.iload_n 3, 1) := by decide +kernel
theorem dX1_follows_125 : decode cX1_follows 125 = .ok (.iconst 5, 1) := by decide +kernel
theorem dX1_follows_126 : decode cX1_follows 126 = .ok (.if_icmp .ne 35, 3) := by decide +kernel
theorem dX1_follows_129 : decode cX1_follows 129 = .ok (.aload_n 0, 1) := by decide +kernel
theorem dX1_follows_130 : decode cX1_follows 130 = .ok (.getfield 31, 3) := by decide +kernel
theorem dX1_follows_133 : decode cX1_follows 133 = .ok (.bipush 21, 2) := by decide +kernel
theorem dX1_follows_135 : decode cX1_follows 135 = .ok (.aload_n 0, 1) := by decide +kernel
theorem dX1_follows_136 : decode cX1_follows 136 = .ok (.getfield 16, 3) := by decide +kernel
theorem dX1_follows_139 : decode cX1_follows 139 = .ok (.iload_n 1, 1) := by decide +kernel
theorem dX1_follows_140 : decode cX1_follows 140 = .ok (.iaload, 1) := by decide +kernel
theorem dX1_follows_141 : decode cX1_follows 141 = .ok (.imul, 1) := by decide +kernel
theorem dX1_follows_142 : decode cX1_follows 142 = .ok (.iload_n 2, 1) := by decide +kernel
theorem dX1_follows_143 : decode cX1_follows 143 = .ok (.iadd, 1) := by decide +kernel
theorem dX1_follows_144 : decode cX1_follows 144 = .ok (.iaload, 1) := by decide +kernel
theorem dX1_follows_145 : decode cX1_follows 145 = .ok (.istore 5, 2) := by decide +kernel
theorem dX1_follows_147 : decode cX1_follows 147 = .ok (.iload 5, 2) := by decide +kernel
theorem dX1_follows_149 : decode cX1_follows 149 = .ok (.iconst (-1), 1) := by decide +kernel
theorem dX1_follows_150 : decode cX1_follows 150 = .ok (.if_icmp .ne 8, 3) := by decide +kernel
theorem dX1_follows_153 : decode cX1_follows 153 = .ok (.iload 4, 2) := by decide +kernel
theorem dX1_follows_155 : decode cX1_follows 155 = .ok (.goto 5, 3) := by decide +kernel
theorem dX1_follows_158 : decode cX1_follows 158 = .ok (.iload 5, 2) := by decide +kernel
theorem dX1_follows_160 : decode cX1_follows 160 = .ok (.ireturn, 1) := by decide +kernel
theorem dX1_follows_161 : decode cX1_follows 161 = .ok (.iload 4, 2) := by decide +kernel
theorem dX1_follows_163 : decode cX1_follows 163 = .ok (.bipush (-2), 2) := by decide +kernel
theorem dX1_follows_165 : decode cX1_follows 165 = .ok (.if_icmp .ne 6, 3) := by decide +kernel
theorem dX1_follows_168 : decode cX1_follows 168 = .ok (.bipush (-2), 2) := by decide +kernel
theorem dX1_follows_170 : decode cX1_follows 170 = .ok (.ireturn, 1) := by decide +kernel
theorem dX1_follows_171 : decode cX1_follows 171 = .ok (.iload_n 3, 1) := by decide +kernel
theorem dX1_follows_172 : decode cX1_follows 172 = .ok (.bipush 6, 2) := by decide +kernel
theorem dX1_follows_174 : decode cX1_follows 174 = .ok (.if_icmp .ne 25, 3) := by decide +kernel
theorem dX1_follows_177 : decode cX1_follows 177 = .ok (.iload 4, 2) := by decide +kernel
theorem dX1_follows_179 : decode cX1_follows 179 = .ok (.ifCond .gt 7, 3) := by decide +kernel
theorem dX1_follows_182 : decode cX1_follows 182 = .ok (.iconst 0, 1) := by decide +kernel
theorem dX1_follows_183 : decode cX1_follows 183 = .ok (.goto 15, 3) := by decide +kernel
theorem dX1_follows_186 : decode cX1_follows 186 = .ok (.aload_n 0, 1) := by decide +kernel
theorem dX1_follows_187 : decode cX1_follows 187 = .ok (.aload_n 0, 1) := by decide +kernel
theorem dX1_follows_188 : decode cX1_follows 188 = .ok (.getfield 19, 3) := by decide +kernel
theorem dX1_follows_191 : decode cX1_follows 191 = .ok (.iload_n 1, 1) := by decide +kernel
theorem dX1_follows_192 : decode cX1_follows 192 = .ok (.iaload, 1) := by decide +kernel
theorem dX1_follows_193 : decode cX1_follows 193 = .ok (.iload_n 1, 1) := by decide +kernel
theorem dX1_follows_194 : decode cX1_follows 194 = .ok (.iload_n 2, 1) := by decide +kernel
theorem dX1_follows_195 : decode cX1_follows 195 = .ok (.invokevirtual 52, 3) := by decide +kernel
theorem dX1_follows_198 : decode cX1_follows 198 = .ok (.ireturn, 1) := by decide +kernel
theorem dX1_follows_199 : decode cX1_follows 199 = .ok (.iload_n 3, 1) := by decide +kernel
theorem dX1_follows_200 : decode cX1_follows 200 = .ok (.bipush 7, 2) := by decide +kernel
theorem dX1_follows_202 : decode cX1_follows 202 = .ok (.if_icmp .ne 15, 3) := by decide +kernel
theorem dX1_follows_205 : decode cX1_follows 205 = .ok (.iload 4, 2) := by decide +kernel
theorem dX1_follows_207 : decode cX1_follows 207 = .ok (.ifCond .ge 7, 3) := by decide +kernel
theorem dX1_follows_210 : decode cX1_follows 210 = .ok (.iconst 0, 1) := by decide +kernel
theorem dX1_follows_211 : decode cX1_follows 211 = .ok (.goto 5, 3) := by decide +kernel
theorem dX1_follows_214 : decode cX1_follows 214 = .ok (.iload 4, 2) := by decide +kernel
theorem dX1_follows_216 : decode cX1_follows 216 = .ok (.ireturn, 1) := by decide +kernel
theorem dX1_follows_217 : decode cX1_follows 217 = .ok (.iload_n 3, 1) := by decide +kernel
theorem dX1_follows_218 : decode cX1_follows 218 = .ok (.bipush 8, 2) := by decide +kernel
theorem dX1_follows_220 : decode cX1_follows 220 = .ok (.if_icmp .ne 14, 3) := by decide +kernel
theorem dX1_follows_223 : decode cX1_follows 223 = .ok (.iload 4, 2) := by decide +kernel
theorem dX1_follows_225 : decode cX1_follows 225 = .ok (.ifCond .ge 7, 3) := by decide +kernel
theorem dX1_follows_228 : decode cX1_follows 228 = .ok (.iconst (-1), 1) := by decide +kernel
theorem dX1_follows_229 : decode cX1_follows 229 = .ok (.goto 4, 3) := by decide +kernel
theorem dX1_follows_232 : decode cX1_follows 232 = .ok (.iconst 0, 1) := by decide +kernel
theorem dX1_follows_233 : decode cX1_follows 233 = .ok (.ireturn, 1) := by decide +kernel
theorem dX1_follows_234 : decode cX1_follows 234 = .ok (.iload_n 3, 1) := by decide +kernel
theorem dX1_follows_235 : decode cX1_follows 235 = .ok (.bipush 9, 2) := by decide +kernel
theorem dX1_follows_237 : decode cX1_follows 237 = .ok (.if_icmp .ne 14, 3) := by decide +kernel
theorem dX1_follows_240 : decode cX1_follows 240 = .ok (.iload 4, 2) := by decide +kernel
theorem dX1_follows_242 : decode cX1_follows 242 = .ok (.ifCond .ge 7, 3) := by decide +kernel
theorem dX1_follows_245 : decode cX1_follows 245 = .ok (.iconst 0, 1) := by decide +kernel
theorem dX1_follows_246 : decode cX1_follows 246 = .ok (.goto 4, 3) := by decide +kernel
theorem dX1_follows_249 : decode cX1_follows 249 = .ok (.iconst (-1), 1) := by decide +kernel
theorem dX1_follows_250 : decode cX1_follows 250 = .ok (.ireturn, 1) := by decide +kernel
theorem dX1_follows_251 : decode cX1_follows 251 = .ok (.bipush (-2), 2) := by decide +kernel
theorem dX1_follows_253 : decode cX1_follows 253 = .ok (.ireturn, 1) := by decide +kernel
theorem dX1_called_0 : decode cX1_called 0 = .ok (.aload_n 0, 1) := by decide +kernel
theorem dX1_called_1 : decode cX1_called 1 = .ok (.getfield 25, 3) := by decide +kernel
theorem dX1_called_4 : decode cX1_called 4 = .ok (.iload_n 1, 1) := by decide +kernel
theorem dX1_called_5 : decode cX1_called 5 = .ok (.iaload, 1) := by decide +kernel
theorem dX1_called_6 : decode cX1_called 6 = .ok (.ifCond .ge 7, 3) := by decide +kernel
theorem dX1_called_9 : decode cX1_called 9 = .ok (.iconst (-1), 1) := by decide +kernel
theorem dX1_called_10 : decode cX1_called 10 = .ok (.goto 19, 3) := by decide +kernel
theorem dX1_called_13 : decode cX1_called 13 = .ok (.aload_n 0, 1) := by decide +kernel
theorem dX1_called_14 : decode cX1_called 14 = .ok (.getfield 31, 3) := by decide +kernel
theorem dX1_called_17 : decode cX1_called 17 = .ok (.bipush 21, 2) := by decide +kernel
theorem dX1_called_19 : decode cX1_called 19 = .ok (.aload_n 0, 1) := by decide +kernel
theorem dX1_called_20 : decode cX1_called 20 = .ok (.getfield 25, 3) := by decide +kernel
theorem dX1_called_23 : decode cX1_called 23 = .ok (.iload_n 1, 1) := by decide +kernel
theorem dX1_called_24 : decode cX1_called 24 = .ok (.iaload, 1) := by decide +kernel
theorem dX1_called_25 : decode cX1_called 25 = .ok (.imul, 1) := by decide +kernel
theorem dX1_called_26 : decode cX1_called 26 = .ok (.iload_n 2, 1) := by decide +kernel
theorem dX1_called_27 : decode cX1_called 27 = .ok (.iadd, 1) := by decide +kernel
theorem dX1_called_28 : decode cX1_called 28 = .ok (.iaload, 1) := by decide +kernel
theorem dX1_called_29 : decode cX1_called 29 = .ok (.ireturn, 1) := by decide +kernel
theorem dX1_joined_0 : decode cX1_joined 0 = .ok (.aload_n 0, 1) := by decide +kernel
theorem dX1_joined_1 : decode cX1_joined 1 = .ok (.getfield 31, 3) := by decide +kernel
theorem dX1_joined_4 : decode cX1_joined 4 = .ok (.bipush 21, 2) := by decide +kernel
theorem dX1_joined_6 : decode cX1_joined 6 = .ok (.iload_n 1, 1) := by decide +kernel
theorem dX1_joined_7 : decode cX1_joined 7 = .ok (.imul, 1) := by decide +kernel
theorem dX1_joined_8 : decode cX1_joined 8 = .ok (.iload_n 3, 1) := by decide +kernel
theorem dX1_joined_9 : decode cX1_joined 9 = .ok (.iadd, 1) := by decide +kernel
theorem dX1_joined_10 : decode cX1_joined 10 = .ok (.iaload, 1) := by decide +kernel
theorem dX1_joined_11 : decode cX1_joined 11 = .ok (.istore 4, 2) := by decide +kernel
theorem dX1_joined_13 : decode cX1_joined 13 = .ok (.iload 4, 2) := by decide +kernel
theorem dX1_joined_15 : decode cX1_joined 15 = .ok (.ifCond .ge 6, 3) := by decide +kernel
theorem dX1_joined_18 : decode cX1_joined 18 = .ok (.iload 4, 2) := by decide +kernel
theorem dX1_joined_20 : decode cX1_joined 20 = .ok (.ireturn, 1) := by decide +kernel
theorem dX1_joined_21 : decode cX1_joined 21 = .ok (.aload_n 0, 1) := by decide +kernel
theorem dX1_joined_22 : decode cX1_joined 22 = .ok (.getfield 31, 3) := by decide +kernel
theorem dX1_joined_25 : decode cX1_joined 25 = .ok (.bipush 21, 2) := by decide +kernel
theorem dX1_joined_27 : decode cX1_joined 27 = .ok (.iload_n 2, 1) := by decide +kernel
theorem dX1_joined_28 : decode cX1_joined 28 = .ok (.imul, 1) := by decide +kernel
theorem dX1_joined_29 : decode cX1_joined 29 = .ok (.iload_n 3, 1) := by decide +kernel
theorem dX1_joined_30 : decode cX1_joined 30 = .ok (.iadd, 1) := by decide +kernel
theorem dX1_joined_31 : decode cX1_joined 31 = .ok (.iload 4, 2) := by decide +kernel
theorem dX1_joined_33 : decode cX1_joined 33 = .ok (.iadd, 1) := by decide +kernel
theorem dX1_joined_34 : decode cX1_joined 34 = .ok (.iaload, 1) := by decide +kernel
theorem dX1_joined_35 : decode cX1_joined 35 = .ok (.istore 5, 2) := by decide +kernel
theorem dX1_joined_37 : decode cX1_joined 37 = .ok (.iload 5, 2) := by decide +kernel
theorem dX1_joined_39 : decode cX1_joined 39 = .ok (.ifCond .ge 8, 3) := by decide +kernel
theorem dX1_joined_42 : decode cX1_joined 42 = .ok (.iload 5, 2) := by decide +kernel
theorem dX1_joined_44 : decode cX1_joined 44 = .ok (.goto 8, 3) := by decide +kernel
theorem dX1_joined_47 : decode cX1_joined 47 = .ok (.iload 4, 2) := by decide +kernel
theorem dX1_joined_49 : decode cX1_joined 49 = .ok (.iload 5, 2) := by decide +kernel
theorem dX1_joined_51 : decode cX1_joined 51 = .ok (.iadd, 1) := by decide +kernel
theorem dX1_joined_52 : decode cX1_joined 52 = .ok (.ireturn, 1) := by decide +kernel
theorem dX1_matches_0 : decode cX1_matches 0 = .ok (.iload_n 1, 1) := by decide +kernel
theorem dX1_matches_1 : decode cX1_matches 1 = .ok (.invokestatic 59, 3) := by decide +kernel
theorem dX1_matches_4 : decode cX1_matches 4 = .ok (.ifCond .eq 6, 3) := by decide +kernel
theorem dX1_matches_7 : decode cX1_matches 7 = .ok (.bipush (-3), 2) := by decide +kernel
theorem dX1_matches_9 : decode cX1_matches 9 = .ok (.ireturn, 1) := by decide +kernel
theorem dX1_matches_10 : decode cX1_matches 10 = .ok (.aload_n 0, 1) := by decide +kernel
theorem dX1_matches_11 : decode cX1_matches 11 = .ok (.invokevirtual 63, 3) := by decide +kernel
theorem dX1_matches_14 : decode cX1_matches 14 = .ok (.iconst 0, 1) := by decide +kernel
theorem dX1_matches_15 : decode cX1_matches 15 = .ok (.istore_n 2, 1) := by decide +kernel
theorem dX1_matches_16 : decode cX1_matches 16 = .ok (.iconst 0, 1) := by decide +kernel
theorem dX1_matches_17 : decode cX1_matches 17 = .ok (.istore_n 3, 1) := by decide +kernel
theorem dX1_matches_18 : decode cX1_matches 18 = .ok (.iload_n 3, 1) := by decide +kernel
theorem dX1_matches_19 : decode cX1_matches 19 = .ok (.aload_n 0, 1) := by decide +kernel
theorem dX1_matches_20 : decode cX1_matches 20 = .ok (.getfield 45, 3) := by decide +kernel
theorem dX1_matches_23 : decode cX1_matches 23 = .ok (.if_icmp .gt 21, 3) := by decide +kernel
theorem dX1_matches_26 : decode cX1_matches 26 = .ok (.aload_n 0, 1) := by decide +kernel
theorem dX1_matches_27 : decode cX1_matches 27 = .ok (.iload_n 1, 1) := by decide +kernel
theorem dX1_matches_28 : decode cX1_matches 28 = .ok (.iload_n 3, 1) := by decide +kernel
theorem dX1_matches_29 : decode cX1_matches 29 = .ok (.invokevirtual 48, 3) := by decide +kernel
theorem dX1_matches_32 : decode cX1_matches 32 = .ok (.ifCond .lt 6, 3) := by decide +kernel
theorem dX1_matches_35 : decode cX1_matches 35 = .ok (.iinc 2 1, 3) := by decide +kernel
theorem dX1_matches_38 : decode cX1_matches 38 = .ok (.iinc 3 1, 3) := by decide +kernel
theorem dX1_matches_41 : decode cX1_matches 41 = .ok (.goto (-23), 3) := by decide +kernel
theorem dX1_matches_44 : decode cX1_matches 44 = .ok (.iload_n 2, 1) := by decide +kernel
theorem dX1_matches_45 : decode cX1_matches 45 = .ok (.ireturn, 1) := by decide +kernel
theorem dX1_find_0 : decode cX1_find 0 = .ok (.iload_n 1, 1) := by decide +kernel
theorem dX1_find_1 : decode cX1_find 1 = .ok (.invokestatic 59, 3) := by decide +kernel
theorem dX1_find_4 : decode cX1_find 4 = .ok (.ifCond .eq 6, 3) := by decide +kernel
theorem dX1_find_7 : decode cX1_find 7 = .ok (.bipush (-3), 2) := by decide +kernel
theorem dX1_find_9 : decode cX1_find 9 = .ok (.ireturn, 1) := by decide +kernel
theorem dX1_find_10 : decode cX1_find 10 = .ok (.aload_n 0, 1) := by decide +kernel
theorem dX1_find_11 : decode cX1_find 11 = .ok (.invokevirtual 63, 3) := by decide +kernel
theorem dX1_find_14 : decode cX1_find 14 = .ok (.aload_n 0, 1) := by decide +kernel
theorem dX1_find_15 : decode cX1_find 15 = .ok (.iload_n 1, 1) := by decide +kernel
theorem dX1_find_16 : decode cX1_find 16 = .ok (.iload_n 2, 1) := by decide +kernel
theorem dX1_find_17 : decode cX1_find 17 = .ok (.invokevirtual 66, 3) := by decide +kernel
theorem dX1_find_20 : decode cX1_find 20 = .ok (.ireturn, 1) := by decide +kernel
theorem dX1_first_0 : decode cX1_first 0 = .ok (.iconst 0, 1) := by decide +kernel
theorem dX1_first_1 : decode cX1_first 1 = .ok (.istore_n 3, 1) := by decide +kernel
theorem dX1_first_2 : decode cX1_first 2 = .ok (.iload_n 3, 1) := by decide +kernel
theorem dX1_first_3 : decode cX1_first 3 = .ok (.aload_n 0, 1) := by decide +kernel
theorem dX1_first_4 : decode cX1_first 4 = .ok (.getfield 45, 3) := by decide +kernel
theorem dX1_first_7 : decode cX1_first 7 = .ok (.if_icmp .gt 25, 3) := by decide +kernel
theorem dX1_first_10 : decode cX1_first 10 = .ok (.iload_n 3, 1) := by decide +kernel
theorem dX1_first_11 : decode cX1_first 11 = .ok (.iload_n 2, 1) := by decide +kernel
theorem dX1_first_12 : decode cX1_first 12 = .ok (.if_icmp .lt 14, 3) := by decide +kernel
theorem dX1_first_15 : decode cX1_first 15 = .ok (.aload_n 0, 1) := by decide +kernel
theorem dX1_first_16 : decode cX1_first 16 = .ok (.iload_n 1, 1) := by decide +kernel
theorem dX1_first_17 : decode cX1_first 17 = .ok (.iload_n 3, 1) := by decide +kernel
theorem dX1_first_18 : decode cX1_first 18 = .ok (.invokevirtual 48, 3) := by decide +kernel
theorem dX1_first_21 : decode cX1_first 21 = .ok (.ifCond .lt 5, 3) := by decide +kernel
theorem dX1_first_24 : decode cX1_first 24 = .ok (.iload_n 3, 1) := by decide +kernel
theorem dX1_first_25 : decode cX1_first 25 = .ok (.ireturn, 1) := by decide +kernel
theorem dX1_first_26 : decode cX1_first 26 = .ok (.iinc 3 1, 3) := by decide +kernel
theorem dX1_first_29 : decode cX1_first 29 = .ok (.goto (-27), 3) := by decide +kernel
theorem dX1_first_32 : decode cX1_first 32 = .ok (.iconst (-1), 1) := by decide +kernel
theorem dX1_first_33 : decode cX1_first 33 = .ok (.ireturn, 1) := by decide +kernel
theorem dX1_whole_0 : decode cX1_whole 0 = .ok (.iload_n 1, 1) := by decide +kernel
theorem dX1_whole_1 : decode cX1_whole 1 = .ok (.invokestatic 59, 3) := by decide +kernel
theorem dX1_whole_4 : decode cX1_whole 4 = .ok (.ifCond .eq 6, 3) := by decide +kernel
theorem dX1_whole_7 : decode cX1_whole 7 = .ok (.bipush (-3), 2) := by decide +kernel
theorem dX1_whole_9 : decode cX1_whole 9 = .ok (.ireturn, 1) := by decide +kernel
theorem dX1_whole_10 : decode cX1_whole 10 = .ok (.aload_n 0, 1) := by decide +kernel
theorem dX1_whole_11 : decode cX1_whole 11 = .ok (.invokevirtual 63, 3) := by decide +kernel
theorem dX1_whole_14 : decode cX1_whole 14 = .ok (.aload_n 0, 1) := by decide +kernel
theorem dX1_whole_15 : decode cX1_whole 15 = .ok (.iload_n 1, 1) := by decide +kernel
theorem dX1_whole_16 : decode cX1_whole 16 = .ok (.iconst 0, 1) := by decide +kernel
theorem dX1_whole_17 : decode cX1_whole 17 = .ok (.invokevirtual 48, 3) := by decide +kernel
theorem dX1_whole_20 : decode cX1_whole 20 = .ok (.aload_n 0, 1) := by decide +kernel
theorem dX1_whole_21 : decode cX1_whole 21 = .ok (.getfield 45, 3) := by decide +kernel
theorem dX1_whole_24 : decode cX1_whole 24 = .ok (.if_icmp .ne 7, 3) := by decide +kernel
theorem dX1_whole_27 : decode cX1_whole 27 = .ok (.iconst 1, 1) := by decide +kernel
theorem dX1_whole_28 : decode cX1_whole 28 = .ok (.goto 4, 3) := by decide +kernel
theorem dX1_whole_31 : decode cX1_whole 31 = .ok (.iconst 0, 1) := by decide +kernel
theorem dX1_whole_32 : decode cX1_whole 32 = .ok (.ireturn, 1) := by decide +kernel
theorem dX1_stuck_0 : decode cX1_stuck 0 = .ok (.iload_n 1, 1) := by decide +kernel
theorem dX1_stuck_1 : decode cX1_stuck 1 = .ok (.invokestatic 59, 3) := by decide +kernel
theorem dX1_stuck_4 : decode cX1_stuck 4 = .ok (.ifCond .eq 6, 3) := by decide +kernel
theorem dX1_stuck_7 : decode cX1_stuck 7 = .ok (.bipush (-3), 2) := by decide +kernel
theorem dX1_stuck_9 : decode cX1_stuck 9 = .ok (.ireturn, 1) := by decide +kernel
theorem dX1_stuck_10 : decode cX1_stuck 10 = .ok (.aload_n 0, 1) := by decide +kernel
theorem dX1_stuck_11 : decode cX1_stuck 11 = .ok (.invokevirtual 63, 3) := by decide +kernel
theorem dX1_stuck_14 : decode cX1_stuck 14 = .ok (.iconst 0, 1) := by decide +kernel
theorem dX1_stuck_15 : decode cX1_stuck 15 = .ok (.istore_n 2, 1) := by decide +kernel
theorem dX1_stuck_16 : decode cX1_stuck 16 = .ok (.iconst 0, 1) := by decide +kernel
theorem dX1_stuck_17 : decode cX1_stuck 17 = .ok (.istore_n 3, 1) := by decide +kernel
theorem dX1_stuck_18 : decode cX1_stuck 18 = .ok (.iload_n 3, 1) := by decide +kernel
theorem dX1_stuck_19 : decode cX1_stuck 19 = .ok (.aload_n 0, 1) := by decide +kernel
theorem dX1_stuck_20 : decode cX1_stuck 20 = .ok (.getfield 45, 3) := by decide +kernel
theorem dX1_stuck_23 : decode cX1_stuck 23 = .ok (.if_icmp .gt 23, 3) := by decide +kernel
theorem dX1_stuck_26 : decode cX1_stuck 26 = .ok (.aload_n 0, 1) := by decide +kernel
theorem dX1_stuck_27 : decode cX1_stuck 27 = .ok (.iload_n 1, 1) := by decide +kernel
theorem dX1_stuck_28 : decode cX1_stuck 28 = .ok (.iload_n 3, 1) := by decide +kernel
theorem dX1_stuck_29 : decode cX1_stuck 29 = .ok (.invokevirtual 48, 3) := by decide +kernel
theorem dX1_stuck_32 : decode cX1_stuck 32 = .ok (.bipush (-2), 2) := by decide +kernel
theorem dX1_stuck_34 : decode cX1_stuck 34 = .ok (.if_icmp .ne 6, 3) := by decide +kernel
theorem dX1_stuck_37 : decode cX1_stuck 37 = .ok (.iinc 2 1, 3) := by decide +kernel
theorem dX1_stuck_40 : decode cX1_stuck 40 = .ok (.iinc 3 1, 3) := by decide +kernel
theorem dX1_stuck_43 : decode cX1_stuck 43 = .ok (.goto (-25), 3) := by decide +kernel
theorem dX1_stuck_46 : decode cX1_stuck 46 = .ok (.iload_n 2, 1) := by decide +kernel
theorem dX1_stuck_47 : decode cX1_stuck 47 = .ok (.ireturn, 1) := by decide +kernel
end
section
set_option maxRecDepth 100000
theorem dL_law_0 : decode cL_law 0 = .ok (.new 7, 3) := by decide +kernel
theorem dL_law_3 : decode cL_law 3 = .ok (.dup, 1) := by decide +kernel
theorem dL_law_4 : decode cL_law 4 = .ok (.invokespecial 9, 3) := by decide +kernel
theorem dL_law_7 : decode cL_law 7 = .ok (.astore_n 1, 1) := by decide +kernel
theorem dL_law_8 : decode cL_law 8 = .ok (.new 10, 3) := by decide +kernel
theorem dL_law_11 : decode cL_law 11 = .ok (.dup, 1) := by decide +kernel
theorem dL_law_12 : decode cL_law 12 = .ok (.invokespecial 12, 3) := by decide +kernel
theorem dL_law_15 : decode cL_law 15 = .ok (.astore_n 2, 1) := by decide +kernel
theorem dL_law_16 : decode cL_law 16 = .ok (.iconst 0, 1) := by decide +kernel
theorem dL_law_17 : decode cL_law 17 = .ok (.istore_n 3, 1) := by decide +kernel
theorem dL_law_18 : decode cL_law 18 = .ok (.iload_n 3, 1) := by decide +kernel
theorem dL_law_19 : decode cL_law 19 = .ok (.aload_n 0, 1) := by decide +kernel
theorem dL_law_20 : decode cL_law 20 = .ok (.arraylength, 1) := by decide +kernel
theorem dL_law_21 : decode cL_law 21 = .ok (.iconst 3, 1) := by decide +kernel
theorem dL_law_22 : decode cL_law 22 = .ok (.isub, 1) := by decide +kernel
theorem dL_law_23 : decode cL_law 23 = .ok (.if_icmp .gt 280, 3) := by decide +kernel
theorem dL_law_26 : decode cL_law 26 = .ok (.aload_n 0, 1) := by decide +kernel
theorem dL_law_27 : decode cL_law 27 = .ok (.iload_n 3, 1) := by decide +kernel
theorem dL_law_28 : decode cL_law 28 = .ok (.iaload, 1) := by decide +kernel
theorem dL_law_29 : decode cL_law 29 = .ok (.bipush 15, 2) := by decide +kernel
theorem dL_law_31 : decode cL_law 31 = .ok (.iand, 1) := by decide +kernel
theorem dL_law_32 : decode cL_law 32 = .ok (.tableswitch 265 0 8 #[52, 85, 96, 119, 130, 163, 186, 219, 242], 52) := by decide +kernel
theorem dL_law_84 : decode cL_law 84 = .ok (.aload_n 1, 1) := by decide +kernel
theorem dL_law_85 : decode cL_law 85 = .ok (.aload_n 0, 1) := by decide +kernel
theorem dL_law_86 : decode cL_law 86 = .ok (.iload_n 3, 1) := by decide +kernel
theorem dL_law_87 : decode cL_law 87 = .ok (.iconst 1, 1) := by decide +kernel
theorem dL_law_88 : decode cL_law 88 = .ok (.iadd, 1) := by decide +kernel
theorem dL_law_89 : decode cL_law 89 = .ok (.iaload, 1) := by decide +kernel
theorem dL_law_90 : decode cL_law 90 = .ok (.aload_n 0, 1) := by decide +kernel
theorem dL_law_91 : decode cL_law 91 = .ok (.iload_n 3, 1) := by decide +kernel
theorem dL_law_92 : decode cL_law 92 = .ok (.iconst 2, 1) := by decide +kernel
theorem dL_law_93 : decode cL_law 93 = .ok (.iadd, 1) := by decide +kernel
theorem dL_law_94 : decode cL_law 94 = .ok (.iaload, 1) := by decide +kernel
theorem dL_law_95 : decode cL_law 95 = .ok (.invokevirtual 13, 3) := by decide +kernel
theorem dL_law_98 : decode cL_law 98 = .ok (.aload_n 2, 1) := by decide +kernel
theorem dL_law_99 : decode cL_law 99 = .ok (.aload_n 0, 1) := by decide +kernel
theorem dL_law_100 : decode cL_law 100 = .ok (.iload_n 3, 1) := by decide +kernel
theorem dL_law_101 : decode cL_law 101 = .ok (.iconst 1, 1) := by decide +kernel
theorem dL_law_102 : decode cL_law 102 = .ok (.iadd, 1) := by decide +kernel
theorem dL_law_103 : decode cL_law 103 = .ok (.iaload, 1) := by decide +kernel
theorem dL_law_104 : decode cL_law 104 = .ok (.aload_n 0, 1) := by decide +kernel
theorem dL_law_105 : decode cL_law 105 = .ok (.iload_n 3, 1) := by decide +kernel
theorem dL_law_106 : decode cL_law 106 = .ok (.iconst 2, 1) := by decide +kernel
theorem dL_law_107 : decode cL_law 107 = .ok (.iadd, 1) := by decide +kernel
theorem dL_law_108 : decode cL_law 108 = .ok (.iaload, 1) := by decide +kernel
theorem dL_law_109 : decode cL_law 109 = .ok (.invokevirtual 17, 3) := by decide +kernel
theorem dL_law_112 : decode cL_law 112 = .ok (.if_icmp .eq 185, 3) := by decide +kernel
theorem dL_law_115 : decode cL_law 115 = .ok (.iconst 0, 1) := by decide +kernel
theorem dL_law_116 : decode cL_law 116 = .ok (.ireturn, 1) := by decide +kernel
theorem dL_law_117 : decode cL_law 117 = .ok (.aload_n 1, 1) := by decide +kernel
theorem dL_law_118 : decode cL_law 118 = .ok (.invokevirtual 18, 3) := by decide +kernel
theorem dL_law_121 : decode cL_law 121 = .ok (.aload_n 2, 1) := by decide +kernel
theorem dL_law_122 : decode cL_law 122 = .ok (.invokevirtual 21, 3) := by decide +kernel
theorem dL_law_125 : decode cL_law 125 = .ok (.goto 172, 3) := by decide +kernel
theorem dL_law_128 : decode cL_law 128 = .ok (.aload_n 1, 1) := by decide +kernel
theorem dL_law_129 : decode cL_law 129 = .ok (.aload_n 0, 1) := by decide +kernel
theorem dL_law_130 : decode cL_law 130 = .ok (.iload_n 3, 1) := by decide +kernel
theorem dL_law_131 : decode cL_law 131 = .ok (.iconst 1, 1) := by decide +kernel
theorem dL_law_132 : decode cL_law 132 = .ok (.iadd, 1) := by decide +kernel
theorem dL_law_133 : decode cL_law 133 = .ok (.iaload, 1) := by decide +kernel
theorem dL_law_134 : decode cL_law 134 = .ok (.invokevirtual 22, 3) := by decide +kernel
theorem dL_law_137 : decode cL_law 137 = .ok (.aload_n 2, 1) := by decide +kernel
theorem dL_law_138 : decode cL_law 138 = .ok (.aload_n 0, 1) := by decide +kernel
theorem dL_law_139 : decode cL_law 139 = .ok (.iload_n 3, 1) := by decide +kernel
theorem dL_law_140 : decode cL_law 140 = .ok (.iconst 1, 1) := by decide +kernel
theorem dL_law_141 : decode cL_law 141 = .ok (.iadd, 1) := by decide +kernel
theorem dL_law_142 : decode cL_law 142 = .ok (.iaload, 1) := by decide +kernel
theorem dL_law_143 : decode cL_law 143 = .ok (.invokevirtual 26, 3) := by decide +kernel
theorem dL_law_146 : decode cL_law 146 = .ok (.if_icmp .eq 151, 3) := by decide +kernel
theorem dL_law_149 : decode cL_law 149 = .ok (.iconst 0, 1) := by decide +kernel
theorem dL_law_150 : decode cL_law 150 = .ok (.ireturn, 1) := by decide +kernel
theorem dL_law_151 : decode cL_law 151 = .ok (.aload_n 1, 1) := by decide +kernel
theorem dL_law_152 : decode cL_law 152 = .ok (.invokevirtual 27, 3) := by decide +kernel
theorem dL_law_155 : decode cL_law 155 = .ok (.aload_n 2, 1) := by decide +kernel
theorem dL_law_156 : decode cL_law 156 = .ok (.invokevirtual 30, 3) := by decide +kernel
theorem dL_law_159 : decode cL_law 159 = .ok (.goto 138, 3) := by decide +kernel
theorem dL_law_162 : decode cL_law 162 = .ok (.aload_n 1, 1) := by decide +kernel
theorem dL_law_163 : decode cL_law 163 = .ok (.aload_n 0, 1) := by decide +kernel
theorem dL_law_164 : decode cL_law 164 = .ok (.iload_n 3, 1) := by decide +kernel
theorem dL_law_165 : decode cL_law 165 = .ok (.iconst 1, 1) := by decide +kernel
theorem dL_law_166 : decode cL_law 166 = .ok (.iadd, 1) := by decide +kernel
theorem dL_law_167 : decode cL_law 167 = .ok (.iaload, 1) := by decide +kernel
theorem dL_law_168 : decode cL_law 168 = .ok (.aload_n 0, 1) := by decide +kernel
theorem dL_law_169 : decode cL_law 169 = .ok (.iload_n 3, 1) := by decide +kernel
theorem dL_law_170 : decode cL_law 170 = .ok (.iconst 2, 1) := by decide +kernel
theorem dL_law_171 : decode cL_law 171 = .ok (.iadd, 1) := by decide +kernel
theorem dL_law_172 : decode cL_law 172 = .ok (.iaload, 1) := by decide +kernel
theorem dL_law_173 : decode cL_law 173 = .ok (.invokevirtual 31, 3) := by decide +kernel
theorem dL_law_176 : decode cL_law 176 = .ok (.aload_n 2, 1) := by decide +kernel
theorem dL_law_177 : decode cL_law 177 = .ok (.aload_n 0, 1) := by decide +kernel
theorem dL_law_178 : decode cL_law 178 = .ok (.iload_n 3, 1) := by decide +kernel
theorem dL_law_179 : decode cL_law 179 = .ok (.iconst 1, 1) := by decide +kernel
theorem dL_law_180 : decode cL_law 180 = .ok (.iadd, 1) := by decide +kernel
theorem dL_law_181 : decode cL_law 181 = .ok (.iaload, 1) := by decide +kernel
theorem dL_law_182 : decode cL_law 182 = .ok (.aload_n 0, 1) := by decide +kernel
theorem dL_law_183 : decode cL_law 183 = .ok (.iload_n 3, 1) := by decide +kernel
theorem dL_law_184 : decode cL_law 184 = .ok (.iconst 2, 1) := by decide +kernel
theorem dL_law_185 : decode cL_law 185 = .ok (.iadd, 1) := by decide +kernel
theorem dL_law_186 : decode cL_law 186 = .ok (.iaload, 1) := by decide +kernel
theorem dL_law_187 : decode cL_law 187 = .ok (.invokevirtual 34, 3) := by decide +kernel
theorem dL_law_190 : decode cL_law 190 = .ok (.if_icmp .eq 107, 3) := by decide +kernel
theorem dL_law_193 : decode cL_law 193 = .ok (.iconst 0, 1) := by decide +kernel
theorem dL_law_194 : decode cL_law 194 = .ok (.ireturn, 1) := by decide +kernel
theorem dL_law_195 : decode cL_law 195 = .ok (.aload_n 1, 1) := by decide +kernel
theorem dL_law_196 : decode cL_law 196 = .ok (.aload_n 0, 1) := by decide +kernel
theorem dL_law_197 : decode cL_law 197 = .ok (.iload_n 3, 1) := by decide +kernel
theorem dL_law_198 : decode cL_law 198 = .ok (.iconst 1, 1) := by decide +kernel
theorem dL_law_199 : decode cL_law 199 = .ok (.iadd, 1) := by decide +kernel
theorem dL_law_200 : decode cL_law 200 = .ok (.iaload, 1) := by decide +kernel
theorem dL_law_201 : decode cL_law 201 = .ok (.invokevirtual 35, 3) := by decide +kernel
theorem dL_law_204 : decode cL_law 204 = .ok (.aload_n 2, 1) := by decide +kernel
theorem dL_law_205 : decode cL_law 205 = .ok (.aload_n 0, 1) := by decide +kernel
theorem dL_law_206 : decode cL_law 206 = .ok (.iload_n 3, 1) := by decide +kernel
theorem dL_law_207 : decode cL_law 207 = .ok (.iconst 1, 1) := by decide +kernel
theorem dL_law_208 : decode cL_law 208 = .ok (.iadd, 1) := by decide +kernel
theorem dL_law_209 : decode cL_law 209 = .ok (.iaload, 1) := by decide +kernel
theorem dL_law_210 : decode cL_law 210 = .ok (.invokevirtual 38, 3) := by decide +kernel
theorem dL_law_213 : decode cL_law 213 = .ok (.if_icmp .eq 84, 3) := by decide +kernel
theorem dL_law_216 : decode cL_law 216 = .ok (.iconst 0, 1) := by decide +kernel
theorem dL_law_217 : decode cL_law 217 = .ok (.ireturn, 1) := by decide +kernel
theorem dL_law_218 : decode cL_law 218 = .ok (.aload_n 1, 1) := by decide +kernel
theorem dL_law_219 : decode cL_law 219 = .ok (.aload_n 0, 1) := by decide +kernel
theorem dL_law_220 : decode cL_law 220 = .ok (.iload_n 3, 1) := by decide +kernel
theorem dL_law_221 : decode cL_law 221 = .ok (.iconst 1, 1) := by decide +kernel
theorem dL_law_222 : decode cL_law 222 = .ok (.iadd, 1) := by decide +kernel
theorem dL_law_223 : decode cL_law 223 = .ok (.iaload, 1) := by decide +kernel
theorem dL_law_224 : decode cL_law 224 = .ok (.aload_n 0, 1) := by decide +kernel
theorem dL_law_225 : decode cL_law 225 = .ok (.iload_n 3, 1) := by decide +kernel
theorem dL_law_226 : decode cL_law 226 = .ok (.iconst 2, 1) := by decide +kernel
theorem dL_law_227 : decode cL_law 227 = .ok (.iadd, 1) := by decide +kernel
theorem dL_law_228 : decode cL_law 228 = .ok (.iaload, 1) := by decide +kernel
theorem dL_law_229 : decode cL_law 229 = .ok (.invokevirtual 39, 3) := by decide +kernel
theorem dL_law_232 : decode cL_law 232 = .ok (.aload_n 2, 1) := by decide +kernel
theorem dL_law_233 : decode cL_law 233 = .ok (.aload_n 0, 1) := by decide +kernel
theorem dL_law_234 : decode cL_law 234 = .ok (.iload_n 3, 1) := by decide +kernel
theorem dL_law_235 : decode cL_law 235 = .ok (.iconst 1, 1) := by decide +kernel
theorem dL_law_236 : decode cL_law 236 = .ok (.iadd, 1) := by decide +kernel
theorem dL_law_237 : decode cL_law 237 = .ok (.iaload, 1) := by decide +kernel
theorem dL_law_238 : decode cL_law 238 = .ok (.aload_n 0, 1) := by decide +kernel
theorem dL_law_239 : decode cL_law 239 = .ok (.iload_n 3, 1) := by decide +kernel
theorem dL_law_240 : decode cL_law 240 = .ok (.iconst 2, 1) := by decide +kernel
theorem dL_law_241 : decode cL_law 241 = .ok (.iadd, 1) := by decide +kernel
theorem dL_law_242 : decode cL_law 242 = .ok (.iaload, 1) := by decide +kernel
theorem dL_law_243 : decode cL_law 243 = .ok (.invokevirtual 42, 3) := by decide +kernel
theorem dL_law_246 : decode cL_law 246 = .ok (.if_icmp .eq 51, 3) := by decide +kernel
theorem dL_law_249 : decode cL_law 249 = .ok (.iconst 0, 1) := by decide +kernel
theorem dL_law_250 : decode cL_law 250 = .ok (.ireturn, 1) := by decide +kernel
theorem dL_law_251 : decode cL_law 251 = .ok (.aload_n 1, 1) := by decide +kernel
theorem dL_law_252 : decode cL_law 252 = .ok (.aload_n 0, 1) := by decide +kernel
theorem dL_law_253 : decode cL_law 253 = .ok (.iload_n 3, 1) := by decide +kernel
theorem dL_law_254 : decode cL_law 254 = .ok (.iconst 1, 1) := by decide +kernel
theorem dL_law_255 : decode cL_law 255 = .ok (.iadd, 1) := by decide +kernel
theorem dL_law_256 : decode cL_law 256 = .ok (.iaload, 1) := by decide +kernel
theorem dL_law_257 : decode cL_law 257 = .ok (.invokevirtual 43, 3) := by decide +kernel
theorem dL_law_260 : decode cL_law 260 = .ok (.aload_n 2, 1) := by decide +kernel
theorem dL_law_261 : decode cL_law 261 = .ok (.aload_n 0, 1) := by decide +kernel
theorem dL_law_262 : decode cL_law 262 = .ok (.iload_n 3, 1) := by decide +kernel
theorem dL_law_263 : decode cL_law 263 = .ok (.iconst 1, 1) := by decide +kernel
theorem dL_law_264 : decode cL_law 264 = .ok (.iadd, 1) := by decide +kernel
theorem dL_law_265 : decode cL_law 265 = .ok (.iaload, 1) := by decide +kernel
theorem dL_law_266 : decode cL_law 266 = .ok (.invokevirtual 46, 3) := by decide +kernel
theorem dL_law_269 : decode cL_law 269 = .ok (.if_icmp .eq 28, 3) := by decide +kernel
theorem dL_law_272 : decode cL_law 272 = .ok (.iconst 0, 1) := by decide +kernel
theorem dL_law_273 : decode cL_law 273 = .ok (.ireturn, 1) := by decide +kernel
theorem dL_law_274 : decode cL_law 274 = .ok (.aload_n 1, 1) := by decide +kernel
theorem dL_law_275 : decode cL_law 275 = .ok (.aload_n 0, 1) := by decide +kernel
theorem dL_law_276 : decode cL_law 276 = .ok (.iload_n 3, 1) := by decide +kernel
theorem dL_law_277 : decode cL_law 277 = .ok (.iconst 1, 1) := by decide +kernel
theorem dL_law_278 : decode cL_law 278 = .ok (.iadd, 1) := by decide +kernel
theorem dL_law_279 : decode cL_law 279 = .ok (.iaload, 1) := by decide +kernel
theorem dL_law_280 : decode cL_law 280 = .ok (.invokevirtual 47, 3) := by decide +kernel
theorem dL_law_283 : decode cL_law 283 = .ok (.aload_n 2, 1) := by decide +kernel
theorem dL_law_284 : decode cL_law 284 = .ok (.aload_n 0, 1) := by decide +kernel
theorem dL_law_285 : decode cL_law 285 = .ok (.iload_n 3, 1) := by decide +kernel
theorem dL_law_286 : decode cL_law 286 = .ok (.iconst 1, 1) := by decide +kernel
theorem dL_law_287 : decode cL_law 287 = .ok (.iadd, 1) := by decide +kernel
theorem dL_law_288 : decode cL_law 288 = .ok (.iaload, 1) := by decide +kernel
theorem dL_law_289 : decode cL_law 289 = .ok (.invokevirtual 50, 3) := by decide +kernel
theorem dL_law_292 : decode cL_law 292 = .ok (.if_icmp .eq 5, 3) := by decide +kernel
theorem dL_law_295 : decode cL_law 295 = .ok (.iconst 0, 1) := by decide +kernel
theorem dL_law_296 : decode cL_law 296 = .ok (.ireturn, 1) := by decide +kernel
theorem dL_law_297 : decode cL_law 297 = .ok (.iinc 3 3, 3) := by decide +kernel
theorem dL_law_300 : decode cL_law 300 = .ok (.goto (-282), 3) := by decide +kernel
theorem dL_law_303 : decode cL_law 303 = .ok (.iconst 1, 1) := by decide +kernel
theorem dL_law_304 : decode cL_law 304 = .ok (.ireturn, 1) := by decide +kernel
theorem dJ0_init_0 : decode cJ0_init 0 = .ok (.return_, 1) := by decide +kernel
end
section
set_option maxRecDepth 100000
/-! THE MEMORY LAYER: an object of PegTables (or of PegTablesModel) with its arrays is a pair of Nat-valued tables (int fields by place, arrays by place); e1 and e4 shift what may be negative -/
abbrev PT : Type := (Nat → Nat) × (Nat → Nat → Nat)
def up {α : Type} (f : Nat → α) (k : Nat) (x : α) : Nat → α := fun j => if j = k then x else f j
def setI (σ : PT) (k x : Nat) : PT := (up σ.1 k x, σ.2)
def setF (σ : PT) (k : Nat) (f : Nat → Nat) : PT := (σ.1, up σ.2 k f)
def setA (σ : PT) (k i x : Nat) : PT := (σ.1, up σ.2 k (up (σ.2 k) i x))
def e1 (v : Nat) : Int32 := nI v - 1
def e4 (v : Nat) : Int32 := nI v - 4
theorem up_s {α : Type} {f : Nat → α} {k : Nat} {x : α} : up f k x k = x := if_pos rfl
theorem up_n {α : Type} {f : Nat → α} {k j : Nat} {x : α} (h : j ≠ k) : up f k x j = f j := if_neg h
theorem up_nI (f : Nat → Nat) (i x : Nat) : upd (fun j => nI (f j)) i (nI x) = fun j => nI (up f i x j) := by
  funext j; simp only [upd, up]; split <;> rfl
theorem up_e1 (f : Nat → Nat) (i x : Nat) : upd (fun j => e1 (f j)) i (e1 x) = fun j => e1 (up f i x j) := by
  funext j; simp only [upd, up]; split <;> rfl
theorem up_e4 (f : Nat → Nat) (i x : Nat) : upd (fun j => e4 (f j)) i (e4 x) = fun j => e4 (up f i x j) := by
  funext j; simp only [upd, up]; split <;> rfl
abbrev vwCl : List vw_C := [(RX0, TX0, 16), (RX1, TX1, 11)]
def pw (h : Nat → Nat) (d : ClassId) (σ : PT) : va_W := [(h 0, .inr (0, [.int (nI (σ.1 0)), .int (nI (σ.1 1)), .ref (h 2), .ref (h 3), .ref (h 4), .ref (h 5), .int (nI (σ.1 6)), .ref (h 7), .ref (h 8), .int (nI (σ.1 9)), .ref (h 10), .ref (h 11), .int (nI (σ.1 12)), .ref (h 13), .ref (h 14), .ref (h 15)])), (h 2, .inl (d, 40, .inl (fun j => nI (σ.2 2 j)))), (h 3, .inl (d, 40, .inl (fun j => nI (σ.2 3 j)))), (h 4, .inl (d, 40, .inl (fun j => e1 (σ.2 4 j)))), (h 5, .inl (d, 40, .inl (fun j => e1 (σ.2 5 j)))), (h 7, .inl (d, 40, .inl (fun j => nI (σ.2 7 j)))), (h 8, .inl (d, 4, .inl (fun j => e1 (σ.2 8 j)))), (h 10, .inl (d, 20, .inl (fun j => nI (σ.2 10 j)))), (h 11, .inl (d, 840, .inl (fun j => e4 (σ.2 11 j)))), (h 13, .inl (d, 840, .inl (fun j => nI (σ.2 13 j)))), (h 14, .inl (d, 840, .inl (fun j => nI (σ.2 14 j)))), (h 15, .inl (d, 840, .inl (fun j => nI (σ.2 15 j))))]
def mw (h : Nat → Nat) (d : ClassId) (σ : PT) : va_W := [(h 0, .inr (1, [.int (nI (σ.1 0)), .ref (h 1), .ref (h 2), .ref (h 3), .ref (h 4), .int (nI (σ.1 5)), .ref (h 6), .ref (h 7), .int (nI (σ.1 8)), .ref (h 9), .ref (h 10)])), (h 1, .inl (d, 40, .inl (fun j => nI (σ.2 1 j)))), (h 2, .inl (d, 40, .inl (fun j => nI (σ.2 2 j)))), (h 3, .inl (d, 40, .inl (fun j => nI (σ.2 3 j)))), (h 4, .inl (d, 40, .inl (fun j => nI (σ.2 4 j)))), (h 6, .inl (d, 40, .inl (fun j => nI (σ.2 6 j)))), (h 7, .inl (d, 4, .inl (fun j => e1 (σ.2 7 j)))), (h 9, .inl (d, 20, .inl (fun j => nI (σ.2 9 j)))), (h 10, .inl (d, 840, .inl (fun j => e4 (σ.2 10 j))))]
/-- what stays all through a method's body -/
def KX (cc : ByteArray) (nL : Nat) (C : String) (p : Program) (s : State) (m : MethodId) (args : Array Value) (c : Code) (A : Nat → Prop) (dC : Nat → ClassId) (dI : Nat → Nat → Nat) (d : ClassId) : Prop :=
  p.tables.exec = Jvm.exec ∧ c.code = cc ∧ c.maxLocals = nL ∧ s.vm.findClass C = some m.cls ∧ (∀ w ∈ lw_all, w.before args s = true) ∧ va_K (dC, dI) vwCl [(d, .int)] s ∧ (∀ q : Nat, s.heap.size ≤ q → A q)
/-- the world as it stands -/
def St (dC : Nat → ClassId) (dI : Nat → Nat → Nat) (A : Nat → Prop) (H0 H : Heap) (locs : List Loc) (ws : va_W) : Prop := va_P (dC, dI) vwCl ws H ∧ va_D A ws ∧ va_S A H0 H locs
section MEM
variable {p : Program} {l : Launch} {e : Env} {R : Room} {s : State} {m : MethodId} {args : Array Value} {below : List Frame} {meth : Method} {c : Code} {H : Heap} {locs : List Loc} {cells slots : Nat} {Q : State → Prop}
variable {cc : ByteArray} {pc nL : Nat} {ls : Array Slot} {rest : List Value} {A : Nat → Prop} {dC : Nat → ClassId} {dI : Nat → Nat → Nat} {d : ClassId} {h : Nat → Nat} {σ : PT}
theorem lv_to {x y : Int32} (hxy : x = y) (k : W p l e R s m args below meth c H locs cells slots Q (F0 m pc ls (.int y :: rest))) : W p l e R s m args below meth c H locs cells slots Q (F0 m pc ls (.int x :: rest)) := hxy ▸ k
theorem lv_to2 {v : Value} {x y : Int32} (hxy : x = y) (k : W p l e R s m args below meth c H locs cells slots Q (F0 m pc ls (v :: .int y :: rest))) : W p l e R s m args below meth c H locs cells slots Q (F0 m pc ls (v :: .int x :: rest)) := hxy ▸ k
theorem lv_to3 {v v2 : Value} {x y : Int32} (hxy : x = y) (k : W p l e R s m args below meth c H locs cells slots Q (F0 m pc ls (v :: v2 :: .int y :: rest))) : W p l e R s m args below meth c H locs cells slots Q (F0 m pc ls (v :: v2 :: .int x :: rest)) := hxy ▸ k
theorem lv_to4 {v v2 v3 : Value} {x y : Int32} (hxy : x = y) (k : W p l e R s m args below meth c H locs cells slots Q (F0 m pc ls (v :: v2 :: v3 :: .int y :: rest))) : W p l e R s m args below meth c H locs cells slots Q (F0 m pc ls (v :: v2 :: v3 :: .int x :: rest)) := hxy ▸ k
theorem p0g_tokens (K : KX cc nL RX0 p s m args c A dC dI d) (S : St dC dI A s.heap H locs (pw h d σ)) (hdg : decode cc pc = .ok (.getfield 50, 3)) (kk : W p l e R s m args below meth c H locs cells slots Q (F0 m (pc + 3) ls (.int (nI (σ.1 0)) :: rest))) : W p l e R s m args below meth c H locs cells slots Q (F0 m pc ls (.ref (h 0) :: rest)) :=
  va_get (D := (dC, dI)) (ci := 0) (v := .int (nI (σ.1 0))) (C := RX0) (T := TX0) (N := 16) K.1 K.2.1 K.2.2.2.2.1 in_X0 K.2.2.2.1 K.2.2.2.2.2.1 S.1 0 rfl rfl 0 (by decide) (K.2.2.2.2.1 _ q34) (fun _ h9 => h9) rfl hdg kk
theorem p0p_tokens {x : Nat} (K : KX cc nL RX0 p s m args c A dC dI d) (S : St dC dI A s.heap H locs (pw h d σ)) (hdg : decode cc pc = .ok (.putfield 50, 3)) (kk : ∀ (H1 : Heap) (locs1 : List Loc), St dC dI A s.heap H1 locs1 (pw h d (setI σ 0 x)) → W p l e R s m args below meth c H1 locs1 cells slots Q (F0 m (pc + 3) ls rest)) : W p l e R s m args below meth c H locs cells slots Q (F0 m pc ls (.int (nI x) :: .ref (h 0) :: rest)) :=
  va_put (D := (dC, dI)) (ci := 0) (v := .int (nI x)) (ty := .int) (C := RX0) (T := TX0) (N := 16) K.1 K.2.1 K.2.2.2.2.1 in_X0 tyX0 tyX0_ok nmX0 K.2.2.2.1 K.2.2.2.2.2.1 S.1 S.2.1 S.2.2 0 rfl rfl 0 (by decide) (K.2.2.2.2.1 _ q34) (fun _ h9 => h9) rfl (by decide +kernel) rfl rfl (Nat.le_of_ble_eq_true rfl) hdg (fun H1 locs1 hP hD hS => kk H1 locs1 ⟨hP, hD, hS⟩)
theorem p0g_nodes (K : KX cc nL RX0 p s m args c A dC dI d) (S : St dC dI A s.heap H locs (pw h d σ)) (hdg : decode cc pc = .ok (.getfield 56, 3)) (kk : W p l e R s m args below meth c H locs cells slots Q (F0 m (pc + 3) ls (.int (nI (σ.1 1)) :: rest))) : W p l e R s m args below meth c H locs cells slots Q (F0 m pc ls (.ref (h 0) :: rest)) :=
  va_get (D := (dC, dI)) (ci := 0) (v := .int (nI (σ.1 1))) (C := RX0) (T := TX0) (N := 16) K.1 K.2.1 K.2.2.2.2.1 in_X0 K.2.2.2.1 K.2.2.2.2.2.1 S.1 0 rfl rfl 1 (by decide) (K.2.2.2.2.1 _ q35) (fun _ h9 => h9) rfl hdg kk
theorem p0p_nodes {x : Nat} (K : KX cc nL RX0 p s m args c A dC dI d) (S : St dC dI A s.heap H locs (pw h d σ)) (hdg : decode cc pc = .ok (.putfield 56, 3)) (kk : ∀ (H1 : Heap) (locs1 : List Loc), St dC dI A s.heap H1 locs1 (pw h d (setI σ 1 x)) → W p l e R s m args below meth c H1 locs1 cells slots Q (F0 m (pc + 3) ls rest)) : W p l e R s m args below meth c H locs cells slots Q (F0 m pc ls (.int (nI x) :: .ref (h 0) :: rest)) :=
  va_put (D := (dC, dI)) (ci := 0) (v := .int (nI x)) (ty := .int) (C := RX0) (T := TX0) (N := 16) K.1 K.2.1 K.2.2.2.2.1 in_X0 tyX0 tyX0_ok nmX0 K.2.2.2.1 K.2.2.2.2.2.1 S.1 S.2.1 S.2.2 0 rfl rfl 1 (by decide) (K.2.2.2.2.1 _ q35) (fun _ h9 => h9) rfl (by decide +kernel) rfl rfl (Nat.le_of_ble_eq_true rfl) hdg (fun H1 locs1 hP hD hS => kk H1 locs1 ⟨hP, hD, hS⟩)
theorem p0g_op (K : KX cc nL RX0 p s m args c A dC dI d) (S : St dC dI A s.heap H locs (pw h d σ)) (hdg : decode cc pc = .ok (.getfield 7, 3)) (kk : W p l e R s m args below meth c H locs cells slots Q (F0 m (pc + 3) ls (.ref (h 2) :: rest))) : W p l e R s m args below meth c H locs cells slots Q (F0 m pc ls (.ref (h 0) :: rest)) :=
  va_get (D := (dC, dI)) (ci := 0) (v := .ref (h 2)) (C := RX0) (T := TX0) (N := 16) K.1 K.2.1 K.2.2.2.2.1 in_X0 K.2.2.2.1 K.2.2.2.2.2.1 S.1 0 rfl rfl 2 (by decide) (K.2.2.2.2.1 _ q36) (fun _ h9 => h9) rfl hdg kk
theorem p0l_op {i : Nat} (hi : i < 40) (K : KX cc nL RX0 p s m args c A dC dI d) (S : St dC dI A s.heap H locs (pw h d σ)) (hdg : decode cc pc = .ok (.iaload, 1)) (kk : W p l e R s m args below meth c H locs cells slots Q (F0 m (pc + 1) ls (.int (nI (σ.2 2 i)) :: rest))) : W p l e R s m args below meth c H locs cells slots Q (F0 m pc ls (.int (nI i) :: .ref (h 2) :: rest)) :=
  va_iald (f := fun j => nI (σ.2 2 j)) K.1 K.2.1 K.2.2.2.2.2.1 S.1 1 0 rfl rfl (vp_in_nI hi (by decide)) hdg (by rw [nI_clamp (by omega)]; exact kk)
theorem p0s_op {i x : Nat} (hi : i < 40) (K : KX cc nL RX0 p s m args c A dC dI d) (S : St dC dI A s.heap H locs (pw h d σ)) (hdg : decode cc pc = .ok (.iastore, 1)) (kk : ∀ (H1 : Heap) (locs1 : List Loc), St dC dI A s.heap H1 locs1 (pw h d (setA σ 2 i x)) → W p l e R s m args below meth c H1 locs1 cells slots Q (F0 m (pc + 1) ls rest)) : W p l e R s m args below meth c H locs cells slots Q (F0 m pc ls (.int (nI x) :: .int (nI i) :: .ref (h 2) :: rest)) := by
  refine va_iast (f := fun j => nI (σ.2 2 j)) K.1 K.2.1 K.2.2.2.2.2.1 S.1 S.2.1 S.2.2 1 0 rfl rfl (vp_in_nI hi (by decide)) hdg (fun H1 locs1 hP hD hS => ?_)
  rw [nI_clamp (by omega), up_nI] at hP hD
  exact kk H1 locs1 ⟨hP, hD, hS⟩
theorem p0g_argument (K : KX cc nL RX0 p s m args c A dC dI d) (S : St dC dI A s.heap H locs (pw h d σ)) (hdg : decode cc pc = .ok (.getfield 13, 3)) (kk : W p l e R s m args below meth c H locs cells slots Q (F0 m (pc + 3) ls (.ref (h 3) :: rest))) : W p l e R s m args below meth c H locs cells slots Q (F0 m pc ls (.ref (h 0) :: rest)) :=
  va_get (D := (dC, dI)) (ci := 0) (v := .ref (h 3)) (C := RX0) (T := TX0) (N := 16) K.1 K.2.1 K.2.2.2.2.1 in_X0 K.2.2.2.1 K.2.2.2.2.2.1 S.1 0 rfl rfl 3 (by decide) (K.2.2.2.2.1 _ q37) (fun _ h9 => h9) rfl hdg kk
theorem p0l_argument {i : Nat} (hi : i < 40) (K : KX cc nL RX0 p s m args c A dC dI d) (S : St dC dI A s.heap H locs (pw h d σ)) (hdg : decode cc pc = .ok (.iaload, 1)) (kk : W p l e R s m args below meth c H locs cells slots Q (F0 m (pc + 1) ls (.int (nI (σ.2 3 i)) :: rest))) : W p l e R s m args below meth c H locs cells slots Q (F0 m pc ls (.int (nI i) :: .ref (h 3) :: rest)) :=
  va_iald (f := fun j => nI (σ.2 3 j)) K.1 K.2.1 K.2.2.2.2.2.1 S.1 2 0 rfl rfl (vp_in_nI hi (by decide)) hdg (by rw [nI_clamp (by omega)]; exact kk)
theorem p0s_argument {i x : Nat} (hi : i < 40) (K : KX cc nL RX0 p s m args c A dC dI d) (S : St dC dI A s.heap H locs (pw h d σ)) (hdg : decode cc pc = .ok (.iastore, 1)) (kk : ∀ (H1 : Heap) (locs1 : List Loc), St dC dI A s.heap H1 locs1 (pw h d (setA σ 3 i x)) → W p l e R s m args below meth c H1 locs1 cells slots Q (F0 m (pc + 1) ls rest)) : W p l e R s m args below meth c H locs cells slots Q (F0 m pc ls (.int (nI x) :: .int (nI i) :: .ref (h 3) :: rest)) := by
  refine va_iast (f := fun j => nI (σ.2 3 j)) K.1 K.2.1 K.2.2.2.2.2.1 S.1 S.2.1 S.2.2 2 0 rfl rfl (vp_in_nI hi (by decide)) hdg (fun H1 locs1 hP hD hS => ?_)
  rw [nI_clamp (by omega), up_nI] at hP hD
  exact kk H1 locs1 ⟨hP, hD, hS⟩
theorem p0g_left (K : KX cc nL RX0 p s m args c A dC dI d) (S : St dC dI A s.heap H locs (pw h d σ)) (hdg : decode cc pc = .ok (.getfield 16, 3)) (kk : W p l e R s m args below meth c H locs cells slots Q (F0 m (pc + 3) ls (.ref (h 4) :: rest))) : W p l e R s m args below meth c H locs cells slots Q (F0 m pc ls (.ref (h 0) :: rest)) :=
  va_get (D := (dC, dI)) (ci := 0) (v := .ref (h 4)) (C := RX0) (T := TX0) (N := 16) K.1 K.2.1 K.2.2.2.2.1 in_X0 K.2.2.2.1 K.2.2.2.2.2.1 S.1 0 rfl rfl 4 (by decide) (K.2.2.2.2.1 _ q38) (fun _ h9 => h9) rfl hdg kk
theorem p0l_left {i : Nat} (hi : i < 40) (K : KX cc nL RX0 p s m args c A dC dI d) (S : St dC dI A s.heap H locs (pw h d σ)) (hdg : decode cc pc = .ok (.iaload, 1)) (kk : W p l e R s m args below meth c H locs cells slots Q (F0 m (pc + 1) ls (.int (e1 (σ.2 4 i)) :: rest))) : W p l e R s m args below meth c H locs cells slots Q (F0 m pc ls (.int (nI i) :: .ref (h 4) :: rest)) :=
  va_iald (f := fun j => e1 (σ.2 4 j)) K.1 K.2.1 K.2.2.2.2.2.1 S.1 3 0 rfl rfl (vp_in_nI hi (by decide)) hdg (by rw [nI_clamp (by omega)]; exact kk)
theorem p0s_left {i x : Nat} (hi : i < 40) (K : KX cc nL RX0 p s m args c A dC dI d) (S : St dC dI A s.heap H locs (pw h d σ)) (hdg : decode cc pc = .ok (.iastore, 1)) (kk : ∀ (H1 : Heap) (locs1 : List Loc), St dC dI A s.heap H1 locs1 (pw h d (setA σ 4 i x)) → W p l e R s m args below meth c H1 locs1 cells slots Q (F0 m (pc + 1) ls rest)) : W p l e R s m args below meth c H locs cells slots Q (F0 m pc ls (.int (e1 x) :: .int (nI i) :: .ref (h 4) :: rest)) := by
  refine va_iast (f := fun j => e1 (σ.2 4 j)) K.1 K.2.1 K.2.2.2.2.2.1 S.1 S.2.1 S.2.2 3 0 rfl rfl (vp_in_nI hi (by decide)) hdg (fun H1 locs1 hP hD hS => ?_)
  rw [nI_clamp (by omega), up_e1] at hP hD
  exact kk H1 locs1 ⟨hP, hD, hS⟩
theorem p0g_right (K : KX cc nL RX0 p s m args c A dC dI d) (S : St dC dI A s.heap H locs (pw h d σ)) (hdg : decode cc pc = .ok (.getfield 19, 3)) (kk : W p l e R s m args below meth c H locs cells slots Q (F0 m (pc + 3) ls (.ref (h 5) :: rest))) : W p l e R s m args below meth c H locs cells slots Q (F0 m pc ls (.ref (h 0) :: rest)) :=
  va_get (D := (dC, dI)) (ci := 0) (v := .ref (h 5)) (C := RX0) (T := TX0) (N := 16) K.1 K.2.1 K.2.2.2.2.1 in_X0 K.2.2.2.1 K.2.2.2.2.2.1 S.1 0 rfl rfl 5 (by decide) (K.2.2.2.2.1 _ q39) (fun _ h9 => h9) rfl hdg kk
theorem p0l_right {i : Nat} (hi : i < 40) (K : KX cc nL RX0 p s m args c A dC dI d) (S : St dC dI A s.heap H locs (pw h d σ)) (hdg : decode cc pc = .ok (.iaload, 1)) (kk : W p l e R s m args below meth c H locs cells slots Q (F0 m (pc + 1) ls (.int (e1 (σ.2 5 i)) :: rest))) : W p l e R s m args below meth c H locs cells slots Q (F0 m pc ls (.int (nI i) :: .ref (h 5) :: rest)) :=
  va_iald (f := fun j => e1 (σ.2 5 j)) K.1 K.2.1 K.2.2.2.2.2.1 S.1 4 0 rfl rfl (vp_in_nI hi (by decide)) hdg (by rw [nI_clamp (by omega)]; exact kk)
theorem p0s_right {i x : Nat} (hi : i < 40) (K : KX cc nL RX0 p s m args c A dC dI d) (S : St dC dI A s.heap H locs (pw h d σ)) (hdg : decode cc pc = .ok (.iastore, 1)) (kk : ∀ (H1 : Heap) (locs1 : List Loc), St dC dI A s.heap H1 locs1 (pw h d (setA σ 5 i x)) → W p l e R s m args below meth c H1 locs1 cells slots Q (F0 m (pc + 1) ls rest)) : W p l e R s m args below meth c H locs cells slots Q (F0 m pc ls (.int (e1 x) :: .int (nI i) :: .ref (h 5) :: rest)) := by
  refine va_iast (f := fun j => e1 (σ.2 5 j)) K.1 K.2.1 K.2.2.2.2.2.1 S.1 S.2.1 S.2.2 4 0 rfl rfl (vp_in_nI hi (by decide)) hdg (fun H1 locs1 hP hD hS => ?_)
  rw [nI_clamp (by omega), up_e1] at hP hD
  exact kk H1 locs1 ⟨hP, hD, hS⟩
theorem p0g_stackSize (K : KX cc nL RX0 p s m args c A dC dI d) (S : St dC dI A s.heap H locs (pw h d σ)) (hdg : decode cc pc = .ok (.getfield 46, 3)) (kk : W p l e R s m args below meth c H locs cells slots Q (F0 m (pc + 3) ls (.int (nI (σ.1 6)) :: rest))) : W p l e R s m args below meth c H locs cells slots Q (F0 m pc ls (.ref (h 0) :: rest)) :=
  va_get (D := (dC, dI)) (ci := 0) (v := .int (nI (σ.1 6))) (C := RX0) (T := TX0) (N := 16) K.1 K.2.1 K.2.2.2.2.1 in_X0 K.2.2.2.1 K.2.2.2.2.2.1 S.1 0 rfl rfl 6 (by decide) (K.2.2.2.2.1 _ q40) (fun _ h9 => h9) rfl hdg kk
theorem p0p_stackSize {x : Nat} (K : KX cc nL RX0 p s m args c A dC dI d) (S : St dC dI A s.heap H locs (pw h d σ)) (hdg : decode cc pc = .ok (.putfield 46, 3)) (kk : ∀ (H1 : Heap) (locs1 : List Loc), St dC dI A s.heap H1 locs1 (pw h d (setI σ 6 x)) → W p l e R s m args below meth c H1 locs1 cells slots Q (F0 m (pc + 3) ls rest)) : W p l e R s m args below meth c H locs cells slots Q (F0 m pc ls (.int (nI x) :: .ref (h 0) :: rest)) :=
  va_put (D := (dC, dI)) (ci := 0) (v := .int (nI x)) (ty := .int) (C := RX0) (T := TX0) (N := 16) K.1 K.2.1 K.2.2.2.2.1 in_X0 tyX0 tyX0_ok nmX0 K.2.2.2.1 K.2.2.2.2.2.1 S.1 S.2.1 S.2.2 0 rfl rfl 6 (by decide) (K.2.2.2.2.1 _ q40) (fun _ h9 => h9) rfl (by decide +kernel) rfl rfl (Nat.le_of_ble_eq_true rfl) hdg (fun H1 locs1 hP hD hS => kk H1 locs1 ⟨hP, hD, hS⟩)
theorem p0g_stack (K : KX cc nL RX0 p s m args c A dC dI d) (S : St dC dI A s.heap H locs (pw h d σ)) (hdg : decode cc pc = .ok (.getfield 22, 3)) (kk : W p l e R s m args below meth c H locs cells slots Q (F0 m (pc + 3) ls (.ref (h 7) :: rest))) : W p l e R s m args below meth c H locs cells slots Q (F0 m pc ls (.ref (h 0) :: rest)) :=
  va_get (D := (dC, dI)) (ci := 0) (v := .ref (h 7)) (C := RX0) (T := TX0) (N := 16) K.1 K.2.1 K.2.2.2.2.1 in_X0 K.2.2.2.1 K.2.2.2.2.2.1 S.1 0 rfl rfl 7 (by decide) (K.2.2.2.2.1 _ q41) (fun _ h9 => h9) rfl hdg kk
theorem p0l_stack {i : Nat} (hi : i < 40) (K : KX cc nL RX0 p s m args c A dC dI d) (S : St dC dI A s.heap H locs (pw h d σ)) (hdg : decode cc pc = .ok (.iaload, 1)) (kk : W p l e R s m args below meth c H locs cells slots Q (F0 m (pc + 1) ls (.int (nI (σ.2 7 i)) :: rest))) : W p l e R s m args below meth c H locs cells slots Q (F0 m pc ls (.int (nI i) :: .ref (h 7) :: rest)) :=
  va_iald (f := fun j => nI (σ.2 7 j)) K.1 K.2.1 K.2.2.2.2.2.1 S.1 5 0 rfl rfl (vp_in_nI hi (by decide)) hdg (by rw [nI_clamp (by omega)]; exact kk)
theorem p0s_stack {i x : Nat} (hi : i < 40) (K : KX cc nL RX0 p s m args c A dC dI d) (S : St dC dI A s.heap H locs (pw h d σ)) (hdg : decode cc pc = .ok (.iastore, 1)) (kk : ∀ (H1 : Heap) (locs1 : List Loc), St dC dI A s.heap H1 locs1 (pw h d (setA σ 7 i x)) → W p l e R s m args below meth c H1 locs1 cells slots Q (F0 m (pc + 1) ls rest)) : W p l e R s m args below meth c H locs cells slots Q (F0 m pc ls (.int (nI x) :: .int (nI i) :: .ref (h 7) :: rest)) := by
  refine va_iast (f := fun j => nI (σ.2 7 j)) K.1 K.2.1 K.2.2.2.2.2.1 S.1 S.2.1 S.2.2 5 0 rfl rfl (vp_in_nI hi (by decide)) hdg (fun H1 locs1 hP hD hS => ?_)
  rw [nI_clamp (by omega), up_nI] at hP hD
  exact kk H1 locs1 ⟨hP, hD, hS⟩
theorem p0g_ruleNode (K : KX cc nL RX0 p s m args c A dC dI d) (S : St dC dI A s.heap H locs (pw h d σ)) (hdg : decode cc pc = .ok (.getfield 25, 3)) (kk : W p l e R s m args below meth c H locs cells slots Q (F0 m (pc + 3) ls (.ref (h 8) :: rest))) : W p l e R s m args below meth c H locs cells slots Q (F0 m pc ls (.ref (h 0) :: rest)) :=
  va_get (D := (dC, dI)) (ci := 0) (v := .ref (h 8)) (C := RX0) (T := TX0) (N := 16) K.1 K.2.1 K.2.2.2.2.1 in_X0 K.2.2.2.1 K.2.2.2.2.2.1 S.1 0 rfl rfl 8 (by decide) (K.2.2.2.2.1 _ q42) (fun _ h9 => h9) rfl hdg kk
theorem p0l_ruleNode {i : Nat} (hi : i < 4) (K : KX cc nL RX0 p s m args c A dC dI d) (S : St dC dI A s.heap H locs (pw h d σ)) (hdg : decode cc pc = .ok (.iaload, 1)) (kk : W p l e R s m args below meth c H locs cells slots Q (F0 m (pc + 1) ls (.int (e1 (σ.2 8 i)) :: rest))) : W p l e R s m args below meth c H locs cells slots Q (F0 m pc ls (.int (nI i) :: .ref (h 8) :: rest)) :=
  va_iald (f := fun j => e1 (σ.2 8 j)) K.1 K.2.1 K.2.2.2.2.2.1 S.1 6 0 rfl rfl (vp_in_nI hi (by decide)) hdg (by rw [nI_clamp (by omega)]; exact kk)
theorem p0s_ruleNode {i x : Nat} (hi : i < 4) (K : KX cc nL RX0 p s m args c A dC dI d) (S : St dC dI A s.heap H locs (pw h d σ)) (hdg : decode cc pc = .ok (.iastore, 1)) (kk : ∀ (H1 : Heap) (locs1 : List Loc), St dC dI A s.heap H1 locs1 (pw h d (setA σ 8 i x)) → W p l e R s m args below meth c H1 locs1 cells slots Q (F0 m (pc + 1) ls rest)) : W p l e R s m args below meth c H locs cells slots Q (F0 m pc ls (.int (e1 x) :: .int (nI i) :: .ref (h 8) :: rest)) := by
  refine va_iast (f := fun j => e1 (σ.2 8 j)) K.1 K.2.1 K.2.2.2.2.2.1 S.1 S.2.1 S.2.2 6 0 rfl rfl (vp_in_nI hi (by decide)) hdg (fun H1 locs1 hP hD hS => ?_)
  rw [nI_clamp (by omega), up_e1] at hP hD
  exact kk H1 locs1 ⟨hP, hD, hS⟩
theorem p0g_length (K : KX cc nL RX0 p s m args c A dC dI d) (S : St dC dI A s.heap H locs (pw h d σ)) (hdg : decode cc pc = .ok (.getfield 59, 3)) (kk : W p l e R s m args below meth c H locs cells slots Q (F0 m (pc + 3) ls (.int (nI (σ.1 9)) :: rest))) : W p l e R s m args below meth c H locs cells slots Q (F0 m pc ls (.ref (h 0) :: rest)) :=
  va_get (D := (dC, dI)) (ci := 0) (v := .int (nI (σ.1 9))) (C := RX0) (T := TX0) (N := 16) K.1 K.2.1 K.2.2.2.2.1 in_X0 K.2.2.2.1 K.2.2.2.2.2.1 S.1 0 rfl rfl 9 (by decide) (K.2.2.2.2.1 _ q43) (fun _ h9 => h9) rfl hdg kk
theorem p0p_length {x : Nat} (K : KX cc nL RX0 p s m args c A dC dI d) (S : St dC dI A s.heap H locs (pw h d σ)) (hdg : decode cc pc = .ok (.putfield 59, 3)) (kk : ∀ (H1 : Heap) (locs1 : List Loc), St dC dI A s.heap H1 locs1 (pw h d (setI σ 9 x)) → W p l e R s m args below meth c H1 locs1 cells slots Q (F0 m (pc + 3) ls rest)) : W p l e R s m args below meth c H locs cells slots Q (F0 m pc ls (.int (nI x) :: .ref (h 0) :: rest)) :=
  va_put (D := (dC, dI)) (ci := 0) (v := .int (nI x)) (ty := .int) (C := RX0) (T := TX0) (N := 16) K.1 K.2.1 K.2.2.2.2.1 in_X0 tyX0 tyX0_ok nmX0 K.2.2.2.1 K.2.2.2.2.2.1 S.1 S.2.1 S.2.2 0 rfl rfl 9 (by decide) (K.2.2.2.2.1 _ q43) (fun _ h9 => h9) rfl (by decide +kernel) rfl rfl (Nat.le_of_ble_eq_true rfl) hdg (fun H1 locs1 hP hD hS => kk H1 locs1 ⟨hP, hD, hS⟩)
theorem p0g_text (K : KX cc nL RX0 p s m args c A dC dI d) (S : St dC dI A s.heap H locs (pw h d σ)) (hdg : decode cc pc = .ok (.getfield 28, 3)) (kk : W p l e R s m args below meth c H locs cells slots Q (F0 m (pc + 3) ls (.ref (h 10) :: rest))) : W p l e R s m args below meth c H locs cells slots Q (F0 m pc ls (.ref (h 0) :: rest)) :=
  va_get (D := (dC, dI)) (ci := 0) (v := .ref (h 10)) (C := RX0) (T := TX0) (N := 16) K.1 K.2.1 K.2.2.2.2.1 in_X0 K.2.2.2.1 K.2.2.2.2.2.1 S.1 0 rfl rfl 10 (by decide) (K.2.2.2.2.1 _ q44) (fun _ h9 => h9) rfl hdg kk
theorem p0l_text {i : Nat} (hi : i < 20) (K : KX cc nL RX0 p s m args c A dC dI d) (S : St dC dI A s.heap H locs (pw h d σ)) (hdg : decode cc pc = .ok (.iaload, 1)) (kk : W p l e R s m args below meth c H locs cells slots Q (F0 m (pc + 1) ls (.int (nI (σ.2 10 i)) :: rest))) : W p l e R s m args below meth c H locs cells slots Q (F0 m pc ls (.int (nI i) :: .ref (h 10) :: rest)) :=
  va_iald (f := fun j => nI (σ.2 10 j)) K.1 K.2.1 K.2.2.2.2.2.1 S.1 7 0 rfl rfl (vp_in_nI hi (by decide)) hdg (by rw [nI_clamp (by omega)]; exact kk)
theorem p0s_text {i x : Nat} (hi : i < 20) (K : KX cc nL RX0 p s m args c A dC dI d) (S : St dC dI A s.heap H locs (pw h d σ)) (hdg : decode cc pc = .ok (.iastore, 1)) (kk : ∀ (H1 : Heap) (locs1 : List Loc), St dC dI A s.heap H1 locs1 (pw h d (setA σ 10 i x)) → W p l e R s m args below meth c H1 locs1 cells slots Q (F0 m (pc + 1) ls rest)) : W p l e R s m args below meth c H locs cells slots Q (F0 m pc ls (.int (nI x) :: .int (nI i) :: .ref (h 10) :: rest)) := by
  refine va_iast (f := fun j => nI (σ.2 10 j)) K.1 K.2.1 K.2.2.2.2.2.1 S.1 S.2.1 S.2.2 7 0 rfl rfl (vp_in_nI hi (by decide)) hdg (fun H1 locs1 hP hD hS => ?_)
  rw [nI_clamp (by omega), up_nI] at hP hD
  exact kk H1 locs1 ⟨hP, hD, hS⟩
theorem p0g_outcome (K : KX cc nL RX0 p s m args c A dC dI d) (S : St dC dI A s.heap H locs (pw h d σ)) (hdg : decode cc pc = .ok (.getfield 31, 3)) (kk : W p l e R s m args below meth c H locs cells slots Q (F0 m (pc + 3) ls (.ref (h 11) :: rest))) : W p l e R s m args below meth c H locs cells slots Q (F0 m pc ls (.ref (h 0) :: rest)) :=
  va_get (D := (dC, dI)) (ci := 0) (v := .ref (h 11)) (C := RX0) (T := TX0) (N := 16) K.1 K.2.1 K.2.2.2.2.1 in_X0 K.2.2.2.1 K.2.2.2.2.2.1 S.1 0 rfl rfl 11 (by decide) (K.2.2.2.2.1 _ q45) (fun _ h9 => h9) rfl hdg kk
theorem p0l_outcome {i : Nat} (hi : i < 840) (K : KX cc nL RX0 p s m args c A dC dI d) (S : St dC dI A s.heap H locs (pw h d σ)) (hdg : decode cc pc = .ok (.iaload, 1)) (kk : W p l e R s m args below meth c H locs cells slots Q (F0 m (pc + 1) ls (.int (e4 (σ.2 11 i)) :: rest))) : W p l e R s m args below meth c H locs cells slots Q (F0 m pc ls (.int (nI i) :: .ref (h 11) :: rest)) :=
  va_iald (f := fun j => e4 (σ.2 11 j)) K.1 K.2.1 K.2.2.2.2.2.1 S.1 8 0 rfl rfl (vp_in_nI hi (by decide)) hdg (by rw [nI_clamp (by omega)]; exact kk)
theorem p0s_outcome {i x : Nat} (hi : i < 840) (K : KX cc nL RX0 p s m args c A dC dI d) (S : St dC dI A s.heap H locs (pw h d σ)) (hdg : decode cc pc = .ok (.iastore, 1)) (kk : ∀ (H1 : Heap) (locs1 : List Loc), St dC dI A s.heap H1 locs1 (pw h d (setA σ 11 i x)) → W p l e R s m args below meth c H1 locs1 cells slots Q (F0 m (pc + 1) ls rest)) : W p l e R s m args below meth c H locs cells slots Q (F0 m pc ls (.int (e4 x) :: .int (nI i) :: .ref (h 11) :: rest)) := by
  refine va_iast (f := fun j => e4 (σ.2 11 j)) K.1 K.2.1 K.2.2.2.2.2.1 S.1 S.2.1 S.2.2 8 0 rfl rfl (vp_in_nI hi (by decide)) hdg (fun H1 locs1 hP hD hS => ?_)
  rw [nI_clamp (by omega), up_e4] at hP hD
  exact kk H1 locs1 ⟨hP, hD, hS⟩
theorem p0g_depth (K : KX cc nL RX0 p s m args c A dC dI d) (S : St dC dI A s.heap H locs (pw h d σ)) (hdg : decode cc pc = .ok (.getfield 70, 3)) (kk : W p l e R s m args below meth c H locs cells slots Q (F0 m (pc + 3) ls (.int (nI (σ.1 12)) :: rest))) : W p l e R s m args below meth c H locs cells slots Q (F0 m pc ls (.ref (h 0) :: rest)) :=
  va_get (D := (dC, dI)) (ci := 0) (v := .int (nI (σ.1 12))) (C := RX0) (T := TX0) (N := 16) K.1 K.2.1 K.2.2.2.2.1 in_X0 K.2.2.2.1 K.2.2.2.2.2.1 S.1 0 rfl rfl 12 (by decide) (K.2.2.2.2.1 _ q46) (fun _ h9 => h9) rfl hdg kk
theorem p0p_depth {x : Nat} (K : KX cc nL RX0 p s m args c A dC dI d) (S : St dC dI A s.heap H locs (pw h d σ)) (hdg : decode cc pc = .ok (.putfield 70, 3)) (kk : ∀ (H1 : Heap) (locs1 : List Loc), St dC dI A s.heap H1 locs1 (pw h d (setI σ 12 x)) → W p l e R s m args below meth c H1 locs1 cells slots Q (F0 m (pc + 3) ls rest)) : W p l e R s m args below meth c H locs cells slots Q (F0 m pc ls (.int (nI x) :: .ref (h 0) :: rest)) :=
  va_put (D := (dC, dI)) (ci := 0) (v := .int (nI x)) (ty := .int) (C := RX0) (T := TX0) (N := 16) K.1 K.2.1 K.2.2.2.2.1 in_X0 tyX0 tyX0_ok nmX0 K.2.2.2.1 K.2.2.2.2.2.1 S.1 S.2.1 S.2.2 0 rfl rfl 12 (by decide) (K.2.2.2.2.1 _ q46) (fun _ h9 => h9) rfl (by decide +kernel) rfl rfl (Nat.le_of_ble_eq_true rfl) hdg (fun H1 locs1 hP hD hS => kk H1 locs1 ⟨hP, hD, hS⟩)
theorem p0g_waiting (K : KX cc nL RX0 p s m args c A dC dI d) (S : St dC dI A s.heap H locs (pw h d σ)) (hdg : decode cc pc = .ok (.getfield 34, 3)) (kk : W p l e R s m args below meth c H locs cells slots Q (F0 m (pc + 3) ls (.ref (h 13) :: rest))) : W p l e R s m args below meth c H locs cells slots Q (F0 m pc ls (.ref (h 0) :: rest)) :=
  va_get (D := (dC, dI)) (ci := 0) (v := .ref (h 13)) (C := RX0) (T := TX0) (N := 16) K.1 K.2.1 K.2.2.2.2.1 in_X0 K.2.2.2.1 K.2.2.2.2.2.1 S.1 0 rfl rfl 13 (by decide) (K.2.2.2.2.1 _ q47) (fun _ h9 => h9) rfl hdg kk
theorem p0l_waiting {i : Nat} (hi : i < 840) (K : KX cc nL RX0 p s m args c A dC dI d) (S : St dC dI A s.heap H locs (pw h d σ)) (hdg : decode cc pc = .ok (.iaload, 1)) (kk : W p l e R s m args below meth c H locs cells slots Q (F0 m (pc + 1) ls (.int (nI (σ.2 13 i)) :: rest))) : W p l e R s m args below meth c H locs cells slots Q (F0 m pc ls (.int (nI i) :: .ref (h 13) :: rest)) :=
  va_iald (f := fun j => nI (σ.2 13 j)) K.1 K.2.1 K.2.2.2.2.2.1 S.1 9 0 rfl rfl (vp_in_nI hi (by decide)) hdg (by rw [nI_clamp (by omega)]; exact kk)
theorem p0s_waiting {i x : Nat} (hi : i < 840) (K : KX cc nL RX0 p s m args c A dC dI d) (S : St dC dI A s.heap H locs (pw h d σ)) (hdg : decode cc pc = .ok (.iastore, 1)) (kk : ∀ (H1 : Heap) (locs1 : List Loc), St dC dI A s.heap H1 locs1 (pw h d (setA σ 13 i x)) → W p l e R s m args below meth c H1 locs1 cells slots Q (F0 m (pc + 1) ls rest)) : W p l e R s m args below meth c H locs cells slots Q (F0 m pc ls (.int (nI x) :: .int (nI i) :: .ref (h 13) :: rest)) := by
  refine va_iast (f := fun j => nI (σ.2 13 j)) K.1 K.2.1 K.2.2.2.2.2.1 S.1 S.2.1 S.2.2 9 0 rfl rfl (vp_in_nI hi (by decide)) hdg (fun H1 locs1 hP hD hS => ?_)
  rw [nI_clamp (by omega), up_nI] at hP hD
  exact kk H1 locs1 ⟨hP, hD, hS⟩
theorem p0g_stage (K : KX cc nL RX0 p s m args c A dC dI d) (S : St dC dI A s.heap H locs (pw h d σ)) (hdg : decode cc pc = .ok (.getfield 37, 3)) (kk : W p l e R s m args below meth c H locs cells slots Q (F0 m (pc + 3) ls (.ref (h 14) :: rest))) : W p l e R s m args below meth c H locs cells slots Q (F0 m pc ls (.ref (h 0) :: rest)) :=
  va_get (D := (dC, dI)) (ci := 0) (v := .ref (h 14)) (C := RX0) (T := TX0) (N := 16) K.1 K.2.1 K.2.2.2.2.1 in_X0 K.2.2.2.1 K.2.2.2.2.2.1 S.1 0 rfl rfl 14 (by decide) (K.2.2.2.2.1 _ q48) (fun _ h9 => h9) rfl hdg kk
theorem p0l_stage {i : Nat} (hi : i < 840) (K : KX cc nL RX0 p s m args c A dC dI d) (S : St dC dI A s.heap H locs (pw h d σ)) (hdg : decode cc pc = .ok (.iaload, 1)) (kk : W p l e R s m args below meth c H locs cells slots Q (F0 m (pc + 1) ls (.int (nI (σ.2 14 i)) :: rest))) : W p l e R s m args below meth c H locs cells slots Q (F0 m pc ls (.int (nI i) :: .ref (h 14) :: rest)) :=
  va_iald (f := fun j => nI (σ.2 14 j)) K.1 K.2.1 K.2.2.2.2.2.1 S.1 10 0 rfl rfl (vp_in_nI hi (by decide)) hdg (by rw [nI_clamp (by omega)]; exact kk)
theorem p0s_stage {i x : Nat} (hi : i < 840) (K : KX cc nL RX0 p s m args c A dC dI d) (S : St dC dI A s.heap H locs (pw h d σ)) (hdg : decode cc pc = .ok (.iastore, 1)) (kk : ∀ (H1 : Heap) (locs1 : List Loc), St dC dI A s.heap H1 locs1 (pw h d (setA σ 14 i x)) → W p l e R s m args below meth c H1 locs1 cells slots Q (F0 m (pc + 1) ls rest)) : W p l e R s m args below meth c H locs cells slots Q (F0 m pc ls (.int (nI x) :: .int (nI i) :: .ref (h 14) :: rest)) := by
  refine va_iast (f := fun j => nI (σ.2 14 j)) K.1 K.2.1 K.2.2.2.2.2.1 S.1 S.2.1 S.2.2 10 0 rfl rfl (vp_in_nI hi (by decide)) hdg (fun H1 locs1 hP hD hS => ?_)
  rw [nI_clamp (by omega), up_nI] at hP hD
  exact kk H1 locs1 ⟨hP, hD, hS⟩
theorem p0g_taken (K : KX cc nL RX0 p s m args c A dC dI d) (S : St dC dI A s.heap H locs (pw h d σ)) (hdg : decode cc pc = .ok (.getfield 40, 3)) (kk : W p l e R s m args below meth c H locs cells slots Q (F0 m (pc + 3) ls (.ref (h 15) :: rest))) : W p l e R s m args below meth c H locs cells slots Q (F0 m pc ls (.ref (h 0) :: rest)) :=
  va_get (D := (dC, dI)) (ci := 0) (v := .ref (h 15)) (C := RX0) (T := TX0) (N := 16) K.1 K.2.1 K.2.2.2.2.1 in_X0 K.2.2.2.1 K.2.2.2.2.2.1 S.1 0 rfl rfl 15 (by decide) (K.2.2.2.2.1 _ q49) (fun _ h9 => h9) rfl hdg kk
theorem p0l_taken {i : Nat} (hi : i < 840) (K : KX cc nL RX0 p s m args c A dC dI d) (S : St dC dI A s.heap H locs (pw h d σ)) (hdg : decode cc pc = .ok (.iaload, 1)) (kk : W p l e R s m args below meth c H locs cells slots Q (F0 m (pc + 1) ls (.int (nI (σ.2 15 i)) :: rest))) : W p l e R s m args below meth c H locs cells slots Q (F0 m pc ls (.int (nI i) :: .ref (h 15) :: rest)) :=
  va_iald (f := fun j => nI (σ.2 15 j)) K.1 K.2.1 K.2.2.2.2.2.1 S.1 11 0 rfl rfl (vp_in_nI hi (by decide)) hdg (by rw [nI_clamp (by omega)]; exact kk)
theorem p0s_taken {i x : Nat} (hi : i < 840) (K : KX cc nL RX0 p s m args c A dC dI d) (S : St dC dI A s.heap H locs (pw h d σ)) (hdg : decode cc pc = .ok (.iastore, 1)) (kk : ∀ (H1 : Heap) (locs1 : List Loc), St dC dI A s.heap H1 locs1 (pw h d (setA σ 15 i x)) → W p l e R s m args below meth c H1 locs1 cells slots Q (F0 m (pc + 1) ls rest)) : W p l e R s m args below meth c H locs cells slots Q (F0 m pc ls (.int (nI x) :: .int (nI i) :: .ref (h 15) :: rest)) := by
  refine va_iast (f := fun j => nI (σ.2 15 j)) K.1 K.2.1 K.2.2.2.2.2.1 S.1 S.2.1 S.2.2 11 0 rfl rfl (vp_in_nI hi (by decide)) hdg (fun H1 locs1 hP hD hS => ?_)
  rw [nI_clamp (by omega), up_nI] at hP hD
  exact kk H1 locs1 ⟨hP, hD, hS⟩
theorem p1g_tokens (K : KX cc nL RX1 p s m args c A dC dI d) (S : St dC dI A s.heap H locs (mw h d σ)) (hdg : decode cc pc = .ok (.getfield 42, 3)) (kk : W p l e R s m args below meth c H locs cells slots Q (F0 m (pc + 3) ls (.int (nI (σ.1 0)) :: rest))) : W p l e R s m args below meth c H locs cells slots Q (F0 m pc ls (.ref (h 0) :: rest)) :=
  va_get (D := (dC, dI)) (ci := 1) (v := .int (nI (σ.1 0))) (C := RX1) (T := TX1) (N := 11) K.1 K.2.1 K.2.2.2.2.1 in_X1 K.2.2.2.1 K.2.2.2.2.2.1 S.1 0 rfl rfl 0 (by decide) (K.2.2.2.2.1 _ q160) (fun _ h9 => h9) rfl hdg kk
theorem p1p_tokens {x : Nat} (K : KX cc nL RX1 p s m args c A dC dI d) (S : St dC dI A s.heap H locs (mw h d σ)) (hdg : decode cc pc = .ok (.putfield 42, 3)) (kk : ∀ (H1 : Heap) (locs1 : List Loc), St dC dI A s.heap H1 locs1 (mw h d (setI σ 0 x)) → W p l e R s m args below meth c H1 locs1 cells slots Q (F0 m (pc + 3) ls rest)) : W p l e R s m args below meth c H locs cells slots Q (F0 m pc ls (.int (nI x) :: .ref (h 0) :: rest)) :=
  va_put (D := (dC, dI)) (ci := 1) (v := .int (nI x)) (ty := .int) (C := RX1) (T := TX1) (N := 11) K.1 K.2.1 K.2.2.2.2.1 in_X1 tyX1 tyX1_ok nmX1 K.2.2.2.1 K.2.2.2.2.2.1 S.1 S.2.1 S.2.2 0 rfl rfl 0 (by decide) (K.2.2.2.2.1 _ q160) (fun _ h9 => h9) rfl (by decide +kernel) rfl rfl (Nat.le_of_ble_eq_true rfl) hdg (fun H1 locs1 hP hD hS => kk H1 locs1 ⟨hP, hD, hS⟩)
theorem p1g_codes (K : KX cc nL RX1 p s m args c A dC dI d) (S : St dC dI A s.heap H locs (mw h d σ)) (hdg : decode cc pc = .ok (.getfield 7, 3)) (kk : W p l e R s m args below meth c H locs cells slots Q (F0 m (pc + 3) ls (.ref (h 1) :: rest))) : W p l e R s m args below meth c H locs cells slots Q (F0 m pc ls (.ref (h 0) :: rest)) :=
  va_get (D := (dC, dI)) (ci := 1) (v := .ref (h 1)) (C := RX1) (T := TX1) (N := 11) K.1 K.2.1 K.2.2.2.2.1 in_X1 K.2.2.2.1 K.2.2.2.2.2.1 S.1 0 rfl rfl 1 (by decide) (K.2.2.2.2.1 _ q161) (fun _ h9 => h9) rfl hdg kk
theorem p1l_codes {i : Nat} (hi : i < 40) (K : KX cc nL RX1 p s m args c A dC dI d) (S : St dC dI A s.heap H locs (mw h d σ)) (hdg : decode cc pc = .ok (.iaload, 1)) (kk : W p l e R s m args below meth c H locs cells slots Q (F0 m (pc + 1) ls (.int (nI (σ.2 1 i)) :: rest))) : W p l e R s m args below meth c H locs cells slots Q (F0 m pc ls (.int (nI i) :: .ref (h 1) :: rest)) :=
  va_iald (f := fun j => nI (σ.2 1 j)) K.1 K.2.1 K.2.2.2.2.2.1 S.1 1 0 rfl rfl (vp_in_nI hi (by decide)) hdg (by rw [nI_clamp (by omega)]; exact kk)
theorem p1s_codes {i x : Nat} (hi : i < 40) (K : KX cc nL RX1 p s m args c A dC dI d) (S : St dC dI A s.heap H locs (mw h d σ)) (hdg : decode cc pc = .ok (.iastore, 1)) (kk : ∀ (H1 : Heap) (locs1 : List Loc), St dC dI A s.heap H1 locs1 (mw h d (setA σ 1 i x)) → W p l e R s m args below meth c H1 locs1 cells slots Q (F0 m (pc + 1) ls rest)) : W p l e R s m args below meth c H locs cells slots Q (F0 m pc ls (.int (nI x) :: .int (nI i) :: .ref (h 1) :: rest)) := by
  refine va_iast (f := fun j => nI (σ.2 1 j)) K.1 K.2.1 K.2.2.2.2.2.1 S.1 S.2.1 S.2.2 1 0 rfl rfl (vp_in_nI hi (by decide)) hdg (fun H1 locs1 hP hD hS => ?_)
  rw [nI_clamp (by omega), up_nI] at hP hD
  exact kk H1 locs1 ⟨hP, hD, hS⟩
theorem p1g_args (K : KX cc nL RX1 p s m args c A dC dI d) (S : St dC dI A s.heap H locs (mw h d σ)) (hdg : decode cc pc = .ok (.getfield 13, 3)) (kk : W p l e R s m args below meth c H locs cells slots Q (F0 m (pc + 3) ls (.ref (h 2) :: rest))) : W p l e R s m args below meth c H locs cells slots Q (F0 m pc ls (.ref (h 0) :: rest)) :=
  va_get (D := (dC, dI)) (ci := 1) (v := .ref (h 2)) (C := RX1) (T := TX1) (N := 11) K.1 K.2.1 K.2.2.2.2.1 in_X1 K.2.2.2.1 K.2.2.2.2.2.1 S.1 0 rfl rfl 2 (by decide) (K.2.2.2.2.1 _ q162) (fun _ h9 => h9) rfl hdg kk
theorem p1l_args {i : Nat} (hi : i < 40) (K : KX cc nL RX1 p s m args c A dC dI d) (S : St dC dI A s.heap H locs (mw h d σ)) (hdg : decode cc pc = .ok (.iaload, 1)) (kk : W p l e R s m args below meth c H locs cells slots Q (F0 m (pc + 1) ls (.int (nI (σ.2 2 i)) :: rest))) : W p l e R s m args below meth c H locs cells slots Q (F0 m pc ls (.int (nI i) :: .ref (h 2) :: rest)) :=
  va_iald (f := fun j => nI (σ.2 2 j)) K.1 K.2.1 K.2.2.2.2.2.1 S.1 2 0 rfl rfl (vp_in_nI hi (by decide)) hdg (by rw [nI_clamp (by omega)]; exact kk)
theorem p1s_args {i x : Nat} (hi : i < 40) (K : KX cc nL RX1 p s m args c A dC dI d) (S : St dC dI A s.heap H locs (mw h d σ)) (hdg : decode cc pc = .ok (.iastore, 1)) (kk : ∀ (H1 : Heap) (locs1 : List Loc), St dC dI A s.heap H1 locs1 (mw h d (setA σ 2 i x)) → W p l e R s m args below meth c H1 locs1 cells slots Q (F0 m (pc + 1) ls rest)) : W p l e R s m args below meth c H locs cells slots Q (F0 m pc ls (.int (nI x) :: .int (nI i) :: .ref (h 2) :: rest)) := by
  refine va_iast (f := fun j => nI (σ.2 2 j)) K.1 K.2.1 K.2.2.2.2.2.1 S.1 S.2.1 S.2.2 2 0 rfl rfl (vp_in_nI hi (by decide)) hdg (fun H1 locs1 hP hD hS => ?_)
  rw [nI_clamp (by omega), up_nI] at hP hD
  exact kk H1 locs1 ⟨hP, hD, hS⟩
theorem p1g_firsts (K : KX cc nL RX1 p s m args c A dC dI d) (S : St dC dI A s.heap H locs (mw h d σ)) (hdg : decode cc pc = .ok (.getfield 16, 3)) (kk : W p l e R s m args below meth c H locs cells slots Q (F0 m (pc + 3) ls (.ref (h 3) :: rest))) : W p l e R s m args below meth c H locs cells slots Q (F0 m pc ls (.ref (h 0) :: rest)) :=
  va_get (D := (dC, dI)) (ci := 1) (v := .ref (h 3)) (C := RX1) (T := TX1) (N := 11) K.1 K.2.1 K.2.2.2.2.1 in_X1 K.2.2.2.1 K.2.2.2.2.2.1 S.1 0 rfl rfl 3 (by decide) (K.2.2.2.2.1 _ q163) (fun _ h9 => h9) rfl hdg kk
theorem p1l_firsts {i : Nat} (hi : i < 40) (K : KX cc nL RX1 p s m args c A dC dI d) (S : St dC dI A s.heap H locs (mw h d σ)) (hdg : decode cc pc = .ok (.iaload, 1)) (kk : W p l e R s m args below meth c H locs cells slots Q (F0 m (pc + 1) ls (.int (nI (σ.2 3 i)) :: rest))) : W p l e R s m args below meth c H locs cells slots Q (F0 m pc ls (.int (nI i) :: .ref (h 3) :: rest)) :=
  va_iald (f := fun j => nI (σ.2 3 j)) K.1 K.2.1 K.2.2.2.2.2.1 S.1 3 0 rfl rfl (vp_in_nI hi (by decide)) hdg (by rw [nI_clamp (by omega)]; exact kk)
theorem p1s_firsts {i x : Nat} (hi : i < 40) (K : KX cc nL RX1 p s m args c A dC dI d) (S : St dC dI A s.heap H locs (mw h d σ)) (hdg : decode cc pc = .ok (.iastore, 1)) (kk : ∀ (H1 : Heap) (locs1 : List Loc), St dC dI A s.heap H1 locs1 (mw h d (setA σ 3 i x)) → W p l e R s m args below meth c H1 locs1 cells slots Q (F0 m (pc + 1) ls rest)) : W p l e R s m args below meth c H locs cells slots Q (F0 m pc ls (.int (nI x) :: .int (nI i) :: .ref (h 3) :: rest)) := by
  refine va_iast (f := fun j => nI (σ.2 3 j)) K.1 K.2.1 K.2.2.2.2.2.1 S.1 S.2.1 S.2.2 3 0 rfl rfl (vp_in_nI hi (by decide)) hdg (fun H1 locs1 hP hD hS => ?_)
  rw [nI_clamp (by omega), up_nI] at hP hD
  exact kk H1 locs1 ⟨hP, hD, hS⟩
theorem p1g_lasts (K : KX cc nL RX1 p s m args c A dC dI d) (S : St dC dI A s.heap H locs (mw h d σ)) (hdg : decode cc pc = .ok (.getfield 19, 3)) (kk : W p l e R s m args below meth c H locs cells slots Q (F0 m (pc + 3) ls (.ref (h 4) :: rest))) : W p l e R s m args below meth c H locs cells slots Q (F0 m pc ls (.ref (h 0) :: rest)) :=
  va_get (D := (dC, dI)) (ci := 1) (v := .ref (h 4)) (C := RX1) (T := TX1) (N := 11) K.1 K.2.1 K.2.2.2.2.1 in_X1 K.2.2.2.1 K.2.2.2.2.2.1 S.1 0 rfl rfl 4 (by decide) (K.2.2.2.2.1 _ q164) (fun _ h9 => h9) rfl hdg kk
theorem p1l_lasts {i : Nat} (hi : i < 40) (K : KX cc nL RX1 p s m args c A dC dI d) (S : St dC dI A s.heap H locs (mw h d σ)) (hdg : decode cc pc = .ok (.iaload, 1)) (kk : W p l e R s m args below meth c H locs cells slots Q (F0 m (pc + 1) ls (.int (nI (σ.2 4 i)) :: rest))) : W p l e R s m args below meth c H locs cells slots Q (F0 m pc ls (.int (nI i) :: .ref (h 4) :: rest)) :=
  va_iald (f := fun j => nI (σ.2 4 j)) K.1 K.2.1 K.2.2.2.2.2.1 S.1 4 0 rfl rfl (vp_in_nI hi (by decide)) hdg (by rw [nI_clamp (by omega)]; exact kk)
theorem p1s_lasts {i x : Nat} (hi : i < 40) (K : KX cc nL RX1 p s m args c A dC dI d) (S : St dC dI A s.heap H locs (mw h d σ)) (hdg : decode cc pc = .ok (.iastore, 1)) (kk : ∀ (H1 : Heap) (locs1 : List Loc), St dC dI A s.heap H1 locs1 (mw h d (setA σ 4 i x)) → W p l e R s m args below meth c H1 locs1 cells slots Q (F0 m (pc + 1) ls rest)) : W p l e R s m args below meth c H locs cells slots Q (F0 m pc ls (.int (nI x) :: .int (nI i) :: .ref (h 4) :: rest)) := by
  refine va_iast (f := fun j => nI (σ.2 4 j)) K.1 K.2.1 K.2.2.2.2.2.1 S.1 S.2.1 S.2.2 4 0 rfl rfl (vp_in_nI hi (by decide)) hdg (fun H1 locs1 hP hD hS => ?_)
  rw [nI_clamp (by omega), up_nI] at hP hD
  exact kk H1 locs1 ⟨hP, hD, hS⟩
theorem p1g_height (K : KX cc nL RX1 p s m args c A dC dI d) (S : St dC dI A s.heap H locs (mw h d σ)) (hdg : decode cc pc = .ok (.getfield 34, 3)) (kk : W p l e R s m args below meth c H locs cells slots Q (F0 m (pc + 3) ls (.int (nI (σ.1 5)) :: rest))) : W p l e R s m args below meth c H locs cells slots Q (F0 m pc ls (.ref (h 0) :: rest)) :=
  va_get (D := (dC, dI)) (ci := 1) (v := .int (nI (σ.1 5))) (C := RX1) (T := TX1) (N := 11) K.1 K.2.1 K.2.2.2.2.1 in_X1 K.2.2.2.1 K.2.2.2.2.2.1 S.1 0 rfl rfl 5 (by decide) (K.2.2.2.2.1 _ q165) (fun _ h9 => h9) rfl hdg kk
theorem p1p_height {x : Nat} (K : KX cc nL RX1 p s m args c A dC dI d) (S : St dC dI A s.heap H locs (mw h d σ)) (hdg : decode cc pc = .ok (.putfield 34, 3)) (kk : ∀ (H1 : Heap) (locs1 : List Loc), St dC dI A s.heap H1 locs1 (mw h d (setI σ 5 x)) → W p l e R s m args below meth c H1 locs1 cells slots Q (F0 m (pc + 3) ls rest)) : W p l e R s m args below meth c H locs cells slots Q (F0 m pc ls (.int (nI x) :: .ref (h 0) :: rest)) :=
  va_put (D := (dC, dI)) (ci := 1) (v := .int (nI x)) (ty := .int) (C := RX1) (T := TX1) (N := 11) K.1 K.2.1 K.2.2.2.2.1 in_X1 tyX1 tyX1_ok nmX1 K.2.2.2.1 K.2.2.2.2.2.1 S.1 S.2.1 S.2.2 0 rfl rfl 5 (by decide) (K.2.2.2.2.1 _ q165) (fun _ h9 => h9) rfl (by decide +kernel) rfl rfl (Nat.le_of_ble_eq_true rfl) hdg (fun H1 locs1 hP hD hS => kk H1 locs1 ⟨hP, hD, hS⟩)
theorem p1g_stack (K : KX cc nL RX1 p s m args c A dC dI d) (S : St dC dI A s.heap H locs (mw h d σ)) (hdg : decode cc pc = .ok (.getfield 22, 3)) (kk : W p l e R s m args below meth c H locs cells slots Q (F0 m (pc + 3) ls (.ref (h 6) :: rest))) : W p l e R s m args below meth c H locs cells slots Q (F0 m pc ls (.ref (h 0) :: rest)) :=
  va_get (D := (dC, dI)) (ci := 1) (v := .ref (h 6)) (C := RX1) (T := TX1) (N := 11) K.1 K.2.1 K.2.2.2.2.1 in_X1 K.2.2.2.1 K.2.2.2.2.2.1 S.1 0 rfl rfl 6 (by decide) (K.2.2.2.2.1 _ q166) (fun _ h9 => h9) rfl hdg kk
theorem p1l_stack {i : Nat} (hi : i < 40) (K : KX cc nL RX1 p s m args c A dC dI d) (S : St dC dI A s.heap H locs (mw h d σ)) (hdg : decode cc pc = .ok (.iaload, 1)) (kk : W p l e R s m args below meth c H locs cells slots Q (F0 m (pc + 1) ls (.int (nI (σ.2 6 i)) :: rest))) : W p l e R s m args below meth c H locs cells slots Q (F0 m pc ls (.int (nI i) :: .ref (h 6) :: rest)) :=
  va_iald (f := fun j => nI (σ.2 6 j)) K.1 K.2.1 K.2.2.2.2.2.1 S.1 5 0 rfl rfl (vp_in_nI hi (by decide)) hdg (by rw [nI_clamp (by omega)]; exact kk)
theorem p1s_stack {i x : Nat} (hi : i < 40) (K : KX cc nL RX1 p s m args c A dC dI d) (S : St dC dI A s.heap H locs (mw h d σ)) (hdg : decode cc pc = .ok (.iastore, 1)) (kk : ∀ (H1 : Heap) (locs1 : List Loc), St dC dI A s.heap H1 locs1 (mw h d (setA σ 6 i x)) → W p l e R s m args below meth c H1 locs1 cells slots Q (F0 m (pc + 1) ls rest)) : W p l e R s m args below meth c H locs cells slots Q (F0 m pc ls (.int (nI x) :: .int (nI i) :: .ref (h 6) :: rest)) := by
  refine va_iast (f := fun j => nI (σ.2 6 j)) K.1 K.2.1 K.2.2.2.2.2.1 S.1 S.2.1 S.2.2 5 0 rfl rfl (vp_in_nI hi (by decide)) hdg (fun H1 locs1 hP hD hS => ?_)
  rw [nI_clamp (by omega), up_nI] at hP hD
  exact kk H1 locs1 ⟨hP, hD, hS⟩
theorem p1g_rules (K : KX cc nL RX1 p s m args c A dC dI d) (S : St dC dI A s.heap H locs (mw h d σ)) (hdg : decode cc pc = .ok (.getfield 25, 3)) (kk : W p l e R s m args below meth c H locs cells slots Q (F0 m (pc + 3) ls (.ref (h 7) :: rest))) : W p l e R s m args below meth c H locs cells slots Q (F0 m pc ls (.ref (h 0) :: rest)) :=
  va_get (D := (dC, dI)) (ci := 1) (v := .ref (h 7)) (C := RX1) (T := TX1) (N := 11) K.1 K.2.1 K.2.2.2.2.1 in_X1 K.2.2.2.1 K.2.2.2.2.2.1 S.1 0 rfl rfl 7 (by decide) (K.2.2.2.2.1 _ q167) (fun _ h9 => h9) rfl hdg kk
theorem p1l_rules {i : Nat} (hi : i < 4) (K : KX cc nL RX1 p s m args c A dC dI d) (S : St dC dI A s.heap H locs (mw h d σ)) (hdg : decode cc pc = .ok (.iaload, 1)) (kk : W p l e R s m args below meth c H locs cells slots Q (F0 m (pc + 1) ls (.int (e1 (σ.2 7 i)) :: rest))) : W p l e R s m args below meth c H locs cells slots Q (F0 m pc ls (.int (nI i) :: .ref (h 7) :: rest)) :=
  va_iald (f := fun j => e1 (σ.2 7 j)) K.1 K.2.1 K.2.2.2.2.2.1 S.1 6 0 rfl rfl (vp_in_nI hi (by decide)) hdg (by rw [nI_clamp (by omega)]; exact kk)
theorem p1s_rules {i x : Nat} (hi : i < 4) (K : KX cc nL RX1 p s m args c A dC dI d) (S : St dC dI A s.heap H locs (mw h d σ)) (hdg : decode cc pc = .ok (.iastore, 1)) (kk : ∀ (H1 : Heap) (locs1 : List Loc), St dC dI A s.heap H1 locs1 (mw h d (setA σ 7 i x)) → W p l e R s m args below meth c H1 locs1 cells slots Q (F0 m (pc + 1) ls rest)) : W p l e R s m args below meth c H locs cells slots Q (F0 m pc ls (.int (e1 x) :: .int (nI i) :: .ref (h 7) :: rest)) := by
  refine va_iast (f := fun j => e1 (σ.2 7 j)) K.1 K.2.1 K.2.2.2.2.2.1 S.1 S.2.1 S.2.2 6 0 rfl rfl (vp_in_nI hi (by decide)) hdg (fun H1 locs1 hP hD hS => ?_)
  rw [nI_clamp (by omega), up_e1] at hP hD
  exact kk H1 locs1 ⟨hP, hD, hS⟩
theorem p1g_letters (K : KX cc nL RX1 p s m args c A dC dI d) (S : St dC dI A s.heap H locs (mw h d σ)) (hdg : decode cc pc = .ok (.getfield 45, 3)) (kk : W p l e R s m args below meth c H locs cells slots Q (F0 m (pc + 3) ls (.int (nI (σ.1 8)) :: rest))) : W p l e R s m args below meth c H locs cells slots Q (F0 m pc ls (.ref (h 0) :: rest)) :=
  va_get (D := (dC, dI)) (ci := 1) (v := .int (nI (σ.1 8))) (C := RX1) (T := TX1) (N := 11) K.1 K.2.1 K.2.2.2.2.1 in_X1 K.2.2.2.1 K.2.2.2.2.2.1 S.1 0 rfl rfl 8 (by decide) (K.2.2.2.2.1 _ q168) (fun _ h9 => h9) rfl hdg kk
theorem p1p_letters {x : Nat} (K : KX cc nL RX1 p s m args c A dC dI d) (S : St dC dI A s.heap H locs (mw h d σ)) (hdg : decode cc pc = .ok (.putfield 45, 3)) (kk : ∀ (H1 : Heap) (locs1 : List Loc), St dC dI A s.heap H1 locs1 (mw h d (setI σ 8 x)) → W p l e R s m args below meth c H1 locs1 cells slots Q (F0 m (pc + 3) ls rest)) : W p l e R s m args below meth c H locs cells slots Q (F0 m pc ls (.int (nI x) :: .ref (h 0) :: rest)) :=
  va_put (D := (dC, dI)) (ci := 1) (v := .int (nI x)) (ty := .int) (C := RX1) (T := TX1) (N := 11) K.1 K.2.1 K.2.2.2.2.1 in_X1 tyX1 tyX1_ok nmX1 K.2.2.2.1 K.2.2.2.2.2.1 S.1 S.2.1 S.2.2 0 rfl rfl 8 (by decide) (K.2.2.2.2.1 _ q168) (fun _ h9 => h9) rfl (by decide +kernel) rfl rfl (Nat.le_of_ble_eq_true rfl) hdg (fun H1 locs1 hP hD hS => kk H1 locs1 ⟨hP, hD, hS⟩)
theorem p1g_text (K : KX cc nL RX1 p s m args c A dC dI d) (S : St dC dI A s.heap H locs (mw h d σ)) (hdg : decode cc pc = .ok (.getfield 28, 3)) (kk : W p l e R s m args below meth c H locs cells slots Q (F0 m (pc + 3) ls (.ref (h 9) :: rest))) : W p l e R s m args below meth c H locs cells slots Q (F0 m pc ls (.ref (h 0) :: rest)) :=
  va_get (D := (dC, dI)) (ci := 1) (v := .ref (h 9)) (C := RX1) (T := TX1) (N := 11) K.1 K.2.1 K.2.2.2.2.1 in_X1 K.2.2.2.1 K.2.2.2.2.2.1 S.1 0 rfl rfl 9 (by decide) (K.2.2.2.2.1 _ q169) (fun _ h9 => h9) rfl hdg kk
theorem p1l_text {i : Nat} (hi : i < 20) (K : KX cc nL RX1 p s m args c A dC dI d) (S : St dC dI A s.heap H locs (mw h d σ)) (hdg : decode cc pc = .ok (.iaload, 1)) (kk : W p l e R s m args below meth c H locs cells slots Q (F0 m (pc + 1) ls (.int (nI (σ.2 9 i)) :: rest))) : W p l e R s m args below meth c H locs cells slots Q (F0 m pc ls (.int (nI i) :: .ref (h 9) :: rest)) :=
  va_iald (f := fun j => nI (σ.2 9 j)) K.1 K.2.1 K.2.2.2.2.2.1 S.1 7 0 rfl rfl (vp_in_nI hi (by decide)) hdg (by rw [nI_clamp (by omega)]; exact kk)
theorem p1s_text {i x : Nat} (hi : i < 20) (K : KX cc nL RX1 p s m args c A dC dI d) (S : St dC dI A s.heap H locs (mw h d σ)) (hdg : decode cc pc = .ok (.iastore, 1)) (kk : ∀ (H1 : Heap) (locs1 : List Loc), St dC dI A s.heap H1 locs1 (mw h d (setA σ 9 i x)) → W p l e R s m args below meth c H1 locs1 cells slots Q (F0 m (pc + 1) ls rest)) : W p l e R s m args below meth c H locs cells slots Q (F0 m pc ls (.int (nI x) :: .int (nI i) :: .ref (h 9) :: rest)) := by
  refine va_iast (f := fun j => nI (σ.2 9 j)) K.1 K.2.1 K.2.2.2.2.2.1 S.1 S.2.1 S.2.2 7 0 rfl rfl (vp_in_nI hi (by decide)) hdg (fun H1 locs1 hP hD hS => ?_)
  rw [nI_clamp (by omega), up_nI] at hP hD
  exact kk H1 locs1 ⟨hP, hD, hS⟩
theorem p1g_outcomes (K : KX cc nL RX1 p s m args c A dC dI d) (S : St dC dI A s.heap H locs (mw h d σ)) (hdg : decode cc pc = .ok (.getfield 31, 3)) (kk : W p l e R s m args below meth c H locs cells slots Q (F0 m (pc + 3) ls (.ref (h 10) :: rest))) : W p l e R s m args below meth c H locs cells slots Q (F0 m pc ls (.ref (h 0) :: rest)) :=
  va_get (D := (dC, dI)) (ci := 1) (v := .ref (h 10)) (C := RX1) (T := TX1) (N := 11) K.1 K.2.1 K.2.2.2.2.1 in_X1 K.2.2.2.1 K.2.2.2.2.2.1 S.1 0 rfl rfl 10 (by decide) (K.2.2.2.2.1 _ q170) (fun _ h9 => h9) rfl hdg kk
theorem p1l_outcomes {i : Nat} (hi : i < 840) (K : KX cc nL RX1 p s m args c A dC dI d) (S : St dC dI A s.heap H locs (mw h d σ)) (hdg : decode cc pc = .ok (.iaload, 1)) (kk : W p l e R s m args below meth c H locs cells slots Q (F0 m (pc + 1) ls (.int (e4 (σ.2 10 i)) :: rest))) : W p l e R s m args below meth c H locs cells slots Q (F0 m pc ls (.int (nI i) :: .ref (h 10) :: rest)) :=
  va_iald (f := fun j => e4 (σ.2 10 j)) K.1 K.2.1 K.2.2.2.2.2.1 S.1 8 0 rfl rfl (vp_in_nI hi (by decide)) hdg (by rw [nI_clamp (by omega)]; exact kk)
theorem p1s_outcomes {i x : Nat} (hi : i < 840) (K : KX cc nL RX1 p s m args c A dC dI d) (S : St dC dI A s.heap H locs (mw h d σ)) (hdg : decode cc pc = .ok (.iastore, 1)) (kk : ∀ (H1 : Heap) (locs1 : List Loc), St dC dI A s.heap H1 locs1 (mw h d (setA σ 10 i x)) → W p l e R s m args below meth c H1 locs1 cells slots Q (F0 m (pc + 1) ls rest)) : W p l e R s m args below meth c H locs cells slots Q (F0 m pc ls (.int (e4 x) :: .int (nI i) :: .ref (h 10) :: rest)) := by
  refine va_iast (f := fun j => e4 (σ.2 10 j)) K.1 K.2.1 K.2.2.2.2.2.1 S.1 S.2.1 S.2.2 8 0 rfl rfl (vp_in_nI hi (by decide)) hdg (fun H1 locs1 hP hD hS => ?_)
  rw [nI_clamp (by omega), up_e4] at hP hD
  exact kk H1 locs1 ⟨hP, hD, hS⟩
end MEM
end
section
set_option maxRecDepth 100000
/-! numbers: e1 v = v - 1, e4 v = v - 4 as ints; branches by natural numbers; a method's entry and end; calls -/
theorem nI_30 {n : Nat} (h : n < 2 ^ 30) : n < 2 ^ 31 := Nat.lt_trans h (by decide)
theorem e1_toInt {v : Nat} (h : v < 2 ^ 30) : (e1 v).toInt = (v : Int) - 1 := by
  have := pk_sub_toInt (a := v) (b := 1) h (by decide)
  exact this
theorem e4_toInt {v : Nat} (h : v < 2 ^ 30) : (e4 v).toInt = (v : Int) - 4 := by
  have := pk_sub_toInt (a := v) (b := 4) h (by decide)
  exact this
theorem e1_nI {v : Nat} (h : 1 ≤ v) : e1 v = nI (v - 1) := pk_sub (a := v) (b := 1) h
theorem e4_nI {v : Nat} (h : 4 ≤ v) : e4 v = nI (v - 4) := pk_sub (a := v) (b := 4) h
theorem nI_e1 (v : Nat) : nI v = e1 (v + 1) := by rw [e1_nI (by omega)]; rfl
theorem nI_e4 (v : Nat) : nI v = e4 (v + 4) := by rw [e4_nI (by omega)]; rfl
theorem nI_add_e4 (a b : Nat) : nI a + e4 b = e4 (a + b) := by
  unfold e4; rw [← nI_add]; grind
theorem e4_add_nI (a b : Nat) : e4 a + nI b = e4 (a + b) := by
  unfold e4; rw [← nI_add]; grind
theorem e4_add_e4 {a b : Nat} (h : 4 ≤ a) : e4 a + e4 b = e4 (a - 4 + b) := by
  rw [e4_nI h, nI_add_e4]
theorem e4_eq {a b : Nat} (ha : a < 2 ^ 30) (hb : b < 2 ^ 30) : e4 a = e4 b ↔ a = b := by
  refine ⟨fun h => ?_, fun h => by rw [h]⟩
  have := congrArg Int32.toInt h
  rw [e4_toInt ha, e4_toInt hb] at this
  omega
theorem e4_lt0 {v : Nat} (h : v < 2 ^ 30) : e4 v < 0 ↔ v < 4 := by
  rw [Int32.lt_iff_toInt_lt, e4_toInt h, Int32.toInt_zero]; omega
theorem e4_le0 {v : Nat} (h : v < 2 ^ 30) : e4 v ≤ 0 ↔ v ≤ 4 := by
  rw [Int32.le_iff_toInt_le, e4_toInt h, Int32.toInt_zero]; omega
theorem e4_ge0 {v : Nat} (h : v < 2 ^ 30) : 0 ≤ e4 v ↔ 4 ≤ v := by
  rw [Int32.le_iff_toInt_le, e4_toInt h, Int32.toInt_zero]; omega
theorem e4_gt0 {v : Nat} (h : v < 2 ^ 30) : 0 < e4 v ↔ 4 < v := by
  rw [Int32.lt_iff_toInt_lt, e4_toInt h, Int32.toInt_zero]; omega
theorem e1_lt0 {v : Nat} (h : v < 2 ^ 30) : e1 v < 0 ↔ v < 1 := by
  rw [Int32.lt_iff_toInt_lt, e1_toInt h, Int32.toInt_zero]; omega
theorem e1_ge0 {v : Nat} (h : v < 2 ^ 30) : 0 ≤ e1 v ↔ 1 ≤ v := by
  rw [Int32.le_iff_toInt_le, e1_toInt h, Int32.toInt_zero]; omega
theorem e4_eqN {a b : Nat} (ha : a < 2 ^ 30) (hb : b < 2 ^ 30) : e4 a = nI b ↔ a = b + 4 := by
  refine ⟨fun h => ?_, fun h => by rw [h, nI_e4]⟩
  have := congrArg Int32.toInt h
  rw [e4_toInt ha, nI_toInt (nI_30 hb)] at this
  omega
theorem nI_eq0 {a : Nat} (ha : a < 2 ^ 31) : nI a = 0 ↔ a = 0 := nI_eq (b := 0) ha (by decide)
theorem nI_le0 {a : Nat} (ha : a < 2 ^ 31) : nI a ≤ 0 ↔ a = 0 := by
  rw [Int32.le_iff_toInt_le, nI_toInt ha, Int32.toInt_zero]; omega
theorem nI_inc (a : Nat) : nI a + Int32.ofInt 1 = nI (a + 1) := nI_1 a
/-- the two low bits -/
def a3 (x : Int32) : Nat := x.toBitVec.toNat % 4
theorem a3_and (x : Int32) : x &&& nI 3 = nI (a3 x) := pk_and x 2 (by decide)
theorem a3_lt (x : Int32) : a3 x < 4 := Nat.mod_lt _ (by decide)
theorem setA_setF (σ : PT) (k : Nat) (f : Nat → Nat) (i x : Nat) : setA (setF σ k f) k i x = setF σ k (up f i x) := by
  unfold setA setF
  refine Prod.ext rfl ?_
  funext j
  dsimp only
  by_cases q : j = k
  · rw [q, up_s, up_s, up_s]
  · rw [up_n q, up_n q, up_n q]
theorem setF_self (σ : PT) (k : Nat) {f : Nat → Nat} (e : f = σ.2 k) : setF σ k f = σ := by
  unfold setF
  refine Prod.ext rfl ?_
  funext j
  dsimp only
  by_cases q : j = k
  · rw [q, up_s, e]
  · rw [up_n q]
section BRN
variable {p : Program} {l : Launch} {e : Env} {R : Room} {s : State} {m : MethodId} {args : Array Value} {below : List Frame} {meth : Method} {c : Code} {H : Heap} {locs : List Loc} {cells slots : Nat} {Q : State → Prop}
variable {cc : ByteArray} {pc nL : Nat} {ls : Array Slot} {rest : List Value} {a b : Nat} {off : Int} {tgt : Nat}
theorem bn_ge (ha : a < 2 ^ 31) (hb2 : b < 2 ^ 31) (hexec : p.tables.exec = Jvm.exec) (hb : c.code = cc) (hdg : decode cc pc = .ok (.if_icmp .ge off, 3)) (ht : (pc : Int) + off = (tgt : Int)) (kt : b ≤ a → W p l e R s m args below meth c H locs cells slots Q (F0 m tgt ls rest)) (kf : a < b → W p l e R s m args below meth c H locs cells slots Q (F0 m (pc + 3) ls rest)) : W p l e R s m args below meth c H locs cells slots Q (F0 m pc ls (.int (nI b) :: .int (nI a) :: rest)) :=
  lv_icmp_ge hexec hb hdg ht (fun c1 => kt ((nI_leI hb2 ha).mp c1)) (fun c1 => kf (Nat.not_le.mp fun h => c1 ((nI_leI hb2 ha).mpr h)))
theorem bn_gt (ha : a < 2 ^ 31) (hb2 : b < 2 ^ 31) (hexec : p.tables.exec = Jvm.exec) (hb : c.code = cc) (hdg : decode cc pc = .ok (.if_icmp .gt off, 3)) (ht : (pc : Int) + off = (tgt : Int)) (kt : b < a → W p l e R s m args below meth c H locs cells slots Q (F0 m tgt ls rest)) (kf : a ≤ b → W p l e R s m args below meth c H locs cells slots Q (F0 m (pc + 3) ls rest)) : W p l e R s m args below meth c H locs cells slots Q (F0 m pc ls (.int (nI b) :: .int (nI a) :: rest)) :=
  lv_icmp_gt hexec hb hdg ht (fun c1 => kt ((nI_ltI hb2 ha).mp c1)) (fun c1 => kf (Nat.not_lt.mp fun h => c1 ((nI_ltI hb2 ha).mpr h)))
theorem bn_lt (ha : a < 2 ^ 31) (hb2 : b < 2 ^ 31) (hexec : p.tables.exec = Jvm.exec) (hb : c.code = cc) (hdg : decode cc pc = .ok (.if_icmp .lt off, 3)) (ht : (pc : Int) + off = (tgt : Int)) (kt : a < b → W p l e R s m args below meth c H locs cells slots Q (F0 m tgt ls rest)) (kf : b ≤ a → W p l e R s m args below meth c H locs cells slots Q (F0 m (pc + 3) ls rest)) : W p l e R s m args below meth c H locs cells slots Q (F0 m pc ls (.int (nI b) :: .int (nI a) :: rest)) :=
  lv_icmp_lt hexec hb hdg ht (fun c1 => kt ((nI_ltI ha hb2).mp c1)) (fun c1 => kf (Nat.not_lt.mp fun h => c1 ((nI_ltI ha hb2).mpr h)))
theorem bn_le (ha : a < 2 ^ 31) (hb2 : b < 2 ^ 31) (hexec : p.tables.exec = Jvm.exec) (hb : c.code = cc) (hdg : decode cc pc = .ok (.if_icmp .le off, 3)) (ht : (pc : Int) + off = (tgt : Int)) (kt : a ≤ b → W p l e R s m args below meth c H locs cells slots Q (F0 m tgt ls rest)) (kf : b < a → W p l e R s m args below meth c H locs cells slots Q (F0 m (pc + 3) ls rest)) : W p l e R s m args below meth c H locs cells slots Q (F0 m pc ls (.int (nI b) :: .int (nI a) :: rest)) :=
  lv_icmp_le hexec hb hdg ht (fun c1 => kt ((nI_leI ha hb2).mp c1)) (fun c1 => kf (Nat.not_le.mp fun h => c1 ((nI_leI ha hb2).mpr h)))
theorem bn_eq (ha : a < 2 ^ 31) (hb2 : b < 2 ^ 31) (hexec : p.tables.exec = Jvm.exec) (hb : c.code = cc) (hdg : decode cc pc = .ok (.if_icmp .eq off, 3)) (ht : (pc : Int) + off = (tgt : Int)) (kt : a = b → W p l e R s m args below meth c H locs cells slots Q (F0 m tgt ls rest)) (kf : a ≠ b → W p l e R s m args below meth c H locs cells slots Q (F0 m (pc + 3) ls rest)) : W p l e R s m args below meth c H locs cells slots Q (F0 m pc ls (.int (nI b) :: .int (nI a) :: rest)) :=
  lv_icmp_eq hexec hb hdg ht (fun c1 => kt ((nI_eq ha hb2).mp c1)) (fun c1 => kf fun h => c1 ((nI_eq ha hb2).mpr h))
theorem bn_ne (ha : a < 2 ^ 31) (hb2 : b < 2 ^ 31) (hexec : p.tables.exec = Jvm.exec) (hb : c.code = cc) (hdg : decode cc pc = .ok (.if_icmp .ne off, 3)) (ht : (pc : Int) + off = (tgt : Int)) (kt : a ≠ b → W p l e R s m args below meth c H locs cells slots Q (F0 m tgt ls rest)) (kf : a = b → W p l e R s m args below meth c H locs cells slots Q (F0 m (pc + 3) ls rest)) : W p l e R s m args below meth c H locs cells slots Q (F0 m pc ls (.int (nI b) :: .int (nI a) :: rest)) :=
  lv_icmp_ne hexec hb hdg ht (fun c1 => kt fun h => c1 ((nI_eq ha hb2).mpr h)) (fun c1 => kf ((nI_eq ha hb2).mp c1))
theorem bn_eq0 (ha : a < 2 ^ 31) (hexec : p.tables.exec = Jvm.exec) (hb : c.code = cc) (hdg : decode cc pc = .ok (.ifCond .eq off, 3)) (ht : (pc : Int) + off = (tgt : Int)) (kt : a = 0 → W p l e R s m args below meth c H locs cells slots Q (F0 m tgt ls rest)) (kf : a ≠ 0 → W p l e R s m args below meth c H locs cells slots Q (F0 m (pc + 3) ls rest)) : W p l e R s m args below meth c H locs cells slots Q (F0 m pc ls (.int (nI a) :: rest)) :=
  lv_if_eq hexec hb hdg ht (fun c1 => kt ((nI_eq0 ha).mp c1)) (fun c1 => kf fun h => c1 ((nI_eq0 ha).mpr h))
theorem bn_ne0 (ha : a < 2 ^ 31) (hexec : p.tables.exec = Jvm.exec) (hb : c.code = cc) (hdg : decode cc pc = .ok (.ifCond .ne off, 3)) (ht : (pc : Int) + off = (tgt : Int)) (kt : a ≠ 0 → W p l e R s m args below meth c H locs cells slots Q (F0 m tgt ls rest)) (kf : a = 0 → W p l e R s m args below meth c H locs cells slots Q (F0 m (pc + 3) ls rest)) : W p l e R s m args below meth c H locs cells slots Q (F0 m pc ls (.int (nI a) :: rest)) :=
  lv_if_ne hexec hb hdg ht (fun c1 => kt fun h => c1 ((nI_eq0 ha).mpr h)) (fun c1 => kf ((nI_eq0 ha).mp c1))
theorem bn_le0 (ha : a < 2 ^ 31) (hexec : p.tables.exec = Jvm.exec) (hb : c.code = cc) (hdg : decode cc pc = .ok (.ifCond .le off, 3)) (ht : (pc : Int) + off = (tgt : Int)) (kt : a = 0 → W p l e R s m args below meth c H locs cells slots Q (F0 m tgt ls rest)) (kf : a ≠ 0 → W p l e R s m args below meth c H locs cells slots Q (F0 m (pc + 3) ls rest)) : W p l e R s m args below meth c H locs cells slots Q (F0 m pc ls (.int (nI a) :: rest)) :=
  lv_if_le hexec hb hdg ht (fun c1 => kt ((nI_le0 ha).mp c1)) (fun c1 => kf fun h => c1 ((nI_le0 ha).mpr h))
theorem bn_lt0 (ha : a < 2 ^ 31) (hexec : p.tables.exec = Jvm.exec) (hb : c.code = cc) (hdg : decode cc pc = .ok (.ifCond .lt off, 3)) (ht : (pc : Int) + off = (tgt : Int)) (kt : a < 0 → W p l e R s m args below meth c H locs cells slots Q (F0 m tgt ls rest)) (kf : 0 ≤ a → W p l e R s m args below meth c H locs cells slots Q (F0 m (pc + 3) ls rest)) : W p l e R s m args below meth c H locs cells slots Q (F0 m pc ls (.int (nI a) :: rest)) :=
  lv_if_lt hexec hb hdg ht (fun c1 => absurd c1 (nI_pos ha)) (fun _ => kf (Nat.zero_le a))
theorem bn_ge0 (ha : a < 2 ^ 31) (hexec : p.tables.exec = Jvm.exec) (hb : c.code = cc) (hdg : decode cc pc = .ok (.ifCond .ge off, 3)) (ht : (pc : Int) + off = (tgt : Int)) (kt : 0 ≤ a → W p l e R s m args below meth c H locs cells slots Q (F0 m tgt ls rest)) (kf : a < 0 → W p l e R s m args below meth c H locs cells slots Q (F0 m (pc + 3) ls rest)) : W p l e R s m args below meth c H locs cells slots Q (F0 m pc ls (.int (nI a) :: rest)) :=
  lv_if_ge hexec hb hdg ht (fun _ => kt (Nat.zero_le a)) (fun c1 => absurd (nI_pos' ha) c1)
theorem be_eq (ha : a < 2 ^ 30) (hb2 : b < 2 ^ 30) (hexec : p.tables.exec = Jvm.exec) (hb : c.code = cc) (hdg : decode cc pc = .ok (.if_icmp .eq off, 3)) (ht : (pc : Int) + off = (tgt : Int)) (kt : a = b → W p l e R s m args below meth c H locs cells slots Q (F0 m tgt ls rest)) (kf : a ≠ b → W p l e R s m args below meth c H locs cells slots Q (F0 m (pc + 3) ls rest)) : W p l e R s m args below meth c H locs cells slots Q (F0 m pc ls (.int (e4 b) :: .int (e4 a) :: rest)) :=
  lv_icmp_eq hexec hb hdg ht (fun c1 => kt ((e4_eq ha hb2).mp c1)) (fun c1 => kf fun h => c1 ((e4_eq ha hb2).mpr h))
theorem be_ne (ha : a < 2 ^ 30) (hb2 : b < 2 ^ 30) (hexec : p.tables.exec = Jvm.exec) (hb : c.code = cc) (hdg : decode cc pc = .ok (.if_icmp .ne off, 3)) (ht : (pc : Int) + off = (tgt : Int)) (kt : a ≠ b → W p l e R s m args below meth c H locs cells slots Q (F0 m tgt ls rest)) (kf : a = b → W p l e R s m args below meth c H locs cells slots Q (F0 m (pc + 3) ls rest)) : W p l e R s m args below meth c H locs cells slots Q (F0 m pc ls (.int (e4 b) :: .int (e4 a) :: rest)) :=
  lv_icmp_ne hexec hb hdg ht (fun c1 => kt fun h => c1 ((e4_eq ha hb2).mpr h)) (fun c1 => kf ((e4_eq ha hb2).mp c1))
theorem be_neN (ha : a < 2 ^ 30) (hb2 : b < 2 ^ 30) (hexec : p.tables.exec = Jvm.exec) (hb : c.code = cc) (hdg : decode cc pc = .ok (.if_icmp .ne off, 3)) (ht : (pc : Int) + off = (tgt : Int)) (kt : a ≠ b + 4 → W p l e R s m args below meth c H locs cells slots Q (F0 m tgt ls rest)) (kf : a = b + 4 → W p l e R s m args below meth c H locs cells slots Q (F0 m (pc + 3) ls rest)) : W p l e R s m args below meth c H locs cells slots Q (F0 m pc ls (.int (nI b) :: .int (e4 a) :: rest)) :=
  lv_icmp_ne hexec hb hdg ht (fun c1 => kt fun h => c1 ((e4_eqN ha hb2).mpr h)) (fun c1 => kf ((e4_eqN ha hb2).mp c1))
theorem be_lt0 (ha : a < 2 ^ 30) (hexec : p.tables.exec = Jvm.exec) (hb : c.code = cc) (hdg : decode cc pc = .ok (.ifCond .lt off, 3)) (ht : (pc : Int) + off = (tgt : Int)) (kt : a < 4 → W p l e R s m args below meth c H locs cells slots Q (F0 m tgt ls rest)) (kf : 4 ≤ a → W p l e R s m args below meth c H locs cells slots Q (F0 m (pc + 3) ls rest)) : W p l e R s m args below meth c H locs cells slots Q (F0 m pc ls (.int (e4 a) :: rest)) :=
  lv_if_lt hexec hb hdg ht (fun c1 => kt ((e4_lt0 ha).mp c1)) (fun c1 => kf (Nat.not_lt.mp fun h => c1 ((e4_lt0 ha).mpr h)))
theorem be_ge0 (ha : a < 2 ^ 30) (hexec : p.tables.exec = Jvm.exec) (hb : c.code = cc) (hdg : decode cc pc = .ok (.ifCond .ge off, 3)) (ht : (pc : Int) + off = (tgt : Int)) (kt : 4 ≤ a → W p l e R s m args below meth c H locs cells slots Q (F0 m tgt ls rest)) (kf : a < 4 → W p l e R s m args below meth c H locs cells slots Q (F0 m (pc + 3) ls rest)) : W p l e R s m args below meth c H locs cells slots Q (F0 m pc ls (.int (e4 a) :: rest)) :=
  lv_if_ge hexec hb hdg ht (fun c1 => kt ((e4_ge0 ha).mp c1)) (fun c1 => kf (Nat.not_le.mp fun h => c1 ((e4_ge0 ha).mpr h)))
theorem be_le0 (ha : a < 2 ^ 30) (hexec : p.tables.exec = Jvm.exec) (hb : c.code = cc) (hdg : decode cc pc = .ok (.ifCond .le off, 3)) (ht : (pc : Int) + off = (tgt : Int)) (kt : a ≤ 4 → W p l e R s m args below meth c H locs cells slots Q (F0 m tgt ls rest)) (kf : 4 < a → W p l e R s m args below meth c H locs cells slots Q (F0 m (pc + 3) ls rest)) : W p l e R s m args below meth c H locs cells slots Q (F0 m pc ls (.int (e4 a) :: rest)) :=
  lv_if_le hexec hb hdg ht (fun c1 => kt ((e4_le0 ha).mp c1)) (fun c1 => kf (Nat.not_le.mp fun h => c1 ((e4_le0 ha).mpr h)))
theorem be_gt0 (ha : a < 2 ^ 30) (hexec : p.tables.exec = Jvm.exec) (hb : c.code = cc) (hdg : decode cc pc = .ok (.ifCond .gt off, 3)) (ht : (pc : Int) + off = (tgt : Int)) (kt : 4 < a → W p l e R s m args below meth c H locs cells slots Q (F0 m tgt ls rest)) (kf : a ≤ 4 → W p l e R s m args below meth c H locs cells slots Q (F0 m (pc + 3) ls rest)) : W p l e R s m args below meth c H locs cells slots Q (F0 m pc ls (.int (e4 a) :: rest)) :=
  lv_if_gt hexec hb hdg ht (fun c1 => kt ((e4_gt0 ha).mp c1)) (fun c1 => kf (Nat.not_lt.mp fun h => c1 ((e4_gt0 ha).mpr h)))
theorem bp_lt0 (ha : a < 2 ^ 30) (hexec : p.tables.exec = Jvm.exec) (hb : c.code = cc) (hdg : decode cc pc = .ok (.ifCond .lt off, 3)) (ht : (pc : Int) + off = (tgt : Int)) (kt : a < 1 → W p l e R s m args below meth c H locs cells slots Q (F0 m tgt ls rest)) (kf : 1 ≤ a → W p l e R s m args below meth c H locs cells slots Q (F0 m (pc + 3) ls rest)) : W p l e R s m args below meth c H locs cells slots Q (F0 m pc ls (.int (e1 a) :: rest)) :=
  lv_if_lt hexec hb hdg ht (fun c1 => kt ((e1_lt0 ha).mp c1)) (fun c1 => kf (Nat.not_lt.mp fun h => c1 ((e1_lt0 ha).mpr h)))
theorem bp_ge0 (ha : a < 2 ^ 30) (hexec : p.tables.exec = Jvm.exec) (hb : c.code = cc) (hdg : decode cc pc = .ok (.ifCond .ge off, 3)) (ht : (pc : Int) + off = (tgt : Int)) (kt : 1 ≤ a → W p l e R s m args below meth c H locs cells slots Q (F0 m tgt ls rest)) (kf : a < 1 → W p l e R s m args below meth c H locs cells slots Q (F0 m (pc + 3) ls rest)) : W p l e R s m args below meth c H locs cells slots Q (F0 m pc ls (.int (e1 a) :: rest)) :=
  lv_if_ge hexec hb hdg ht (fun c1 => kt ((e1_ge0 ha).mp c1)) (fun c1 => kf (Nat.not_le.mp fun h => c1 ((e1_ge0 ha).mpr h)))
end BRN
/-- a contract: void, on the object b whose world is wd σ -/
def CV (b : Nat) (wd : PT → va_W) (y : MethodName) (cc : ByteArray) (nL : Nat) (rm : Room) (d : ClassId) (as : List Value) (σ : PT) (post : PT → Prop) : Prop := ∀ (l : Launch) (dC : Nat → ClassId) (dI : Nat → Nat → Nat) (sz : Nat), Met l y (ws_ y cc nL none) rm (va_Pc (.ref b :: as) (fun U => U.heap.size = sz ∧ va_P (dC, dI) vwCl (wd σ) U.heap ∧ va_K (dC, dI) vwCl [(d, .int)] U ∧ va_D (fun _ => True) (wd σ))) (va_Qv post (fun u t => va_P (dC, dI) vwCl (wd u) t.heap ∧ va_K (dC, dI) vwCl [(d, .int)] t ∧ va_D (va_A (wd σ) sz) (wd u)) (va_A (wd σ) sz)) 0 0 (va_A (wd σ) sz)
/-- a contract: an int comes back -/
def CI (b : Nat) (wd : PT → va_W) (y : MethodName) (cc : ByteArray) (nL : Nat) (rm : Room) (d : ClassId) (as : List Value) (σ : PT) (post : Int32 → PT → Prop) : Prop := ∀ (l : Launch) (dC : Nat → ClassId) (dI : Nat → Nat → Nat) (sz : Nat), Met l y (ws_ y cc nL (some .int)) rm (va_Pc (.ref b :: as) (fun U => U.heap.size = sz ∧ va_P (dC, dI) vwCl (wd σ) U.heap ∧ va_K (dC, dI) vwCl [(d, .int)] U ∧ va_D (fun _ => True) (wd σ))) (va_Qi post (fun u t => va_P (dC, dI) vwCl (wd u) t.heap ∧ va_K (dC, dI) vwCl [(d, .int)] t ∧ va_D (va_A (wd σ) sz) (wd u)) (va_A (wd σ) sz)) 0 0 (va_A (wd σ) sz)
/-- a contract of a static method that reads and writes no cell -/
def CS (y : MethodName) (cc : ByteArray) (nL : Nat) (ret : FieldType) (rm : Room) (as : List Value) (r : Int32) : Prop := ∀ (l : Launch) (sz : Nat), Met l y (ws_ y cc nL (some ret)) rm (va_Pc as (fun U => U.heap.size = sz)) (va_Qi (fun (x : Int32) (_ : Unit) => x = r) (fun _ _ => True) (va_A [] sz)) 0 0 (va_A [] sz)
theorem ofV {b : Nat} {wd : PT → va_W} {y : MethodName} {cc : ByteArray} {nL : Nat} {rm : Room} {d : ClassId} {as : List Value} {σ : PT} {post : PT → Prop} {C : String} (hC : y.cls = C) (hy : plainName y.cls = true) (hln : (lg_sl (.ref b :: as)).length ≤ nL)
    (body : ∀ (p : Program) (l : Launch) (e : Env) (s : State) (m : MethodId) (args : Array Value) (below : List Frame) (meth : Method) (c : Code) (A : Nat → Prop) (dC : Nat → ClassId) (dI : Nat → Nat → Nat) (Q : State → Prop), KX cc nL C p s m args c A dC dI d →
      (∀ (pc : Nat) (ls : Array Slot) (H : Heap) (locs : List Loc) (u : PT), decode cc pc = .ok (.return_, 1) → St dC dI A s.heap H locs (wd u) → post u → W p l e rm s m args below meth c H locs 0 0 Q (F0 m pc ls [])) →
      ∀ (ls : Array Slot), lv_has ls nL (lv_args 0 (.ref b :: as)) → St dC dI A s.heap s.heap [] (wd σ) → W p l e rm s m args below meth c s.heap [] 0 0 Q (F0 m 0 ls [])) : CV b wd y cc nL rm d as σ post := by
  intro l dC dI sz
  refine Met.ofW (cc := cc) (maxL := nL) (ret := none) hy rfl ?_
  intro p e s m args below meth c s₁ B hml hv
  obtain ⟨rfl, hsz, hP, hK, hD0⟩ := hv
  have hr := B.returns
  have hts := atoms_spec (ws := ws_ y cc nL none) B.pre
  have hts : ∀ w ∈ lw_all, w.before _ s = true := fun w h => hts w (List.mem_cons_of_mem _ h)
  have hown : s.vm.findClass y.cls = some m.cls := findClass_of_methodNamed B.named
  rw [hC] at hown
  have hlocks := B.notSynchronized
  subst hsz
  have hD := hD0.self (sz := s.heap.size)
  have hl := lv_entry (.ref b :: as) (n := nL) hln
  rw [lg_entry_eq]
  generalize (lg_sl (.ref b :: as) ++ List.replicate (nL - (lg_sl (.ref b :: as)).length) Slot.unset).toArray = ls at hl ⊢
  refine body p l e s m _ below meth c (va_A (wd σ) s.heap.size) dC dI _ ⟨B.exec, B.bytes, hml, hown, hts, hK, fun q h => Or.inr h⟩ ?_ ls hl ⟨hP, hD, va_S.rf⟩
  intro pc ls H locs u hdg S hp
  exact W.vret B.exec B.bytes hr (fun t ht hW => ⟨⟨u, rfl, hp, by rw [ht]; exact S.1, va_K.moved hW.alike hK, S.2.1⟩, S.2.2.F ht⟩) S.2.2.2.2 hdg
theorem ofI {b : Nat} {wd : PT → va_W} {y : MethodName} {cc : ByteArray} {nL : Nat} {rm : Room} {d : ClassId} {as : List Value} {σ : PT} {post : Int32 → PT → Prop} {C : String} (hC : y.cls = C) (hy : plainName y.cls = true) (hln : (lg_sl (.ref b :: as)).length ≤ nL)
    (body : ∀ (p : Program) (l : Launch) (e : Env) (s : State) (m : MethodId) (args : Array Value) (below : List Frame) (meth : Method) (c : Code) (A : Nat → Prop) (dC : Nat → ClassId) (dI : Nat → Nat → Nat) (Q : State → Prop), KX cc nL C p s m args c A dC dI d →
      (∀ (pc : Nat) (ls : Array Slot) (H : Heap) (locs : List Loc) (r : Int32) (u : PT), decode cc pc = .ok (.ireturn, 1) → St dC dI A s.heap H locs (wd u) → post r u → W p l e rm s m args below meth c H locs 0 0 Q (F0 m pc ls [.int r])) →
      ∀ (ls : Array Slot), lv_has ls nL (lv_args 0 (.ref b :: as)) → St dC dI A s.heap s.heap [] (wd σ) → W p l e rm s m args below meth c s.heap [] 0 0 Q (F0 m 0 ls [])) : CI b wd y cc nL rm d as σ post := by
  intro l dC dI sz
  refine Met.ofW (cc := cc) (maxL := nL) (ret := some .int) hy rfl ?_
  intro p e s m args below meth c s₁ B hml hv
  obtain ⟨rfl, hsz, hP, hK, hD0⟩ := hv
  have hr := B.returns
  have hts := atoms_spec (ws := ws_ y cc nL (some .int)) B.pre
  have hts : ∀ w ∈ lw_all, w.before _ s = true := fun w h => hts w (List.mem_cons_of_mem _ h)
  have hown : s.vm.findClass y.cls = some m.cls := findClass_of_methodNamed B.named
  rw [hC] at hown
  have hlocks := B.notSynchronized
  subst hsz
  have hD := hD0.self (sz := s.heap.size)
  have hl := lv_entry (.ref b :: as) (n := nL) hln
  rw [lg_entry_eq]
  generalize (lg_sl (.ref b :: as) ++ List.replicate (nL - (lg_sl (.ref b :: as)).length) Slot.unset).toArray = ls at hl ⊢
  refine body p l e s m _ below meth c (va_A (wd σ) s.heap.size) dC dI _ ⟨B.exec, B.bytes, hml, hown, hts, hK, fun q h => Or.inr h⟩ ?_ ls hl ⟨hP, hD, va_S.rf⟩
  intro pc ls H locs r u hdg S hp
  exact W.iret B.exec B.bytes hr (fun t ht hW => ⟨⟨r, u, rfl, hp, by rw [ht]; exact S.1, va_K.moved hW.alike hK, S.2.1⟩, S.2.2.F ht⟩) S.2.2.2.2 hdg
theorem ofS {y : MethodName} {cc : ByteArray} {nL : Nat} {ret : FieldType} {rm : Room} {as : List Value} {r : Int32} (hy : plainName y.cls = true) (hln : (lg_sl as).length ≤ nL) (hn : narrow ret (.int r) = .int r)
    (body : ∀ (p : Program) (l : Launch) (e : Env) (s : State) (m : MethodId) (args : Array Value) (below : List Frame) (meth : Method) (c : Code) (Q : State → Prop), p.tables.exec = Jvm.exec → c.code = cc →
      (∀ (pc : Nat) (ls : Array Slot), decode cc pc = .ok (.ireturn, 1) → W p l e rm s m args below meth c s.heap [] 0 0 Q (F0 m pc ls [.int r])) →
      ∀ (ls : Array Slot), lv_has ls nL (lv_args 0 as) → W p l e rm s m args below meth c s.heap [] 0 0 Q (F0 m 0 ls [])) : CS y cc nL ret rm as r := by
  intro l sz
  refine Met.ofW (cc := cc) (maxL := nL) (ret := some ret) hy rfl ?_
  intro p e s m args below meth c s₁ B hml hv
  obtain ⟨rfl, hsz⟩ := hv
  have hr := B.returns
  have hlocks := B.notSynchronized
  subst hsz
  have hl := lv_entry as (n := nL) hln
  rw [lg_entry_eq]
  generalize (lg_sl as ++ List.replicate (nL - (lg_sl as).length) Slot.unset).toArray = ls at hl ⊢
  refine body p l e s m _ below meth c _ B.exec B.bytes ?_ ls hl
  intro pc ls hdg
  have hS : va_S (va_A [] s.heap.size) s.heap s.heap [] := va_S.rf
  exact W.zret B.exec B.bytes hr hn (fun t ht hW => ⟨⟨r, (), rfl, rfl, trivial⟩, hS.F ht⟩) hS.2.2 hdg
section CAL
variable {p : Program} {l : Launch} {e : Env} {R : Room} {s : State} {m : MethodId} {args : Array Value} {below : List Frame} {meth : Method} {c : Code} {H : Heap} {locs : List Loc} {cells slots : Nat} {Q : State → Prop}
variable {cc : ByteArray} {pc nL : Nat} {ls : Array Slot} {rest st : List Value} {A : Nat → Prop} {dC : Nat → ClassId} {dI : Nat → Nat → Nat} {d : ClassId} {C : String}
variable {b : Nat} {wd : PT → va_W} {y : MethodName} {bytes : ByteArray} {maxL index n ci N : Nat} {rm : Room} {as : List Value} {σ : PT} {T : u_T} {fs : List Value}
theorem st_free {ws : va_W} (K : KX cc nL C p s m args c A dC dI d) (S : St dC dI A s.heap H locs ws) : ∀ q, va_A ws H.size q → A q := by
  intro q hq
  rcases hq with ⟨k, e', hk⟩ | hq
  · exact S.2.1.2 k _ hk
  · exact K.2.2.2.2.2.2 q (Nat.le_trans S.2.2.1 hq)
theorem cvV {post : PT → Prop} (K : KX cc nL C p s m args c A dC dI d) (S : St dC dI A s.heap H locs (wd σ)) (hM : CV b wd y bytes maxL rm d as σ post) (cw : CallW R s args C C index y bytes maxL none (ws_ y bytes maxL none) rm 0 0 n) (hc : vwCl[ci]? = some (C, T, N)) (he : (wd σ)[0]? = some (b, .inr (ci, fs))) (hn : as.length = n) (hls : ls.size = nL) (hst : st = as.reverse ++ .ref b :: rest) (hW : (rest.map fun v => v.category).sum ≤ 8) (hdg : decode cc pc = .ok (.invokevirtual index, 3)) (hcs : cells ≤ R.cells ∧ slots ≤ R.slots)
    (kk : ∀ (u : PT) (H1 : Heap) (locs1 : List Loc), St dC dI A s.heap H1 locs1 (wd u) → post u → W p l e R s m args below meth c H1 locs1 cells slots Q (F0 m (pc + 3) ls rest)) : W p l e R s m args below meth c H locs cells slots Q (F0 m pc ls st) := by
  have hF := st_free K S
  refine va_callv (va_runV (As := as) (rest := rest) ⟨K.1, K.2.1, K.2.2.1, K.2.2.2.1, K.2.2.2.2.1⟩ (hM l dC dI H.size) cw ⟨fun a U g mk q => by obtain ⟨q0, q1, qP, qK, qD⟩ := q; exact ⟨q0, q1, qP, va_K.moved (u := U) (U := U.calling g mk a) (Vm.Alike.refl U.vm) qK, qD⟩, va_recv K.2.2.2.2.2.1 S.1 hc he, fun U hU hW => ⟨rfl, by rw [hU], by rw [hU]; exact S.1, va_K.moved hW.alike K.2.2.2.2.2.1, S.2.1.weaken (fun _ _ _ _ => trivial)⟩⟩ rfl hn hls hst (lv_room hW) hdg ⟨hcs.1, hcs.2⟩) S.2.2 (fun q _ h => hF q h) hF (fun u t H1 locs1 ht hvm hw hB hz1 hk1 hS => ?_)
  obtain ⟨hP1, hK1, hD1⟩ := hB
  rw [ht] at hP1
  exact kk u H1 locs1 ⟨hP1, hD1.weaken (fun _ _ _ h => hF _ h), hS⟩ hw
theorem cvI {post : Int32 → PT → Prop} (K : KX cc nL C p s m args c A dC dI d) (S : St dC dI A s.heap H locs (wd σ)) (hM : CI b wd y bytes maxL rm d as σ post) (cw : CallW R s args C C index y bytes maxL (some .int) (ws_ y bytes maxL (some .int)) rm 0 0 n) (hc : vwCl[ci]? = some (C, T, N)) (he : (wd σ)[0]? = some (b, .inr (ci, fs))) (hn : as.length = n) (hls : ls.size = nL) (hst : st = as.reverse ++ .ref b :: rest) (hW : (rest.map fun v => v.category).sum ≤ 8) (hdg : decode cc pc = .ok (.invokevirtual index, 3)) (hcs : cells ≤ R.cells ∧ slots ≤ R.slots)
    (kk : ∀ (r : Int32) (u : PT) (H1 : Heap) (locs1 : List Loc), St dC dI A s.heap H1 locs1 (wd u) → post r u → W p l e R s m args below meth c H1 locs1 cells slots Q (F0 m (pc + 3) ls (.int r :: rest))) : W p l e R s m args below meth c H locs cells slots Q (F0 m pc ls st) := by
  have hF := st_free K S
  refine va_calli (va_runV (As := as) (rest := rest) ⟨K.1, K.2.1, K.2.2.1, K.2.2.2.1, K.2.2.2.2.1⟩ (hM l dC dI H.size) cw ⟨fun a U g mk q => by obtain ⟨q0, q1, qP, qK, qD⟩ := q; exact ⟨q0, q1, qP, va_K.moved (u := U) (U := U.calling g mk a) (Vm.Alike.refl U.vm) qK, qD⟩, va_recv K.2.2.2.2.2.1 S.1 hc he, fun U hU hW => ⟨rfl, by rw [hU], by rw [hU]; exact S.1, va_K.moved hW.alike K.2.2.2.2.2.1, S.2.1.weaken (fun _ _ _ _ => trivial)⟩⟩ rfl hn hls hst (lv_room hW) hdg ⟨hcs.1, hcs.2⟩) S.2.2 (fun q _ h => hF q h) hF (fun r u t H1 locs1 ht hvm hw hB hz1 hk1 hS => ?_)
  obtain ⟨hP1, hK1, hD1⟩ := hB
  rw [ht] at hP1
  exact kk r u H1 locs1 ⟨hP1, hD1.weaken (fun _ _ _ h => hF _ h), hS⟩ hw
theorem cvS {ws : va_W} {ret : FieldType} {r : Int32} (K : KX cc nL C p s m args c A dC dI d) (S : St dC dI A s.heap H locs ws) (hM : CS y bytes maxL ret rm as r) (cw : CallB R s args C index y bytes maxL (some ret) (ws_ y bytes maxL (some ret)) rm 0 0 n ∧ (Cond.static y).before args s = true) (hn : as.length = n) (hls : ls.size = nL) (hst : st = as.reverse ++ rest) (hW : (rest.map fun v => v.category).sum ≤ 8) (hdg : decode cc pc = .ok (.invokestatic index, 3)) (hcs : cells ≤ R.cells ∧ slots ≤ R.slots)
    (kk : ∀ (H1 : Heap) (locs1 : List Loc), St dC dI A s.heap H1 locs1 ws → W p l e R s m args below meth c H1 locs1 cells slots Q (F0 m (pc + 3) ls (.int r :: rest))) : W p l e R s m args below meth c H locs cells slots Q (F0 m pc ls st) := by
  have hF : ∀ q, va_A [] H.size q → A q := by
    intro q hq
    rcases hq with ⟨k, e', hk⟩ | hq
    · simp at hk
    · exact K.2.2.2.2.2.2 q (Nat.le_trans S.2.2.1 hq)
  refine va_calli (va_runS (As := as) (rest := rest) ⟨K.1, K.2.1, K.2.2.1, K.2.2.2.1, K.2.2.2.2.1⟩ (hM l H.size) cw ⟨fun a U g mk q => q, fun U hU hW => ⟨rfl, by show U.heap.size = H.size; rw [hU]⟩⟩ rfl hn hls hst (lv_room hW) hdg ⟨hcs.1, hcs.2⟩) S.2.2 (fun q _ h => hF q h) hF (fun r2 u t H1 locs1 ht hvm hw hB hz1 hk1 hS => ?_)
  have hw : r2 = r := hw
  subst hw
  refine kk H1 locs1 ⟨S.1.kept (fun k q hk => hk1 q.1 (S.1 k q hk).lt (fun h => ?_)), S.2.1, hS⟩
  rcases h with ⟨k2, e', hk2⟩ | h
  · simp at hk2
  · exact absurd (S.1 k q hk).lt (Nat.not_lt.mpr h)
end CAL
end
section
set_option maxRecDepth 100000
/-! THE PLAIN LAW, 1: sums and counts; the operator and its least fixed point. Outcomes as numbers: 0 active, 1 unknown, 2 stuck, 3 fails, 4 + k matched k letters -/
def sm (f : Nat → Nat) : Nat → Nat
  | 0 => 0
  | n + 1 => sm f n + f n
theorem sm_cong {f g : Nat → Nat} : ∀ {n : Nat}, (∀ k, k < n → f k = g k) → sm f n = sm g n
  | 0, _ => rfl
  | n + 1, h => by
    show sm f n + f n = sm g n + g n
    rw [sm_cong (fun k hk => h k (by omega)), h n (by omega)]
theorem sm_out {f : Nat → Nat} {v i n : Nat} (h : n ≤ i) : sm (up f i v) n = sm f n := sm_cong fun k hk => up_n (by omega)
theorem sm_up {f : Nat → Nat} {v i : Nat} : ∀ {n : Nat}, i < n → sm (up f i v) n + f i = sm f n + v
  | 0, h => absurd h (Nat.not_lt_zero i)
  | n + 1, h => by
    show sm (up f i v) n + up f i v n + f i = sm f n + f n + v
    rcases Nat.lt_or_ge i n with q | q
    · have := sm_up (f := f) (v := v) q
      rw [up_n (show n ≠ i by omega)]
      omega
    · have e : i = n := by omega
      subst e
      rw [sm_out (Nat.le_refl _), up_s]
      omega
theorem sm_le {f : Nat → Nat} {c : Nat} : ∀ {n : Nat}, (∀ k, k < n → f k ≤ c) → sm f n ≤ n * c
  | 0, _ => Nat.zero_le _
  | n + 1, h => by
    have h1 := sm_le (f := f) (c := c) (n := n) (fun k hk => h k (by omega))
    have h2 := h n (by omega)
    show sm f n + f n ≤ (n + 1) * c
    rw [Nat.add_mul]
    omega
/-- how many of the first n places hold c -/
def ct (c : Nat) (f : Nat → Nat) (n : Nat) : Nat := sm (fun i => if f i = c then 1 else 0) n
theorem ct_up {c : Nat} {f : Nat → Nat} {v i n : Nat} (h : i < n) : ct c (up f i v) n + (if f i = c then 1 else 0) = ct c f n + (if v = c then 1 else 0) := by
  unfold ct
  have e : (fun j => if up f i v j = c then 1 else 0) = up (fun j => if f j = c then 1 else 0) i (if v = c then 1 else 0) := by
    funext j
    by_cases hj : j = i
    · subst hj; rw [up_s, up_s]
    · rw [up_n hj, up_n hj]
  rw [e]
  exact sm_up (f := fun j => if f j = c then 1 else 0) h
theorem ct_le {c : Nat} {f : Nat → Nat} {n : Nat} : ct c f n ≤ n := by
  have := sm_le (f := fun i => if f i = c then 1 else 0) (c := 1) (n := n) (fun k _ => by split <;> omega)
  unfold ct
  omega
theorem ct_cong {c : Nat} {f g : Nat → Nat} {n : Nat} (h : ∀ k, k < n → (f k = c ↔ g k = c)) : ct c f n = ct c g n := sm_cong fun k hk => by
  by_cases q : f k = c
  · rw [if_pos q, if_pos ((h k hk).mp q)]
  · rw [if_neg q, if_neg (fun z => q ((h k hk).mpr z))]
theorem ct_pos {c : Nat} {f : Nat → Nat} {i : Nat} : ∀ {n : Nat}, i < n → f i = c → 1 ≤ ct c f n
  | 0, h, _ => absurd h (Nat.not_lt_zero i)
  | n + 1, h, e => by
    show 1 ≤ ct c f n + (if f n = c then 1 else 0)
    rcases Nat.lt_or_ge i n with q | q
    · have := ct_pos (c := c) (f := f) q e
      omega
    · have e2 : n = i := by omega
      rw [if_pos (by rw [e2]; exact e)]
      omega
/-! the grammar: code, argument, first, second (or only) part, rules (0: none, n + 1: n), text, how many, length of the text -/
abbrev GR : Type := (Nat → Nat) × (Nat → Nat) × (Nat → Nat) × (Nat → Nat) × (Nat → Nat) × (Nat → Nat) × Nat × Nat
def gC (G : GR) : Nat → Nat := G.1
def gA (G : GR) : Nat → Nat := G.2.1
def gF (G : GR) : Nat → Nat := G.2.2.1
def gS (G : GR) : Nat → Nat := G.2.2.2.1
def gR (G : GR) : Nat → Nat := G.2.2.2.2.1
def gX (G : GR) : Nat → Nat := G.2.2.2.2.2.1
def gT (G : GR) : Nat := G.2.2.2.2.2.2.1
def gL (G : GR) : Nat := G.2.2.2.2.2.2.2
def jn (O : Nat → Nat → Nat) (x y p : Nat) : Nat := if O x p < 4 then O x p else if O y (p + (O x p - 4)) < 4 then O y (p + (O x p - 4)) else O x p - 4 + O y (p + (O x p - 4))
def fol (G : GR) (O : Nat → Nat → Nat) (t p : Nat) : Nat :=
  if gC G t = 0 then (if p < gL G ∧ gX G p = gA G t then 5 else 3)
  else if gC G t = 1 then (if p < gL G then 5 else 3)
  else if gC G t = 2 then 4
  else if gC G t = 3 then (if gR G (gA G t) = 0 then 3 else O (gR G (gA G t) - 1) p)
  else if gC G t = 4 then jn O (gF G t) (gS G t) p
  else if gC G t = 5 then (if O (gF G t) p = 3 then O (gS G t) p else O (gF G t) p)
  else if O (gS G t) p = 2 then 2
  else if gC G t = 6 then (if O (gS G t) p ≤ 4 then 4 else jn O (gS G t) t p)
  else if gC G t = 7 then (if O (gS G t) p < 4 then 4 else O (gS G t) p)
  else if gC G t = 8 then (if O (gS G t) p < 4 then 3 else 4)
  else if gC G t = 9 then (if O (gS G t) p < 4 then 4 else 3)
  else 2
/-- O knows no more than O', and the same -/
def Le (O O' : Nat → Nat → Nat) : Prop := ∀ t p, O t p = 2 ∨ O t p = O' t p
theorem Le.rf {O : Nat → Nat → Nat} : Le O O := fun _ _ => Or.inr rfl
theorem Le.tr {O O' O2 : Nat → Nat → Nat} (h : Le O O') (h2 : Le O' O2) : Le O O2 := fun t p => by
  have a := h t p
  have b := h2 t p
  omega
theorem jn_mono {O O' : Nat → Nat → Nat} (h : Le O O') (x y p : Nat) : jn O x y p = 2 ∨ jn O x y p = jn O' x y p := by
  unfold jn
  rcases h x p with e | e
  · left; rw [e]; rfl
  · rw [← e]
    by_cases q : O x p < 4
    · right; rw [if_pos q, if_pos q]
    · rw [if_neg q, if_neg q]
      rcases h y (p + (O x p - 4)) with e2 | e2
      · left; rw [e2]; rfl
      · right; rw [e2]
theorem fol_mono {G : GR} {O O' : Nat → Nat → Nat} (h : Le O O') (t p : Nat) : fol G O t p = 2 ∨ fol G O t p = fol G O' t p := by
  have hF := h (gF G t) p
  have hS := h (gS G t) p
  have hR := h (gR G (gA G t) - 1) p
  have hJ := jn_mono h (gF G t) (gS G t) p
  have hJ2 := jn_mono h (gS G t) t p
  unfold fol
  generalize jn O (gF G t) (gS G t) p = j1 at *
  generalize jn O' (gF G t) (gS G t) p = j2 at *
  generalize jn O (gS G t) t p = k1 at *
  generalize jn O' (gS G t) t p = k2 at *
  generalize O (gF G t) p = a1 at *
  generalize O' (gF G t) p = a2 at *
  generalize O (gS G t) p = x1 at *
  generalize O' (gS G t) p = x2 at *
  generalize O (gR G (gA G t) - 1) p = r1 at *
  generalize O' (gR G (gA G t) - 1) p = r2 at *
  grind (splits := 40)
/-- bounds of a table -/
def Bd (L : Nat) (O : Nat → Nat → Nat) : Prop := ∀ t p, 2 ≤ O t p ∧ (4 ≤ O t p → p + (O t p - 4) ≤ L)
theorem jn_bd {L : Nat} {O : Nat → Nat → Nat} (h : Bd L O) (x y p : Nat) : 2 ≤ jn O x y p ∧ (4 ≤ jn O x y p → p + (jn O x y p - 4) ≤ L) := by
  have h1 := h x p
  have h2 := h y (p + (O x p - 4))
  unfold jn
  generalize O y (p + (O x p - 4)) = b at *
  generalize O x p = a at *
  split
  · exact h1
  · split
    · omega
    · omega
theorem fol_bd {G : GR} {O : Nat → Nat → Nat} (h : Bd (gL G) O) (t p : Nat) (hp : p ≤ gL G) : 2 ≤ fol G O t p ∧ (4 ≤ fol G O t p → p + (fol G O t p - 4) ≤ gL G) := by
  have hF := h (gF G t) p
  have hS := h (gS G t) p
  have hR := h (gR G (gA G t) - 1) p
  have hJ := jn_bd h (gF G t) (gS G t) p
  have hJ2 := jn_bd h (gS G t) t p
  unfold fol
  generalize jn O (gF G t) (gS G t) p = j1 at *
  generalize jn O (gS G t) t p = k1 at *
  generalize O (gF G t) p = a1 at *
  generalize O (gS G t) p = x1 at *
  generalize O (gR G (gA G t) - 1) p = r1 at *
  grind (splits := 40)
def ev (G : GR) : Nat → Nat → Nat → Nat
  | 0, _, _ => 2
  | k + 1, t, p => if t < gT G ∧ p ≤ gL G then fol G (ev G k) t p else 2
theorem ev_s {G : GR} {k t p : Nat} (ht : t < gT G) (hp : p ≤ gL G) : ev G (k + 1) t p = fol G (ev G k) t p := if_pos ⟨ht, hp⟩
theorem ev_o {G : GR} {t p : Nat} (h : ¬ (t < gT G ∧ p ≤ gL G)) : ∀ k, ev G k t p = 2
  | 0 => rfl
  | _ + 1 => if_neg h
theorem ev_bd {G : GR} : ∀ k, Bd (gL G) (ev G k)
  | 0 => fun _ _ => ⟨Nat.le_refl 2, fun h => absurd h (by show ¬ 4 ≤ 2; decide)⟩
  | k + 1 => fun t p => by
    by_cases h : t < gT G ∧ p ≤ gL G
    · rw [ev_s h.1 h.2]
      exact fol_bd (ev_bd k) t p h.2
    · rw [ev_o h]
      exact ⟨Nat.le_refl 2, fun h => absurd h (by decide)⟩
theorem ev_mono1 {G : GR} : ∀ k, Le (ev G k) (ev G (k + 1))
  | 0 => fun _ _ => Or.inl rfl
  | k + 1 => fun t p => by
    by_cases h : t < gT G ∧ p ≤ gL G
    · rw [ev_s h.1 h.2, ev_s h.1 h.2]
      exact fol_mono (ev_mono1 k) t p
    · rw [ev_o h]
      exact Or.inl rfl
theorem ev_mono {G : GR} (k : Nat) : ∀ n, Le (ev G k) (ev G (k + n))
  | 0 => Le.rf
  | n + 1 => (ev_mono k n).tr (ev_mono1 (k + n))
theorem ev_le {G : GR} {k k2 : Nat} (h : k ≤ k2) : Le (ev G k) (ev G k2) := by
  have := ev_mono (G := G) k (k2 - k)
  rwa [Nat.add_sub_cancel' h] at this
theorem ev_agree {G : GR} {k k2 t p : Nat} (h : ev G k t p ≠ 2) (h2 : ev G k2 t p ≠ 2) : ev G k t p = ev G k2 t p := by
  rcases Nat.le_total k k2 with q | q
  · have := ev_le (G := G) q t p
    omega
  · have := ev_le (G := G) q t p
    omega
/-- the least fixed point -/
noncomputable def gval (G : GR) (t p : Nat) : Nat := @dite Nat (∃ k, ev G k t p ≠ 2) (Classical.propDecidable _) (fun h => ev G (Classical.choose h) t p) (fun _ => 2)
theorem gval_pos {G : GR} {t p : Nat} (h : ∃ k, ev G k t p ≠ 2) : ∃ k, gval G t p = ev G k t p ∧ ev G k t p ≠ 2 := by
  refine ⟨Classical.choose h, ?_, Classical.choose_spec h⟩
  unfold gval
  exact dif_pos h
theorem gval_neg {G : GR} {t p : Nat} (h : ∀ k, ev G k t p = 2) : gval G t p = 2 := by
  unfold gval
  exact dif_neg (fun ⟨k, hk⟩ => hk (h k))
theorem gval_cases {G : GR} (t p : Nat) : (∃ k, gval G t p = ev G k t p ∧ ev G k t p ≠ 2) ∨ (gval G t p = 2 ∧ ∀ k, ev G k t p = 2) := by
  by_cases h : ∃ k, ev G k t p ≠ 2
  · exact Or.inl (gval_pos h)
  · have h2 : ∀ k, ev G k t p = 2 := fun k => Classical.byContradiction fun q => h ⟨k, q⟩
    exact Or.inr ⟨gval_neg h2, h2⟩
theorem ev_val {G : GR} (k : Nat) : Le (ev G k) (gval G) := fun t p => by
  by_cases q : ev G k t p = 2
  · exact Or.inl q
  · obtain ⟨k2, h1, h2⟩ := gval_pos ⟨k, q⟩
    right
    rw [h1]
    exact ev_agree q h2
theorem gval_bd {G : GR} : Bd (gL G) (gval G) := fun t p => by
  rcases gval_cases (G := G) t p with ⟨k, h1, -⟩ | ⟨h1, -⟩
  · rw [h1]; exact ev_bd k t p
  · rw [h1]; exact ⟨Nat.le_refl 2, fun h => absurd h (by decide)⟩
theorem gval_dom {G : GR} {t p : Nat} (h : gval G t p ≠ 2) : t < gT G ∧ p ≤ gL G := by
  refine Classical.byContradiction fun q => ?_
  exact h (gval_neg (ev_o q))
theorem ev_stays {G : GR} {k k2 t p : Nat} (h : k ≤ k2) (e : ev G k t p = gval G t p) : ev G k2 t p = gval G t p := by
  have h1 := ev_le (G := G) h t p
  have h2 := ev_val (G := G) k2 t p
  omega
theorem gval_fin {G : GR} (M : Nat) : ∀ N, ∃ K, ∀ i, i < N → ev G K (i / M) (i % M) = gval G (i / M) (i % M)
  | 0 => ⟨0, fun i h => absurd h (Nat.not_lt_zero i)⟩
  | N + 1 => by
    obtain ⟨K, hK⟩ := gval_fin (G := G) M N
    rcases gval_cases (G := G) (N / M) (N % M) with ⟨k, h1, -⟩ | ⟨h1, h2⟩
    · refine ⟨K + k, fun i hi => ?_⟩
      rcases Nat.lt_or_ge i N with q | q
      · exact ev_stays (Nat.le_add_right K k) (hK i q)
      · have e : i = N := by omega
        rw [e]
        exact ev_stays (Nat.le_add_left k K) h1.symm
    · refine ⟨K, fun i hi => ?_⟩
      rcases Nat.lt_or_ge i N with q | q
      · exact hK i q
      · have e : i = N := by omega
        rw [e, h1, h2]
theorem gval_all (G : GR) : ∃ K, ∀ t p, ev G K t p = gval G t p := by
  obtain ⟨K, hK⟩ := gval_fin (G := G) (gL G + 1) ((gL G + 1) * gT G)
  refine ⟨K, fun t p => ?_⟩
  by_cases h : t < gT G ∧ p ≤ gL G
  · have e1 : ((gL G + 1) * t + p) / (gL G + 1) = t := by
      rw [Nat.mul_add_div (by omega), Nat.div_eq_of_lt (by omega), Nat.add_zero]
    have e2 : ((gL G + 1) * t + p) % (gL G + 1) = p := by
      rw [Nat.mul_add_mod, Nat.mod_eq_of_lt (by omega)]
    have h3 : (gL G + 1) * (t + 1) ≤ (gL G + 1) * gT G := Nat.mul_le_mul_left _ h.1
    have := hK ((gL G + 1) * t + p) (by rw [Nat.mul_add] at h3; omega)
    rw [e1, e2] at this
    exact this
  · rw [ev_o h, gval_neg (ev_o h)]
theorem gval_fix {G : GR} {t p : Nat} (ht : t < gT G) (hp : p ≤ gL G) : gval G t p = fol G (gval G) t p := by
  obtain ⟨K, hK⟩ := gval_all G
  have e : ev G K = gval G := funext fun t => funext fun p => hK t p
  have h1 := ev_s (G := G) (k := K) ht hp
  rw [e] at h1
  have h2 := ev_stays (G := G) (Nat.le_succ K) (hK t p)
  rw [← h2, ← h1]
/-- a table that knows nothing wrong and from which nothing new follows is the least fixed point -/
theorem gval_of_table {G : GR} {O : Nat → Nat → Nat} (h1 : Le O (gval G)) (h2 : ∀ t p, t < gT G → p ≤ gL G → O t p = 2 → fol G O t p = 2) (t p : Nat) : O t p = gval G t p := by
  have hk : ∀ k, Le (ev G k) O := by
    intro k
    induction k with
    | zero => exact fun _ _ => Or.inl rfl
    | succ k ih =>
      intro t p
      by_cases h : t < gT G ∧ p ≤ gL G
      · have a := fol_mono ih (G := G) t p
        have b := h2 t p h.1 h.2
        have c := h1 t p
        have d := ev_val (G := G) (k + 1) t p
        rw [ev_s h.1 h.2] at d ⊢
        omega
      · rw [ev_o h]
        exact Or.inl rfl
  rcases gval_cases (G := G) t p with ⟨k, a, b⟩ | ⟨a, -⟩
  · have c := hk k t p
    omega
  · have c := h1 t p
    omega
/-- two grammars, the one inside the other -/
def Sim (G G' : GR) (φ : Nat → Nat) : Prop := gL G = gL G' ∧ (∀ i, i < gL G → gX G i = gX G' i) ∧
  (∀ n, n < gT G → φ n < gT G' ∧ gC G' (φ n) = gC G n ∧ gA G' (φ n) = gA G n ∧ gA G n < 4 ∧ (4 ≤ gC G n → gS G n < gT G ∧ gS G' (φ n) = φ (gS G n)) ∧ ((gC G n = 4 ∨ gC G n = 5) → gF G n < gT G ∧ gF G' (φ n) = φ (gF G n))) ∧
  (∀ r, r < 4 → (gR G r = 0 ∧ gR G' r = 0) ∨ (1 ≤ gR G r ∧ gR G r ≤ gT G ∧ gR G' r = φ (gR G r - 1) + 1))
theorem ev_sim {G G' : GR} {φ : Nat → Nat} (h : Sim G G' φ) : ∀ k n p, n < gT G → ev G k n p = ev G' k (φ n) p := by
  obtain ⟨hL, hX, hN, hR⟩ := h
  intro k
  induction k with
  | zero => intro n p _; rfl
  | succ k ih =>
    intro n p hn
    obtain ⟨b1, b2, b3, b4, b5, b6⟩ := hN n hn
    by_cases hp : p ≤ gL G
    · rw [ev_s hn hp, ev_s b1 (by rw [← hL]; exact hp)]
      have hr := hR (gA G n) b4
      have hx := hX p
      have jF : ∀ x y, x < gT G → y < gT G → jn (ev G k) x y p = jn (ev G' k) (φ x) (φ y) p := by
        intro x y hx hy
        unfold jn
        rw [← ih x p hx, ← ih y _ hy]
      have rr : gR G (gA G n) ≠ 0 → ev G k (gR G (gA G n) - 1) p = ev G' k (gR G' (gA G n) - 1) p := by
        intro h0
        rcases hr with ⟨z, -⟩ | ⟨z1, z2, z3⟩
        · exact absurd z h0
        · rw [z3, Nat.add_sub_cancel]
          exact ih _ p (by omega)
      have r0 : gR G (gA G n) = 0 ↔ gR G' (gA G n) = 0 := by
        rcases hr with ⟨z, z'⟩ | ⟨z1, z2, z3⟩ <;> omega
      unfold fol
      rw [b2, b3, ← hL]
      by_cases c0 : gC G n = 0
      · rw [if_pos c0, if_pos c0]
        by_cases q : p < gL G
        · rw [hx q]
        · rw [if_neg (fun z => q z.1), if_neg (fun z => q z.1)]
      rw [if_neg c0, if_neg c0]
      by_cases c1 : gC G n = 1
      · rw [if_pos c1, if_pos c1]
      rw [if_neg c1, if_neg c1]
      by_cases c2 : gC G n = 2
      · rw [if_pos c2, if_pos c2]
      rw [if_neg c2, if_neg c2]
      by_cases c3 : gC G n = 3
      · rw [if_pos c3, if_pos c3]
        by_cases q : gR G (gA G n) = 0
        · rw [if_pos q, if_pos (r0.mp q)]
        · rw [if_neg q, if_neg (fun z => q (r0.mpr z)), rr q]
      rw [if_neg c3, if_neg c3]
      obtain ⟨s1, s2⟩ := b5 (by omega)
      by_cases c4 : gC G n = 4
      · obtain ⟨f1, f2⟩ := b6 (Or.inl c4)
        rw [if_pos c4, if_pos c4, f2, s2]
        exact jF _ _ f1 s1
      rw [if_neg c4, if_neg c4]
      by_cases c5 : gC G n = 5
      · obtain ⟨f1, f2⟩ := b6 (Or.inr c5)
        rw [if_pos c5, if_pos c5, f2, s2, ih _ p f1, ih _ p s1]
      rw [if_neg c5, if_neg c5, s2, ← ih _ p s1, jF _ _ s1 hn]
    · rw [ev_o (fun z => hp z.2), ev_o (fun z => hp (by rw [hL]; exact z.2))]
theorem gval_sim {G G' : GR} {φ : Nat → Nat} (h : Sim G G' φ) {n : Nat} (p : Nat) (hn : n < gT G) : gval G n p = gval G' (φ n) p := by
  rcases gval_cases (G := G) n p with ⟨k, a, b⟩ | ⟨a, b⟩
  · have e := ev_sim h k n p hn
    rcases ev_val (G := G') k (φ n) p with q | q
    · omega
    · omega
  · rw [a, gval_neg (fun k => by rw [← ev_sim h k n p hn]; exact b k)]
end
section
set_option maxRecDepth 100000
/-! THE PLAIN LAW, 2: the machine of PegTables over numbers, its invariant, its measure -/
def gP (σ : PT) : GR := (σ.2 2, σ.2 3, fun n => σ.2 4 n - 1, fun n => if σ.2 2 n = 4 ∨ σ.2 2 n = 5 then σ.2 5 n - 1 else σ.2 4 n - 1, σ.2 8, σ.2 10, σ.1 1, σ.1 9)
def pPut (σ : PT) (n p : Nat) : PT := setI (setA (setA (setA σ 11 (21 * n + p) 0) 13 (σ.1 12) (21 * n + p)) 14 (σ.1 12) 0) 12 (σ.1 12 + 1)
def pFin (σ : PT) (top v : Nat) : PT := setI (setA σ 11 (σ.2 13 top) v) 12 top
def pStk (out wai : Nat → Nat) : Nat → (Nat → Nat)
  | 0 => out
  | k + 1 => up (pStk out wai k) (wai k) 2
def pNeed (σ : PT) (top n p st : Nat) : PT :=
  if σ.2 11 (21 * n + p) = 1 then pPut (setA σ 14 top st) n p
  else if σ.2 11 (21 * n + p) = 0 ∨ σ.2 11 (21 * n + p) = 2 then setI (setF (setA σ 14 top st) 11 (pStk (σ.2 11) (σ.2 13) (σ.1 12))) 12 0
  else setA σ 14 top st
def pPart (σ : PT) (n : Nat) : Nat := if σ.2 2 n = 3 then σ.2 8 (σ.2 3 n) else σ.2 4 n
def pBegin (σ : PT) (top n p : Nat) : PT := if pPart σ n < 1 then pFin σ top 3 else pNeed σ top (pPart σ n - 1) p 1
def pRes (σ : PT) (n p : Nat) : Nat := σ.2 11 (21 * (pPart σ n - 1) + p)
def pFirst (σ : PT) (top n p : Nat) : PT :=
  if σ.2 2 n = 3 then pFin σ top (pRes σ n p)
  else if σ.2 2 n = 4 ∧ 4 ≤ pRes σ n p then pNeed (setA σ 15 top (pRes σ n p - 4)) top (σ.2 5 n - 1) (p + pRes σ n p - 4) 2
  else if σ.2 2 n = 5 ∧ pRes σ n p < 4 then pNeed (setA σ 15 top 0) top (σ.2 5 n - 1) p 2
  else if σ.2 2 n = 6 ∧ 4 < pRes σ n p then pNeed (setA σ 15 top (pRes σ n p - 4)) top n (p + pRes σ n p - 4) 2
  else if σ.2 2 n = 6 ∨ σ.2 2 n = 7 then pFin σ top (if pRes σ n p < 4 then 4 else pRes σ n p)
  else if σ.2 2 n = 8 then pFin σ top (if pRes σ n p < 4 then 3 else 4)
  else if σ.2 2 n = 9 then pFin σ top (if pRes σ n p < 4 then 4 else 3)
  else pFin σ top (pRes σ n p)
def pSec (σ : PT) (n : Nat) : Nat := if σ.2 2 n = 6 then n else σ.2 5 n - 1
def pRes2 (σ : PT) (top n p : Nat) : Nat := σ.2 11 (21 * pSec σ n + p + σ.2 15 top)
def pSecond (σ : PT) (top n p : Nat) : PT := pFin σ top (if pRes2 σ top n p < 4 then 3 else σ.2 15 top + pRes2 σ top n p)
def pSingle (σ : PT) (o a p : Nat) : Nat := if o = 2 then 4 else if p < σ.1 9 ∧ (o = 1 ∨ σ.2 10 p = a) then 5 else 3
def pGo (σ : PT) (top : Nat) : PT :=
  if σ.2 2 (σ.2 13 top / 21) ≤ 2 then pFin σ top (pSingle σ (σ.2 2 (σ.2 13 top / 21)) (σ.2 3 (σ.2 13 top / 21)) (σ.2 13 top % 21))
  else if σ.2 14 top = 0 then pBegin σ top (σ.2 13 top / 21) (σ.2 13 top % 21)
  else if σ.2 14 top = 1 then pFirst σ top (σ.2 13 top / 21) (σ.2 13 top % 21)
  else pSecond σ top (σ.2 13 top / 21) (σ.2 13 top % 21)
/-- the rules' tables are sound -/
def CW (σ : PT) : Prop := σ.1 1 ≤ 40 ∧ σ.1 9 ≤ 20 ∧ (∀ n, n < σ.1 1 → σ.2 2 n ≤ 9 ∧ σ.2 3 n < 4 ∧ (4 ≤ σ.2 2 n → 1 ≤ σ.2 4 n ∧ σ.2 4 n ≤ σ.1 1) ∧ ((σ.2 2 n = 4 ∨ σ.2 2 n = 5) → 1 ≤ σ.2 5 n ∧ σ.2 5 n ≤ σ.1 1)) ∧ (∀ r, r < 4 → σ.2 8 r ≤ σ.1 1) ∧ (∀ i, i < 20 → σ.2 10 i < 4)
def Itm (G : GR) (i : Nat) : Prop := i / 21 < gT G ∧ i % 21 ≤ gL G
def D1 (G : GR) (n n' : Nat) : Prop := (gC G n = 3 ∧ gR G (gA G n) = n' + 1) ∨ ((gC G n = 4 ∨ gC G n = 5) ∧ n' = gF G n) ∨ (6 ≤ gC G n ∧ n' = gS G n)
def D2 (G : GR) (n p tk n' : Nat) : Prop := (gC G n = 4 ∧ n' = gS G n ∧ 4 ≤ gval G (gF G n) p ∧ tk = gval G (gF G n) p - 4) ∨ (gC G n = 5 ∧ n' = gS G n ∧ gval G (gF G n) p = 3 ∧ tk = 0) ∨ (gC G n = 6 ∧ n' = n ∧ 4 < gval G (gS G n) p ∧ tk = gval G (gS G n) p - 4)
/-- (n, p), come to s, having taken tk, waits for (n', p') -/
def Wt (G : GR) (n p s tk n' p' : Nat) : Prop := (s = 1 ∧ p' = p ∧ D1 G n n') ∨ (s = 2 ∧ p' = p + tk ∧ D2 G n p tk n')
theorem dem {G : GR} {n p s tk n' p' : Nat} (h : Wt G n p s tk n' p') (hn : n < gT G) (hp : p ≤ gL G) (hc : gC G n ≤ 9) (k : Nat) (hk : ev G (k + 1) n p ≠ 2) : ev G k n' p' ≠ 2 := by
  rw [ev_s hn hp] at hk
  intro e
  apply hk
  have hF := ev_val (G := G) k (gF G n) p
  have hS := ev_val (G := G) k (gS G n) p
  rcases h with ⟨-, rfl, h⟩ | ⟨-, rfl, h⟩
  · rcases h with ⟨c, r⟩ | ⟨c, rfl⟩ | ⟨c, rfl⟩
    · unfold fol
      rw [r]
      simp [c, e]
    · rcases c with c | c
      · simp [fol, jn, c, e]
      · simp [fol, c, e]
    · unfold fol
      rw [if_neg (by omega), if_neg (by omega), if_neg (by omega), if_neg (by omega), if_neg (by omega), if_neg (by omega), if_pos e]
  · rcases h with ⟨c, rfl, a, rfl⟩ | ⟨c, rfl, a, rfl⟩ | ⟨c, rfl, a, rfl⟩
    · rcases hF with q | q
      · simp [fol, jn, c, q]
      · rw [← q] at e
        unfold fol jn
        rw [if_neg (by omega), if_neg (by omega), if_neg (by omega), if_neg (by omega), if_pos c, if_neg (by omega), e, if_pos (by decide)]
    · rcases hF with q | q
      · simp [fol, c, q]
      · rw [Nat.add_zero] at e
        unfold fol
        rw [if_neg (by omega), if_neg (by omega), if_neg (by omega), if_neg (by omega), if_neg (by omega), if_pos c, if_pos (by omega), e]
    · rcases hS with q | q
      · unfold fol
        rw [if_neg (by omega), if_neg (by omega), if_neg (by omega), if_neg (by omega), if_neg (by omega), if_neg (by omega), if_pos q]
      · rw [← q] at e
        unfold fol jn
        rw [if_neg (by omega), if_neg (by omega), if_neg (by omega), if_neg (by omega), if_neg (by omega), if_neg (by omega), if_neg (by omega), if_pos c, if_neg (by omega), if_neg (by omega), e, if_pos (by decide)]
/-- the invariant between two steps of the machine -/
def WI (G : GR) (i0 : Nat) (σ : PT) : Prop := gP σ = G ∧ CW σ ∧
  (∀ k, k < σ.1 12 → Itm G (σ.2 13 k) ∧ σ.2 11 (σ.2 13 k) = 0 ∧ σ.2 14 k ≤ 2) ∧
  (∀ j k, j < k → k < σ.1 12 → σ.2 13 j ≠ σ.2 13 k) ∧
  (∀ i, i < 840 → σ.2 11 i = 0 → ∃ k, k < σ.1 12 ∧ σ.2 13 k = i) ∧
  (∀ i, i < 840 → 2 ≤ σ.2 11 i → Itm G i ∧ σ.2 11 i = gval G (i / 21) (i % 21)) ∧
  (∀ k, k + 1 < σ.1 12 → Wt G (σ.2 13 k / 21) (σ.2 13 k % 21) (σ.2 14 k) (σ.2 15 k) (σ.2 13 (k + 1) / 21) (σ.2 13 (k + 1) % 21)) ∧
  (∀ k, k + 1 = σ.1 12 → σ.2 14 k = 0 ∨ ∃ n' p', Wt G (σ.2 13 k / 21) (σ.2 13 k % 21) (σ.2 14 k) (σ.2 15 k) n' p' ∧ n' < gT G ∧ p' ≤ gL G ∧ 3 ≤ σ.2 11 (21 * n' + p')) ∧
  σ.1 12 + ct 1 (σ.2 11) 840 ≤ 840 ∧ (i0 < 840 ∧ σ.2 11 i0 ≠ 1)
def mu (σ : PT) : Nat := 3 * ct 1 (σ.2 11) 840 + sm (fun k => 3 - σ.2 14 k) (σ.1 12)
theorem WI.lt {G : GR} {i0 : Nat} {σ : PT} (h : WI G i0 σ) {i : Nat} (hi : Itm G i) : i < 840 := by
  obtain ⟨e, w, -⟩ := h
  have h1 : gT G = σ.1 1 := by rw [← e]; rfl
  have h2 : gL G = σ.1 9 := by rw [← e]; rfl
  have := w.1
  have := w.2.1
  have a := hi.1
  have b := hi.2
  omega
theorem wi_fin {G : GR} {i0 : Nat} {σ : PT} {top v : Nat} (h : WI G i0 σ) (ht : top + 1 = σ.1 12) (hv : v = gval G (σ.2 13 top / 21) (σ.2 13 top % 21)) (h3 : 3 ≤ v) : WI G i0 (pFin σ top v) ∧ mu (pFin σ top v) < mu σ := by
  have hlt := fun i hi => WI.lt h (i := i) hi
  obtain ⟨w1, w2, w3, w4, w5, w6, w7, w8, w9, w10, w11⟩ := h
  have hw := w3 top (by omega)
  have hw8 := hlt _ hw.1
  have d1 : (pFin σ top v).1 12 = top := rfl
  have d2 : (pFin σ top v).2 11 = up (σ.2 11) (σ.2 13 top) v := rfl
  have d3 : (pFin σ top v).2 13 = σ.2 13 := rfl
  have d4 : (pFin σ top v).2 14 = σ.2 14 := rfl
  have d5 : (pFin σ top v).2 15 = σ.2 15 := rfl
  have hct : ct 1 (up (σ.2 11) (σ.2 13 top) v) 840 = ct 1 (σ.2 11) 840 := by
    have := ct_up (c := 1) (f := σ.2 11) (v := v) hw8
    rw [hw.2.1, if_neg (by decide), if_neg (by omega)] at this
    exact this
  have hst := hw.2.2
  constructor
  · refine ⟨w1, w2, ?_, ?_, ?_, ?_, ?_, ?_, ?_, w10, ?_⟩
    · rw [d1, d2, d3, d4]
      intro k hk
      have a := w3 k (by omega)
      refine ⟨a.1, ?_, a.2.2⟩
      rw [up_n (w4 k top hk (by omega))]
      exact a.2.1
    · rw [d1, d3]
      exact fun j k hj hk => w4 j k hj (by omega)
    · rw [d1, d2, d3]
      intro i hi e
      by_cases q : i = σ.2 13 top
      · rw [q, up_s] at e
        omega
      · rw [up_n q] at e
        obtain ⟨k, k1, k2⟩ := w5 i hi e
        refine ⟨k, ?_, k2⟩
        rcases Nat.lt_or_ge k top with z | z
        · exact z
        · exact absurd (by rw [← k2, show k = top by omega]) q
    · rw [d2]
      intro i hi e
      by_cases q : i = σ.2 13 top
      · rw [q, up_s]
        exact ⟨hw.1, hv⟩
      · rw [up_n q] at e ⊢
        exact w6 i hi e
    · rw [d1, d3, d4, d5]
      exact fun k hk => w7 k (by omega)
    · rw [d1, d2, d3, d4, d5]
      intro k hk
      right
      have a := w7 k (by omega)
      rw [hk] at a
      refine ⟨_, _, a, hw.1.1, hw.1.2, ?_⟩
      rw [show 21 * (σ.2 13 top / 21) + σ.2 13 top % 21 = σ.2 13 top by omega, up_s]
      exact h3
    · rw [d1, d2, hct]
      omega
    · rw [d2]
      by_cases q : i0 = σ.2 13 top
      · rw [q, up_s]
        omega
      · rw [up_n q]
        exact w11
  · unfold mu
    rw [d1, d2, d4, hct, ← ht]
    show _ < _ + (sm (fun k => 3 - σ.2 14 k) top + (3 - σ.2 14 top))
    omega
theorem wi_tak {G : GR} {i0 : Nat} {σ : PT} {top tk : Nat} (h : WI G i0 σ) (ht : top + 1 = σ.1 12) (hs : σ.2 14 top ≤ 1) : WI G i0 (setA σ 15 top tk) ∧ mu (setA σ 15 top tk) = mu σ := by
  obtain ⟨w1, w2, w3, w4, w5, w6, w7, w8, w9, w10, w11⟩ := h
  refine ⟨⟨w1, w2, w3, w4, w5, w6, ?_, ?_, w9, w10, w11⟩, rfl⟩
  · intro k hk
    have hk : k + 1 < σ.1 12 := hk
    have a := w7 k hk
    show Wt G (σ.2 13 k / 21) (σ.2 13 k % 21) (σ.2 14 k) (up (σ.2 15) top tk k) (σ.2 13 (k + 1) / 21) (σ.2 13 (k + 1) % 21)
    rw [up_n (by omega)]
    exact a
  · intro k hk
    have hk : k + 1 = σ.1 12 := hk
    have e : k = top := by omega
    subst e
    rcases w8 k hk with a | ⟨n', p', a, b⟩
    · exact Or.inl a
    · right
      refine ⟨n', p', ?_, b⟩
      rcases a with ⟨a1, a2, a3⟩ | ⟨a1, -⟩
      · exact Or.inl ⟨a1, a2, a3⟩
      · omega
theorem pStk_in {out wai : Nat → Nat} : ∀ {n k : Nat}, k < n → pStk out wai n (wai k) = 2
  | 0, k, h => absurd h (Nat.not_lt_zero k)
  | n + 1, k, h => by
    show up (pStk out wai n) (wai n) 2 (wai k) = 2
    by_cases q : wai k = wai n
    · rw [q, up_s]
    · rw [up_n q]
      have : k ≠ n := fun z => q (by rw [z])
      exact pStk_in (by omega)
theorem pStk_out {out wai : Nat → Nat} {i : Nat} : ∀ {n : Nat}, (∀ k, k < n → wai k ≠ i) → pStk out wai n i = out i
  | 0, _ => rfl
  | n + 1, h => by
    show up (pStk out wai n) (wai n) 2 i = out i
    rw [up_n (fun z => h n (by omega) z.symm)]
    exact pStk_out (fun k hk => h k (by omega))
/-- all that waits is stuck -/
theorem wi_stuck {G : GR} {i0 : Nat} {σ : PT} {top n p st : Nat} (h : WI G i0 σ) (ht : top + 1 = σ.1 12) (hW : Wt G (σ.2 13 top / 21) (σ.2 13 top % 21) st (σ.2 15 top) n p) (hn : n < gT G) (hp : p ≤ gL G) (ho : σ.2 11 (21 * n + p) = 0 ∨ σ.2 11 (21 * n + p) = 2) : ∀ k, k < σ.1 12 → gval G (σ.2 13 k / 21) (σ.2 13 k % 21) = 2 := by
  have hlt := fun i hi => WI.lt h (i := i) hi
  obtain ⟨w1, w2, w3, w4, w5, w6, w7, w8, w9, w10, w11⟩ := h
  have hL : gL G ≤ 20 := by rw [← w1]; exact w2.2.1
  have e1 : (21 * n + p) / 21 = n := by omega
  have e2 : (21 * n + p) % 21 = p := by omega
  have hi : 21 * n + p < 840 := hlt _ ⟨by rw [e1]; exact hn, by rw [e2]; exact hp⟩
  have hc : ∀ k, k < σ.1 12 → gC G (σ.2 13 k / 21) ≤ 9 := by
    intro k hk
    have a := (w3 k hk).1.1
    rw [← w1] at a ⊢
    exact (w2.2.2.1 _ a).1
  have key : ∀ m k, k < σ.1 12 → ev G m (σ.2 13 k / 21) (σ.2 13 k % 21) = 2 := by
    intro m
    induction m with
    | zero => intro k _; rfl
    | succ m ih =>
      intro k hk
      refine Classical.byContradiction fun q => ?_
      have a := w3 k hk
      rcases Nat.lt_or_ge (k + 1) (σ.1 12) with z | z
      · exact dem (w7 k z) a.1.1 a.1.2 (hc k hk) m q (ih (k + 1) z)
      · have e : k = top := by omega
        subst e
        have b := dem hW a.1.1 a.1.2 (hc k hk) m q
        rcases ho with o | o
        · obtain ⟨k2, k3, k4⟩ := w5 _ hi o
          have c := ih k2 k3
          rw [k4, e1, e2] at c
          exact b c
        · have c := (w6 _ hi (by omega)).2
          rw [e1, e2, o] at c
          have d := ev_val (G := G) m n p
          omega
  exact fun k hk => gval_neg (fun m => key m k hk)
theorem wi_need {G : GR} {i0 : Nat} {σ : PT} {top n p st : Nat} (h : WI G i0 σ) (ht : top + 1 = σ.1 12) (hs : σ.2 14 top < st) (hs2 : st ≤ 2) (hW : Wt G (σ.2 13 top / 21) (σ.2 13 top % 21) st (σ.2 15 top) n p) (hn : n < gT G) (hp : p ≤ gL G) : WI G i0 (pNeed σ top n p st) ∧ mu (pNeed σ top n p st) < mu σ := by
  have hlt := fun i hi => WI.lt h (i := i) hi
  have hstk := wi_stuck h ht hW hn hp
  obtain ⟨w1, w2, w3, w4, w5, w6, w7, w8, w9, w10, w11⟩ := h
  have hL : gL G ≤ 20 := by rw [← w1]; exact w2.2.1
  have e1 : (21 * n + p) / 21 = n := by omega
  have e2 : (21 * n + p) % 21 = p := by omega
  have hi : 21 * n + p < 840 := hlt _ ⟨by rw [e1]; exact hn, by rw [e2]; exact hp⟩
  have hsm : sm (fun k => 3 - up (σ.2 14) top st k) (σ.1 12) + 1 ≤ sm (fun k => 3 - σ.2 14 k) (σ.1 12) := by
    have a := sm_up (f := fun k => 3 - σ.2 14 k) (v := 3 - st) (show top < σ.1 12 by omega)
    have b : sm (fun k => 3 - up (σ.2 14) top st k) (σ.1 12) = sm (up (fun k => 3 - σ.2 14 k) top (3 - st)) (σ.1 12) := by
      refine sm_cong fun k _ => ?_
      by_cases q : k = top
      · subst q; rw [up_s, up_s]
      · rw [up_n q, up_n q]
    omega
  unfold pNeed
  by_cases c1 : σ.2 11 (21 * n + p) = 1
  · rw [if_pos c1]
    generalize hu : pPut (setA σ 14 top st) n p = u
    have d0 : gP u = gP σ := by rw [← hu]; rfl
    have d0' : CW u := by rw [← hu]; exact w2
    have d1 : u.1 12 = σ.1 12 + 1 := by rw [← hu]; rfl
    have d2 : u.2 11 = up (σ.2 11) (21 * n + p) 0 := by rw [← hu]; rfl
    have d3 : u.2 13 = up (σ.2 13) (σ.1 12) (21 * n + p) := by rw [← hu]; rfl
    have d4 : u.2 14 = up (up (σ.2 14) top st) (σ.1 12) 0 := by rw [← hu]; rfl
    have d5 : u.2 15 = σ.2 15 := by rw [← hu]; rfl
    have hne : ∀ k, k < σ.1 12 → σ.2 13 k ≠ 21 * n + p := fun k hk z => by
      have := (w3 k hk).2.1
      rw [z] at this
      omega
    have hct : ct 1 (up (σ.2 11) (21 * n + p) 0) 840 + 1 = ct 1 (σ.2 11) 840 := by
      have := ct_up (c := 1) (f := σ.2 11) (v := 0) hi
      rw [if_pos c1, if_neg (by decide)] at this
      exact this
    constructor
    · refine ⟨d0.trans w1, d0', ?_, ?_, ?_, ?_, ?_, ?_, ?_, w10, ?_⟩
      · rw [d1, d2, d3, d4]
        intro k hk
        rcases Nat.lt_or_ge k (σ.1 12) with z | z
        · have a := w3 k z
          rw [up_n (show k ≠ σ.1 12 by omega), up_n (show k ≠ σ.1 12 by omega), up_n (hne k z)]
          refine ⟨a.1, a.2.1, ?_⟩
          by_cases q : k = top
          · rw [q, up_s]; exact hs2
          · rw [up_n q]; exact a.2.2
        · have e : k = σ.1 12 := by omega
          rw [e, up_s, up_s, up_s]
          exact ⟨⟨by rw [e1]; exact hn, by rw [e2]; exact hp⟩, rfl, by decide⟩
      · rw [d1, d3]
        intro j k hj hk
        rw [up_n (show j ≠ σ.1 12 by omega)]
        rcases Nat.lt_or_ge k (σ.1 12) with z | z
        · rw [up_n (show k ≠ σ.1 12 by omega)]
          exact w4 j k hj z
        · have e : k = σ.1 12 := by omega
          rw [e, up_s]
          exact hne j (by omega)
      · rw [d1, d2, d3]
        intro i hi e
        by_cases q : i = 21 * n + p
        · exact ⟨σ.1 12, by omega, by rw [up_s, q]⟩
        · rw [up_n q] at e
          obtain ⟨k, k1, k2⟩ := w5 i hi e
          exact ⟨k, by omega, by rw [up_n (show k ≠ σ.1 12 by omega)]; exact k2⟩
      · rw [d2]
        intro i hi e
        by_cases q : i = 21 * n + p
        · rw [q, up_s] at e
          omega
        · rw [up_n q] at e ⊢
          exact w6 i hi e
      · rw [d1, d3, d4, d5]
        intro k hk
        rw [up_n (show k ≠ σ.1 12 by omega), up_n (show k ≠ σ.1 12 by omega)]
        rcases Nat.lt_or_ge (k + 1) (σ.1 12) with z | z
        · rw [up_n (show k + 1 ≠ σ.1 12 by omega), up_n (show k ≠ top by omega)]
          exact w7 k z
        · have e : k = top := by omega
          rw [show k + 1 = σ.1 12 by omega, up_s, e, up_s, e1, e2]
          exact hW
      · rw [d1, d4]
        intro k hk
        left
        rw [show k = σ.1 12 by omega, up_s]
      · rw [d1, d2]
        omega
      · rw [d2]
        by_cases q : i0 = 21 * n + p
        · rw [q, up_s]
          decide
        · rw [up_n q]
          exact w11
    · unfold mu
      rw [d1, d2, d4]
      have b : sm (fun k => 3 - up (up (σ.2 14) top st) (σ.1 12) 0 k) (σ.1 12 + 1) = sm (fun k => 3 - up (σ.2 14) top st k) (σ.1 12) + 3 := by
        show sm (fun k => 3 - up (up (σ.2 14) top st) (σ.1 12) 0 k) (σ.1 12) + (3 - up (up (σ.2 14) top st) (σ.1 12) 0 (σ.1 12)) = _
        rw [up_s]
        have c : sm (fun k => 3 - up (up (σ.2 14) top st) (σ.1 12) 0 k) (σ.1 12) = sm (fun k => 3 - up (σ.2 14) top st k) (σ.1 12) :=
          sm_cong fun k hk => by rw [up_n (show k ≠ σ.1 12 by omega)]
        rw [c]
      rw [b]
      omega
  · rw [if_neg c1]
    by_cases c2 : σ.2 11 (21 * n + p) = 0 ∨ σ.2 11 (21 * n + p) = 2
    · rw [if_pos c2]
      have hstk := hstk c2
      generalize hu : setI (setF (setA σ 14 top st) 11 (pStk (σ.2 11) (σ.2 13) (σ.1 12))) 12 0 = u
      have d0 : gP u = gP σ := by rw [← hu]; rfl
      have d0' : CW u := by rw [← hu]; exact w2
      have d1 : u.1 12 = 0 := by rw [← hu]; rfl
      have d2 : u.2 11 = pStk (σ.2 11) (σ.2 13) (σ.1 12) := by rw [← hu]; rfl
      have hin : ∀ i, (∃ k, k < σ.1 12 ∧ σ.2 13 k = i) → u.2 11 i = 2 := by
        rintro i ⟨k, k1, rfl⟩
        rw [d2]
        exact pStk_in k1
      have hout : ∀ i, (¬ ∃ k, k < σ.1 12 ∧ σ.2 13 k = i) → u.2 11 i = σ.2 11 i := by
        intro i q
        rw [d2]
        exact pStk_out (fun k hk z => q ⟨k, hk, z⟩)
      have hct : ct 1 (u.2 11) 840 = ct 1 (σ.2 11) 840 := by
        refine ct_cong fun i _ => ?_
        by_cases q : ∃ k, k < σ.1 12 ∧ σ.2 13 k = i
        · rw [hin i q]
          obtain ⟨k, k1, rfl⟩ := q
          have := (w3 k k1).2.1
          omega
        · rw [hout i q]
      constructor
      · refine ⟨d0.trans w1, d0', ?_, ?_, ?_, ?_, ?_, ?_, ?_, w10, ?_⟩
        · rw [d1]
          exact fun k hk => absurd hk (Nat.not_lt_zero k)
        · rw [d1]
          exact fun j k _ hk => absurd hk (Nat.not_lt_zero k)
        · intro i hi e
          by_cases q : ∃ k, k < σ.1 12 ∧ σ.2 13 k = i
          · rw [hin i q] at e
            omega
          · rw [hout i q] at e
            exact absurd (w5 i hi e) q
        · intro i hi e
          by_cases q : ∃ k, k < σ.1 12 ∧ σ.2 13 k = i
          · rw [hin i q]
            obtain ⟨k, k1, rfl⟩ := q
            exact ⟨(w3 k k1).1, (hstk k k1).symm⟩
          · rw [hout i q] at e ⊢
            exact w6 i hi e
        · rw [d1]
          exact fun k hk => absurd hk (Nat.not_lt_zero _)
        · rw [d1]
          intro k hk
          omega
        · rw [d1, hct]
          omega
        · by_cases q : ∃ k, k < σ.1 12 ∧ σ.2 13 k = i0
          · rw [hin i0 q]
            decide
          · rw [hout i0 q]
            exact w11
      · unfold mu
        rw [d1, hct]
        show _ + 0 < _
        omega
    · rw [if_neg c2]
      generalize hu : setA σ 14 top st = u
      have d0 : gP u = gP σ := by rw [← hu]; rfl
      have d0' : CW u := by rw [← hu]; exact w2
      have d1 : u.1 12 = σ.1 12 := by rw [← hu]; rfl
      have d2 : u.2 11 = σ.2 11 := by rw [← hu]; rfl
      have d3 : u.2 13 = σ.2 13 := by rw [← hu]; rfl
      have d4 : u.2 14 = up (σ.2 14) top st := by rw [← hu]; rfl
      have d5 : u.2 15 = σ.2 15 := by rw [← hu]; rfl
      constructor
      · refine ⟨d0.trans w1, d0', ?_, ?_, ?_, ?_, ?_, ?_, ?_, w10, ?_⟩
        · rw [d1, d2, d3, d4]
          intro k hk
          have a := w3 k hk
          refine ⟨a.1, a.2.1, ?_⟩
          by_cases q : k = top
          · rw [q, up_s]; exact hs2
          · rw [up_n q]; exact a.2.2
        · rw [d1, d3]
          exact w4
        · rw [d1, d2, d3]
          exact w5
        · rw [d2]
          exact w6
        · rw [d1, d3, d4, d5]
          intro k hk
          rw [up_n (show k ≠ top by omega)]
          exact w7 k hk
        · rw [d1, d2, d3, d4, d5]
          intro k hk
          right
          rw [show k = top by omega, up_s]
          exact ⟨n, p, hW, hn, hp, by omega⟩
        · rw [d1, d2]
          exact w9
        · rw [d2]
          exact w11
      · unfold mu
        rw [d1, d2, d4]
        omega
end
section
set_option maxRecDepth 100000
/-! THE PLAIN LAW, 3: one step of the machine keeps the invariant and lowers the measure; start and end -/
theorem gP_C (σ : PT) (n : Nat) : gC (gP σ) n = σ.2 2 n := rfl
theorem gP_A (σ : PT) (n : Nat) : gA (gP σ) n = σ.2 3 n := rfl
theorem gP_F (σ : PT) (n : Nat) : gF (gP σ) n = σ.2 4 n - 1 := rfl
theorem gP_S (σ : PT) (n : Nat) : gS (gP σ) n = if σ.2 2 n = 4 ∨ σ.2 2 n = 5 then σ.2 5 n - 1 else σ.2 4 n - 1 := rfl
theorem gP_S2 {σ : PT} {n : Nat} (h : σ.2 2 n = 4 ∨ σ.2 2 n = 5) : gS (gP σ) n = σ.2 5 n - 1 := if_pos h
theorem gP_S1 {σ : PT} {n : Nat} (h : ¬ (σ.2 2 n = 4 ∨ σ.2 2 n = 5)) : gS (gP σ) n = σ.2 4 n - 1 := if_neg h
theorem gP_R (σ : PT) (r : Nat) : gR (gP σ) r = σ.2 8 r := rfl
theorem gP_X (σ : PT) (i : Nat) : gX (gP σ) i = σ.2 10 i := rfl
theorem gP_T (σ : PT) : gT (gP σ) = σ.1 1 := rfl
theorem gP_L (σ : PT) : gL (gP σ) = σ.1 9 := rfl
/-- what follows, code by code -/
theorem fol_s {G : GR} {O : Nat → Nat → Nat} {t p : Nat} (h : gC G t ≤ 2) : fol G O t p = if gC G t = 2 then 4 else if p < gL G ∧ (gC G t = 1 ∨ gX G p = gA G t) then 5 else 3 := by
  unfold fol
  grind (splits := 30)
theorem fol_3 {G : GR} {O : Nat → Nat → Nat} {t p : Nat} (h : gC G t = 3) : fol G O t p = if gR G (gA G t) = 0 then 3 else O (gR G (gA G t) - 1) p := by
  unfold fol
  rw [if_neg (by omega), if_neg (by omega), if_neg (by omega), if_pos h]
theorem fol_4 {G : GR} {O : Nat → Nat → Nat} {t p : Nat} (h : gC G t = 4) : fol G O t p = jn O (gF G t) (gS G t) p := by
  unfold fol
  rw [if_neg (by omega), if_neg (by omega), if_neg (by omega), if_neg (by omega), if_pos h]
theorem fol_5 {G : GR} {O : Nat → Nat → Nat} {t p : Nat} (h : gC G t = 5) : fol G O t p = if O (gF G t) p = 3 then O (gS G t) p else O (gF G t) p := by
  unfold fol
  rw [if_neg (by omega), if_neg (by omega), if_neg (by omega), if_neg (by omega), if_neg (by omega), if_pos h]
theorem fol_6 {G : GR} {O : Nat → Nat → Nat} {t p : Nat} (h : gC G t = 6) (h2 : O (gS G t) p ≠ 2) : fol G O t p = if O (gS G t) p ≤ 4 then 4 else jn O (gS G t) t p := by
  unfold fol
  rw [if_neg (by omega), if_neg (by omega), if_neg (by omega), if_neg (by omega), if_neg (by omega), if_neg (by omega), if_neg h2, if_pos h]
theorem fol_7 {G : GR} {O : Nat → Nat → Nat} {t p : Nat} (h : gC G t = 7) (h2 : O (gS G t) p ≠ 2) : fol G O t p = if O (gS G t) p < 4 then 4 else O (gS G t) p := by
  unfold fol
  rw [if_neg (by omega), if_neg (by omega), if_neg (by omega), if_neg (by omega), if_neg (by omega), if_neg (by omega), if_neg h2, if_neg (by omega), if_pos h]
theorem fol_8 {G : GR} {O : Nat → Nat → Nat} {t p : Nat} (h : gC G t = 8) (h2 : O (gS G t) p ≠ 2) : fol G O t p = if O (gS G t) p < 4 then 3 else 4 := by
  unfold fol
  rw [if_neg (by omega), if_neg (by omega), if_neg (by omega), if_neg (by omega), if_neg (by omega), if_neg (by omega), if_neg h2, if_neg (by omega), if_neg (by omega), if_pos h]
theorem fol_9 {G : GR} {O : Nat → Nat → Nat} {t p : Nat} (h : gC G t = 9) (h2 : O (gS G t) p ≠ 2) : fol G O t p = if O (gS G t) p < 4 then 4 else 3 := by
  unfold fol
  rw [if_neg (by omega), if_neg (by omega), if_neg (by omega), if_neg (by omega), if_neg (by omega), if_neg (by omega), if_neg h2, if_neg (by omega), if_neg (by omega), if_neg (by omega), if_pos h]
theorem jn_lo {O : Nat → Nat → Nat} {x y p : Nat} (h : O x p < 4) : jn O x y p = O x p := if_pos h
theorem jn_hi {O : Nat → Nat → Nat} {x y p : Nat} (h : 4 ≤ O x p) : jn O x y p = if O y (p + (O x p - 4)) < 4 then O y (p + (O x p - 4)) else O x p - 4 + O y (p + (O x p - 4)) := if_neg (by omega)
theorem wi_go {G : GR} {i0 : Nat} {σ : PT} {top : Nat} (h : WI G i0 σ) (ht : top + 1 = σ.1 12) : WI G i0 (pGo σ top) ∧ mu (pGo σ top) < mu σ := by
  have hw1 : gP σ = G := h.1
  subst hw1
  have hlt := fun i hi => WI.lt h (i := i) hi
  obtain ⟨-, w2, w3, -, -, w6, -, w8, -⟩ := id h
  obtain ⟨v1, v2, v3, v4, v5⟩ := w2
  have hit := (w3 top (by omega)).1
  have hst := (w3 top (by omega)).2.2
  unfold pGo
  have fx := gval_fix (G := gP σ) hit.1 hit.2
  have fin := fun v => wi_fin (v := v) h ht
  have ned := fun n' p' st => wi_need (n := n') (p := p') (st := st) h ht
  have need2 : ∀ tk n' p', σ.2 14 top = 1 → D2 (gP σ) (σ.2 13 top / 21) (σ.2 13 top % 21) tk n' → n' < gT (gP σ) → p' = σ.2 13 top % 21 + tk → p' ≤ gL (gP σ) → WI (gP σ) i0 (pNeed (setA σ 15 top tk) top n' p' 2) ∧ mu (pNeed (setA σ 15 top tk) top n' p' 2) < mu σ := by
    intro tk n' p' h1 hD hn hpe hp
    obtain ⟨a, b⟩ := wi_tak (tk := tk) h ht (by omega)
    rw [← b]
    refine wi_need a ht (by show σ.2 14 top < 2; omega) (Nat.le_refl 2) ?_ hn hp
    show Wt (gP σ) (σ.2 13 top / 21) (σ.2 13 top % 21) 2 (up (σ.2 15) top tk top) n' p'
    rw [up_s]
    exact Or.inr ⟨rfl, hpe, hD⟩
  have w8t := w8 top ht
  generalize hn : σ.2 13 top / 21 = n at *
  generalize hp : σ.2 13 top % 21 = p at *
  have hn1 : n < σ.1 1 := by rw [← hn]; exact hit.1
  have hp1 : p ≤ σ.1 9 := by rw [← hp]; exact hit.2
  obtain ⟨x1, x2, x3, x4⟩ := v3 n hn1
  have hC := gP_C σ n
  by_cases c2 : σ.2 2 n ≤ 2
  · rw [if_pos c2]
    have e : pSingle σ (σ.2 2 n) (σ.2 3 n) p = gval (gP σ) n p := by
      rw [fx, fol_s (by rw [hC]; exact c2)]
      rfl
    exact fin _ e (by unfold pSingle; split <;> (try split) <;> omega)
  rw [if_neg c2]
  by_cases s0 : σ.2 14 top = 0
  · rw [if_pos s0]
    unfold pBegin
    by_cases q : pPart σ n < 1
    · rw [if_pos q]
      have o3 : σ.2 2 n = 3 := by
        refine Classical.byContradiction fun z => ?_
        unfold pPart at q
        rw [if_neg z] at q
        have := x3 (by omega)
        omega
      refine fin _ ?_ (Nat.le_refl 3)
      rw [fx, fol_3 (hC.trans o3), if_pos]
      unfold pPart at q
      rw [if_pos o3] at q
      rw [gP_R, gP_A]
      omega
    · rw [if_neg q]
      refine ned _ _ _ (by omega) (by decide) (Or.inl ⟨rfl, rfl, ?_⟩) ?_ hp1
      · by_cases o3 : σ.2 2 n = 3
        · left
          refine ⟨o3, ?_⟩
          rw [gP_R, gP_A]
          unfold pPart at q ⊢
          rw [if_pos o3] at q ⊢
          omega
        · right
          have e : pPart σ n = σ.2 4 n := if_neg o3
          by_cases o45 : σ.2 2 n = 4 ∨ σ.2 2 n = 5
          · left
            exact ⟨o45, by rw [e, gP_F]⟩
          · right
            exact ⟨by rw [hC]; omega, by rw [e, gP_S1 o45]⟩
      · rw [gP_T]
        by_cases o3 : σ.2 2 n = 3
        · have := v4 (σ.2 3 n) x2
          unfold pPart at q ⊢
          rw [if_pos o3] at q ⊢
          omega
        · have := x3 (by omega)
          have e : pPart σ n = σ.2 4 n := if_neg o3
          omega
  rw [if_neg s0]
  by_cases s1 : σ.2 14 top = 1
  · rw [if_pos s1]
    rcases w8t with z | ⟨n', p', hW, hn', hp', h3⟩
    · exact absurd z s0
    rcases hW with ⟨-, hpp, hD⟩ | ⟨z, -⟩
    case inr => omega
    rw [hpp] at hp' h3
    have hL20 : gL (gP σ) ≤ 20 := v2
    have hpart : pPart σ n - 1 = n' := by
      unfold pPart
      rcases hD with ⟨c, r⟩ | ⟨c, r⟩ | ⟨c, r⟩
      · rw [if_pos (by rw [← hC]; exact c)]
        rw [gP_R, gP_A] at r
        omega
      · rw [hC] at c
        rw [if_neg (by omega), r, gP_F]
      · rw [hC] at c
        rw [if_neg (by omega), r, gP_S1 (by omega)]
    have hr : pRes σ n p = σ.2 11 (21 * n' + p) := by unfold pRes; rw [hpart]
    have e1 : (21 * n' + p) / 21 = n' := by omega
    have e2 : (21 * n' + p) % 21 = p := by omega
    have hv : σ.2 11 (21 * n' + p) = gval (gP σ) n' p := by
      have := (w6 _ (hlt _ ⟨by rw [e1]; exact hn', by rw [e2]; exact hp'⟩) (by omega)).2
      rw [e1, e2] at this
      exact this
    have hbd := gval_bd (G := gP σ) n' p
    rw [← hv, ← hr] at hbd
    rw [← hr] at h3
    rw [← hr] at hv
    unfold pFirst
    generalize pRes σ n p = r at *
    have o3of : σ.2 2 n = 3 → gR (gP σ) (gA (gP σ) n) = n' + 1 := by
      intro o
      rcases hD with ⟨c, q⟩ | ⟨c, q⟩ | ⟨c, q⟩
      · exact q
      · rw [hC] at c; omega
      · rw [hC] at c; omega
    have oFof : (σ.2 2 n = 4 ∨ σ.2 2 n = 5) → gF (gP σ) n = n' := by
      intro o
      rcases hD with ⟨c, q⟩ | ⟨c, q⟩ | ⟨c, q⟩
      · rw [hC] at c; omega
      · exact q.symm
      · rw [hC] at c; omega
    have oSof : 6 ≤ σ.2 2 n → gS (gP σ) n = n' := by
      intro o
      rcases hD with ⟨c, q⟩ | ⟨c, q⟩ | ⟨c, q⟩
      · rw [hC] at c; omega
      · rw [hC] at c; omega
      · exact q.symm
    by_cases o3 : σ.2 2 n = 3
    · rw [if_pos o3]
      refine fin _ ?_ h3
      rw [fx, fol_3 (hC.trans o3), o3of o3, if_neg (by omega), Nat.add_sub_cancel]
      exact hv
    rw [if_neg o3]
    by_cases o4 : σ.2 2 n = 4
    · have x4' := x4 (Or.inl o4)
      by_cases q : 4 ≤ r
      · rw [if_pos ⟨o4, q⟩]
        refine need2 _ _ _ s1 (Or.inl ⟨o4, (gP_S2 (Or.inl o4)).symm, ?_, ?_⟩) ?_ (by omega) ?_
        · rw [oFof (Or.inl o4), ← hv]; exact q
        · rw [oFof (Or.inl o4), ← hv]
        · rw [gP_T]; omega
        · have := hbd.2 q
          omega
      · rw [if_neg (fun z => q z.2), if_neg (by omega), if_neg (by omega), if_neg (by omega), if_neg (by omega), if_neg (by omega)]
        refine fin _ ?_ h3
        rw [fx, fol_4 (hC.trans o4), jn_lo (by rw [oFof (Or.inl o4), ← hv]; omega), oFof (Or.inl o4)]
        exact hv
    rw [if_neg (fun z => o4 z.1)]
    by_cases o5 : σ.2 2 n = 5
    · have x4' := x4 (Or.inr o5)
      by_cases q : r < 4
      · rw [if_pos ⟨o5, q⟩]
        refine need2 _ _ _ s1 (Or.inr (Or.inl ⟨o5, (gP_S2 (Or.inr o5)).symm, ?_, rfl⟩)) ?_ (by omega) hp1
        · rw [oFof (Or.inr o5), ← hv]; omega
        · rw [gP_T]; omega
      · rw [if_neg (fun z => q z.2), if_neg (by omega), if_neg (by omega), if_neg (by omega), if_neg (by omega)]
        refine fin _ ?_ h3
        rw [fx, fol_5 (hC.trans o5), oFof (Or.inr o5), if_neg (by rw [← hv]; omega)]
        exact hv
    rw [if_neg (fun z => o5 z.1)]
    have hS := oSof (by omega)
    have hne : gval (gP σ) (gS (gP σ) n) p ≠ 2 := by rw [hS, ← hv]; omega
    by_cases o6 : σ.2 2 n = 6
    · by_cases q : 4 < r
      · rw [if_pos ⟨o6, q⟩]
        refine need2 _ _ _ s1 (Or.inr (Or.inr ⟨o6, rfl, ?_, ?_⟩)) hn1 (by omega) ?_
        · rw [hS, ← hv]; exact q
        · rw [hS, ← hv]
        · have := hbd.2 (by omega)
          omega
      · rw [if_neg (fun z => q z.2), if_pos (Or.inl o6)]
        refine fin _ ?_ (by split <;> omega)
        rw [fx, fol_6 (hC.trans o6) hne, hS, ← hv]
        split <;> split <;> omega
    rw [if_neg (fun z => o6 z.1)]
    by_cases o7 : σ.2 2 n = 7
    · rw [if_pos (Or.inr o7)]
      refine fin _ ?_ (by split <;> omega)
      rw [fx, fol_7 (hC.trans o7) hne, hS, ← hv]
    rw [if_neg (by omega)]
    by_cases o8 : σ.2 2 n = 8
    · rw [if_pos o8]
      refine fin _ ?_ (by split <;> omega)
      rw [fx, fol_8 (hC.trans o8) hne, hS, ← hv]
    rw [if_neg o8]
    have o9 : σ.2 2 n = 9 := by omega
    rw [if_pos o9]
    refine fin _ ?_ (by split <;> omega)
    rw [fx, fol_9 (hC.trans o9) hne, hS, ← hv]
  rw [if_neg s1]
  rcases w8t with z | ⟨n', p', hW, hn', hp', h3⟩
  · exact absurd z s0
  rcases hW with ⟨z, -⟩ | ⟨-, hpp, hD⟩
  · exact absurd z s1
  have hL20 : gL (gP σ) ≤ 20 := v2
  have hsec : pSec σ n = n' := by
    unfold pSec
    rcases hD with ⟨c, q, -⟩ | ⟨c, q, -⟩ | ⟨c, q, -⟩
    · rw [hC] at c
      rw [if_neg (by omega), q, gP_S2 (Or.inl c)]
    · rw [hC] at c
      rw [if_neg (by omega), q, gP_S2 (Or.inr c)]
    · rw [hC] at c
      rw [if_pos c, q]
  have hr : pRes2 σ top n p = σ.2 11 (21 * n' + p') := by
    unfold pRes2
    rw [hsec, hpp, Nat.add_assoc]
  have e1 : (21 * n' + p') / 21 = n' := by omega
  have e2 : (21 * n' + p') % 21 = p' := by omega
  have hv : σ.2 11 (21 * n' + p') = gval (gP σ) n' p' := by
    have := (w6 _ (hlt _ ⟨by rw [e1]; exact hn', by rw [e2]; exact hp'⟩) (by omega)).2
    rw [e1, e2] at this
    exact this
  rw [← hr] at h3
  rw [← hr] at hv
  unfold pSecond
  generalize pRes2 σ top n p = r at *
  refine fin _ ?_ (by split <;> omega)
  rw [fx]
  rcases hD with ⟨c, q, a, tk⟩ | ⟨c, q, a, tk⟩ | ⟨c, q, a, tk⟩
  · rw [fol_4 c, jn_hi a, ← tk, ← hpp, ← q, ← hv]
    split <;> omega
  · rw [fol_5 c, if_pos a, ← q]
    rw [tk, Nat.add_zero] at hpp
    rw [← hpp, ← hv, tk]
    split <;> omega
  · rw [fol_6 c (by omega), if_neg (show ¬ gval (gP σ) (gS (gP σ) n) p ≤ 4 by omega), jn_hi (by omega), ← tk, ← hpp]
    rw [q] at hv
    rw [← hv]
    split <;> omega
/-- the outcomes that are known are right -/
def CO (σ : PT) : Prop := ∀ i, i < 840 → σ.2 11 i = 1 ∨ (Itm (gP σ) i ∧ σ.2 11 i = gval (gP σ) (i / 21) (i % 21))
theorem CO.no0 {σ : PT} (h : CO σ) {i : Nat} (hi : i < 840) : σ.2 11 i ≠ 0 := by
  have a := gval_bd (G := gP σ) (i / 21) (i % 21)
  rcases h i hi with q | q
  · omega
  · omega
theorem wi_start1 {σ : PT} (hc : CW σ) (ho : CO σ) {n p : Nat} (hn : n < σ.1 1) (hp : p ≤ σ.1 9) (hu : σ.2 11 (21 * n + p) = 1) : WI (gP σ) (21 * n + p) (pPut (setI σ 12 0) n p) ∧ mu (pPut (setI σ 12 0) n p) ≤ 2520 := by
  have hi : 21 * n + p < 840 := by
    have := hc.1
    have := hc.2.1
    omega
  have h20 := hc.2.1
  have e1 : (21 * n + p) / 21 = n := by omega
  have e2 : (21 * n + p) % 21 = p := by omega
  generalize hu2 : pPut (setI σ 12 0) n p = u
  have d0 : gP u = gP σ := by rw [← hu2]; rfl
  have d0' : CW u := by rw [← hu2]; exact hc
  have d1 : u.1 12 = 1 := by rw [← hu2]; rfl
  have d2 : u.2 11 = up (σ.2 11) (21 * n + p) 0 := by rw [← hu2]; rfl
  have d3 : u.2 13 0 = 21 * n + p := by rw [← hu2]; rfl
  have d4 : u.2 14 0 = 0 := by rw [← hu2]; rfl
  have hct : ct 1 (up (σ.2 11) (21 * n + p) 0) 840 + 1 = ct 1 (σ.2 11) 840 := by
    have := ct_up (c := 1) (f := σ.2 11) (v := 0) hi
    rw [if_pos hu, if_neg (by decide)] at this
    exact this
  have hle := ct_le (c := 1) (f := σ.2 11) (n := 840)
  constructor
  · refine ⟨d0, d0', ?_, ?_, ?_, ?_, ?_, ?_, ?_, hi, ?_⟩
    · rw [d1]
      intro k hk
      have e : k = 0 := by omega
      subst e
      rw [d3, d4, d2, up_s]
      exact ⟨⟨by rw [e1]; exact hn, by rw [e2]; exact hp⟩, rfl, by decide⟩
    · rw [d1]
      intro j k hj hk
      omega
    · rw [d1, d2]
      intro i hi2 e
      by_cases q : i = 21 * n + p
      · exact ⟨0, by decide, by rw [d3, q]⟩
      · rw [up_n q] at e
        exact absurd e (ho.no0 hi2)
    · rw [d2]
      intro i hi2 e
      by_cases q : i = 21 * n + p
      · rw [q, up_s] at e
        omega
      · rw [up_n q] at e ⊢
        rcases ho i hi2 with z | z
        · omega
        · exact z
    · rw [d1]
      intro k hk
      omega
    · rw [d1]
      intro k hk
      have e : k = 0 := by omega
      subst e
      exact Or.inl d4
    · rw [d1, d2]
      omega
    · rw [d2, up_s]
      decide
  · unfold mu
    rw [d1, d2]
    show 3 * _ + (0 + (3 - u.2 14 0)) ≤ 2520
    rw [d4]
    omega
theorem wi_start2 {σ : PT} (hc : CW σ) (ho : CO σ) {n p : Nat} (hn : n < σ.1 1) (hp : p ≤ σ.1 9) (hu : σ.2 11 (21 * n + p) ≠ 1) : WI (gP σ) (21 * n + p) (setI σ 12 0) ∧ mu (setI σ 12 0) ≤ 2520 := by
  have hi : 21 * n + p < 840 := by
    have := hc.1
    have := hc.2.1
    omega
  generalize hu2 : setI σ 12 0 = u
  have d0 : gP u = gP σ := by rw [← hu2]; rfl
  have d0' : CW u := by rw [← hu2]; exact hc
  have d1 : u.1 12 = 0 := by rw [← hu2]; rfl
  have d2 : u.2 11 = σ.2 11 := by rw [← hu2]; rfl
  have hle := ct_le (c := 1) (f := σ.2 11) (n := 840)
  constructor
  · refine ⟨d0, d0', ?_, ?_, ?_, ?_, ?_, ?_, ?_, hi, ?_⟩
    · rw [d1]
      intro k hk
      omega
    · rw [d1]
      intro j k hj hk
      omega
    · rw [d2]
      intro i hi2 e
      exact absurd e (ho.no0 hi2)
    · rw [d2]
      intro i hi2 e
      rcases ho i hi2 with z | z
      · omega
      · exact z
    · rw [d1]
      intro k hk
      omega
    · rw [d1]
      intro k hk
      omega
    · rw [d1, d2]
      omega
    · rw [d2]
      exact hu
  · unfold mu
    rw [d1, d2]
    show 3 * _ + 0 ≤ 2520
    omega
theorem wi_end {G : GR} {i0 : Nat} {σ : PT} (h : WI G i0 σ) (h0 : σ.1 12 = 0) : CO σ ∧ σ.2 11 i0 = gval G (i0 / 21) (i0 % 21) := by
  obtain ⟨w1, w2, w3, w4, w5, w6, w7, w8, w9, w10, w11⟩ := h
  have a : ∀ i, i < 840 → σ.2 11 i ≠ 0 := fun i hi e => by
    obtain ⟨k, k1, -⟩ := w5 i hi e
    omega
  constructor
  · intro i hi
    rw [w1]
    have := a i hi
    by_cases q : σ.2 11 i = 1
    · exact Or.inl q
    · exact Or.inr (w6 i hi (by omega))
  · have := a i0 w10
    exact (w6 i0 w10 (by omega)).2
/-- what the machine leaves alone -/
def Fr (u σ : PT) : Prop := (∀ k, k ≠ 12 → u.1 k = σ.1 k) ∧ (∀ k, k ≠ 11 → k ≠ 13 → k ≠ 14 → k ≠ 15 → u.2 k = σ.2 k)
theorem Fr.rf {σ : PT} : Fr σ σ := ⟨fun _ _ => rfl, fun _ _ _ _ _ => rfl⟩
theorem Fr.tr {a b c : PT} (h : Fr a b) (h2 : Fr b c) : Fr a c := ⟨fun k hk => (h.1 k hk).trans (h2.1 k hk), fun k h11 h13 h14 h15 => (h.2 k h11 h13 h14 h15).trans (h2.2 k h11 h13 h14 h15)⟩
theorem Fr.i {σ : PT} {x : Nat} : Fr (setI σ 12 x) σ := ⟨fun _ hk => up_n hk, fun _ _ _ _ _ => rfl⟩
theorem Fr.f {σ : PT} {f : Nat → Nat} : Fr (setF σ 11 f) σ := ⟨fun _ _ => rfl, fun _ h _ _ _ => up_n h⟩
theorem Fr.a11 {σ : PT} {i x : Nat} : Fr (setA σ 11 i x) σ := ⟨fun _ _ => rfl, fun _ h _ _ _ => up_n h⟩
theorem Fr.a13 {σ : PT} {i x : Nat} : Fr (setA σ 13 i x) σ := ⟨fun _ _ => rfl, fun _ _ h _ _ => up_n h⟩
theorem Fr.a14 {σ : PT} {i x : Nat} : Fr (setA σ 14 i x) σ := ⟨fun _ _ => rfl, fun _ _ _ h _ => up_n h⟩
theorem Fr.a15 {σ : PT} {i x : Nat} : Fr (setA σ 15 i x) σ := ⟨fun _ _ => rfl, fun _ _ _ _ h => up_n h⟩
theorem fr_put {σ : PT} {n p : Nat} : Fr (pPut σ n p) σ := Fr.i.tr (Fr.a14.tr (Fr.a13.tr Fr.a11))
theorem fr_fin {σ : PT} {top v : Nat} : Fr (pFin σ top v) σ := Fr.i.tr Fr.a11
theorem fr_need {σ : PT} {top n p st : Nat} : Fr (pNeed σ top n p st) σ := by
  unfold pNeed
  split
  · exact fr_put.tr Fr.a14
  · split
    · exact Fr.i.tr (Fr.f.tr Fr.a14)
    · exact Fr.a14
theorem fr_go {σ : PT} {top : Nat} : Fr (pGo σ top) σ := by
  unfold pGo
  split
  · exact fr_fin
  · split
    · unfold pBegin
      split
      · exact fr_fin
      · exact fr_need
    · split
      · unfold pFirst
        split
        · exact fr_fin
        split
        · exact fr_need.tr Fr.a15
        split
        · exact fr_need.tr Fr.a15
        split
        · exact fr_need.tr Fr.a15
        split
        · exact fr_fin
        split
        · exact fr_fin
        split
        · exact fr_fin
        · exact fr_fin
      · exact fr_fin
theorem fr_gP {u σ : PT} (h : Fr u σ) : gP u = gP σ := by
  have a := h.2 2 (by decide) (by decide) (by decide) (by decide)
  have b := h.2 3 (by decide) (by decide) (by decide) (by decide)
  have c := h.2 4 (by decide) (by decide) (by decide) (by decide)
  have d := h.2 5 (by decide) (by decide) (by decide) (by decide)
  have e := h.2 8 (by decide) (by decide) (by decide) (by decide)
  have f := h.2 10 (by decide) (by decide) (by decide) (by decide)
  have g := h.1 1 (by decide)
  have i := h.1 9 (by decide)
  unfold gP
  rw [a, b, c, d, e, f, g, i]
end
section
set_option maxRecDepth 100000
/-! what a step of the machine needs so that no index is out of range -/
def Sf (σ : PT) (top : Nat) : Prop := top < 840 ∧ top + 1 = σ.1 12 ∧ σ.1 12 ≤ 840 ∧ CW σ ∧ (∀ k, k < σ.1 12 → σ.2 13 k / 21 < σ.1 1 ∧ σ.2 13 k % 21 ≤ σ.1 9) ∧ (∀ i, i < 840 → σ.2 11 i < 1000) ∧ (∀ i, i < 840 → σ.2 11 i = 1 → σ.1 12 < 840) ∧ (∀ i, i < 840 → 4 ≤ σ.2 11 i → i % 21 + (σ.2 11 i - 4) ≤ σ.1 9) ∧ (σ.2 14 top = 2 → σ.2 13 top % 21 + σ.2 15 top ≤ σ.1 9 ∧ 4 ≤ σ.2 2 (σ.2 13 top / 21) ∧ σ.2 2 (σ.2 13 top / 21) ≤ 6) ∧ (σ.2 14 top = 1 → 1 ≤ pPart σ (σ.2 13 top / 21)) ∧ σ.2 14 top ≤ 2
theorem sf_of {G : GR} {i0 : Nat} {σ : PT} {top : Nat} (h : WI G i0 σ) (ht : top + 1 = σ.1 12) : Sf σ top := by
  have hw1 : gP σ = G := h.1
  subst hw1
  obtain ⟨-, w2, w3, -, -, w6, -, w8, w9, -⟩ := id h
  have hdep : σ.1 12 ≤ 840 := by omega
  refine ⟨by omega, ht, hdep, w2, fun k hk => (w3 k hk).1, ?_, ?_, ?_, ?_, ?_, (w3 top (by omega)).2.2⟩
  · intro i hi
    by_cases q : 2 ≤ σ.2 11 i
    · have a := (w6 i hi q).2
      have b := gval_bd (G := gP σ) (i / 21) (i % 21)
      have c : gL (gP σ) ≤ 20 := w2.2.1
      omega
    · omega
  · intro i hi e
    have := ct_pos (c := 1) hi e
    omega
  · intro i hi e
    have a := (w6 i hi (by omega)).2
    have b := (gval_bd (G := gP σ) (i / 21) (i % 21)).2
    rw [← a] at b
    exact b e
  · intro e
    rcases w8 top ht with z | ⟨n', p', hW, hn', hp', h3⟩
    · omega
    rcases hW with ⟨z, -⟩ | ⟨-, hpp, hD⟩
    · omega
    refine ⟨by rw [← hpp]; exact hp', ?_⟩
    have hC := gP_C σ (σ.2 13 top / 21)
    rcases hD with ⟨c, -⟩ | ⟨c, -⟩ | ⟨c, -⟩ <;> omega
  · intro e
    rcases w8 top ht with z | ⟨n', p', hW, hn', hp', h3⟩
    · omega
    rcases hW with ⟨-, hpp, hD⟩ | ⟨z, -⟩
    case inr => omega
    have hC := gP_C σ (σ.2 13 top / 21)
    have hn := (w3 top (by omega)).1.1
    have hx := w2.2.2.1 _ hn
    unfold pPart
    rcases hD with ⟨c, r⟩ | ⟨c, r⟩ | ⟨c, r⟩
    · rw [if_pos (by omega)]
      rw [gP_R, gP_A] at r
      omega
    · have := hx.2.2.1 (by omega)
      split
      · omega
      · omega
    · have := hx.2.2.1 (by omega)
      split
      · omega
      · omega
end
section
set_option maxRecDepth 100000
/-! PegTables: the steps of the machine -/
set_option maxHeartbeats 4000000 in
set_option maxRecDepth 100000 in
theorem met_putOn (h : Nat → Nat) (d : ClassId) (σ : PT) (n q : Nat) (h1 : 21 * n + q < 840) (h2 : σ.1 12 < 840) : CV (h 0) (pw h d) yX0_putOn cX0_putOn 4 ({ frames := 0, cells := 0, slots := 0, locals := 0 }) d [.int (nI n), .int (nI q)] σ (fun u => u = pPut σ n q) := by
  refine ofV (C := RX0) rfl (by decide) (Nat.le_of_ble_eq_true rfl) ?_
  intro p l e s m args below meth c A dC dI Q K ret ls hl S
  have hl : lv_has ls 4 [(0, .ref (h 0)), (1, .int (nI n)), (2, .int (nI q))] := hl
  refine lv_bipush (v := nI 21) K.1 K.2.1 dX0_putOn_0 (by decide) ?_
  refine lv_iload_n K.1 K.2.1 dX0_putOn_2 rfl (lv_at hl 1 rfl) ?_
  refine lv_imul K.1 K.2.1 dX0_putOn_3 ?_
  refine lv_to (pk_mul _ _) ?_
  refine lv_iload_n K.1 K.2.1 dX0_putOn_4 rfl (lv_at hl 2 rfl) ?_
  refine lv_iadd K.1 K.2.1 dX0_putOn_5 ?_
  refine lv_to (nI_add _ _) ?_
  refine lv_istore_n (lv' := [(3, .int (nI ((21 * n) + q))), (0, .ref (h 0)), (1, .int (nI n)), (2, .int (nI q))]) K.1 K.2.1 dX0_putOn_6 rfl hl (by decide) rfl (fun ls hl => ?_)
  refine lv_aload_n K.1 K.2.1 dX0_putOn_7 rfl (lv_at hl 1 rfl) ?_
  refine p0g_outcome K S dX0_putOn_8 ?_
  refine lv_iload_n K.1 K.2.1 dX0_putOn_11 rfl (lv_at hl 0 rfl) ?_
  refine lv_bipush (v := -4) K.1 K.2.1 dX0_putOn_12 (by decide) ?_
  refine lv_to (show (-4 : Int32) = e4 0 by decide) ?_
  refine p0s_outcome (show (21 * n) + q < 840 by omega) K S dX0_putOn_14 (fun H locs S => ?_)
  refine lv_aload_n K.1 K.2.1 dX0_putOn_15 rfl (lv_at hl 1 rfl) ?_
  refine p0g_waiting K S dX0_putOn_16 ?_
  refine lv_aload_n K.1 K.2.1 dX0_putOn_19 rfl (lv_at hl 1 rfl) ?_
  refine p0g_depth K S dX0_putOn_20 ?_
  refine lv_to (y := nI (σ.1 12)) rfl ?_
  refine lv_iload_n K.1 K.2.1 dX0_putOn_23 rfl (lv_at hl 0 rfl) ?_
  refine p0s_waiting (show σ.1 12 < 840 by omega) K S dX0_putOn_24 (fun H locs S => ?_)
  refine lv_aload_n K.1 K.2.1 dX0_putOn_25 rfl (lv_at hl 1 rfl) ?_
  refine p0g_stage K S dX0_putOn_26 ?_
  refine lv_aload_n K.1 K.2.1 dX0_putOn_29 rfl (lv_at hl 1 rfl) ?_
  refine p0g_depth K S dX0_putOn_30 ?_
  refine lv_to (y := nI (σ.1 12)) rfl ?_
  refine lv_iconst (v := nI 0) K.1 K.2.1 dX0_putOn_33 (by decide) ?_
  refine p0s_stage (show σ.1 12 < 840 by omega) K S dX0_putOn_34 (fun H locs S => ?_)
  refine lv_aload_n K.1 K.2.1 dX0_putOn_35 rfl (lv_at hl 1 rfl) ?_
  refine lv_dup K.1 K.2.1 dX0_putOn_36 rfl ?_
  refine p0g_depth K S dX0_putOn_37 ?_
  refine lv_to (y := nI (σ.1 12)) rfl ?_
  refine lv_iconst (v := nI 1) K.1 K.2.1 dX0_putOn_40 (by decide) ?_
  refine lv_iadd K.1 K.2.1 dX0_putOn_41 ?_
  refine lv_to (nI_add _ _) ?_
  refine p0p_depth K S dX0_putOn_42 (fun H locs S => ?_)
  exact ret _ _ _ _ _ dX0_putOn_45 S rfl
set_option maxHeartbeats 4000000 in
set_option maxRecDepth 100000 in
theorem met_finish (h : Nat → Nat) (d : ClassId) (σ : PT) (top v : Nat) (h1 : top < 840) (h2 : σ.2 13 top < 840) : CV (h 0) (pw h d) yX0_finish cX0_finish 3 ({ frames := 0, cells := 0, slots := 0, locals := 0 }) d [.int (nI top), .int (e4 v)] σ (fun u => u = pFin σ top v) := by
  refine ofV (C := RX0) rfl (by decide) (Nat.le_of_ble_eq_true rfl) ?_
  intro p l e s m args below meth c A dC dI Q K ret ls hl S
  have hl : lv_has ls 3 [(0, .ref (h 0)), (1, .int (nI top)), (2, .int (e4 v))] := hl
  refine lv_aload_n K.1 K.2.1 dX0_finish_0 rfl (lv_at hl 0 rfl) ?_
  refine p0g_outcome K S dX0_finish_1 ?_
  refine lv_aload_n K.1 K.2.1 dX0_finish_4 rfl (lv_at hl 0 rfl) ?_
  refine p0g_waiting K S dX0_finish_5 ?_
  refine lv_iload_n K.1 K.2.1 dX0_finish_8 rfl (lv_at hl 1 rfl) ?_
  refine p0l_waiting (show top < 840 by omega) K S dX0_finish_9 ?_
  refine lv_iload_n K.1 K.2.1 dX0_finish_10 rfl (lv_at hl 2 rfl) ?_
  refine p0s_outcome (show σ.2 13 top < 840 by omega) K S dX0_finish_11 (fun H locs S => ?_)
  refine lv_aload_n K.1 K.2.1 dX0_finish_12 rfl (lv_at hl 0 rfl) ?_
  refine lv_iload_n K.1 K.2.1 dX0_finish_13 rfl (lv_at hl 1 rfl) ?_
  refine p0p_depth K S dX0_finish_14 (fun H locs S => ?_)
  exact ret _ _ _ _ _ dX0_finish_17 S rfl
set_option maxHeartbeats 4000000 in
set_option maxRecDepth 100000 in
theorem met_single (h : Nat → Nat) (d : ClassId) (σ : PT) (o a q : Nat) (h1 : o ≤ 2) (h2 : a < 4) (h3 : q ≤ 20) (h4 : σ.1 9 ≤ 20) (h5 : ∀ i, i < 20 → σ.2 10 i < 4) : CI (h 0) (pw h d) yX0_single cX0_single 4 ({ frames := 0, cells := 0, slots := 0, locals := 0 }) d [.int (nI o), .int (nI a), .int (nI q)] σ (fun r u => r = e4 (pSingle σ o a q) ∧ u = σ) := by
  refine ofI (C := RX0) rfl (by decide) (Nat.le_of_ble_eq_true rfl) ?_
  intro p l e s m args below meth c A dC dI Q K ret ls hl S
  have hl : lv_has ls 4 [(0, .ref (h 0)), (1, .int (nI o)), (2, .int (nI a)), (3, .int (nI q))] := hl
  refine lv_iload_n K.1 K.2.1 dX0_single_0 rfl (lv_at hl 1 rfl) ?_
  refine lv_iconst (v := nI 2) K.1 K.2.1 dX0_single_1 (by decide) ?_
  refine bn_ne (tgt := 7) (by omega) (by omega) K.1 K.2.1 dX0_single_2 (by decide) (fun c2 => ?_) (fun c2 => ?_)
  · refine lv_iload_n K.1 K.2.1 dX0_single_7 rfl (lv_at hl 3 rfl) ?_
    refine lv_aload_n K.1 K.2.1 dX0_single_8 rfl (lv_at hl 0 rfl) ?_
    refine p0g_length K S dX0_single_9 ?_
    refine bn_ge (tgt := 34) (by omega) (by omega) K.1 K.2.1 dX0_single_12 (by decide) (fun c12 => ?_) (fun c12 => ?_)
    · refine lv_iconst (v := -1) K.1 K.2.1 dX0_single_34 (by decide) ?_
      refine lv_to (show (-1 : Int32) = e4 3 by decide) ?_
      exact ret _ _ _ _ _ _ dX0_single_35 S ⟨congrArg e4 (show 3 = pSingle σ o a q by unfold pSingle; grind), rfl⟩
    · refine lv_iload_n K.1 K.2.1 dX0_single_15 rfl (lv_at hl 1 rfl) ?_
      refine lv_iconst (v := nI 1) K.1 K.2.1 dX0_single_16 (by decide) ?_
      refine bn_eq (tgt := 30) (by omega) (by omega) K.1 K.2.1 dX0_single_17 (by decide) (fun c17 => ?_) (fun c17 => ?_)
      · refine lv_iconst (v := nI 1) K.1 K.2.1 dX0_single_30 (by decide) ?_
        refine lv_goto (tgt := 35) K.1 K.2.1 dX0_single_31 (by decide) ?_
        refine lv_to (nI_e4 _) ?_
        exact ret _ _ _ _ _ _ dX0_single_35 S ⟨congrArg e4 (show 1 + 4 = pSingle σ o a q by unfold pSingle; grind), rfl⟩
      · refine lv_aload_n K.1 K.2.1 dX0_single_20 rfl (lv_at hl 0 rfl) ?_
        have h6 := h5 q (by omega)
        refine p0g_text K S dX0_single_21 ?_
        refine lv_iload_n K.1 K.2.1 dX0_single_24 rfl (lv_at hl 3 rfl) ?_
        refine p0l_text (show q < 20 by omega) K S dX0_single_25 ?_
        refine lv_iload_n K.1 K.2.1 dX0_single_26 rfl (lv_at hl 2 rfl) ?_
        refine bn_ne (tgt := 34) (by omega) (by omega) K.1 K.2.1 dX0_single_27 (by decide) (fun c27 => ?_) (fun c27 => ?_)
        · refine lv_iconst (v := -1) K.1 K.2.1 dX0_single_34 (by decide) ?_
          refine lv_to (show (-1 : Int32) = e4 3 by decide) ?_
          exact ret _ _ _ _ _ _ dX0_single_35 S ⟨congrArg e4 (show 3 = pSingle σ o a q by unfold pSingle; grind), rfl⟩
        · refine lv_iconst (v := nI 1) K.1 K.2.1 dX0_single_30 (by decide) ?_
          refine lv_goto (tgt := 35) K.1 K.2.1 dX0_single_31 (by decide) ?_
          refine lv_to (nI_e4 _) ?_
          exact ret _ _ _ _ _ _ dX0_single_35 S ⟨congrArg e4 (show 1 + 4 = pSingle σ o a q by unfold pSingle; grind), rfl⟩
  · refine lv_iconst (v := nI 0) K.1 K.2.1 dX0_single_5 (by decide) ?_
    refine lv_to (nI_e4 _) ?_
    exact ret _ _ _ _ _ _ dX0_single_6 S ⟨congrArg e4 (show 0 + 4 = pSingle σ o a q by unfold pSingle; grind), rfl⟩
set_option maxHeartbeats 4000000 in
set_option maxRecDepth 100000 in
theorem met_need (h : Nat → Nat) (d : ClassId) (σ : PT) (top n q st : Nat) (h1 : top < 840) (h2 : 21 * n + q < 840) (h3 : σ.2 11 (21 * n + q) < 1000) (h4 : σ.2 11 (21 * n + q) = 1 → σ.1 12 < 840) (h5 : σ.1 12 ≤ 840) (h6 : ∀ k, k < σ.1 12 → σ.2 13 k < 840) : CV (h 0) (pw h d) yX0_need cX0_need 7 ({ frames := 1, cells := 0, slots := 0, locals := 23 }) d [.int (nI top), .int (nI n), .int (nI q), .int (nI st)] σ (fun u => u = pNeed σ top n q st) := by
  refine ofV (C := RX0) rfl (by decide) (Nat.le_of_ble_eq_true rfl) ?_
  intro p l e s m args below meth c A dC dI Q K ret ls hl S
  have hl : lv_has ls 7 [(0, .ref (h 0)), (1, .int (nI top)), (2, .int (nI n)), (3, .int (nI q)), (4, .int (nI st))] := hl
  have L : (σ.2 11 (21 * n + q) = 0 ∨ σ.2 11 (21 * n + q) = 2) → ∀ (j k : Nat) (H : Heap) (locs : List Loc) (ls : Array Slot), k + j = σ.1 12 → St dC dI A s.heap H locs (pw h d (setF (setA σ 14 top st) 11 (pStk (σ.2 11) (σ.2 13) k))) → lv_has ls 7 [(6, .int (nI k)), (5, .int (e4 (σ.2 11 (21 * n + q)))), (0, .ref (h 0)), (1, .int (nI top)), (2, .int (nI n)), (3, .int (nI q)), (4, .int (nI st))] → W p l e ({ frames := 1, cells := 0, slots := 0, locals := 23 }) s m args below meth c H locs 0 0 Q (F0 m 54 ls []) := by
    intro h7 j
    induction j with
    | zero =>
      intro k H locs ls hk S hl
      refine lv_iload K.1 K.2.1 dX0_need_54 (lv_at hl 0 rfl) ?_
      refine lv_aload_n K.1 K.2.1 dX0_need_56 rfl (lv_at hl 2 rfl) ?_
      refine p0g_depth K S dX0_need_57 ?_
      refine lv_to (y := nI (σ.1 12)) rfl ?_
      refine bn_ge (tgt := 83) (by omega) (by omega) K.1 K.2.1 dX0_need_60 (by decide) (fun c60 => ?_) (fun c60 => absurd c60 (by omega))
      refine lv_aload_n K.1 K.2.1 dX0_need_83 rfl (lv_at hl 2 rfl) ?_
      refine lv_iconst (v := nI 0) K.1 K.2.1 dX0_need_84 (by decide) ?_
      refine p0p_depth K S dX0_need_85 (fun H locs S => ?_)
      exact ret _ _ _ _ _ dX0_need_88 S (by unfold pNeed; rw [if_neg (by omega), if_pos h7, show k = σ.1 12 by omega])
    | succ j ih =>
      intro k H locs ls hk S hl
      refine lv_iload K.1 K.2.1 dX0_need_54 (lv_at hl 0 rfl) ?_
      refine lv_aload_n K.1 K.2.1 dX0_need_56 rfl (lv_at hl 2 rfl) ?_
      refine p0g_depth K S dX0_need_57 ?_
      refine lv_to (y := nI (σ.1 12)) rfl ?_
      refine bn_ge (tgt := 83) (by omega) (by omega) K.1 K.2.1 dX0_need_60 (by decide) (fun c60 => absurd c60 (by omega)) (fun c60 => ?_)
      refine lv_aload_n K.1 K.2.1 dX0_need_63 rfl (lv_at hl 2 rfl) ?_
      refine p0g_outcome K S dX0_need_64 ?_
      refine lv_aload_n K.1 K.2.1 dX0_need_67 rfl (lv_at hl 2 rfl) ?_
      refine p0g_waiting K S dX0_need_68 ?_
      refine lv_iload K.1 K.2.1 dX0_need_71 (lv_at hl 0 rfl) ?_
      refine p0l_waiting (show k < 840 by omega) K S dX0_need_73 ?_
      refine lv_to (y := nI (σ.2 13 k)) (rfl) ?_
      refine lv_bipush (v := -2) K.1 K.2.1 dX0_need_74 (by decide) ?_
      refine lv_to (show (-2 : Int32) = e4 2 by decide) ?_
      refine p0s_outcome (show σ.2 13 k < 840 from h6 k c60) K S dX0_need_76 (fun H locs S => ?_)
      rw [setA_setF] at S
      refine lv_iinc (v := nI (k + 1)) (lv' := [(6, .int (nI (k + 1))), (5, .int (e4 (σ.2 11 (21 * n + q)))), (0, .ref (h 0)), (1, .int (nI top)), (2, .int (nI n)), (3, .int (nI q)), (4, .int (nI st))]) K.1 K.2.1 dX0_need_77 hl (k := 0) rfl (nI_inc _) (by decide) rfl (fun ls hl => ?_)
      refine lv_goto (tgt := 54) K.1 K.2.1 dX0_need_80 (by decide) ?_
      exact ih (k + 1) H locs ls (by omega) S hl
  have K51 : ∀ (H : Heap) (locs : List Loc) (ls : Array Slot), (σ.2 11 (21 * n + q) = 0 ∨ σ.2 11 (21 * n + q) = 2) → St dC dI A s.heap H locs (pw h d (setA σ 14 top st)) → lv_has ls 7 [(5, .int (e4 (σ.2 11 (21 * n + q)))), (0, .ref (h 0)), (1, .int (nI top)), (2, .int (nI n)), (3, .int (nI q)), (4, .int (nI st))] → W p l e ({ frames := 1, cells := 0, slots := 0, locals := 23 }) s m args below meth c H locs 0 0 Q (F0 m 51 ls []) := by
    intro H locs ls h7 S hl
    refine lv_iconst (v := nI 0) K.1 K.2.1 dX0_need_51 (by decide) ?_
    refine lv_istore (lv' := [(6, .int (nI 0)), (5, .int (e4 (σ.2 11 (21 * n + q)))), (0, .ref (h 0)), (1, .int (nI top)), (2, .int (nI n)), (3, .int (nI q)), (4, .int (nI st))]) K.1 K.2.1 dX0_need_52 hl (by decide) rfl (fun ls hl => ?_)
    exact L h7 (σ.1 12) 0 H locs ls (by omega) (by rw [show setF (setA σ 14 top st) 11 (pStk (σ.2 11) (σ.2 13) 0) = setA σ 14 top st from setF_self _ _ rfl]; exact S) hl
  refine lv_aload_n K.1 K.2.1 dX0_need_0 rfl (lv_at hl 0 rfl) ?_
  refine p0g_stage K S dX0_need_1 ?_
  refine lv_iload_n K.1 K.2.1 dX0_need_4 rfl (lv_at hl 1 rfl) ?_
  refine lv_iload K.1 K.2.1 dX0_need_5 (lv_at hl 4 rfl) ?_
  refine p0s_stage (show top < 840 by omega) K S dX0_need_7 (fun H locs S => ?_)
  refine lv_aload_n K.1 K.2.1 dX0_need_8 rfl (lv_at hl 0 rfl) ?_
  refine p0g_outcome K S dX0_need_9 ?_
  refine lv_bipush (v := nI 21) K.1 K.2.1 dX0_need_12 (by decide) ?_
  refine lv_iload_n K.1 K.2.1 dX0_need_14 rfl (lv_at hl 2 rfl) ?_
  refine lv_imul K.1 K.2.1 dX0_need_15 ?_
  refine lv_to (pk_mul _ _) ?_
  refine lv_iload_n K.1 K.2.1 dX0_need_16 rfl (lv_at hl 3 rfl) ?_
  refine lv_iadd K.1 K.2.1 dX0_need_17 ?_
  refine lv_to (nI_add _ _) ?_
  refine p0l_outcome (show (21 * n) + q < 840 by omega) K S dX0_need_18 ?_
  refine lv_to (y := e4 (σ.2 11 ((21 * n) + q))) rfl ?_
  refine lv_istore (lv' := [(5, .int (e4 (σ.2 11 ((21 * n) + q)))), (0, .ref (h 0)), (1, .int (nI top)), (2, .int (nI n)), (3, .int (nI q)), (4, .int (nI st))]) K.1 K.2.1 dX0_need_19 hl (by decide) rfl (fun ls hl => ?_)
  refine lv_iload K.1 K.2.1 dX0_need_21 (lv_at hl 0 rfl) ?_
  refine lv_bipush (v := -3) K.1 K.2.1 dX0_need_23 (by decide) ?_
  refine lv_to (show (-3 : Int32) = e4 1 by decide) ?_
  refine be_ne (tgt := 37) (by omega) (by omega) K.1 K.2.1 dX0_need_25 (by decide) (fun c25 => ?_) (fun c25 => ?_)
  · refine lv_iload K.1 K.2.1 dX0_need_37 (lv_at hl 0 rfl) ?_
    refine lv_bipush (v := -4) K.1 K.2.1 dX0_need_39 (by decide) ?_
    refine lv_to (show (-4 : Int32) = e4 0 by decide) ?_
    refine be_eq (tgt := 51) (by omega) (by omega) K.1 K.2.1 dX0_need_41 (by decide) (fun c41 => ?_) (fun c41 => ?_)
    · exact K51 H locs ls (by omega) S hl
    · refine lv_iload K.1 K.2.1 dX0_need_44 (lv_at hl 0 rfl) ?_
      refine lv_bipush (v := -2) K.1 K.2.1 dX0_need_46 (by decide) ?_
      refine lv_to (show (-2 : Int32) = e4 2 by decide) ?_
      refine be_ne (tgt := 88) (by omega) (by omega) K.1 K.2.1 dX0_need_48 (by decide) (fun c48 => ?_) (fun c48 => ?_)
      · exact ret _ _ _ _ _ dX0_need_88 S (by unfold pNeed; rw [if_neg (by omega), if_neg (by omega)])
      · exact K51 H locs ls (by omega) S hl
  · refine lv_aload_n K.1 K.2.1 dX0_need_28 rfl (lv_at hl 1 rfl) ?_
    refine lv_iload_n K.1 K.2.1 dX0_need_29 rfl (lv_at hl 3 rfl) ?_
    refine lv_iload_n K.1 K.2.1 dX0_need_30 rfl (lv_at hl 4 rfl) ?_
    refine cvV K S (met_putOn h d (setA σ 14 top st) n q h2 (h4 c25)) (cwV 2 K.2.2.2.2.1 (lw_V q105 q107 qs2 q16 q108) rfl rfl rfl (by decide +kernel) ⟨Nat.le_of_ble_eq_true rfl, Nat.le_of_ble_eq_true rfl⟩) rfl rfl rfl hl.1 rfl (Nat.le_of_ble_eq_true rfl) dX0_need_31 ⟨Nat.zero_le _, Nat.zero_le _⟩ (fun u H locs S hu => ?_)
    rw [hu] at S
    refine lv_goto (tgt := 88) K.1 K.2.1 dX0_need_34 (by decide) ?_
    exact ret _ _ _ _ _ dX0_need_88 S (by unfold pNeed; rw [if_pos c25])
set_option maxHeartbeats 4000000 in
set_option maxRecDepth 100000 in
theorem met_begin (h : Nat → Nat) (d : ClassId) (σ : PT) (top n q : Nat) (hs : Sf σ top) (hn : n = σ.2 13 top / 21) (hq : q = σ.2 13 top % 21) (h3 : 3 ≤ σ.2 2 n) : CV (h 0) (pw h d) yX0_begin cX0_begin 6 ({ frames := 2, cells := 0, slots := 0, locals := 49 }) d [.int (nI top), .int (nI n), .int (nI q), .int (nI (σ.2 2 n))] σ (fun u => u = pBegin σ top n q) := by
  refine ofV (C := RX0) rfl (by decide) (Nat.le_of_ble_eq_true rfl) ?_
  intro p l e s m args below meth c A dC dI Q K ret ls hl S
  have hl : lv_has ls 6 [(0, .ref (h 0)), (1, .int (nI top)), (2, .int (nI n)), (3, .int (nI q)), (4, .int (nI (σ.2 2 n)))] := hl
  have hw := hs.2.2.2.2.1 top (by have := hs.2.1; omega)
  rw [← hn, ← hq] at hw
  obtain ⟨s1, s2, s3, ⟨v1, v2, v3, v4, v5⟩, s5, s6, s7, s8, s9, s10, s11⟩ := hs
  have s5t := s5 top (by omega)
  obtain ⟨x1, x2, x3, x4⟩ := v3 n hw.1
  have n1 : n < 40 := by omega
  have q1 : q ≤ 20 := by omega
  have w1 : σ.2 13 top < 840 := by omega
  have v4a := v4 (σ.2 3 n) x2
  have w13 : ∀ k, k < σ.1 12 → σ.2 13 k < 840 := fun k hk => by have := s5 k hk; omega
  have pp : 3 ≤ σ.2 2 n → pPart σ n ≤ σ.1 1 := by intro z; unfold pPart; split <;> omega
  have pp := pp h3
  have K26 : ∀ (ls : Array Slot), lv_has ls 6 [(0, .ref (h 0)), (1, .int (nI top)), (2, .int (nI n)), (3, .int (nI q)), (4, .int (nI (σ.2 2 n)))] → W p l e ({ frames := 2, cells := 0, slots := 0, locals := 49 }) s m args below meth c s.heap [] 0 0 Q (F0 m 26 ls [.int (e1 (pPart σ n))]) := by
    intro ls hl
    refine lv_istore (lv' := [(5, .int (e1 (pPart σ n))), (0, .ref (h 0)), (1, .int (nI top)), (2, .int (nI n)), (3, .int (nI q)), (4, .int (nI (σ.2 2 n)))]) K.1 K.2.1 dX0_begin_26 hl (by decide) rfl (fun ls hl => ?_)
    refine lv_iload K.1 K.2.1 dX0_begin_28 (lv_at hl 0 rfl) ?_
    refine bp_ge0 (tgt := 42) (by omega) K.1 K.2.1 dX0_begin_30 (by decide) (fun c30 => ?_) (fun c30 => ?_)
    · refine lv_aload_n K.1 K.2.1 dX0_begin_42 rfl (lv_at hl 1 rfl) ?_
      refine lv_iload_n K.1 K.2.1 dX0_begin_43 rfl (lv_at hl 2 rfl) ?_
      refine lv_iload K.1 K.2.1 dX0_begin_44 (lv_at hl 0 rfl) ?_
      refine lv_iload_n K.1 K.2.1 dX0_begin_46 rfl (lv_at hl 4 rfl) ?_
      refine lv_iconst (v := nI 1) K.1 K.2.1 dX0_begin_47 (by decide) ?_
      refine lv_to3 (e1_nI (by omega)) ?_
      have hi : 21 * (pPart σ n - 1) + q < 840 := by omega
      refine cvV K S (met_need h d σ top (pPart σ n - 1) q 1 s1 hi (s6 _ hi) (s7 _ hi) s3 w13) (cwV 4 K.2.2.2.2.1 (lw_V q125 q127 qs7 q16 q128) rfl rfl rfl (by decide +kernel) ⟨Nat.le_of_ble_eq_true rfl, Nat.le_of_ble_eq_true rfl⟩) rfl rfl rfl hl.1 rfl (Nat.le_of_ble_eq_true rfl) dX0_begin_48 ⟨Nat.zero_le _, Nat.zero_le _⟩ (fun u H locs S hu => ?_)
      rw [hu] at S
      exact ret _ _ _ _ _ dX0_begin_51 S (by unfold pBegin; rw [if_neg (by omega)])
    · refine lv_aload_n K.1 K.2.1 dX0_begin_33 rfl (lv_at hl 1 rfl) ?_
      refine lv_iload_n K.1 K.2.1 dX0_begin_34 rfl (lv_at hl 2 rfl) ?_
      refine lv_iconst (v := -1) K.1 K.2.1 dX0_begin_35 (by decide) ?_
      refine lv_to (show (-1 : Int32) = e4 3 by decide) ?_
      refine cvV K S (met_finish h d σ top 3 s1 w1) (cwV 2 K.2.2.2.2.1 (lw_V q117 q119 qs5 q16 q120) rfl rfl rfl (by decide +kernel) ⟨Nat.le_of_ble_eq_true rfl, Nat.le_of_ble_eq_true rfl⟩) rfl rfl rfl hl.1 rfl (Nat.le_of_ble_eq_true rfl) dX0_begin_36 ⟨Nat.zero_le _, Nat.zero_le _⟩ (fun u H locs S hu => ?_)
      rw [hu] at S
      refine lv_goto (tgt := 51) K.1 K.2.1 dX0_begin_39 (by decide) ?_
      exact ret _ _ _ _ _ dX0_begin_51 S (by unfold pBegin; rw [if_pos c30])
  refine lv_iload K.1 K.2.1 dX0_begin_0 (lv_at hl 4 rfl) ?_
  refine lv_iconst (v := nI 3) K.1 K.2.1 dX0_begin_2 (by decide) ?_
  refine bn_ne (tgt := 20) (by omega) (by omega) K.1 K.2.1 dX0_begin_3 (by decide) (fun c3 => ?_) (fun c3 => ?_)
  · refine lv_aload_n K.1 K.2.1 dX0_begin_20 rfl (lv_at hl 0 rfl) ?_
    refine p0g_left K S dX0_begin_21 ?_
    refine lv_iload_n K.1 K.2.1 dX0_begin_24 rfl (lv_at hl 2 rfl) ?_
    refine p0l_left (show n < 40 by omega) K S dX0_begin_25 ?_
    refine lv_to (congrArg e1 (show σ.2 4 n = pPart σ n from (if_neg c3).symm)) ?_
    exact K26 ls hl
  · refine lv_aload_n K.1 K.2.1 dX0_begin_6 rfl (lv_at hl 0 rfl) ?_
    refine p0g_ruleNode K S dX0_begin_7 ?_
    refine lv_aload_n K.1 K.2.1 dX0_begin_10 rfl (lv_at hl 0 rfl) ?_
    refine p0g_argument K S dX0_begin_11 ?_
    refine lv_iload_n K.1 K.2.1 dX0_begin_14 rfl (lv_at hl 2 rfl) ?_
    refine p0l_argument (show n < 40 by omega) K S dX0_begin_15 ?_
    refine p0l_ruleNode (show σ.2 3 n < 4 by omega) K S dX0_begin_16 ?_
    refine lv_goto (tgt := 26) K.1 K.2.1 dX0_begin_17 (by decide) ?_
    refine lv_to (congrArg e1 (show σ.2 8 (σ.2 3 n) = pPart σ n from (if_pos c3).symm)) ?_
    exact K26 ls hl
set_option maxHeartbeats 4000000 in
set_option maxRecDepth 100000 in
theorem met_afterFirst (h : Nat → Nat) (d : ClassId) (σ : PT) (top n q : Nat) (hs : Sf σ top) (hn : n = σ.2 13 top / 21) (hq : q = σ.2 13 top % 21) (h3 : 3 ≤ σ.2 2 n) (hst : σ.2 14 top = 1) : CV (h 0) (pw h d) yX0_afterFirst cX0_afterFirst 7 ({ frames := 2, cells := 0, slots := 0, locals := 49 }) d [.int (nI top), .int (nI n), .int (nI q), .int (nI (σ.2 2 n))] σ (fun u => u = pFirst σ top n q) := by
  refine ofV (C := RX0) rfl (by decide) (Nat.le_of_ble_eq_true rfl) ?_
  intro p l e s m args below meth c A dC dI Q K ret ls hl S
  have hl : lv_has ls 7 [(0, .ref (h 0)), (1, .int (nI top)), (2, .int (nI n)), (3, .int (nI q)), (4, .int (nI (σ.2 2 n)))] := hl
  have hw := hs.2.2.2.2.1 top (by have := hs.2.1; omega)
  rw [← hn, ← hq] at hw
  obtain ⟨s1, s2, s3, ⟨v1, v2, v3, v4, v5⟩, s5, s6, s7, s8, s9, s10, s11⟩ := hs
  have s5t := s5 top (by omega)
  obtain ⟨x1, x2, x3, x4⟩ := v3 n hw.1
  have n1 : n < 40 := by omega
  have q1 : q ≤ 20 := by omega
  have w1 : σ.2 13 top < 840 := by omega
  have v4a := v4 (σ.2 3 n) x2
  have w13 : ∀ k, k < σ.1 12 → σ.2 13 k < 840 := fun k hk => by have := s5 k hk; omega
  have pp : 3 ≤ σ.2 2 n → pPart σ n ≤ σ.1 1 := by intro z; unfold pPart; split <;> omega
  have pp := pp h3
  have p1 : 1 ≤ pPart σ n := by have := s10 hst; rw [← hn] at this; exact this
  have i1 : 21 * (pPart σ n - 1) + q < 840 := by omega
  have r1 := s6 _ i1
  have r2 := s8 _ i1
  rw [show (21 * (pPart σ n - 1) + q) % 21 = q by omega] at r2
  have K26 : ∀ (ls : Array Slot), lv_has ls 7 [(0, .ref (h 0)), (1, .int (nI top)), (2, .int (nI n)), (3, .int (nI q)), (4, .int (nI (σ.2 2 n)))] → W p l e ({ frames := 2, cells := 0, slots := 0, locals := 49 }) s m args below meth c s.heap [] 0 0 Q (F0 m 26 ls [.int (e1 (pPart σ n))]) := by
    intro ls hl
    refine lv_istore (lv' := [(5, .int (e1 (pPart σ n))), (0, .ref (h 0)), (1, .int (nI top)), (2, .int (nI n)), (3, .int (nI q)), (4, .int (nI (σ.2 2 n)))]) K.1 K.2.1 dX0_afterFirst_26 hl (by decide) rfl (fun ls hl => ?_)
    refine lv_aload_n K.1 K.2.1 dX0_afterFirst_28 rfl (lv_at hl 1 rfl) ?_
    refine p0g_outcome K S dX0_afterFirst_29 ?_
    refine lv_bipush (v := nI 21) K.1 K.2.1 dX0_afterFirst_32 (by decide) ?_
    refine lv_iload K.1 K.2.1 dX0_afterFirst_34 (lv_at hl 0 rfl) ?_
    refine lv_to (e1_nI (by omega)) ?_
    refine lv_imul K.1 K.2.1 dX0_afterFirst_36 ?_
    refine lv_to (pk_mul _ _) ?_
    refine lv_iload_n K.1 K.2.1 dX0_afterFirst_37 rfl (lv_at hl 4 rfl) ?_
    refine lv_iadd K.1 K.2.1 dX0_afterFirst_38 ?_
    refine lv_to (nI_add _ _) ?_
    refine p0l_outcome (show (21 * (pPart σ n - 1)) + q < 840 by omega) K S dX0_afterFirst_39 ?_
    refine lv_istore (lv' := [(6, .int (e4 (σ.2 11 ((21 * (pPart σ n - 1)) + q)))), (5, .int (e1 (pPart σ n))), (0, .ref (h 0)), (1, .int (nI top)), (2, .int (nI n)), (3, .int (nI q)), (4, .int (nI (σ.2 2 n)))]) K.1 K.2.1 dX0_afterFirst_40 hl (by decide) rfl (fun ls hl => ?_)
    refine lv_iload K.1 K.2.1 dX0_afterFirst_42 (lv_at hl 6 rfl) ?_
    refine lv_iconst (v := nI 3) K.1 K.2.1 dX0_afterFirst_44 (by decide) ?_
    refine bn_ne (tgt := 58) (by omega) (by omega) K.1 K.2.1 dX0_afterFirst_45 (by decide) (fun c45 => ?_) (fun c45 => ?_)
    · refine lv_iload K.1 K.2.1 dX0_afterFirst_58 (lv_at hl 6 rfl) ?_
      refine lv_iconst (v := nI 4) K.1 K.2.1 dX0_afterFirst_60 (by decide) ?_
      refine bn_ne (tgt := 96) (by omega) (by omega) K.1 K.2.1 dX0_afterFirst_61 (by decide) (fun c61 => ?_) (fun c61 => ?_)
      · refine lv_iload K.1 K.2.1 dX0_afterFirst_96 (lv_at hl 6 rfl) ?_
        refine lv_iconst (v := nI 5) K.1 K.2.1 dX0_afterFirst_98 (by decide) ?_
        refine bn_ne (tgt := 130) (by omega) (by omega) K.1 K.2.1 dX0_afterFirst_99 (by decide) (fun c99 => ?_) (fun c99 => ?_)
        · refine lv_iload K.1 K.2.1 dX0_afterFirst_130 (lv_at hl 6 rfl) ?_
          refine lv_bipush (v := nI 6) K.1 K.2.1 dX0_afterFirst_132 (by decide) ?_
          refine bn_ne (tgt := 164) (by omega) (by omega) K.1 K.2.1 dX0_afterFirst_134 (by decide) (fun c134 => ?_) (fun c134 => ?_)
          · refine lv_iload K.1 K.2.1 dX0_afterFirst_164 (lv_at hl 6 rfl) ?_
            refine lv_bipush (v := nI 6) K.1 K.2.1 dX0_afterFirst_166 (by decide) ?_
            refine bn_eq (tgt := 178) (by omega) (by omega) K.1 K.2.1 dX0_afterFirst_168 (by decide) (fun c168 => ?_) (fun c168 => ?_)
            · refine lv_aload_n K.1 K.2.1 dX0_afterFirst_178 rfl (lv_at hl 2 rfl) ?_
              refine lv_iload_n K.1 K.2.1 dX0_afterFirst_179 rfl (lv_at hl 3 rfl) ?_
              refine lv_iload K.1 K.2.1 dX0_afterFirst_180 (lv_at hl 0 rfl) ?_
              refine be_ge0 (tgt := 189) (by omega) K.1 K.2.1 dX0_afterFirst_182 (by decide) (fun c182 => ?_) (fun c182 => ?_)
              · refine lv_iload K.1 K.2.1 dX0_afterFirst_189 (lv_at hl 0 rfl) ?_
                refine cvV K S (met_finish h d σ top (σ.2 11 ((21 * (pPart σ n - 1)) + q)) s1 w1) (cwV 2 K.2.2.2.2.1 (lw_V q117 q119 qs5 q16 q120) rfl rfl rfl (by decide +kernel) ⟨Nat.le_of_ble_eq_true rfl, Nat.le_of_ble_eq_true rfl⟩) rfl rfl rfl hl.1 rfl (Nat.le_of_ble_eq_true rfl) dX0_afterFirst_191 ⟨Nat.zero_le _, Nat.zero_le _⟩ (fun u H locs S hu => ?_)
                rw [hu] at S
                refine lv_goto (tgt := 254) K.1 K.2.1 dX0_afterFirst_194 (by decide) ?_
                exact ret _ _ _ _ _ dX0_afterFirst_254 S (by unfold pFirst pRes; rw [if_neg (by omega), if_neg (by omega), if_neg (by omega), if_neg (by omega), if_pos (by omega), if_neg (by omega)])
              · refine lv_iconst (v := nI 0) K.1 K.2.1 dX0_afterFirst_185 (by decide) ?_
                refine lv_goto (tgt := 191) K.1 K.2.1 dX0_afterFirst_186 (by decide) ?_
                refine lv_to (nI_e4 _) ?_
                refine cvV K S (met_finish h d σ top (0 + 4) s1 w1) (cwV 2 K.2.2.2.2.1 (lw_V q117 q119 qs5 q16 q120) rfl rfl rfl (by decide +kernel) ⟨Nat.le_of_ble_eq_true rfl, Nat.le_of_ble_eq_true rfl⟩) rfl rfl rfl hl.1 rfl (Nat.le_of_ble_eq_true rfl) dX0_afterFirst_191 ⟨Nat.zero_le _, Nat.zero_le _⟩ (fun u H locs S hu => ?_)
                rw [hu] at S
                refine lv_goto (tgt := 254) K.1 K.2.1 dX0_afterFirst_194 (by decide) ?_
                exact ret _ _ _ _ _ dX0_afterFirst_254 S (by unfold pFirst pRes; rw [if_neg (by omega), if_neg (by omega), if_neg (by omega), if_neg (by omega), if_pos (by omega), if_pos (by omega)])
            · refine lv_iload K.1 K.2.1 dX0_afterFirst_171 (lv_at hl 6 rfl) ?_
              refine lv_bipush (v := nI 7) K.1 K.2.1 dX0_afterFirst_173 (by decide) ?_
              refine bn_ne (tgt := 197) (by omega) (by omega) K.1 K.2.1 dX0_afterFirst_175 (by decide) (fun c175 => ?_) (fun c175 => ?_)
              · refine lv_iload K.1 K.2.1 dX0_afterFirst_197 (lv_at hl 6 rfl) ?_
                refine lv_bipush (v := nI 8) K.1 K.2.1 dX0_afterFirst_199 (by decide) ?_
                refine bn_ne (tgt := 222) (by omega) (by omega) K.1 K.2.1 dX0_afterFirst_201 (by decide) (fun c201 => ?_) (fun c201 => ?_)
                · refine lv_iload K.1 K.2.1 dX0_afterFirst_222 (lv_at hl 6 rfl) ?_
                  refine lv_bipush (v := nI 9) K.1 K.2.1 dX0_afterFirst_224 (by decide) ?_
                  refine bn_ne (tgt := 247) (by omega) (by omega) K.1 K.2.1 dX0_afterFirst_226 (by decide) (fun c226 => ?_) (fun c226 => ?_)
                  · refine lv_aload_n K.1 K.2.1 dX0_afterFirst_247 rfl (lv_at hl 2 rfl) ?_
                    refine lv_iload_n K.1 K.2.1 dX0_afterFirst_248 rfl (lv_at hl 3 rfl) ?_
                    refine lv_iload K.1 K.2.1 dX0_afterFirst_249 (lv_at hl 0 rfl) ?_
                    refine cvV K S (met_finish h d σ top (σ.2 11 ((21 * (pPart σ n - 1)) + q)) s1 w1) (cwV 2 K.2.2.2.2.1 (lw_V q117 q119 qs5 q16 q120) rfl rfl rfl (by decide +kernel) ⟨Nat.le_of_ble_eq_true rfl, Nat.le_of_ble_eq_true rfl⟩) rfl rfl rfl hl.1 rfl (Nat.le_of_ble_eq_true rfl) dX0_afterFirst_251 ⟨Nat.zero_le _, Nat.zero_le _⟩ (fun u H locs S hu => ?_)
                    rw [hu] at S
                    exact ret _ _ _ _ _ dX0_afterFirst_254 S (by unfold pFirst pRes; rw [if_neg (by omega), if_neg (by omega), if_neg (by omega), if_neg (by omega), if_neg (by omega), if_neg (by omega), if_neg (by omega)])
                  · refine lv_aload_n K.1 K.2.1 dX0_afterFirst_229 rfl (lv_at hl 2 rfl) ?_
                    refine lv_iload_n K.1 K.2.1 dX0_afterFirst_230 rfl (lv_at hl 3 rfl) ?_
                    refine lv_iload K.1 K.2.1 dX0_afterFirst_231 (lv_at hl 0 rfl) ?_
                    refine be_ge0 (tgt := 240) (by omega) K.1 K.2.1 dX0_afterFirst_233 (by decide) (fun c233 => ?_) (fun c233 => ?_)
                    · refine lv_iconst (v := -1) K.1 K.2.1 dX0_afterFirst_240 (by decide) ?_
                      refine lv_to (show (-1 : Int32) = e4 3 by decide) ?_
                      refine cvV K S (met_finish h d σ top 3 s1 w1) (cwV 2 K.2.2.2.2.1 (lw_V q117 q119 qs5 q16 q120) rfl rfl rfl (by decide +kernel) ⟨Nat.le_of_ble_eq_true rfl, Nat.le_of_ble_eq_true rfl⟩) rfl rfl rfl hl.1 rfl (Nat.le_of_ble_eq_true rfl) dX0_afterFirst_241 ⟨Nat.zero_le _, Nat.zero_le _⟩ (fun u H locs S hu => ?_)
                      rw [hu] at S
                      refine lv_goto (tgt := 254) K.1 K.2.1 dX0_afterFirst_244 (by decide) ?_
                      exact ret _ _ _ _ _ dX0_afterFirst_254 S (by unfold pFirst pRes; rw [if_neg (by omega), if_neg (by omega), if_neg (by omega), if_neg (by omega), if_neg (by omega), if_neg (by omega), if_pos (by omega), if_neg (by omega)])
                    · refine lv_iconst (v := nI 0) K.1 K.2.1 dX0_afterFirst_236 (by decide) ?_
                      refine lv_goto (tgt := 241) K.1 K.2.1 dX0_afterFirst_237 (by decide) ?_
                      refine lv_to (nI_e4 _) ?_
                      refine cvV K S (met_finish h d σ top (0 + 4) s1 w1) (cwV 2 K.2.2.2.2.1 (lw_V q117 q119 qs5 q16 q120) rfl rfl rfl (by decide +kernel) ⟨Nat.le_of_ble_eq_true rfl, Nat.le_of_ble_eq_true rfl⟩) rfl rfl rfl hl.1 rfl (Nat.le_of_ble_eq_true rfl) dX0_afterFirst_241 ⟨Nat.zero_le _, Nat.zero_le _⟩ (fun u H locs S hu => ?_)
                      rw [hu] at S
                      refine lv_goto (tgt := 254) K.1 K.2.1 dX0_afterFirst_244 (by decide) ?_
                      exact ret _ _ _ _ _ dX0_afterFirst_254 S (by unfold pFirst pRes; rw [if_neg (by omega), if_neg (by omega), if_neg (by omega), if_neg (by omega), if_neg (by omega), if_neg (by omega), if_pos (by omega), if_pos (by omega)])
                · refine lv_aload_n K.1 K.2.1 dX0_afterFirst_204 rfl (lv_at hl 2 rfl) ?_
                  refine lv_iload_n K.1 K.2.1 dX0_afterFirst_205 rfl (lv_at hl 3 rfl) ?_
                  refine lv_iload K.1 K.2.1 dX0_afterFirst_206 (lv_at hl 0 rfl) ?_
                  refine be_ge0 (tgt := 215) (by omega) K.1 K.2.1 dX0_afterFirst_208 (by decide) (fun c208 => ?_) (fun c208 => ?_)
                  · refine lv_iconst (v := nI 0) K.1 K.2.1 dX0_afterFirst_215 (by decide) ?_
                    refine lv_to (nI_e4 _) ?_
                    refine cvV K S (met_finish h d σ top (0 + 4) s1 w1) (cwV 2 K.2.2.2.2.1 (lw_V q117 q119 qs5 q16 q120) rfl rfl rfl (by decide +kernel) ⟨Nat.le_of_ble_eq_true rfl, Nat.le_of_ble_eq_true rfl⟩) rfl rfl rfl hl.1 rfl (Nat.le_of_ble_eq_true rfl) dX0_afterFirst_216 ⟨Nat.zero_le _, Nat.zero_le _⟩ (fun u H locs S hu => ?_)
                    rw [hu] at S
                    refine lv_goto (tgt := 254) K.1 K.2.1 dX0_afterFirst_219 (by decide) ?_
                    exact ret _ _ _ _ _ dX0_afterFirst_254 S (by unfold pFirst pRes; rw [if_neg (by omega), if_neg (by omega), if_neg (by omega), if_neg (by omega), if_neg (by omega), if_pos (by omega), if_neg (by omega)])
                  · refine lv_iconst (v := -1) K.1 K.2.1 dX0_afterFirst_211 (by decide) ?_
                    refine lv_goto (tgt := 216) K.1 K.2.1 dX0_afterFirst_212 (by decide) ?_
                    refine lv_to (show (-1 : Int32) = e4 3 by decide) ?_
                    refine cvV K S (met_finish h d σ top 3 s1 w1) (cwV 2 K.2.2.2.2.1 (lw_V q117 q119 qs5 q16 q120) rfl rfl rfl (by decide +kernel) ⟨Nat.le_of_ble_eq_true rfl, Nat.le_of_ble_eq_true rfl⟩) rfl rfl rfl hl.1 rfl (Nat.le_of_ble_eq_true rfl) dX0_afterFirst_216 ⟨Nat.zero_le _, Nat.zero_le _⟩ (fun u H locs S hu => ?_)
                    rw [hu] at S
                    refine lv_goto (tgt := 254) K.1 K.2.1 dX0_afterFirst_219 (by decide) ?_
                    exact ret _ _ _ _ _ dX0_afterFirst_254 S (by unfold pFirst pRes; rw [if_neg (by omega), if_neg (by omega), if_neg (by omega), if_neg (by omega), if_neg (by omega), if_pos (by omega), if_pos (by omega)])
              · refine lv_aload_n K.1 K.2.1 dX0_afterFirst_178 rfl (lv_at hl 2 rfl) ?_
                refine lv_iload_n K.1 K.2.1 dX0_afterFirst_179 rfl (lv_at hl 3 rfl) ?_
                refine lv_iload K.1 K.2.1 dX0_afterFirst_180 (lv_at hl 0 rfl) ?_
                refine be_ge0 (tgt := 189) (by omega) K.1 K.2.1 dX0_afterFirst_182 (by decide) (fun c182 => ?_) (fun c182 => ?_)
                · refine lv_iload K.1 K.2.1 dX0_afterFirst_189 (lv_at hl 0 rfl) ?_
                  refine cvV K S (met_finish h d σ top (σ.2 11 ((21 * (pPart σ n - 1)) + q)) s1 w1) (cwV 2 K.2.2.2.2.1 (lw_V q117 q119 qs5 q16 q120) rfl rfl rfl (by decide +kernel) ⟨Nat.le_of_ble_eq_true rfl, Nat.le_of_ble_eq_true rfl⟩) rfl rfl rfl hl.1 rfl (Nat.le_of_ble_eq_true rfl) dX0_afterFirst_191 ⟨Nat.zero_le _, Nat.zero_le _⟩ (fun u H locs S hu => ?_)
                  rw [hu] at S
                  refine lv_goto (tgt := 254) K.1 K.2.1 dX0_afterFirst_194 (by decide) ?_
                  exact ret _ _ _ _ _ dX0_afterFirst_254 S (by unfold pFirst pRes; rw [if_neg (by omega), if_neg (by omega), if_neg (by omega), if_neg (by omega), if_pos (by omega), if_neg (by omega)])
                · refine lv_iconst (v := nI 0) K.1 K.2.1 dX0_afterFirst_185 (by decide) ?_
                  refine lv_goto (tgt := 191) K.1 K.2.1 dX0_afterFirst_186 (by decide) ?_
                  refine lv_to (nI_e4 _) ?_
                  refine cvV K S (met_finish h d σ top (0 + 4) s1 w1) (cwV 2 K.2.2.2.2.1 (lw_V q117 q119 qs5 q16 q120) rfl rfl rfl (by decide +kernel) ⟨Nat.le_of_ble_eq_true rfl, Nat.le_of_ble_eq_true rfl⟩) rfl rfl rfl hl.1 rfl (Nat.le_of_ble_eq_true rfl) dX0_afterFirst_191 ⟨Nat.zero_le _, Nat.zero_le _⟩ (fun u H locs S hu => ?_)
                  rw [hu] at S
                  refine lv_goto (tgt := 254) K.1 K.2.1 dX0_afterFirst_194 (by decide) ?_
                  exact ret _ _ _ _ _ dX0_afterFirst_254 S (by unfold pFirst pRes; rw [if_neg (by omega), if_neg (by omega), if_neg (by omega), if_neg (by omega), if_pos (by omega), if_pos (by omega)])
          · refine lv_iload K.1 K.2.1 dX0_afterFirst_137 (lv_at hl 0 rfl) ?_
            refine be_le0 (tgt := 164) (by omega) K.1 K.2.1 dX0_afterFirst_139 (by decide) (fun c139 => ?_) (fun c139 => ?_)
            · refine lv_iload K.1 K.2.1 dX0_afterFirst_164 (lv_at hl 6 rfl) ?_
              refine lv_bipush (v := nI 6) K.1 K.2.1 dX0_afterFirst_166 (by decide) ?_
              refine bn_eq (tgt := 178) (by omega) (by omega) K.1 K.2.1 dX0_afterFirst_168 (by decide) (fun c168 => ?_) (fun c168 => ?_)
              · refine lv_aload_n K.1 K.2.1 dX0_afterFirst_178 rfl (lv_at hl 2 rfl) ?_
                refine lv_iload_n K.1 K.2.1 dX0_afterFirst_179 rfl (lv_at hl 3 rfl) ?_
                refine lv_iload K.1 K.2.1 dX0_afterFirst_180 (lv_at hl 0 rfl) ?_
                refine be_ge0 (tgt := 189) (by omega) K.1 K.2.1 dX0_afterFirst_182 (by decide) (fun c182 => ?_) (fun c182 => ?_)
                · refine lv_iload K.1 K.2.1 dX0_afterFirst_189 (lv_at hl 0 rfl) ?_
                  refine cvV K S (met_finish h d σ top (σ.2 11 ((21 * (pPart σ n - 1)) + q)) s1 w1) (cwV 2 K.2.2.2.2.1 (lw_V q117 q119 qs5 q16 q120) rfl rfl rfl (by decide +kernel) ⟨Nat.le_of_ble_eq_true rfl, Nat.le_of_ble_eq_true rfl⟩) rfl rfl rfl hl.1 rfl (Nat.le_of_ble_eq_true rfl) dX0_afterFirst_191 ⟨Nat.zero_le _, Nat.zero_le _⟩ (fun u H locs S hu => ?_)
                  rw [hu] at S
                  refine lv_goto (tgt := 254) K.1 K.2.1 dX0_afterFirst_194 (by decide) ?_
                  exact ret _ _ _ _ _ dX0_afterFirst_254 S (by unfold pFirst pRes; rw [if_neg (by omega), if_neg (by omega), if_neg (by omega), if_neg (by omega), if_pos (by omega), if_neg (by omega)])
                · refine lv_iconst (v := nI 0) K.1 K.2.1 dX0_afterFirst_185 (by decide) ?_
                  refine lv_goto (tgt := 191) K.1 K.2.1 dX0_afterFirst_186 (by decide) ?_
                  refine lv_to (nI_e4 _) ?_
                  refine cvV K S (met_finish h d σ top (0 + 4) s1 w1) (cwV 2 K.2.2.2.2.1 (lw_V q117 q119 qs5 q16 q120) rfl rfl rfl (by decide +kernel) ⟨Nat.le_of_ble_eq_true rfl, Nat.le_of_ble_eq_true rfl⟩) rfl rfl rfl hl.1 rfl (Nat.le_of_ble_eq_true rfl) dX0_afterFirst_191 ⟨Nat.zero_le _, Nat.zero_le _⟩ (fun u H locs S hu => ?_)
                  rw [hu] at S
                  refine lv_goto (tgt := 254) K.1 K.2.1 dX0_afterFirst_194 (by decide) ?_
                  exact ret _ _ _ _ _ dX0_afterFirst_254 S (by unfold pFirst pRes; rw [if_neg (by omega), if_neg (by omega), if_neg (by omega), if_neg (by omega), if_pos (by omega), if_pos (by omega)])
              · refine lv_iload K.1 K.2.1 dX0_afterFirst_171 (lv_at hl 6 rfl) ?_
                refine lv_bipush (v := nI 7) K.1 K.2.1 dX0_afterFirst_173 (by decide) ?_
                refine bn_ne (tgt := 197) (by omega) (by omega) K.1 K.2.1 dX0_afterFirst_175 (by decide) (fun c175 => ?_) (fun c175 => ?_)
                · refine lv_iload K.1 K.2.1 dX0_afterFirst_197 (lv_at hl 6 rfl) ?_
                  refine lv_bipush (v := nI 8) K.1 K.2.1 dX0_afterFirst_199 (by decide) ?_
                  refine bn_ne (tgt := 222) (by omega) (by omega) K.1 K.2.1 dX0_afterFirst_201 (by decide) (fun c201 => ?_) (fun c201 => ?_)
                  · refine lv_iload K.1 K.2.1 dX0_afterFirst_222 (lv_at hl 6 rfl) ?_
                    refine lv_bipush (v := nI 9) K.1 K.2.1 dX0_afterFirst_224 (by decide) ?_
                    refine bn_ne (tgt := 247) (by omega) (by omega) K.1 K.2.1 dX0_afterFirst_226 (by decide) (fun c226 => ?_) (fun c226 => ?_)
                    · refine lv_aload_n K.1 K.2.1 dX0_afterFirst_247 rfl (lv_at hl 2 rfl) ?_
                      refine lv_iload_n K.1 K.2.1 dX0_afterFirst_248 rfl (lv_at hl 3 rfl) ?_
                      refine lv_iload K.1 K.2.1 dX0_afterFirst_249 (lv_at hl 0 rfl) ?_
                      refine cvV K S (met_finish h d σ top (σ.2 11 ((21 * (pPart σ n - 1)) + q)) s1 w1) (cwV 2 K.2.2.2.2.1 (lw_V q117 q119 qs5 q16 q120) rfl rfl rfl (by decide +kernel) ⟨Nat.le_of_ble_eq_true rfl, Nat.le_of_ble_eq_true rfl⟩) rfl rfl rfl hl.1 rfl (Nat.le_of_ble_eq_true rfl) dX0_afterFirst_251 ⟨Nat.zero_le _, Nat.zero_le _⟩ (fun u H locs S hu => ?_)
                      rw [hu] at S
                      exact ret _ _ _ _ _ dX0_afterFirst_254 S (by unfold pFirst pRes; rw [if_neg (by omega), if_neg (by omega), if_neg (by omega), if_neg (by omega), if_neg (by omega), if_neg (by omega), if_neg (by omega)])
                    · refine lv_aload_n K.1 K.2.1 dX0_afterFirst_229 rfl (lv_at hl 2 rfl) ?_
                      refine lv_iload_n K.1 K.2.1 dX0_afterFirst_230 rfl (lv_at hl 3 rfl) ?_
                      refine lv_iload K.1 K.2.1 dX0_afterFirst_231 (lv_at hl 0 rfl) ?_
                      refine be_ge0 (tgt := 240) (by omega) K.1 K.2.1 dX0_afterFirst_233 (by decide) (fun c233 => ?_) (fun c233 => ?_)
                      · refine lv_iconst (v := -1) K.1 K.2.1 dX0_afterFirst_240 (by decide) ?_
                        refine lv_to (show (-1 : Int32) = e4 3 by decide) ?_
                        refine cvV K S (met_finish h d σ top 3 s1 w1) (cwV 2 K.2.2.2.2.1 (lw_V q117 q119 qs5 q16 q120) rfl rfl rfl (by decide +kernel) ⟨Nat.le_of_ble_eq_true rfl, Nat.le_of_ble_eq_true rfl⟩) rfl rfl rfl hl.1 rfl (Nat.le_of_ble_eq_true rfl) dX0_afterFirst_241 ⟨Nat.zero_le _, Nat.zero_le _⟩ (fun u H locs S hu => ?_)
                        rw [hu] at S
                        refine lv_goto (tgt := 254) K.1 K.2.1 dX0_afterFirst_244 (by decide) ?_
                        exact ret _ _ _ _ _ dX0_afterFirst_254 S (by unfold pFirst pRes; rw [if_neg (by omega), if_neg (by omega), if_neg (by omega), if_neg (by omega), if_neg (by omega), if_neg (by omega), if_pos (by omega), if_neg (by omega)])
                      · refine lv_iconst (v := nI 0) K.1 K.2.1 dX0_afterFirst_236 (by decide) ?_
                        refine lv_goto (tgt := 241) K.1 K.2.1 dX0_afterFirst_237 (by decide) ?_
                        refine lv_to (nI_e4 _) ?_
                        refine cvV K S (met_finish h d σ top (0 + 4) s1 w1) (cwV 2 K.2.2.2.2.1 (lw_V q117 q119 qs5 q16 q120) rfl rfl rfl (by decide +kernel) ⟨Nat.le_of_ble_eq_true rfl, Nat.le_of_ble_eq_true rfl⟩) rfl rfl rfl hl.1 rfl (Nat.le_of_ble_eq_true rfl) dX0_afterFirst_241 ⟨Nat.zero_le _, Nat.zero_le _⟩ (fun u H locs S hu => ?_)
                        rw [hu] at S
                        refine lv_goto (tgt := 254) K.1 K.2.1 dX0_afterFirst_244 (by decide) ?_
                        exact ret _ _ _ _ _ dX0_afterFirst_254 S (by unfold pFirst pRes; rw [if_neg (by omega), if_neg (by omega), if_neg (by omega), if_neg (by omega), if_neg (by omega), if_neg (by omega), if_pos (by omega), if_pos (by omega)])
                  · refine lv_aload_n K.1 K.2.1 dX0_afterFirst_204 rfl (lv_at hl 2 rfl) ?_
                    refine lv_iload_n K.1 K.2.1 dX0_afterFirst_205 rfl (lv_at hl 3 rfl) ?_
                    refine lv_iload K.1 K.2.1 dX0_afterFirst_206 (lv_at hl 0 rfl) ?_
                    refine be_ge0 (tgt := 215) (by omega) K.1 K.2.1 dX0_afterFirst_208 (by decide) (fun c208 => ?_) (fun c208 => ?_)
                    · refine lv_iconst (v := nI 0) K.1 K.2.1 dX0_afterFirst_215 (by decide) ?_
                      refine lv_to (nI_e4 _) ?_
                      refine cvV K S (met_finish h d σ top (0 + 4) s1 w1) (cwV 2 K.2.2.2.2.1 (lw_V q117 q119 qs5 q16 q120) rfl rfl rfl (by decide +kernel) ⟨Nat.le_of_ble_eq_true rfl, Nat.le_of_ble_eq_true rfl⟩) rfl rfl rfl hl.1 rfl (Nat.le_of_ble_eq_true rfl) dX0_afterFirst_216 ⟨Nat.zero_le _, Nat.zero_le _⟩ (fun u H locs S hu => ?_)
                      rw [hu] at S
                      refine lv_goto (tgt := 254) K.1 K.2.1 dX0_afterFirst_219 (by decide) ?_
                      exact ret _ _ _ _ _ dX0_afterFirst_254 S (by unfold pFirst pRes; rw [if_neg (by omega), if_neg (by omega), if_neg (by omega), if_neg (by omega), if_neg (by omega), if_pos (by omega), if_neg (by omega)])
                    · refine lv_iconst (v := -1) K.1 K.2.1 dX0_afterFirst_211 (by decide) ?_
                      refine lv_goto (tgt := 216) K.1 K.2.1 dX0_afterFirst_212 (by decide) ?_
                      refine lv_to (show (-1 : Int32) = e4 3 by decide) ?_
                      refine cvV K S (met_finish h d σ top 3 s1 w1) (cwV 2 K.2.2.2.2.1 (lw_V q117 q119 qs5 q16 q120) rfl rfl rfl (by decide +kernel) ⟨Nat.le_of_ble_eq_true rfl, Nat.le_of_ble_eq_true rfl⟩) rfl rfl rfl hl.1 rfl (Nat.le_of_ble_eq_true rfl) dX0_afterFirst_216 ⟨Nat.zero_le _, Nat.zero_le _⟩ (fun u H locs S hu => ?_)
                      rw [hu] at S
                      refine lv_goto (tgt := 254) K.1 K.2.1 dX0_afterFirst_219 (by decide) ?_
                      exact ret _ _ _ _ _ dX0_afterFirst_254 S (by unfold pFirst pRes; rw [if_neg (by omega), if_neg (by omega), if_neg (by omega), if_neg (by omega), if_neg (by omega), if_pos (by omega), if_pos (by omega)])
                · refine lv_aload_n K.1 K.2.1 dX0_afterFirst_178 rfl (lv_at hl 2 rfl) ?_
                  refine lv_iload_n K.1 K.2.1 dX0_afterFirst_179 rfl (lv_at hl 3 rfl) ?_
                  refine lv_iload K.1 K.2.1 dX0_afterFirst_180 (lv_at hl 0 rfl) ?_
                  refine be_ge0 (tgt := 189) (by omega) K.1 K.2.1 dX0_afterFirst_182 (by decide) (fun c182 => ?_) (fun c182 => ?_)
                  · refine lv_iload K.1 K.2.1 dX0_afterFirst_189 (lv_at hl 0 rfl) ?_
                    refine cvV K S (met_finish h d σ top (σ.2 11 ((21 * (pPart σ n - 1)) + q)) s1 w1) (cwV 2 K.2.2.2.2.1 (lw_V q117 q119 qs5 q16 q120) rfl rfl rfl (by decide +kernel) ⟨Nat.le_of_ble_eq_true rfl, Nat.le_of_ble_eq_true rfl⟩) rfl rfl rfl hl.1 rfl (Nat.le_of_ble_eq_true rfl) dX0_afterFirst_191 ⟨Nat.zero_le _, Nat.zero_le _⟩ (fun u H locs S hu => ?_)
                    rw [hu] at S
                    refine lv_goto (tgt := 254) K.1 K.2.1 dX0_afterFirst_194 (by decide) ?_
                    exact ret _ _ _ _ _ dX0_afterFirst_254 S (by unfold pFirst pRes; rw [if_neg (by omega), if_neg (by omega), if_neg (by omega), if_neg (by omega), if_pos (by omega), if_neg (by omega)])
                  · refine lv_iconst (v := nI 0) K.1 K.2.1 dX0_afterFirst_185 (by decide) ?_
                    refine lv_goto (tgt := 191) K.1 K.2.1 dX0_afterFirst_186 (by decide) ?_
                    refine lv_to (nI_e4 _) ?_
                    refine cvV K S (met_finish h d σ top (0 + 4) s1 w1) (cwV 2 K.2.2.2.2.1 (lw_V q117 q119 qs5 q16 q120) rfl rfl rfl (by decide +kernel) ⟨Nat.le_of_ble_eq_true rfl, Nat.le_of_ble_eq_true rfl⟩) rfl rfl rfl hl.1 rfl (Nat.le_of_ble_eq_true rfl) dX0_afterFirst_191 ⟨Nat.zero_le _, Nat.zero_le _⟩ (fun u H locs S hu => ?_)
                    rw [hu] at S
                    refine lv_goto (tgt := 254) K.1 K.2.1 dX0_afterFirst_194 (by decide) ?_
                    exact ret _ _ _ _ _ dX0_afterFirst_254 S (by unfold pFirst pRes; rw [if_neg (by omega), if_neg (by omega), if_neg (by omega), if_neg (by omega), if_pos (by omega), if_pos (by omega)])
            · refine lv_aload_n K.1 K.2.1 dX0_afterFirst_142 rfl (lv_at hl 2 rfl) ?_
              refine p0g_taken K S dX0_afterFirst_143 ?_
              refine lv_iload_n K.1 K.2.1 dX0_afterFirst_146 rfl (lv_at hl 3 rfl) ?_
              refine lv_iload K.1 K.2.1 dX0_afterFirst_147 (lv_at hl 0 rfl) ?_
              refine lv_to (e4_nI (by omega)) ?_
              refine p0s_taken (show top < 840 by omega) K S dX0_afterFirst_149 (fun H locs S => ?_)
              refine lv_aload_n K.1 K.2.1 dX0_afterFirst_150 rfl (lv_at hl 2 rfl) ?_
              refine lv_iload_n K.1 K.2.1 dX0_afterFirst_151 rfl (lv_at hl 3 rfl) ?_
              refine lv_iload_n K.1 K.2.1 dX0_afterFirst_152 rfl (lv_at hl 4 rfl) ?_
              refine lv_iload_n K.1 K.2.1 dX0_afterFirst_153 rfl (lv_at hl 5 rfl) ?_
              refine lv_iload K.1 K.2.1 dX0_afterFirst_154 (lv_at hl 0 rfl) ?_
              refine lv_iadd K.1 K.2.1 dX0_afterFirst_156 ?_
              refine lv_to (nI_add_e4 _ _) ?_
              refine lv_iconst (v := nI 2) K.1 K.2.1 dX0_afterFirst_157 (by decide) ?_
              refine lv_to2 (e4_nI (by omega)) ?_
              have hi : 21 * n + (q + (σ.2 11 ((21 * (pPart σ n - 1)) + q)) - 4) < 840 := by omega
              refine cvV K S (met_need h d (setA σ 15 top (σ.2 11 ((21 * (pPart σ n - 1)) + q) - 4)) top n (q + (σ.2 11 ((21 * (pPart σ n - 1)) + q)) - 4) 2 s1 hi (s6 _ hi) (s7 _ hi) s3 w13) (cwV 4 K.2.2.2.2.1 (lw_V q125 q127 qs7 q16 q128) rfl rfl rfl (by decide +kernel) ⟨Nat.le_of_ble_eq_true rfl, Nat.le_of_ble_eq_true rfl⟩) rfl rfl rfl hl.1 rfl (Nat.le_of_ble_eq_true rfl) dX0_afterFirst_158 ⟨Nat.zero_le _, Nat.zero_le _⟩ (fun u H locs S hu => ?_)
              rw [hu] at S
              refine lv_goto (tgt := 254) K.1 K.2.1 dX0_afterFirst_161 (by decide) ?_
              exact ret _ _ _ _ _ dX0_afterFirst_254 S (by unfold pFirst pRes; rw [if_neg (by omega), if_neg (by omega), if_neg (by omega), if_pos (by omega)])
        · refine lv_iload K.1 K.2.1 dX0_afterFirst_102 (lv_at hl 0 rfl) ?_
          refine be_ge0 (tgt := 130) (by omega) K.1 K.2.1 dX0_afterFirst_104 (by decide) (fun c104 => ?_) (fun c104 => ?_)
          · refine lv_iload K.1 K.2.1 dX0_afterFirst_130 (lv_at hl 6 rfl) ?_
            refine lv_bipush (v := nI 6) K.1 K.2.1 dX0_afterFirst_132 (by decide) ?_
            refine bn_ne (tgt := 164) (by omega) (by omega) K.1 K.2.1 dX0_afterFirst_134 (by decide) (fun c134 => ?_) (fun c134 => ?_)
            · refine lv_iload K.1 K.2.1 dX0_afterFirst_164 (lv_at hl 6 rfl) ?_
              refine lv_bipush (v := nI 6) K.1 K.2.1 dX0_afterFirst_166 (by decide) ?_
              refine bn_eq (tgt := 178) (by omega) (by omega) K.1 K.2.1 dX0_afterFirst_168 (by decide) (fun c168 => ?_) (fun c168 => ?_)
              · refine lv_aload_n K.1 K.2.1 dX0_afterFirst_178 rfl (lv_at hl 2 rfl) ?_
                refine lv_iload_n K.1 K.2.1 dX0_afterFirst_179 rfl (lv_at hl 3 rfl) ?_
                refine lv_iload K.1 K.2.1 dX0_afterFirst_180 (lv_at hl 0 rfl) ?_
                refine be_ge0 (tgt := 189) (by omega) K.1 K.2.1 dX0_afterFirst_182 (by decide) (fun c182 => ?_) (fun c182 => ?_)
                · refine lv_iload K.1 K.2.1 dX0_afterFirst_189 (lv_at hl 0 rfl) ?_
                  refine cvV K S (met_finish h d σ top (σ.2 11 ((21 * (pPart σ n - 1)) + q)) s1 w1) (cwV 2 K.2.2.2.2.1 (lw_V q117 q119 qs5 q16 q120) rfl rfl rfl (by decide +kernel) ⟨Nat.le_of_ble_eq_true rfl, Nat.le_of_ble_eq_true rfl⟩) rfl rfl rfl hl.1 rfl (Nat.le_of_ble_eq_true rfl) dX0_afterFirst_191 ⟨Nat.zero_le _, Nat.zero_le _⟩ (fun u H locs S hu => ?_)
                  rw [hu] at S
                  refine lv_goto (tgt := 254) K.1 K.2.1 dX0_afterFirst_194 (by decide) ?_
                  exact ret _ _ _ _ _ dX0_afterFirst_254 S (by unfold pFirst pRes; rw [if_neg (by omega), if_neg (by omega), if_neg (by omega), if_neg (by omega), if_pos (by omega), if_neg (by omega)])
                · refine lv_iconst (v := nI 0) K.1 K.2.1 dX0_afterFirst_185 (by decide) ?_
                  refine lv_goto (tgt := 191) K.1 K.2.1 dX0_afterFirst_186 (by decide) ?_
                  refine lv_to (nI_e4 _) ?_
                  refine cvV K S (met_finish h d σ top (0 + 4) s1 w1) (cwV 2 K.2.2.2.2.1 (lw_V q117 q119 qs5 q16 q120) rfl rfl rfl (by decide +kernel) ⟨Nat.le_of_ble_eq_true rfl, Nat.le_of_ble_eq_true rfl⟩) rfl rfl rfl hl.1 rfl (Nat.le_of_ble_eq_true rfl) dX0_afterFirst_191 ⟨Nat.zero_le _, Nat.zero_le _⟩ (fun u H locs S hu => ?_)
                  rw [hu] at S
                  refine lv_goto (tgt := 254) K.1 K.2.1 dX0_afterFirst_194 (by decide) ?_
                  exact ret _ _ _ _ _ dX0_afterFirst_254 S (by unfold pFirst pRes; rw [if_neg (by omega), if_neg (by omega), if_neg (by omega), if_neg (by omega), if_pos (by omega), if_pos (by omega)])
              · refine lv_iload K.1 K.2.1 dX0_afterFirst_171 (lv_at hl 6 rfl) ?_
                refine lv_bipush (v := nI 7) K.1 K.2.1 dX0_afterFirst_173 (by decide) ?_
                refine bn_ne (tgt := 197) (by omega) (by omega) K.1 K.2.1 dX0_afterFirst_175 (by decide) (fun c175 => ?_) (fun c175 => ?_)
                · refine lv_iload K.1 K.2.1 dX0_afterFirst_197 (lv_at hl 6 rfl) ?_
                  refine lv_bipush (v := nI 8) K.1 K.2.1 dX0_afterFirst_199 (by decide) ?_
                  refine bn_ne (tgt := 222) (by omega) (by omega) K.1 K.2.1 dX0_afterFirst_201 (by decide) (fun c201 => ?_) (fun c201 => ?_)
                  · refine lv_iload K.1 K.2.1 dX0_afterFirst_222 (lv_at hl 6 rfl) ?_
                    refine lv_bipush (v := nI 9) K.1 K.2.1 dX0_afterFirst_224 (by decide) ?_
                    refine bn_ne (tgt := 247) (by omega) (by omega) K.1 K.2.1 dX0_afterFirst_226 (by decide) (fun c226 => ?_) (fun c226 => ?_)
                    · refine lv_aload_n K.1 K.2.1 dX0_afterFirst_247 rfl (lv_at hl 2 rfl) ?_
                      refine lv_iload_n K.1 K.2.1 dX0_afterFirst_248 rfl (lv_at hl 3 rfl) ?_
                      refine lv_iload K.1 K.2.1 dX0_afterFirst_249 (lv_at hl 0 rfl) ?_
                      refine cvV K S (met_finish h d σ top (σ.2 11 ((21 * (pPart σ n - 1)) + q)) s1 w1) (cwV 2 K.2.2.2.2.1 (lw_V q117 q119 qs5 q16 q120) rfl rfl rfl (by decide +kernel) ⟨Nat.le_of_ble_eq_true rfl, Nat.le_of_ble_eq_true rfl⟩) rfl rfl rfl hl.1 rfl (Nat.le_of_ble_eq_true rfl) dX0_afterFirst_251 ⟨Nat.zero_le _, Nat.zero_le _⟩ (fun u H locs S hu => ?_)
                      rw [hu] at S
                      exact ret _ _ _ _ _ dX0_afterFirst_254 S (by unfold pFirst pRes; rw [if_neg (by omega), if_neg (by omega), if_neg (by omega), if_neg (by omega), if_neg (by omega), if_neg (by omega), if_neg (by omega)])
                    · refine lv_aload_n K.1 K.2.1 dX0_afterFirst_229 rfl (lv_at hl 2 rfl) ?_
                      refine lv_iload_n K.1 K.2.1 dX0_afterFirst_230 rfl (lv_at hl 3 rfl) ?_
                      refine lv_iload K.1 K.2.1 dX0_afterFirst_231 (lv_at hl 0 rfl) ?_
                      refine be_ge0 (tgt := 240) (by omega) K.1 K.2.1 dX0_afterFirst_233 (by decide) (fun c233 => ?_) (fun c233 => ?_)
                      · refine lv_iconst (v := -1) K.1 K.2.1 dX0_afterFirst_240 (by decide) ?_
                        refine lv_to (show (-1 : Int32) = e4 3 by decide) ?_
                        refine cvV K S (met_finish h d σ top 3 s1 w1) (cwV 2 K.2.2.2.2.1 (lw_V q117 q119 qs5 q16 q120) rfl rfl rfl (by decide +kernel) ⟨Nat.le_of_ble_eq_true rfl, Nat.le_of_ble_eq_true rfl⟩) rfl rfl rfl hl.1 rfl (Nat.le_of_ble_eq_true rfl) dX0_afterFirst_241 ⟨Nat.zero_le _, Nat.zero_le _⟩ (fun u H locs S hu => ?_)
                        rw [hu] at S
                        refine lv_goto (tgt := 254) K.1 K.2.1 dX0_afterFirst_244 (by decide) ?_
                        exact ret _ _ _ _ _ dX0_afterFirst_254 S (by unfold pFirst pRes; rw [if_neg (by omega), if_neg (by omega), if_neg (by omega), if_neg (by omega), if_neg (by omega), if_neg (by omega), if_pos (by omega), if_neg (by omega)])
                      · refine lv_iconst (v := nI 0) K.1 K.2.1 dX0_afterFirst_236 (by decide) ?_
                        refine lv_goto (tgt := 241) K.1 K.2.1 dX0_afterFirst_237 (by decide) ?_
                        refine lv_to (nI_e4 _) ?_
                        refine cvV K S (met_finish h d σ top (0 + 4) s1 w1) (cwV 2 K.2.2.2.2.1 (lw_V q117 q119 qs5 q16 q120) rfl rfl rfl (by decide +kernel) ⟨Nat.le_of_ble_eq_true rfl, Nat.le_of_ble_eq_true rfl⟩) rfl rfl rfl hl.1 rfl (Nat.le_of_ble_eq_true rfl) dX0_afterFirst_241 ⟨Nat.zero_le _, Nat.zero_le _⟩ (fun u H locs S hu => ?_)
                        rw [hu] at S
                        refine lv_goto (tgt := 254) K.1 K.2.1 dX0_afterFirst_244 (by decide) ?_
                        exact ret _ _ _ _ _ dX0_afterFirst_254 S (by unfold pFirst pRes; rw [if_neg (by omega), if_neg (by omega), if_neg (by omega), if_neg (by omega), if_neg (by omega), if_neg (by omega), if_pos (by omega), if_pos (by omega)])
                  · refine lv_aload_n K.1 K.2.1 dX0_afterFirst_204 rfl (lv_at hl 2 rfl) ?_
                    refine lv_iload_n K.1 K.2.1 dX0_afterFirst_205 rfl (lv_at hl 3 rfl) ?_
                    refine lv_iload K.1 K.2.1 dX0_afterFirst_206 (lv_at hl 0 rfl) ?_
                    refine be_ge0 (tgt := 215) (by omega) K.1 K.2.1 dX0_afterFirst_208 (by decide) (fun c208 => ?_) (fun c208 => ?_)
                    · refine lv_iconst (v := nI 0) K.1 K.2.1 dX0_afterFirst_215 (by decide) ?_
                      refine lv_to (nI_e4 _) ?_
                      refine cvV K S (met_finish h d σ top (0 + 4) s1 w1) (cwV 2 K.2.2.2.2.1 (lw_V q117 q119 qs5 q16 q120) rfl rfl rfl (by decide +kernel) ⟨Nat.le_of_ble_eq_true rfl, Nat.le_of_ble_eq_true rfl⟩) rfl rfl rfl hl.1 rfl (Nat.le_of_ble_eq_true rfl) dX0_afterFirst_216 ⟨Nat.zero_le _, Nat.zero_le _⟩ (fun u H locs S hu => ?_)
                      rw [hu] at S
                      refine lv_goto (tgt := 254) K.1 K.2.1 dX0_afterFirst_219 (by decide) ?_
                      exact ret _ _ _ _ _ dX0_afterFirst_254 S (by unfold pFirst pRes; rw [if_neg (by omega), if_neg (by omega), if_neg (by omega), if_neg (by omega), if_neg (by omega), if_pos (by omega), if_neg (by omega)])
                    · refine lv_iconst (v := -1) K.1 K.2.1 dX0_afterFirst_211 (by decide) ?_
                      refine lv_goto (tgt := 216) K.1 K.2.1 dX0_afterFirst_212 (by decide) ?_
                      refine lv_to (show (-1 : Int32) = e4 3 by decide) ?_
                      refine cvV K S (met_finish h d σ top 3 s1 w1) (cwV 2 K.2.2.2.2.1 (lw_V q117 q119 qs5 q16 q120) rfl rfl rfl (by decide +kernel) ⟨Nat.le_of_ble_eq_true rfl, Nat.le_of_ble_eq_true rfl⟩) rfl rfl rfl hl.1 rfl (Nat.le_of_ble_eq_true rfl) dX0_afterFirst_216 ⟨Nat.zero_le _, Nat.zero_le _⟩ (fun u H locs S hu => ?_)
                      rw [hu] at S
                      refine lv_goto (tgt := 254) K.1 K.2.1 dX0_afterFirst_219 (by decide) ?_
                      exact ret _ _ _ _ _ dX0_afterFirst_254 S (by unfold pFirst pRes; rw [if_neg (by omega), if_neg (by omega), if_neg (by omega), if_neg (by omega), if_neg (by omega), if_pos (by omega), if_pos (by omega)])
                · refine lv_aload_n K.1 K.2.1 dX0_afterFirst_178 rfl (lv_at hl 2 rfl) ?_
                  refine lv_iload_n K.1 K.2.1 dX0_afterFirst_179 rfl (lv_at hl 3 rfl) ?_
                  refine lv_iload K.1 K.2.1 dX0_afterFirst_180 (lv_at hl 0 rfl) ?_
                  refine be_ge0 (tgt := 189) (by omega) K.1 K.2.1 dX0_afterFirst_182 (by decide) (fun c182 => ?_) (fun c182 => ?_)
                  · refine lv_iload K.1 K.2.1 dX0_afterFirst_189 (lv_at hl 0 rfl) ?_
                    refine cvV K S (met_finish h d σ top (σ.2 11 ((21 * (pPart σ n - 1)) + q)) s1 w1) (cwV 2 K.2.2.2.2.1 (lw_V q117 q119 qs5 q16 q120) rfl rfl rfl (by decide +kernel) ⟨Nat.le_of_ble_eq_true rfl, Nat.le_of_ble_eq_true rfl⟩) rfl rfl rfl hl.1 rfl (Nat.le_of_ble_eq_true rfl) dX0_afterFirst_191 ⟨Nat.zero_le _, Nat.zero_le _⟩ (fun u H locs S hu => ?_)
                    rw [hu] at S
                    refine lv_goto (tgt := 254) K.1 K.2.1 dX0_afterFirst_194 (by decide) ?_
                    exact ret _ _ _ _ _ dX0_afterFirst_254 S (by unfold pFirst pRes; rw [if_neg (by omega), if_neg (by omega), if_neg (by omega), if_neg (by omega), if_pos (by omega), if_neg (by omega)])
                  · refine lv_iconst (v := nI 0) K.1 K.2.1 dX0_afterFirst_185 (by decide) ?_
                    refine lv_goto (tgt := 191) K.1 K.2.1 dX0_afterFirst_186 (by decide) ?_
                    refine lv_to (nI_e4 _) ?_
                    refine cvV K S (met_finish h d σ top (0 + 4) s1 w1) (cwV 2 K.2.2.2.2.1 (lw_V q117 q119 qs5 q16 q120) rfl rfl rfl (by decide +kernel) ⟨Nat.le_of_ble_eq_true rfl, Nat.le_of_ble_eq_true rfl⟩) rfl rfl rfl hl.1 rfl (Nat.le_of_ble_eq_true rfl) dX0_afterFirst_191 ⟨Nat.zero_le _, Nat.zero_le _⟩ (fun u H locs S hu => ?_)
                    rw [hu] at S
                    refine lv_goto (tgt := 254) K.1 K.2.1 dX0_afterFirst_194 (by decide) ?_
                    exact ret _ _ _ _ _ dX0_afterFirst_254 S (by unfold pFirst pRes; rw [if_neg (by omega), if_neg (by omega), if_neg (by omega), if_neg (by omega), if_pos (by omega), if_pos (by omega)])
            · refine lv_iload K.1 K.2.1 dX0_afterFirst_137 (lv_at hl 0 rfl) ?_
              refine be_le0 (tgt := 164) (by omega) K.1 K.2.1 dX0_afterFirst_139 (by decide) (fun c139 => ?_) (fun c139 => ?_)
              · refine lv_iload K.1 K.2.1 dX0_afterFirst_164 (lv_at hl 6 rfl) ?_
                refine lv_bipush (v := nI 6) K.1 K.2.1 dX0_afterFirst_166 (by decide) ?_
                refine bn_eq (tgt := 178) (by omega) (by omega) K.1 K.2.1 dX0_afterFirst_168 (by decide) (fun c168 => ?_) (fun c168 => ?_)
                · refine lv_aload_n K.1 K.2.1 dX0_afterFirst_178 rfl (lv_at hl 2 rfl) ?_
                  refine lv_iload_n K.1 K.2.1 dX0_afterFirst_179 rfl (lv_at hl 3 rfl) ?_
                  refine lv_iload K.1 K.2.1 dX0_afterFirst_180 (lv_at hl 0 rfl) ?_
                  refine be_ge0 (tgt := 189) (by omega) K.1 K.2.1 dX0_afterFirst_182 (by decide) (fun c182 => ?_) (fun c182 => ?_)
                  · refine lv_iload K.1 K.2.1 dX0_afterFirst_189 (lv_at hl 0 rfl) ?_
                    refine cvV K S (met_finish h d σ top (σ.2 11 ((21 * (pPart σ n - 1)) + q)) s1 w1) (cwV 2 K.2.2.2.2.1 (lw_V q117 q119 qs5 q16 q120) rfl rfl rfl (by decide +kernel) ⟨Nat.le_of_ble_eq_true rfl, Nat.le_of_ble_eq_true rfl⟩) rfl rfl rfl hl.1 rfl (Nat.le_of_ble_eq_true rfl) dX0_afterFirst_191 ⟨Nat.zero_le _, Nat.zero_le _⟩ (fun u H locs S hu => ?_)
                    rw [hu] at S
                    refine lv_goto (tgt := 254) K.1 K.2.1 dX0_afterFirst_194 (by decide) ?_
                    exact ret _ _ _ _ _ dX0_afterFirst_254 S (by unfold pFirst pRes; rw [if_neg (by omega), if_neg (by omega), if_neg (by omega), if_neg (by omega), if_pos (by omega), if_neg (by omega)])
                  · refine lv_iconst (v := nI 0) K.1 K.2.1 dX0_afterFirst_185 (by decide) ?_
                    refine lv_goto (tgt := 191) K.1 K.2.1 dX0_afterFirst_186 (by decide) ?_
                    refine lv_to (nI_e4 _) ?_
                    refine cvV K S (met_finish h d σ top (0 + 4) s1 w1) (cwV 2 K.2.2.2.2.1 (lw_V q117 q119 qs5 q16 q120) rfl rfl rfl (by decide +kernel) ⟨Nat.le_of_ble_eq_true rfl, Nat.le_of_ble_eq_true rfl⟩) rfl rfl rfl hl.1 rfl (Nat.le_of_ble_eq_true rfl) dX0_afterFirst_191 ⟨Nat.zero_le _, Nat.zero_le _⟩ (fun u H locs S hu => ?_)
                    rw [hu] at S
                    refine lv_goto (tgt := 254) K.1 K.2.1 dX0_afterFirst_194 (by decide) ?_
                    exact ret _ _ _ _ _ dX0_afterFirst_254 S (by unfold pFirst pRes; rw [if_neg (by omega), if_neg (by omega), if_neg (by omega), if_neg (by omega), if_pos (by omega), if_pos (by omega)])
                · refine lv_iload K.1 K.2.1 dX0_afterFirst_171 (lv_at hl 6 rfl) ?_
                  refine lv_bipush (v := nI 7) K.1 K.2.1 dX0_afterFirst_173 (by decide) ?_
                  refine bn_ne (tgt := 197) (by omega) (by omega) K.1 K.2.1 dX0_afterFirst_175 (by decide) (fun c175 => ?_) (fun c175 => ?_)
                  · refine lv_iload K.1 K.2.1 dX0_afterFirst_197 (lv_at hl 6 rfl) ?_
                    refine lv_bipush (v := nI 8) K.1 K.2.1 dX0_afterFirst_199 (by decide) ?_
                    refine bn_ne (tgt := 222) (by omega) (by omega) K.1 K.2.1 dX0_afterFirst_201 (by decide) (fun c201 => ?_) (fun c201 => ?_)
                    · refine lv_iload K.1 K.2.1 dX0_afterFirst_222 (lv_at hl 6 rfl) ?_
                      refine lv_bipush (v := nI 9) K.1 K.2.1 dX0_afterFirst_224 (by decide) ?_
                      refine bn_ne (tgt := 247) (by omega) (by omega) K.1 K.2.1 dX0_afterFirst_226 (by decide) (fun c226 => ?_) (fun c226 => ?_)
                      · refine lv_aload_n K.1 K.2.1 dX0_afterFirst_247 rfl (lv_at hl 2 rfl) ?_
                        refine lv_iload_n K.1 K.2.1 dX0_afterFirst_248 rfl (lv_at hl 3 rfl) ?_
                        refine lv_iload K.1 K.2.1 dX0_afterFirst_249 (lv_at hl 0 rfl) ?_
                        refine cvV K S (met_finish h d σ top (σ.2 11 ((21 * (pPart σ n - 1)) + q)) s1 w1) (cwV 2 K.2.2.2.2.1 (lw_V q117 q119 qs5 q16 q120) rfl rfl rfl (by decide +kernel) ⟨Nat.le_of_ble_eq_true rfl, Nat.le_of_ble_eq_true rfl⟩) rfl rfl rfl hl.1 rfl (Nat.le_of_ble_eq_true rfl) dX0_afterFirst_251 ⟨Nat.zero_le _, Nat.zero_le _⟩ (fun u H locs S hu => ?_)
                        rw [hu] at S
                        exact ret _ _ _ _ _ dX0_afterFirst_254 S (by unfold pFirst pRes; rw [if_neg (by omega), if_neg (by omega), if_neg (by omega), if_neg (by omega), if_neg (by omega), if_neg (by omega), if_neg (by omega)])
                      · refine lv_aload_n K.1 K.2.1 dX0_afterFirst_229 rfl (lv_at hl 2 rfl) ?_
                        refine lv_iload_n K.1 K.2.1 dX0_afterFirst_230 rfl (lv_at hl 3 rfl) ?_
                        refine lv_iload K.1 K.2.1 dX0_afterFirst_231 (lv_at hl 0 rfl) ?_
                        refine be_ge0 (tgt := 240) (by omega) K.1 K.2.1 dX0_afterFirst_233 (by decide) (fun c233 => ?_) (fun c233 => ?_)
                        · refine lv_iconst (v := -1) K.1 K.2.1 dX0_afterFirst_240 (by decide) ?_
                          refine lv_to (show (-1 : Int32) = e4 3 by decide) ?_
                          refine cvV K S (met_finish h d σ top 3 s1 w1) (cwV 2 K.2.2.2.2.1 (lw_V q117 q119 qs5 q16 q120) rfl rfl rfl (by decide +kernel) ⟨Nat.le_of_ble_eq_true rfl, Nat.le_of_ble_eq_true rfl⟩) rfl rfl rfl hl.1 rfl (Nat.le_of_ble_eq_true rfl) dX0_afterFirst_241 ⟨Nat.zero_le _, Nat.zero_le _⟩ (fun u H locs S hu => ?_)
                          rw [hu] at S
                          refine lv_goto (tgt := 254) K.1 K.2.1 dX0_afterFirst_244 (by decide) ?_
                          exact ret _ _ _ _ _ dX0_afterFirst_254 S (by unfold pFirst pRes; rw [if_neg (by omega), if_neg (by omega), if_neg (by omega), if_neg (by omega), if_neg (by omega), if_neg (by omega), if_pos (by omega), if_neg (by omega)])
                        · refine lv_iconst (v := nI 0) K.1 K.2.1 dX0_afterFirst_236 (by decide) ?_
                          refine lv_goto (tgt := 241) K.1 K.2.1 dX0_afterFirst_237 (by decide) ?_
                          refine lv_to (nI_e4 _) ?_
                          refine cvV K S (met_finish h d σ top (0 + 4) s1 w1) (cwV 2 K.2.2.2.2.1 (lw_V q117 q119 qs5 q16 q120) rfl rfl rfl (by decide +kernel) ⟨Nat.le_of_ble_eq_true rfl, Nat.le_of_ble_eq_true rfl⟩) rfl rfl rfl hl.1 rfl (Nat.le_of_ble_eq_true rfl) dX0_afterFirst_241 ⟨Nat.zero_le _, Nat.zero_le _⟩ (fun u H locs S hu => ?_)
                          rw [hu] at S
                          refine lv_goto (tgt := 254) K.1 K.2.1 dX0_afterFirst_244 (by decide) ?_
                          exact ret _ _ _ _ _ dX0_afterFirst_254 S (by unfold pFirst pRes; rw [if_neg (by omega), if_neg (by omega), if_neg (by omega), if_neg (by omega), if_neg (by omega), if_neg (by omega), if_pos (by omega), if_pos (by omega)])
                    · refine lv_aload_n K.1 K.2.1 dX0_afterFirst_204 rfl (lv_at hl 2 rfl) ?_
                      refine lv_iload_n K.1 K.2.1 dX0_afterFirst_205 rfl (lv_at hl 3 rfl) ?_
                      refine lv_iload K.1 K.2.1 dX0_afterFirst_206 (lv_at hl 0 rfl) ?_
                      refine be_ge0 (tgt := 215) (by omega) K.1 K.2.1 dX0_afterFirst_208 (by decide) (fun c208 => ?_) (fun c208 => ?_)
                      · refine lv_iconst (v := nI 0) K.1 K.2.1 dX0_afterFirst_215 (by decide) ?_
                        refine lv_to (nI_e4 _) ?_
                        refine cvV K S (met_finish h d σ top (0 + 4) s1 w1) (cwV 2 K.2.2.2.2.1 (lw_V q117 q119 qs5 q16 q120) rfl rfl rfl (by decide +kernel) ⟨Nat.le_of_ble_eq_true rfl, Nat.le_of_ble_eq_true rfl⟩) rfl rfl rfl hl.1 rfl (Nat.le_of_ble_eq_true rfl) dX0_afterFirst_216 ⟨Nat.zero_le _, Nat.zero_le _⟩ (fun u H locs S hu => ?_)
                        rw [hu] at S
                        refine lv_goto (tgt := 254) K.1 K.2.1 dX0_afterFirst_219 (by decide) ?_
                        exact ret _ _ _ _ _ dX0_afterFirst_254 S (by unfold pFirst pRes; rw [if_neg (by omega), if_neg (by omega), if_neg (by omega), if_neg (by omega), if_neg (by omega), if_pos (by omega), if_neg (by omega)])
                      · refine lv_iconst (v := -1) K.1 K.2.1 dX0_afterFirst_211 (by decide) ?_
                        refine lv_goto (tgt := 216) K.1 K.2.1 dX0_afterFirst_212 (by decide) ?_
                        refine lv_to (show (-1 : Int32) = e4 3 by decide) ?_
                        refine cvV K S (met_finish h d σ top 3 s1 w1) (cwV 2 K.2.2.2.2.1 (lw_V q117 q119 qs5 q16 q120) rfl rfl rfl (by decide +kernel) ⟨Nat.le_of_ble_eq_true rfl, Nat.le_of_ble_eq_true rfl⟩) rfl rfl rfl hl.1 rfl (Nat.le_of_ble_eq_true rfl) dX0_afterFirst_216 ⟨Nat.zero_le _, Nat.zero_le _⟩ (fun u H locs S hu => ?_)
                        rw [hu] at S
                        refine lv_goto (tgt := 254) K.1 K.2.1 dX0_afterFirst_219 (by decide) ?_
                        exact ret _ _ _ _ _ dX0_afterFirst_254 S (by unfold pFirst pRes; rw [if_neg (by omega), if_neg (by omega), if_neg (by omega), if_neg (by omega), if_neg (by omega), if_pos (by omega), if_pos (by omega)])
                  · refine lv_aload_n K.1 K.2.1 dX0_afterFirst_178 rfl (lv_at hl 2 rfl) ?_
                    refine lv_iload_n K.1 K.2.1 dX0_afterFirst_179 rfl (lv_at hl 3 rfl) ?_
                    refine lv_iload K.1 K.2.1 dX0_afterFirst_180 (lv_at hl 0 rfl) ?_
                    refine be_ge0 (tgt := 189) (by omega) K.1 K.2.1 dX0_afterFirst_182 (by decide) (fun c182 => ?_) (fun c182 => ?_)
                    · refine lv_iload K.1 K.2.1 dX0_afterFirst_189 (lv_at hl 0 rfl) ?_
                      refine cvV K S (met_finish h d σ top (σ.2 11 ((21 * (pPart σ n - 1)) + q)) s1 w1) (cwV 2 K.2.2.2.2.1 (lw_V q117 q119 qs5 q16 q120) rfl rfl rfl (by decide +kernel) ⟨Nat.le_of_ble_eq_true rfl, Nat.le_of_ble_eq_true rfl⟩) rfl rfl rfl hl.1 rfl (Nat.le_of_ble_eq_true rfl) dX0_afterFirst_191 ⟨Nat.zero_le _, Nat.zero_le _⟩ (fun u H locs S hu => ?_)
                      rw [hu] at S
                      refine lv_goto (tgt := 254) K.1 K.2.1 dX0_afterFirst_194 (by decide) ?_
                      exact ret _ _ _ _ _ dX0_afterFirst_254 S (by unfold pFirst pRes; rw [if_neg (by omega), if_neg (by omega), if_neg (by omega), if_neg (by omega), if_pos (by omega), if_neg (by omega)])
                    · refine lv_iconst (v := nI 0) K.1 K.2.1 dX0_afterFirst_185 (by decide) ?_
                      refine lv_goto (tgt := 191) K.1 K.2.1 dX0_afterFirst_186 (by decide) ?_
                      refine lv_to (nI_e4 _) ?_
                      refine cvV K S (met_finish h d σ top (0 + 4) s1 w1) (cwV 2 K.2.2.2.2.1 (lw_V q117 q119 qs5 q16 q120) rfl rfl rfl (by decide +kernel) ⟨Nat.le_of_ble_eq_true rfl, Nat.le_of_ble_eq_true rfl⟩) rfl rfl rfl hl.1 rfl (Nat.le_of_ble_eq_true rfl) dX0_afterFirst_191 ⟨Nat.zero_le _, Nat.zero_le _⟩ (fun u H locs S hu => ?_)
                      rw [hu] at S
                      refine lv_goto (tgt := 254) K.1 K.2.1 dX0_afterFirst_194 (by decide) ?_
                      exact ret _ _ _ _ _ dX0_afterFirst_254 S (by unfold pFirst pRes; rw [if_neg (by omega), if_neg (by omega), if_neg (by omega), if_neg (by omega), if_pos (by omega), if_pos (by omega)])
              · refine lv_aload_n K.1 K.2.1 dX0_afterFirst_142 rfl (lv_at hl 2 rfl) ?_
                refine p0g_taken K S dX0_afterFirst_143 ?_
                refine lv_iload_n K.1 K.2.1 dX0_afterFirst_146 rfl (lv_at hl 3 rfl) ?_
                refine lv_iload K.1 K.2.1 dX0_afterFirst_147 (lv_at hl 0 rfl) ?_
                refine lv_to (e4_nI (by omega)) ?_
                refine p0s_taken (show top < 840 by omega) K S dX0_afterFirst_149 (fun H locs S => ?_)
                refine lv_aload_n K.1 K.2.1 dX0_afterFirst_150 rfl (lv_at hl 2 rfl) ?_
                refine lv_iload_n K.1 K.2.1 dX0_afterFirst_151 rfl (lv_at hl 3 rfl) ?_
                refine lv_iload_n K.1 K.2.1 dX0_afterFirst_152 rfl (lv_at hl 4 rfl) ?_
                refine lv_iload_n K.1 K.2.1 dX0_afterFirst_153 rfl (lv_at hl 5 rfl) ?_
                refine lv_iload K.1 K.2.1 dX0_afterFirst_154 (lv_at hl 0 rfl) ?_
                refine lv_iadd K.1 K.2.1 dX0_afterFirst_156 ?_
                refine lv_to (nI_add_e4 _ _) ?_
                refine lv_iconst (v := nI 2) K.1 K.2.1 dX0_afterFirst_157 (by decide) ?_
                refine lv_to2 (e4_nI (by omega)) ?_
                have hi : 21 * n + (q + (σ.2 11 ((21 * (pPart σ n - 1)) + q)) - 4) < 840 := by omega
                refine cvV K S (met_need h d (setA σ 15 top (σ.2 11 ((21 * (pPart σ n - 1)) + q) - 4)) top n (q + (σ.2 11 ((21 * (pPart σ n - 1)) + q)) - 4) 2 s1 hi (s6 _ hi) (s7 _ hi) s3 w13) (cwV 4 K.2.2.2.2.1 (lw_V q125 q127 qs7 q16 q128) rfl rfl rfl (by decide +kernel) ⟨Nat.le_of_ble_eq_true rfl, Nat.le_of_ble_eq_true rfl⟩) rfl rfl rfl hl.1 rfl (Nat.le_of_ble_eq_true rfl) dX0_afterFirst_158 ⟨Nat.zero_le _, Nat.zero_le _⟩ (fun u H locs S hu => ?_)
                rw [hu] at S
                refine lv_goto (tgt := 254) K.1 K.2.1 dX0_afterFirst_161 (by decide) ?_
                exact ret _ _ _ _ _ dX0_afterFirst_254 S (by unfold pFirst pRes; rw [if_neg (by omega), if_neg (by omega), if_neg (by omega), if_pos (by omega)])
          · refine lv_aload_n K.1 K.2.1 dX0_afterFirst_107 rfl (lv_at hl 2 rfl) ?_
            refine p0g_taken K S dX0_afterFirst_108 ?_
            refine lv_iload_n K.1 K.2.1 dX0_afterFirst_111 rfl (lv_at hl 3 rfl) ?_
            refine lv_iconst (v := nI 0) K.1 K.2.1 dX0_afterFirst_112 (by decide) ?_
            refine p0s_taken (show top < 840 by omega) K S dX0_afterFirst_113 (fun H locs S => ?_)
            refine lv_aload_n K.1 K.2.1 dX0_afterFirst_114 rfl (lv_at hl 2 rfl) ?_
            refine lv_iload_n K.1 K.2.1 dX0_afterFirst_115 rfl (lv_at hl 3 rfl) ?_
            refine lv_aload_n K.1 K.2.1 dX0_afterFirst_116 rfl (lv_at hl 2 rfl) ?_
            refine p0g_right K S dX0_afterFirst_117 ?_
            refine lv_iload_n K.1 K.2.1 dX0_afterFirst_120 rfl (lv_at hl 4 rfl) ?_
            refine p0l_right (show n < 40 by omega) K S dX0_afterFirst_121 ?_
            refine lv_to (y := e1 (σ.2 5 n)) rfl ?_
            refine lv_iload_n K.1 K.2.1 dX0_afterFirst_122 rfl (lv_at hl 5 rfl) ?_
            refine lv_iconst (v := nI 2) K.1 K.2.1 dX0_afterFirst_123 (by decide) ?_
            refine lv_to3 (e1_nI (by omega)) ?_
            have hi : 21 * (σ.2 5 n - 1) + q < 840 := by omega
            refine cvV K S (met_need h d (setA σ 15 top 0) top (σ.2 5 n - 1) q 2 s1 hi (s6 _ hi) (s7 _ hi) s3 w13) (cwV 4 K.2.2.2.2.1 (lw_V q125 q127 qs7 q16 q128) rfl rfl rfl (by decide +kernel) ⟨Nat.le_of_ble_eq_true rfl, Nat.le_of_ble_eq_true rfl⟩) rfl rfl rfl hl.1 rfl (Nat.le_of_ble_eq_true rfl) dX0_afterFirst_124 ⟨Nat.zero_le _, Nat.zero_le _⟩ (fun u H locs S hu => ?_)
            rw [hu] at S
            refine lv_goto (tgt := 254) K.1 K.2.1 dX0_afterFirst_127 (by decide) ?_
            exact ret _ _ _ _ _ dX0_afterFirst_254 S (by unfold pFirst pRes; rw [if_neg (by omega), if_neg (by omega), if_pos (by omega)])
      · refine lv_iload K.1 K.2.1 dX0_afterFirst_64 (lv_at hl 0 rfl) ?_
        refine be_lt0 (tgt := 96) (by omega) K.1 K.2.1 dX0_afterFirst_66 (by decide) (fun c66 => ?_) (fun c66 => ?_)
        · refine lv_iload K.1 K.2.1 dX0_afterFirst_96 (lv_at hl 6 rfl) ?_
          refine lv_iconst (v := nI 5) K.1 K.2.1 dX0_afterFirst_98 (by decide) ?_
          refine bn_ne (tgt := 130) (by omega) (by omega) K.1 K.2.1 dX0_afterFirst_99 (by decide) (fun c99 => ?_) (fun c99 => ?_)
          · refine lv_iload K.1 K.2.1 dX0_afterFirst_130 (lv_at hl 6 rfl) ?_
            refine lv_bipush (v := nI 6) K.1 K.2.1 dX0_afterFirst_132 (by decide) ?_
            refine bn_ne (tgt := 164) (by omega) (by omega) K.1 K.2.1 dX0_afterFirst_134 (by decide) (fun c134 => ?_) (fun c134 => ?_)
            · refine lv_iload K.1 K.2.1 dX0_afterFirst_164 (lv_at hl 6 rfl) ?_
              refine lv_bipush (v := nI 6) K.1 K.2.1 dX0_afterFirst_166 (by decide) ?_
              refine bn_eq (tgt := 178) (by omega) (by omega) K.1 K.2.1 dX0_afterFirst_168 (by decide) (fun c168 => ?_) (fun c168 => ?_)
              · refine lv_aload_n K.1 K.2.1 dX0_afterFirst_178 rfl (lv_at hl 2 rfl) ?_
                refine lv_iload_n K.1 K.2.1 dX0_afterFirst_179 rfl (lv_at hl 3 rfl) ?_
                refine lv_iload K.1 K.2.1 dX0_afterFirst_180 (lv_at hl 0 rfl) ?_
                refine be_ge0 (tgt := 189) (by omega) K.1 K.2.1 dX0_afterFirst_182 (by decide) (fun c182 => ?_) (fun c182 => ?_)
                · refine lv_iload K.1 K.2.1 dX0_afterFirst_189 (lv_at hl 0 rfl) ?_
                  refine cvV K S (met_finish h d σ top (σ.2 11 ((21 * (pPart σ n - 1)) + q)) s1 w1) (cwV 2 K.2.2.2.2.1 (lw_V q117 q119 qs5 q16 q120) rfl rfl rfl (by decide +kernel) ⟨Nat.le_of_ble_eq_true rfl, Nat.le_of_ble_eq_true rfl⟩) rfl rfl rfl hl.1 rfl (Nat.le_of_ble_eq_true rfl) dX0_afterFirst_191 ⟨Nat.zero_le _, Nat.zero_le _⟩ (fun u H locs S hu => ?_)
                  rw [hu] at S
                  refine lv_goto (tgt := 254) K.1 K.2.1 dX0_afterFirst_194 (by decide) ?_
                  exact ret _ _ _ _ _ dX0_afterFirst_254 S (by unfold pFirst pRes; rw [if_neg (by omega), if_neg (by omega), if_neg (by omega), if_neg (by omega), if_pos (by omega), if_neg (by omega)])
                · refine lv_iconst (v := nI 0) K.1 K.2.1 dX0_afterFirst_185 (by decide) ?_
                  refine lv_goto (tgt := 191) K.1 K.2.1 dX0_afterFirst_186 (by decide) ?_
                  refine lv_to (nI_e4 _) ?_
                  refine cvV K S (met_finish h d σ top (0 + 4) s1 w1) (cwV 2 K.2.2.2.2.1 (lw_V q117 q119 qs5 q16 q120) rfl rfl rfl (by decide +kernel) ⟨Nat.le_of_ble_eq_true rfl, Nat.le_of_ble_eq_true rfl⟩) rfl rfl rfl hl.1 rfl (Nat.le_of_ble_eq_true rfl) dX0_afterFirst_191 ⟨Nat.zero_le _, Nat.zero_le _⟩ (fun u H locs S hu => ?_)
                  rw [hu] at S
                  refine lv_goto (tgt := 254) K.1 K.2.1 dX0_afterFirst_194 (by decide) ?_
                  exact ret _ _ _ _ _ dX0_afterFirst_254 S (by unfold pFirst pRes; rw [if_neg (by omega), if_neg (by omega), if_neg (by omega), if_neg (by omega), if_pos (by omega), if_pos (by omega)])
              · refine lv_iload K.1 K.2.1 dX0_afterFirst_171 (lv_at hl 6 rfl) ?_
                refine lv_bipush (v := nI 7) K.1 K.2.1 dX0_afterFirst_173 (by decide) ?_
                refine bn_ne (tgt := 197) (by omega) (by omega) K.1 K.2.1 dX0_afterFirst_175 (by decide) (fun c175 => ?_) (fun c175 => ?_)
                · refine lv_iload K.1 K.2.1 dX0_afterFirst_197 (lv_at hl 6 rfl) ?_
                  refine lv_bipush (v := nI 8) K.1 K.2.1 dX0_afterFirst_199 (by decide) ?_
                  refine bn_ne (tgt := 222) (by omega) (by omega) K.1 K.2.1 dX0_afterFirst_201 (by decide) (fun c201 => ?_) (fun c201 => ?_)
                  · refine lv_iload K.1 K.2.1 dX0_afterFirst_222 (lv_at hl 6 rfl) ?_
                    refine lv_bipush (v := nI 9) K.1 K.2.1 dX0_afterFirst_224 (by decide) ?_
                    refine bn_ne (tgt := 247) (by omega) (by omega) K.1 K.2.1 dX0_afterFirst_226 (by decide) (fun c226 => ?_) (fun c226 => ?_)
                    · refine lv_aload_n K.1 K.2.1 dX0_afterFirst_247 rfl (lv_at hl 2 rfl) ?_
                      refine lv_iload_n K.1 K.2.1 dX0_afterFirst_248 rfl (lv_at hl 3 rfl) ?_
                      refine lv_iload K.1 K.2.1 dX0_afterFirst_249 (lv_at hl 0 rfl) ?_
                      refine cvV K S (met_finish h d σ top (σ.2 11 ((21 * (pPart σ n - 1)) + q)) s1 w1) (cwV 2 K.2.2.2.2.1 (lw_V q117 q119 qs5 q16 q120) rfl rfl rfl (by decide +kernel) ⟨Nat.le_of_ble_eq_true rfl, Nat.le_of_ble_eq_true rfl⟩) rfl rfl rfl hl.1 rfl (Nat.le_of_ble_eq_true rfl) dX0_afterFirst_251 ⟨Nat.zero_le _, Nat.zero_le _⟩ (fun u H locs S hu => ?_)
                      rw [hu] at S
                      exact ret _ _ _ _ _ dX0_afterFirst_254 S (by unfold pFirst pRes; rw [if_neg (by omega), if_neg (by omega), if_neg (by omega), if_neg (by omega), if_neg (by omega), if_neg (by omega), if_neg (by omega)])
                    · refine lv_aload_n K.1 K.2.1 dX0_afterFirst_229 rfl (lv_at hl 2 rfl) ?_
                      refine lv_iload_n K.1 K.2.1 dX0_afterFirst_230 rfl (lv_at hl 3 rfl) ?_
                      refine lv_iload K.1 K.2.1 dX0_afterFirst_231 (lv_at hl 0 rfl) ?_
                      refine be_ge0 (tgt := 240) (by omega) K.1 K.2.1 dX0_afterFirst_233 (by decide) (fun c233 => ?_) (fun c233 => ?_)
                      · refine lv_iconst (v := -1) K.1 K.2.1 dX0_afterFirst_240 (by decide) ?_
                        refine lv_to (show (-1 : Int32) = e4 3 by decide) ?_
                        refine cvV K S (met_finish h d σ top 3 s1 w1) (cwV 2 K.2.2.2.2.1 (lw_V q117 q119 qs5 q16 q120) rfl rfl rfl (by decide +kernel) ⟨Nat.le_of_ble_eq_true rfl, Nat.le_of_ble_eq_true rfl⟩) rfl rfl rfl hl.1 rfl (Nat.le_of_ble_eq_true rfl) dX0_afterFirst_241 ⟨Nat.zero_le _, Nat.zero_le _⟩ (fun u H locs S hu => ?_)
                        rw [hu] at S
                        refine lv_goto (tgt := 254) K.1 K.2.1 dX0_afterFirst_244 (by decide) ?_
                        exact ret _ _ _ _ _ dX0_afterFirst_254 S (by unfold pFirst pRes; rw [if_neg (by omega), if_neg (by omega), if_neg (by omega), if_neg (by omega), if_neg (by omega), if_neg (by omega), if_pos (by omega), if_neg (by omega)])
                      · refine lv_iconst (v := nI 0) K.1 K.2.1 dX0_afterFirst_236 (by decide) ?_
                        refine lv_goto (tgt := 241) K.1 K.2.1 dX0_afterFirst_237 (by decide) ?_
                        refine lv_to (nI_e4 _) ?_
                        refine cvV K S (met_finish h d σ top (0 + 4) s1 w1) (cwV 2 K.2.2.2.2.1 (lw_V q117 q119 qs5 q16 q120) rfl rfl rfl (by decide +kernel) ⟨Nat.le_of_ble_eq_true rfl, Nat.le_of_ble_eq_true rfl⟩) rfl rfl rfl hl.1 rfl (Nat.le_of_ble_eq_true rfl) dX0_afterFirst_241 ⟨Nat.zero_le _, Nat.zero_le _⟩ (fun u H locs S hu => ?_)
                        rw [hu] at S
                        refine lv_goto (tgt := 254) K.1 K.2.1 dX0_afterFirst_244 (by decide) ?_
                        exact ret _ _ _ _ _ dX0_afterFirst_254 S (by unfold pFirst pRes; rw [if_neg (by omega), if_neg (by omega), if_neg (by omega), if_neg (by omega), if_neg (by omega), if_neg (by omega), if_pos (by omega), if_pos (by omega)])
                  · refine lv_aload_n K.1 K.2.1 dX0_afterFirst_204 rfl (lv_at hl 2 rfl) ?_
                    refine lv_iload_n K.1 K.2.1 dX0_afterFirst_205 rfl (lv_at hl 3 rfl) ?_
                    refine lv_iload K.1 K.2.1 dX0_afterFirst_206 (lv_at hl 0 rfl) ?_
                    refine be_ge0 (tgt := 215) (by omega) K.1 K.2.1 dX0_afterFirst_208 (by decide) (fun c208 => ?_) (fun c208 => ?_)
                    · refine lv_iconst (v := nI 0) K.1 K.2.1 dX0_afterFirst_215 (by decide) ?_
                      refine lv_to (nI_e4 _) ?_
                      refine cvV K S (met_finish h d σ top (0 + 4) s1 w1) (cwV 2 K.2.2.2.2.1 (lw_V q117 q119 qs5 q16 q120) rfl rfl rfl (by decide +kernel) ⟨Nat.le_of_ble_eq_true rfl, Nat.le_of_ble_eq_true rfl⟩) rfl rfl rfl hl.1 rfl (Nat.le_of_ble_eq_true rfl) dX0_afterFirst_216 ⟨Nat.zero_le _, Nat.zero_le _⟩ (fun u H locs S hu => ?_)
                      rw [hu] at S
                      refine lv_goto (tgt := 254) K.1 K.2.1 dX0_afterFirst_219 (by decide) ?_
                      exact ret _ _ _ _ _ dX0_afterFirst_254 S (by unfold pFirst pRes; rw [if_neg (by omega), if_neg (by omega), if_neg (by omega), if_neg (by omega), if_neg (by omega), if_pos (by omega), if_neg (by omega)])
                    · refine lv_iconst (v := -1) K.1 K.2.1 dX0_afterFirst_211 (by decide) ?_
                      refine lv_goto (tgt := 216) K.1 K.2.1 dX0_afterFirst_212 (by decide) ?_
                      refine lv_to (show (-1 : Int32) = e4 3 by decide) ?_
                      refine cvV K S (met_finish h d σ top 3 s1 w1) (cwV 2 K.2.2.2.2.1 (lw_V q117 q119 qs5 q16 q120) rfl rfl rfl (by decide +kernel) ⟨Nat.le_of_ble_eq_true rfl, Nat.le_of_ble_eq_true rfl⟩) rfl rfl rfl hl.1 rfl (Nat.le_of_ble_eq_true rfl) dX0_afterFirst_216 ⟨Nat.zero_le _, Nat.zero_le _⟩ (fun u H locs S hu => ?_)
                      rw [hu] at S
                      refine lv_goto (tgt := 254) K.1 K.2.1 dX0_afterFirst_219 (by decide) ?_
                      exact ret _ _ _ _ _ dX0_afterFirst_254 S (by unfold pFirst pRes; rw [if_neg (by omega), if_neg (by omega), if_neg (by omega), if_neg (by omega), if_neg (by omega), if_pos (by omega), if_pos (by omega)])
                · refine lv_aload_n K.1 K.2.1 dX0_afterFirst_178 rfl (lv_at hl 2 rfl) ?_
                  refine lv_iload_n K.1 K.2.1 dX0_afterFirst_179 rfl (lv_at hl 3 rfl) ?_
                  refine lv_iload K.1 K.2.1 dX0_afterFirst_180 (lv_at hl 0 rfl) ?_
                  refine be_ge0 (tgt := 189) (by omega) K.1 K.2.1 dX0_afterFirst_182 (by decide) (fun c182 => ?_) (fun c182 => ?_)
                  · refine lv_iload K.1 K.2.1 dX0_afterFirst_189 (lv_at hl 0 rfl) ?_
                    refine cvV K S (met_finish h d σ top (σ.2 11 ((21 * (pPart σ n - 1)) + q)) s1 w1) (cwV 2 K.2.2.2.2.1 (lw_V q117 q119 qs5 q16 q120) rfl rfl rfl (by decide +kernel) ⟨Nat.le_of_ble_eq_true rfl, Nat.le_of_ble_eq_true rfl⟩) rfl rfl rfl hl.1 rfl (Nat.le_of_ble_eq_true rfl) dX0_afterFirst_191 ⟨Nat.zero_le _, Nat.zero_le _⟩ (fun u H locs S hu => ?_)
                    rw [hu] at S
                    refine lv_goto (tgt := 254) K.1 K.2.1 dX0_afterFirst_194 (by decide) ?_
                    exact ret _ _ _ _ _ dX0_afterFirst_254 S (by unfold pFirst pRes; rw [if_neg (by omega), if_neg (by omega), if_neg (by omega), if_neg (by omega), if_pos (by omega), if_neg (by omega)])
                  · refine lv_iconst (v := nI 0) K.1 K.2.1 dX0_afterFirst_185 (by decide) ?_
                    refine lv_goto (tgt := 191) K.1 K.2.1 dX0_afterFirst_186 (by decide) ?_
                    refine lv_to (nI_e4 _) ?_
                    refine cvV K S (met_finish h d σ top (0 + 4) s1 w1) (cwV 2 K.2.2.2.2.1 (lw_V q117 q119 qs5 q16 q120) rfl rfl rfl (by decide +kernel) ⟨Nat.le_of_ble_eq_true rfl, Nat.le_of_ble_eq_true rfl⟩) rfl rfl rfl hl.1 rfl (Nat.le_of_ble_eq_true rfl) dX0_afterFirst_191 ⟨Nat.zero_le _, Nat.zero_le _⟩ (fun u H locs S hu => ?_)
                    rw [hu] at S
                    refine lv_goto (tgt := 254) K.1 K.2.1 dX0_afterFirst_194 (by decide) ?_
                    exact ret _ _ _ _ _ dX0_afterFirst_254 S (by unfold pFirst pRes; rw [if_neg (by omega), if_neg (by omega), if_neg (by omega), if_neg (by omega), if_pos (by omega), if_pos (by omega)])
            · refine lv_iload K.1 K.2.1 dX0_afterFirst_137 (lv_at hl 0 rfl) ?_
              refine be_le0 (tgt := 164) (by omega) K.1 K.2.1 dX0_afterFirst_139 (by decide) (fun c139 => ?_) (fun c139 => ?_)
              · refine lv_iload K.1 K.2.1 dX0_afterFirst_164 (lv_at hl 6 rfl) ?_
                refine lv_bipush (v := nI 6) K.1 K.2.1 dX0_afterFirst_166 (by decide) ?_
                refine bn_eq (tgt := 178) (by omega) (by omega) K.1 K.2.1 dX0_afterFirst_168 (by decide) (fun c168 => ?_) (fun c168 => ?_)
                · refine lv_aload_n K.1 K.2.1 dX0_afterFirst_178 rfl (lv_at hl 2 rfl) ?_
                  refine lv_iload_n K.1 K.2.1 dX0_afterFirst_179 rfl (lv_at hl 3 rfl) ?_
                  refine lv_iload K.1 K.2.1 dX0_afterFirst_180 (lv_at hl 0 rfl) ?_
                  refine be_ge0 (tgt := 189) (by omega) K.1 K.2.1 dX0_afterFirst_182 (by decide) (fun c182 => ?_) (fun c182 => ?_)
                  · refine lv_iload K.1 K.2.1 dX0_afterFirst_189 (lv_at hl 0 rfl) ?_
                    refine cvV K S (met_finish h d σ top (σ.2 11 ((21 * (pPart σ n - 1)) + q)) s1 w1) (cwV 2 K.2.2.2.2.1 (lw_V q117 q119 qs5 q16 q120) rfl rfl rfl (by decide +kernel) ⟨Nat.le_of_ble_eq_true rfl, Nat.le_of_ble_eq_true rfl⟩) rfl rfl rfl hl.1 rfl (Nat.le_of_ble_eq_true rfl) dX0_afterFirst_191 ⟨Nat.zero_le _, Nat.zero_le _⟩ (fun u H locs S hu => ?_)
                    rw [hu] at S
                    refine lv_goto (tgt := 254) K.1 K.2.1 dX0_afterFirst_194 (by decide) ?_
                    exact ret _ _ _ _ _ dX0_afterFirst_254 S (by unfold pFirst pRes; rw [if_neg (by omega), if_neg (by omega), if_neg (by omega), if_neg (by omega), if_pos (by omega), if_neg (by omega)])
                  · refine lv_iconst (v := nI 0) K.1 K.2.1 dX0_afterFirst_185 (by decide) ?_
                    refine lv_goto (tgt := 191) K.1 K.2.1 dX0_afterFirst_186 (by decide) ?_
                    refine lv_to (nI_e4 _) ?_
                    refine cvV K S (met_finish h d σ top (0 + 4) s1 w1) (cwV 2 K.2.2.2.2.1 (lw_V q117 q119 qs5 q16 q120) rfl rfl rfl (by decide +kernel) ⟨Nat.le_of_ble_eq_true rfl, Nat.le_of_ble_eq_true rfl⟩) rfl rfl rfl hl.1 rfl (Nat.le_of_ble_eq_true rfl) dX0_afterFirst_191 ⟨Nat.zero_le _, Nat.zero_le _⟩ (fun u H locs S hu => ?_)
                    rw [hu] at S
                    refine lv_goto (tgt := 254) K.1 K.2.1 dX0_afterFirst_194 (by decide) ?_
                    exact ret _ _ _ _ _ dX0_afterFirst_254 S (by unfold pFirst pRes; rw [if_neg (by omega), if_neg (by omega), if_neg (by omega), if_neg (by omega), if_pos (by omega), if_pos (by omega)])
                · refine lv_iload K.1 K.2.1 dX0_afterFirst_171 (lv_at hl 6 rfl) ?_
                  refine lv_bipush (v := nI 7) K.1 K.2.1 dX0_afterFirst_173 (by decide) ?_
                  refine bn_ne (tgt := 197) (by omega) (by omega) K.1 K.2.1 dX0_afterFirst_175 (by decide) (fun c175 => ?_) (fun c175 => ?_)
                  · refine lv_iload K.1 K.2.1 dX0_afterFirst_197 (lv_at hl 6 rfl) ?_
                    refine lv_bipush (v := nI 8) K.1 K.2.1 dX0_afterFirst_199 (by decide) ?_
                    refine bn_ne (tgt := 222) (by omega) (by omega) K.1 K.2.1 dX0_afterFirst_201 (by decide) (fun c201 => ?_) (fun c201 => ?_)
                    · refine lv_iload K.1 K.2.1 dX0_afterFirst_222 (lv_at hl 6 rfl) ?_
                      refine lv_bipush (v := nI 9) K.1 K.2.1 dX0_afterFirst_224 (by decide) ?_
                      refine bn_ne (tgt := 247) (by omega) (by omega) K.1 K.2.1 dX0_afterFirst_226 (by decide) (fun c226 => ?_) (fun c226 => ?_)
                      · refine lv_aload_n K.1 K.2.1 dX0_afterFirst_247 rfl (lv_at hl 2 rfl) ?_
                        refine lv_iload_n K.1 K.2.1 dX0_afterFirst_248 rfl (lv_at hl 3 rfl) ?_
                        refine lv_iload K.1 K.2.1 dX0_afterFirst_249 (lv_at hl 0 rfl) ?_
                        refine cvV K S (met_finish h d σ top (σ.2 11 ((21 * (pPart σ n - 1)) + q)) s1 w1) (cwV 2 K.2.2.2.2.1 (lw_V q117 q119 qs5 q16 q120) rfl rfl rfl (by decide +kernel) ⟨Nat.le_of_ble_eq_true rfl, Nat.le_of_ble_eq_true rfl⟩) rfl rfl rfl hl.1 rfl (Nat.le_of_ble_eq_true rfl) dX0_afterFirst_251 ⟨Nat.zero_le _, Nat.zero_le _⟩ (fun u H locs S hu => ?_)
                        rw [hu] at S
                        exact ret _ _ _ _ _ dX0_afterFirst_254 S (by unfold pFirst pRes; rw [if_neg (by omega), if_neg (by omega), if_neg (by omega), if_neg (by omega), if_neg (by omega), if_neg (by omega), if_neg (by omega)])
                      · refine lv_aload_n K.1 K.2.1 dX0_afterFirst_229 rfl (lv_at hl 2 rfl) ?_
                        refine lv_iload_n K.1 K.2.1 dX0_afterFirst_230 rfl (lv_at hl 3 rfl) ?_
                        refine lv_iload K.1 K.2.1 dX0_afterFirst_231 (lv_at hl 0 rfl) ?_
                        refine be_ge0 (tgt := 240) (by omega) K.1 K.2.1 dX0_afterFirst_233 (by decide) (fun c233 => ?_) (fun c233 => ?_)
                        · refine lv_iconst (v := -1) K.1 K.2.1 dX0_afterFirst_240 (by decide) ?_
                          refine lv_to (show (-1 : Int32) = e4 3 by decide) ?_
                          refine cvV K S (met_finish h d σ top 3 s1 w1) (cwV 2 K.2.2.2.2.1 (lw_V q117 q119 qs5 q16 q120) rfl rfl rfl (by decide +kernel) ⟨Nat.le_of_ble_eq_true rfl, Nat.le_of_ble_eq_true rfl⟩) rfl rfl rfl hl.1 rfl (Nat.le_of_ble_eq_true rfl) dX0_afterFirst_241 ⟨Nat.zero_le _, Nat.zero_le _⟩ (fun u H locs S hu => ?_)
                          rw [hu] at S
                          refine lv_goto (tgt := 254) K.1 K.2.1 dX0_afterFirst_244 (by decide) ?_
                          exact ret _ _ _ _ _ dX0_afterFirst_254 S (by unfold pFirst pRes; rw [if_neg (by omega), if_neg (by omega), if_neg (by omega), if_neg (by omega), if_neg (by omega), if_neg (by omega), if_pos (by omega), if_neg (by omega)])
                        · refine lv_iconst (v := nI 0) K.1 K.2.1 dX0_afterFirst_236 (by decide) ?_
                          refine lv_goto (tgt := 241) K.1 K.2.1 dX0_afterFirst_237 (by decide) ?_
                          refine lv_to (nI_e4 _) ?_
                          refine cvV K S (met_finish h d σ top (0 + 4) s1 w1) (cwV 2 K.2.2.2.2.1 (lw_V q117 q119 qs5 q16 q120) rfl rfl rfl (by decide +kernel) ⟨Nat.le_of_ble_eq_true rfl, Nat.le_of_ble_eq_true rfl⟩) rfl rfl rfl hl.1 rfl (Nat.le_of_ble_eq_true rfl) dX0_afterFirst_241 ⟨Nat.zero_le _, Nat.zero_le _⟩ (fun u H locs S hu => ?_)
                          rw [hu] at S
                          refine lv_goto (tgt := 254) K.1 K.2.1 dX0_afterFirst_244 (by decide) ?_
                          exact ret _ _ _ _ _ dX0_afterFirst_254 S (by unfold pFirst pRes; rw [if_neg (by omega), if_neg (by omega), if_neg (by omega), if_neg (by omega), if_neg (by omega), if_neg (by omega), if_pos (by omega), if_pos (by omega)])
                    · refine lv_aload_n K.1 K.2.1 dX0_afterFirst_204 rfl (lv_at hl 2 rfl) ?_
                      refine lv_iload_n K.1 K.2.1 dX0_afterFirst_205 rfl (lv_at hl 3 rfl) ?_
                      refine lv_iload K.1 K.2.1 dX0_afterFirst_206 (lv_at hl 0 rfl) ?_
                      refine be_ge0 (tgt := 215) (by omega) K.1 K.2.1 dX0_afterFirst_208 (by decide) (fun c208 => ?_) (fun c208 => ?_)
                      · refine lv_iconst (v := nI 0) K.1 K.2.1 dX0_afterFirst_215 (by decide) ?_
                        refine lv_to (nI_e4 _) ?_
                        refine cvV K S (met_finish h d σ top (0 + 4) s1 w1) (cwV 2 K.2.2.2.2.1 (lw_V q117 q119 qs5 q16 q120) rfl rfl rfl (by decide +kernel) ⟨Nat.le_of_ble_eq_true rfl, Nat.le_of_ble_eq_true rfl⟩) rfl rfl rfl hl.1 rfl (Nat.le_of_ble_eq_true rfl) dX0_afterFirst_216 ⟨Nat.zero_le _, Nat.zero_le _⟩ (fun u H locs S hu => ?_)
                        rw [hu] at S
                        refine lv_goto (tgt := 254) K.1 K.2.1 dX0_afterFirst_219 (by decide) ?_
                        exact ret _ _ _ _ _ dX0_afterFirst_254 S (by unfold pFirst pRes; rw [if_neg (by omega), if_neg (by omega), if_neg (by omega), if_neg (by omega), if_neg (by omega), if_pos (by omega), if_neg (by omega)])
                      · refine lv_iconst (v := -1) K.1 K.2.1 dX0_afterFirst_211 (by decide) ?_
                        refine lv_goto (tgt := 216) K.1 K.2.1 dX0_afterFirst_212 (by decide) ?_
                        refine lv_to (show (-1 : Int32) = e4 3 by decide) ?_
                        refine cvV K S (met_finish h d σ top 3 s1 w1) (cwV 2 K.2.2.2.2.1 (lw_V q117 q119 qs5 q16 q120) rfl rfl rfl (by decide +kernel) ⟨Nat.le_of_ble_eq_true rfl, Nat.le_of_ble_eq_true rfl⟩) rfl rfl rfl hl.1 rfl (Nat.le_of_ble_eq_true rfl) dX0_afterFirst_216 ⟨Nat.zero_le _, Nat.zero_le _⟩ (fun u H locs S hu => ?_)
                        rw [hu] at S
                        refine lv_goto (tgt := 254) K.1 K.2.1 dX0_afterFirst_219 (by decide) ?_
                        exact ret _ _ _ _ _ dX0_afterFirst_254 S (by unfold pFirst pRes; rw [if_neg (by omega), if_neg (by omega), if_neg (by omega), if_neg (by omega), if_neg (by omega), if_pos (by omega), if_pos (by omega)])
                  · refine lv_aload_n K.1 K.2.1 dX0_afterFirst_178 rfl (lv_at hl 2 rfl) ?_
                    refine lv_iload_n K.1 K.2.1 dX0_afterFirst_179 rfl (lv_at hl 3 rfl) ?_
                    refine lv_iload K.1 K.2.1 dX0_afterFirst_180 (lv_at hl 0 rfl) ?_
                    refine be_ge0 (tgt := 189) (by omega) K.1 K.2.1 dX0_afterFirst_182 (by decide) (fun c182 => ?_) (fun c182 => ?_)
                    · refine lv_iload K.1 K.2.1 dX0_afterFirst_189 (lv_at hl 0 rfl) ?_
                      refine cvV K S (met_finish h d σ top (σ.2 11 ((21 * (pPart σ n - 1)) + q)) s1 w1) (cwV 2 K.2.2.2.2.1 (lw_V q117 q119 qs5 q16 q120) rfl rfl rfl (by decide +kernel) ⟨Nat.le_of_ble_eq_true rfl, Nat.le_of_ble_eq_true rfl⟩) rfl rfl rfl hl.1 rfl (Nat.le_of_ble_eq_true rfl) dX0_afterFirst_191 ⟨Nat.zero_le _, Nat.zero_le _⟩ (fun u H locs S hu => ?_)
                      rw [hu] at S
                      refine lv_goto (tgt := 254) K.1 K.2.1 dX0_afterFirst_194 (by decide) ?_
                      exact ret _ _ _ _ _ dX0_afterFirst_254 S (by unfold pFirst pRes; rw [if_neg (by omega), if_neg (by omega), if_neg (by omega), if_neg (by omega), if_pos (by omega), if_neg (by omega)])
                    · refine lv_iconst (v := nI 0) K.1 K.2.1 dX0_afterFirst_185 (by decide) ?_
                      refine lv_goto (tgt := 191) K.1 K.2.1 dX0_afterFirst_186 (by decide) ?_
                      refine lv_to (nI_e4 _) ?_
                      refine cvV K S (met_finish h d σ top (0 + 4) s1 w1) (cwV 2 K.2.2.2.2.1 (lw_V q117 q119 qs5 q16 q120) rfl rfl rfl (by decide +kernel) ⟨Nat.le_of_ble_eq_true rfl, Nat.le_of_ble_eq_true rfl⟩) rfl rfl rfl hl.1 rfl (Nat.le_of_ble_eq_true rfl) dX0_afterFirst_191 ⟨Nat.zero_le _, Nat.zero_le _⟩ (fun u H locs S hu => ?_)
                      rw [hu] at S
                      refine lv_goto (tgt := 254) K.1 K.2.1 dX0_afterFirst_194 (by decide) ?_
                      exact ret _ _ _ _ _ dX0_afterFirst_254 S (by unfold pFirst pRes; rw [if_neg (by omega), if_neg (by omega), if_neg (by omega), if_neg (by omega), if_pos (by omega), if_pos (by omega)])
              · refine lv_aload_n K.1 K.2.1 dX0_afterFirst_142 rfl (lv_at hl 2 rfl) ?_
                refine p0g_taken K S dX0_afterFirst_143 ?_
                refine lv_iload_n K.1 K.2.1 dX0_afterFirst_146 rfl (lv_at hl 3 rfl) ?_
                refine lv_iload K.1 K.2.1 dX0_afterFirst_147 (lv_at hl 0 rfl) ?_
                refine lv_to (e4_nI (by omega)) ?_
                refine p0s_taken (show top < 840 by omega) K S dX0_afterFirst_149 (fun H locs S => ?_)
                refine lv_aload_n K.1 K.2.1 dX0_afterFirst_150 rfl (lv_at hl 2 rfl) ?_
                refine lv_iload_n K.1 K.2.1 dX0_afterFirst_151 rfl (lv_at hl 3 rfl) ?_
                refine lv_iload_n K.1 K.2.1 dX0_afterFirst_152 rfl (lv_at hl 4 rfl) ?_
                refine lv_iload_n K.1 K.2.1 dX0_afterFirst_153 rfl (lv_at hl 5 rfl) ?_
                refine lv_iload K.1 K.2.1 dX0_afterFirst_154 (lv_at hl 0 rfl) ?_
                refine lv_iadd K.1 K.2.1 dX0_afterFirst_156 ?_
                refine lv_to (nI_add_e4 _ _) ?_
                refine lv_iconst (v := nI 2) K.1 K.2.1 dX0_afterFirst_157 (by decide) ?_
                refine lv_to2 (e4_nI (by omega)) ?_
                have hi : 21 * n + (q + (σ.2 11 ((21 * (pPart σ n - 1)) + q)) - 4) < 840 := by omega
                refine cvV K S (met_need h d (setA σ 15 top (σ.2 11 ((21 * (pPart σ n - 1)) + q) - 4)) top n (q + (σ.2 11 ((21 * (pPart σ n - 1)) + q)) - 4) 2 s1 hi (s6 _ hi) (s7 _ hi) s3 w13) (cwV 4 K.2.2.2.2.1 (lw_V q125 q127 qs7 q16 q128) rfl rfl rfl (by decide +kernel) ⟨Nat.le_of_ble_eq_true rfl, Nat.le_of_ble_eq_true rfl⟩) rfl rfl rfl hl.1 rfl (Nat.le_of_ble_eq_true rfl) dX0_afterFirst_158 ⟨Nat.zero_le _, Nat.zero_le _⟩ (fun u H locs S hu => ?_)
                rw [hu] at S
                refine lv_goto (tgt := 254) K.1 K.2.1 dX0_afterFirst_161 (by decide) ?_
                exact ret _ _ _ _ _ dX0_afterFirst_254 S (by unfold pFirst pRes; rw [if_neg (by omega), if_neg (by omega), if_neg (by omega), if_pos (by omega)])
          · refine lv_iload K.1 K.2.1 dX0_afterFirst_102 (lv_at hl 0 rfl) ?_
            refine be_ge0 (tgt := 130) (by omega) K.1 K.2.1 dX0_afterFirst_104 (by decide) (fun c104 => ?_) (fun c104 => ?_)
            · refine lv_iload K.1 K.2.1 dX0_afterFirst_130 (lv_at hl 6 rfl) ?_
              refine lv_bipush (v := nI 6) K.1 K.2.1 dX0_afterFirst_132 (by decide) ?_
              refine bn_ne (tgt := 164) (by omega) (by omega) K.1 K.2.1 dX0_afterFirst_134 (by decide) (fun c134 => ?_) (fun c134 => ?_)
              · refine lv_iload K.1 K.2.1 dX0_afterFirst_164 (lv_at hl 6 rfl) ?_
                refine lv_bipush (v := nI 6) K.1 K.2.1 dX0_afterFirst_166 (by decide) ?_
                refine bn_eq (tgt := 178) (by omega) (by omega) K.1 K.2.1 dX0_afterFirst_168 (by decide) (fun c168 => ?_) (fun c168 => ?_)
                · refine lv_aload_n K.1 K.2.1 dX0_afterFirst_178 rfl (lv_at hl 2 rfl) ?_
                  refine lv_iload_n K.1 K.2.1 dX0_afterFirst_179 rfl (lv_at hl 3 rfl) ?_
                  refine lv_iload K.1 K.2.1 dX0_afterFirst_180 (lv_at hl 0 rfl) ?_
                  refine be_ge0 (tgt := 189) (by omega) K.1 K.2.1 dX0_afterFirst_182 (by decide) (fun c182 => ?_) (fun c182 => ?_)
                  · refine lv_iload K.1 K.2.1 dX0_afterFirst_189 (lv_at hl 0 rfl) ?_
                    refine cvV K S (met_finish h d σ top (σ.2 11 ((21 * (pPart σ n - 1)) + q)) s1 w1) (cwV 2 K.2.2.2.2.1 (lw_V q117 q119 qs5 q16 q120) rfl rfl rfl (by decide +kernel) ⟨Nat.le_of_ble_eq_true rfl, Nat.le_of_ble_eq_true rfl⟩) rfl rfl rfl hl.1 rfl (Nat.le_of_ble_eq_true rfl) dX0_afterFirst_191 ⟨Nat.zero_le _, Nat.zero_le _⟩ (fun u H locs S hu => ?_)
                    rw [hu] at S
                    refine lv_goto (tgt := 254) K.1 K.2.1 dX0_afterFirst_194 (by decide) ?_
                    exact ret _ _ _ _ _ dX0_afterFirst_254 S (by unfold pFirst pRes; rw [if_neg (by omega), if_neg (by omega), if_neg (by omega), if_neg (by omega), if_pos (by omega), if_neg (by omega)])
                  · refine lv_iconst (v := nI 0) K.1 K.2.1 dX0_afterFirst_185 (by decide) ?_
                    refine lv_goto (tgt := 191) K.1 K.2.1 dX0_afterFirst_186 (by decide) ?_
                    refine lv_to (nI_e4 _) ?_
                    refine cvV K S (met_finish h d σ top (0 + 4) s1 w1) (cwV 2 K.2.2.2.2.1 (lw_V q117 q119 qs5 q16 q120) rfl rfl rfl (by decide +kernel) ⟨Nat.le_of_ble_eq_true rfl, Nat.le_of_ble_eq_true rfl⟩) rfl rfl rfl hl.1 rfl (Nat.le_of_ble_eq_true rfl) dX0_afterFirst_191 ⟨Nat.zero_le _, Nat.zero_le _⟩ (fun u H locs S hu => ?_)
                    rw [hu] at S
                    refine lv_goto (tgt := 254) K.1 K.2.1 dX0_afterFirst_194 (by decide) ?_
                    exact ret _ _ _ _ _ dX0_afterFirst_254 S (by unfold pFirst pRes; rw [if_neg (by omega), if_neg (by omega), if_neg (by omega), if_neg (by omega), if_pos (by omega), if_pos (by omega)])
                · refine lv_iload K.1 K.2.1 dX0_afterFirst_171 (lv_at hl 6 rfl) ?_
                  refine lv_bipush (v := nI 7) K.1 K.2.1 dX0_afterFirst_173 (by decide) ?_
                  refine bn_ne (tgt := 197) (by omega) (by omega) K.1 K.2.1 dX0_afterFirst_175 (by decide) (fun c175 => ?_) (fun c175 => ?_)
                  · refine lv_iload K.1 K.2.1 dX0_afterFirst_197 (lv_at hl 6 rfl) ?_
                    refine lv_bipush (v := nI 8) K.1 K.2.1 dX0_afterFirst_199 (by decide) ?_
                    refine bn_ne (tgt := 222) (by omega) (by omega) K.1 K.2.1 dX0_afterFirst_201 (by decide) (fun c201 => ?_) (fun c201 => ?_)
                    · refine lv_iload K.1 K.2.1 dX0_afterFirst_222 (lv_at hl 6 rfl) ?_
                      refine lv_bipush (v := nI 9) K.1 K.2.1 dX0_afterFirst_224 (by decide) ?_
                      refine bn_ne (tgt := 247) (by omega) (by omega) K.1 K.2.1 dX0_afterFirst_226 (by decide) (fun c226 => ?_) (fun c226 => ?_)
                      · refine lv_aload_n K.1 K.2.1 dX0_afterFirst_247 rfl (lv_at hl 2 rfl) ?_
                        refine lv_iload_n K.1 K.2.1 dX0_afterFirst_248 rfl (lv_at hl 3 rfl) ?_
                        refine lv_iload K.1 K.2.1 dX0_afterFirst_249 (lv_at hl 0 rfl) ?_
                        refine cvV K S (met_finish h d σ top (σ.2 11 ((21 * (pPart σ n - 1)) + q)) s1 w1) (cwV 2 K.2.2.2.2.1 (lw_V q117 q119 qs5 q16 q120) rfl rfl rfl (by decide +kernel) ⟨Nat.le_of_ble_eq_true rfl, Nat.le_of_ble_eq_true rfl⟩) rfl rfl rfl hl.1 rfl (Nat.le_of_ble_eq_true rfl) dX0_afterFirst_251 ⟨Nat.zero_le _, Nat.zero_le _⟩ (fun u H locs S hu => ?_)
                        rw [hu] at S
                        exact ret _ _ _ _ _ dX0_afterFirst_254 S (by unfold pFirst pRes; rw [if_neg (by omega), if_neg (by omega), if_neg (by omega), if_neg (by omega), if_neg (by omega), if_neg (by omega), if_neg (by omega)])
                      · refine lv_aload_n K.1 K.2.1 dX0_afterFirst_229 rfl (lv_at hl 2 rfl) ?_
                        refine lv_iload_n K.1 K.2.1 dX0_afterFirst_230 rfl (lv_at hl 3 rfl) ?_
                        refine lv_iload K.1 K.2.1 dX0_afterFirst_231 (lv_at hl 0 rfl) ?_
                        refine be_ge0 (tgt := 240) (by omega) K.1 K.2.1 dX0_afterFirst_233 (by decide) (fun c233 => ?_) (fun c233 => ?_)
                        · refine lv_iconst (v := -1) K.1 K.2.1 dX0_afterFirst_240 (by decide) ?_
                          refine lv_to (show (-1 : Int32) = e4 3 by decide) ?_
                          refine cvV K S (met_finish h d σ top 3 s1 w1) (cwV 2 K.2.2.2.2.1 (lw_V q117 q119 qs5 q16 q120) rfl rfl rfl (by decide +kernel) ⟨Nat.le_of_ble_eq_true rfl, Nat.le_of_ble_eq_true rfl⟩) rfl rfl rfl hl.1 rfl (Nat.le_of_ble_eq_true rfl) dX0_afterFirst_241 ⟨Nat.zero_le _, Nat.zero_le _⟩ (fun u H locs S hu => ?_)
                          rw [hu] at S
                          refine lv_goto (tgt := 254) K.1 K.2.1 dX0_afterFirst_244 (by decide) ?_
                          exact ret _ _ _ _ _ dX0_afterFirst_254 S (by unfold pFirst pRes; rw [if_neg (by omega), if_neg (by omega), if_neg (by omega), if_neg (by omega), if_neg (by omega), if_neg (by omega), if_pos (by omega), if_neg (by omega)])
                        · refine lv_iconst (v := nI 0) K.1 K.2.1 dX0_afterFirst_236 (by decide) ?_
                          refine lv_goto (tgt := 241) K.1 K.2.1 dX0_afterFirst_237 (by decide) ?_
                          refine lv_to (nI_e4 _) ?_
                          refine cvV K S (met_finish h d σ top (0 + 4) s1 w1) (cwV 2 K.2.2.2.2.1 (lw_V q117 q119 qs5 q16 q120) rfl rfl rfl (by decide +kernel) ⟨Nat.le_of_ble_eq_true rfl, Nat.le_of_ble_eq_true rfl⟩) rfl rfl rfl hl.1 rfl (Nat.le_of_ble_eq_true rfl) dX0_afterFirst_241 ⟨Nat.zero_le _, Nat.zero_le _⟩ (fun u H locs S hu => ?_)
                          rw [hu] at S
                          refine lv_goto (tgt := 254) K.1 K.2.1 dX0_afterFirst_244 (by decide) ?_
                          exact ret _ _ _ _ _ dX0_afterFirst_254 S (by unfold pFirst pRes; rw [if_neg (by omega), if_neg (by omega), if_neg (by omega), if_neg (by omega), if_neg (by omega), if_neg (by omega), if_pos (by omega), if_pos (by omega)])
                    · refine lv_aload_n K.1 K.2.1 dX0_afterFirst_204 rfl (lv_at hl 2 rfl) ?_
                      refine lv_iload_n K.1 K.2.1 dX0_afterFirst_205 rfl (lv_at hl 3 rfl) ?_
                      refine lv_iload K.1 K.2.1 dX0_afterFirst_206 (lv_at hl 0 rfl) ?_
                      refine be_ge0 (tgt := 215) (by omega) K.1 K.2.1 dX0_afterFirst_208 (by decide) (fun c208 => ?_) (fun c208 => ?_)
                      · refine lv_iconst (v := nI 0) K.1 K.2.1 dX0_afterFirst_215 (by decide) ?_
                        refine lv_to (nI_e4 _) ?_
                        refine cvV K S (met_finish h d σ top (0 + 4) s1 w1) (cwV 2 K.2.2.2.2.1 (lw_V q117 q119 qs5 q16 q120) rfl rfl rfl (by decide +kernel) ⟨Nat.le_of_ble_eq_true rfl, Nat.le_of_ble_eq_true rfl⟩) rfl rfl rfl hl.1 rfl (Nat.le_of_ble_eq_true rfl) dX0_afterFirst_216 ⟨Nat.zero_le _, Nat.zero_le _⟩ (fun u H locs S hu => ?_)
                        rw [hu] at S
                        refine lv_goto (tgt := 254) K.1 K.2.1 dX0_afterFirst_219 (by decide) ?_
                        exact ret _ _ _ _ _ dX0_afterFirst_254 S (by unfold pFirst pRes; rw [if_neg (by omega), if_neg (by omega), if_neg (by omega), if_neg (by omega), if_neg (by omega), if_pos (by omega), if_neg (by omega)])
                      · refine lv_iconst (v := -1) K.1 K.2.1 dX0_afterFirst_211 (by decide) ?_
                        refine lv_goto (tgt := 216) K.1 K.2.1 dX0_afterFirst_212 (by decide) ?_
                        refine lv_to (show (-1 : Int32) = e4 3 by decide) ?_
                        refine cvV K S (met_finish h d σ top 3 s1 w1) (cwV 2 K.2.2.2.2.1 (lw_V q117 q119 qs5 q16 q120) rfl rfl rfl (by decide +kernel) ⟨Nat.le_of_ble_eq_true rfl, Nat.le_of_ble_eq_true rfl⟩) rfl rfl rfl hl.1 rfl (Nat.le_of_ble_eq_true rfl) dX0_afterFirst_216 ⟨Nat.zero_le _, Nat.zero_le _⟩ (fun u H locs S hu => ?_)
                        rw [hu] at S
                        refine lv_goto (tgt := 254) K.1 K.2.1 dX0_afterFirst_219 (by decide) ?_
                        exact ret _ _ _ _ _ dX0_afterFirst_254 S (by unfold pFirst pRes; rw [if_neg (by omega), if_neg (by omega), if_neg (by omega), if_neg (by omega), if_neg (by omega), if_pos (by omega), if_pos (by omega)])
                  · refine lv_aload_n K.1 K.2.1 dX0_afterFirst_178 rfl (lv_at hl 2 rfl) ?_
                    refine lv_iload_n K.1 K.2.1 dX0_afterFirst_179 rfl (lv_at hl 3 rfl) ?_
                    refine lv_iload K.1 K.2.1 dX0_afterFirst_180 (lv_at hl 0 rfl) ?_
                    refine be_ge0 (tgt := 189) (by omega) K.1 K.2.1 dX0_afterFirst_182 (by decide) (fun c182 => ?_) (fun c182 => ?_)
                    · refine lv_iload K.1 K.2.1 dX0_afterFirst_189 (lv_at hl 0 rfl) ?_
                      refine cvV K S (met_finish h d σ top (σ.2 11 ((21 * (pPart σ n - 1)) + q)) s1 w1) (cwV 2 K.2.2.2.2.1 (lw_V q117 q119 qs5 q16 q120) rfl rfl rfl (by decide +kernel) ⟨Nat.le_of_ble_eq_true rfl, Nat.le_of_ble_eq_true rfl⟩) rfl rfl rfl hl.1 rfl (Nat.le_of_ble_eq_true rfl) dX0_afterFirst_191 ⟨Nat.zero_le _, Nat.zero_le _⟩ (fun u H locs S hu => ?_)
                      rw [hu] at S
                      refine lv_goto (tgt := 254) K.1 K.2.1 dX0_afterFirst_194 (by decide) ?_
                      exact ret _ _ _ _ _ dX0_afterFirst_254 S (by unfold pFirst pRes; rw [if_neg (by omega), if_neg (by omega), if_neg (by omega), if_neg (by omega), if_pos (by omega), if_neg (by omega)])
                    · refine lv_iconst (v := nI 0) K.1 K.2.1 dX0_afterFirst_185 (by decide) ?_
                      refine lv_goto (tgt := 191) K.1 K.2.1 dX0_afterFirst_186 (by decide) ?_
                      refine lv_to (nI_e4 _) ?_
                      refine cvV K S (met_finish h d σ top (0 + 4) s1 w1) (cwV 2 K.2.2.2.2.1 (lw_V q117 q119 qs5 q16 q120) rfl rfl rfl (by decide +kernel) ⟨Nat.le_of_ble_eq_true rfl, Nat.le_of_ble_eq_true rfl⟩) rfl rfl rfl hl.1 rfl (Nat.le_of_ble_eq_true rfl) dX0_afterFirst_191 ⟨Nat.zero_le _, Nat.zero_le _⟩ (fun u H locs S hu => ?_)
                      rw [hu] at S
                      refine lv_goto (tgt := 254) K.1 K.2.1 dX0_afterFirst_194 (by decide) ?_
                      exact ret _ _ _ _ _ dX0_afterFirst_254 S (by unfold pFirst pRes; rw [if_neg (by omega), if_neg (by omega), if_neg (by omega), if_neg (by omega), if_pos (by omega), if_pos (by omega)])
              · refine lv_iload K.1 K.2.1 dX0_afterFirst_137 (lv_at hl 0 rfl) ?_
                refine be_le0 (tgt := 164) (by omega) K.1 K.2.1 dX0_afterFirst_139 (by decide) (fun c139 => ?_) (fun c139 => ?_)
                · refine lv_iload K.1 K.2.1 dX0_afterFirst_164 (lv_at hl 6 rfl) ?_
                  refine lv_bipush (v := nI 6) K.1 K.2.1 dX0_afterFirst_166 (by decide) ?_
                  refine bn_eq (tgt := 178) (by omega) (by omega) K.1 K.2.1 dX0_afterFirst_168 (by decide) (fun c168 => ?_) (fun c168 => ?_)
                  · refine lv_aload_n K.1 K.2.1 dX0_afterFirst_178 rfl (lv_at hl 2 rfl) ?_
                    refine lv_iload_n K.1 K.2.1 dX0_afterFirst_179 rfl (lv_at hl 3 rfl) ?_
                    refine lv_iload K.1 K.2.1 dX0_afterFirst_180 (lv_at hl 0 rfl) ?_
                    refine be_ge0 (tgt := 189) (by omega) K.1 K.2.1 dX0_afterFirst_182 (by decide) (fun c182 => ?_) (fun c182 => ?_)
                    · refine lv_iload K.1 K.2.1 dX0_afterFirst_189 (lv_at hl 0 rfl) ?_
                      refine cvV K S (met_finish h d σ top (σ.2 11 ((21 * (pPart σ n - 1)) + q)) s1 w1) (cwV 2 K.2.2.2.2.1 (lw_V q117 q119 qs5 q16 q120) rfl rfl rfl (by decide +kernel) ⟨Nat.le_of_ble_eq_true rfl, Nat.le_of_ble_eq_true rfl⟩) rfl rfl rfl hl.1 rfl (Nat.le_of_ble_eq_true rfl) dX0_afterFirst_191 ⟨Nat.zero_le _, Nat.zero_le _⟩ (fun u H locs S hu => ?_)
                      rw [hu] at S
                      refine lv_goto (tgt := 254) K.1 K.2.1 dX0_afterFirst_194 (by decide) ?_
                      exact ret _ _ _ _ _ dX0_afterFirst_254 S (by unfold pFirst pRes; rw [if_neg (by omega), if_neg (by omega), if_neg (by omega), if_neg (by omega), if_pos (by omega), if_neg (by omega)])
                    · refine lv_iconst (v := nI 0) K.1 K.2.1 dX0_afterFirst_185 (by decide) ?_
                      refine lv_goto (tgt := 191) K.1 K.2.1 dX0_afterFirst_186 (by decide) ?_
                      refine lv_to (nI_e4 _) ?_
                      refine cvV K S (met_finish h d σ top (0 + 4) s1 w1) (cwV 2 K.2.2.2.2.1 (lw_V q117 q119 qs5 q16 q120) rfl rfl rfl (by decide +kernel) ⟨Nat.le_of_ble_eq_true rfl, Nat.le_of_ble_eq_true rfl⟩) rfl rfl rfl hl.1 rfl (Nat.le_of_ble_eq_true rfl) dX0_afterFirst_191 ⟨Nat.zero_le _, Nat.zero_le _⟩ (fun u H locs S hu => ?_)
                      rw [hu] at S
                      refine lv_goto (tgt := 254) K.1 K.2.1 dX0_afterFirst_194 (by decide) ?_
                      exact ret _ _ _ _ _ dX0_afterFirst_254 S (by unfold pFirst pRes; rw [if_neg (by omega), if_neg (by omega), if_neg (by omega), if_neg (by omega), if_pos (by omega), if_pos (by omega)])
                  · refine lv_iload K.1 K.2.1 dX0_afterFirst_171 (lv_at hl 6 rfl) ?_
                    refine lv_bipush (v := nI 7) K.1 K.2.1 dX0_afterFirst_173 (by decide) ?_
                    refine bn_ne (tgt := 197) (by omega) (by omega) K.1 K.2.1 dX0_afterFirst_175 (by decide) (fun c175 => ?_) (fun c175 => ?_)
                    · refine lv_iload K.1 K.2.1 dX0_afterFirst_197 (lv_at hl 6 rfl) ?_
                      refine lv_bipush (v := nI 8) K.1 K.2.1 dX0_afterFirst_199 (by decide) ?_
                      refine bn_ne (tgt := 222) (by omega) (by omega) K.1 K.2.1 dX0_afterFirst_201 (by decide) (fun c201 => ?_) (fun c201 => ?_)
                      · refine lv_iload K.1 K.2.1 dX0_afterFirst_222 (lv_at hl 6 rfl) ?_
                        refine lv_bipush (v := nI 9) K.1 K.2.1 dX0_afterFirst_224 (by decide) ?_
                        refine bn_ne (tgt := 247) (by omega) (by omega) K.1 K.2.1 dX0_afterFirst_226 (by decide) (fun c226 => ?_) (fun c226 => ?_)
                        · refine lv_aload_n K.1 K.2.1 dX0_afterFirst_247 rfl (lv_at hl 2 rfl) ?_
                          refine lv_iload_n K.1 K.2.1 dX0_afterFirst_248 rfl (lv_at hl 3 rfl) ?_
                          refine lv_iload K.1 K.2.1 dX0_afterFirst_249 (lv_at hl 0 rfl) ?_
                          refine cvV K S (met_finish h d σ top (σ.2 11 ((21 * (pPart σ n - 1)) + q)) s1 w1) (cwV 2 K.2.2.2.2.1 (lw_V q117 q119 qs5 q16 q120) rfl rfl rfl (by decide +kernel) ⟨Nat.le_of_ble_eq_true rfl, Nat.le_of_ble_eq_true rfl⟩) rfl rfl rfl hl.1 rfl (Nat.le_of_ble_eq_true rfl) dX0_afterFirst_251 ⟨Nat.zero_le _, Nat.zero_le _⟩ (fun u H locs S hu => ?_)
                          rw [hu] at S
                          exact ret _ _ _ _ _ dX0_afterFirst_254 S (by unfold pFirst pRes; rw [if_neg (by omega), if_neg (by omega), if_neg (by omega), if_neg (by omega), if_neg (by omega), if_neg (by omega), if_neg (by omega)])
                        · refine lv_aload_n K.1 K.2.1 dX0_afterFirst_229 rfl (lv_at hl 2 rfl) ?_
                          refine lv_iload_n K.1 K.2.1 dX0_afterFirst_230 rfl (lv_at hl 3 rfl) ?_
                          refine lv_iload K.1 K.2.1 dX0_afterFirst_231 (lv_at hl 0 rfl) ?_
                          refine be_ge0 (tgt := 240) (by omega) K.1 K.2.1 dX0_afterFirst_233 (by decide) (fun c233 => ?_) (fun c233 => ?_)
                          · refine lv_iconst (v := -1) K.1 K.2.1 dX0_afterFirst_240 (by decide) ?_
                            refine lv_to (show (-1 : Int32) = e4 3 by decide) ?_
                            refine cvV K S (met_finish h d σ top 3 s1 w1) (cwV 2 K.2.2.2.2.1 (lw_V q117 q119 qs5 q16 q120) rfl rfl rfl (by decide +kernel) ⟨Nat.le_of_ble_eq_true rfl, Nat.le_of_ble_eq_true rfl⟩) rfl rfl rfl hl.1 rfl (Nat.le_of_ble_eq_true rfl) dX0_afterFirst_241 ⟨Nat.zero_le _, Nat.zero_le _⟩ (fun u H locs S hu => ?_)
                            rw [hu] at S
                            refine lv_goto (tgt := 254) K.1 K.2.1 dX0_afterFirst_244 (by decide) ?_
                            exact ret _ _ _ _ _ dX0_afterFirst_254 S (by unfold pFirst pRes; rw [if_neg (by omega), if_neg (by omega), if_neg (by omega), if_neg (by omega), if_neg (by omega), if_neg (by omega), if_pos (by omega), if_neg (by omega)])
                          · refine lv_iconst (v := nI 0) K.1 K.2.1 dX0_afterFirst_236 (by decide) ?_
                            refine lv_goto (tgt := 241) K.1 K.2.1 dX0_afterFirst_237 (by decide) ?_
                            refine lv_to (nI_e4 _) ?_
                            refine cvV K S (met_finish h d σ top (0 + 4) s1 w1) (cwV 2 K.2.2.2.2.1 (lw_V q117 q119 qs5 q16 q120) rfl rfl rfl (by decide +kernel) ⟨Nat.le_of_ble_eq_true rfl, Nat.le_of_ble_eq_true rfl⟩) rfl rfl rfl hl.1 rfl (Nat.le_of_ble_eq_true rfl) dX0_afterFirst_241 ⟨Nat.zero_le _, Nat.zero_le _⟩ (fun u H locs S hu => ?_)
                            rw [hu] at S
                            refine lv_goto (tgt := 254) K.1 K.2.1 dX0_afterFirst_244 (by decide) ?_
                            exact ret _ _ _ _ _ dX0_afterFirst_254 S (by unfold pFirst pRes; rw [if_neg (by omega), if_neg (by omega), if_neg (by omega), if_neg (by omega), if_neg (by omega), if_neg (by omega), if_pos (by omega), if_pos (by omega)])
                      · refine lv_aload_n K.1 K.2.1 dX0_afterFirst_204 rfl (lv_at hl 2 rfl) ?_
                        refine lv_iload_n K.1 K.2.1 dX0_afterFirst_205 rfl (lv_at hl 3 rfl) ?_
                        refine lv_iload K.1 K.2.1 dX0_afterFirst_206 (lv_at hl 0 rfl) ?_
                        refine be_ge0 (tgt := 215) (by omega) K.1 K.2.1 dX0_afterFirst_208 (by decide) (fun c208 => ?_) (fun c208 => ?_)
                        · refine lv_iconst (v := nI 0) K.1 K.2.1 dX0_afterFirst_215 (by decide) ?_
                          refine lv_to (nI_e4 _) ?_
                          refine cvV K S (met_finish h d σ top (0 + 4) s1 w1) (cwV 2 K.2.2.2.2.1 (lw_V q117 q119 qs5 q16 q120) rfl rfl rfl (by decide +kernel) ⟨Nat.le_of_ble_eq_true rfl, Nat.le_of_ble_eq_true rfl⟩) rfl rfl rfl hl.1 rfl (Nat.le_of_ble_eq_true rfl) dX0_afterFirst_216 ⟨Nat.zero_le _, Nat.zero_le _⟩ (fun u H locs S hu => ?_)
                          rw [hu] at S
                          refine lv_goto (tgt := 254) K.1 K.2.1 dX0_afterFirst_219 (by decide) ?_
                          exact ret _ _ _ _ _ dX0_afterFirst_254 S (by unfold pFirst pRes; rw [if_neg (by omega), if_neg (by omega), if_neg (by omega), if_neg (by omega), if_neg (by omega), if_pos (by omega), if_neg (by omega)])
                        · refine lv_iconst (v := -1) K.1 K.2.1 dX0_afterFirst_211 (by decide) ?_
                          refine lv_goto (tgt := 216) K.1 K.2.1 dX0_afterFirst_212 (by decide) ?_
                          refine lv_to (show (-1 : Int32) = e4 3 by decide) ?_
                          refine cvV K S (met_finish h d σ top 3 s1 w1) (cwV 2 K.2.2.2.2.1 (lw_V q117 q119 qs5 q16 q120) rfl rfl rfl (by decide +kernel) ⟨Nat.le_of_ble_eq_true rfl, Nat.le_of_ble_eq_true rfl⟩) rfl rfl rfl hl.1 rfl (Nat.le_of_ble_eq_true rfl) dX0_afterFirst_216 ⟨Nat.zero_le _, Nat.zero_le _⟩ (fun u H locs S hu => ?_)
                          rw [hu] at S
                          refine lv_goto (tgt := 254) K.1 K.2.1 dX0_afterFirst_219 (by decide) ?_
                          exact ret _ _ _ _ _ dX0_afterFirst_254 S (by unfold pFirst pRes; rw [if_neg (by omega), if_neg (by omega), if_neg (by omega), if_neg (by omega), if_neg (by omega), if_pos (by omega), if_pos (by omega)])
                    · refine lv_aload_n K.1 K.2.1 dX0_afterFirst_178 rfl (lv_at hl 2 rfl) ?_
                      refine lv_iload_n K.1 K.2.1 dX0_afterFirst_179 rfl (lv_at hl 3 rfl) ?_
                      refine lv_iload K.1 K.2.1 dX0_afterFirst_180 (lv_at hl 0 rfl) ?_
                      refine be_ge0 (tgt := 189) (by omega) K.1 K.2.1 dX0_afterFirst_182 (by decide) (fun c182 => ?_) (fun c182 => ?_)
                      · refine lv_iload K.1 K.2.1 dX0_afterFirst_189 (lv_at hl 0 rfl) ?_
                        refine cvV K S (met_finish h d σ top (σ.2 11 ((21 * (pPart σ n - 1)) + q)) s1 w1) (cwV 2 K.2.2.2.2.1 (lw_V q117 q119 qs5 q16 q120) rfl rfl rfl (by decide +kernel) ⟨Nat.le_of_ble_eq_true rfl, Nat.le_of_ble_eq_true rfl⟩) rfl rfl rfl hl.1 rfl (Nat.le_of_ble_eq_true rfl) dX0_afterFirst_191 ⟨Nat.zero_le _, Nat.zero_le _⟩ (fun u H locs S hu => ?_)
                        rw [hu] at S
                        refine lv_goto (tgt := 254) K.1 K.2.1 dX0_afterFirst_194 (by decide) ?_
                        exact ret _ _ _ _ _ dX0_afterFirst_254 S (by unfold pFirst pRes; rw [if_neg (by omega), if_neg (by omega), if_neg (by omega), if_neg (by omega), if_pos (by omega), if_neg (by omega)])
                      · refine lv_iconst (v := nI 0) K.1 K.2.1 dX0_afterFirst_185 (by decide) ?_
                        refine lv_goto (tgt := 191) K.1 K.2.1 dX0_afterFirst_186 (by decide) ?_
                        refine lv_to (nI_e4 _) ?_
                        refine cvV K S (met_finish h d σ top (0 + 4) s1 w1) (cwV 2 K.2.2.2.2.1 (lw_V q117 q119 qs5 q16 q120) rfl rfl rfl (by decide +kernel) ⟨Nat.le_of_ble_eq_true rfl, Nat.le_of_ble_eq_true rfl⟩) rfl rfl rfl hl.1 rfl (Nat.le_of_ble_eq_true rfl) dX0_afterFirst_191 ⟨Nat.zero_le _, Nat.zero_le _⟩ (fun u H locs S hu => ?_)
                        rw [hu] at S
                        refine lv_goto (tgt := 254) K.1 K.2.1 dX0_afterFirst_194 (by decide) ?_
                        exact ret _ _ _ _ _ dX0_afterFirst_254 S (by unfold pFirst pRes; rw [if_neg (by omega), if_neg (by omega), if_neg (by omega), if_neg (by omega), if_pos (by omega), if_pos (by omega)])
                · refine lv_aload_n K.1 K.2.1 dX0_afterFirst_142 rfl (lv_at hl 2 rfl) ?_
                  refine p0g_taken K S dX0_afterFirst_143 ?_
                  refine lv_iload_n K.1 K.2.1 dX0_afterFirst_146 rfl (lv_at hl 3 rfl) ?_
                  refine lv_iload K.1 K.2.1 dX0_afterFirst_147 (lv_at hl 0 rfl) ?_
                  refine lv_to (e4_nI (by omega)) ?_
                  refine p0s_taken (show top < 840 by omega) K S dX0_afterFirst_149 (fun H locs S => ?_)
                  refine lv_aload_n K.1 K.2.1 dX0_afterFirst_150 rfl (lv_at hl 2 rfl) ?_
                  refine lv_iload_n K.1 K.2.1 dX0_afterFirst_151 rfl (lv_at hl 3 rfl) ?_
                  refine lv_iload_n K.1 K.2.1 dX0_afterFirst_152 rfl (lv_at hl 4 rfl) ?_
                  refine lv_iload_n K.1 K.2.1 dX0_afterFirst_153 rfl (lv_at hl 5 rfl) ?_
                  refine lv_iload K.1 K.2.1 dX0_afterFirst_154 (lv_at hl 0 rfl) ?_
                  refine lv_iadd K.1 K.2.1 dX0_afterFirst_156 ?_
                  refine lv_to (nI_add_e4 _ _) ?_
                  refine lv_iconst (v := nI 2) K.1 K.2.1 dX0_afterFirst_157 (by decide) ?_
                  refine lv_to2 (e4_nI (by omega)) ?_
                  have hi : 21 * n + (q + (σ.2 11 ((21 * (pPart σ n - 1)) + q)) - 4) < 840 := by omega
                  refine cvV K S (met_need h d (setA σ 15 top (σ.2 11 ((21 * (pPart σ n - 1)) + q) - 4)) top n (q + (σ.2 11 ((21 * (pPart σ n - 1)) + q)) - 4) 2 s1 hi (s6 _ hi) (s7 _ hi) s3 w13) (cwV 4 K.2.2.2.2.1 (lw_V q125 q127 qs7 q16 q128) rfl rfl rfl (by decide +kernel) ⟨Nat.le_of_ble_eq_true rfl, Nat.le_of_ble_eq_true rfl⟩) rfl rfl rfl hl.1 rfl (Nat.le_of_ble_eq_true rfl) dX0_afterFirst_158 ⟨Nat.zero_le _, Nat.zero_le _⟩ (fun u H locs S hu => ?_)
                  rw [hu] at S
                  refine lv_goto (tgt := 254) K.1 K.2.1 dX0_afterFirst_161 (by decide) ?_
                  exact ret _ _ _ _ _ dX0_afterFirst_254 S (by unfold pFirst pRes; rw [if_neg (by omega), if_neg (by omega), if_neg (by omega), if_pos (by omega)])
            · refine lv_aload_n K.1 K.2.1 dX0_afterFirst_107 rfl (lv_at hl 2 rfl) ?_
              refine p0g_taken K S dX0_afterFirst_108 ?_
              refine lv_iload_n K.1 K.2.1 dX0_afterFirst_111 rfl (lv_at hl 3 rfl) ?_
              refine lv_iconst (v := nI 0) K.1 K.2.1 dX0_afterFirst_112 (by decide) ?_
              refine p0s_taken (show top < 840 by omega) K S dX0_afterFirst_113 (fun H locs S => ?_)
              refine lv_aload_n K.1 K.2.1 dX0_afterFirst_114 rfl (lv_at hl 2 rfl) ?_
              refine lv_iload_n K.1 K.2.1 dX0_afterFirst_115 rfl (lv_at hl 3 rfl) ?_
              refine lv_aload_n K.1 K.2.1 dX0_afterFirst_116 rfl (lv_at hl 2 rfl) ?_
              refine p0g_right K S dX0_afterFirst_117 ?_
              refine lv_iload_n K.1 K.2.1 dX0_afterFirst_120 rfl (lv_at hl 4 rfl) ?_
              refine p0l_right (show n < 40 by omega) K S dX0_afterFirst_121 ?_
              refine lv_to (y := e1 (σ.2 5 n)) rfl ?_
              refine lv_iload_n K.1 K.2.1 dX0_afterFirst_122 rfl (lv_at hl 5 rfl) ?_
              refine lv_iconst (v := nI 2) K.1 K.2.1 dX0_afterFirst_123 (by decide) ?_
              refine lv_to3 (e1_nI (by omega)) ?_
              have hi : 21 * (σ.2 5 n - 1) + q < 840 := by omega
              refine cvV K S (met_need h d (setA σ 15 top 0) top (σ.2 5 n - 1) q 2 s1 hi (s6 _ hi) (s7 _ hi) s3 w13) (cwV 4 K.2.2.2.2.1 (lw_V q125 q127 qs7 q16 q128) rfl rfl rfl (by decide +kernel) ⟨Nat.le_of_ble_eq_true rfl, Nat.le_of_ble_eq_true rfl⟩) rfl rfl rfl hl.1 rfl (Nat.le_of_ble_eq_true rfl) dX0_afterFirst_124 ⟨Nat.zero_le _, Nat.zero_le _⟩ (fun u H locs S hu => ?_)
              rw [hu] at S
              refine lv_goto (tgt := 254) K.1 K.2.1 dX0_afterFirst_127 (by decide) ?_
              exact ret _ _ _ _ _ dX0_afterFirst_254 S (by unfold pFirst pRes; rw [if_neg (by omega), if_neg (by omega), if_pos (by omega)])
        · refine lv_aload_n K.1 K.2.1 dX0_afterFirst_69 rfl (lv_at hl 2 rfl) ?_
          refine p0g_taken K S dX0_afterFirst_70 ?_
          refine lv_iload_n K.1 K.2.1 dX0_afterFirst_73 rfl (lv_at hl 3 rfl) ?_
          refine lv_iload K.1 K.2.1 dX0_afterFirst_74 (lv_at hl 0 rfl) ?_
          refine lv_to (e4_nI (by omega)) ?_
          refine p0s_taken (show top < 840 by omega) K S dX0_afterFirst_76 (fun H locs S => ?_)
          refine lv_aload_n K.1 K.2.1 dX0_afterFirst_77 rfl (lv_at hl 2 rfl) ?_
          refine lv_iload_n K.1 K.2.1 dX0_afterFirst_78 rfl (lv_at hl 3 rfl) ?_
          refine lv_aload_n K.1 K.2.1 dX0_afterFirst_79 rfl (lv_at hl 2 rfl) ?_
          refine p0g_right K S dX0_afterFirst_80 ?_
          refine lv_iload_n K.1 K.2.1 dX0_afterFirst_83 rfl (lv_at hl 4 rfl) ?_
          refine p0l_right (show n < 40 by omega) K S dX0_afterFirst_84 ?_
          refine lv_to (y := e1 (σ.2 5 n)) rfl ?_
          refine lv_iload_n K.1 K.2.1 dX0_afterFirst_85 rfl (lv_at hl 5 rfl) ?_
          refine lv_iload K.1 K.2.1 dX0_afterFirst_86 (lv_at hl 0 rfl) ?_
          refine lv_iadd K.1 K.2.1 dX0_afterFirst_88 ?_
          refine lv_to (nI_add_e4 _ _) ?_
          refine lv_iconst (v := nI 2) K.1 K.2.1 dX0_afterFirst_89 (by decide) ?_
          refine lv_to2 (e4_nI (by omega)) ?_
          refine lv_to3 (e1_nI (by omega)) ?_
          have hi : 21 * (σ.2 5 n - 1) + (q + (σ.2 11 ((21 * (pPart σ n - 1)) + q)) - 4) < 840 := by omega
          refine cvV K S (met_need h d (setA σ 15 top (σ.2 11 ((21 * (pPart σ n - 1)) + q) - 4)) top (σ.2 5 n - 1) (q + (σ.2 11 ((21 * (pPart σ n - 1)) + q)) - 4) 2 s1 hi (s6 _ hi) (s7 _ hi) s3 w13) (cwV 4 K.2.2.2.2.1 (lw_V q125 q127 qs7 q16 q128) rfl rfl rfl (by decide +kernel) ⟨Nat.le_of_ble_eq_true rfl, Nat.le_of_ble_eq_true rfl⟩) rfl rfl rfl hl.1 rfl (Nat.le_of_ble_eq_true rfl) dX0_afterFirst_90 ⟨Nat.zero_le _, Nat.zero_le _⟩ (fun u H locs S hu => ?_)
          rw [hu] at S
          refine lv_goto (tgt := 254) K.1 K.2.1 dX0_afterFirst_93 (by decide) ?_
          exact ret _ _ _ _ _ dX0_afterFirst_254 S (by unfold pFirst pRes; rw [if_neg (by omega), if_pos (by omega)])
    · refine lv_aload_n K.1 K.2.1 dX0_afterFirst_48 rfl (lv_at hl 2 rfl) ?_
      refine lv_iload_n K.1 K.2.1 dX0_afterFirst_49 rfl (lv_at hl 3 rfl) ?_
      refine lv_iload K.1 K.2.1 dX0_afterFirst_50 (lv_at hl 0 rfl) ?_
      refine cvV K S (met_finish h d σ top (σ.2 11 ((21 * (pPart σ n - 1)) + q)) s1 w1) (cwV 2 K.2.2.2.2.1 (lw_V q117 q119 qs5 q16 q120) rfl rfl rfl (by decide +kernel) ⟨Nat.le_of_ble_eq_true rfl, Nat.le_of_ble_eq_true rfl⟩) rfl rfl rfl hl.1 rfl (Nat.le_of_ble_eq_true rfl) dX0_afterFirst_52 ⟨Nat.zero_le _, Nat.zero_le _⟩ (fun u H locs S hu => ?_)
      rw [hu] at S
      refine lv_goto (tgt := 254) K.1 K.2.1 dX0_afterFirst_55 (by decide) ?_
      exact ret _ _ _ _ _ dX0_afterFirst_254 S (by unfold pFirst pRes; rw [if_pos (by omega)])
  refine lv_iload K.1 K.2.1 dX0_afterFirst_0 (lv_at hl 4 rfl) ?_
  refine lv_iconst (v := nI 3) K.1 K.2.1 dX0_afterFirst_2 (by decide) ?_
  refine bn_ne (tgt := 20) (by omega) (by omega) K.1 K.2.1 dX0_afterFirst_3 (by decide) (fun c3 => ?_) (fun c3 => ?_)
  · refine lv_aload_n K.1 K.2.1 dX0_afterFirst_20 rfl (lv_at hl 0 rfl) ?_
    refine p0g_left K S dX0_afterFirst_21 ?_
    refine lv_iload_n K.1 K.2.1 dX0_afterFirst_24 rfl (lv_at hl 2 rfl) ?_
    refine p0l_left (show n < 40 by omega) K S dX0_afterFirst_25 ?_
    refine lv_to (congrArg e1 (show σ.2 4 n = pPart σ n from (if_neg c3).symm)) ?_
    exact K26 ls hl
  · refine lv_aload_n K.1 K.2.1 dX0_afterFirst_6 rfl (lv_at hl 0 rfl) ?_
    refine p0g_ruleNode K S dX0_afterFirst_7 ?_
    refine lv_aload_n K.1 K.2.1 dX0_afterFirst_10 rfl (lv_at hl 0 rfl) ?_
    refine p0g_argument K S dX0_afterFirst_11 ?_
    refine lv_iload_n K.1 K.2.1 dX0_afterFirst_14 rfl (lv_at hl 2 rfl) ?_
    refine p0l_argument (show n < 40 by omega) K S dX0_afterFirst_15 ?_
    refine p0l_ruleNode (show σ.2 3 n < 4 by omega) K S dX0_afterFirst_16 ?_
    refine lv_goto (tgt := 26) K.1 K.2.1 dX0_afterFirst_17 (by decide) ?_
    refine lv_to (congrArg e1 (show σ.2 8 (σ.2 3 n) = pPart σ n from (if_pos c3).symm)) ?_
    exact K26 ls hl
set_option maxHeartbeats 4000000 in
set_option maxRecDepth 100000 in
theorem met_afterSecond (h : Nat → Nat) (d : ClassId) (σ : PT) (top n q : Nat) (hs : Sf σ top) (hn : n = σ.2 13 top / 21) (hq : q = σ.2 13 top % 21) (hst : σ.2 14 top = 2) : CV (h 0) (pw h d) yX0_afterSecond cX0_afterSecond 7 ({ frames := 1, cells := 0, slots := 0, locals := 22 }) d [.int (nI top), .int (nI n), .int (nI q), .int (nI (σ.2 2 n))] σ (fun u => u = pSecond σ top n q) := by
  refine ofV (C := RX0) rfl (by decide) (Nat.le_of_ble_eq_true rfl) ?_
  intro p l e s m args below meth c A dC dI Q K ret ls hl S
  have hl : lv_has ls 7 [(0, .ref (h 0)), (1, .int (nI top)), (2, .int (nI n)), (3, .int (nI q)), (4, .int (nI (σ.2 2 n)))] := hl
  have hw := hs.2.2.2.2.1 top (by have := hs.2.1; omega)
  rw [← hn, ← hq] at hw
  obtain ⟨s1, s2, s3, ⟨v1, v2, v3, v4, v5⟩, s5, s6, s7, s8, s9, s10, s11⟩ := hs
  have s5t := s5 top (by omega)
  obtain ⟨x1, x2, x3, x4⟩ := v3 n hw.1
  have n1 : n < 40 := by omega
  have q1 : q ≤ 20 := by omega
  have w1 : σ.2 13 top < 840 := by omega
  have v4a := v4 (σ.2 3 n) x2
  have w13 : ∀ k, k < σ.1 12 → σ.2 13 k < 840 := fun k hk => by have := s5 k hk; omega
  have t1 := s9 hst
  rw [← hn, ← hq] at t1
  have p1 : pSec σ n < 40 := by unfold pSec; split <;> omega
  have i1 : 21 * pSec σ n + q + σ.2 15 top < 840 := by omega
  have r1 := s6 _ i1
  have K17 : ∀ (ls : Array Slot), lv_has ls 7 [(0, .ref (h 0)), (1, .int (nI top)), (2, .int (nI n)), (3, .int (nI q)), (4, .int (nI (σ.2 2 n)))] → W p l e ({ frames := 1, cells := 0, slots := 0, locals := 22 }) s m args below meth c s.heap [] 0 0 Q (F0 m 17 ls [.int (nI (pSec σ n))]) := by
    intro ls hl
    refine lv_istore (lv' := [(5, .int (nI (pSec σ n))), (0, .ref (h 0)), (1, .int (nI top)), (2, .int (nI n)), (3, .int (nI q)), (4, .int (nI (σ.2 2 n)))]) K.1 K.2.1 dX0_afterSecond_17 hl (by decide) rfl (fun ls hl => ?_)
    refine lv_aload_n K.1 K.2.1 dX0_afterSecond_19 rfl (lv_at hl 1 rfl) ?_
    refine p0g_outcome K S dX0_afterSecond_20 ?_
    refine lv_bipush (v := nI 21) K.1 K.2.1 dX0_afterSecond_23 (by decide) ?_
    refine lv_iload K.1 K.2.1 dX0_afterSecond_25 (lv_at hl 0 rfl) ?_
    refine lv_imul K.1 K.2.1 dX0_afterSecond_27 ?_
    refine lv_to (pk_mul _ _) ?_
    refine lv_iload_n K.1 K.2.1 dX0_afterSecond_28 rfl (lv_at hl 4 rfl) ?_
    refine lv_iadd K.1 K.2.1 dX0_afterSecond_29 ?_
    refine lv_to (nI_add _ _) ?_
    refine lv_aload_n K.1 K.2.1 dX0_afterSecond_30 rfl (lv_at hl 1 rfl) ?_
    refine p0g_taken K S dX0_afterSecond_31 ?_
    refine lv_iload_n K.1 K.2.1 dX0_afterSecond_34 rfl (lv_at hl 2 rfl) ?_
    refine p0l_taken (show top < 840 by omega) K S dX0_afterSecond_35 ?_
    refine lv_iadd K.1 K.2.1 dX0_afterSecond_36 ?_
    refine lv_to (nI_add _ _) ?_
    refine p0l_outcome (show (21 * (pSec σ n)) + q + (σ.2 15 top) < 840 by omega) K S dX0_afterSecond_37 ?_
    refine lv_istore (lv' := [(6, .int (e4 (σ.2 11 ((21 * (pSec σ n)) + q + (σ.2 15 top))))), (5, .int (nI (pSec σ n))), (0, .ref (h 0)), (1, .int (nI top)), (2, .int (nI n)), (3, .int (nI q)), (4, .int (nI (σ.2 2 n)))]) K.1 K.2.1 dX0_afterSecond_38 hl (by decide) rfl (fun ls hl => ?_)
    refine lv_aload_n K.1 K.2.1 dX0_afterSecond_40 rfl (lv_at hl 2 rfl) ?_
    refine lv_iload_n K.1 K.2.1 dX0_afterSecond_41 rfl (lv_at hl 3 rfl) ?_
    refine lv_iload K.1 K.2.1 dX0_afterSecond_42 (lv_at hl 0 rfl) ?_
    refine be_ge0 (tgt := 51) (by omega) K.1 K.2.1 dX0_afterSecond_44 (by decide) (fun c44 => ?_) (fun c44 => ?_)
    · refine lv_aload_n K.1 K.2.1 dX0_afterSecond_51 rfl (lv_at hl 2 rfl) ?_
      refine p0g_taken K S dX0_afterSecond_52 ?_
      refine lv_iload_n K.1 K.2.1 dX0_afterSecond_55 rfl (lv_at hl 3 rfl) ?_
      refine p0l_taken (show top < 840 by omega) K S dX0_afterSecond_56 ?_
      refine lv_iload K.1 K.2.1 dX0_afterSecond_57 (lv_at hl 0 rfl) ?_
      refine lv_iadd K.1 K.2.1 dX0_afterSecond_59 ?_
      refine lv_to (nI_add_e4 _ _) ?_
      refine cvV K S (met_finish h d σ top ((σ.2 15 top) + (σ.2 11 ((21 * (pSec σ n)) + q + (σ.2 15 top)))) s1 w1) (cwV 2 K.2.2.2.2.1 (lw_V q117 q119 qs5 q16 q120) rfl rfl rfl (by decide +kernel) ⟨Nat.le_of_ble_eq_true rfl, Nat.le_of_ble_eq_true rfl⟩) rfl rfl rfl hl.1 rfl (Nat.le_of_ble_eq_true rfl) dX0_afterSecond_60 ⟨Nat.zero_le _, Nat.zero_le _⟩ (fun u H locs S hu => ?_)
      rw [hu] at S
      exact ret _ _ _ _ _ dX0_afterSecond_63 S (by unfold pSecond pRes2; rw [if_neg (by omega)])
    · refine lv_iconst (v := -1) K.1 K.2.1 dX0_afterSecond_47 (by decide) ?_
      refine lv_goto (tgt := 60) K.1 K.2.1 dX0_afterSecond_48 (by decide) ?_
      refine lv_to (show (-1 : Int32) = e4 3 by decide) ?_
      refine cvV K S (met_finish h d σ top 3 s1 w1) (cwV 2 K.2.2.2.2.1 (lw_V q117 q119 qs5 q16 q120) rfl rfl rfl (by decide +kernel) ⟨Nat.le_of_ble_eq_true rfl, Nat.le_of_ble_eq_true rfl⟩) rfl rfl rfl hl.1 rfl (Nat.le_of_ble_eq_true rfl) dX0_afterSecond_60 ⟨Nat.zero_le _, Nat.zero_le _⟩ (fun u H locs S hu => ?_)
      rw [hu] at S
      exact ret _ _ _ _ _ dX0_afterSecond_63 S (by unfold pSecond pRes2; rw [if_pos (by omega)])
  refine lv_iload K.1 K.2.1 dX0_afterSecond_0 (lv_at hl 4 rfl) ?_
  refine lv_bipush (v := nI 6) K.1 K.2.1 dX0_afterSecond_2 (by decide) ?_
  refine bn_ne (tgt := 11) (by omega) (by omega) K.1 K.2.1 dX0_afterSecond_4 (by decide) (fun c4 => ?_) (fun c4 => ?_)
  · refine lv_aload_n K.1 K.2.1 dX0_afterSecond_11 rfl (lv_at hl 0 rfl) ?_
    refine p0g_right K S dX0_afterSecond_12 ?_
    refine lv_iload_n K.1 K.2.1 dX0_afterSecond_15 rfl (lv_at hl 2 rfl) ?_
    refine p0l_right (show n < 40 by omega) K S dX0_afterSecond_16 ?_
    refine lv_to (e1_nI (by omega)) ?_
    refine lv_to (congrArg nI (show σ.2 5 n - 1 = pSec σ n from (if_neg c4).symm)) ?_
    exact K17 ls hl
  · refine lv_iload_n K.1 K.2.1 dX0_afterSecond_7 rfl (lv_at hl 2 rfl) ?_
    refine lv_goto (tgt := 17) K.1 K.2.1 dX0_afterSecond_8 (by decide) ?_
    refine lv_to (congrArg nI (show n = pSec σ n from (if_pos c4).symm)) ?_
    exact K17 ls hl
set_option maxHeartbeats 4000000 in
set_option maxRecDepth 100000 in
theorem met_goOn (h : Nat → Nat) (d : ClassId) (σ : PT) (top : Nat) (hs : Sf σ top) : CV (h 0) (pw h d) yX0_goOn cX0_goOn 6 ({ frames := 3, cells := 0, slots := 0, locals := 75 }) d [.int (nI top)] σ (fun u => u = pGo σ top) := by
  refine ofV (C := RX0) rfl (by decide) (Nat.le_of_ble_eq_true rfl) ?_
  intro p l e s m args below meth c A dC dI Q K ret ls hl S
  have hl : lv_has ls 6 [(0, .ref (h 0)), (1, .int (nI top))] := hl
  obtain ⟨s1, s2, s3, ⟨v1, v2, v3, v4, v5⟩, s5, s6, s7, s8, s9, s10, s11⟩ := id hs
  have s5t := s5 top (by omega)
  obtain ⟨x1, x2, x3, x4⟩ := v3 (σ.2 13 top / 21) s5t.1
  have q1 : σ.2 13 top % 21 ≤ 20 := by omega
  have w1 : σ.2 13 top < 840 := by omega
  refine lv_aload_n K.1 K.2.1 dX0_goOn_0 rfl (lv_at hl 0 rfl) ?_
  refine p0g_waiting K S dX0_goOn_1 ?_
  refine lv_iload_n K.1 K.2.1 dX0_goOn_4 rfl (lv_at hl 1 rfl) ?_
  refine p0l_waiting (show top < 840 by omega) K S dX0_goOn_5 ?_
  refine lv_bipush (v := nI 21) K.1 K.2.1 dX0_goOn_6 (by decide) ?_
  refine lv_idiv K.1 K.2.1 dX0_goOn_8 (by decide) ?_
  refine lv_to (pk_div (by omega) (by decide) (by decide)) ?_
  refine lv_istore_n (lv' := [(2, .int (nI ((σ.2 13 top) / 21))), (0, .ref (h 0)), (1, .int (nI top))]) K.1 K.2.1 dX0_goOn_9 rfl hl (by decide) rfl (fun ls hl => ?_)
  refine lv_aload_n K.1 K.2.1 dX0_goOn_10 rfl (lv_at hl 1 rfl) ?_
  refine p0g_waiting K S dX0_goOn_11 ?_
  refine lv_iload_n K.1 K.2.1 dX0_goOn_14 rfl (lv_at hl 2 rfl) ?_
  refine p0l_waiting (show top < 840 by omega) K S dX0_goOn_15 ?_
  refine lv_bipush (v := nI 21) K.1 K.2.1 dX0_goOn_16 (by decide) ?_
  refine lv_irem K.1 K.2.1 dX0_goOn_18 (by decide) ?_
  refine lv_to (pk_rem (by omega) (by decide) (by decide)) ?_
  refine lv_istore_n (lv' := [(3, .int (nI ((σ.2 13 top) % 21))), (2, .int (nI ((σ.2 13 top) / 21))), (0, .ref (h 0)), (1, .int (nI top))]) K.1 K.2.1 dX0_goOn_19 rfl hl (by decide) rfl (fun ls hl => ?_)
  refine lv_aload_n K.1 K.2.1 dX0_goOn_20 rfl (lv_at hl 2 rfl) ?_
  refine p0g_op K S dX0_goOn_21 ?_
  refine lv_iload_n K.1 K.2.1 dX0_goOn_24 rfl (lv_at hl 1 rfl) ?_
  refine p0l_op (show (σ.2 13 top) / 21 < 40 by omega) K S dX0_goOn_25 ?_
  refine lv_istore (lv' := [(4, .int (nI (σ.2 2 ((σ.2 13 top) / 21)))), (3, .int (nI ((σ.2 13 top) % 21))), (2, .int (nI ((σ.2 13 top) / 21))), (0, .ref (h 0)), (1, .int (nI top))]) K.1 K.2.1 dX0_goOn_26 hl (by decide) rfl (fun ls hl => ?_)
  refine lv_iload K.1 K.2.1 dX0_goOn_28 (lv_at hl 0 rfl) ?_
  refine lv_iconst (v := nI 2) K.1 K.2.1 dX0_goOn_30 (by decide) ?_
  refine bn_gt (tgt := 59) (by omega) (by omega) K.1 K.2.1 dX0_goOn_31 (by decide) (fun c31 => ?_) (fun c31 => ?_)
  · refine lv_aload_n K.1 K.2.1 dX0_goOn_59 rfl (lv_at hl 3 rfl) ?_
    refine p0g_stage K S dX0_goOn_60 ?_
    refine lv_iload_n K.1 K.2.1 dX0_goOn_63 rfl (lv_at hl 4 rfl) ?_
    refine p0l_stage (show top < 840 by omega) K S dX0_goOn_64 ?_
    refine bn_ne0 (tgt := 80) (by omega) K.1 K.2.1 dX0_goOn_65 (by decide) (fun c65 => ?_) (fun c65 => ?_)
    · refine lv_aload_n K.1 K.2.1 dX0_goOn_80 rfl (lv_at hl 3 rfl) ?_
      refine p0g_stage K S dX0_goOn_81 ?_
      refine lv_iload_n K.1 K.2.1 dX0_goOn_84 rfl (lv_at hl 4 rfl) ?_
      refine p0l_stage (show top < 840 by omega) K S dX0_goOn_85 ?_
      refine lv_iconst (v := nI 1) K.1 K.2.1 dX0_goOn_86 (by decide) ?_
      refine bn_ne (tgt := 102) (by omega) (by omega) K.1 K.2.1 dX0_goOn_87 (by decide) (fun c87 => ?_) (fun c87 => ?_)
      · refine lv_aload_n K.1 K.2.1 dX0_goOn_102 rfl (lv_at hl 3 rfl) ?_
        refine lv_iload_n K.1 K.2.1 dX0_goOn_103 rfl (lv_at hl 4 rfl) ?_
        refine lv_iload_n K.1 K.2.1 dX0_goOn_104 rfl (lv_at hl 2 rfl) ?_
        refine lv_iload_n K.1 K.2.1 dX0_goOn_105 rfl (lv_at hl 1 rfl) ?_
        refine lv_iload K.1 K.2.1 dX0_goOn_106 (lv_at hl 0 rfl) ?_
        refine cvV K S (met_afterSecond h d σ top (σ.2 13 top / 21) (σ.2 13 top % 21) hs rfl rfl (by omega)) (cwV 4 K.2.2.2.2.1 (lw_V q133 q135 qs9 q16 q136) rfl rfl rfl (by decide +kernel) ⟨Nat.le_of_ble_eq_true rfl, Nat.le_of_ble_eq_true rfl⟩) rfl rfl rfl hl.1 rfl (Nat.le_of_ble_eq_true rfl) dX0_goOn_108 ⟨Nat.zero_le _, Nat.zero_le _⟩ (fun u H locs S hu => ?_)
        rw [hu] at S
        exact ret _ _ _ _ _ dX0_goOn_111 S (by unfold pGo; rw [if_neg (by omega), if_neg (by omega), if_neg (by omega)])
      · refine lv_aload_n K.1 K.2.1 dX0_goOn_90 rfl (lv_at hl 3 rfl) ?_
        refine lv_iload_n K.1 K.2.1 dX0_goOn_91 rfl (lv_at hl 4 rfl) ?_
        refine lv_iload_n K.1 K.2.1 dX0_goOn_92 rfl (lv_at hl 2 rfl) ?_
        refine lv_iload_n K.1 K.2.1 dX0_goOn_93 rfl (lv_at hl 1 rfl) ?_
        refine lv_iload K.1 K.2.1 dX0_goOn_94 (lv_at hl 0 rfl) ?_
        refine cvV K S (met_afterFirst h d σ top (σ.2 13 top / 21) (σ.2 13 top % 21) hs rfl rfl (by omega) c87) (cwV 4 K.2.2.2.2.1 (lw_V q129 q131 qs8 q16 q132) rfl rfl rfl (by decide +kernel) ⟨Nat.le_of_ble_eq_true rfl, Nat.le_of_ble_eq_true rfl⟩) rfl rfl rfl hl.1 rfl (Nat.le_of_ble_eq_true rfl) dX0_goOn_96 ⟨Nat.zero_le _, Nat.zero_le _⟩ (fun u H locs S hu => ?_)
        rw [hu] at S
        refine lv_goto (tgt := 111) K.1 K.2.1 dX0_goOn_99 (by decide) ?_
        exact ret _ _ _ _ _ dX0_goOn_111 S (by unfold pGo; rw [if_neg (by omega), if_neg (by omega), if_pos (by omega)])
    · refine lv_aload_n K.1 K.2.1 dX0_goOn_68 rfl (lv_at hl 3 rfl) ?_
      refine lv_iload_n K.1 K.2.1 dX0_goOn_69 rfl (lv_at hl 4 rfl) ?_
      refine lv_iload_n K.1 K.2.1 dX0_goOn_70 rfl (lv_at hl 2 rfl) ?_
      refine lv_iload_n K.1 K.2.1 dX0_goOn_71 rfl (lv_at hl 1 rfl) ?_
      refine lv_iload K.1 K.2.1 dX0_goOn_72 (lv_at hl 0 rfl) ?_
      refine cvV K S (met_begin h d σ top (σ.2 13 top / 21) (σ.2 13 top % 21) hs rfl rfl (by omega)) (cwV 4 K.2.2.2.2.1 (lw_V q121 q123 qs6 q16 q124) rfl rfl rfl (by decide +kernel) ⟨Nat.le_of_ble_eq_true rfl, Nat.le_of_ble_eq_true rfl⟩) rfl rfl rfl hl.1 rfl (Nat.le_of_ble_eq_true rfl) dX0_goOn_74 ⟨Nat.zero_le _, Nat.zero_le _⟩ (fun u H locs S hu => ?_)
      rw [hu] at S
      refine lv_goto (tgt := 111) K.1 K.2.1 dX0_goOn_77 (by decide) ?_
      exact ret _ _ _ _ _ dX0_goOn_111 S (by unfold pGo; rw [if_neg (by omega), if_pos (by omega)])
  · refine lv_aload_n K.1 K.2.1 dX0_goOn_34 rfl (lv_at hl 3 rfl) ?_
    refine lv_iload K.1 K.2.1 dX0_goOn_35 (lv_at hl 0 rfl) ?_
    refine lv_aload_n K.1 K.2.1 dX0_goOn_37 rfl (lv_at hl 3 rfl) ?_
    refine p0g_argument K S dX0_goOn_38 ?_
    refine lv_iload_n K.1 K.2.1 dX0_goOn_41 rfl (lv_at hl 2 rfl) ?_
    refine p0l_argument (show (σ.2 13 top) / 21 < 40 by omega) K S dX0_goOn_42 ?_
    refine lv_iload_n K.1 K.2.1 dX0_goOn_43 rfl (lv_at hl 1 rfl) ?_
    refine cvI K S (met_single h d σ (σ.2 2 ((σ.2 13 top) / 21)) (σ.2 3 ((σ.2 13 top) / 21)) ((σ.2 13 top) % 21) (by omega) x2 q1 v2 v5) (cwV 3 K.2.2.2.2.1 (lw_V q113 q115 qs4 q16 q116) rfl rfl rfl (by decide +kernel) ⟨Nat.le_of_ble_eq_true rfl, Nat.le_of_ble_eq_true rfl⟩) rfl rfl rfl hl.1 rfl (Nat.le_of_ble_eq_true rfl) dX0_goOn_44 ⟨Nat.zero_le _, Nat.zero_le _⟩ (fun r u H locs S hu => ?_)
    obtain ⟨hr, hu⟩ := hu
    rw [hu] at S
    refine lv_to hr ?_
    refine lv_istore (lv' := [(5, .int (e4 (pSingle σ (σ.2 2 ((σ.2 13 top) / 21)) (σ.2 3 ((σ.2 13 top) / 21)) ((σ.2 13 top) % 21)))), (4, .int (nI (σ.2 2 ((σ.2 13 top) / 21)))), (3, .int (nI ((σ.2 13 top) % 21))), (2, .int (nI ((σ.2 13 top) / 21))), (0, .ref (h 0)), (1, .int (nI top))]) K.1 K.2.1 dX0_goOn_47 hl (by decide) rfl (fun ls hl => ?_)
    refine lv_aload_n K.1 K.2.1 dX0_goOn_49 rfl (lv_at hl 4 rfl) ?_
    refine lv_iload_n K.1 K.2.1 dX0_goOn_50 rfl (lv_at hl 5 rfl) ?_
    refine lv_iload K.1 K.2.1 dX0_goOn_51 (lv_at hl 0 rfl) ?_
    refine cvV K S (met_finish h d σ top (pSingle σ (σ.2 2 ((σ.2 13 top) / 21)) (σ.2 3 ((σ.2 13 top) / 21)) ((σ.2 13 top) % 21)) s1 w1) (cwV 2 K.2.2.2.2.1 (lw_V q117 q119 qs5 q16 q120) rfl rfl rfl (by decide +kernel) ⟨Nat.le_of_ble_eq_true rfl, Nat.le_of_ble_eq_true rfl⟩) rfl rfl rfl hl.1 rfl (Nat.le_of_ble_eq_true rfl) dX0_goOn_53 ⟨Nat.zero_le _, Nat.zero_le _⟩ (fun u H locs S hu => ?_)
    rw [hu] at S
    refine lv_goto (tgt := 111) K.1 K.2.1 dX0_goOn_56 (by decide) ?_
    exact ret _ _ _ _ _ dX0_goOn_111 S (by unfold pGo; rw [if_pos (by omega)])
end
section
set_option maxRecDepth 100000
/-! what the questions answer, over a grammar -/
noncomputable def mv (G : GR) (j p : Nat) : Nat := if gR G j = 0 then 3 else gval G (gR G j - 1) p
theorem mv_bd {G : GR} {j p : Nat} : 2 ≤ mv G j p ∧ (4 ≤ mv G j p → p ≤ gL G → p + (mv G j p - 4) ≤ gL G) := by
  unfold mv
  split
  · exact ⟨by decide, fun h => absurd h (by decide)⟩
  · have := gval_bd (G := G) (gR G j - 1) p
    exact ⟨this.1, fun h _ => this.2 h⟩
theorem mv_sm {G : GR} {j p : Nat} (hp : p ≤ gL G) (hL : gL G ≤ 20) : mv G j p < 1000 := by
  have := mv_bd (G := G) (j := j) (p := p)
  omega
theorem ix_ge {x : Int32} {n : Nat} (hn : n < 2 ^ 30) (h : nI n ≤ x) : (n : Int) ≤ x.toInt := by
  rw [Int32.le_iff_toInt_le, nI_toInt (nI_30 hn)] at h
  exact h
theorem ix_nlt {x : Int32} {n : Nat} (hn : n < 2 ^ 30) (h : nI n ≤ x) : ¬ x < 0 := by
  rw [Int32.lt_iff_toInt_lt, Int32.toInt_zero]
  have := ix_ge hn h
  omega
theorem ix_gt {x : Int32} {n k : Nat} (hn : n < 2 ^ 30) (hk : k < n) (h : nI n ≤ x) : nI k < x := by
  rw [Int32.lt_iff_toInt_lt, nI_toInt (by omega)]
  have := ix_ge hn h
  omega
theorem ix_nle {x : Int32} {n k : Nat} (hn : n < 2 ^ 30) (hk : k < n) (h : nI n ≤ x) : ¬ x ≤ nI k := by
  rw [Int32.le_iff_toInt_le, nI_toInt (by omega)]
  have := ix_ge hn h
  omega
theorem ix_ngt {x : Int32} {k : Nat} (hk : k < 2 ^ 30) (h : x < 0) : ¬ nI k < x := by
  rw [Int32.lt_iff_toInt_lt, nI_toInt (by omega)]
  rw [Int32.lt_iff_toInt_lt, Int32.toInt_zero] at h
  omega
theorem ix_neg {x : Int32} {k : Nat} (hk : k < 2 ^ 30) (h : x < 0) : x ≠ nI k := by
  intro e
  rw [e, Int32.lt_iff_toInt_lt, nI_toInt (by omega), Int32.toInt_zero] at h
  omega
theorem ix_big {x : Int32} {n k : Nat} (hn : n < 2 ^ 30) (hk : k < n) (h : nI n ≤ x) : x ≠ nI k := by
  intro e
  have := ix_ge hn h
  rw [e, nI_toInt (by omega)] at this
  omega
/-- match(x, y) answers r -/
def Mres (G : GR) (x y r : Int32) : Prop := (∀ j p, j < 4 → p ≤ gL G → x = nI j → y = nI p → r = e4 (mv G j p)) ∧ ((∀ j p, j < 4 → p ≤ gL G → x = nI j → y = nI p → False) → r = -3)
theorem mres_no {G : GR} {x y : Int32} (h : ∀ j p, j < 4 → p ≤ gL G → x = nI j → y = nI p → False) : Mres G x y (-3) := ⟨fun j p h1 h2 h3 h4 => (h j p h1 h2 h3 h4).elim, fun _ => rfl⟩
theorem mres_in {G : GR} {j p : Nat} {r : Int32} (hj : j < 4) (hp : p ≤ gL G) (hL : gL G ≤ 20) (hr : r = e4 (mv G j p)) : Mres G (nI j) (nI p) r := by
  refine ⟨fun j2 p2 h1 h2 h3 h4 => ?_, fun h => (h j p hj hp rfl rfl).elim⟩
  have a := (nI_eq (by omega) (by omega)).mp h3
  have b := (nI_eq (by omega) (by omega)).mp h4
  subst a; subst b
  exact hr
theorem mres_eq {G G' : GR} {x y r r' : Int32} (hL : gL G = gL G') (hv : ∀ j p, j < 4 → p ≤ gL G → mv G j p = mv G' j p) (h : Mres G x y r) (h' : Mres G' x y r') : r = r' := by
  by_cases q : ∃ j p, j < 4 ∧ p ≤ gL G ∧ x = nI j ∧ y = nI p
  · obtain ⟨j, p, a, b, c, d⟩ := q
    rw [h.1 j p a b c d, h'.1 j p a (by rw [← hL]; exact b) c d, hv j p a b]
  · have z : ∀ j p, j < 4 → p ≤ gL G → x = nI j → y = nI p → False := fun j p a b c d => q ⟨j, p, a, b, c, d⟩
    rw [h.2 z, h'.2 (fun j p a b c d => z j p a (by rw [hL]; exact b) c d)]
/-- a question about one rule: answers f j for the rule j, -3 where there is no such rule -/
def Ask (f : Nat → Int32 → Prop) (x r : Int32) : Prop := (∀ j, j < 4 → x = nI j → f j r) ∧ ((∀ j, j < 4 → x = nI j → False) → r = -3)
theorem ask_no {f : Nat → Int32 → Prop} {x : Int32} (h : ∀ j, j < 4 → x = nI j → False) : Ask f x (-3) := ⟨fun j h1 h2 => (h j h1 h2).elim, fun _ => rfl⟩
theorem ask_in {f : Nat → Int32 → Prop} {j : Nat} {r : Int32} (hj : j < 4) (hr : f j r) : Ask f (nI j) r := by
  refine ⟨fun j2 h1 h2 => ?_, fun h => (h j hj rfl).elim⟩
  have a := (nI_eq (by omega) (by omega)).mp h2
  subst a
  exact hr
theorem ask_eq {f f' : Nat → Int32 → Prop} {x r r' : Int32} (hf : ∀ j, j < 4 → f j r → f' j r' → r = r') (h : Ask f x r) (h' : Ask f' x r') : r = r' := by
  by_cases q : ∃ j, j < 4 ∧ x = nI j
  · obtain ⟨j, a, b⟩ := q
    exact hf j a (h.1 j a b) (h'.1 j a b)
  · have z : ∀ j, j < 4 → x = nI j → False := fun j a b => q ⟨j, a, b⟩
    rw [h.2 z, h'.2 z]
noncomputable def cMat (G : GR) (j : Nat) : Nat → Nat := sm (fun p => if 4 ≤ mv G j p then 1 else 0)
noncomputable def cStk (G : GR) (j : Nat) : Nat → Nat := sm (fun p => if mv G j p = 2 then 1 else 0)
theorem cMat_1 {G : GR} {j p : Nat} (h : 4 ≤ mv G j p) : cMat G j (p + 1) = cMat G j p + 1 := by
  show _ + (if 4 ≤ mv G j p then 1 else 0) = _
  rw [if_pos h]; rfl
theorem cMat_0 {G : GR} {j p : Nat} (h : mv G j p < 4) : cMat G j (p + 1) = cMat G j p := by
  show _ + (if 4 ≤ mv G j p then 1 else 0) = _
  rw [if_neg (by omega)]; rfl
theorem cStk_1 {G : GR} {j p : Nat} (h : mv G j p = 2) : cStk G j (p + 1) = cStk G j p + 1 := by
  show _ + (if mv G j p = 2 then 1 else 0) = _
  rw [if_pos h]; rfl
theorem cStk_0 {G : GR} {j p : Nat} (h : mv G j p ≠ 2) : cStk G j (p + 1) = cStk G j p := by
  show _ + (if mv G j p = 2 then 1 else 0) = _
  rw [if_neg h]; rfl
theorem cMat_le {G : GR} {j : Nat} (n : Nat) : cMat G j n ≤ n * 1 := sm_le (fun k _ => by split <;> omega)
theorem cStk_le {G : GR} {j : Nat} (n : Nat) : cStk G j n ≤ n * 1 := sm_le (fun k _ => by split <;> omega)
/-- find(j, y) answers r -/
def Fnd (G : GR) (y : Int32) (j : Nat) (r : Int32) : Prop := (∃ p, p ≤ gL G ∧ r = nI p ∧ y ≤ nI p ∧ 4 ≤ mv G j p ∧ ∀ q, q < p → y ≤ nI q → mv G j q < 4) ∨ (r = -1 ∧ ∀ q, q ≤ gL G → y ≤ nI q → mv G j q < 4)
theorem fnd_eq {G G' : GR} {y r r' : Int32} {j : Nat} (hL : gL G = gL G') (hv : ∀ p, p ≤ gL G → mv G j p = mv G' j p) (h : Fnd G y j r) (h' : Fnd G' y j r') : r = r' := by
  rcases h with ⟨p, a1, a2, a3, a4, a5⟩ | ⟨a1, a2⟩
  · rcases h' with ⟨q, b1, b2, b3, b4, b5⟩ | ⟨b1, b2⟩
    · have e : p = q := by
        rcases Nat.lt_trichotomy p q with z | z | z
        · have := b5 p z a3
          rw [← hv p a1] at this
          omega
        · exact z
        · have := a5 q z b3
          rw [hv q (by omega)] at this
          omega
      rw [a2, b2, e]
    · have := b2 p (by omega) a3
      rw [← hv p a1] at this
      omega
  · rcases h' with ⟨q, b1, b2, b3, b4, b5⟩ | ⟨b1, b2⟩
    · have := a2 q (by omega) b3
      rw [hv q (by omega)] at this
      omega
    · rw [a1, b1]
/-! what the changing methods of PegTables do -/
def pForget (σ : PT) : PT := setF σ 11 (fun i => if i < 840 then 1 else σ.2 11 i)
def tk (k : Nat) : Nat := if k ≤ 3 then 0 else if k ≤ 5 then 2 else 1
def pDef (σ : PT) (a : Nat) : PT := pForget (setA (setI (setI σ 0 (σ.1 0 + 1)) 6 (σ.1 6 - 1)) 8 a (σ.2 7 (σ.1 6 - 1) + 1))
def pNode (σ : PT) (k a t lf rt : Nat) : PT := setI (setI (setA (setI (setA (setA (setA (setA (setI σ 0 (σ.1 0 + 1)) 2 (σ.1 1) k) 3 (σ.1 1) a) 4 (σ.1 1) lf) 5 (σ.1 1) rt) 6 (σ.1 6 - t)) 7 (σ.1 6 - t) (σ.1 1)) 6 (σ.1 6 - t + 1)) 1 (σ.1 1 + 1)
def pTok (σ : PT) (k a : Nat) : PT :=
  if k = 10 then pDef σ a
  else if k ≤ 3 then pNode σ k a 0 0 0
  else if k ≤ 5 then pNode σ k a 2 (σ.2 7 (σ.1 6 - 2) + 1) (σ.2 7 (σ.1 6 - 1) + 1)
  else pNode σ k a 1 (σ.2 7 (σ.1 6 - 1) + 1) 0
def pClear (σ : PT) : PT := pForget (setF (setI (setI (setI σ 0 0) 1 0) 6 0) 8 (fun i => if i < 4 then 0 else σ.2 8 i))
def pType (σ : PT) (x : Nat) : PT := pForget (setI (setA σ 10 (σ.1 9) x) 9 (σ.1 9 + 1))
/-- token(x, y) answers r: t the tokens, s the height before; ok, the answer where it is taken -/
def Tok (t s : Nat) (ok : Nat → Int32 → PT → Prop) (σ : PT) (x r : Int32) (u : PT) : Prop := (∀ k, k ≤ 10 → x = nI k → tk k ≤ s → t < 40 → ok k r u) ∧ ((∀ k, k ≤ 10 → x = nI k → tk k ≤ s → t < 40 → False) → r = -1 ∧ u = σ)
theorem tok_no {t s : Nat} {ok : Nat → Int32 → PT → Prop} {σ : PT} {x : Int32} (h : ∀ k, k ≤ 10 → x = nI k → tk k ≤ s → t < 40 → False) : Tok t s ok σ x (-1) σ := ⟨fun k a b c d => (h k a b c d).elim, fun _ => ⟨rfl, rfl⟩⟩
theorem tok_in {t s : Nat} {ok : Nat → Int32 → PT → Prop} {σ u : PT} {r : Int32} {k : Nat} (hk : k ≤ 10) (h1 : tk k ≤ s) (h2 : t < 40) (hr : ok k r u) : Tok t s ok σ (nI k) r u := by
  refine ⟨fun k2 a b c d => ?_, fun h => (h k hk rfl h1 h2).elim⟩
  have e := (nI_eq (by omega) (by omega)).mp b
  subst e
  exact hr
theorem tok_nok {t s : Nat} {ok : Nat → Int32 → PT → Prop} {σ : PT} {k : Nat} (hk : k ≤ 10) (h : tk k ≤ s → t < 40 → False) : Tok t s ok σ (nI k) (-1) σ := by
  refine tok_no fun k2 a b c d => ?_
  have e := (nI_eq (by omega) (by omega)).mp b
  subst e
  exact h c d
theorem tk_lo {k : Nat} (h : k ≤ 3) : tk k = 0 := if_pos h
theorem tk_mid {k : Nat} (h : 3 < k) (h2 : k ≤ 5) : tk k = 2 := by unfold tk; rw [if_neg (by omega), if_pos h2]
theorem tk_hi {k : Nat} (h : 5 < k) : tk k = 1 := by unfold tk; rw [if_neg (by omega), if_neg (by omega)]
end
section
set_option maxRecDepth 100000
/-! PegTables: forget, clear, workOut, type, erase, token -/
theorem fill_s (g : Nat → Nat) (k v : Nat) : up (fun i => if i < k then v else g i) k v = fun i => if i < k + 1 then v else g i := by
  funext j
  by_cases q : j = k
  · rw [q, up_s, if_pos (by omega)]
  · rw [up_n q]
    by_cases z : j < k
    · rw [if_pos z, if_pos (by omega)]
    · rw [if_neg z, if_neg (by omega)]
theorem fill_0 (g : Nat → Nat) (v : Nat) : (fun i => if i < 0 then v else g i) = g := funext fun _ => if_neg (Nat.not_lt_zero _)
set_option maxHeartbeats 4000000 in
set_option maxRecDepth 100000 in
theorem met_forget (h : Nat → Nat) (d : ClassId) (σ : PT) : CV (h 0) (pw h d) yX0_forget cX0_forget 2 ({ frames := 0, cells := 0, slots := 0, locals := 0 }) d [] σ (fun u => u = pForget σ) := by
  refine ofV (C := RX0) rfl (by decide) (Nat.le_of_ble_eq_true rfl) ?_
  intro p l e s m args below meth c A dC dI Q K ret ls hl S
  have hl : lv_has ls 2 [(0, .ref (h 0))] := hl
  have L : ∀ (j k : Nat) (H : Heap) (locs : List Loc) (ls : Array Slot), k + j = 840 → St dC dI A s.heap H locs (pw h d (setF σ 11 (fun i => if i < k then 1 else σ.2 11 i))) → lv_has ls 2 [(1, .int (nI k)), (0, .ref (h 0))] → W p l e ({ frames := 0, cells := 0, slots := 0, locals := 0 }) s m args below meth c H locs 0 0 Q (F0 m 2 ls []) := by
    intro j
    induction j with
    | zero =>
      intro k H locs ls hk S hl
      refine lv_iload_n K.1 K.2.1 dX0_forget_2 rfl (lv_at hl 0 rfl) ?_
      refine lv_sipush (v := nI 840) K.1 K.2.1 dX0_forget_3 (by decide) ?_
      refine bn_ge (tgt := 23) (by omega) (by omega) K.1 K.2.1 dX0_forget_6 (by decide) (fun c6 => ?_) (fun c6 => absurd c6 (by omega))
      exact ret _ _ _ _ _ dX0_forget_23 S (by rw [show k = 840 by omega]; rfl)
    | succ j ih =>
      intro k H locs ls hk S hl
      refine lv_iload_n K.1 K.2.1 dX0_forget_2 rfl (lv_at hl 0 rfl) ?_
      refine lv_sipush (v := nI 840) K.1 K.2.1 dX0_forget_3 (by decide) ?_
      refine bn_ge (tgt := 23) (by omega) (by omega) K.1 K.2.1 dX0_forget_6 (by decide) (fun c6 => absurd c6 (by omega)) (fun c6 => ?_)
      refine lv_aload_n K.1 K.2.1 dX0_forget_9 rfl (lv_at hl 1 rfl) ?_
      refine p0g_outcome K S dX0_forget_10 ?_
      refine lv_iload_n K.1 K.2.1 dX0_forget_13 rfl (lv_at hl 0 rfl) ?_
      refine lv_bipush (v := -3) K.1 K.2.1 dX0_forget_14 (by decide) ?_
      refine lv_to (show (-3 : Int32) = e4 1 by decide) ?_
      refine p0s_outcome (show k < 840 by omega) K S dX0_forget_16 (fun H locs S => ?_)
      rw [setA_setF, fill_s] at S
      refine lv_iinc (v := nI (k + 1)) (lv' := [(1, .int (nI (k + 1))), (0, .ref (h 0))]) K.1 K.2.1 dX0_forget_17 hl (k := 0) rfl (nI_inc _) (by decide) rfl (fun ls hl => ?_)
      refine lv_goto (tgt := 2) K.1 K.2.1 dX0_forget_20 (by decide) ?_
      exact ih (k + 1) H locs ls (by omega) S hl
  refine lv_iconst (v := nI 0) K.1 K.2.1 dX0_forget_0 (by decide) ?_
  refine lv_istore_n (lv' := [(1, .int (nI 0)), (0, .ref (h 0))]) K.1 K.2.1 dX0_forget_1 rfl hl (by decide) rfl (fun ls hl => ?_)
  exact L 840 0 _ _ ls (by omega) (by rw [fill_0, setF_self _ _ rfl]; exact S) hl
set_option maxHeartbeats 4000000 in
set_option maxRecDepth 100000 in
theorem met_clear (h : Nat → Nat) (d : ClassId) (σ : PT) : CV (h 0) (pw h d) yX0_clear cX0_clear 2 ({ frames := 1, cells := 0, slots := 0, locals := 21 }) d [] σ (fun u => u = pClear σ) := by
  refine ofV (C := RX0) rfl (by decide) (Nat.le_of_ble_eq_true rfl) ?_
  intro p l e s m args below meth c A dC dI Q K ret ls hl S
  have hl : lv_has ls 2 [(0, .ref (h 0))] := hl
  have L : ∀ (j k : Nat) (H : Heap) (locs : List Loc) (ls : Array Slot), k + j = 4 → St dC dI A s.heap H locs (pw h d (setF (setI (setI (setI σ 0 0) 1 0) 6 0) 8 (fun i => if i < k then 0 else σ.2 8 i))) → lv_has ls 2 [(1, .int (nI k)), (0, .ref (h 0))] → W p l e ({ frames := 1, cells := 0, slots := 0, locals := 21 }) s m args below meth c H locs 0 0 Q (F0 m 17 ls []) := by
    intro j
    induction j with
    | zero =>
      intro k H locs ls hk S hl
      refine lv_iload_n K.1 K.2.1 dX0_clear_17 rfl (lv_at hl 0 rfl) ?_
      refine lv_iconst (v := nI 4) K.1 K.2.1 dX0_clear_18 (by decide) ?_
      refine bn_ge (tgt := 35) (by omega) (by omega) K.1 K.2.1 dX0_clear_19 (by decide) (fun c19 => ?_) (fun c19 => absurd c19 (by omega))
      refine lv_aload_n K.1 K.2.1 dX0_clear_35 rfl (lv_at hl 1 rfl) ?_
      refine cvV K S (met_forget h d _) (cwV 0 K.2.2.2.2.1 (lw_V q30 q32 qs0 q16 q33) rfl rfl rfl (by decide +kernel) ⟨Nat.le_of_ble_eq_true rfl, Nat.le_of_ble_eq_true rfl⟩) rfl rfl rfl hl.1 rfl (Nat.le_of_ble_eq_true rfl) dX0_clear_36 ⟨Nat.zero_le _, Nat.zero_le _⟩ (fun u H locs S hu => ?_)
      rw [hu] at S
      exact ret _ _ _ _ _ dX0_clear_39 S (by rw [show k = 4 by omega]; rfl)
    | succ j ih =>
      intro k H locs ls hk S hl
      refine lv_iload_n K.1 K.2.1 dX0_clear_17 rfl (lv_at hl 0 rfl) ?_
      refine lv_iconst (v := nI 4) K.1 K.2.1 dX0_clear_18 (by decide) ?_
      refine bn_ge (tgt := 35) (by omega) (by omega) K.1 K.2.1 dX0_clear_19 (by decide) (fun c19 => absurd c19 (by omega)) (fun c19 => ?_)
      refine lv_aload_n K.1 K.2.1 dX0_clear_22 rfl (lv_at hl 1 rfl) ?_
      refine p0g_ruleNode K S dX0_clear_23 ?_
      refine lv_iload_n K.1 K.2.1 dX0_clear_26 rfl (lv_at hl 0 rfl) ?_
      refine lv_iconst (v := -1) K.1 K.2.1 dX0_clear_27 (by decide) ?_
      refine lv_to (show (-1 : Int32) = e1 0 by decide) ?_
      refine p0s_ruleNode (show k < 4 by omega) K S dX0_clear_28 (fun H locs S => ?_)
      rw [setA_setF, fill_s] at S
      refine lv_iinc (v := nI (k + 1)) (lv' := [(1, .int (nI (k + 1))), (0, .ref (h 0))]) K.1 K.2.1 dX0_clear_29 hl (k := 0) rfl (nI_inc _) (by decide) rfl (fun ls hl => ?_)
      refine lv_goto (tgt := 17) K.1 K.2.1 dX0_clear_32 (by decide) ?_
      exact ih (k + 1) H locs ls (by omega) S hl
  refine lv_aload_n K.1 K.2.1 dX0_clear_0 rfl (lv_at hl 0 rfl) ?_
  refine lv_iconst (v := nI 0) K.1 K.2.1 dX0_clear_1 (by decide) ?_
  refine p0p_tokens K S dX0_clear_2 (fun H locs S => ?_)
  refine lv_aload_n K.1 K.2.1 dX0_clear_5 rfl (lv_at hl 0 rfl) ?_
  refine lv_iconst (v := nI 0) K.1 K.2.1 dX0_clear_6 (by decide) ?_
  refine p0p_nodes K S dX0_clear_7 (fun H locs S => ?_)
  refine lv_aload_n K.1 K.2.1 dX0_clear_10 rfl (lv_at hl 0 rfl) ?_
  refine lv_iconst (v := nI 0) K.1 K.2.1 dX0_clear_11 (by decide) ?_
  refine p0p_stackSize K S dX0_clear_12 (fun H locs S => ?_)
  refine lv_iconst (v := nI 0) K.1 K.2.1 dX0_clear_15 (by decide) ?_
  refine lv_istore_n (lv' := [(1, .int (nI 0)), (0, .ref (h 0))]) K.1 K.2.1 dX0_clear_16 rfl hl (by decide) rfl (fun ls hl => ?_)
  exact L 4 0 _ _ ls (by omega) (by rw [fill_0, setF_self (setI (setI (setI σ 0 0) 1 0) 6 0) 8 (f := σ.2 8) rfl]; exact S) hl
set_option maxHeartbeats 4000000 in
set_option maxRecDepth 100000 in
theorem met_workOut (h : Nat → Nat) (d : ClassId) (σ : PT) (n q : Nat) (hc : CW σ) (ho : CO σ) (hn : n < σ.1 1) (hq : q ≤ σ.1 9) : CV (h 0) (pw h d) yX0_workOut cX0_workOut 4 ({ frames := 4, cells := 0, slots := 0, locals := 100 }) d [.int (nI n), .int (nI q)] σ (fun u => Fr u σ ∧ CW u ∧ CO u ∧ u.2 11 (21 * n + q) = gval (gP σ) n q) := by
  refine ofV (C := RX0) rfl (by decide) (Nat.le_of_ble_eq_true rfl) ?_
  intro p l e s m args below meth c A dC dI Q K ret ls hl S
  have hl : lv_has ls 4 [(0, .ref (h 0)), (1, .int (nI n)), (2, .int (nI q))] := hl
  have c1 := hc.1
  have c2 := hc.2.1
  have hi : 21 * n + q < 840 := by omega
  have e1 : (21 * n + q) / 21 = n := by omega
  have e2 : (21 * n + q) % 21 = q := by omega
  have L : ∀ (j t : Nat) (u0 : PT) (H : Heap) (locs : List Loc) (ls : Array Slot), mu u0 < j → t + mu u0 ≤ 2520 → WI (gP σ) (21 * n + q) u0 → Fr u0 σ → St dC dI A s.heap H locs (pw h d u0) → lv_has ls 4 [(3, .int (nI t)), (0, .ref (h 0)), (1, .int (nI n)), (2, .int (nI q))] → W p l e ({ frames := 4, cells := 0, slots := 0, locals := 100 }) s m args below meth c H locs 0 0 Q (F0 m 29 ls []) := by
    intro j
    induction j with
    | zero =>
      intro t u0 H locs ls hj
      omega
    | succ j ih =>
      intro t u0 H locs ls hj ht hw hf S hl
      have hd9 : u0.1 12 ≤ 840 := by have := hw.2.2.2.2.2.2.2.2.1; omega
      refine lv_iload_n K.1 K.2.1 dX0_workOut_29 rfl (lv_at hl 0 rfl) ?_
      refine lv_sipush (v := nI 3000) K.1 K.2.1 dX0_workOut_30 (by decide) ?_
      refine bn_ge (tgt := 59) (by omega) (by omega) K.1 K.2.1 dX0_workOut_33 (by decide) (fun c33 => absurd c33 (by omega)) (fun c33 => ?_)
      refine lv_aload_n K.1 K.2.1 dX0_workOut_36 rfl (lv_at hl 1 rfl) ?_
      refine p0g_depth K S dX0_workOut_37 ?_
      refine bn_le0 (tgt := 59) (by omega) K.1 K.2.1 dX0_workOut_40 (by decide) (fun c40 => ?_) (fun c40 => ?_)
      · obtain ⟨z1, z2⟩ := wi_end hw c40
        rw [e1, e2] at z2
        exact ret _ _ _ _ _ dX0_workOut_59 S ⟨hf, hw.2.1, z1, z2⟩
      · obtain ⟨g1, g2⟩ := wi_go hw (show u0.1 12 - 1 + 1 = u0.1 12 by omega)
        refine lv_aload_n K.1 K.2.1 dX0_workOut_43 rfl (lv_at hl 1 rfl) ?_
        refine lv_aload_n K.1 K.2.1 dX0_workOut_44 rfl (lv_at hl 1 rfl) ?_
        refine p0g_depth K S dX0_workOut_45 ?_
        refine lv_iconst (v := nI 1) K.1 K.2.1 dX0_workOut_48 (by decide) ?_
        refine lv_isub K.1 K.2.1 dX0_workOut_49 ?_
        refine lv_to (pk_sub (by omega)) ?_
        refine cvV K S (met_goOn h d u0 (u0.1 12 - 1) (sf_of hw (by omega))) (cwV 1 K.2.2.2.2.1 (lw_V q109 q111 qs3 q16 q112) rfl rfl rfl (by decide +kernel) ⟨Nat.le_of_ble_eq_true rfl, Nat.le_of_ble_eq_true rfl⟩) rfl rfl rfl hl.1 rfl (Nat.le_of_ble_eq_true rfl) dX0_workOut_50 ⟨Nat.zero_le _, Nat.zero_le _⟩ (fun u H locs S hu => ?_)
        rw [hu] at S
        refine lv_iinc (v := nI (t + 1)) (lv' := [(3, .int (nI (t + 1))), (0, .ref (h 0)), (1, .int (nI n)), (2, .int (nI q))]) K.1 K.2.1 dX0_workOut_53 hl (k := 0) rfl (nI_inc _) (by decide) rfl (fun ls hl => ?_)
        refine lv_goto (tgt := 29) K.1 K.2.1 dX0_workOut_56 (by decide) ?_
        exact ih (t + 1) _ H locs ls (by omega) (by omega) g1 (fr_go.tr hf) S hl
  have K27 : ∀ (u0 : PT) (H : Heap) (locs : List Loc) (ls : Array Slot), mu u0 ≤ 2520 → WI (gP σ) (21 * n + q) u0 → Fr u0 σ → St dC dI A s.heap H locs (pw h d u0) → lv_has ls 4 [(0, .ref (h 0)), (1, .int (nI n)), (2, .int (nI q))] → W p l e ({ frames := 4, cells := 0, slots := 0, locals := 100 }) s m args below meth c H locs 0 0 Q (F0 m 27 ls []) := by
    intro u0 H locs ls hm hw hf S hl
    refine lv_iconst (v := nI 0) K.1 K.2.1 dX0_workOut_27 (by decide) ?_
    refine lv_istore_n (lv' := [(3, .int (nI 0)), (0, .ref (h 0)), (1, .int (nI n)), (2, .int (nI q))]) K.1 K.2.1 dX0_workOut_28 rfl hl (by decide) rfl (fun ls hl => ?_)
    exact L 2521 0 u0 H locs ls (by omega) (by omega) hw hf S hl
  have ob : σ.2 11 (21 * n + q) < 1000 := by
    have b := gval_bd (G := gP σ) n q
    have c : gL (gP σ) ≤ 20 := c2
    rcases ho _ hi with z | ⟨-, z⟩
    · omega
    · rw [e1, e2] at z; omega
  refine lv_aload_n K.1 K.2.1 dX0_workOut_0 rfl (lv_at hl 0 rfl) ?_
  refine lv_iconst (v := nI 0) K.1 K.2.1 dX0_workOut_1 (by decide) ?_
  refine p0p_depth K S dX0_workOut_2 (fun H locs S => ?_)
  refine lv_aload_n K.1 K.2.1 dX0_workOut_5 rfl (lv_at hl 0 rfl) ?_
  refine p0g_outcome K S dX0_workOut_6 ?_
  refine lv_bipush (v := nI 21) K.1 K.2.1 dX0_workOut_9 (by decide) ?_
  refine lv_iload_n K.1 K.2.1 dX0_workOut_11 rfl (lv_at hl 1 rfl) ?_
  refine lv_imul K.1 K.2.1 dX0_workOut_12 ?_
  refine lv_to (pk_mul _ _) ?_
  refine lv_iload_n K.1 K.2.1 dX0_workOut_13 rfl (lv_at hl 2 rfl) ?_
  refine lv_iadd K.1 K.2.1 dX0_workOut_14 ?_
  refine lv_to (nI_add _ _) ?_
  refine p0l_outcome (show (21 * n) + q < 840 by omega) K S dX0_workOut_15 ?_
  refine lv_to (y := e4 (σ.2 11 ((21 * n) + q))) rfl ?_
  refine lv_bipush (v := -3) K.1 K.2.1 dX0_workOut_16 (by decide) ?_
  refine lv_to (show (-3 : Int32) = e4 1 by decide) ?_
  refine be_ne (tgt := 27) (by omega) (by omega) K.1 K.2.1 dX0_workOut_18 (by decide) (fun c18 => ?_) (fun c18 => ?_)
  · obtain ⟨z1, z2⟩ := wi_start2 hc ho hn hq (by omega)
    exact K27 _ H locs ls z2 z1 Fr.i S hl
  · obtain ⟨z1, z2⟩ := wi_start1 hc ho hn hq (by omega)
    refine lv_aload_n K.1 K.2.1 dX0_workOut_21 rfl (lv_at hl 0 rfl) ?_
    refine lv_iload_n K.1 K.2.1 dX0_workOut_22 rfl (lv_at hl 1 rfl) ?_
    refine lv_iload_n K.1 K.2.1 dX0_workOut_23 rfl (lv_at hl 2 rfl) ?_
    refine cvV K S (met_putOn h d (setI σ 12 0) n q hi (show 0 < 840 by decide)) (cwV 2 K.2.2.2.2.1 (lw_V q105 q107 qs2 q16 q108) rfl rfl rfl (by decide +kernel) ⟨Nat.le_of_ble_eq_true rfl, Nat.le_of_ble_eq_true rfl⟩) rfl rfl rfl hl.1 rfl (Nat.le_of_ble_eq_true rfl) dX0_workOut_24 ⟨Nat.zero_le _, Nat.zero_le _⟩ (fun u H locs S hu => ?_)
    rw [hu] at S
    exact K27 _ H locs ls z2 z1 (fr_put.tr Fr.i) S hl
set_option maxHeartbeats 4000000 in
set_option maxRecDepth 100000 in
theorem met_type (h : Nat → Nat) (d : ClassId) (σ : PT) (x : Int32) (h1 : σ.1 9 ≤ 20) : CI (h 0) (pw h d) yX0_type cX0_type 2 ({ frames := 1, cells := 0, slots := 0, locals := 21 }) d [.int x] σ (fun r u => (σ.1 9 = 20 → r = -1 ∧ u = σ) ∧ (σ.1 9 < 20 → r = nI (σ.1 9 + 1) ∧ u = pType σ (a3 x))) := by
  refine ofI (C := RX0) rfl (by decide) (Nat.le_of_ble_eq_true rfl) ?_
  intro p l e s m args below meth c A dC dI Q K ret ls hl S
  have hl : lv_has ls 2 [(0, .ref (h 0)), (1, .int x)] := hl
  refine lv_aload_n K.1 K.2.1 dX0_type_0 rfl (lv_at hl 0 rfl) ?_
  refine p0g_length K S dX0_type_1 ?_
  refine lv_bipush (v := nI 20) K.1 K.2.1 dX0_type_4 (by decide) ?_
  refine bn_lt (tgt := 11) (by omega) (by omega) K.1 K.2.1 dX0_type_6 (by decide) (fun c6 => ?_) (fun c6 => ?_)
  · refine lv_aload_n K.1 K.2.1 dX0_type_11 rfl (lv_at hl 0 rfl) ?_
    refine p0g_text K S dX0_type_12 ?_
    refine lv_aload_n K.1 K.2.1 dX0_type_15 rfl (lv_at hl 0 rfl) ?_
    refine p0g_length K S dX0_type_16 ?_
    refine lv_iload_n K.1 K.2.1 dX0_type_19 rfl (lv_at hl 1 rfl) ?_
    refine lv_iconst (v := nI 3) K.1 K.2.1 dX0_type_20 (by decide) ?_
    refine lv_iand K.1 K.2.1 dX0_type_21 ?_
    refine lv_to (a3_and _) ?_
    refine p0s_text (show σ.1 9 < 20 by omega) K S dX0_type_22 (fun H locs S => ?_)
    refine lv_aload_n K.1 K.2.1 dX0_type_23 rfl (lv_at hl 0 rfl) ?_
    refine lv_dup K.1 K.2.1 dX0_type_24 rfl ?_
    refine p0g_length K S dX0_type_25 ?_
    refine lv_to (y := nI (σ.1 9)) rfl ?_
    refine lv_iconst (v := nI 1) K.1 K.2.1 dX0_type_28 (by decide) ?_
    refine lv_iadd K.1 K.2.1 dX0_type_29 ?_
    refine lv_to (nI_add _ _) ?_
    refine p0p_length K S dX0_type_30 (fun H locs S => ?_)
    refine lv_aload_n K.1 K.2.1 dX0_type_33 rfl (lv_at hl 0 rfl) ?_
    refine cvV K S (met_forget h d _) (cwV 0 K.2.2.2.2.1 (lw_V q30 q32 qs0 q16 q33) rfl rfl rfl (by decide +kernel) ⟨Nat.le_of_ble_eq_true rfl, Nat.le_of_ble_eq_true rfl⟩) rfl rfl rfl hl.1 rfl (Nat.le_of_ble_eq_true rfl) dX0_type_34 ⟨Nat.zero_le _, Nat.zero_le _⟩ (fun u H locs S hu => ?_)
    rw [hu] at S
    refine lv_aload_n K.1 K.2.1 dX0_type_37 rfl (lv_at hl 0 rfl) ?_
    refine p0g_length K S dX0_type_38 ?_
    exact ret _ _ _ _ _ _ dX0_type_41 S ⟨fun z => by omega, fun _ => ⟨rfl, rfl⟩⟩
  · refine lv_iconst (v := -1) K.1 K.2.1 dX0_type_9 (by decide) ?_
    exact ret _ _ _ _ _ _ dX0_type_10 S ⟨fun _ => ⟨rfl, rfl⟩, fun z => by omega⟩
set_option maxHeartbeats 4000000 in
set_option maxRecDepth 100000 in
theorem met_erase (h : Nat → Nat) (d : ClassId) (σ : PT) : CV (h 0) (pw h d) yX0_erase cX0_erase 1 ({ frames := 1, cells := 0, slots := 0, locals := 21 }) d [] σ (fun u => u = pForget (setI σ 9 0)) := by
  refine ofV (C := RX0) rfl (by decide) (Nat.le_of_ble_eq_true rfl) ?_
  intro p l e s m args below meth c A dC dI Q K ret ls hl S
  have hl : lv_has ls 1 [(0, .ref (h 0))] := hl
  refine lv_aload_n K.1 K.2.1 dX0_erase_0 rfl (lv_at hl 0 rfl) ?_
  refine lv_iconst (v := nI 0) K.1 K.2.1 dX0_erase_1 (by decide) ?_
  refine p0p_length K S dX0_erase_2 (fun H locs S => ?_)
  refine lv_aload_n K.1 K.2.1 dX0_erase_5 rfl (lv_at hl 0 rfl) ?_
  refine cvV K S (met_forget h d _) (cwV 0 K.2.2.2.2.1 (lw_V q30 q32 qs0 q16 q33) rfl rfl rfl (by decide +kernel) ⟨Nat.le_of_ble_eq_true rfl, Nat.le_of_ble_eq_true rfl⟩) rfl rfl rfl hl.1 rfl (Nat.le_of_ble_eq_true rfl) dX0_erase_6 ⟨Nat.zero_le _, Nat.zero_le _⟩ (fun u H locs S hu => ?_)
  rw [hu] at S
  exact ret _ _ _ _ _ dX0_erase_9 S rfl
set_option maxHeartbeats 4000000 in
set_option maxRecDepth 100000 in
theorem met_token (h : Nat → Nat) (d : ClassId) (σ : PT) (x y : Int32) (h0 : σ.1 0 ≤ 40) (h1 : σ.1 1 ≤ σ.1 0) (h2 : σ.1 6 ≤ σ.1 1) : CI (h 0) (pw h d) yX0_token cX0_token 4 ({ frames := 1, cells := 0, slots := 0, locals := 21 }) d [.int x, .int y] σ (fun r u => Tok (σ.1 0) (σ.1 6) (fun k r u => r = nI (u.1 6) ∧ u = pTok σ k (a3 y)) σ x r u) := by
  refine ofI (C := RX0) rfl (by decide) (Nat.le_of_ble_eq_true rfl) ?_
  intro p l e s m args below meth c A dC dI Q K ret ls hl S
  have hl : lv_has ls 4 [(0, .ref (h 0)), (1, .int x), (2, .int y)] := hl
  have ha := a3_lt y
  rcases pk_ix x (n := 11) (by decide) with hx | hx | ⟨k, hk, rfl⟩
  · skip
    refine lv_iload_n K.1 K.2.1 dX0_token_0 rfl (lv_at hl 1 rfl) ?_
    refine lv_iconst (v := nI 3) K.1 K.2.1 dX0_token_1 (by decide) ?_
    refine lv_icmp_gt (tgt := 9) K.1 K.2.1 dX0_token_2 (by decide) (fun c2 => absurd c2 (ix_ngt (by decide) hx)) (fun c2 => ?_)
    refine lv_iconst (v := nI 0) K.1 K.2.1 dX0_token_5 (by decide) ?_
    refine lv_goto (tgt := 19) K.1 K.2.1 dX0_token_6 (by decide) ?_
    refine lv_istore_n (lv' := [(3, .int (nI 0)), (0, .ref (h 0)), (1, .int x), (2, .int y)]) K.1 K.2.1 dX0_token_19 rfl hl (by decide) rfl (fun ls hl => ?_)
    refine lv_iload_n K.1 K.2.1 dX0_token_20 rfl (lv_at hl 2 rfl) ?_
    refine lv_if_lt (tgt := 47) K.1 K.2.1 dX0_token_21 (by decide) (fun c21 => ?_) (fun c21 => absurd hx c21)
    refine lv_iconst (v := -1) K.1 K.2.1 dX0_token_47 (by decide) ?_
    exact ret _ _ _ _ _ _ dX0_token_48 S (tok_no fun k2 a b _ _ => ix_neg (by omega) hx b)
  · skip
    refine lv_iload_n K.1 K.2.1 dX0_token_0 rfl (lv_at hl 1 rfl) ?_
    refine lv_iconst (v := nI 3) K.1 K.2.1 dX0_token_1 (by decide) ?_
    refine lv_icmp_gt (tgt := 9) K.1 K.2.1 dX0_token_2 (by decide) (fun c2 => ?_) (fun c2 => absurd (ix_gt (by decide) (by decide) hx) c2)
    refine lv_iload_n K.1 K.2.1 dX0_token_9 rfl (lv_at hl 1 rfl) ?_
    refine lv_iconst (v := nI 5) K.1 K.2.1 dX0_token_10 (by decide) ?_
    refine lv_icmp_gt (tgt := 18) K.1 K.2.1 dX0_token_11 (by decide) (fun c11 => ?_) (fun c11 => absurd (ix_gt (by decide) (by decide) hx) c11)
    refine lv_iconst (v := nI 1) K.1 K.2.1 dX0_token_18 (by decide) ?_
    refine lv_istore_n (lv' := [(3, .int (nI 1)), (0, .ref (h 0)), (1, .int x), (2, .int y)]) K.1 K.2.1 dX0_token_19 rfl hl (by decide) rfl (fun ls hl => ?_)
    refine lv_iload_n K.1 K.2.1 dX0_token_20 rfl (lv_at hl 2 rfl) ?_
    refine lv_if_lt (tgt := 47) K.1 K.2.1 dX0_token_21 (by decide) (fun c21 => absurd c21 (ix_nlt (by decide) hx)) (fun c21 => ?_)
    refine lv_iload_n K.1 K.2.1 dX0_token_24 rfl (lv_at hl 2 rfl) ?_
    refine lv_bipush (v := nI 10) K.1 K.2.1 dX0_token_25 (by decide) ?_
    refine lv_icmp_gt (tgt := 47) K.1 K.2.1 dX0_token_27 (by decide) (fun c27 => ?_) (fun c27 => absurd (ix_gt (by decide) (by decide) hx) c27)
    refine lv_iconst (v := -1) K.1 K.2.1 dX0_token_47 (by decide) ?_
    exact ret _ _ _ _ _ _ dX0_token_48 S (tok_no fun k2 a b _ _ => ix_big (by decide) (by omega) hx b)
  · skip
    refine lv_iload_n K.1 K.2.1 dX0_token_0 rfl (lv_at hl 1 rfl) ?_
    refine lv_iconst (v := nI 3) K.1 K.2.1 dX0_token_1 (by decide) ?_
    refine bn_gt (tgt := 9) (by omega) (by omega) K.1 K.2.1 dX0_token_2 (by decide) (fun c2 => ?_) (fun c2 => ?_)
    · refine lv_iload_n K.1 K.2.1 dX0_token_9 rfl (lv_at hl 1 rfl) ?_
      refine lv_iconst (v := nI 5) K.1 K.2.1 dX0_token_10 (by decide) ?_
      refine bn_gt (tgt := 18) (by omega) (by omega) K.1 K.2.1 dX0_token_11 (by decide) (fun c11 => ?_) (fun c11 => ?_)
      · refine lv_iconst (v := nI 1) K.1 K.2.1 dX0_token_18 (by decide) ?_
        refine lv_istore_n (lv' := [(3, .int (nI 1)), (0, .ref (h 0)), (1, .int (nI k)), (2, .int y)]) K.1 K.2.1 dX0_token_19 rfl hl (by decide) rfl (fun ls hl => ?_)
        refine lv_iload_n K.1 K.2.1 dX0_token_20 rfl (lv_at hl 2 rfl) ?_
        refine bn_lt0 (tgt := 47) (by omega) K.1 K.2.1 dX0_token_21 (by decide) (fun c21 => absurd c21 (by omega)) (fun c21 => ?_)
        refine lv_iload_n K.1 K.2.1 dX0_token_24 rfl (lv_at hl 2 rfl) ?_
        refine lv_bipush (v := nI 10) K.1 K.2.1 dX0_token_25 (by decide) ?_
        refine bn_gt (tgt := 47) (by omega) (by omega) K.1 K.2.1 dX0_token_27 (by decide) (fun c27 => absurd c27 (by omega)) (fun c27 => ?_)
        refine lv_aload_n K.1 K.2.1 dX0_token_30 rfl (lv_at hl 1 rfl) ?_
        refine p0g_stackSize K S dX0_token_31 ?_
        refine lv_iload_n K.1 K.2.1 dX0_token_34 rfl (lv_at hl 0 rfl) ?_
        refine bn_lt (tgt := 47) (by omega) (by omega) K.1 K.2.1 dX0_token_35 (by decide) (fun c35 => ?_) (fun c35 => ?_)
        · refine lv_iconst (v := -1) K.1 K.2.1 dX0_token_47 (by decide) ?_
          exact ret _ _ _ _ _ _ dX0_token_48 S (tok_nok (by omega) (fun z1 z2 => by have := tk_hi c11; omega))
        · refine lv_aload_n K.1 K.2.1 dX0_token_38 rfl (lv_at hl 1 rfl) ?_
          refine p0g_tokens K S dX0_token_39 ?_
          refine lv_bipush (v := nI 40) K.1 K.2.1 dX0_token_42 (by decide) ?_
          refine bn_lt (tgt := 49) (by omega) (by omega) K.1 K.2.1 dX0_token_44 (by decide) (fun c44 => ?_) (fun c44 => ?_)
          · refine lv_aload_n K.1 K.2.1 dX0_token_49 rfl (lv_at hl 1 rfl) ?_
            refine lv_dup K.1 K.2.1 dX0_token_50 rfl ?_
            refine p0g_tokens K S dX0_token_51 ?_
            refine lv_iconst (v := nI 1) K.1 K.2.1 dX0_token_54 (by decide) ?_
            refine lv_iadd K.1 K.2.1 dX0_token_55 ?_
            refine lv_to (nI_add _ _) ?_
            refine p0p_tokens K S dX0_token_56 (fun H locs S => ?_)
            refine lv_iload_n K.1 K.2.1 dX0_token_59 rfl (lv_at hl 2 rfl) ?_
            refine lv_bipush (v := nI 10) K.1 K.2.1 dX0_token_60 (by decide) ?_
            refine bn_ne (tgt := 101) (by omega) (by omega) K.1 K.2.1 dX0_token_62 (by decide) (fun c62 => ?_) (fun c62 => ?_)
            · refine lv_aload_n K.1 K.2.1 dX0_token_101 rfl (lv_at hl 1 rfl) ?_
              refine p0g_op K S dX0_token_102 ?_
              refine lv_aload_n K.1 K.2.1 dX0_token_105 rfl (lv_at hl 1 rfl) ?_
              refine p0g_nodes K S dX0_token_106 ?_
              refine lv_to (y := nI (σ.1 1)) rfl ?_
              refine lv_iload_n K.1 K.2.1 dX0_token_109 rfl (lv_at hl 2 rfl) ?_
              refine p0s_op (show σ.1 1 < 40 by omega) K S dX0_token_110 (fun H locs S => ?_)
              refine lv_aload_n K.1 K.2.1 dX0_token_111 rfl (lv_at hl 1 rfl) ?_
              refine p0g_argument K S dX0_token_112 ?_
              refine lv_aload_n K.1 K.2.1 dX0_token_115 rfl (lv_at hl 1 rfl) ?_
              refine p0g_nodes K S dX0_token_116 ?_
              refine lv_to (y := nI (σ.1 1)) rfl ?_
              refine lv_iload_n K.1 K.2.1 dX0_token_119 rfl (lv_at hl 3 rfl) ?_
              refine lv_iconst (v := nI 3) K.1 K.2.1 dX0_token_120 (by decide) ?_
              refine lv_iand K.1 K.2.1 dX0_token_121 ?_
              refine lv_to (a3_and _) ?_
              refine p0s_argument (show σ.1 1 < 40 by omega) K S dX0_token_122 (fun H locs S => ?_)
              refine lv_aload_n K.1 K.2.1 dX0_token_123 rfl (lv_at hl 1 rfl) ?_
              refine p0g_left K S dX0_token_124 ?_
              refine lv_aload_n K.1 K.2.1 dX0_token_127 rfl (lv_at hl 1 rfl) ?_
              refine p0g_nodes K S dX0_token_128 ?_
              refine lv_to (y := nI (σ.1 1)) rfl ?_
              refine lv_iload_n K.1 K.2.1 dX0_token_131 rfl (lv_at hl 0 rfl) ?_
              refine bn_le0 (tgt := 149) (by omega) K.1 K.2.1 dX0_token_132 (by decide) (fun c132 => absurd c132 (by omega)) (fun c132 => ?_)
              refine lv_aload_n K.1 K.2.1 dX0_token_135 rfl (lv_at hl 1 rfl) ?_
              refine p0g_stack K S dX0_token_136 ?_
              refine lv_aload_n K.1 K.2.1 dX0_token_139 rfl (lv_at hl 1 rfl) ?_
              refine p0g_stackSize K S dX0_token_140 ?_
              refine lv_to (y := nI (σ.1 6)) rfl ?_
              refine lv_iload_n K.1 K.2.1 dX0_token_143 rfl (lv_at hl 0 rfl) ?_
              refine lv_isub K.1 K.2.1 dX0_token_144 ?_
              refine lv_to (pk_sub (by omega)) ?_
              refine p0l_stack (show (σ.1 6) - 1 < 40 by omega) K S dX0_token_145 ?_
              refine lv_to (y := nI (σ.2 7 ((σ.1 6) - 1))) rfl ?_
              refine lv_goto (tgt := 150) K.1 K.2.1 dX0_token_146 (by decide) ?_
              refine lv_to (nI_e1 _) ?_
              refine p0s_left (show σ.1 1 < 40 by omega) K S dX0_token_150 (fun H locs S => ?_)
              refine lv_aload_n K.1 K.2.1 dX0_token_151 rfl (lv_at hl 1 rfl) ?_
              refine p0g_right K S dX0_token_152 ?_
              refine lv_aload_n K.1 K.2.1 dX0_token_155 rfl (lv_at hl 1 rfl) ?_
              refine p0g_nodes K S dX0_token_156 ?_
              refine lv_to (y := nI (σ.1 1)) rfl ?_
              refine lv_iload_n K.1 K.2.1 dX0_token_159 rfl (lv_at hl 0 rfl) ?_
              refine lv_iconst (v := nI 2) K.1 K.2.1 dX0_token_160 (by decide) ?_
              refine bn_ne (tgt := 178) (by omega) (by omega) K.1 K.2.1 dX0_token_161 (by decide) (fun c161 => ?_) (fun c161 => absurd c161 (by omega))
              refine lv_iconst (v := -1) K.1 K.2.1 dX0_token_178 (by decide) ?_
              refine lv_to (show (-1 : Int32) = e1 0 by decide) ?_
              refine p0s_right (show σ.1 1 < 40 by omega) K S dX0_token_179 (fun H locs S => ?_)
              refine lv_aload_n K.1 K.2.1 dX0_token_180 rfl (lv_at hl 1 rfl) ?_
              refine lv_dup K.1 K.2.1 dX0_token_181 rfl ?_
              refine p0g_stackSize K S dX0_token_182 ?_
              refine lv_to (y := nI (σ.1 6)) rfl ?_
              refine lv_iload_n K.1 K.2.1 dX0_token_185 rfl (lv_at hl 0 rfl) ?_
              refine lv_isub K.1 K.2.1 dX0_token_186 ?_
              refine lv_to (pk_sub (by omega)) ?_
              refine p0p_stackSize K S dX0_token_187 (fun H locs S => ?_)
              refine lv_aload_n K.1 K.2.1 dX0_token_190 rfl (lv_at hl 1 rfl) ?_
              refine p0g_stack K S dX0_token_191 ?_
              refine lv_aload_n K.1 K.2.1 dX0_token_194 rfl (lv_at hl 1 rfl) ?_
              refine p0g_stackSize K S dX0_token_195 ?_
              refine lv_to (y := nI ((σ.1 6) - 1)) rfl ?_
              refine lv_aload_n K.1 K.2.1 dX0_token_198 rfl (lv_at hl 1 rfl) ?_
              refine p0g_nodes K S dX0_token_199 ?_
              refine lv_to (y := nI (σ.1 1)) rfl ?_
              refine p0s_stack (show (σ.1 6) - 1 < 40 by omega) K S dX0_token_202 (fun H locs S => ?_)
              refine lv_aload_n K.1 K.2.1 dX0_token_203 rfl (lv_at hl 1 rfl) ?_
              refine lv_dup K.1 K.2.1 dX0_token_204 rfl ?_
              refine p0g_stackSize K S dX0_token_205 ?_
              refine lv_to (y := nI ((σ.1 6) - 1)) rfl ?_
              refine lv_iconst (v := nI 1) K.1 K.2.1 dX0_token_208 (by decide) ?_
              refine lv_iadd K.1 K.2.1 dX0_token_209 ?_
              refine lv_to (nI_add _ _) ?_
              refine p0p_stackSize K S dX0_token_210 (fun H locs S => ?_)
              refine lv_aload_n K.1 K.2.1 dX0_token_213 rfl (lv_at hl 1 rfl) ?_
              refine lv_dup K.1 K.2.1 dX0_token_214 rfl ?_
              refine p0g_nodes K S dX0_token_215 ?_
              refine lv_to (y := nI (σ.1 1)) rfl ?_
              refine lv_iconst (v := nI 1) K.1 K.2.1 dX0_token_218 (by decide) ?_
              refine lv_iadd K.1 K.2.1 dX0_token_219 ?_
              refine lv_to (nI_add _ _) ?_
              refine p0p_nodes K S dX0_token_220 (fun H locs S => ?_)
              refine lv_aload_n K.1 K.2.1 dX0_token_223 rfl (lv_at hl 1 rfl) ?_
              refine p0g_stackSize K S dX0_token_224 ?_
              refine lv_to (y := nI (((σ.1 6) - 1) + 1)) rfl ?_
              exact ret _ _ _ _ _ _ dX0_token_227 S (tok_in (by omega) (by rw [tk_hi c11]; omega) (by omega) ⟨rfl, by unfold pTok; rw [if_neg (by omega), if_neg (by omega), if_neg (by omega)]; rfl⟩)
            · refine lv_aload_n K.1 K.2.1 dX0_token_65 rfl (lv_at hl 1 rfl) ?_
              refine lv_dup K.1 K.2.1 dX0_token_66 rfl ?_
              refine p0g_stackSize K S dX0_token_67 ?_
              refine lv_to (y := nI (σ.1 6)) rfl ?_
              refine lv_iconst (v := nI 1) K.1 K.2.1 dX0_token_70 (by decide) ?_
              refine lv_isub K.1 K.2.1 dX0_token_71 ?_
              refine lv_to (pk_sub (by omega)) ?_
              refine p0p_stackSize K S dX0_token_72 (fun H locs S => ?_)
              refine lv_aload_n K.1 K.2.1 dX0_token_75 rfl (lv_at hl 1 rfl) ?_
              refine p0g_ruleNode K S dX0_token_76 ?_
              refine lv_iload_n K.1 K.2.1 dX0_token_79 rfl (lv_at hl 3 rfl) ?_
              refine lv_iconst (v := nI 3) K.1 K.2.1 dX0_token_80 (by decide) ?_
              refine lv_iand K.1 K.2.1 dX0_token_81 ?_
              refine lv_to (a3_and _) ?_
              refine lv_aload_n K.1 K.2.1 dX0_token_82 rfl (lv_at hl 1 rfl) ?_
              refine p0g_stack K S dX0_token_83 ?_
              refine lv_aload_n K.1 K.2.1 dX0_token_86 rfl (lv_at hl 1 rfl) ?_
              refine p0g_stackSize K S dX0_token_87 ?_
              refine lv_to (y := nI ((σ.1 6) - 1)) rfl ?_
              refine p0l_stack (show (σ.1 6) - 1 < 40 by omega) K S dX0_token_90 ?_
              refine lv_to (y := nI (σ.2 7 ((σ.1 6) - 1))) rfl ?_
              refine lv_to (nI_e1 _) ?_
              refine p0s_ruleNode (show a3 y < 4 by omega) K S dX0_token_91 (fun H locs S => ?_)
              refine lv_aload_n K.1 K.2.1 dX0_token_92 rfl (lv_at hl 1 rfl) ?_
              refine cvV K S (met_forget h d _) (cwV 0 K.2.2.2.2.1 (lw_V q30 q32 qs0 q16 q33) rfl rfl rfl (by decide +kernel) ⟨Nat.le_of_ble_eq_true rfl, Nat.le_of_ble_eq_true rfl⟩) rfl rfl rfl hl.1 rfl (Nat.le_of_ble_eq_true rfl) dX0_token_93 ⟨Nat.zero_le _, Nat.zero_le _⟩ (fun u H locs S hu => ?_)
              rw [hu] at S
              refine lv_aload_n K.1 K.2.1 dX0_token_96 rfl (lv_at hl 1 rfl) ?_
              refine p0g_stackSize K S dX0_token_97 ?_
              refine lv_to (y := nI (σ.1 6 - 1)) rfl ?_
              exact ret _ _ _ _ _ _ dX0_token_100 S (tok_in (by omega) (by rw [tk_hi c11]; omega) (by omega) ⟨rfl, by unfold pTok; rw [if_pos (by omega)]; rfl⟩)
          · refine lv_iconst (v := -1) K.1 K.2.1 dX0_token_47 (by decide) ?_
            exact ret _ _ _ _ _ _ dX0_token_48 S (tok_nok (by omega) (fun z1 z2 => by have := tk_hi c11; omega))
      · refine lv_iconst (v := nI 2) K.1 K.2.1 dX0_token_14 (by decide) ?_
        refine lv_goto (tgt := 19) K.1 K.2.1 dX0_token_15 (by decide) ?_
        refine lv_istore_n (lv' := [(3, .int (nI 2)), (0, .ref (h 0)), (1, .int (nI k)), (2, .int y)]) K.1 K.2.1 dX0_token_19 rfl hl (by decide) rfl (fun ls hl => ?_)
        refine lv_iload_n K.1 K.2.1 dX0_token_20 rfl (lv_at hl 2 rfl) ?_
        refine bn_lt0 (tgt := 47) (by omega) K.1 K.2.1 dX0_token_21 (by decide) (fun c21 => absurd c21 (by omega)) (fun c21 => ?_)
        refine lv_iload_n K.1 K.2.1 dX0_token_24 rfl (lv_at hl 2 rfl) ?_
        refine lv_bipush (v := nI 10) K.1 K.2.1 dX0_token_25 (by decide) ?_
        refine bn_gt (tgt := 47) (by omega) (by omega) K.1 K.2.1 dX0_token_27 (by decide) (fun c27 => absurd c27 (by omega)) (fun c27 => ?_)
        refine lv_aload_n K.1 K.2.1 dX0_token_30 rfl (lv_at hl 1 rfl) ?_
        refine p0g_stackSize K S dX0_token_31 ?_
        refine lv_iload_n K.1 K.2.1 dX0_token_34 rfl (lv_at hl 0 rfl) ?_
        refine bn_lt (tgt := 47) (by omega) (by omega) K.1 K.2.1 dX0_token_35 (by decide) (fun c35 => ?_) (fun c35 => ?_)
        · refine lv_iconst (v := -1) K.1 K.2.1 dX0_token_47 (by decide) ?_
          exact ret _ _ _ _ _ _ dX0_token_48 S (tok_nok (by omega) (fun z1 z2 => by have := tk_mid c2 c11; omega))
        · refine lv_aload_n K.1 K.2.1 dX0_token_38 rfl (lv_at hl 1 rfl) ?_
          refine p0g_tokens K S dX0_token_39 ?_
          refine lv_bipush (v := nI 40) K.1 K.2.1 dX0_token_42 (by decide) ?_
          refine bn_lt (tgt := 49) (by omega) (by omega) K.1 K.2.1 dX0_token_44 (by decide) (fun c44 => ?_) (fun c44 => ?_)
          · refine lv_aload_n K.1 K.2.1 dX0_token_49 rfl (lv_at hl 1 rfl) ?_
            refine lv_dup K.1 K.2.1 dX0_token_50 rfl ?_
            refine p0g_tokens K S dX0_token_51 ?_
            refine lv_iconst (v := nI 1) K.1 K.2.1 dX0_token_54 (by decide) ?_
            refine lv_iadd K.1 K.2.1 dX0_token_55 ?_
            refine lv_to (nI_add _ _) ?_
            refine p0p_tokens K S dX0_token_56 (fun H locs S => ?_)
            refine lv_iload_n K.1 K.2.1 dX0_token_59 rfl (lv_at hl 2 rfl) ?_
            refine lv_bipush (v := nI 10) K.1 K.2.1 dX0_token_60 (by decide) ?_
            refine bn_ne (tgt := 101) (by omega) (by omega) K.1 K.2.1 dX0_token_62 (by decide) (fun c62 => ?_) (fun c62 => absurd c62 (by omega))
            refine lv_aload_n K.1 K.2.1 dX0_token_101 rfl (lv_at hl 1 rfl) ?_
            refine p0g_op K S dX0_token_102 ?_
            refine lv_aload_n K.1 K.2.1 dX0_token_105 rfl (lv_at hl 1 rfl) ?_
            refine p0g_nodes K S dX0_token_106 ?_
            refine lv_to (y := nI (σ.1 1)) rfl ?_
            refine lv_iload_n K.1 K.2.1 dX0_token_109 rfl (lv_at hl 2 rfl) ?_
            refine p0s_op (show σ.1 1 < 40 by omega) K S dX0_token_110 (fun H locs S => ?_)
            refine lv_aload_n K.1 K.2.1 dX0_token_111 rfl (lv_at hl 1 rfl) ?_
            refine p0g_argument K S dX0_token_112 ?_
            refine lv_aload_n K.1 K.2.1 dX0_token_115 rfl (lv_at hl 1 rfl) ?_
            refine p0g_nodes K S dX0_token_116 ?_
            refine lv_to (y := nI (σ.1 1)) rfl ?_
            refine lv_iload_n K.1 K.2.1 dX0_token_119 rfl (lv_at hl 3 rfl) ?_
            refine lv_iconst (v := nI 3) K.1 K.2.1 dX0_token_120 (by decide) ?_
            refine lv_iand K.1 K.2.1 dX0_token_121 ?_
            refine lv_to (a3_and _) ?_
            refine p0s_argument (show σ.1 1 < 40 by omega) K S dX0_token_122 (fun H locs S => ?_)
            refine lv_aload_n K.1 K.2.1 dX0_token_123 rfl (lv_at hl 1 rfl) ?_
            refine p0g_left K S dX0_token_124 ?_
            refine lv_aload_n K.1 K.2.1 dX0_token_127 rfl (lv_at hl 1 rfl) ?_
            refine p0g_nodes K S dX0_token_128 ?_
            refine lv_to (y := nI (σ.1 1)) rfl ?_
            refine lv_iload_n K.1 K.2.1 dX0_token_131 rfl (lv_at hl 0 rfl) ?_
            refine bn_le0 (tgt := 149) (by omega) K.1 K.2.1 dX0_token_132 (by decide) (fun c132 => absurd c132 (by omega)) (fun c132 => ?_)
            refine lv_aload_n K.1 K.2.1 dX0_token_135 rfl (lv_at hl 1 rfl) ?_
            refine p0g_stack K S dX0_token_136 ?_
            refine lv_aload_n K.1 K.2.1 dX0_token_139 rfl (lv_at hl 1 rfl) ?_
            refine p0g_stackSize K S dX0_token_140 ?_
            refine lv_to (y := nI (σ.1 6)) rfl ?_
            refine lv_iload_n K.1 K.2.1 dX0_token_143 rfl (lv_at hl 0 rfl) ?_
            refine lv_isub K.1 K.2.1 dX0_token_144 ?_
            refine lv_to (pk_sub (by omega)) ?_
            refine p0l_stack (show (σ.1 6) - 2 < 40 by omega) K S dX0_token_145 ?_
            refine lv_to (y := nI (σ.2 7 ((σ.1 6) - 2))) rfl ?_
            refine lv_goto (tgt := 150) K.1 K.2.1 dX0_token_146 (by decide) ?_
            refine lv_to (nI_e1 _) ?_
            refine p0s_left (show σ.1 1 < 40 by omega) K S dX0_token_150 (fun H locs S => ?_)
            refine lv_aload_n K.1 K.2.1 dX0_token_151 rfl (lv_at hl 1 rfl) ?_
            refine p0g_right K S dX0_token_152 ?_
            refine lv_aload_n K.1 K.2.1 dX0_token_155 rfl (lv_at hl 1 rfl) ?_
            refine p0g_nodes K S dX0_token_156 ?_
            refine lv_to (y := nI (σ.1 1)) rfl ?_
            refine lv_iload_n K.1 K.2.1 dX0_token_159 rfl (lv_at hl 0 rfl) ?_
            refine lv_iconst (v := nI 2) K.1 K.2.1 dX0_token_160 (by decide) ?_
            refine bn_ne (tgt := 178) (by omega) (by omega) K.1 K.2.1 dX0_token_161 (by decide) (fun c161 => absurd c161 (by omega)) (fun c161 => ?_)
            refine lv_aload_n K.1 K.2.1 dX0_token_164 rfl (lv_at hl 1 rfl) ?_
            refine p0g_stack K S dX0_token_165 ?_
            refine lv_aload_n K.1 K.2.1 dX0_token_168 rfl (lv_at hl 1 rfl) ?_
            refine p0g_stackSize K S dX0_token_169 ?_
            refine lv_to (y := nI (σ.1 6)) rfl ?_
            refine lv_iconst (v := nI 1) K.1 K.2.1 dX0_token_172 (by decide) ?_
            refine lv_isub K.1 K.2.1 dX0_token_173 ?_
            refine lv_to (pk_sub (by omega)) ?_
            refine p0l_stack (show (σ.1 6) - 1 < 40 by omega) K S dX0_token_174 ?_
            refine lv_to (y := nI (σ.2 7 ((σ.1 6) - 1))) rfl ?_
            refine lv_goto (tgt := 179) K.1 K.2.1 dX0_token_175 (by decide) ?_
            refine lv_to (nI_e1 _) ?_
            refine p0s_right (show σ.1 1 < 40 by omega) K S dX0_token_179 (fun H locs S => ?_)
            refine lv_aload_n K.1 K.2.1 dX0_token_180 rfl (lv_at hl 1 rfl) ?_
            refine lv_dup K.1 K.2.1 dX0_token_181 rfl ?_
            refine p0g_stackSize K S dX0_token_182 ?_
            refine lv_to (y := nI (σ.1 6)) rfl ?_
            refine lv_iload_n K.1 K.2.1 dX0_token_185 rfl (lv_at hl 0 rfl) ?_
            refine lv_isub K.1 K.2.1 dX0_token_186 ?_
            refine lv_to (pk_sub (by omega)) ?_
            refine p0p_stackSize K S dX0_token_187 (fun H locs S => ?_)
            refine lv_aload_n K.1 K.2.1 dX0_token_190 rfl (lv_at hl 1 rfl) ?_
            refine p0g_stack K S dX0_token_191 ?_
            refine lv_aload_n K.1 K.2.1 dX0_token_194 rfl (lv_at hl 1 rfl) ?_
            refine p0g_stackSize K S dX0_token_195 ?_
            refine lv_to (y := nI ((σ.1 6) - 2)) rfl ?_
            refine lv_aload_n K.1 K.2.1 dX0_token_198 rfl (lv_at hl 1 rfl) ?_
            refine p0g_nodes K S dX0_token_199 ?_
            refine lv_to (y := nI (σ.1 1)) rfl ?_
            refine p0s_stack (show (σ.1 6) - 2 < 40 by omega) K S dX0_token_202 (fun H locs S => ?_)
            refine lv_aload_n K.1 K.2.1 dX0_token_203 rfl (lv_at hl 1 rfl) ?_
            refine lv_dup K.1 K.2.1 dX0_token_204 rfl ?_
            refine p0g_stackSize K S dX0_token_205 ?_
            refine lv_to (y := nI ((σ.1 6) - 2)) rfl ?_
            refine lv_iconst (v := nI 1) K.1 K.2.1 dX0_token_208 (by decide) ?_
            refine lv_iadd K.1 K.2.1 dX0_token_209 ?_
            refine lv_to (nI_add _ _) ?_
            refine p0p_stackSize K S dX0_token_210 (fun H locs S => ?_)
            refine lv_aload_n K.1 K.2.1 dX0_token_213 rfl (lv_at hl 1 rfl) ?_
            refine lv_dup K.1 K.2.1 dX0_token_214 rfl ?_
            refine p0g_nodes K S dX0_token_215 ?_
            refine lv_to (y := nI (σ.1 1)) rfl ?_
            refine lv_iconst (v := nI 1) K.1 K.2.1 dX0_token_218 (by decide) ?_
            refine lv_iadd K.1 K.2.1 dX0_token_219 ?_
            refine lv_to (nI_add _ _) ?_
            refine p0p_nodes K S dX0_token_220 (fun H locs S => ?_)
            refine lv_aload_n K.1 K.2.1 dX0_token_223 rfl (lv_at hl 1 rfl) ?_
            refine p0g_stackSize K S dX0_token_224 ?_
            refine lv_to (y := nI (((σ.1 6) - 2) + 1)) rfl ?_
            exact ret _ _ _ _ _ _ dX0_token_227 S (tok_in (by omega) (by rw [tk_mid c2 c11]; omega) (by omega) ⟨rfl, by unfold pTok; rw [if_neg (by omega), if_neg (by omega), if_pos (by omega)]; rfl⟩)
          · refine lv_iconst (v := -1) K.1 K.2.1 dX0_token_47 (by decide) ?_
            exact ret _ _ _ _ _ _ dX0_token_48 S (tok_nok (by omega) (fun z1 z2 => by have := tk_mid c2 c11; omega))
    · refine lv_iconst (v := nI 0) K.1 K.2.1 dX0_token_5 (by decide) ?_
      refine lv_goto (tgt := 19) K.1 K.2.1 dX0_token_6 (by decide) ?_
      refine lv_istore_n (lv' := [(3, .int (nI 0)), (0, .ref (h 0)), (1, .int (nI k)), (2, .int y)]) K.1 K.2.1 dX0_token_19 rfl hl (by decide) rfl (fun ls hl => ?_)
      refine lv_iload_n K.1 K.2.1 dX0_token_20 rfl (lv_at hl 2 rfl) ?_
      refine bn_lt0 (tgt := 47) (by omega) K.1 K.2.1 dX0_token_21 (by decide) (fun c21 => absurd c21 (by omega)) (fun c21 => ?_)
      refine lv_iload_n K.1 K.2.1 dX0_token_24 rfl (lv_at hl 2 rfl) ?_
      refine lv_bipush (v := nI 10) K.1 K.2.1 dX0_token_25 (by decide) ?_
      refine bn_gt (tgt := 47) (by omega) (by omega) K.1 K.2.1 dX0_token_27 (by decide) (fun c27 => absurd c27 (by omega)) (fun c27 => ?_)
      refine lv_aload_n K.1 K.2.1 dX0_token_30 rfl (lv_at hl 1 rfl) ?_
      refine p0g_stackSize K S dX0_token_31 ?_
      refine lv_iload_n K.1 K.2.1 dX0_token_34 rfl (lv_at hl 0 rfl) ?_
      refine bn_lt (tgt := 47) (by omega) (by omega) K.1 K.2.1 dX0_token_35 (by decide) (fun c35 => ?_) (fun c35 => ?_)
      · refine lv_iconst (v := -1) K.1 K.2.1 dX0_token_47 (by decide) ?_
        exact ret _ _ _ _ _ _ dX0_token_48 S (tok_nok (by omega) (fun z1 z2 => by have := tk_lo c2; omega))
      · refine lv_aload_n K.1 K.2.1 dX0_token_38 rfl (lv_at hl 1 rfl) ?_
        refine p0g_tokens K S dX0_token_39 ?_
        refine lv_bipush (v := nI 40) K.1 K.2.1 dX0_token_42 (by decide) ?_
        refine bn_lt (tgt := 49) (by omega) (by omega) K.1 K.2.1 dX0_token_44 (by decide) (fun c44 => ?_) (fun c44 => ?_)
        · refine lv_aload_n K.1 K.2.1 dX0_token_49 rfl (lv_at hl 1 rfl) ?_
          refine lv_dup K.1 K.2.1 dX0_token_50 rfl ?_
          refine p0g_tokens K S dX0_token_51 ?_
          refine lv_iconst (v := nI 1) K.1 K.2.1 dX0_token_54 (by decide) ?_
          refine lv_iadd K.1 K.2.1 dX0_token_55 ?_
          refine lv_to (nI_add _ _) ?_
          refine p0p_tokens K S dX0_token_56 (fun H locs S => ?_)
          refine lv_iload_n K.1 K.2.1 dX0_token_59 rfl (lv_at hl 2 rfl) ?_
          refine lv_bipush (v := nI 10) K.1 K.2.1 dX0_token_60 (by decide) ?_
          refine bn_ne (tgt := 101) (by omega) (by omega) K.1 K.2.1 dX0_token_62 (by decide) (fun c62 => ?_) (fun c62 => absurd c62 (by omega))
          refine lv_aload_n K.1 K.2.1 dX0_token_101 rfl (lv_at hl 1 rfl) ?_
          refine p0g_op K S dX0_token_102 ?_
          refine lv_aload_n K.1 K.2.1 dX0_token_105 rfl (lv_at hl 1 rfl) ?_
          refine p0g_nodes K S dX0_token_106 ?_
          refine lv_to (y := nI (σ.1 1)) rfl ?_
          refine lv_iload_n K.1 K.2.1 dX0_token_109 rfl (lv_at hl 2 rfl) ?_
          refine p0s_op (show σ.1 1 < 40 by omega) K S dX0_token_110 (fun H locs S => ?_)
          refine lv_aload_n K.1 K.2.1 dX0_token_111 rfl (lv_at hl 1 rfl) ?_
          refine p0g_argument K S dX0_token_112 ?_
          refine lv_aload_n K.1 K.2.1 dX0_token_115 rfl (lv_at hl 1 rfl) ?_
          refine p0g_nodes K S dX0_token_116 ?_
          refine lv_to (y := nI (σ.1 1)) rfl ?_
          refine lv_iload_n K.1 K.2.1 dX0_token_119 rfl (lv_at hl 3 rfl) ?_
          refine lv_iconst (v := nI 3) K.1 K.2.1 dX0_token_120 (by decide) ?_
          refine lv_iand K.1 K.2.1 dX0_token_121 ?_
          refine lv_to (a3_and _) ?_
          refine p0s_argument (show σ.1 1 < 40 by omega) K S dX0_token_122 (fun H locs S => ?_)
          refine lv_aload_n K.1 K.2.1 dX0_token_123 rfl (lv_at hl 1 rfl) ?_
          refine p0g_left K S dX0_token_124 ?_
          refine lv_aload_n K.1 K.2.1 dX0_token_127 rfl (lv_at hl 1 rfl) ?_
          refine p0g_nodes K S dX0_token_128 ?_
          refine lv_to (y := nI (σ.1 1)) rfl ?_
          refine lv_iload_n K.1 K.2.1 dX0_token_131 rfl (lv_at hl 0 rfl) ?_
          refine bn_le0 (tgt := 149) (by omega) K.1 K.2.1 dX0_token_132 (by decide) (fun c132 => ?_) (fun c132 => absurd c132 (by omega))
          refine lv_iconst (v := -1) K.1 K.2.1 dX0_token_149 (by decide) ?_
          refine lv_to (show (-1 : Int32) = e1 0 by decide) ?_
          refine p0s_left (show σ.1 1 < 40 by omega) K S dX0_token_150 (fun H locs S => ?_)
          refine lv_aload_n K.1 K.2.1 dX0_token_151 rfl (lv_at hl 1 rfl) ?_
          refine p0g_right K S dX0_token_152 ?_
          refine lv_aload_n K.1 K.2.1 dX0_token_155 rfl (lv_at hl 1 rfl) ?_
          refine p0g_nodes K S dX0_token_156 ?_
          refine lv_to (y := nI (σ.1 1)) rfl ?_
          refine lv_iload_n K.1 K.2.1 dX0_token_159 rfl (lv_at hl 0 rfl) ?_
          refine lv_iconst (v := nI 2) K.1 K.2.1 dX0_token_160 (by decide) ?_
          refine bn_ne (tgt := 178) (by omega) (by omega) K.1 K.2.1 dX0_token_161 (by decide) (fun c161 => ?_) (fun c161 => absurd c161 (by omega))
          refine lv_iconst (v := -1) K.1 K.2.1 dX0_token_178 (by decide) ?_
          refine lv_to (show (-1 : Int32) = e1 0 by decide) ?_
          refine p0s_right (show σ.1 1 < 40 by omega) K S dX0_token_179 (fun H locs S => ?_)
          refine lv_aload_n K.1 K.2.1 dX0_token_180 rfl (lv_at hl 1 rfl) ?_
          refine lv_dup K.1 K.2.1 dX0_token_181 rfl ?_
          refine p0g_stackSize K S dX0_token_182 ?_
          refine lv_to (y := nI (σ.1 6)) rfl ?_
          refine lv_iload_n K.1 K.2.1 dX0_token_185 rfl (lv_at hl 0 rfl) ?_
          refine lv_isub K.1 K.2.1 dX0_token_186 ?_
          refine lv_to (pk_sub (by omega)) ?_
          refine p0p_stackSize K S dX0_token_187 (fun H locs S => ?_)
          refine lv_aload_n K.1 K.2.1 dX0_token_190 rfl (lv_at hl 1 rfl) ?_
          refine p0g_stack K S dX0_token_191 ?_
          refine lv_aload_n K.1 K.2.1 dX0_token_194 rfl (lv_at hl 1 rfl) ?_
          refine p0g_stackSize K S dX0_token_195 ?_
          refine lv_to (y := nI ((σ.1 6) - 0)) rfl ?_
          refine lv_aload_n K.1 K.2.1 dX0_token_198 rfl (lv_at hl 1 rfl) ?_
          refine p0g_nodes K S dX0_token_199 ?_
          refine lv_to (y := nI (σ.1 1)) rfl ?_
          refine p0s_stack (show (σ.1 6) - 0 < 40 by omega) K S dX0_token_202 (fun H locs S => ?_)
          refine lv_aload_n K.1 K.2.1 dX0_token_203 rfl (lv_at hl 1 rfl) ?_
          refine lv_dup K.1 K.2.1 dX0_token_204 rfl ?_
          refine p0g_stackSize K S dX0_token_205 ?_
          refine lv_to (y := nI ((σ.1 6) - 0)) rfl ?_
          refine lv_iconst (v := nI 1) K.1 K.2.1 dX0_token_208 (by decide) ?_
          refine lv_iadd K.1 K.2.1 dX0_token_209 ?_
          refine lv_to (nI_add _ _) ?_
          refine p0p_stackSize K S dX0_token_210 (fun H locs S => ?_)
          refine lv_aload_n K.1 K.2.1 dX0_token_213 rfl (lv_at hl 1 rfl) ?_
          refine lv_dup K.1 K.2.1 dX0_token_214 rfl ?_
          refine p0g_nodes K S dX0_token_215 ?_
          refine lv_to (y := nI (σ.1 1)) rfl ?_
          refine lv_iconst (v := nI 1) K.1 K.2.1 dX0_token_218 (by decide) ?_
          refine lv_iadd K.1 K.2.1 dX0_token_219 ?_
          refine lv_to (nI_add _ _) ?_
          refine p0p_nodes K S dX0_token_220 (fun H locs S => ?_)
          refine lv_aload_n K.1 K.2.1 dX0_token_223 rfl (lv_at hl 1 rfl) ?_
          refine p0g_stackSize K S dX0_token_224 ?_
          refine lv_to (y := nI (((σ.1 6) - 0) + 1)) rfl ?_
          exact ret _ _ _ _ _ _ dX0_token_227 S (tok_in (by omega) (by rw [tk_lo c2]; omega) (by omega) ⟨rfl, by unfold pTok; rw [if_neg (by omega), if_pos (by omega)]; rfl⟩)
        · refine lv_iconst (v := -1) K.1 K.2.1 dX0_token_47 (by decide) ?_
          exact ret _ _ _ _ _ _ dX0_token_48 S (tok_nok (by omega) (fun z1 z2 => by have := tk_lo c2; omega))
end
section
set_option maxRecDepth 100000
/-! PegTables: match, matches, find, whole, stuck -/
set_option maxHeartbeats 4000000 in
set_option maxRecDepth 100000 in
theorem met_match (h : Nat → Nat) (d : ClassId) (σ : PT) (x y : Int32) (hc : CW σ) (ho : CO σ) : CI (h 0) (pw h d) yX0_match cX0_match 3 ({ frames := 5, cells := 0, slots := 0, locals := 123 }) d [.int x, .int y] σ (fun r u => Mres (gP σ) x y r ∧ Fr u σ ∧ CW u ∧ CO u) := by
  refine ofI (C := RX0) rfl (by decide) (Nat.le_of_ble_eq_true rfl) ?_
  intro p l e s m args below meth c A dC dI Q K ret ls hl S
  have hl : lv_has ls 3 [(0, .ref (h 0)), (1, .int x), (2, .int y)] := hl
  have c1 := hc.1
  have c2 := hc.2.1
  rcases pk_ix x (n := 4) (by decide) with hx | hx | ⟨j, hj, rfl⟩
  · skip
    refine lv_iload_n K.1 K.2.1 dX0_match_0 rfl (lv_at hl 1 rfl) ?_
    refine lv_if_lt (tgt := 21) K.1 K.2.1 dX0_match_1 (by decide) (fun c1 => ?_) (fun c1 => absurd hx c1)
    refine lv_bipush (v := -3) K.1 K.2.1 dX0_match_21 (by decide) ?_
    exact ret _ _ _ _ _ _ dX0_match_23 S ⟨mres_no fun j2 p2 b1 b2 b3 b4 => ix_neg (by omega) hx b3, Fr.rf, hc, ho⟩
  · skip
    refine lv_iload_n K.1 K.2.1 dX0_match_0 rfl (lv_at hl 1 rfl) ?_
    refine lv_if_lt (tgt := 21) K.1 K.2.1 dX0_match_1 (by decide) (fun c1 => absurd c1 (ix_nlt (by decide) hx)) (fun c1 => ?_)
    refine lv_iload_n K.1 K.2.1 dX0_match_4 rfl (lv_at hl 1 rfl) ?_
    refine lv_iconst (v := nI 3) K.1 K.2.1 dX0_match_5 (by decide) ?_
    refine lv_icmp_gt (tgt := 21) K.1 K.2.1 dX0_match_6 (by decide) (fun c6 => ?_) (fun c6 => absurd (ix_gt (by decide) (by decide) hx) c6)
    refine lv_bipush (v := -3) K.1 K.2.1 dX0_match_21 (by decide) ?_
    exact ret _ _ _ _ _ _ dX0_match_23 S ⟨mres_no fun j2 p2 b1 b2 b3 b4 => ix_big (by decide) b1 hx b3, Fr.rf, hc, ho⟩
  · rcases pk_ix y (n := σ.1 9 + 1) (by omega) with hy | hy | ⟨q, hq, rfl⟩
    · skip
      refine lv_iload_n K.1 K.2.1 dX0_match_0 rfl (lv_at hl 1 rfl) ?_
      refine bn_lt0 (tgt := 21) (by omega) K.1 K.2.1 dX0_match_1 (by decide) (fun c1 => absurd c1 (by omega)) (fun c1 => ?_)
      refine lv_iload_n K.1 K.2.1 dX0_match_4 rfl (lv_at hl 1 rfl) ?_
      refine lv_iconst (v := nI 3) K.1 K.2.1 dX0_match_5 (by decide) ?_
      refine bn_gt (tgt := 21) (by omega) (by omega) K.1 K.2.1 dX0_match_6 (by decide) (fun c6 => absurd c6 (by omega)) (fun c6 => ?_)
      refine lv_iload_n K.1 K.2.1 dX0_match_9 rfl (lv_at hl 2 rfl) ?_
      refine lv_if_lt (tgt := 21) K.1 K.2.1 dX0_match_10 (by decide) (fun c10 => ?_) (fun c10 => absurd hy c10)
      refine lv_bipush (v := -3) K.1 K.2.1 dX0_match_21 (by decide) ?_
      exact ret _ _ _ _ _ _ dX0_match_23 S ⟨mres_no fun j2 p2 b1 b2 b3 b4 => ix_neg (by have : gL (gP σ) = σ.1 9 := rfl; omega) hy b4, Fr.rf, hc, ho⟩
    · skip
      refine lv_iload_n K.1 K.2.1 dX0_match_0 rfl (lv_at hl 1 rfl) ?_
      refine bn_lt0 (tgt := 21) (by omega) K.1 K.2.1 dX0_match_1 (by decide) (fun c1 => absurd c1 (by omega)) (fun c1 => ?_)
      refine lv_iload_n K.1 K.2.1 dX0_match_4 rfl (lv_at hl 1 rfl) ?_
      refine lv_iconst (v := nI 3) K.1 K.2.1 dX0_match_5 (by decide) ?_
      refine bn_gt (tgt := 21) (by omega) (by omega) K.1 K.2.1 dX0_match_6 (by decide) (fun c6 => absurd c6 (by omega)) (fun c6 => ?_)
      refine lv_iload_n K.1 K.2.1 dX0_match_9 rfl (lv_at hl 2 rfl) ?_
      refine lv_if_lt (tgt := 21) K.1 K.2.1 dX0_match_10 (by decide) (fun c10 => absurd c10 (ix_nlt (by omega) hy)) (fun c10 => ?_)
      refine lv_iload_n K.1 K.2.1 dX0_match_13 rfl (lv_at hl 2 rfl) ?_
      refine lv_aload_n K.1 K.2.1 dX0_match_14 rfl (lv_at hl 0 rfl) ?_
      refine p0g_length K S dX0_match_15 ?_
      refine lv_icmp_le (tgt := 24) K.1 K.2.1 dX0_match_18 (by decide) (fun c18 => absurd c18 (ix_nle (by omega) (by omega) hy)) (fun c18 => ?_)
      refine lv_bipush (v := -3) K.1 K.2.1 dX0_match_21 (by decide) ?_
      exact ret _ _ _ _ _ _ dX0_match_23 S ⟨mres_no fun j2 p2 b1 b2 b3 b4 => ix_big (by omega) (by have : gL (gP σ) = σ.1 9 := rfl; omega) hy b4, Fr.rf, hc, ho⟩
    · have v4 := hc.2.2.2.1 j hj
      refine lv_iload_n K.1 K.2.1 dX0_match_0 rfl (lv_at hl 1 rfl) ?_
      refine bn_lt0 (tgt := 21) (by omega) K.1 K.2.1 dX0_match_1 (by decide) (fun c1 => absurd c1 (by omega)) (fun c1 => ?_)
      refine lv_iload_n K.1 K.2.1 dX0_match_4 rfl (lv_at hl 1 rfl) ?_
      refine lv_iconst (v := nI 3) K.1 K.2.1 dX0_match_5 (by decide) ?_
      refine bn_gt (tgt := 21) (by omega) (by omega) K.1 K.2.1 dX0_match_6 (by decide) (fun c6 => absurd c6 (by omega)) (fun c6 => ?_)
      refine lv_iload_n K.1 K.2.1 dX0_match_9 rfl (lv_at hl 2 rfl) ?_
      refine bn_lt0 (tgt := 21) (by omega) K.1 K.2.1 dX0_match_10 (by decide) (fun c10 => absurd c10 (by omega)) (fun c10 => ?_)
      refine lv_iload_n K.1 K.2.1 dX0_match_13 rfl (lv_at hl 2 rfl) ?_
      refine lv_aload_n K.1 K.2.1 dX0_match_14 rfl (lv_at hl 0 rfl) ?_
      refine p0g_length K S dX0_match_15 ?_
      refine bn_le (tgt := 24) (by omega) (by omega) K.1 K.2.1 dX0_match_18 (by decide) (fun c18 => ?_) (fun c18 => absurd c18 (by omega))
      refine lv_aload_n K.1 K.2.1 dX0_match_24 rfl (lv_at hl 0 rfl) ?_
      refine p0g_ruleNode K S dX0_match_25 ?_
      refine lv_iload_n K.1 K.2.1 dX0_match_28 rfl (lv_at hl 1 rfl) ?_
      refine p0l_ruleNode (show j < 4 by omega) K S dX0_match_29 ?_
      refine bp_ge0 (tgt := 35) (by omega) K.1 K.2.1 dX0_match_30 (by decide) (fun c30 => ?_) (fun c30 => ?_)
      · refine lv_aload_n K.1 K.2.1 dX0_match_35 rfl (lv_at hl 0 rfl) ?_
        refine lv_aload_n K.1 K.2.1 dX0_match_36 rfl (lv_at hl 0 rfl) ?_
        refine p0g_ruleNode K S dX0_match_37 ?_
        refine lv_iload_n K.1 K.2.1 dX0_match_40 rfl (lv_at hl 1 rfl) ?_
        refine p0l_ruleNode (show j < 4 by omega) K S dX0_match_41 ?_
        refine lv_iload_n K.1 K.2.1 dX0_match_42 rfl (lv_at hl 2 rfl) ?_
        refine lv_to2 (e1_nI (by omega)) ?_
        refine cvV K S (met_workOut h d σ (σ.2 8 j - 1) q hc ho (by omega) (by omega)) (cwV 2 K.2.2.2.2.1 (lw_V q101 q103 qs1 q16 q104) rfl rfl rfl (by decide +kernel) ⟨Nat.le_of_ble_eq_true rfl, Nat.le_of_ble_eq_true rfl⟩) rfl rfl rfl hl.1 rfl (Nat.le_of_ble_eq_true rfl) dX0_match_43 ⟨Nat.zero_le _, Nat.zero_le _⟩ (fun u H locs S hu => ?_)
        obtain ⟨hf, hc2, ho2, hv⟩ := hu
        have f8 : u.2 8 = σ.2 8 := hf.2 8 (by decide) (by decide) (by decide) (by decide)
        refine lv_aload_n K.1 K.2.1 dX0_match_46 rfl (lv_at hl 0 rfl) ?_
        refine p0g_outcome K S dX0_match_47 ?_
        refine lv_bipush (v := nI 21) K.1 K.2.1 dX0_match_50 (by decide) ?_
        refine lv_aload_n K.1 K.2.1 dX0_match_52 rfl (lv_at hl 0 rfl) ?_
        refine p0g_ruleNode K S dX0_match_53 ?_
        refine lv_iload_n K.1 K.2.1 dX0_match_56 rfl (lv_at hl 1 rfl) ?_
        refine p0l_ruleNode (show j < 4 by omega) K S dX0_match_57 ?_
        refine lv_to (y := e1 (σ.2 8 j)) (by rw [f8]) ?_
        refine lv_to (e1_nI (by omega)) ?_
        refine lv_imul K.1 K.2.1 dX0_match_58 ?_
        refine lv_to (pk_mul _ _) ?_
        refine lv_iload_n K.1 K.2.1 dX0_match_59 rfl (lv_at hl 2 rfl) ?_
        refine lv_iadd K.1 K.2.1 dX0_match_60 ?_
        refine lv_to (nI_add _ _) ?_
        refine p0l_outcome (show (21 * (σ.2 8 j - 1)) + q < 840 by omega) K S dX0_match_61 ?_
        exact ret _ _ _ _ _ _ dX0_match_62 S ⟨mres_in hj (show q ≤ σ.1 9 by omega) c2 (congrArg e4 (show u.2 11 (21 * (σ.2 8 j - 1) + q) = mv (gP σ) j q by unfold mv; rw [gP_R, if_neg (by omega)]; exact hv)), hf, hc2, ho2⟩
      · refine lv_iconst (v := -1) K.1 K.2.1 dX0_match_33 (by decide) ?_
        refine lv_to (show (-1 : Int32) = e4 3 by decide) ?_
        exact ret _ _ _ _ _ _ dX0_match_34 S ⟨mres_in hj (show q ≤ σ.1 9 by omega) c2 (congrArg e4 (show 3 = mv (gP σ) j q by unfold mv; rw [gP_R, if_pos (by omega)])), Fr.rf, hc, ho⟩
set_option maxHeartbeats 4000000 in
set_option maxRecDepth 100000 in
theorem met_matches (h : Nat → Nat) (d : ClassId) (σ : PT) (x : Int32) (hc : CW σ) (ho : CO σ) : CI (h 0) (pw h d) yX0_matches cX0_matches 5 ({ frames := 6, cells := 0, slots := 0, locals := 145 }) d [.int x] σ (fun r u => Ask (fun j r => r = nI (cMat (gP σ) j (σ.1 9 + 1))) x r ∧ Fr u σ ∧ CW u ∧ CO u) := by
  refine ofI (C := RX0) rfl (by decide) (Nat.le_of_ble_eq_true rfl) ?_
  intro p l e s m args below meth c A dC dI Q K ret ls hl S
  have hl : lv_has ls 5 [(0, .ref (h 0)), (1, .int x)] := hl
  have c1 := hc.1
  have c2 := hc.2.1
  rcases pk_ix x (n := 4) (by decide) with hx | hx | ⟨j, hj, rfl⟩
  · skip
    refine lv_iload_n K.1 K.2.1 dX0_matches_0 rfl (lv_at hl 1 rfl) ?_
    refine lv_if_lt (tgt := 9) K.1 K.2.1 dX0_matches_1 (by decide) (fun c1 => ?_) (fun c1 => absurd hx c1)
    refine lv_bipush (v := -3) K.1 K.2.1 dX0_matches_9 (by decide) ?_
    exact ret _ _ _ _ _ _ dX0_matches_11 S ⟨ask_no fun j2 b1 b3 => ix_neg (by omega) hx b3, Fr.rf, hc, ho⟩
  · skip
    refine lv_iload_n K.1 K.2.1 dX0_matches_0 rfl (lv_at hl 1 rfl) ?_
    refine lv_if_lt (tgt := 9) K.1 K.2.1 dX0_matches_1 (by decide) (fun c1 => absurd c1 (ix_nlt (by decide) hx)) (fun c1 => ?_)
    refine lv_iload_n K.1 K.2.1 dX0_matches_4 rfl (lv_at hl 1 rfl) ?_
    refine lv_iconst (v := nI 3) K.1 K.2.1 dX0_matches_5 (by decide) ?_
    refine lv_icmp_le (tgt := 12) K.1 K.2.1 dX0_matches_6 (by decide) (fun c6 => absurd c6 (ix_nle (by decide) (by decide) hx)) (fun c6 => ?_)
    refine lv_bipush (v := -3) K.1 K.2.1 dX0_matches_9 (by decide) ?_
    exact ret _ _ _ _ _ _ dX0_matches_11 S ⟨ask_no fun j2 b1 b3 => ix_big (by decide) b1 hx b3, Fr.rf, hc, ho⟩
  · have L : ∀ (n q : Nat) (u0 : PT) (H : Heap) (locs : List Loc) (ls : Array Slot), q + n = σ.1 9 + 1 → Fr u0 σ → CW u0 → CO u0 → St dC dI A s.heap H locs (pw h d u0) → lv_has ls 5 [(3, .int (nI q)), (2, .int (nI (cMat (gP σ) j q))), (0, .ref (h 0)), (1, .int (nI j))] → W p l e ({ frames := 6, cells := 0, slots := 0, locals := 145 }) s m args below meth c H locs 0 0 Q (F0 m 16 ls []) := by
      intro n
      induction n with
      | zero =>
        intro q u0 H locs ls hq hf hc1 ho1 S hl
        have f9 : u0.1 9 = σ.1 9 := hf.1 9 (by decide)
        refine lv_iload_n K.1 K.2.1 dX0_matches_16 rfl (lv_at hl 0 rfl) ?_
        refine lv_aload_n K.1 K.2.1 dX0_matches_17 rfl (lv_at hl 2 rfl) ?_
        refine p0g_length K S dX0_matches_18 ?_
        refine bn_gt (tgt := 51) (by omega) (by omega) K.1 K.2.1 dX0_matches_21 (by decide) (fun c21 => ?_) (fun c21 => absurd c21 (by omega))
        refine lv_iload_n K.1 K.2.1 dX0_matches_51 rfl (lv_at hl 1 rfl) ?_
        exact ret _ _ _ _ _ _ dX0_matches_52 S ⟨ask_in hj (by rw [show q = σ.1 9 + 1 by omega]), hf, hc1, ho1⟩
      | succ n ih =>
        intro q u0 H locs ls hq hf hc1 ho1 S hl
        have f9 : u0.1 9 = σ.1 9 := hf.1 9 (by decide)
        have mb : mv (gP σ) j q < 1000 := mv_sm (show q ≤ σ.1 9 by omega) c2
        refine lv_iload_n K.1 K.2.1 dX0_matches_16 rfl (lv_at hl 0 rfl) ?_
        refine lv_aload_n K.1 K.2.1 dX0_matches_17 rfl (lv_at hl 2 rfl) ?_
        refine p0g_length K S dX0_matches_18 ?_
        refine bn_gt (tgt := 51) (by omega) (by omega) K.1 K.2.1 dX0_matches_21 (by decide) (fun c21 => absurd c21 (by omega)) (fun c21 => ?_)
        refine lv_aload_n K.1 K.2.1 dX0_matches_24 rfl (lv_at hl 2 rfl) ?_
        refine lv_iload_n K.1 K.2.1 dX0_matches_25 rfl (lv_at hl 3 rfl) ?_
        refine lv_iload_n K.1 K.2.1 dX0_matches_26 rfl (lv_at hl 0 rfl) ?_
        refine cvI K S (met_match h d u0 (nI j) (nI q) hc1 ho1) (cwV 2 K.2.2.2.2.1 (lw_V q141 q98 q99 q16 q100) rfl rfl rfl (by decide +kernel) ⟨Nat.le_of_ble_eq_true rfl, Nat.le_of_ble_eq_true rfl⟩) rfl rfl rfl hl.1 rfl (Nat.le_of_ble_eq_true rfl) dX0_matches_27 ⟨Nat.zero_le _, Nat.zero_le _⟩ (fun r u H locs S hu => ?_)
        obtain ⟨hm, hf2, hc2, ho2⟩ := hu
        rw [fr_gP hf] at hm
        have hr := hm.1 j q hj (by have : gL (gP σ) = σ.1 9 := rfl; omega) rfl rfl
        refine lv_to hr ?_
        refine lv_istore (lv' := [(4, .int (e4 (mv (gP σ) j q))), (3, .int (nI q)), (2, .int (nI (cMat (gP σ) j q))), (0, .ref (h 0)), (1, .int (nI j))]) K.1 K.2.1 dX0_matches_30 hl (by decide) rfl (fun ls hl => ?_)
        refine lv_iload_n K.1 K.2.1 dX0_matches_32 rfl (lv_at hl 2 rfl) ?_
        refine lv_iload K.1 K.2.1 dX0_matches_33 (lv_at hl 0 rfl) ?_
        refine be_lt0 (tgt := 42) (by omega) K.1 K.2.1 dX0_matches_35 (by decide) (fun c35 => ?_) (fun c35 => ?_)
        · refine lv_iconst (v := nI 0) K.1 K.2.1 dX0_matches_42 (by decide) ?_
          refine lv_iadd K.1 K.2.1 dX0_matches_43 ?_
          refine lv_to (nI_add _ _) ?_
          refine lv_istore_n (lv' := [(2, .int (nI ((cMat (gP σ) j q) + 0))), (4, .int (e4 (mv (gP σ) j q))), (3, .int (nI q)), (0, .ref (h 0)), (1, .int (nI j))]) K.1 K.2.1 dX0_matches_44 rfl hl (by decide) rfl (fun ls hl => ?_)
          refine lv_iinc (v := nI (q + 1)) (lv' := [(3, .int (nI (q + 1))), (2, .int (nI ((cMat (gP σ) j q) + 0))), (4, .int (e4 (mv (gP σ) j q))), (0, .ref (h 0)), (1, .int (nI j))]) K.1 K.2.1 dX0_matches_45 hl (k := 2) rfl (nI_inc _) (by decide) rfl (fun ls hl => ?_)
          refine lv_goto (tgt := 16) K.1 K.2.1 dX0_matches_48 (by decide) ?_
          rw [← cMat_0 c35] at hl
          exact ih (q + 1) u H locs ls (by omega) (hf2.tr hf) hc2 ho2 S (lv_sub hl [0, 1, 3, 4] rfl)
        · refine lv_iconst (v := nI 1) K.1 K.2.1 dX0_matches_38 (by decide) ?_
          refine lv_goto (tgt := 43) K.1 K.2.1 dX0_matches_39 (by decide) ?_
          refine lv_iadd K.1 K.2.1 dX0_matches_43 ?_
          refine lv_to (nI_add _ _) ?_
          refine lv_istore_n (lv' := [(2, .int (nI ((cMat (gP σ) j q) + 1))), (4, .int (e4 (mv (gP σ) j q))), (3, .int (nI q)), (0, .ref (h 0)), (1, .int (nI j))]) K.1 K.2.1 dX0_matches_44 rfl hl (by decide) rfl (fun ls hl => ?_)
          refine lv_iinc (v := nI (q + 1)) (lv' := [(3, .int (nI (q + 1))), (2, .int (nI ((cMat (gP σ) j q) + 1))), (4, .int (e4 (mv (gP σ) j q))), (0, .ref (h 0)), (1, .int (nI j))]) K.1 K.2.1 dX0_matches_45 hl (k := 2) rfl (nI_inc _) (by decide) rfl (fun ls hl => ?_)
          refine lv_goto (tgt := 16) K.1 K.2.1 dX0_matches_48 (by decide) ?_
          rw [← cMat_1 c35] at hl
          exact ih (q + 1) u H locs ls (by omega) (hf2.tr hf) hc2 ho2 S (lv_sub hl [0, 1, 3, 4] rfl)
    refine lv_iload_n K.1 K.2.1 dX0_matches_0 rfl (lv_at hl 1 rfl) ?_
    refine bn_lt0 (tgt := 9) (by omega) K.1 K.2.1 dX0_matches_1 (by decide) (fun c1 => absurd c1 (by omega)) (fun c1 => ?_)
    refine lv_iload_n K.1 K.2.1 dX0_matches_4 rfl (lv_at hl 1 rfl) ?_
    refine lv_iconst (v := nI 3) K.1 K.2.1 dX0_matches_5 (by decide) ?_
    refine bn_le (tgt := 12) (by omega) (by omega) K.1 K.2.1 dX0_matches_6 (by decide) (fun c6 => ?_) (fun c6 => absurd c6 (by omega))
    refine lv_iconst (v := nI 0) K.1 K.2.1 dX0_matches_12 (by decide) ?_
    refine lv_istore_n (lv' := [(2, .int (nI 0)), (0, .ref (h 0)), (1, .int (nI j))]) K.1 K.2.1 dX0_matches_13 rfl hl (by decide) rfl (fun ls hl => ?_)
    refine lv_iconst (v := nI 0) K.1 K.2.1 dX0_matches_14 (by decide) ?_
    refine lv_istore_n (lv' := [(3, .int (nI 0)), (2, .int (nI 0)), (0, .ref (h 0)), (1, .int (nI j))]) K.1 K.2.1 dX0_matches_15 rfl hl (by decide) rfl (fun ls hl => ?_)
    exact L (σ.1 9 + 1) 0 σ _ _ ls (by omega) Fr.rf hc ho S hl
set_option maxHeartbeats 4000000 in
set_option maxRecDepth 100000 in
theorem met_stuck (h : Nat → Nat) (d : ClassId) (σ : PT) (x : Int32) (hc : CW σ) (ho : CO σ) : CI (h 0) (pw h d) yX0_stuck cX0_stuck 5 ({ frames := 6, cells := 0, slots := 0, locals := 145 }) d [.int x] σ (fun r u => Ask (fun j r => r = nI (cStk (gP σ) j (σ.1 9 + 1))) x r ∧ Fr u σ ∧ CW u ∧ CO u) := by
  refine ofI (C := RX0) rfl (by decide) (Nat.le_of_ble_eq_true rfl) ?_
  intro p l e s m args below meth c A dC dI Q K ret ls hl S
  have hl : lv_has ls 5 [(0, .ref (h 0)), (1, .int x)] := hl
  have c1 := hc.1
  have c2 := hc.2.1
  rcases pk_ix x (n := 4) (by decide) with hx | hx | ⟨j, hj, rfl⟩
  · skip
    refine lv_iload_n K.1 K.2.1 dX0_stuck_0 rfl (lv_at hl 1 rfl) ?_
    refine lv_if_lt (tgt := 9) K.1 K.2.1 dX0_stuck_1 (by decide) (fun c1 => ?_) (fun c1 => absurd hx c1)
    refine lv_bipush (v := -3) K.1 K.2.1 dX0_stuck_9 (by decide) ?_
    exact ret _ _ _ _ _ _ dX0_stuck_11 S ⟨ask_no fun j2 b1 b3 => ix_neg (by omega) hx b3, Fr.rf, hc, ho⟩
  · skip
    refine lv_iload_n K.1 K.2.1 dX0_stuck_0 rfl (lv_at hl 1 rfl) ?_
    refine lv_if_lt (tgt := 9) K.1 K.2.1 dX0_stuck_1 (by decide) (fun c1 => absurd c1 (ix_nlt (by decide) hx)) (fun c1 => ?_)
    refine lv_iload_n K.1 K.2.1 dX0_stuck_4 rfl (lv_at hl 1 rfl) ?_
    refine lv_iconst (v := nI 3) K.1 K.2.1 dX0_stuck_5 (by decide) ?_
    refine lv_icmp_le (tgt := 12) K.1 K.2.1 dX0_stuck_6 (by decide) (fun c6 => absurd c6 (ix_nle (by decide) (by decide) hx)) (fun c6 => ?_)
    refine lv_bipush (v := -3) K.1 K.2.1 dX0_stuck_9 (by decide) ?_
    exact ret _ _ _ _ _ _ dX0_stuck_11 S ⟨ask_no fun j2 b1 b3 => ix_big (by decide) b1 hx b3, Fr.rf, hc, ho⟩
  · have L : ∀ (n q : Nat) (u0 : PT) (H : Heap) (locs : List Loc) (ls : Array Slot), q + n = σ.1 9 + 1 → Fr u0 σ → CW u0 → CO u0 → St dC dI A s.heap H locs (pw h d u0) → lv_has ls 5 [(3, .int (nI q)), (2, .int (nI (cStk (gP σ) j q))), (0, .ref (h 0)), (1, .int (nI j))] → W p l e ({ frames := 6, cells := 0, slots := 0, locals := 145 }) s m args below meth c H locs 0 0 Q (F0 m 16 ls []) := by
      intro n
      induction n with
      | zero =>
        intro q u0 H locs ls hq hf hc1 ho1 S hl
        have f9 : u0.1 9 = σ.1 9 := hf.1 9 (by decide)
        refine lv_iload_n K.1 K.2.1 dX0_stuck_16 rfl (lv_at hl 0 rfl) ?_
        refine lv_aload_n K.1 K.2.1 dX0_stuck_17 rfl (lv_at hl 2 rfl) ?_
        refine p0g_length K S dX0_stuck_18 ?_
        refine bn_gt (tgt := 53) (by omega) (by omega) K.1 K.2.1 dX0_stuck_21 (by decide) (fun c21 => ?_) (fun c21 => absurd c21 (by omega))
        refine lv_iload_n K.1 K.2.1 dX0_stuck_53 rfl (lv_at hl 1 rfl) ?_
        exact ret _ _ _ _ _ _ dX0_stuck_54 S ⟨ask_in hj (by rw [show q = σ.1 9 + 1 by omega]), hf, hc1, ho1⟩
      | succ n ih =>
        intro q u0 H locs ls hq hf hc1 ho1 S hl
        have f9 : u0.1 9 = σ.1 9 := hf.1 9 (by decide)
        have mb : mv (gP σ) j q < 1000 := mv_sm (show q ≤ σ.1 9 by omega) c2
        refine lv_iload_n K.1 K.2.1 dX0_stuck_16 rfl (lv_at hl 0 rfl) ?_
        refine lv_aload_n K.1 K.2.1 dX0_stuck_17 rfl (lv_at hl 2 rfl) ?_
        refine p0g_length K S dX0_stuck_18 ?_
        refine bn_gt (tgt := 53) (by omega) (by omega) K.1 K.2.1 dX0_stuck_21 (by decide) (fun c21 => absurd c21 (by omega)) (fun c21 => ?_)
        refine lv_aload_n K.1 K.2.1 dX0_stuck_24 rfl (lv_at hl 2 rfl) ?_
        refine lv_iload_n K.1 K.2.1 dX0_stuck_25 rfl (lv_at hl 3 rfl) ?_
        refine lv_iload_n K.1 K.2.1 dX0_stuck_26 rfl (lv_at hl 0 rfl) ?_
        refine cvI K S (met_match h d u0 (nI j) (nI q) hc1 ho1) (cwV 2 K.2.2.2.2.1 (lw_V q141 q98 q99 q16 q100) rfl rfl rfl (by decide +kernel) ⟨Nat.le_of_ble_eq_true rfl, Nat.le_of_ble_eq_true rfl⟩) rfl rfl rfl hl.1 rfl (Nat.le_of_ble_eq_true rfl) dX0_stuck_27 ⟨Nat.zero_le _, Nat.zero_le _⟩ (fun r u H locs S hu => ?_)
        obtain ⟨hm, hf2, hc2, ho2⟩ := hu
        rw [fr_gP hf] at hm
        have hr := hm.1 j q hj (by have : gL (gP σ) = σ.1 9 := rfl; omega) rfl rfl
        refine lv_to hr ?_
        refine lv_istore (lv' := [(4, .int (e4 (mv (gP σ) j q))), (3, .int (nI q)), (2, .int (nI (cStk (gP σ) j q))), (0, .ref (h 0)), (1, .int (nI j))]) K.1 K.2.1 dX0_stuck_30 hl (by decide) rfl (fun ls hl => ?_)
        refine lv_iload_n K.1 K.2.1 dX0_stuck_32 rfl (lv_at hl 2 rfl) ?_
        refine lv_iload K.1 K.2.1 dX0_stuck_33 (lv_at hl 0 rfl) ?_
        refine lv_bipush (v := -2) K.1 K.2.1 dX0_stuck_35 (by decide) ?_
        refine lv_to (show (-2 : Int32) = e4 2 by decide) ?_
        refine be_ne (tgt := 44) (by omega) (by omega) K.1 K.2.1 dX0_stuck_37 (by decide) (fun c37 => ?_) (fun c37 => ?_)
        · refine lv_iconst (v := nI 0) K.1 K.2.1 dX0_stuck_44 (by decide) ?_
          refine lv_iadd K.1 K.2.1 dX0_stuck_45 ?_
          refine lv_to (nI_add _ _) ?_
          refine lv_istore_n (lv' := [(2, .int (nI ((cStk (gP σ) j q) + 0))), (4, .int (e4 (mv (gP σ) j q))), (3, .int (nI q)), (0, .ref (h 0)), (1, .int (nI j))]) K.1 K.2.1 dX0_stuck_46 rfl hl (by decide) rfl (fun ls hl => ?_)
          refine lv_iinc (v := nI (q + 1)) (lv' := [(3, .int (nI (q + 1))), (2, .int (nI ((cStk (gP σ) j q) + 0))), (4, .int (e4 (mv (gP σ) j q))), (0, .ref (h 0)), (1, .int (nI j))]) K.1 K.2.1 dX0_stuck_47 hl (k := 2) rfl (nI_inc _) (by decide) rfl (fun ls hl => ?_)
          refine lv_goto (tgt := 16) K.1 K.2.1 dX0_stuck_50 (by decide) ?_
          rw [← cStk_0 c37] at hl
          exact ih (q + 1) u H locs ls (by omega) (hf2.tr hf) hc2 ho2 S (lv_sub hl [0, 1, 3, 4] rfl)
        · refine lv_iconst (v := nI 1) K.1 K.2.1 dX0_stuck_40 (by decide) ?_
          refine lv_goto (tgt := 45) K.1 K.2.1 dX0_stuck_41 (by decide) ?_
          refine lv_iadd K.1 K.2.1 dX0_stuck_45 ?_
          refine lv_to (nI_add _ _) ?_
          refine lv_istore_n (lv' := [(2, .int (nI ((cStk (gP σ) j q) + 1))), (4, .int (e4 (mv (gP σ) j q))), (3, .int (nI q)), (0, .ref (h 0)), (1, .int (nI j))]) K.1 K.2.1 dX0_stuck_46 rfl hl (by decide) rfl (fun ls hl => ?_)
          refine lv_iinc (v := nI (q + 1)) (lv' := [(3, .int (nI (q + 1))), (2, .int (nI ((cStk (gP σ) j q) + 1))), (4, .int (e4 (mv (gP σ) j q))), (0, .ref (h 0)), (1, .int (nI j))]) K.1 K.2.1 dX0_stuck_47 hl (k := 2) rfl (nI_inc _) (by decide) rfl (fun ls hl => ?_)
          refine lv_goto (tgt := 16) K.1 K.2.1 dX0_stuck_50 (by decide) ?_
          rw [← cStk_1 c37] at hl
          exact ih (q + 1) u H locs ls (by omega) (hf2.tr hf) hc2 ho2 S (lv_sub hl [0, 1, 3, 4] rfl)
    refine lv_iload_n K.1 K.2.1 dX0_stuck_0 rfl (lv_at hl 1 rfl) ?_
    refine bn_lt0 (tgt := 9) (by omega) K.1 K.2.1 dX0_stuck_1 (by decide) (fun c1 => absurd c1 (by omega)) (fun c1 => ?_)
    refine lv_iload_n K.1 K.2.1 dX0_stuck_4 rfl (lv_at hl 1 rfl) ?_
    refine lv_iconst (v := nI 3) K.1 K.2.1 dX0_stuck_5 (by decide) ?_
    refine bn_le (tgt := 12) (by omega) (by omega) K.1 K.2.1 dX0_stuck_6 (by decide) (fun c6 => ?_) (fun c6 => absurd c6 (by omega))
    refine lv_iconst (v := nI 0) K.1 K.2.1 dX0_stuck_12 (by decide) ?_
    refine lv_istore_n (lv' := [(2, .int (nI 0)), (0, .ref (h 0)), (1, .int (nI j))]) K.1 K.2.1 dX0_stuck_13 rfl hl (by decide) rfl (fun ls hl => ?_)
    refine lv_iconst (v := nI 0) K.1 K.2.1 dX0_stuck_14 (by decide) ?_
    refine lv_istore_n (lv' := [(3, .int (nI 0)), (2, .int (nI 0)), (0, .ref (h 0)), (1, .int (nI j))]) K.1 K.2.1 dX0_stuck_15 rfl hl (by decide) rfl (fun ls hl => ?_)
    exact L (σ.1 9 + 1) 0 σ _ _ ls (by omega) Fr.rf hc ho S hl
set_option maxHeartbeats 4000000 in
set_option maxRecDepth 100000 in
theorem met_whole (h : Nat → Nat) (d : ClassId) (σ : PT) (x : Int32) (hc : CW σ) (ho : CO σ) : CI (h 0) (pw h d) yX0_whole cX0_whole 3 ({ frames := 6, cells := 0, slots := 0, locals := 145 }) d [.int x] σ (fun r u => Ask (fun j r => r = nI (if mv (gP σ) j 0 = σ.1 9 + 4 then 1 else 0)) x r ∧ Fr u σ ∧ CW u ∧ CO u) := by
  refine ofI (C := RX0) rfl (by decide) (Nat.le_of_ble_eq_true rfl) ?_
  intro p l e s m args below meth c A dC dI Q K ret ls hl S
  have hl : lv_has ls 3 [(0, .ref (h 0)), (1, .int x)] := hl
  have c1 := hc.1
  have c2 := hc.2.1
  rcases pk_ix x (n := 4) (by decide) with hx | hx | ⟨j, hj, rfl⟩
  · skip
    refine lv_iload_n K.1 K.2.1 dX0_whole_0 rfl (lv_at hl 1 rfl) ?_
    refine lv_if_lt (tgt := 9) K.1 K.2.1 dX0_whole_1 (by decide) (fun c1 => ?_) (fun c1 => absurd hx c1)
    refine lv_bipush (v := -3) K.1 K.2.1 dX0_whole_9 (by decide) ?_
    exact ret _ _ _ _ _ _ dX0_whole_11 S ⟨ask_no fun j2 b1 b3 => ix_neg (by omega) hx b3, Fr.rf, hc, ho⟩
  · skip
    refine lv_iload_n K.1 K.2.1 dX0_whole_0 rfl (lv_at hl 1 rfl) ?_
    refine lv_if_lt (tgt := 9) K.1 K.2.1 dX0_whole_1 (by decide) (fun c1 => absurd c1 (ix_nlt (by decide) hx)) (fun c1 => ?_)
    refine lv_iload_n K.1 K.2.1 dX0_whole_4 rfl (lv_at hl 1 rfl) ?_
    refine lv_iconst (v := nI 3) K.1 K.2.1 dX0_whole_5 (by decide) ?_
    refine lv_icmp_le (tgt := 12) K.1 K.2.1 dX0_whole_6 (by decide) (fun c6 => absurd c6 (ix_nle (by decide) (by decide) hx)) (fun c6 => ?_)
    refine lv_bipush (v := -3) K.1 K.2.1 dX0_whole_9 (by decide) ?_
    exact ret _ _ _ _ _ _ dX0_whole_11 S ⟨ask_no fun j2 b1 b3 => ix_big (by decide) b1 hx b3, Fr.rf, hc, ho⟩
  · have mb : mv (gP σ) j 0 < 1000 := mv_sm (Nat.zero_le _) c2
    refine lv_iload_n K.1 K.2.1 dX0_whole_0 rfl (lv_at hl 1 rfl) ?_
    refine bn_lt0 (tgt := 9) (by omega) K.1 K.2.1 dX0_whole_1 (by decide) (fun c1 => absurd c1 (by omega)) (fun c1 => ?_)
    refine lv_iload_n K.1 K.2.1 dX0_whole_4 rfl (lv_at hl 1 rfl) ?_
    refine lv_iconst (v := nI 3) K.1 K.2.1 dX0_whole_5 (by decide) ?_
    refine bn_le (tgt := 12) (by omega) (by omega) K.1 K.2.1 dX0_whole_6 (by decide) (fun c6 => ?_) (fun c6 => absurd c6 (by omega))
    refine lv_aload_n K.1 K.2.1 dX0_whole_12 rfl (lv_at hl 0 rfl) ?_
    refine lv_iload_n K.1 K.2.1 dX0_whole_13 rfl (lv_at hl 1 rfl) ?_
    refine lv_iconst (v := nI 0) K.1 K.2.1 dX0_whole_14 (by decide) ?_
    refine cvI K S (met_match h d σ (nI j) (nI 0) hc ho) (cwV 2 K.2.2.2.2.1 (lw_V q141 q98 q99 q16 q100) rfl rfl rfl (by decide +kernel) ⟨Nat.le_of_ble_eq_true rfl, Nat.le_of_ble_eq_true rfl⟩) rfl rfl rfl hl.1 rfl (Nat.le_of_ble_eq_true rfl) dX0_whole_15 ⟨Nat.zero_le _, Nat.zero_le _⟩ (fun r u H locs S hu => ?_)
    obtain ⟨hm, hf2, hc2, ho2⟩ := hu
    have hr := hm.1 j 0 hj (Nat.zero_le _) rfl rfl
    refine lv_to hr ?_
    have f9 : u.1 9 = σ.1 9 := hf2.1 9 (by decide)
    refine lv_istore_n (lv' := [(2, .int (e4 (mv (gP σ) j 0))), (0, .ref (h 0)), (1, .int (nI j))]) K.1 K.2.1 dX0_whole_18 rfl hl (by decide) rfl (fun ls hl => ?_)
    refine lv_iload_n K.1 K.2.1 dX0_whole_19 rfl (lv_at hl 0 rfl) ?_
    refine lv_aload_n K.1 K.2.1 dX0_whole_20 rfl (lv_at hl 1 rfl) ?_
    refine p0g_length K S dX0_whole_21 ?_
    refine be_neN (tgt := 31) (by omega) (by omega) K.1 K.2.1 dX0_whole_24 (by decide) (fun c24 => ?_) (fun c24 => ?_)
    · refine lv_iconst (v := nI 0) K.1 K.2.1 dX0_whole_31 (by decide) ?_
      exact ret _ _ _ _ _ _ dX0_whole_32 S ⟨ask_in hj (by rw [if_neg (by omega)]), hf2, hc2, ho2⟩
    · refine lv_iconst (v := nI 1) K.1 K.2.1 dX0_whole_27 (by decide) ?_
      refine lv_goto (tgt := 32) K.1 K.2.1 dX0_whole_28 (by decide) ?_
      exact ret _ _ _ _ _ _ dX0_whole_32 S ⟨ask_in hj (by rw [if_pos (by omega)]), hf2, hc2, ho2⟩
set_option maxHeartbeats 4000000 in
set_option maxRecDepth 100000 in
theorem met_find (h : Nat → Nat) (d : ClassId) (σ : PT) (x y : Int32) (hc : CW σ) (ho : CO σ) : CI (h 0) (pw h d) yX0_find cX0_find 5 ({ frames := 6, cells := 0, slots := 0, locals := 145 }) d [.int x, .int y] σ (fun r u => Ask (Fnd (gP σ) y) x r ∧ Fr u σ ∧ CW u ∧ CO u) := by
  refine ofI (C := RX0) rfl (by decide) (Nat.le_of_ble_eq_true rfl) ?_
  intro p l e s m args below meth c A dC dI Q K ret ls hl S
  have hl : lv_has ls 5 [(0, .ref (h 0)), (1, .int x), (2, .int y)] := hl
  have c1 := hc.1
  have c2 := hc.2.1
  have gl : gL (gP σ) = σ.1 9 := rfl
  rcases pk_ix x (n := 4) (by decide) with hx | hx | ⟨j, hj, rfl⟩
  · skip
    refine lv_iload_n K.1 K.2.1 dX0_find_0 rfl (lv_at hl 1 rfl) ?_
    refine lv_if_lt (tgt := 9) K.1 K.2.1 dX0_find_1 (by decide) (fun c1 => ?_) (fun c1 => absurd hx c1)
    refine lv_bipush (v := -3) K.1 K.2.1 dX0_find_9 (by decide) ?_
    exact ret _ _ _ _ _ _ dX0_find_11 S ⟨ask_no fun j2 b1 b3 => ix_neg (by omega) hx b3, Fr.rf, hc, ho⟩
  · skip
    refine lv_iload_n K.1 K.2.1 dX0_find_0 rfl (lv_at hl 1 rfl) ?_
    refine lv_if_lt (tgt := 9) K.1 K.2.1 dX0_find_1 (by decide) (fun c1 => absurd c1 (ix_nlt (by decide) hx)) (fun c1 => ?_)
    refine lv_iload_n K.1 K.2.1 dX0_find_4 rfl (lv_at hl 1 rfl) ?_
    refine lv_iconst (v := nI 3) K.1 K.2.1 dX0_find_5 (by decide) ?_
    refine lv_icmp_le (tgt := 12) K.1 K.2.1 dX0_find_6 (by decide) (fun c6 => absurd c6 (ix_nle (by decide) (by decide) hx)) (fun c6 => ?_)
    refine lv_bipush (v := -3) K.1 K.2.1 dX0_find_9 (by decide) ?_
    exact ret _ _ _ _ _ _ dX0_find_11 S ⟨ask_no fun j2 b1 b3 => ix_big (by decide) b1 hx b3, Fr.rf, hc, ho⟩
  · have L : ∀ (n q : Nat) (u0 : PT) (H : Heap) (locs : List Loc) (ls : Array Slot), q + n = σ.1 9 + 1 → y ≤ nI q → (∀ z, z < q → y ≤ nI z → mv (gP σ) j z < 4) → Fr u0 σ → CW u0 → CO u0 → St dC dI A s.heap H locs (pw h d u0) → lv_has ls 5 [(3, .int (nI q)), (0, .ref (h 0)), (1, .int (nI j)), (2, .int y)] → W p l e ({ frames := 6, cells := 0, slots := 0, locals := 145 }) s m args below meth c H locs 0 0 Q (F0 m 22 ls []) := by
      intro n
      induction n with
      | zero =>
        intro q u0 H locs ls hq hy hz hf hc1 ho1 S hl
        have f9 : u0.1 9 = σ.1 9 := hf.1 9 (by decide)
        refine lv_iload_n K.1 K.2.1 dX0_find_22 rfl (lv_at hl 0 rfl) ?_
        refine lv_aload_n K.1 K.2.1 dX0_find_23 rfl (lv_at hl 1 rfl) ?_
        refine p0g_length K S dX0_find_24 ?_
        refine bn_gt (tgt := 51) (by omega) (by omega) K.1 K.2.1 dX0_find_27 (by decide) (fun c27 => ?_) (fun c27 => absurd c27 (by omega))
        refine lv_iconst (v := -1) K.1 K.2.1 dX0_find_51 (by decide) ?_
        exact ret _ _ _ _ _ _ dX0_find_52 S ⟨ask_in hj (Or.inr ⟨rfl, fun z h1 h2 => hz z (by omega) h2⟩), hf, hc1, ho1⟩
      | succ n ih =>
        intro q u0 H locs ls hq hy hz hf hc1 ho1 S hl
        have f9 : u0.1 9 = σ.1 9 := hf.1 9 (by decide)
        have mb : mv (gP σ) j q < 1000 := mv_sm (show q ≤ σ.1 9 by omega) c2
        refine lv_iload_n K.1 K.2.1 dX0_find_22 rfl (lv_at hl 0 rfl) ?_
        refine lv_aload_n K.1 K.2.1 dX0_find_23 rfl (lv_at hl 1 rfl) ?_
        refine p0g_length K S dX0_find_24 ?_
        refine bn_gt (tgt := 51) (by omega) (by omega) K.1 K.2.1 dX0_find_27 (by decide) (fun c27 => absurd c27 (by omega)) (fun c27 => ?_)
        refine lv_aload_n K.1 K.2.1 dX0_find_30 rfl (lv_at hl 1 rfl) ?_
        refine lv_iload_n K.1 K.2.1 dX0_find_31 rfl (lv_at hl 2 rfl) ?_
        refine lv_iload_n K.1 K.2.1 dX0_find_32 rfl (lv_at hl 0 rfl) ?_
        refine cvI K S (met_match h d u0 (nI j) (nI q) hc1 ho1) (cwV 2 K.2.2.2.2.1 (lw_V q141 q98 q99 q16 q100) rfl rfl rfl (by decide +kernel) ⟨Nat.le_of_ble_eq_true rfl, Nat.le_of_ble_eq_true rfl⟩) rfl rfl rfl hl.1 rfl (Nat.le_of_ble_eq_true rfl) dX0_find_33 ⟨Nat.zero_le _, Nat.zero_le _⟩ (fun r u H locs S hu => ?_)
        obtain ⟨hm, hf2, hc2, ho2⟩ := hu
        rw [fr_gP hf] at hm
        have hr := hm.1 j q hj (by have : gL (gP σ) = σ.1 9 := rfl; omega) rfl rfl
        refine lv_to hr ?_
        refine lv_istore (lv' := [(4, .int (e4 (mv (gP σ) j q))), (3, .int (nI q)), (0, .ref (h 0)), (1, .int (nI j)), (2, .int y)]) K.1 K.2.1 dX0_find_36 hl (by decide) rfl (fun ls hl => ?_)
        refine lv_iload K.1 K.2.1 dX0_find_38 (lv_at hl 0 rfl) ?_
        refine be_lt0 (tgt := 45) (by omega) K.1 K.2.1 dX0_find_40 (by decide) (fun c40 => ?_) (fun c40 => ?_)
        · refine lv_iinc (v := nI (q + 1)) (lv' := [(3, .int (nI (q + 1))), (4, .int (e4 (mv (gP σ) j q))), (0, .ref (h 0)), (1, .int (nI j)), (2, .int y)]) K.1 K.2.1 dX0_find_45 hl (k := 1) rfl (nI_inc _) (by decide) rfl (fun ls hl => ?_)
          refine lv_goto (tgt := 22) K.1 K.2.1 dX0_find_48 (by decide) ?_
          exact ih (q + 1) u H locs ls (by omega) (Int32.le_trans hy (nI_le (by omega) (by omega))) (fun z h1 h2 => by by_cases e : z = q; (rw [e]; exact c40); exact hz z (by omega) h2) (hf2.tr hf) hc2 ho2 S (lv_sub hl [0, 2, 3, 4] rfl)
        · refine lv_iload_n K.1 K.2.1 dX0_find_43 rfl (lv_at hl 1 rfl) ?_
          exact ret _ _ _ _ _ _ dX0_find_44 S ⟨ask_in hj (Or.inl ⟨q, by omega, rfl, hy, c40, hz⟩), hf2.tr hf, hc2, ho2⟩
    rcases pk_ix y (n := σ.1 9 + 1) (by omega) with hy | hy | ⟨q, hq, hy⟩
    · skip
      refine lv_iload_n K.1 K.2.1 dX0_find_0 rfl (lv_at hl 1 rfl) ?_
      refine bn_lt0 (tgt := 9) (by omega) K.1 K.2.1 dX0_find_1 (by decide) (fun c1 => absurd c1 (by omega)) (fun c1 => ?_)
      refine lv_iload_n K.1 K.2.1 dX0_find_4 rfl (lv_at hl 1 rfl) ?_
      refine lv_iconst (v := nI 3) K.1 K.2.1 dX0_find_5 (by decide) ?_
      refine bn_le (tgt := 12) (by omega) (by omega) K.1 K.2.1 dX0_find_6 (by decide) (fun c6 => ?_) (fun c6 => absurd c6 (by omega))
      refine lv_iload_n K.1 K.2.1 dX0_find_12 rfl (lv_at hl 2 rfl) ?_
      refine lv_if_ge (tgt := 20) K.1 K.2.1 dX0_find_13 (by decide) (fun c13 => absurd c13 (Int32.not_le.mpr hy)) (fun c13 => ?_)
      refine lv_iconst (v := nI 0) K.1 K.2.1 dX0_find_16 (by decide) ?_
      refine lv_goto (tgt := 21) K.1 K.2.1 dX0_find_17 (by decide) ?_
      refine lv_istore_n (lv' := [(3, .int (nI 0)), (0, .ref (h 0)), (1, .int (nI j)), (2, .int y)]) K.1 K.2.1 dX0_find_21 rfl hl (by decide) rfl (fun ls hl => ?_)
      exact L (σ.1 9 + 1) 0 σ _ _ ls (by omega) (Int32.le_of_lt hy) (fun z h1 => absurd h1 (Nat.not_lt_zero z)) Fr.rf hc ho S hl
    · skip
      refine lv_iload_n K.1 K.2.1 dX0_find_0 rfl (lv_at hl 1 rfl) ?_
      refine bn_lt0 (tgt := 9) (by omega) K.1 K.2.1 dX0_find_1 (by decide) (fun c1 => absurd c1 (by omega)) (fun c1 => ?_)
      refine lv_iload_n K.1 K.2.1 dX0_find_4 rfl (lv_at hl 1 rfl) ?_
      refine lv_iconst (v := nI 3) K.1 K.2.1 dX0_find_5 (by decide) ?_
      refine bn_le (tgt := 12) (by omega) (by omega) K.1 K.2.1 dX0_find_6 (by decide) (fun c6 => ?_) (fun c6 => absurd c6 (by omega))
      refine lv_iload_n K.1 K.2.1 dX0_find_12 rfl (lv_at hl 2 rfl) ?_
      refine lv_if_ge (tgt := 20) K.1 K.2.1 dX0_find_13 (by decide) (fun c13 => ?_) (fun c13 => absurd (Int32.not_lt.mp (ix_nlt (by omega) hy)) c13)
      refine lv_iload_n K.1 K.2.1 dX0_find_20 rfl (lv_at hl 2 rfl) ?_
      refine lv_istore_n (lv' := [(3, .int y), (0, .ref (h 0)), (1, .int (nI j)), (2, .int y)]) K.1 K.2.1 dX0_find_21 rfl hl (by decide) rfl (fun ls hl => ?_)
      refine lv_iload_n K.1 K.2.1 dX0_find_22 rfl (lv_at hl 0 rfl) ?_
      refine lv_aload_n K.1 K.2.1 dX0_find_23 rfl (lv_at hl 1 rfl) ?_
      refine p0g_length K S dX0_find_24 ?_
      refine lv_icmp_gt (tgt := 51) K.1 K.2.1 dX0_find_27 (by decide) (fun c27 => ?_) (fun c27 => absurd (ix_gt (by omega) (by omega) hy) c27)
      refine lv_iconst (v := -1) K.1 K.2.1 dX0_find_51 (by decide) ?_
      exact ret _ _ _ _ _ _ dX0_find_52 S ⟨ask_in hj (Or.inr ⟨rfl, fun z h1 h2 => absurd h2 (ix_nle (by omega) (by omega) hy)⟩), Fr.rf, hc, ho⟩
    · skip
      refine lv_iload_n K.1 K.2.1 dX0_find_0 rfl (lv_at hl 1 rfl) ?_
      refine bn_lt0 (tgt := 9) (by omega) K.1 K.2.1 dX0_find_1 (by decide) (fun c1 => absurd c1 (by omega)) (fun c1 => ?_)
      refine lv_iload_n K.1 K.2.1 dX0_find_4 rfl (lv_at hl 1 rfl) ?_
      refine lv_iconst (v := nI 3) K.1 K.2.1 dX0_find_5 (by decide) ?_
      refine bn_le (tgt := 12) (by omega) (by omega) K.1 K.2.1 dX0_find_6 (by decide) (fun c6 => ?_) (fun c6 => absurd c6 (by omega))
      refine lv_iload_n K.1 K.2.1 dX0_find_12 rfl (lv_at hl 2 rfl) ?_
      refine lv_if_ge (tgt := 20) K.1 K.2.1 dX0_find_13 (by decide) (fun c13 => ?_) (fun c13 => absurd (by rw [hy]; exact nI_pos' (by omega)) c13)
      refine lv_iload_n K.1 K.2.1 dX0_find_20 rfl (lv_at hl 2 rfl) ?_
      refine lv_istore_n (lv' := [(3, .int y), (0, .ref (h 0)), (1, .int (nI j)), (2, .int y)]) K.1 K.2.1 dX0_find_21 rfl hl (by decide) rfl (fun ls hl => ?_)
      rw [hy] at hl
      exact L (σ.1 9 + 1 - q) q σ _ _ ls (by omega) (by rw [hy]; exact Int32.le_refl _) (fun z h1 h2 => absurd h2 (by rw [hy]; exact nI_ge h1 (by omega))) Fr.rf hc ho S (by rw [hy]; exact hl)
end
section
set_option maxRecDepth 100000
/-! THE PLAIN LAW, 4: the reference's table -/
def gM (σ : PT) : GR := (σ.2 1, σ.2 2, σ.2 3, σ.2 4, σ.2 7, σ.2 9, σ.1 0, σ.1 8)
theorem gM_C (σ : PT) (n : Nat) : gC (gM σ) n = σ.2 1 n := rfl
theorem gM_A (σ : PT) (n : Nat) : gA (gM σ) n = σ.2 2 n := rfl
theorem gM_F (σ : PT) (n : Nat) : gF (gM σ) n = σ.2 3 n := rfl
theorem gM_S (σ : PT) (n : Nat) : gS (gM σ) n = σ.2 4 n := rfl
theorem gM_R (σ : PT) (r : Nat) : gR (gM σ) r = σ.2 7 r := rfl
theorem gM_X (σ : PT) (i : Nat) : gX (gM σ) i = σ.2 9 i := rfl
theorem gM_T (σ : PT) : gT (gM σ) = σ.1 0 := rfl
theorem gM_L (σ : PT) : gL (gM σ) = σ.1 8 := rfl
def tab (O : Nat → Nat) (t p : Nat) : Nat := if t < 40 ∧ p ≤ 20 then O (21 * t + p) else 2
theorem tab_in {O : Nat → Nat} {t p : Nat} (ht : t < 40) (hp : p ≤ 20) : tab O t p = O (21 * t + p) := if_pos ⟨ht, hp⟩
def MW (σ : PT) : Prop := σ.1 0 ≤ 40 ∧ σ.1 8 ≤ 20 ∧ (∀ t, t < 40 → σ.2 1 t ≤ 10 ∧ σ.2 2 t < 4 ∧ σ.2 3 t < 40 ∧ σ.2 4 t < 40) ∧ (∀ r, r < 4 → σ.2 7 r ≤ 40) ∧ (∀ i, i < 20 → σ.2 9 i < 4)
def Tb (L : Nat) (O : Nat → Nat) : Prop := ∀ i, i < 840 → 2 ≤ O i ∧ (4 ≤ O i → i % 21 + (O i - 4) ≤ L)
theorem Tb.sm {L : Nat} {O : Nat → Nat} (h : Tb L O) (hL : L ≤ 20) {i : Nat} (hi : i < 840) : O i < 1000 := by
  have := h i hi
  omega
theorem Tb.at {L : Nat} {O : Nat → Nat} (h : Tb L O) {t p : Nat} (ht : t < 40) (hp : p ≤ 20) : 2 ≤ O (21 * t + p) ∧ (4 ≤ O (21 * t + p) → p + (O (21 * t + p) - 4) ≤ L) := by
  have := h (21 * t + p) (by omega)
  rw [show (21 * t + p) % 21 = p by omega] at this
  exact this
/-- what the table knows is right -/
def Snd (G : GR) (O : Nat → Nat) : Prop := ∀ i, i < 840 → O i = 2 ∨ (Itm G i ∧ O i = gval G (i / 21) (i % 21))
theorem Snd.tb {G : GR} {O : Nat → Nat} (h : Snd G O) : Tb (gL G) O := fun i hi => by
  have b := gval_bd (G := G) (i / 21) (i % 21)
  rcases h i hi with e | ⟨-, e⟩
  · omega
  · rw [e]; exact b
theorem Snd.le {G : GR} {O : Nat → Nat} (h : Snd G O) : Le (tab O) (gval G) := fun t p => by
  unfold tab
  by_cases q : t < 40 ∧ p ≤ 20
  · rw [if_pos q]
    rcases h (21 * t + p) (by omega) with e | ⟨-, e⟩
    · exact Or.inl e
    · right
      rw [e, show (21 * t + p) / 21 = t by omega, show (21 * t + p) % 21 = p by omega]
  · rw [if_neg q]
    exact Or.inl rfl
theorem Snd.put {G : GR} {O : Nat → Nat} (h : Snd G O) {i v : Nat} (hi : i < 840) (hI : Itm G i) (hv : v = fol G (tab O) (i / 21) (i % 21)) (h2 : v ≠ 2) : Snd G (up O i v) := fun j hj => by
  by_cases q : j = i
  · subst q
    rw [up_s]
    right
    refine ⟨hI, ?_⟩
    rw [gval_fix hI.1 hI.2, hv]
    rcases fol_mono h.le (G := G) (j / 21) (j % 21) with e | e
    · exact absurd (hv.trans e) h2
    · exact e
  · rw [up_n q]
    exact h j hj
theorem Snd.done {G : GR} {O : Nat → Nat} (h : Snd G O) (hT : gT G ≤ 40) (hL : gL G ≤ 20) (hc : ∀ i, i < 840 → Itm G i → O i = 2 → fol G (tab O) (i / 21) (i % 21) = 2) : ∀ i, i < 840 → O i = gval G (i / 21) (i % 21) := by
  intro i hi
  have a := gval_of_table h.le (fun t p ht hp e => by
    rw [tab_in (by omega) (by omega)] at e
    have b := hc (21 * t + p) (by omega) ⟨by omega, by omega⟩ e
    rw [show (21 * t + p) / 21 = t by omega, show (21 * t + p) % 21 = p by omega] at b
    exact b) (i / 21) (i % 21)
  rw [tab_in (by omega) (by omega), show 21 * (i / 21) + i % 21 = i by omega] at a
  exact a
def mCal (σ : PT) (j q : Nat) : Nat := if σ.2 7 j = 0 then 3 else σ.2 10 (21 * (σ.2 7 j - 1) + q)
theorem mcal_mv {σ : PT} {O : Nat → Nat} {j q : Nat} (hW : MW σ) (hj : j < 4) (hq : q ≤ σ.1 8) (hO : ∀ i, i < 840 → O i = gval (gM σ) (i / 21) (i % 21)) : mCal (setF σ 10 O) j q = mv (gM σ) j q := by
  have h7 := hW.2.2.2.1 j hj
  have h20 := hW.2.1
  show (if σ.2 7 j = 0 then 3 else O (21 * (σ.2 7 j - 1) + q)) = _
  unfold mv
  rw [gM_R]
  by_cases z : σ.2 7 j = 0
  · rw [if_pos z, if_pos z]
  · rw [if_neg z, if_neg z, hO _ (by omega), show (21 * (σ.2 7 j - 1) + q) / 21 = σ.2 7 j - 1 by omega, show (21 * (σ.2 7 j - 1) + q) % 21 = q by omega]
/-- the questions change the table of outcomes alone -/
def Fm (u σ : PT) : Prop := ∃ O, u = setF σ 10 O
theorem Fm.rf {σ : PT} : Fm σ σ := ⟨σ.2 10, (setF_self σ 10 rfl).symm⟩
def mOne (σ : PT) (k a : Nat) : PT := setA (setA σ 1 (σ.1 0) k) 2 (σ.1 0) a
def mEnd (σ : PT) (t h : Nat) : PT := setI (setI (setA (setI σ 5 h) 6 h t) 5 (h + 1)) 0 (t + 1)
def mTok (σ : PT) (k a : Nat) : PT :=
  if k = 10 then setI (setA (setI (setA (mOne σ k a) 4 (σ.1 0) (σ.2 6 (σ.1 5 - 1))) 5 (σ.1 5 - 1)) 7 a (σ.2 6 (σ.1 5 - 1) + 1)) 0 (σ.1 0 + 1)
  else if k ≤ 3 then mEnd (mOne σ k a) (σ.1 0) (σ.1 5 - 0)
  else if k ≤ 5 then mEnd (setA (setA (mOne σ k a) 4 (σ.1 0) (σ.2 6 (σ.1 5 - 1))) 3 (σ.1 0) (σ.2 6 (σ.1 5 - 2))) (σ.1 0) (σ.1 5 - 2)
  else mEnd (setA (mOne σ k a) 4 (σ.1 0) (σ.2 6 (σ.1 5 - 1))) (σ.1 0) (σ.1 5 - 1)
def mClear (σ : PT) : PT := setF (setI (setI σ 0 0) 5 0) 7 (fun i => if i < 4 then 0 else σ.2 7 i)
def mType (σ : PT) (x : Nat) : PT := setI (setA σ 9 (σ.1 8) x) 8 (σ.1 8 + 1)
end
section
set_option maxRecDepth 100000
/-! PegTablesModel: what reads its table -/
set_option maxHeartbeats 4000000 in
set_option maxRecDepth 100000 in
theorem mem_takes (k : Nat) (hk : k ≤ 10) : CS yX1_takes cX1_takes 1 .int ({ frames := 0, cells := 0, slots := 0, locals := 0 }) [.int (nI k)] (nI (tk k)) := by
  refine ofS (by decide) (Nat.le_of_ble_eq_true rfl) (by rfl) ?_
  intro p l e s m args below meth c Q hx hb ret ls hl
  have K : p.tables.exec = Jvm.exec ∧ c.code = cX1_takes ∧ True := ⟨hx, hb, trivial⟩
  have hl : lv_has ls 1 [(0, .int (nI k))] := hl
  refine lv_iload_n K.1 K.2.1 dX1_takes_0 rfl (lv_at hl 0 rfl) ?_
  refine lv_iconst (v := nI 3) K.1 K.2.1 dX1_takes_1 (by decide) ?_
  refine bn_gt (tgt := 9) (by omega) (by omega) K.1 K.2.1 dX1_takes_2 (by decide) (fun c2 => ?_) (fun c2 => ?_)
  · refine lv_iload_n K.1 K.2.1 dX1_takes_9 rfl (lv_at hl 0 rfl) ?_
    refine lv_iconst (v := nI 5) K.1 K.2.1 dX1_takes_10 (by decide) ?_
    refine bn_gt (tgt := 18) (by omega) (by omega) K.1 K.2.1 dX1_takes_11 (by decide) (fun c11 => ?_) (fun c11 => ?_)
    · refine lv_iconst (v := nI 1) K.1 K.2.1 dX1_takes_18 (by decide) ?_
      exact lv_to (congrArg nI (show 1 = tk k from (tk_hi c11).symm)) (ret _ _ dX1_takes_19)
    · refine lv_iconst (v := nI 2) K.1 K.2.1 dX1_takes_14 (by decide) ?_
      refine lv_goto (tgt := 19) K.1 K.2.1 dX1_takes_15 (by decide) ?_
      exact lv_to (congrArg nI (show 2 = tk k from (tk_mid c2 c11).symm)) (ret _ _ dX1_takes_19)
  · refine lv_iconst (v := nI 0) K.1 K.2.1 dX1_takes_5 (by decide) ?_
    refine lv_goto (tgt := 19) K.1 K.2.1 dX1_takes_6 (by decide) ?_
    exact lv_to (congrArg nI (show 0 = tk k from (tk_lo c2).symm)) (ret _ _ dX1_takes_19)
set_option maxHeartbeats 4000000 in
set_option maxRecDepth 100000 in
theorem mem_bad_n (x : Int32) (hx0 : x < 0) : CS yX1_bad cX1_bad 1 .boolean ({ frames := 0, cells := 0, slots := 0, locals := 0 }) [.int x] (nI 1) := by
  refine ofS (by decide) (Nat.le_of_ble_eq_true rfl) (by decide) ?_
  intro p l e s m args below meth c Q hx hb ret ls hl
  have K : p.tables.exec = Jvm.exec ∧ c.code = cX1_bad ∧ True := ⟨hx, hb, trivial⟩
  have hl : lv_has ls 1 [(0, .int x)] := hl
  refine lv_iload_n K.1 K.2.1 dX1_bad_0 rfl (lv_at hl 0 rfl) ?_
  refine lv_if_lt (tgt := 9) K.1 K.2.1 dX1_bad_1 (by decide) (fun c1 => ?_) (fun c1 => absurd hx0 c1)
  refine lv_iconst (v := nI 1) K.1 K.2.1 dX1_bad_9 (by decide) ?_
  refine lv_goto (tgt := 14) K.1 K.2.1 dX1_bad_10 (by decide) ?_
  exact lv_to rfl (ret _ _ dX1_bad_14)
set_option maxHeartbeats 4000000 in
set_option maxRecDepth 100000 in
theorem mem_bad_g (x : Int32) (hx0 : nI 4 ≤ x) : CS yX1_bad cX1_bad 1 .boolean ({ frames := 0, cells := 0, slots := 0, locals := 0 }) [.int x] (nI 1) := by
  refine ofS (by decide) (Nat.le_of_ble_eq_true rfl) (by decide) ?_
  intro p l e s m args below meth c Q hx hb ret ls hl
  have K : p.tables.exec = Jvm.exec ∧ c.code = cX1_bad ∧ True := ⟨hx, hb, trivial⟩
  have hl : lv_has ls 1 [(0, .int x)] := hl
  refine lv_iload_n K.1 K.2.1 dX1_bad_0 rfl (lv_at hl 0 rfl) ?_
  refine lv_if_lt (tgt := 9) K.1 K.2.1 dX1_bad_1 (by decide) (fun c1 => absurd c1 (ix_nlt (by decide) hx0)) (fun c1 => ?_)
  refine lv_iload_n K.1 K.2.1 dX1_bad_4 rfl (lv_at hl 0 rfl) ?_
  refine lv_iconst (v := nI 3) K.1 K.2.1 dX1_bad_5 (by decide) ?_
  refine lv_icmp_le (tgt := 13) K.1 K.2.1 dX1_bad_6 (by decide) (fun c6 => absurd c6 (ix_nle (by decide) (by decide) hx0)) (fun c6 => ?_)
  refine lv_iconst (v := nI 1) K.1 K.2.1 dX1_bad_9 (by decide) ?_
  refine lv_goto (tgt := 14) K.1 K.2.1 dX1_bad_10 (by decide) ?_
  exact lv_to rfl (ret _ _ dX1_bad_14)
set_option maxHeartbeats 4000000 in
set_option maxRecDepth 100000 in
theorem mem_bad_j (j : Nat) (hj : j < 4) : CS yX1_bad cX1_bad 1 .boolean ({ frames := 0, cells := 0, slots := 0, locals := 0 }) [.int (nI j)] (nI 0) := by
  refine ofS (by decide) (Nat.le_of_ble_eq_true rfl) (by decide) ?_
  intro p l e s m args below meth c Q hx hb ret ls hl
  have K : p.tables.exec = Jvm.exec ∧ c.code = cX1_bad ∧ True := ⟨hx, hb, trivial⟩
  have hl : lv_has ls 1 [(0, .int (nI j))] := hl
  refine lv_iload_n K.1 K.2.1 dX1_bad_0 rfl (lv_at hl 0 rfl) ?_
  refine bn_lt0 (tgt := 9) (by omega) K.1 K.2.1 dX1_bad_1 (by decide) (fun c1 => absurd c1 (by omega)) (fun c1 => ?_)
  refine lv_iload_n K.1 K.2.1 dX1_bad_4 rfl (lv_at hl 0 rfl) ?_
  refine lv_iconst (v := nI 3) K.1 K.2.1 dX1_bad_5 (by decide) ?_
  refine bn_le (tgt := 13) (by omega) (by omega) K.1 K.2.1 dX1_bad_6 (by decide) (fun c6 => ?_) (fun c6 => absurd c6 (by omega))
  refine lv_iconst (v := nI 0) K.1 K.2.1 dX1_bad_13 (by decide) ?_
  exact lv_to rfl (ret _ _ dX1_bad_14)
set_option maxHeartbeats 4000000 in
set_option maxRecDepth 100000 in
theorem mem_called (h : Nat → Nat) (d : ClassId) (σ : PT) (j q : Nat) (hj : j < 4) (hq : q ≤ 20) (h7 : σ.2 7 j ≤ 40) : CI (h 0) (mw h d) yX1_called cX1_called 3 ({ frames := 0, cells := 0, slots := 0, locals := 0 }) d [.int (nI j), .int (nI q)] σ (fun r u => r = e4 (mCal σ j q) ∧ u = σ) := by
  refine ofI (C := RX1) rfl (by decide) (Nat.le_of_ble_eq_true rfl) ?_
  intro p l e s m args below meth c A dC dI Q K ret ls hl S
  have hl : lv_has ls 3 [(0, .ref (h 0)), (1, .int (nI j)), (2, .int (nI q))] := hl
  refine lv_aload_n K.1 K.2.1 dX1_called_0 rfl (lv_at hl 0 rfl) ?_
  refine p1g_rules K S dX1_called_1 ?_
  refine lv_iload_n K.1 K.2.1 dX1_called_4 rfl (lv_at hl 1 rfl) ?_
  refine p1l_rules (show j < 4 by omega) K S dX1_called_5 ?_
  refine bp_ge0 (tgt := 13) (by omega) K.1 K.2.1 dX1_called_6 (by decide) (fun c6 => ?_) (fun c6 => ?_)
  · refine lv_aload_n K.1 K.2.1 dX1_called_13 rfl (lv_at hl 0 rfl) ?_
    refine p1g_outcomes K S dX1_called_14 ?_
    refine lv_bipush (v := nI 21) K.1 K.2.1 dX1_called_17 (by decide) ?_
    refine lv_aload_n K.1 K.2.1 dX1_called_19 rfl (lv_at hl 0 rfl) ?_
    refine p1g_rules K S dX1_called_20 ?_
    refine lv_iload_n K.1 K.2.1 dX1_called_23 rfl (lv_at hl 1 rfl) ?_
    refine p1l_rules (show j < 4 by omega) K S dX1_called_24 ?_
    refine lv_to (e1_nI (by omega)) ?_
    refine lv_imul K.1 K.2.1 dX1_called_25 ?_
    refine lv_to (pk_mul _ _) ?_
    refine lv_iload_n K.1 K.2.1 dX1_called_26 rfl (lv_at hl 2 rfl) ?_
    refine lv_iadd K.1 K.2.1 dX1_called_27 ?_
    refine lv_to (nI_add _ _) ?_
    refine p1l_outcomes (show (21 * (σ.2 7 j - 1)) + q < 840 by omega) K S dX1_called_28 ?_
    exact ret _ _ _ _ _ _ dX1_called_29 S ⟨congrArg e4 (show σ.2 10 (21 * (σ.2 7 j - 1) + q) = mCal σ j q by unfold mCal; rw [if_neg (by omega)]), rfl⟩
  · refine lv_iconst (v := -1) K.1 K.2.1 dX1_called_9 (by decide) ?_
    refine lv_goto (tgt := 29) K.1 K.2.1 dX1_called_10 (by decide) ?_
    refine lv_to (show (-1 : Int32) = e4 3 by decide) ?_
    exact ret _ _ _ _ _ _ dX1_called_29 S ⟨congrArg e4 (show 3 = mCal σ j q by unfold mCal; rw [if_pos (by omega)]), rfl⟩
set_option maxHeartbeats 4000000 in
set_option maxRecDepth 100000 in
theorem mem_joined (h : Nat → Nat) (d : ClassId) (σ : PT) (x y q : Nat) (hx0 : x < 40) (hy0 : y < 40) (hq : q ≤ σ.1 8) (hL : σ.1 8 ≤ 20) (hT : Tb (σ.1 8) (σ.2 10)) : CI (h 0) (mw h d) yX1_joined cX1_joined 6 ({ frames := 0, cells := 0, slots := 0, locals := 0 }) d [.int (nI x), .int (nI y), .int (nI q)] σ (fun r u => r = e4 (jn (tab (σ.2 10)) x y q) ∧ u = σ) := by
  refine ofI (C := RX1) rfl (by decide) (Nat.le_of_ble_eq_true rfl) ?_
  intro p l e s m args below meth c A dC dI Q K ret ls hl S
  have hl : lv_has ls 6 [(0, .ref (h 0)), (1, .int (nI x)), (2, .int (nI y)), (3, .int (nI q))] := hl
  have i1 : 21 * x + q < 840 := by omega
  have r1 := hT.sm hL i1
  have r2 := hT.at hx0 (show q ≤ 20 by omega)
  have t1 := tab_in (O := σ.2 10) hx0 (show q ≤ 20 by omega)
  refine lv_aload_n K.1 K.2.1 dX1_joined_0 rfl (lv_at hl 0 rfl) ?_
  refine p1g_outcomes K S dX1_joined_1 ?_
  refine lv_bipush (v := nI 21) K.1 K.2.1 dX1_joined_4 (by decide) ?_
  refine lv_iload_n K.1 K.2.1 dX1_joined_6 rfl (lv_at hl 1 rfl) ?_
  refine lv_imul K.1 K.2.1 dX1_joined_7 ?_
  refine lv_to (pk_mul _ _) ?_
  refine lv_iload_n K.1 K.2.1 dX1_joined_8 rfl (lv_at hl 3 rfl) ?_
  refine lv_iadd K.1 K.2.1 dX1_joined_9 ?_
  refine lv_to (nI_add _ _) ?_
  refine p1l_outcomes (show (21 * x) + q < 840 by omega) K S dX1_joined_10 ?_
  refine lv_istore (lv' := [(4, .int (e4 (σ.2 10 ((21 * x) + q)))), (0, .ref (h 0)), (1, .int (nI x)), (2, .int (nI y)), (3, .int (nI q))]) K.1 K.2.1 dX1_joined_11 hl (by decide) rfl (fun ls hl => ?_)
  refine lv_iload K.1 K.2.1 dX1_joined_13 (lv_at hl 0 rfl) ?_
  refine be_ge0 (tgt := 21) (by omega) K.1 K.2.1 dX1_joined_15 (by decide) (fun c15 => ?_) (fun c15 => ?_)
  · have i2 : 21 * y + (q + (σ.2 10 (21 * x + q) - 4)) < 840 := by omega
    have r3 := hT.sm hL i2
    have t2 := tab_in (O := σ.2 10) (p := q + (σ.2 10 (21 * x + q) - 4)) hy0 (by omega)
    refine lv_aload_n K.1 K.2.1 dX1_joined_21 rfl (lv_at hl 1 rfl) ?_
    refine p1g_outcomes K S dX1_joined_22 ?_
    refine lv_bipush (v := nI 21) K.1 K.2.1 dX1_joined_25 (by decide) ?_
    refine lv_iload_n K.1 K.2.1 dX1_joined_27 rfl (lv_at hl 3 rfl) ?_
    refine lv_imul K.1 K.2.1 dX1_joined_28 ?_
    refine lv_to (pk_mul _ _) ?_
    refine lv_iload_n K.1 K.2.1 dX1_joined_29 rfl (lv_at hl 4 rfl) ?_
    refine lv_iadd K.1 K.2.1 dX1_joined_30 ?_
    refine lv_to (nI_add _ _) ?_
    refine lv_iload K.1 K.2.1 dX1_joined_31 (lv_at hl 0 rfl) ?_
    refine lv_iadd K.1 K.2.1 dX1_joined_33 ?_
    refine lv_to (nI_add_e4 _ _) ?_
    refine lv_to (e4_nI (by omega)) ?_
    refine p1l_outcomes (show (21 * y) + q + (σ.2 10 ((21 * x) + q)) - 4 < 840 by omega) K S dX1_joined_34 ?_
    refine lv_to (y := e4 (σ.2 10 (21 * y + (q + (σ.2 10 (21 * x + q) - 4))))) (congrArg (fun i => e4 (σ.2 10 i)) (by omega)) ?_
    refine lv_istore (lv' := [(5, .int (e4 (σ.2 10 (21 * y + (q + (σ.2 10 (21 * x + q) - 4)))))), (4, .int (e4 (σ.2 10 ((21 * x) + q)))), (0, .ref (h 0)), (1, .int (nI x)), (2, .int (nI y)), (3, .int (nI q))]) K.1 K.2.1 dX1_joined_35 hl (by decide) rfl (fun ls hl => ?_)
    refine lv_iload K.1 K.2.1 dX1_joined_37 (lv_at hl 0 rfl) ?_
    refine be_ge0 (tgt := 47) (by omega) K.1 K.2.1 dX1_joined_39 (by decide) (fun c39 => ?_) (fun c39 => ?_)
    · refine lv_iload K.1 K.2.1 dX1_joined_47 (lv_at hl 1 rfl) ?_
      refine lv_iload K.1 K.2.1 dX1_joined_49 (lv_at hl 0 rfl) ?_
      refine lv_iadd K.1 K.2.1 dX1_joined_51 ?_
      refine lv_to (e4_add_e4 (by omega)) ?_
      exact ret _ _ _ _ _ _ dX1_joined_52 S ⟨congrArg e4 (show σ.2 10 (21 * x + q) - 4 + σ.2 10 (21 * y + (q + (σ.2 10 (21 * x + q) - 4))) = jn (tab (σ.2 10)) x y q by rw [jn_hi (by omega), t1, t2, if_neg (by omega)]), rfl⟩
    · refine lv_iload K.1 K.2.1 dX1_joined_42 (lv_at hl 0 rfl) ?_
      refine lv_goto (tgt := 52) K.1 K.2.1 dX1_joined_44 (by decide) ?_
      exact ret _ _ _ _ _ _ dX1_joined_52 S ⟨congrArg e4 (show σ.2 10 (21 * y + (q + (σ.2 10 (21 * x + q) - 4))) = jn (tab (σ.2 10)) x y q by rw [jn_hi (by omega), t1, t2, if_pos (by omega)]), rfl⟩
  · refine lv_iload K.1 K.2.1 dX1_joined_18 (lv_at hl 0 rfl) ?_
    exact ret _ _ _ _ _ _ dX1_joined_20 S ⟨congrArg e4 (show σ.2 10 (21 * x + q) = jn (tab (σ.2 10)) x y q by rw [jn_lo (by omega), t1]), rfl⟩
set_option maxHeartbeats 4000000 in
set_option maxRecDepth 100000 in
theorem mem_follows (h : Nat → Nat) (d : ClassId) (σ : PT) (t q : Nat) (ht : t < 40) (hq : q ≤ σ.1 8) (hW : MW σ) (hT : Tb (σ.1 8) (σ.2 10)) : CI (h 0) (mw h d) yX1_follows cX1_follows 6 ({ frames := 1, cells := 0, slots := 0, locals := 25 }) d [.int (nI t), .int (nI q)] σ (fun r u => r = e4 (fol (gM σ) (tab (σ.2 10)) t q) ∧ u = σ) := by
  refine ofI (C := RX1) rfl (by decide) (Nat.le_of_ble_eq_true rfl) ?_
  intro p l e s m args below meth c A dC dI Q K ret ls hl S
  have hl : lv_has ls 6 [(0, .ref (h 0)), (1, .int (nI t)), (2, .int (nI q))] := hl
  obtain ⟨m1, m2, m3, m4, m5⟩ := hW
  obtain ⟨x1, x2, x3, x4⟩ := m3 t ht
  have q20 : q ≤ 20 := by omega
  have hC := gM_C σ t
  have tS : tab (σ.2 10) (gS (gM σ) t) q = σ.2 10 (21 * σ.2 4 t + q) := tab_in x4 q20
  have tF : tab (σ.2 10) (gF (gM σ) t) q = σ.2 10 (21 * σ.2 3 t + q) := tab_in x3 q20
  have rS := hT.sm m2 (show 21 * σ.2 4 t + q < 840 by omega)
  have rF := hT.sm m2 (show 21 * σ.2 3 t + q < 840 by omega)
  refine lv_aload_n K.1 K.2.1 dX1_follows_0 rfl (lv_at hl 0 rfl) ?_
  refine p1g_codes K S dX1_follows_1 ?_
  refine lv_iload_n K.1 K.2.1 dX1_follows_4 rfl (lv_at hl 1 rfl) ?_
  refine p1l_codes (show t < 40 by omega) K S dX1_follows_5 ?_
  refine lv_istore_n (lv' := [(3, .int (nI (σ.2 1 t))), (0, .ref (h 0)), (1, .int (nI t)), (2, .int (nI q))]) K.1 K.2.1 dX1_follows_6 rfl hl (by decide) rfl (fun ls hl => ?_)
  refine lv_aload_n K.1 K.2.1 dX1_follows_7 rfl (lv_at hl 1 rfl) ?_
  refine p1g_outcomes K S dX1_follows_8 ?_
  refine lv_bipush (v := nI 21) K.1 K.2.1 dX1_follows_11 (by decide) ?_
  refine lv_aload_n K.1 K.2.1 dX1_follows_13 rfl (lv_at hl 1 rfl) ?_
  refine p1g_lasts K S dX1_follows_14 ?_
  refine lv_iload_n K.1 K.2.1 dX1_follows_17 rfl (lv_at hl 2 rfl) ?_
  refine p1l_lasts (show t < 40 by omega) K S dX1_follows_18 ?_
  refine lv_imul K.1 K.2.1 dX1_follows_19 ?_
  refine lv_to (pk_mul _ _) ?_
  refine lv_iload_n K.1 K.2.1 dX1_follows_20 rfl (lv_at hl 3 rfl) ?_
  refine lv_iadd K.1 K.2.1 dX1_follows_21 ?_
  refine lv_to (nI_add _ _) ?_
  refine p1l_outcomes (show (21 * (σ.2 4 t)) + q < 840 by omega) K S dX1_follows_22 ?_
  refine lv_istore (lv' := [(4, .int (e4 (σ.2 10 ((21 * (σ.2 4 t)) + q)))), (3, .int (nI (σ.2 1 t))), (0, .ref (h 0)), (1, .int (nI t)), (2, .int (nI q))]) K.1 K.2.1 dX1_follows_23 hl (by decide) rfl (fun ls hl => ?_)
  refine lv_iload_n K.1 K.2.1 dX1_follows_25 rfl (lv_at hl 1 rfl) ?_
  refine bn_ne0 (tgt := 58) (by omega) K.1 K.2.1 dX1_follows_26 (by decide) (fun c26 => ?_) (fun c26 => ?_)
  · refine lv_iload_n K.1 K.2.1 dX1_follows_58 rfl (lv_at hl 1 rfl) ?_
    refine lv_iconst (v := nI 1) K.1 K.2.1 dX1_follows_59 (by decide) ?_
    refine bn_ne (tgt := 77) (by omega) (by omega) K.1 K.2.1 dX1_follows_60 (by decide) (fun c60 => ?_) (fun c60 => ?_)
    · refine lv_iload_n K.1 K.2.1 dX1_follows_77 rfl (lv_at hl 1 rfl) ?_
      refine lv_iconst (v := nI 2) K.1 K.2.1 dX1_follows_78 (by decide) ?_
      refine bn_ne (tgt := 84) (by omega) (by omega) K.1 K.2.1 dX1_follows_79 (by decide) (fun c79 => ?_) (fun c79 => ?_)
      · refine lv_iload_n K.1 K.2.1 dX1_follows_84 rfl (lv_at hl 1 rfl) ?_
        refine lv_iconst (v := nI 3) K.1 K.2.1 dX1_follows_85 (by decide) ?_
        refine bn_ne (tgt := 101) (by omega) (by omega) K.1 K.2.1 dX1_follows_86 (by decide) (fun c86 => ?_) (fun c86 => ?_)
        · refine lv_iload_n K.1 K.2.1 dX1_follows_101 rfl (lv_at hl 1 rfl) ?_
          refine lv_iconst (v := nI 4) K.1 K.2.1 dX1_follows_102 (by decide) ?_
          refine bn_ne (tgt := 124) (by omega) (by omega) K.1 K.2.1 dX1_follows_103 (by decide) (fun c103 => ?_) (fun c103 => ?_)
          · refine lv_iload_n K.1 K.2.1 dX1_follows_124 rfl (lv_at hl 1 rfl) ?_
            refine lv_iconst (v := nI 5) K.1 K.2.1 dX1_follows_125 (by decide) ?_
            refine bn_ne (tgt := 161) (by omega) (by omega) K.1 K.2.1 dX1_follows_126 (by decide) (fun c126 => ?_) (fun c126 => ?_)
            · refine lv_iload K.1 K.2.1 dX1_follows_161 (lv_at hl 0 rfl) ?_
              refine lv_bipush (v := -2) K.1 K.2.1 dX1_follows_163 (by decide) ?_
              refine lv_to (show (-2 : Int32) = e4 2 by decide) ?_
              refine be_ne (tgt := 171) (by omega) (by omega) K.1 K.2.1 dX1_follows_165 (by decide) (fun c165 => ?_) (fun c165 => ?_)
              · refine lv_iload_n K.1 K.2.1 dX1_follows_171 rfl (lv_at hl 1 rfl) ?_
                refine lv_bipush (v := nI 6) K.1 K.2.1 dX1_follows_172 (by decide) ?_
                refine bn_ne (tgt := 199) (by omega) (by omega) K.1 K.2.1 dX1_follows_174 (by decide) (fun c174 => ?_) (fun c174 => ?_)
                · refine lv_iload_n K.1 K.2.1 dX1_follows_199 rfl (lv_at hl 1 rfl) ?_
                  refine lv_bipush (v := nI 7) K.1 K.2.1 dX1_follows_200 (by decide) ?_
                  refine bn_ne (tgt := 217) (by omega) (by omega) K.1 K.2.1 dX1_follows_202 (by decide) (fun c202 => ?_) (fun c202 => ?_)
                  · refine lv_iload_n K.1 K.2.1 dX1_follows_217 rfl (lv_at hl 1 rfl) ?_
                    refine lv_bipush (v := nI 8) K.1 K.2.1 dX1_follows_218 (by decide) ?_
                    refine bn_ne (tgt := 234) (by omega) (by omega) K.1 K.2.1 dX1_follows_220 (by decide) (fun c220 => ?_) (fun c220 => ?_)
                    · refine lv_iload_n K.1 K.2.1 dX1_follows_234 rfl (lv_at hl 1 rfl) ?_
                      refine lv_bipush (v := nI 9) K.1 K.2.1 dX1_follows_235 (by decide) ?_
                      refine bn_ne (tgt := 251) (by omega) (by omega) K.1 K.2.1 dX1_follows_237 (by decide) (fun c237 => ?_) (fun c237 => ?_)
                      · refine lv_bipush (v := -2) K.1 K.2.1 dX1_follows_251 (by decide) ?_
                        refine lv_to (show (-2 : Int32) = e4 2 by decide) ?_
                        exact ret _ _ _ _ _ _ dX1_follows_253 S ⟨congrArg e4 (show 2 = fol (gM σ) (tab (σ.2 10)) t q by unfold fol; rw [if_neg (by omega), if_neg (by omega), if_neg (by omega), if_neg (by omega), if_neg (by omega), if_neg (by omega), if_neg (by rw [tS]; exact c165), if_neg (by omega), if_neg (by omega), if_neg (by omega), if_neg (by omega)]), rfl⟩
                      · refine lv_iload K.1 K.2.1 dX1_follows_240 (lv_at hl 0 rfl) ?_
                        refine be_ge0 (tgt := 249) (by omega) K.1 K.2.1 dX1_follows_242 (by decide) (fun c242 => ?_) (fun c242 => ?_)
                        · refine lv_iconst (v := -1) K.1 K.2.1 dX1_follows_249 (by decide) ?_
                          refine lv_to (show (-1 : Int32) = e4 3 by decide) ?_
                          exact ret _ _ _ _ _ _ dX1_follows_250 S ⟨congrArg e4 (show 3 = fol (gM σ) (tab (σ.2 10)) t q by rw [fol_9 (hC.trans c237) (by rw [tS]; exact c165), tS, if_neg (by omega)]), rfl⟩
                        · refine lv_iconst (v := nI 0) K.1 K.2.1 dX1_follows_245 (by decide) ?_
                          refine lv_goto (tgt := 250) K.1 K.2.1 dX1_follows_246 (by decide) ?_
                          refine lv_to (nI_e4 _) ?_
                          exact ret _ _ _ _ _ _ dX1_follows_250 S ⟨congrArg e4 (show 0 + 4 = fol (gM σ) (tab (σ.2 10)) t q by rw [fol_9 (hC.trans c237) (by rw [tS]; exact c165), tS, if_pos (by omega)]), rfl⟩
                    · refine lv_iload K.1 K.2.1 dX1_follows_223 (lv_at hl 0 rfl) ?_
                      refine be_ge0 (tgt := 232) (by omega) K.1 K.2.1 dX1_follows_225 (by decide) (fun c225 => ?_) (fun c225 => ?_)
                      · refine lv_iconst (v := nI 0) K.1 K.2.1 dX1_follows_232 (by decide) ?_
                        refine lv_to (nI_e4 _) ?_
                        exact ret _ _ _ _ _ _ dX1_follows_233 S ⟨congrArg e4 (show 0 + 4 = fol (gM σ) (tab (σ.2 10)) t q by rw [fol_8 (hC.trans c220) (by rw [tS]; exact c165), tS, if_neg (by omega)]), rfl⟩
                      · refine lv_iconst (v := -1) K.1 K.2.1 dX1_follows_228 (by decide) ?_
                        refine lv_goto (tgt := 233) K.1 K.2.1 dX1_follows_229 (by decide) ?_
                        refine lv_to (show (-1 : Int32) = e4 3 by decide) ?_
                        exact ret _ _ _ _ _ _ dX1_follows_233 S ⟨congrArg e4 (show 3 = fol (gM σ) (tab (σ.2 10)) t q by rw [fol_8 (hC.trans c220) (by rw [tS]; exact c165), tS, if_pos (by omega)]), rfl⟩
                  · refine lv_iload K.1 K.2.1 dX1_follows_205 (lv_at hl 0 rfl) ?_
                    refine be_ge0 (tgt := 214) (by omega) K.1 K.2.1 dX1_follows_207 (by decide) (fun c207 => ?_) (fun c207 => ?_)
                    · refine lv_iload K.1 K.2.1 dX1_follows_214 (lv_at hl 0 rfl) ?_
                      exact ret _ _ _ _ _ _ dX1_follows_216 S ⟨congrArg e4 (show σ.2 10 (21 * σ.2 4 t + q) = fol (gM σ) (tab (σ.2 10)) t q by rw [fol_7 (hC.trans c202) (by rw [tS]; exact c165), tS, if_neg (by omega)]), rfl⟩
                    · refine lv_iconst (v := nI 0) K.1 K.2.1 dX1_follows_210 (by decide) ?_
                      refine lv_goto (tgt := 216) K.1 K.2.1 dX1_follows_211 (by decide) ?_
                      refine lv_to (nI_e4 _) ?_
                      exact ret _ _ _ _ _ _ dX1_follows_216 S ⟨congrArg e4 (show 0 + 4 = fol (gM σ) (tab (σ.2 10)) t q by rw [fol_7 (hC.trans c202) (by rw [tS]; exact c165), tS, if_pos (by omega)]), rfl⟩
                · refine lv_iload K.1 K.2.1 dX1_follows_177 (lv_at hl 0 rfl) ?_
                  refine be_gt0 (tgt := 186) (by omega) K.1 K.2.1 dX1_follows_179 (by decide) (fun c179 => ?_) (fun c179 => ?_)
                  · refine lv_aload_n K.1 K.2.1 dX1_follows_186 rfl (lv_at hl 2 rfl) ?_
                    refine lv_aload_n K.1 K.2.1 dX1_follows_187 rfl (lv_at hl 2 rfl) ?_
                    refine p1g_lasts K S dX1_follows_188 ?_
                    refine lv_iload_n K.1 K.2.1 dX1_follows_191 rfl (lv_at hl 3 rfl) ?_
                    refine p1l_lasts (show t < 40 by omega) K S dX1_follows_192 ?_
                    refine lv_iload_n K.1 K.2.1 dX1_follows_193 rfl (lv_at hl 3 rfl) ?_
                    refine lv_iload_n K.1 K.2.1 dX1_follows_194 rfl (lv_at hl 4 rfl) ?_
                    refine cvI K S (mem_joined h d σ (σ.2 4 t) (t) q x4 ht hq m2 hT) (cwV 3 K.2.2.2.2.1 (lw_V q232 q234 qs13 q17 q235) rfl rfl rfl (by decide +kernel) ⟨Nat.le_of_ble_eq_true rfl, Nat.le_of_ble_eq_true rfl⟩) rfl rfl rfl hl.1 rfl (Nat.le_of_ble_eq_true rfl) dX1_follows_195 ⟨Nat.zero_le _, Nat.zero_le _⟩ (fun r u H locs S hu => ?_)
                    obtain ⟨hr, hu⟩ := hu
                    rw [hu] at S
                    refine lv_to hr ?_
                    exact ret _ _ _ _ _ _ dX1_follows_198 S ⟨congrArg e4 (show jn (tab (σ.2 10)) (σ.2 4 t) t q = fol (gM σ) (tab (σ.2 10)) t q by rw [fol_6 (hC.trans c174) (by rw [tS]; exact c165), tS, if_neg (by omega)]; rfl), rfl⟩
                  · refine lv_iconst (v := nI 0) K.1 K.2.1 dX1_follows_182 (by decide) ?_
                    refine lv_goto (tgt := 198) K.1 K.2.1 dX1_follows_183 (by decide) ?_
                    refine lv_to (nI_e4 _) ?_
                    exact ret _ _ _ _ _ _ dX1_follows_198 S ⟨congrArg e4 (show 0 + 4 = fol (gM σ) (tab (σ.2 10)) t q by rw [fol_6 (hC.trans c174) (by rw [tS]; exact c165), tS, if_pos (by omega)]), rfl⟩
              · refine lv_bipush (v := -2) K.1 K.2.1 dX1_follows_168 (by decide) ?_
                refine lv_to (show (-2 : Int32) = e4 2 by decide) ?_
                exact ret _ _ _ _ _ _ dX1_follows_170 S ⟨congrArg e4 (show 2 = fol (gM σ) (tab (σ.2 10)) t q by unfold fol; rw [if_neg (by omega), if_neg (by omega), if_neg (by omega), if_neg (by omega), if_neg (by omega), if_neg (by omega), if_pos (by rw [tS]; exact c165)]), rfl⟩
            · refine lv_aload_n K.1 K.2.1 dX1_follows_129 rfl (lv_at hl 2 rfl) ?_
              refine p1g_outcomes K S dX1_follows_130 ?_
              refine lv_bipush (v := nI 21) K.1 K.2.1 dX1_follows_133 (by decide) ?_
              refine lv_aload_n K.1 K.2.1 dX1_follows_135 rfl (lv_at hl 2 rfl) ?_
              refine p1g_firsts K S dX1_follows_136 ?_
              refine lv_iload_n K.1 K.2.1 dX1_follows_139 rfl (lv_at hl 3 rfl) ?_
              refine p1l_firsts (show t < 40 by omega) K S dX1_follows_140 ?_
              refine lv_imul K.1 K.2.1 dX1_follows_141 ?_
              refine lv_to (pk_mul _ _) ?_
              refine lv_iload_n K.1 K.2.1 dX1_follows_142 rfl (lv_at hl 4 rfl) ?_
              refine lv_iadd K.1 K.2.1 dX1_follows_143 ?_
              refine lv_to (nI_add _ _) ?_
              refine p1l_outcomes (show (21 * (σ.2 3 t)) + q < 840 by omega) K S dX1_follows_144 ?_
              refine lv_istore (lv' := [(5, .int (e4 (σ.2 10 ((21 * (σ.2 3 t)) + q)))), (4, .int (e4 (σ.2 10 ((21 * (σ.2 4 t)) + q)))), (3, .int (nI (σ.2 1 t))), (0, .ref (h 0)), (1, .int (nI t)), (2, .int (nI q))]) K.1 K.2.1 dX1_follows_145 hl (by decide) rfl (fun ls hl => ?_)
              refine lv_iload K.1 K.2.1 dX1_follows_147 (lv_at hl 0 rfl) ?_
              refine lv_iconst (v := -1) K.1 K.2.1 dX1_follows_149 (by decide) ?_
              refine lv_to (show (-1 : Int32) = e4 3 by decide) ?_
              refine be_ne (tgt := 158) (by omega) (by omega) K.1 K.2.1 dX1_follows_150 (by decide) (fun c150 => ?_) (fun c150 => ?_)
              · refine lv_iload K.1 K.2.1 dX1_follows_158 (lv_at hl 0 rfl) ?_
                exact ret _ _ _ _ _ _ dX1_follows_160 S ⟨congrArg e4 (show σ.2 10 (21 * σ.2 3 t + q) = fol (gM σ) (tab (σ.2 10)) t q by rw [fol_5 (hC.trans c126), tF, tS, if_neg c150]), rfl⟩
              · refine lv_iload K.1 K.2.1 dX1_follows_153 (lv_at hl 1 rfl) ?_
                refine lv_goto (tgt := 160) K.1 K.2.1 dX1_follows_155 (by decide) ?_
                exact ret _ _ _ _ _ _ dX1_follows_160 S ⟨congrArg e4 (show σ.2 10 (21 * σ.2 4 t + q) = fol (gM σ) (tab (σ.2 10)) t q by rw [fol_5 (hC.trans c126), tF, tS, if_pos c150]), rfl⟩
          · refine lv_aload_n K.1 K.2.1 dX1_follows_106 rfl (lv_at hl 2 rfl) ?_
            refine lv_aload_n K.1 K.2.1 dX1_follows_107 rfl (lv_at hl 2 rfl) ?_
            refine p1g_firsts K S dX1_follows_108 ?_
            refine lv_iload_n K.1 K.2.1 dX1_follows_111 rfl (lv_at hl 3 rfl) ?_
            refine p1l_firsts (show t < 40 by omega) K S dX1_follows_112 ?_
            refine lv_aload_n K.1 K.2.1 dX1_follows_113 rfl (lv_at hl 2 rfl) ?_
            refine p1g_lasts K S dX1_follows_114 ?_
            refine lv_iload_n K.1 K.2.1 dX1_follows_117 rfl (lv_at hl 3 rfl) ?_
            refine p1l_lasts (show t < 40 by omega) K S dX1_follows_118 ?_
            refine lv_iload_n K.1 K.2.1 dX1_follows_119 rfl (lv_at hl 4 rfl) ?_
            refine cvI K S (mem_joined h d σ (σ.2 3 t) (σ.2 4 t) q x3 x4 hq m2 hT) (cwV 3 K.2.2.2.2.1 (lw_V q232 q234 qs13 q17 q235) rfl rfl rfl (by decide +kernel) ⟨Nat.le_of_ble_eq_true rfl, Nat.le_of_ble_eq_true rfl⟩) rfl rfl rfl hl.1 rfl (Nat.le_of_ble_eq_true rfl) dX1_follows_120 ⟨Nat.zero_le _, Nat.zero_le _⟩ (fun r u H locs S hu => ?_)
            obtain ⟨hr, hu⟩ := hu
            rw [hu] at S
            refine lv_to hr ?_
            exact ret _ _ _ _ _ _ dX1_follows_123 S ⟨congrArg e4 (show jn (tab (σ.2 10)) (σ.2 3 t) (σ.2 4 t) q = fol (gM σ) (tab (σ.2 10)) t q by rw [fol_4 (hC.trans c103)]; rfl), rfl⟩
        · refine lv_aload_n K.1 K.2.1 dX1_follows_89 rfl (lv_at hl 2 rfl) ?_
          refine lv_aload_n K.1 K.2.1 dX1_follows_90 rfl (lv_at hl 2 rfl) ?_
          refine p1g_args K S dX1_follows_91 ?_
          refine lv_iload_n K.1 K.2.1 dX1_follows_94 rfl (lv_at hl 3 rfl) ?_
          refine p1l_args (show t < 40 by omega) K S dX1_follows_95 ?_
          refine lv_iload_n K.1 K.2.1 dX1_follows_96 rfl (lv_at hl 4 rfl) ?_
          refine cvI K S (mem_called h d σ (σ.2 2 t) q x2 q20 (m4 _ x2)) (cwV 2 K.2.2.2.2.1 (lw_V q228 q230 qs12 q17 q231) rfl rfl rfl (by decide +kernel) ⟨Nat.le_of_ble_eq_true rfl, Nat.le_of_ble_eq_true rfl⟩) rfl rfl rfl hl.1 rfl (Nat.le_of_ble_eq_true rfl) dX1_follows_97 ⟨Nat.zero_le _, Nat.zero_le _⟩ (fun r u H locs S hu => ?_)
          obtain ⟨hr, hu⟩ := hu
          rw [hu] at S
          refine lv_to hr ?_
          exact ret _ _ _ _ _ _ dX1_follows_100 S ⟨congrArg e4 (show mCal σ (σ.2 2 t) q = fol (gM σ) (tab (σ.2 10)) t q by rw [fol_3 (hC.trans c86)]; unfold mCal; rw [gM_R, gM_A]; by_cases z : σ.2 7 (σ.2 2 t) = 0; (rw [if_pos z, if_pos z]); have := m4 _ x2; rw [if_neg z, if_neg z, tab_in (by omega) q20]), rfl⟩
      · refine lv_iconst (v := nI 0) K.1 K.2.1 dX1_follows_82 (by decide) ?_
        refine lv_to (nI_e4 _) ?_
        exact ret _ _ _ _ _ _ dX1_follows_83 S ⟨congrArg e4 (show 0 + 4 = fol (gM σ) (tab (σ.2 10)) t q by rw [fol_s (by omega), if_pos (by omega)]), rfl⟩
    · refine lv_iload_n K.1 K.2.1 dX1_follows_63 rfl (lv_at hl 4 rfl) ?_
      refine lv_aload_n K.1 K.2.1 dX1_follows_64 rfl (lv_at hl 2 rfl) ?_
      refine p1g_letters K S dX1_follows_65 ?_
      refine bn_ge (tgt := 75) (by omega) (by omega) K.1 K.2.1 dX1_follows_68 (by decide) (fun c68 => ?_) (fun c68 => ?_)
      · refine lv_iconst (v := -1) K.1 K.2.1 dX1_follows_75 (by decide) ?_
        refine lv_to (show (-1 : Int32) = e4 3 by decide) ?_
        exact ret _ _ _ _ _ _ dX1_follows_76 S ⟨congrArg e4 (show 3 = fol (gM σ) (tab (σ.2 10)) t q by rw [fol_s (by omega), if_neg (by omega), if_neg (fun z => absurd z.1 (Nat.not_lt.mpr c68))]), rfl⟩
      · refine lv_iconst (v := nI 1) K.1 K.2.1 dX1_follows_71 (by decide) ?_
        refine lv_goto (tgt := 76) K.1 K.2.1 dX1_follows_72 (by decide) ?_
        refine lv_to (nI_e4 _) ?_
        exact ret _ _ _ _ _ _ dX1_follows_76 S ⟨congrArg e4 (show 1 + 4 = fol (gM σ) (tab (σ.2 10)) t q by rw [fol_s (by omega), if_neg (by omega), if_pos ⟨c68, Or.inl c60⟩]), rfl⟩
  · refine lv_iload_n K.1 K.2.1 dX1_follows_29 rfl (lv_at hl 4 rfl) ?_
    refine lv_aload_n K.1 K.2.1 dX1_follows_30 rfl (lv_at hl 2 rfl) ?_
    refine p1g_letters K S dX1_follows_31 ?_
    refine bn_ge (tgt := 56) (by omega) (by omega) K.1 K.2.1 dX1_follows_34 (by decide) (fun c34 => ?_) (fun c34 => ?_)
    · refine lv_iconst (v := -1) K.1 K.2.1 dX1_follows_56 (by decide) ?_
      refine lv_to (show (-1 : Int32) = e4 3 by decide) ?_
      exact ret _ _ _ _ _ _ dX1_follows_57 S ⟨congrArg e4 (show 3 = fol (gM σ) (tab (σ.2 10)) t q by rw [fol_s (by omega), if_neg (by omega), if_neg (fun z => absurd z.1 (Nat.not_lt.mpr c34))]), rfl⟩
    · have m5q := m5 q (by omega)
      refine lv_aload_n K.1 K.2.1 dX1_follows_37 rfl (lv_at hl 2 rfl) ?_
      refine p1g_text K S dX1_follows_38 ?_
      refine lv_iload_n K.1 K.2.1 dX1_follows_41 rfl (lv_at hl 4 rfl) ?_
      refine p1l_text (show q < 20 by omega) K S dX1_follows_42 ?_
      refine lv_aload_n K.1 K.2.1 dX1_follows_43 rfl (lv_at hl 2 rfl) ?_
      refine p1g_args K S dX1_follows_44 ?_
      refine lv_iload_n K.1 K.2.1 dX1_follows_47 rfl (lv_at hl 3 rfl) ?_
      refine p1l_args (show t < 40 by omega) K S dX1_follows_48 ?_
      refine bn_ne (tgt := 56) (by omega) (by omega) K.1 K.2.1 dX1_follows_49 (by decide) (fun c49 => ?_) (fun c49 => ?_)
      · refine lv_iconst (v := -1) K.1 K.2.1 dX1_follows_56 (by decide) ?_
        refine lv_to (show (-1 : Int32) = e4 3 by decide) ?_
        exact ret _ _ _ _ _ _ dX1_follows_57 S ⟨congrArg e4 (show 3 = fol (gM σ) (tab (σ.2 10)) t q by rw [fol_s (by omega), if_neg (by omega), if_neg (fun z => by rcases z.2 with z2 | z2; (omega); exact c49 z2)]), rfl⟩
      · refine lv_iconst (v := nI 1) K.1 K.2.1 dX1_follows_52 (by decide) ?_
        refine lv_goto (tgt := 57) K.1 K.2.1 dX1_follows_53 (by decide) ?_
        refine lv_to (nI_e4 _) ?_
        exact ret _ _ _ _ _ _ dX1_follows_57 S ⟨congrArg e4 (show 1 + 4 = fol (gM σ) (tab (σ.2 10)) t q by rw [fol_s (by omega), if_neg (by omega), if_pos ⟨c34, Or.inr c49⟩]), rfl⟩
end
section
set_option maxRecDepth 100000
/-! PegTablesModel: work -/
theorem tab_bd {L : Nat} {O : Nat → Nat} (h : Tb L O) (hL : L ≤ 20) : Bd L (tab O) := fun t p => by
  unfold tab
  by_cases q : t < 40 ∧ p ≤ 20
  · rw [if_pos q]
    exact h.at q.1 q.2
  · rw [if_neg q]
    exact ⟨Nat.le_refl 2, fun h => absurd h (by decide)⟩
set_option maxHeartbeats 4000000 in
set_option maxRecDepth 100000 in
theorem mem_work (h : Nat → Nat) (d : ClassId) (σ : PT) (hW : MW σ) : CV (h 0) (mw h d) yX1_work cX1_work 5 ({ frames := 2, cells := 0, slots := 0, locals := 50 }) d [] σ (fun u => ∃ O, u = setF σ 10 O ∧ ∀ i, i < 840 → O i = gval (gM σ) (i / 21) (i % 21)) := by
  refine ofV (C := RX1) rfl (by decide) (Nat.le_of_ble_eq_true rfl) ?_
  intro p l e s m args below meth c A dC dI Q K ret ls hl S
  have hl : lv_has ls 5 [(0, .ref (h 0))] := hl
  have m1 := hW.1
  have m2 := hW.2.1
  have hT : gT (gM σ) = σ.1 0 := rfl
  have hL : gL (gM σ) = σ.1 8 := rfl
  have E25 : ∀ (O : Nat → Nat) (H : Heap) (locs : List Loc) (ls : Array Slot), Snd (gM σ) O → (∀ i, i < 840 → Itm (gM σ) i → O i = 2 → fol (gM σ) (tab O) (i / 21) (i % 21) = 2) → St dC dI A s.heap H locs (mw h d (setF σ 10 O)) → lv_has ls 5 [(1, .int (nI 0)), (0, .ref (h 0))] → W p l e ({ frames := 2, cells := 0, slots := 0, locals := 50 }) s m args below meth c H locs 0 0 Q (F0 m 25 ls []) := by
    intro O H locs ls hS hcl S hl
    refine lv_iload_n K.1 K.2.1 dX1_work_25 rfl (lv_at hl 0 rfl) ?_
    refine bn_eq0 (tgt := 110) (by omega) K.1 K.2.1 dX1_work_26 (by decide) (fun c26 => ?_) (fun c26 => absurd rfl c26)
    exact ret _ _ _ _ _ dX1_work_110 S ⟨O, rfl, hS.done (by omega) (by omega) hcl⟩
  have L25 : ∀ (n : Nat) (O : Nat → Nat) (H : Heap) (locs : List Loc) (ls : Array Slot), ct 2 O 840 < n → Snd (gM σ) O → St dC dI A s.heap H locs (mw h d (setF σ 10 O)) → lv_has ls 5 [(1, .int (nI 1)), (0, .ref (h 0))] → W p l e ({ frames := 2, cells := 0, slots := 0, locals := 50 }) s m args below meth c H locs 0 0 Q (F0 m 25 ls []) := by
    intro n
    induction n with
    | zero =>
      intro O H locs ls hn
      omega
    | succ n ih =>
      intro O0 H0 locs0 ls0 hn hS0 S0 hl0
      have L33 : ∀ (j i b : Nat) (O : Nat → Nat) (H : Heap) (locs : List Loc) (ls : Array Slot), i + j = 21 * σ.1 0 → b < 2 → (b = 0 → ct 2 O 840 ≤ n ∧ ∀ i2, i2 < i → Itm (gM σ) i2 → O i2 = 2 → fol (gM σ) (tab O) (i2 / 21) (i2 % 21) = 2) → (b = 1 → ct 2 O 840 < n) → Snd (gM σ) O → St dC dI A s.heap H locs (mw h d (setF σ 10 O)) → lv_has ls 5 [(2, .int (nI i)), (1, .int (nI b)), (0, .ref (h 0))] → W p l e ({ frames := 2, cells := 0, slots := 0, locals := 50 }) s m args below meth c H locs 0 0 Q (F0 m 33 ls []) := by
        intro j
        induction j with
        | zero =>
          intro i b O H locs ls hj hb h0 h1 hS S hl
          have hl2 := lv_sub (l' := [(1, .int (nI b)), (0, .ref (h 0))]) hl [1, 2] rfl
          refine lv_iload_n K.1 K.2.1 dX1_work_33 rfl (lv_at hl 0 rfl) ?_
          refine lv_bipush (v := nI 21) K.1 K.2.1 dX1_work_34 (by decide) ?_
          refine lv_aload_n K.1 K.2.1 dX1_work_36 rfl (lv_at hl 2 rfl) ?_
          refine p1g_tokens K S dX1_work_37 ?_
          refine lv_to (y := nI (σ.1 0)) rfl ?_
          refine lv_imul K.1 K.2.1 dX1_work_40 ?_
          refine lv_to (pk_mul _ _) ?_
          refine bn_ge (tgt := 107) (by omega) (by omega) K.1 K.2.1 dX1_work_41 (by decide) (fun c41 => ?_) (fun c41 => absurd c41 (by omega))
          refine lv_goto (tgt := 25) K.1 K.2.1 dX1_work_107 (by decide) ?_
          by_cases hz : b = 0
          · subst hz
            refine E25 O H locs ls hS (fun i2 hi2 hI e => (h0 rfl).2 i2 ?_ hI e) S hl2
            have := hI.1
            omega
          · have hb1 : b = 1 := by omega
            subst hb1
            exact ih O H locs ls (h1 rfl) hS S hl2
        | succ j ih2 =>
          intro i b O H locs ls hj hb h0 h1 hS S hl
          have hi : i < 840 := by omega
          have oi := hS.tb.sm (by omega) hi
          have K82 : ∀ (v : Nat) (H : Heap) (locs : List Loc) (ls : Array Slot), v < 1000 → (v = 2 → Itm (gM σ) i → O i = 2 → fol (gM σ) (tab O) (i / 21) (i % 21) = 2) → (v ≠ 2 → Itm (gM σ) i ∧ v = fol (gM σ) (tab O) (i / 21) (i % 21) ∧ O i = 2) → St dC dI A s.heap H locs (mw h d (setF σ 10 O)) → lv_has ls 5 [(3, .int (nI (i % 21))), (2, .int (nI i)), (1, .int (nI b)), (0, .ref (h 0))] → W p l e ({ frames := 2, cells := 0, slots := 0, locals := 50 }) s m args below meth c H locs 0 0 Q (F0 m 82 ls [.int (e4 v)]) := by
            intro v H locs ls hv hv2 hvn S hl
            refine lv_istore (lv' := [(4, .int (e4 v)), (3, .int (nI (i % 21))), (2, .int (nI i)), (1, .int (nI b)), (0, .ref (h 0))]) K.1 K.2.1 dX1_work_82 hl (by decide) rfl (fun ls hl => ?_)
            refine lv_iload K.1 K.2.1 dX1_work_84 (lv_at hl 0 rfl) ?_
            refine lv_bipush (v := -2) K.1 K.2.1 dX1_work_86 (by decide) ?_
            refine lv_to (show (-2 : Int32) = e4 2 by decide) ?_
            refine be_eq (tgt := 101) (by omega) (by omega) K.1 K.2.1 dX1_work_88 (by decide) (fun c88 => ?_) (fun c88 => ?_)
            · refine lv_iinc (v := nI (i + 1)) (lv' := [(2, .int (nI (i + 1))), (4, .int (e4 v)), (3, .int (nI (i % 21))), (1, .int (nI b)), (0, .ref (h 0))]) K.1 K.2.1 dX1_work_101 hl (k := 2) rfl (nI_inc _) (by decide) rfl (fun ls hl => ?_)
              refine lv_goto (tgt := 33) K.1 K.2.1 dX1_work_104 (by decide) ?_
              exact ih2 (i + 1) b O H locs ls (by omega) hb (fun z => ⟨(h0 z).1, fun i2 z1 z2 z3 => by by_cases z4 : i2 = i; (rw [z4] at z2 z3 ⊢; exact hv2 c88 z2 z3); exact (h0 z).2 i2 (by omega) z2 z3⟩) h1 hS S (lv_sub hl [0, 3, 4] rfl)
            · obtain ⟨hI, hvf, hoi⟩ := hvn c88
              have hct := ct_up (c := 2) (f := O) (v := v) hi
              rw [if_pos hoi, if_neg c88] at hct
              refine lv_aload_n K.1 K.2.1 dX1_work_91 rfl (lv_at hl 4 rfl) ?_
              refine p1g_outcomes K S dX1_work_92 ?_
              refine lv_iload_n K.1 K.2.1 dX1_work_95 rfl (lv_at hl 2 rfl) ?_
              refine lv_iload K.1 K.2.1 dX1_work_96 (lv_at hl 0 rfl) ?_
              refine p1s_outcomes (show i < 840 by omega) K S dX1_work_98 (fun H locs S => ?_)
              rw [setA_setF] at S
              refine lv_iconst (v := nI 1) K.1 K.2.1 dX1_work_99 (by decide) ?_
              refine lv_istore_n (lv' := [(1, .int (nI 1)), (4, .int (e4 v)), (3, .int (nI (i % 21))), (2, .int (nI i)), (0, .ref (h 0))]) K.1 K.2.1 dX1_work_100 rfl hl (by decide) rfl (fun ls hl => ?_)
              refine lv_iinc (v := nI (i + 1)) (lv' := [(2, .int (nI (i + 1))), (1, .int (nI 1)), (4, .int (e4 v)), (3, .int (nI (i % 21))), (0, .ref (h 0))]) K.1 K.2.1 dX1_work_101 hl (k := 3) rfl (nI_inc _) (by decide) rfl (fun ls hl => ?_)
              refine lv_goto (tgt := 33) K.1 K.2.1 dX1_work_104 (by decide) ?_
              exact ih2 (i + 1) 1 (up O i v) H locs ls (by omega) (by decide) (fun z => absurd z (by decide)) (fun _ => by by_cases z : b = 0; (have := (h0 z).1; omega); have := h1 (by omega); omega) (hS.put hi hI hvf c88) S (lv_sub hl [0, 1, 4] rfl)
          refine lv_iload_n K.1 K.2.1 dX1_work_33 rfl (lv_at hl 0 rfl) ?_
          refine lv_bipush (v := nI 21) K.1 K.2.1 dX1_work_34 (by decide) ?_
          refine lv_aload_n K.1 K.2.1 dX1_work_36 rfl (lv_at hl 2 rfl) ?_
          refine p1g_tokens K S dX1_work_37 ?_
          refine lv_to (y := nI (σ.1 0)) rfl ?_
          refine lv_imul K.1 K.2.1 dX1_work_40 ?_
          refine lv_to (pk_mul _ _) ?_
          refine bn_ge (tgt := 107) (by omega) (by omega) K.1 K.2.1 dX1_work_41 (by decide) (fun c41 => absurd c41 (by omega)) (fun c41 => ?_)
          refine lv_iload_n K.1 K.2.1 dX1_work_44 rfl (lv_at hl 0 rfl) ?_
          refine lv_bipush (v := nI 21) K.1 K.2.1 dX1_work_45 (by decide) ?_
          refine lv_irem K.1 K.2.1 dX1_work_47 (by decide) ?_
          refine lv_to (pk_rem (by omega) (by decide) (by decide)) ?_
          refine lv_istore_n (lv' := [(3, .int (nI (i % 21))), (2, .int (nI i)), (1, .int (nI b)), (0, .ref (h 0))]) K.1 K.2.1 dX1_work_48 rfl hl (by decide) rfl (fun ls hl => ?_)
          refine lv_aload_n K.1 K.2.1 dX1_work_49 rfl (lv_at hl 3 rfl) ?_
          refine p1g_outcomes K S dX1_work_50 ?_
          refine lv_iload_n K.1 K.2.1 dX1_work_53 rfl (lv_at hl 1 rfl) ?_
          refine p1l_outcomes (show i < 840 by omega) K S dX1_work_54 ?_
          refine lv_to (y := e4 (O i)) (rfl) ?_
          refine lv_bipush (v := -2) K.1 K.2.1 dX1_work_55 (by decide) ?_
          refine lv_to (show (-2 : Int32) = e4 2 by decide) ?_
          refine be_ne (tgt := 80) (by omega) (by omega) K.1 K.2.1 dX1_work_57 (by decide) (fun c57 => ?_) (fun c57 => ?_)
          · refine lv_bipush (v := -2) K.1 K.2.1 dX1_work_80 (by decide) ?_
            refine lv_to (show (-2 : Int32) = e4 2 by decide) ?_
            exact K82 2 H locs ls (by decide) (fun _ z1 z2 => absurd z2 c57) (fun z => absurd rfl z) S hl
          · refine lv_iload_n K.1 K.2.1 dX1_work_60 rfl (lv_at hl 0 rfl) ?_
            refine lv_aload_n K.1 K.2.1 dX1_work_61 rfl (lv_at hl 3 rfl) ?_
            refine p1g_letters K S dX1_work_62 ?_
            refine lv_to (y := nI (σ.1 8)) rfl ?_
            refine bn_gt (tgt := 80) (by omega) (by omega) K.1 K.2.1 dX1_work_65 (by decide) (fun c65 => ?_) (fun c65 => ?_)
            · refine lv_bipush (v := -2) K.1 K.2.1 dX1_work_80 (by decide) ?_
              refine lv_to (show (-2 : Int32) = e4 2 by decide) ?_
              exact K82 2 H locs ls (by decide) (fun _ z1 z2 => absurd z1.2 (Nat.not_le.mpr c65)) (fun z => absurd rfl z) S hl
            · refine lv_aload_n K.1 K.2.1 dX1_work_68 rfl (lv_at hl 3 rfl) ?_
              refine lv_iload_n K.1 K.2.1 dX1_work_69 rfl (lv_at hl 1 rfl) ?_
              refine lv_bipush (v := nI 21) K.1 K.2.1 dX1_work_70 (by decide) ?_
              refine lv_idiv K.1 K.2.1 dX1_work_72 (by decide) ?_
              refine lv_to (pk_div (by omega) (by decide) (by decide)) ?_
              refine lv_iload_n K.1 K.2.1 dX1_work_73 rfl (lv_at hl 0 rfl) ?_
              refine cvI K S (mem_follows h d (setF σ 10 O) (i / 21) (i % 21) (by omega) c65 hW hS.tb) (cwV 2 K.2.2.2.2.1 (lw_V q224 q226 qs11 q17 q227) rfl rfl rfl (by decide +kernel) ⟨Nat.le_of_ble_eq_true rfl, Nat.le_of_ble_eq_true rfl⟩) rfl rfl rfl hl.1 rfl (Nat.le_of_ble_eq_true rfl) dX1_work_74 ⟨Nat.zero_le _, Nat.zero_le _⟩ (fun r u H locs S hu => ?_)
              obtain ⟨hr, hu⟩ := hu
              rw [hu] at S
              refine lv_to (y := e4 (fol (gM σ) (tab O) (i / 21) (i % 21))) hr ?_
              refine lv_goto (tgt := 82) K.1 K.2.1 dX1_work_77 (by decide) ?_
              have fb := fol_bd (G := gM σ) (O := tab O) (tab_bd hS.tb (by omega)) (i / 21) (i % 21) c65
              exact K82 _ H locs ls (by omega) (fun z _ _ => z) (fun _ => ⟨⟨by omega, c65⟩, rfl, c57⟩) S hl
      have S := S0
      have hl := hl0
      refine lv_iload_n K.1 K.2.1 dX1_work_25 rfl (lv_at hl 0 rfl) ?_
      refine bn_eq0 (tgt := 110) (by omega) K.1 K.2.1 dX1_work_26 (by decide) (fun c26 => absurd c26 (by decide)) (fun c26 => ?_)
      refine lv_iconst (v := nI 0) K.1 K.2.1 dX1_work_29 (by decide) ?_
      refine lv_istore_n (lv' := [(1, .int (nI 0)), (0, .ref (h 0))]) K.1 K.2.1 dX1_work_30 rfl hl (by decide) rfl (fun ls hl => ?_)
      refine lv_iconst (v := nI 0) K.1 K.2.1 dX1_work_31 (by decide) ?_
      refine lv_istore_n (lv' := [(2, .int (nI 0)), (1, .int (nI 0)), (0, .ref (h 0))]) K.1 K.2.1 dX1_work_32 rfl hl (by decide) rfl (fun ls hl => ?_)
      exact L33 (21 * σ.1 0) 0 0 O0 H0 locs0 ls (by omega) (by decide) (fun _ => ⟨by omega, fun i2 z => absurd z (Nat.not_lt_zero i2)⟩) (fun z => absurd z (by decide)) hS0 S hl
  have L : ∀ (j k : Nat) (H : Heap) (locs : List Loc) (ls : Array Slot), k + j = 840 → St dC dI A s.heap H locs (mw h d (setF σ 10 (fun i => if i < k then 2 else σ.2 10 i))) → lv_has ls 5 [(1, .int (nI k)), (0, .ref (h 0))] → W p l e ({ frames := 2, cells := 0, slots := 0, locals := 50 }) s m args below meth c H locs 0 0 Q (F0 m 2 ls []) := by
    intro j
    induction j with
    | zero =>
      intro k H locs ls hk S hl
      refine lv_iload_n K.1 K.2.1 dX1_work_2 rfl (lv_at hl 0 rfl) ?_
      refine lv_sipush (v := nI 840) K.1 K.2.1 dX1_work_3 (by decide) ?_
      refine bn_ge (tgt := 23) (by omega) (by omega) K.1 K.2.1 dX1_work_6 (by decide) (fun c6 => ?_) (fun c6 => absurd c6 (by omega))
      refine lv_iconst (v := nI 1) K.1 K.2.1 dX1_work_23 (by decide) ?_
      refine lv_istore_n (lv' := [(1, .int (nI 1)), (0, .ref (h 0))]) K.1 K.2.1 dX1_work_24 rfl hl (by decide) rfl (fun ls hl => ?_)
      exact L25 841 _ H locs ls (Nat.lt_succ_of_le ct_le) (fun i hi => Or.inl (if_pos (by omega))) S hl
    | succ j ih =>
      intro k H locs ls hk S hl
      refine lv_iload_n K.1 K.2.1 dX1_work_2 rfl (lv_at hl 0 rfl) ?_
      refine lv_sipush (v := nI 840) K.1 K.2.1 dX1_work_3 (by decide) ?_
      refine bn_ge (tgt := 23) (by omega) (by omega) K.1 K.2.1 dX1_work_6 (by decide) (fun c6 => absurd c6 (by omega)) (fun c6 => ?_)
      refine lv_aload_n K.1 K.2.1 dX1_work_9 rfl (lv_at hl 1 rfl) ?_
      refine p1g_outcomes K S dX1_work_10 ?_
      refine lv_iload_n K.1 K.2.1 dX1_work_13 rfl (lv_at hl 0 rfl) ?_
      refine lv_bipush (v := -2) K.1 K.2.1 dX1_work_14 (by decide) ?_
      refine lv_to (show (-2 : Int32) = e4 2 by decide) ?_
      refine p1s_outcomes (show k < 840 by omega) K S dX1_work_16 (fun H locs S => ?_)
      rw [setA_setF, fill_s] at S
      refine lv_iinc (v := nI (k + 1)) (lv' := [(1, .int (nI (k + 1))), (0, .ref (h 0))]) K.1 K.2.1 dX1_work_17 hl (k := 0) rfl (nI_inc _) (by decide) rfl (fun ls hl => ?_)
      refine lv_goto (tgt := 2) K.1 K.2.1 dX1_work_20 (by decide) ?_
      exact ih (k + 1) H locs ls (by omega) S hl
  refine lv_iconst (v := nI 0) K.1 K.2.1 dX1_work_0 (by decide) ?_
  refine lv_istore_n (lv' := [(1, .int (nI 0)), (0, .ref (h 0))]) K.1 K.2.1 dX1_work_1 rfl hl (by decide) rfl (fun ls hl => ?_)
  exact L 840 0 _ _ ls (by omega) (by rw [fill_0, setF_self _ _ rfl]; exact S) hl
end
section
set_option maxRecDepth 100000
/-! PegTablesModel: first, match, matches, find, whole, stuck -/
set_option maxHeartbeats 4000000 in
set_option maxRecDepth 100000 in
theorem mem_first (h : Nat → Nat) (d : ClassId) (σ : PT) (G : GR) (j : Nat) (y : Int32) (hj : j < 4) (h7 : σ.2 7 j ≤ 40) (h8 : σ.1 8 ≤ 20) (hG : gL G = σ.1 8) (hm : ∀ q, q ≤ σ.1 8 → mCal σ j q = mv G j q) : CI (h 0) (mw h d) yX1_first cX1_first 4 ({ frames := 1, cells := 0, slots := 0, locals := 22 }) d [.int (nI j), .int y] σ (fun r u => Fnd G y j r ∧ u = σ) := by
  refine ofI (C := RX1) rfl (by decide) (Nat.le_of_ble_eq_true rfl) ?_
  intro p l e s m args below meth c A dC dI Q K ret ls hl S
  have hl : lv_has ls 4 [(0, .ref (h 0)), (1, .int (nI j)), (2, .int y)] := hl
  have L : ∀ (n q : Nat) (H : Heap) (locs : List Loc) (ls : Array Slot), q + n = σ.1 8 + 1 → (∀ z, z < q → y ≤ nI z → mv G j z < 4) → St dC dI A s.heap H locs (mw h d σ) → lv_has ls 4 [(3, .int (nI q)), (0, .ref (h 0)), (1, .int (nI j)), (2, .int y)] → W p l e ({ frames := 1, cells := 0, slots := 0, locals := 22 }) s m args below meth c H locs 0 0 Q (F0 m 2 ls []) := by
    intro n
    induction n with
    | zero =>
      intro q H locs ls hq hz S hl
      refine lv_iload_n K.1 K.2.1 dX1_first_2 rfl (lv_at hl 0 rfl) ?_
      refine lv_aload_n K.1 K.2.1 dX1_first_3 rfl (lv_at hl 1 rfl) ?_
      refine p1g_letters K S dX1_first_4 ?_
      refine bn_gt (tgt := 32) (by omega) (by omega) K.1 K.2.1 dX1_first_7 (by decide) (fun c7 => ?_) (fun c7 => absurd c7 (by omega))
      refine lv_iconst (v := -1) K.1 K.2.1 dX1_first_32 (by decide) ?_
      exact ret _ _ _ _ _ _ dX1_first_33 S ⟨Or.inr ⟨rfl, fun z h1 h2 => hz z (by omega) h2⟩, rfl⟩
    | succ n ih =>
      intro q H locs ls hq hz S hl
      have mb : mv G j q < 1000 := mv_sm (show q ≤ gL G by omega) (by omega)
      refine lv_iload_n K.1 K.2.1 dX1_first_2 rfl (lv_at hl 0 rfl) ?_
      refine lv_aload_n K.1 K.2.1 dX1_first_3 rfl (lv_at hl 1 rfl) ?_
      refine p1g_letters K S dX1_first_4 ?_
      refine bn_gt (tgt := 32) (by omega) (by omega) K.1 K.2.1 dX1_first_7 (by decide) (fun c7 => absurd c7 (by omega)) (fun c7 => ?_)
      refine lv_iload_n K.1 K.2.1 dX1_first_10 rfl (lv_at hl 0 rfl) ?_
      refine lv_iload_n K.1 K.2.1 dX1_first_11 rfl (lv_at hl 3 rfl) ?_
      refine lv_icmp_lt (tgt := 26) K.1 K.2.1 dX1_first_12 (by decide) (fun c12 => ?_) (fun c12 => ?_)
      · refine lv_iinc (v := nI (q + 1)) (lv' := [(3, .int (nI (q + 1))), (0, .ref (h 0)), (1, .int (nI j)), (2, .int y)]) K.1 K.2.1 dX1_first_26 hl (k := 0) rfl (nI_inc _) (by decide) rfl (fun ls hl => ?_)
        refine lv_goto (tgt := 2) K.1 K.2.1 dX1_first_29 (by decide) ?_
        exact ih (q + 1) H locs ls (by omega) (fun z h1 h2 => by by_cases e : z = q; (exact absurd (e ▸ h2) (Int32.not_le.mpr c12)); exact hz z (by omega) h2) S hl
      · refine lv_aload_n K.1 K.2.1 dX1_first_15 rfl (lv_at hl 1 rfl) ?_
        refine lv_iload_n K.1 K.2.1 dX1_first_16 rfl (lv_at hl 2 rfl) ?_
        refine lv_iload_n K.1 K.2.1 dX1_first_17 rfl (lv_at hl 0 rfl) ?_
        refine cvI K S (mem_called h d σ j q hj (by omega) h7) (cwV 2 K.2.2.2.2.1 (lw_V q228 q230 qs12 q17 q231) rfl rfl rfl (by decide +kernel) ⟨Nat.le_of_ble_eq_true rfl, Nat.le_of_ble_eq_true rfl⟩) rfl rfl rfl hl.1 rfl (Nat.le_of_ble_eq_true rfl) dX1_first_18 ⟨Nat.zero_le _, Nat.zero_le _⟩ (fun r u H locs S hu => ?_)
        obtain ⟨hr, hu⟩ := hu
        rw [hu] at S
        rw [hm q (by omega)] at hr
        refine lv_to hr ?_
        refine be_lt0 (tgt := 26) (by omega) K.1 K.2.1 dX1_first_21 (by decide) (fun c21 => ?_) (fun c21 => ?_)
        · refine lv_iinc (v := nI (q + 1)) (lv' := [(3, .int (nI (q + 1))), (0, .ref (h 0)), (1, .int (nI j)), (2, .int y)]) K.1 K.2.1 dX1_first_26 hl (k := 0) rfl (nI_inc _) (by decide) rfl (fun ls hl => ?_)
          refine lv_goto (tgt := 2) K.1 K.2.1 dX1_first_29 (by decide) ?_
          exact ih (q + 1) H locs ls (by omega) (fun z h1 h2 => by by_cases e : z = q; (rw [e]; exact c21); exact hz z (by omega) h2) S hl
        · refine lv_iload_n K.1 K.2.1 dX1_first_24 rfl (lv_at hl 0 rfl) ?_
          exact ret _ _ _ _ _ _ dX1_first_25 S ⟨Or.inl ⟨q, by omega, rfl, Int32.not_lt.mp c12, c21, hz⟩, rfl⟩
  refine lv_iconst (v := nI 0) K.1 K.2.1 dX1_first_0 (by decide) ?_
  refine lv_istore_n (lv' := [(3, .int (nI 0)), (0, .ref (h 0)), (1, .int (nI j)), (2, .int y)]) K.1 K.2.1 dX1_first_1 rfl hl (by decide) rfl (fun ls hl => ?_)
  exact L (σ.1 8 + 1) 0 _ _ ls (by omega) (fun z h1 => absurd h1 (Nat.not_lt_zero z)) S hl
set_option maxHeartbeats 4000000 in
set_option maxRecDepth 100000 in
theorem mem_match (h : Nat → Nat) (d : ClassId) (σ : PT) (x y : Int32) (hW : MW σ) : CI (h 0) (mw h d) yX1_match cX1_match 3 ({ frames := 3, cells := 0, slots := 0, locals := 74 }) d [.int x, .int y] σ (fun r u => Mres (gM σ) x y r ∧ Fm u σ) := by
  refine ofI (C := RX1) rfl (by decide) (Nat.le_of_ble_eq_true rfl) ?_
  intro p l e s m args below meth c A dC dI Q K ret ls hl S
  have hl : lv_has ls 3 [(0, .ref (h 0)), (1, .int x), (2, .int y)] := hl
  have c2 := hW.2.1
  have gl : gL (gM σ) = σ.1 8 := rfl
  rcases pk_ix x (n := 4) (by decide) with hx | hx | ⟨j, hj, rfl⟩
  · skip
    refine lv_iload_n K.1 K.2.1 dX1_match_0 rfl (lv_at hl 1 rfl) ?_
    refine cvS K S (mem_bad_n x hx) (va_cwS 1 K.2.2.2.2.1 (lw_S q217 q218 q17 q219) rfl rfl rfl (by decide +kernel) ⟨Nat.le_of_ble_eq_true rfl, Nat.le_of_ble_eq_true rfl⟩) rfl hl.1 rfl (Nat.le_of_ble_eq_true rfl) dX1_match_1 ⟨Nat.zero_le _, Nat.zero_le _⟩ (fun H locs S => ?_)
    refine bn_ne0 (tgt := 19) (by omega) K.1 K.2.1 dX1_match_4 (by decide) (fun c4 => ?_) (fun c4 => absurd c4 (by decide))
    refine lv_bipush (v := -3) K.1 K.2.1 dX1_match_19 (by decide) ?_
    exact ret _ _ _ _ _ _ dX1_match_21 S ⟨mres_no fun j2 p2 b1 b2 b3 b4 => ix_neg (by omega) hx b3, Fm.rf⟩
  · skip
    refine lv_iload_n K.1 K.2.1 dX1_match_0 rfl (lv_at hl 1 rfl) ?_
    refine cvS K S (mem_bad_g x hx) (va_cwS 1 K.2.2.2.2.1 (lw_S q217 q218 q17 q219) rfl rfl rfl (by decide +kernel) ⟨Nat.le_of_ble_eq_true rfl, Nat.le_of_ble_eq_true rfl⟩) rfl hl.1 rfl (Nat.le_of_ble_eq_true rfl) dX1_match_1 ⟨Nat.zero_le _, Nat.zero_le _⟩ (fun H locs S => ?_)
    refine bn_ne0 (tgt := 19) (by omega) K.1 K.2.1 dX1_match_4 (by decide) (fun c4 => ?_) (fun c4 => absurd c4 (by decide))
    refine lv_bipush (v := -3) K.1 K.2.1 dX1_match_19 (by decide) ?_
    exact ret _ _ _ _ _ _ dX1_match_21 S ⟨mres_no fun j2 p2 b1 b2 b3 b4 => ix_big (by decide) b1 hx b3, Fm.rf⟩
  · rcases pk_ix y (n := σ.1 8 + 1) (by omega) with hy | hy | ⟨q, hq, rfl⟩
    · skip
      refine lv_iload_n K.1 K.2.1 dX1_match_0 rfl (lv_at hl 1 rfl) ?_
      refine cvS K S (mem_bad_j j hj) (va_cwS 1 K.2.2.2.2.1 (lw_S q217 q218 q17 q219) rfl rfl rfl (by decide +kernel) ⟨Nat.le_of_ble_eq_true rfl, Nat.le_of_ble_eq_true rfl⟩) rfl hl.1 rfl (Nat.le_of_ble_eq_true rfl) dX1_match_1 ⟨Nat.zero_le _, Nat.zero_le _⟩ (fun H locs S => ?_)
      refine bn_ne0 (tgt := 19) (by omega) K.1 K.2.1 dX1_match_4 (by decide) (fun c4 => absurd rfl c4) (fun c4 => ?_)
      refine lv_iload_n K.1 K.2.1 dX1_match_7 rfl (lv_at hl 2 rfl) ?_
      refine lv_if_lt (tgt := 19) K.1 K.2.1 dX1_match_8 (by decide) (fun c8 => ?_) (fun c8 => absurd hy c8)
      refine lv_bipush (v := -3) K.1 K.2.1 dX1_match_19 (by decide) ?_
      exact ret _ _ _ _ _ _ dX1_match_21 S ⟨mres_no fun j2 p2 b1 b2 b3 b4 => ix_neg (by omega) hy b4, Fm.rf⟩
    · skip
      refine lv_iload_n K.1 K.2.1 dX1_match_0 rfl (lv_at hl 1 rfl) ?_
      refine cvS K S (mem_bad_j j hj) (va_cwS 1 K.2.2.2.2.1 (lw_S q217 q218 q17 q219) rfl rfl rfl (by decide +kernel) ⟨Nat.le_of_ble_eq_true rfl, Nat.le_of_ble_eq_true rfl⟩) rfl hl.1 rfl (Nat.le_of_ble_eq_true rfl) dX1_match_1 ⟨Nat.zero_le _, Nat.zero_le _⟩ (fun H locs S => ?_)
      refine bn_ne0 (tgt := 19) (by omega) K.1 K.2.1 dX1_match_4 (by decide) (fun c4 => absurd rfl c4) (fun c4 => ?_)
      refine lv_iload_n K.1 K.2.1 dX1_match_7 rfl (lv_at hl 2 rfl) ?_
      refine lv_if_lt (tgt := 19) K.1 K.2.1 dX1_match_8 (by decide) (fun c8 => absurd c8 (ix_nlt (by omega) hy)) (fun c8 => ?_)
      refine lv_iload_n K.1 K.2.1 dX1_match_11 rfl (lv_at hl 2 rfl) ?_
      refine lv_aload_n K.1 K.2.1 dX1_match_12 rfl (lv_at hl 0 rfl) ?_
      refine p1g_letters K S dX1_match_13 ?_
      refine lv_icmp_le (tgt := 22) K.1 K.2.1 dX1_match_16 (by decide) (fun c16 => absurd c16 (ix_nle (by omega) (by omega) hy)) (fun c16 => ?_)
      refine lv_bipush (v := -3) K.1 K.2.1 dX1_match_19 (by decide) ?_
      exact ret _ _ _ _ _ _ dX1_match_21 S ⟨mres_no fun j2 p2 b1 b2 b3 b4 => ix_big (by omega) (by omega) hy b4, Fm.rf⟩
    · skip
      refine lv_iload_n K.1 K.2.1 dX1_match_0 rfl (lv_at hl 1 rfl) ?_
      refine cvS K S (mem_bad_j j hj) (va_cwS 1 K.2.2.2.2.1 (lw_S q217 q218 q17 q219) rfl rfl rfl (by decide +kernel) ⟨Nat.le_of_ble_eq_true rfl, Nat.le_of_ble_eq_true rfl⟩) rfl hl.1 rfl (Nat.le_of_ble_eq_true rfl) dX1_match_1 ⟨Nat.zero_le _, Nat.zero_le _⟩ (fun H locs S => ?_)
      refine bn_ne0 (tgt := 19) (by omega) K.1 K.2.1 dX1_match_4 (by decide) (fun c4 => absurd rfl c4) (fun c4 => ?_)
      refine lv_iload_n K.1 K.2.1 dX1_match_7 rfl (lv_at hl 2 rfl) ?_
      refine bn_lt0 (tgt := 19) (by omega) K.1 K.2.1 dX1_match_8 (by decide) (fun c8 => absurd c8 (by omega)) (fun c8 => ?_)
      refine lv_iload_n K.1 K.2.1 dX1_match_11 rfl (lv_at hl 2 rfl) ?_
      refine lv_aload_n K.1 K.2.1 dX1_match_12 rfl (lv_at hl 0 rfl) ?_
      refine p1g_letters K S dX1_match_13 ?_
      refine bn_le (tgt := 22) (by omega) (by omega) K.1 K.2.1 dX1_match_16 (by decide) (fun c16 => ?_) (fun c16 => absurd c16 (by omega))
      refine lv_aload_n K.1 K.2.1 dX1_match_22 rfl (lv_at hl 0 rfl) ?_
      refine cvV K S (mem_work h d σ hW) (cwV 0 K.2.2.2.2.1 (lw_V q220 q222 qs10 q17 q223) rfl rfl rfl (by decide +kernel) ⟨Nat.le_of_ble_eq_true rfl, Nat.le_of_ble_eq_true rfl⟩) rfl rfl rfl hl.1 rfl (Nat.le_of_ble_eq_true rfl) dX1_match_23 ⟨Nat.zero_le _, Nat.zero_le _⟩ (fun u H locs S hu => ?_)
      obtain ⟨O, hu, hO⟩ := hu
      rw [hu] at S
      refine lv_aload_n K.1 K.2.1 dX1_match_26 rfl (lv_at hl 0 rfl) ?_
      refine lv_iload_n K.1 K.2.1 dX1_match_27 rfl (lv_at hl 1 rfl) ?_
      refine lv_iload_n K.1 K.2.1 dX1_match_28 rfl (lv_at hl 2 rfl) ?_
      refine cvI K S (mem_called h d (setF σ 10 O) j q hj (by omega) (hW.2.2.2.1 j hj)) (cwV 2 K.2.2.2.2.1 (lw_V q228 q230 qs12 q17 q231) rfl rfl rfl (by decide +kernel) ⟨Nat.le_of_ble_eq_true rfl, Nat.le_of_ble_eq_true rfl⟩) rfl rfl rfl hl.1 rfl (Nat.le_of_ble_eq_true rfl) dX1_match_29 ⟨Nat.zero_le _, Nat.zero_le _⟩ (fun r u H locs S hu => ?_)
      obtain ⟨hr, hu⟩ := hu
      rw [hu] at S
      rw [mcal_mv hW hj (by omega) hO] at hr
      refine lv_to hr ?_
      exact ret _ _ _ _ _ _ dX1_match_32 S ⟨mres_in hj (by omega) (by omega) rfl, O, rfl⟩
set_option maxHeartbeats 4000000 in
set_option maxRecDepth 100000 in
theorem mem_matches (h : Nat → Nat) (d : ClassId) (σ : PT) (x : Int32) (hW : MW σ) : CI (h 0) (mw h d) yX1_matches cX1_matches 4 ({ frames := 3, cells := 0, slots := 0, locals := 74 }) d [.int x] σ (fun r u => Ask (fun j r => r = nI (cMat (gM σ) j (σ.1 8 + 1))) x r ∧ Fm u σ) := by
  refine ofI (C := RX1) rfl (by decide) (Nat.le_of_ble_eq_true rfl) ?_
  intro p l e s m args below meth c A dC dI Q K ret ls hl S
  have hl : lv_has ls 4 [(0, .ref (h 0)), (1, .int x)] := hl
  have c2 := hW.2.1
  have gl : gL (gM σ) = σ.1 8 := rfl
  rcases pk_ix x (n := 4) (by decide) with hx | hx | ⟨j, hj, rfl⟩
  · skip
    refine lv_iload_n K.1 K.2.1 dX1_matches_0 rfl (lv_at hl 1 rfl) ?_
    refine cvS K S (mem_bad_n x hx) (va_cwS 1 K.2.2.2.2.1 (lw_S q217 q218 q17 q219) rfl rfl rfl (by decide +kernel) ⟨Nat.le_of_ble_eq_true rfl, Nat.le_of_ble_eq_true rfl⟩) rfl hl.1 rfl (Nat.le_of_ble_eq_true rfl) dX1_matches_1 ⟨Nat.zero_le _, Nat.zero_le _⟩ (fun H locs S => ?_)
    refine bn_eq0 (tgt := 10) (by omega) K.1 K.2.1 dX1_matches_4 (by decide) (fun c4 => absurd c4 (by decide)) (fun c4 => ?_)
    refine lv_bipush (v := -3) K.1 K.2.1 dX1_matches_7 (by decide) ?_
    exact ret _ _ _ _ _ _ dX1_matches_9 S ⟨ask_no fun j2 b1 b3 => ix_neg (by omega) hx b3, Fm.rf⟩
  · skip
    refine lv_iload_n K.1 K.2.1 dX1_matches_0 rfl (lv_at hl 1 rfl) ?_
    refine cvS K S (mem_bad_g x hx) (va_cwS 1 K.2.2.2.2.1 (lw_S q217 q218 q17 q219) rfl rfl rfl (by decide +kernel) ⟨Nat.le_of_ble_eq_true rfl, Nat.le_of_ble_eq_true rfl⟩) rfl hl.1 rfl (Nat.le_of_ble_eq_true rfl) dX1_matches_1 ⟨Nat.zero_le _, Nat.zero_le _⟩ (fun H locs S => ?_)
    refine bn_eq0 (tgt := 10) (by omega) K.1 K.2.1 dX1_matches_4 (by decide) (fun c4 => absurd c4 (by decide)) (fun c4 => ?_)
    refine lv_bipush (v := -3) K.1 K.2.1 dX1_matches_7 (by decide) ?_
    exact ret _ _ _ _ _ _ dX1_matches_9 S ⟨ask_no fun j2 b1 b3 => ix_big (by decide) b1 hx b3, Fm.rf⟩
  · have L : ∀ (O : Nat → Nat), (∀ i, i < 840 → O i = gval (gM σ) (i / 21) (i % 21)) → ∀ (n q : Nat) (H : Heap) (locs : List Loc) (ls : Array Slot), q + n = σ.1 8 + 1 → St dC dI A s.heap H locs (mw h d (setF σ 10 O)) → lv_has ls 4 [(3, .int (nI q)), (2, .int (nI (cMat (gM σ) j q))), (0, .ref (h 0)), (1, .int (nI j))] → W p l e ({ frames := 3, cells := 0, slots := 0, locals := 74 }) s m args below meth c H locs 0 0 Q (F0 m 18 ls []) := by
      intro O hO n
      induction n with
      | zero =>
        intro q H locs ls hq S hl
        refine lv_iload_n K.1 K.2.1 dX1_matches_18 rfl (lv_at hl 0 rfl) ?_
        refine lv_aload_n K.1 K.2.1 dX1_matches_19 rfl (lv_at hl 2 rfl) ?_
        refine p1g_letters K S dX1_matches_20 ?_
        refine lv_to (y := nI (σ.1 8)) rfl ?_
        refine bn_gt (tgt := 44) (by omega) (by omega) K.1 K.2.1 dX1_matches_23 (by decide) (fun c23 => ?_) (fun c23 => absurd c23 (by omega))
        refine lv_iload_n K.1 K.2.1 dX1_matches_44 rfl (lv_at hl 1 rfl) ?_
        exact ret _ _ _ _ _ _ dX1_matches_45 S ⟨ask_in hj (by rw [show q = σ.1 8 + 1 by omega]), O, rfl⟩
      | succ n ih =>
        intro q H locs ls hq S hl
        have mb : mv (gM σ) j q < 1000 := mv_sm (show q ≤ gL (gM σ) by omega) c2
        refine lv_iload_n K.1 K.2.1 dX1_matches_18 rfl (lv_at hl 0 rfl) ?_
        refine lv_aload_n K.1 K.2.1 dX1_matches_19 rfl (lv_at hl 2 rfl) ?_
        refine p1g_letters K S dX1_matches_20 ?_
        refine lv_to (y := nI (σ.1 8)) rfl ?_
        refine bn_gt (tgt := 44) (by omega) (by omega) K.1 K.2.1 dX1_matches_23 (by decide) (fun c23 => absurd c23 (by omega)) (fun c23 => ?_)
        refine lv_aload_n K.1 K.2.1 dX1_matches_26 rfl (lv_at hl 2 rfl) ?_
        refine lv_iload_n K.1 K.2.1 dX1_matches_27 rfl (lv_at hl 3 rfl) ?_
        refine lv_iload_n K.1 K.2.1 dX1_matches_28 rfl (lv_at hl 0 rfl) ?_
        refine cvI K S (mem_called h d (setF σ 10 O) j q hj (by omega) (hW.2.2.2.1 j hj)) (cwV 2 K.2.2.2.2.1 (lw_V q228 q230 qs12 q17 q231) rfl rfl rfl (by decide +kernel) ⟨Nat.le_of_ble_eq_true rfl, Nat.le_of_ble_eq_true rfl⟩) rfl rfl rfl hl.1 rfl (Nat.le_of_ble_eq_true rfl) dX1_matches_29 ⟨Nat.zero_le _, Nat.zero_le _⟩ (fun r u H locs S hu => ?_)
        obtain ⟨hr, hu⟩ := hu
        rw [hu] at S
        rw [mcal_mv hW hj (by omega) hO] at hr
        refine lv_to hr ?_
        refine be_lt0 (tgt := 38) (by omega) K.1 K.2.1 dX1_matches_32 (by decide) (fun c32 => ?_) (fun c32 => ?_)
        · refine lv_iinc (v := nI (q + 1)) (lv' := [(3, .int (nI (q + 1))), (2, .int (nI (cMat (gM σ) j q))), (0, .ref (h 0)), (1, .int (nI j))]) K.1 K.2.1 dX1_matches_38 hl (k := 0) rfl (nI_inc _) (by decide) rfl (fun ls hl => ?_)
          refine lv_goto (tgt := 18) K.1 K.2.1 dX1_matches_41 (by decide) ?_
          rw [← cMat_0 c32] at hl
          exact ih (q + 1) H locs ls (by omega) S (lv_sub hl [0, 1, 2, 3] rfl)
        · refine lv_iinc (v := nI (cMat (gM σ) j q + 1)) (lv' := [(2, .int (nI (cMat (gM σ) j q + 1))), (3, .int (nI q)), (0, .ref (h 0)), (1, .int (nI j))]) K.1 K.2.1 dX1_matches_35 hl (k := 1) rfl (nI_inc _) (by decide) rfl (fun ls hl => ?_)
          refine lv_iinc (v := nI (q + 1)) (lv' := [(3, .int (nI (q + 1))), (2, .int (nI (cMat (gM σ) j q + 1))), (0, .ref (h 0)), (1, .int (nI j))]) K.1 K.2.1 dX1_matches_38 hl (k := 1) rfl (nI_inc _) (by decide) rfl (fun ls hl => ?_)
          refine lv_goto (tgt := 18) K.1 K.2.1 dX1_matches_41 (by decide) ?_
          rw [← cMat_1 c32] at hl
          exact ih (q + 1) H locs ls (by omega) S (lv_sub hl [0, 1, 2, 3] rfl)
    refine lv_iload_n K.1 K.2.1 dX1_matches_0 rfl (lv_at hl 1 rfl) ?_
    refine cvS K S (mem_bad_j j hj) (va_cwS 1 K.2.2.2.2.1 (lw_S q217 q218 q17 q219) rfl rfl rfl (by decide +kernel) ⟨Nat.le_of_ble_eq_true rfl, Nat.le_of_ble_eq_true rfl⟩) rfl hl.1 rfl (Nat.le_of_ble_eq_true rfl) dX1_matches_1 ⟨Nat.zero_le _, Nat.zero_le _⟩ (fun H locs S => ?_)
    refine bn_eq0 (tgt := 10) (by omega) K.1 K.2.1 dX1_matches_4 (by decide) (fun c4 => ?_) (fun c4 => absurd rfl c4)
    refine lv_aload_n K.1 K.2.1 dX1_matches_10 rfl (lv_at hl 0 rfl) ?_
    refine cvV K S (mem_work h d σ hW) (cwV 0 K.2.2.2.2.1 (lw_V q220 q222 qs10 q17 q223) rfl rfl rfl (by decide +kernel) ⟨Nat.le_of_ble_eq_true rfl, Nat.le_of_ble_eq_true rfl⟩) rfl rfl rfl hl.1 rfl (Nat.le_of_ble_eq_true rfl) dX1_matches_11 ⟨Nat.zero_le _, Nat.zero_le _⟩ (fun u H locs S hu => ?_)
    obtain ⟨O, hu, hO⟩ := hu
    rw [hu] at S
    refine lv_iconst (v := nI 0) K.1 K.2.1 dX1_matches_14 (by decide) ?_
    refine lv_istore_n (lv' := [(2, .int (nI 0)), (0, .ref (h 0)), (1, .int (nI j))]) K.1 K.2.1 dX1_matches_15 rfl hl (by decide) rfl (fun ls hl => ?_)
    refine lv_iconst (v := nI 0) K.1 K.2.1 dX1_matches_16 (by decide) ?_
    refine lv_istore_n (lv' := [(3, .int (nI 0)), (2, .int (nI 0)), (0, .ref (h 0)), (1, .int (nI j))]) K.1 K.2.1 dX1_matches_17 rfl hl (by decide) rfl (fun ls hl => ?_)
    exact L O hO (σ.1 8 + 1) 0 _ _ ls (by omega) S hl
set_option maxHeartbeats 4000000 in
set_option maxRecDepth 100000 in
theorem mem_stuck (h : Nat → Nat) (d : ClassId) (σ : PT) (x : Int32) (hW : MW σ) : CI (h 0) (mw h d) yX1_stuck cX1_stuck 4 ({ frames := 3, cells := 0, slots := 0, locals := 74 }) d [.int x] σ (fun r u => Ask (fun j r => r = nI (cStk (gM σ) j (σ.1 8 + 1))) x r ∧ Fm u σ) := by
  refine ofI (C := RX1) rfl (by decide) (Nat.le_of_ble_eq_true rfl) ?_
  intro p l e s m args below meth c A dC dI Q K ret ls hl S
  have hl : lv_has ls 4 [(0, .ref (h 0)), (1, .int x)] := hl
  have c2 := hW.2.1
  have gl : gL (gM σ) = σ.1 8 := rfl
  rcases pk_ix x (n := 4) (by decide) with hx | hx | ⟨j, hj, rfl⟩
  · skip
    refine lv_iload_n K.1 K.2.1 dX1_stuck_0 rfl (lv_at hl 1 rfl) ?_
    refine cvS K S (mem_bad_n x hx) (va_cwS 1 K.2.2.2.2.1 (lw_S q217 q218 q17 q219) rfl rfl rfl (by decide +kernel) ⟨Nat.le_of_ble_eq_true rfl, Nat.le_of_ble_eq_true rfl⟩) rfl hl.1 rfl (Nat.le_of_ble_eq_true rfl) dX1_stuck_1 ⟨Nat.zero_le _, Nat.zero_le _⟩ (fun H locs S => ?_)
    refine bn_eq0 (tgt := 10) (by omega) K.1 K.2.1 dX1_stuck_4 (by decide) (fun c4 => absurd c4 (by decide)) (fun c4 => ?_)
    refine lv_bipush (v := -3) K.1 K.2.1 dX1_stuck_7 (by decide) ?_
    exact ret _ _ _ _ _ _ dX1_stuck_9 S ⟨ask_no fun j2 b1 b3 => ix_neg (by omega) hx b3, Fm.rf⟩
  · skip
    refine lv_iload_n K.1 K.2.1 dX1_stuck_0 rfl (lv_at hl 1 rfl) ?_
    refine cvS K S (mem_bad_g x hx) (va_cwS 1 K.2.2.2.2.1 (lw_S q217 q218 q17 q219) rfl rfl rfl (by decide +kernel) ⟨Nat.le_of_ble_eq_true rfl, Nat.le_of_ble_eq_true rfl⟩) rfl hl.1 rfl (Nat.le_of_ble_eq_true rfl) dX1_stuck_1 ⟨Nat.zero_le _, Nat.zero_le _⟩ (fun H locs S => ?_)
    refine bn_eq0 (tgt := 10) (by omega) K.1 K.2.1 dX1_stuck_4 (by decide) (fun c4 => absurd c4 (by decide)) (fun c4 => ?_)
    refine lv_bipush (v := -3) K.1 K.2.1 dX1_stuck_7 (by decide) ?_
    exact ret _ _ _ _ _ _ dX1_stuck_9 S ⟨ask_no fun j2 b1 b3 => ix_big (by decide) b1 hx b3, Fm.rf⟩
  · have L : ∀ (O : Nat → Nat), (∀ i, i < 840 → O i = gval (gM σ) (i / 21) (i % 21)) → ∀ (n q : Nat) (H : Heap) (locs : List Loc) (ls : Array Slot), q + n = σ.1 8 + 1 → St dC dI A s.heap H locs (mw h d (setF σ 10 O)) → lv_has ls 4 [(3, .int (nI q)), (2, .int (nI (cStk (gM σ) j q))), (0, .ref (h 0)), (1, .int (nI j))] → W p l e ({ frames := 3, cells := 0, slots := 0, locals := 74 }) s m args below meth c H locs 0 0 Q (F0 m 18 ls []) := by
      intro O hO n
      induction n with
      | zero =>
        intro q H locs ls hq S hl
        refine lv_iload_n K.1 K.2.1 dX1_stuck_18 rfl (lv_at hl 0 rfl) ?_
        refine lv_aload_n K.1 K.2.1 dX1_stuck_19 rfl (lv_at hl 2 rfl) ?_
        refine p1g_letters K S dX1_stuck_20 ?_
        refine lv_to (y := nI (σ.1 8)) rfl ?_
        refine bn_gt (tgt := 46) (by omega) (by omega) K.1 K.2.1 dX1_stuck_23 (by decide) (fun c23 => ?_) (fun c23 => absurd c23 (by omega))
        refine lv_iload_n K.1 K.2.1 dX1_stuck_46 rfl (lv_at hl 1 rfl) ?_
        exact ret _ _ _ _ _ _ dX1_stuck_47 S ⟨ask_in hj (by rw [show q = σ.1 8 + 1 by omega]), O, rfl⟩
      | succ n ih =>
        intro q H locs ls hq S hl
        have mb : mv (gM σ) j q < 1000 := mv_sm (show q ≤ gL (gM σ) by omega) c2
        refine lv_iload_n K.1 K.2.1 dX1_stuck_18 rfl (lv_at hl 0 rfl) ?_
        refine lv_aload_n K.1 K.2.1 dX1_stuck_19 rfl (lv_at hl 2 rfl) ?_
        refine p1g_letters K S dX1_stuck_20 ?_
        refine lv_to (y := nI (σ.1 8)) rfl ?_
        refine bn_gt (tgt := 46) (by omega) (by omega) K.1 K.2.1 dX1_stuck_23 (by decide) (fun c23 => absurd c23 (by omega)) (fun c23 => ?_)
        refine lv_aload_n K.1 K.2.1 dX1_stuck_26 rfl (lv_at hl 2 rfl) ?_
        refine lv_iload_n K.1 K.2.1 dX1_stuck_27 rfl (lv_at hl 3 rfl) ?_
        refine lv_iload_n K.1 K.2.1 dX1_stuck_28 rfl (lv_at hl 0 rfl) ?_
        refine cvI K S (mem_called h d (setF σ 10 O) j q hj (by omega) (hW.2.2.2.1 j hj)) (cwV 2 K.2.2.2.2.1 (lw_V q228 q230 qs12 q17 q231) rfl rfl rfl (by decide +kernel) ⟨Nat.le_of_ble_eq_true rfl, Nat.le_of_ble_eq_true rfl⟩) rfl rfl rfl hl.1 rfl (Nat.le_of_ble_eq_true rfl) dX1_stuck_29 ⟨Nat.zero_le _, Nat.zero_le _⟩ (fun r u H locs S hu => ?_)
        obtain ⟨hr, hu⟩ := hu
        rw [hu] at S
        rw [mcal_mv hW hj (by omega) hO] at hr
        refine lv_to hr ?_
        refine lv_bipush (v := -2) K.1 K.2.1 dX1_stuck_32 (by decide) ?_
        refine lv_to (show (-2 : Int32) = e4 2 by decide) ?_
        refine be_ne (tgt := 40) (by omega) (by omega) K.1 K.2.1 dX1_stuck_34 (by decide) (fun c34 => ?_) (fun c34 => ?_)
        · refine lv_iinc (v := nI (q + 1)) (lv' := [(3, .int (nI (q + 1))), (2, .int (nI (cStk (gM σ) j q))), (0, .ref (h 0)), (1, .int (nI j))]) K.1 K.2.1 dX1_stuck_40 hl (k := 0) rfl (nI_inc _) (by decide) rfl (fun ls hl => ?_)
          refine lv_goto (tgt := 18) K.1 K.2.1 dX1_stuck_43 (by decide) ?_
          rw [← cStk_0 c34] at hl
          exact ih (q + 1) H locs ls (by omega) S (lv_sub hl [0, 1, 2, 3] rfl)
        · refine lv_iinc (v := nI (cStk (gM σ) j q + 1)) (lv' := [(2, .int (nI (cStk (gM σ) j q + 1))), (3, .int (nI q)), (0, .ref (h 0)), (1, .int (nI j))]) K.1 K.2.1 dX1_stuck_37 hl (k := 1) rfl (nI_inc _) (by decide) rfl (fun ls hl => ?_)
          refine lv_iinc (v := nI (q + 1)) (lv' := [(3, .int (nI (q + 1))), (2, .int (nI (cStk (gM σ) j q + 1))), (0, .ref (h 0)), (1, .int (nI j))]) K.1 K.2.1 dX1_stuck_40 hl (k := 1) rfl (nI_inc _) (by decide) rfl (fun ls hl => ?_)
          refine lv_goto (tgt := 18) K.1 K.2.1 dX1_stuck_43 (by decide) ?_
          rw [← cStk_1 c34] at hl
          exact ih (q + 1) H locs ls (by omega) S (lv_sub hl [0, 1, 2, 3] rfl)
    refine lv_iload_n K.1 K.2.1 dX1_stuck_0 rfl (lv_at hl 1 rfl) ?_
    refine cvS K S (mem_bad_j j hj) (va_cwS 1 K.2.2.2.2.1 (lw_S q217 q218 q17 q219) rfl rfl rfl (by decide +kernel) ⟨Nat.le_of_ble_eq_true rfl, Nat.le_of_ble_eq_true rfl⟩) rfl hl.1 rfl (Nat.le_of_ble_eq_true rfl) dX1_stuck_1 ⟨Nat.zero_le _, Nat.zero_le _⟩ (fun H locs S => ?_)
    refine bn_eq0 (tgt := 10) (by omega) K.1 K.2.1 dX1_stuck_4 (by decide) (fun c4 => ?_) (fun c4 => absurd rfl c4)
    refine lv_aload_n K.1 K.2.1 dX1_stuck_10 rfl (lv_at hl 0 rfl) ?_
    refine cvV K S (mem_work h d σ hW) (cwV 0 K.2.2.2.2.1 (lw_V q220 q222 qs10 q17 q223) rfl rfl rfl (by decide +kernel) ⟨Nat.le_of_ble_eq_true rfl, Nat.le_of_ble_eq_true rfl⟩) rfl rfl rfl hl.1 rfl (Nat.le_of_ble_eq_true rfl) dX1_stuck_11 ⟨Nat.zero_le _, Nat.zero_le _⟩ (fun u H locs S hu => ?_)
    obtain ⟨O, hu, hO⟩ := hu
    rw [hu] at S
    refine lv_iconst (v := nI 0) K.1 K.2.1 dX1_stuck_14 (by decide) ?_
    refine lv_istore_n (lv' := [(2, .int (nI 0)), (0, .ref (h 0)), (1, .int (nI j))]) K.1 K.2.1 dX1_stuck_15 rfl hl (by decide) rfl (fun ls hl => ?_)
    refine lv_iconst (v := nI 0) K.1 K.2.1 dX1_stuck_16 (by decide) ?_
    refine lv_istore_n (lv' := [(3, .int (nI 0)), (2, .int (nI 0)), (0, .ref (h 0)), (1, .int (nI j))]) K.1 K.2.1 dX1_stuck_17 rfl hl (by decide) rfl (fun ls hl => ?_)
    exact L O hO (σ.1 8 + 1) 0 _ _ ls (by omega) S hl
set_option maxHeartbeats 4000000 in
set_option maxRecDepth 100000 in
theorem mem_whole (h : Nat → Nat) (d : ClassId) (σ : PT) (x : Int32) (hW : MW σ) : CI (h 0) (mw h d) yX1_whole cX1_whole 2 ({ frames := 3, cells := 0, slots := 0, locals := 74 }) d [.int x] σ (fun r u => Ask (fun j r => r = nI (if mv (gM σ) j 0 = σ.1 8 + 4 then 1 else 0)) x r ∧ Fm u σ) := by
  refine ofI (C := RX1) rfl (by decide) (Nat.le_of_ble_eq_true rfl) ?_
  intro p l e s m args below meth c A dC dI Q K ret ls hl S
  have hl : lv_has ls 2 [(0, .ref (h 0)), (1, .int x)] := hl
  have c2 := hW.2.1
  have gl : gL (gM σ) = σ.1 8 := rfl
  rcases pk_ix x (n := 4) (by decide) with hx | hx | ⟨j, hj, rfl⟩
  · skip
    refine lv_iload_n K.1 K.2.1 dX1_whole_0 rfl (lv_at hl 1 rfl) ?_
    refine cvS K S (mem_bad_n x hx) (va_cwS 1 K.2.2.2.2.1 (lw_S q217 q218 q17 q219) rfl rfl rfl (by decide +kernel) ⟨Nat.le_of_ble_eq_true rfl, Nat.le_of_ble_eq_true rfl⟩) rfl hl.1 rfl (Nat.le_of_ble_eq_true rfl) dX1_whole_1 ⟨Nat.zero_le _, Nat.zero_le _⟩ (fun H locs S => ?_)
    refine bn_eq0 (tgt := 10) (by omega) K.1 K.2.1 dX1_whole_4 (by decide) (fun c4 => absurd c4 (by decide)) (fun c4 => ?_)
    refine lv_bipush (v := -3) K.1 K.2.1 dX1_whole_7 (by decide) ?_
    exact ret _ _ _ _ _ _ dX1_whole_9 S ⟨ask_no fun j2 b1 b3 => ix_neg (by omega) hx b3, Fm.rf⟩
  · skip
    refine lv_iload_n K.1 K.2.1 dX1_whole_0 rfl (lv_at hl 1 rfl) ?_
    refine cvS K S (mem_bad_g x hx) (va_cwS 1 K.2.2.2.2.1 (lw_S q217 q218 q17 q219) rfl rfl rfl (by decide +kernel) ⟨Nat.le_of_ble_eq_true rfl, Nat.le_of_ble_eq_true rfl⟩) rfl hl.1 rfl (Nat.le_of_ble_eq_true rfl) dX1_whole_1 ⟨Nat.zero_le _, Nat.zero_le _⟩ (fun H locs S => ?_)
    refine bn_eq0 (tgt := 10) (by omega) K.1 K.2.1 dX1_whole_4 (by decide) (fun c4 => absurd c4 (by decide)) (fun c4 => ?_)
    refine lv_bipush (v := -3) K.1 K.2.1 dX1_whole_7 (by decide) ?_
    exact ret _ _ _ _ _ _ dX1_whole_9 S ⟨ask_no fun j2 b1 b3 => ix_big (by decide) b1 hx b3, Fm.rf⟩
  · have mb : mv (gM σ) j 0 < 1000 := mv_sm (Nat.zero_le _) c2
    refine lv_iload_n K.1 K.2.1 dX1_whole_0 rfl (lv_at hl 1 rfl) ?_
    refine cvS K S (mem_bad_j j hj) (va_cwS 1 K.2.2.2.2.1 (lw_S q217 q218 q17 q219) rfl rfl rfl (by decide +kernel) ⟨Nat.le_of_ble_eq_true rfl, Nat.le_of_ble_eq_true rfl⟩) rfl hl.1 rfl (Nat.le_of_ble_eq_true rfl) dX1_whole_1 ⟨Nat.zero_le _, Nat.zero_le _⟩ (fun H locs S => ?_)
    refine bn_eq0 (tgt := 10) (by omega) K.1 K.2.1 dX1_whole_4 (by decide) (fun c4 => ?_) (fun c4 => absurd rfl c4)
    refine lv_aload_n K.1 K.2.1 dX1_whole_10 rfl (lv_at hl 0 rfl) ?_
    refine cvV K S (mem_work h d σ hW) (cwV 0 K.2.2.2.2.1 (lw_V q220 q222 qs10 q17 q223) rfl rfl rfl (by decide +kernel) ⟨Nat.le_of_ble_eq_true rfl, Nat.le_of_ble_eq_true rfl⟩) rfl rfl rfl hl.1 rfl (Nat.le_of_ble_eq_true rfl) dX1_whole_11 ⟨Nat.zero_le _, Nat.zero_le _⟩ (fun u H locs S hu => ?_)
    obtain ⟨O, hu, hO⟩ := hu
    rw [hu] at S
    refine lv_aload_n K.1 K.2.1 dX1_whole_14 rfl (lv_at hl 0 rfl) ?_
    refine lv_iload_n K.1 K.2.1 dX1_whole_15 rfl (lv_at hl 1 rfl) ?_
    refine lv_iconst (v := nI 0) K.1 K.2.1 dX1_whole_16 (by decide) ?_
    refine cvI K S (mem_called h d (setF σ 10 O) j 0 hj (by omega) (hW.2.2.2.1 j hj)) (cwV 2 K.2.2.2.2.1 (lw_V q228 q230 qs12 q17 q231) rfl rfl rfl (by decide +kernel) ⟨Nat.le_of_ble_eq_true rfl, Nat.le_of_ble_eq_true rfl⟩) rfl rfl rfl hl.1 rfl (Nat.le_of_ble_eq_true rfl) dX1_whole_17 ⟨Nat.zero_le _, Nat.zero_le _⟩ (fun r u H locs S hu => ?_)
    obtain ⟨hr, hu⟩ := hu
    rw [hu] at S
    rw [mcal_mv hW hj (by omega) hO] at hr
    refine lv_to hr ?_
    have f8 : (setF σ 10 O).1 8 = σ.1 8 := rfl
    refine lv_aload_n K.1 K.2.1 dX1_whole_20 rfl (lv_at hl 0 rfl) ?_
    refine p1g_letters K S dX1_whole_21 ?_
    refine be_neN (tgt := 31) (by omega) (by omega) K.1 K.2.1 dX1_whole_24 (by decide) (fun c24 => ?_) (fun c24 => ?_)
    · refine lv_iconst (v := nI 0) K.1 K.2.1 dX1_whole_31 (by decide) ?_
      exact ret _ _ _ _ _ _ dX1_whole_32 S ⟨ask_in hj (by rw [if_neg (by omega)]), O, rfl⟩
    · refine lv_iconst (v := nI 1) K.1 K.2.1 dX1_whole_27 (by decide) ?_
      refine lv_goto (tgt := 32) K.1 K.2.1 dX1_whole_28 (by decide) ?_
      exact ret _ _ _ _ _ _ dX1_whole_32 S ⟨ask_in hj (by rw [if_pos (by omega)]), O, rfl⟩
set_option maxHeartbeats 4000000 in
set_option maxRecDepth 100000 in
theorem mem_find (h : Nat → Nat) (d : ClassId) (σ : PT) (x y : Int32) (hW : MW σ) : CI (h 0) (mw h d) yX1_find cX1_find 3 ({ frames := 3, cells := 0, slots := 0, locals := 74 }) d [.int x, .int y] σ (fun r u => Ask (Fnd (gM σ) y) x r ∧ Fm u σ) := by
  refine ofI (C := RX1) rfl (by decide) (Nat.le_of_ble_eq_true rfl) ?_
  intro p l e s m args below meth c A dC dI Q K ret ls hl S
  have hl : lv_has ls 3 [(0, .ref (h 0)), (1, .int x), (2, .int y)] := hl
  have c2 := hW.2.1
  have gl : gL (gM σ) = σ.1 8 := rfl
  rcases pk_ix x (n := 4) (by decide) with hx | hx | ⟨j, hj, rfl⟩
  · skip
    refine lv_iload_n K.1 K.2.1 dX1_find_0 rfl (lv_at hl 1 rfl) ?_
    refine cvS K S (mem_bad_n x hx) (va_cwS 1 K.2.2.2.2.1 (lw_S q217 q218 q17 q219) rfl rfl rfl (by decide +kernel) ⟨Nat.le_of_ble_eq_true rfl, Nat.le_of_ble_eq_true rfl⟩) rfl hl.1 rfl (Nat.le_of_ble_eq_true rfl) dX1_find_1 ⟨Nat.zero_le _, Nat.zero_le _⟩ (fun H locs S => ?_)
    refine bn_eq0 (tgt := 10) (by omega) K.1 K.2.1 dX1_find_4 (by decide) (fun c4 => absurd c4 (by decide)) (fun c4 => ?_)
    refine lv_bipush (v := -3) K.1 K.2.1 dX1_find_7 (by decide) ?_
    exact ret _ _ _ _ _ _ dX1_find_9 S ⟨ask_no fun j2 b1 b3 => ix_neg (by omega) hx b3, Fm.rf⟩
  · skip
    refine lv_iload_n K.1 K.2.1 dX1_find_0 rfl (lv_at hl 1 rfl) ?_
    refine cvS K S (mem_bad_g x hx) (va_cwS 1 K.2.2.2.2.1 (lw_S q217 q218 q17 q219) rfl rfl rfl (by decide +kernel) ⟨Nat.le_of_ble_eq_true rfl, Nat.le_of_ble_eq_true rfl⟩) rfl hl.1 rfl (Nat.le_of_ble_eq_true rfl) dX1_find_1 ⟨Nat.zero_le _, Nat.zero_le _⟩ (fun H locs S => ?_)
    refine bn_eq0 (tgt := 10) (by omega) K.1 K.2.1 dX1_find_4 (by decide) (fun c4 => absurd c4 (by decide)) (fun c4 => ?_)
    refine lv_bipush (v := -3) K.1 K.2.1 dX1_find_7 (by decide) ?_
    exact ret _ _ _ _ _ _ dX1_find_9 S ⟨ask_no fun j2 b1 b3 => ix_big (by decide) b1 hx b3, Fm.rf⟩
  · skip
    refine lv_iload_n K.1 K.2.1 dX1_find_0 rfl (lv_at hl 1 rfl) ?_
    refine cvS K S (mem_bad_j j hj) (va_cwS 1 K.2.2.2.2.1 (lw_S q217 q218 q17 q219) rfl rfl rfl (by decide +kernel) ⟨Nat.le_of_ble_eq_true rfl, Nat.le_of_ble_eq_true rfl⟩) rfl hl.1 rfl (Nat.le_of_ble_eq_true rfl) dX1_find_1 ⟨Nat.zero_le _, Nat.zero_le _⟩ (fun H locs S => ?_)
    refine bn_eq0 (tgt := 10) (by omega) K.1 K.2.1 dX1_find_4 (by decide) (fun c4 => ?_) (fun c4 => absurd rfl c4)
    refine lv_aload_n K.1 K.2.1 dX1_find_10 rfl (lv_at hl 0 rfl) ?_
    refine cvV K S (mem_work h d σ hW) (cwV 0 K.2.2.2.2.1 (lw_V q220 q222 qs10 q17 q223) rfl rfl rfl (by decide +kernel) ⟨Nat.le_of_ble_eq_true rfl, Nat.le_of_ble_eq_true rfl⟩) rfl rfl rfl hl.1 rfl (Nat.le_of_ble_eq_true rfl) dX1_find_11 ⟨Nat.zero_le _, Nat.zero_le _⟩ (fun u H locs S hu => ?_)
    obtain ⟨O, hu, hO⟩ := hu
    rw [hu] at S
    refine lv_aload_n K.1 K.2.1 dX1_find_14 rfl (lv_at hl 0 rfl) ?_
    refine lv_iload_n K.1 K.2.1 dX1_find_15 rfl (lv_at hl 1 rfl) ?_
    refine lv_iload_n K.1 K.2.1 dX1_find_16 rfl (lv_at hl 2 rfl) ?_
    refine cvI K S (mem_first h d (setF σ 10 O) (gM σ) j y hj (hW.2.2.2.1 j hj) c2 rfl (fun q hq => mcal_mv hW hj hq hO)) (cwV 2 K.2.2.2.2.1 (lw_V q244 q246 qs14 q17 q247) rfl rfl rfl (by decide +kernel) ⟨Nat.le_of_ble_eq_true rfl, Nat.le_of_ble_eq_true rfl⟩) rfl rfl rfl hl.1 rfl (Nat.le_of_ble_eq_true rfl) dX1_find_17 ⟨Nat.zero_le _, Nat.zero_le _⟩ (fun r u H locs S hu => ?_)
    obtain ⟨hr, hu⟩ := hu
    rw [hu] at S
    exact ret _ _ _ _ _ _ dX1_find_20 S ⟨ask_in hj hr, O, rfl⟩
end
section
set_option maxRecDepth 100000
/-! PegTablesModel: token, clear, type, erase -/
set_option maxHeartbeats 4000000 in
set_option maxRecDepth 100000 in
theorem mem_clear (h : Nat → Nat) (d : ClassId) (σ : PT) : CV (h 0) (mw h d) yX1_clear cX1_clear 2 ({ frames := 0, cells := 0, slots := 0, locals := 0 }) d [] σ (fun u => u = mClear σ) := by
  refine ofV (C := RX1) rfl (by decide) (Nat.le_of_ble_eq_true rfl) ?_
  intro p l e s m args below meth c A dC dI Q K ret ls hl S
  have hl : lv_has ls 2 [(0, .ref (h 0))] := hl
  have L : ∀ (j k : Nat) (H : Heap) (locs : List Loc) (ls : Array Slot), k + j = 4 → St dC dI A s.heap H locs (mw h d (setF (setI (setI σ 0 0) 5 0) 7 (fun i => if i < k then 0 else σ.2 7 i))) → lv_has ls 2 [(1, .int (nI k)), (0, .ref (h 0))] → W p l e ({ frames := 0, cells := 0, slots := 0, locals := 0 }) s m args below meth c H locs 0 0 Q (F0 m 12 ls []) := by
    intro j
    induction j with
    | zero =>
      intro k H locs ls hk S hl
      refine lv_iload_n K.1 K.2.1 dX1_clear_12 rfl (lv_at hl 0 rfl) ?_
      refine lv_iconst (v := nI 4) K.1 K.2.1 dX1_clear_13 (by decide) ?_
      refine bn_ge (tgt := 30) (by omega) (by omega) K.1 K.2.1 dX1_clear_14 (by decide) (fun c14 => ?_) (fun c14 => absurd c14 (by omega))
      exact ret _ _ _ _ _ dX1_clear_30 S (by rw [show k = 4 by omega]; rfl)
    | succ j ih =>
      intro k H locs ls hk S hl
      refine lv_iload_n K.1 K.2.1 dX1_clear_12 rfl (lv_at hl 0 rfl) ?_
      refine lv_iconst (v := nI 4) K.1 K.2.1 dX1_clear_13 (by decide) ?_
      refine bn_ge (tgt := 30) (by omega) (by omega) K.1 K.2.1 dX1_clear_14 (by decide) (fun c14 => absurd c14 (by omega)) (fun c14 => ?_)
      refine lv_aload_n K.1 K.2.1 dX1_clear_17 rfl (lv_at hl 1 rfl) ?_
      refine p1g_rules K S dX1_clear_18 ?_
      refine lv_iload_n K.1 K.2.1 dX1_clear_21 rfl (lv_at hl 0 rfl) ?_
      refine lv_iconst (v := -1) K.1 K.2.1 dX1_clear_22 (by decide) ?_
      refine lv_to (show (-1 : Int32) = e1 0 by decide) ?_
      refine p1s_rules (show k < 4 by omega) K S dX1_clear_23 (fun H locs S => ?_)
      rw [setA_setF, fill_s] at S
      refine lv_iinc (v := nI (k + 1)) (lv' := [(1, .int (nI (k + 1))), (0, .ref (h 0))]) K.1 K.2.1 dX1_clear_24 hl (k := 0) rfl (nI_inc _) (by decide) rfl (fun ls hl => ?_)
      refine lv_goto (tgt := 12) K.1 K.2.1 dX1_clear_27 (by decide) ?_
      exact ih (k + 1) H locs ls (by omega) S hl
  refine lv_aload_n K.1 K.2.1 dX1_clear_0 rfl (lv_at hl 0 rfl) ?_
  refine lv_iconst (v := nI 0) K.1 K.2.1 dX1_clear_1 (by decide) ?_
  refine p1p_tokens K S dX1_clear_2 (fun H locs S => ?_)
  refine lv_aload_n K.1 K.2.1 dX1_clear_5 rfl (lv_at hl 0 rfl) ?_
  refine lv_iconst (v := nI 0) K.1 K.2.1 dX1_clear_6 (by decide) ?_
  refine p1p_height K S dX1_clear_7 (fun H locs S => ?_)
  refine lv_iconst (v := nI 0) K.1 K.2.1 dX1_clear_10 (by decide) ?_
  refine lv_istore_n (lv' := [(1, .int (nI 0)), (0, .ref (h 0))]) K.1 K.2.1 dX1_clear_11 rfl hl (by decide) rfl (fun ls hl => ?_)
  exact L 4 0 _ _ ls (by omega) (by rw [fill_0, setF_self (setI (setI σ 0 0) 5 0) 7 (f := σ.2 7) rfl]; exact S) hl
set_option maxHeartbeats 4000000 in
set_option maxRecDepth 100000 in
theorem mem_type (h : Nat → Nat) (d : ClassId) (σ : PT) (x : Int32) (h1 : σ.1 8 ≤ 20) : CI (h 0) (mw h d) yX1_type cX1_type 2 ({ frames := 0, cells := 0, slots := 0, locals := 0 }) d [.int x] σ (fun r u => (σ.1 8 = 20 → r = -1 ∧ u = σ) ∧ (σ.1 8 < 20 → r = nI (σ.1 8 + 1) ∧ u = mType σ (a3 x))) := by
  refine ofI (C := RX1) rfl (by decide) (Nat.le_of_ble_eq_true rfl) ?_
  intro p l e s m args below meth c A dC dI Q K ret ls hl S
  have hl : lv_has ls 2 [(0, .ref (h 0)), (1, .int x)] := hl
  refine lv_aload_n K.1 K.2.1 dX1_type_0 rfl (lv_at hl 0 rfl) ?_
  refine p1g_letters K S dX1_type_1 ?_
  refine lv_bipush (v := nI 20) K.1 K.2.1 dX1_type_4 (by decide) ?_
  refine bn_ne (tgt := 11) (by omega) (by omega) K.1 K.2.1 dX1_type_6 (by decide) (fun c6 => ?_) (fun c6 => ?_)
  · refine lv_aload_n K.1 K.2.1 dX1_type_11 rfl (lv_at hl 0 rfl) ?_
    refine p1g_text K S dX1_type_12 ?_
    refine lv_aload_n K.1 K.2.1 dX1_type_15 rfl (lv_at hl 0 rfl) ?_
    refine p1g_letters K S dX1_type_16 ?_
    refine lv_iload_n K.1 K.2.1 dX1_type_19 rfl (lv_at hl 1 rfl) ?_
    refine lv_iconst (v := nI 3) K.1 K.2.1 dX1_type_20 (by decide) ?_
    refine lv_iand K.1 K.2.1 dX1_type_21 ?_
    refine lv_to (a3_and _) ?_
    refine p1s_text (show σ.1 8 < 20 by omega) K S dX1_type_22 (fun H locs S => ?_)
    refine lv_aload_n K.1 K.2.1 dX1_type_23 rfl (lv_at hl 0 rfl) ?_
    refine lv_dup K.1 K.2.1 dX1_type_24 rfl ?_
    refine p1g_letters K S dX1_type_25 ?_
    refine lv_to (y := nI (σ.1 8)) rfl ?_
    refine lv_iconst (v := nI 1) K.1 K.2.1 dX1_type_28 (by decide) ?_
    refine lv_iadd K.1 K.2.1 dX1_type_29 ?_
    refine lv_to (nI_add _ _) ?_
    refine p1p_letters K S dX1_type_30 (fun H locs S => ?_)
    refine lv_aload_n K.1 K.2.1 dX1_type_33 rfl (lv_at hl 0 rfl) ?_
    refine p1g_letters K S dX1_type_34 ?_
    refine lv_to (y := nI ((σ.1 8) + 1)) rfl ?_
    exact ret _ _ _ _ _ _ dX1_type_37 S ⟨fun z => by omega, fun _ => ⟨rfl, rfl⟩⟩
  · refine lv_iconst (v := -1) K.1 K.2.1 dX1_type_9 (by decide) ?_
    exact ret _ _ _ _ _ _ dX1_type_10 S ⟨fun _ => ⟨rfl, rfl⟩, fun z => by omega⟩
set_option maxHeartbeats 4000000 in
set_option maxRecDepth 100000 in
theorem mem_erase (h : Nat → Nat) (d : ClassId) (σ : PT) : CV (h 0) (mw h d) yX1_erase cX1_erase 1 ({ frames := 0, cells := 0, slots := 0, locals := 0 }) d [] σ (fun u => u = setI σ 8 0) := by
  refine ofV (C := RX1) rfl (by decide) (Nat.le_of_ble_eq_true rfl) ?_
  intro p l e s m args below meth c A dC dI Q K ret ls hl S
  have hl : lv_has ls 1 [(0, .ref (h 0))] := hl
  refine lv_aload_n K.1 K.2.1 dX1_erase_0 rfl (lv_at hl 0 rfl) ?_
  refine lv_iconst (v := nI 0) K.1 K.2.1 dX1_erase_1 (by decide) ?_
  refine p1p_letters K S dX1_erase_2 (fun H locs S => ?_)
  exact ret _ _ _ _ _ dX1_erase_5 S rfl
set_option maxHeartbeats 4000000 in
set_option maxRecDepth 100000 in
theorem mem_token (h : Nat → Nat) (d : ClassId) (σ : PT) (x y : Int32) (h0 : σ.1 0 ≤ 40) (h1 : σ.1 5 ≤ σ.1 0) : CI (h 0) (mw h d) yX1_token cX1_token 3 ({ frames := 1, cells := 0, slots := 0, locals := 20 }) d [.int x, .int y] σ (fun r u => Tok (σ.1 0) (σ.1 5) (fun k r u => r = nI (u.1 5) ∧ u = mTok σ k (a3 y)) σ x r u) := by
  refine ofI (C := RX1) rfl (by decide) (Nat.le_of_ble_eq_true rfl) ?_
  intro p l e s m args below meth c A dC dI Q K ret ls hl S
  have hl : lv_has ls 3 [(0, .ref (h 0)), (1, .int x), (2, .int y)] := hl
  have ha := a3_lt y
  rcases pk_ix x (n := 11) (by decide) with hx | hx | ⟨k, hk, rfl⟩
  · skip
    refine lv_iload_n K.1 K.2.1 dX1_token_0 rfl (lv_at hl 1 rfl) ?_
    refine lv_if_lt (tgt := 30) K.1 K.2.1 dX1_token_1 (by decide) (fun c1 => ?_) (fun c1 => absurd hx c1)
    refine lv_iconst (v := -1) K.1 K.2.1 dX1_token_30 (by decide) ?_
    exact ret _ _ _ _ _ _ dX1_token_31 S (tok_no fun k2 a b _ _ => ix_neg (by omega) hx b)
  · skip
    refine lv_iload_n K.1 K.2.1 dX1_token_0 rfl (lv_at hl 1 rfl) ?_
    refine lv_if_lt (tgt := 30) K.1 K.2.1 dX1_token_1 (by decide) (fun c1 => absurd c1 (ix_nlt (by decide) hx)) (fun c1 => ?_)
    refine lv_iload_n K.1 K.2.1 dX1_token_4 rfl (lv_at hl 1 rfl) ?_
    refine lv_bipush (v := nI 10) K.1 K.2.1 dX1_token_5 (by decide) ?_
    refine lv_icmp_gt (tgt := 30) K.1 K.2.1 dX1_token_7 (by decide) (fun c7 => ?_) (fun c7 => absurd (ix_gt (by decide) (by decide) hx) c7)
    refine lv_iconst (v := -1) K.1 K.2.1 dX1_token_30 (by decide) ?_
    exact ret _ _ _ _ _ _ dX1_token_31 S (tok_no fun k2 a b _ _ => ix_big (by decide) (by omega) hx b)
  · by_cases q1 : k ≤ 3
    · skip
      refine lv_iload_n K.1 K.2.1 dX1_token_0 rfl (lv_at hl 1 rfl) ?_
      refine bn_lt0 (tgt := 30) (by omega) K.1 K.2.1 dX1_token_1 (by decide) (fun c1 => absurd c1 (by omega)) (fun c1 => ?_)
      refine lv_iload_n K.1 K.2.1 dX1_token_4 rfl (lv_at hl 1 rfl) ?_
      refine lv_bipush (v := nI 10) K.1 K.2.1 dX1_token_5 (by decide) ?_
      refine bn_gt (tgt := 30) (by omega) (by omega) K.1 K.2.1 dX1_token_7 (by decide) (fun c7 => absurd c7 (by omega)) (fun c7 => ?_)
      refine lv_aload_n K.1 K.2.1 dX1_token_10 rfl (lv_at hl 0 rfl) ?_
      refine p1g_height K S dX1_token_11 ?_
      refine lv_iload_n K.1 K.2.1 dX1_token_14 rfl (lv_at hl 1 rfl) ?_
      refine cvS K S (mem_takes k (by omega)) (va_cwS 1 K.2.2.2.2.1 (lw_S q198 q199 q17 q200) rfl rfl rfl (by decide +kernel) ⟨Nat.le_of_ble_eq_true rfl, Nat.le_of_ble_eq_true rfl⟩) rfl hl.1 rfl (Nat.le_of_ble_eq_true rfl) dX1_token_15 ⟨Nat.zero_le _, Nat.zero_le _⟩ (fun H locs S => ?_)
      refine lv_to (y := nI 0) (congrArg nI (tk_lo q1)) ?_
      refine bn_lt (tgt := 30) (by omega) (by omega) K.1 K.2.1 dX1_token_18 (by decide) (fun c18 => ?_) (fun c18 => ?_)
      · refine lv_iconst (v := -1) K.1 K.2.1 dX1_token_30 (by decide) ?_
        exact ret _ _ _ _ _ _ dX1_token_31 S (tok_nok (by omega) (fun z1 z2 => by rw [tk_lo q1] at z1; omega))
      · refine lv_aload_n K.1 K.2.1 dX1_token_21 rfl (lv_at hl 0 rfl) ?_
        refine p1g_tokens K S dX1_token_22 ?_
        refine lv_bipush (v := nI 40) K.1 K.2.1 dX1_token_25 (by decide) ?_
        refine bn_ne (tgt := 32) (by omega) (by omega) K.1 K.2.1 dX1_token_27 (by decide) (fun c27 => ?_) (fun c27 => ?_)
        · refine lv_aload_n K.1 K.2.1 dX1_token_32 rfl (lv_at hl 0 rfl) ?_
          refine p1g_codes K S dX1_token_33 ?_
          refine lv_aload_n K.1 K.2.1 dX1_token_36 rfl (lv_at hl 0 rfl) ?_
          refine p1g_tokens K S dX1_token_37 ?_
          refine lv_iload_n K.1 K.2.1 dX1_token_40 rfl (lv_at hl 1 rfl) ?_
          refine p1s_codes (show σ.1 0 < 40 by omega) K S dX1_token_41 (fun H locs S => ?_)
          refine lv_aload_n K.1 K.2.1 dX1_token_42 rfl (lv_at hl 0 rfl) ?_
          refine p1g_args K S dX1_token_43 ?_
          refine lv_aload_n K.1 K.2.1 dX1_token_46 rfl (lv_at hl 0 rfl) ?_
          refine p1g_tokens K S dX1_token_47 ?_
          refine lv_to (y := nI (σ.1 0)) rfl ?_
          refine lv_iload_n K.1 K.2.1 dX1_token_50 rfl (lv_at hl 2 rfl) ?_
          refine lv_iconst (v := nI 3) K.1 K.2.1 dX1_token_51 (by decide) ?_
          refine lv_iand K.1 K.2.1 dX1_token_52 ?_
          refine lv_to (a3_and _) ?_
          refine p1s_args (show σ.1 0 < 40 by omega) K S dX1_token_53 (fun H locs S => ?_)
          refine lv_iload_n K.1 K.2.1 dX1_token_54 rfl (lv_at hl 1 rfl) ?_
          refine cvS K S (mem_takes k (by omega)) (va_cwS 1 K.2.2.2.2.1 (lw_S q198 q199 q17 q200) rfl rfl rfl (by decide +kernel) ⟨Nat.le_of_ble_eq_true rfl, Nat.le_of_ble_eq_true rfl⟩) rfl hl.1 rfl (Nat.le_of_ble_eq_true rfl) dX1_token_55 ⟨Nat.zero_le _, Nat.zero_le _⟩ (fun H locs S => ?_)
          refine lv_to (y := nI 0) (congrArg nI (tk_lo q1)) ?_
          refine bn_le0 (tgt := 81) (by omega) K.1 K.2.1 dX1_token_58 (by decide) (fun c58 => ?_) (fun c58 => absurd c58 (by omega))
          refine lv_iload_n K.1 K.2.1 dX1_token_81 rfl (lv_at hl 1 rfl) ?_
          refine cvS K S (mem_takes k (by omega)) (va_cwS 1 K.2.2.2.2.1 (lw_S q198 q199 q17 q200) rfl rfl rfl (by decide +kernel) ⟨Nat.le_of_ble_eq_true rfl, Nat.le_of_ble_eq_true rfl⟩) rfl hl.1 rfl (Nat.le_of_ble_eq_true rfl) dX1_token_82 ⟨Nat.zero_le _, Nat.zero_le _⟩ (fun H locs S => ?_)
          refine lv_to (y := nI 0) (congrArg nI (tk_lo q1)) ?_
          refine lv_iconst (v := nI 2) K.1 K.2.1 dX1_token_85 (by decide) ?_
          refine bn_ne (tgt := 109) (by omega) (by omega) K.1 K.2.1 dX1_token_86 (by decide) (fun c86 => ?_) (fun c86 => absurd c86 (by omega))
          refine lv_aload_n K.1 K.2.1 dX1_token_109 rfl (lv_at hl 0 rfl) ?_
          refine lv_dup K.1 K.2.1 dX1_token_110 rfl ?_
          refine p1g_height K S dX1_token_111 ?_
          refine lv_to (y := nI (σ.1 5)) rfl ?_
          refine lv_iload_n K.1 K.2.1 dX1_token_114 rfl (lv_at hl 1 rfl) ?_
          refine cvS K S (mem_takes k (by omega)) (va_cwS 1 K.2.2.2.2.1 (lw_S q198 q199 q17 q200) rfl rfl rfl (by decide +kernel) ⟨Nat.le_of_ble_eq_true rfl, Nat.le_of_ble_eq_true rfl⟩) rfl hl.1 rfl (Nat.le_of_ble_eq_true rfl) dX1_token_115 ⟨Nat.zero_le _, Nat.zero_le _⟩ (fun H locs S => ?_)
          refine lv_to (y := nI 0) (congrArg nI (tk_lo q1)) ?_
          refine lv_isub K.1 K.2.1 dX1_token_118 ?_
          refine lv_to (pk_sub (by omega)) ?_
          refine p1p_height K S dX1_token_119 (fun H locs S => ?_)
          refine lv_iload_n K.1 K.2.1 dX1_token_122 rfl (lv_at hl 1 rfl) ?_
          refine lv_bipush (v := nI 10) K.1 K.2.1 dX1_token_123 (by decide) ?_
          refine bn_ne (tgt := 148) (by omega) (by omega) K.1 K.2.1 dX1_token_125 (by decide) (fun c125 => ?_) (fun c125 => absurd c125 (by omega))
          refine lv_aload_n K.1 K.2.1 dX1_token_148 rfl (lv_at hl 0 rfl) ?_
          refine p1g_stack K S dX1_token_149 ?_
          refine lv_aload_n K.1 K.2.1 dX1_token_152 rfl (lv_at hl 0 rfl) ?_
          refine p1g_height K S dX1_token_153 ?_
          refine lv_to (y := nI ((σ.1 5) - 0)) rfl ?_
          refine lv_aload_n K.1 K.2.1 dX1_token_156 rfl (lv_at hl 0 rfl) ?_
          refine p1g_tokens K S dX1_token_157 ?_
          refine lv_to (y := nI (σ.1 0)) rfl ?_
          refine p1s_stack (show (σ.1 5) - 0 < 40 by omega) K S dX1_token_160 (fun H locs S => ?_)
          refine lv_aload_n K.1 K.2.1 dX1_token_161 rfl (lv_at hl 0 rfl) ?_
          refine lv_dup K.1 K.2.1 dX1_token_162 rfl ?_
          refine p1g_height K S dX1_token_163 ?_
          refine lv_to (y := nI ((σ.1 5) - 0)) rfl ?_
          refine lv_iconst (v := nI 1) K.1 K.2.1 dX1_token_166 (by decide) ?_
          refine lv_iadd K.1 K.2.1 dX1_token_167 ?_
          refine lv_to (nI_add _ _) ?_
          refine p1p_height K S dX1_token_168 (fun H locs S => ?_)
          refine lv_aload_n K.1 K.2.1 dX1_token_171 rfl (lv_at hl 0 rfl) ?_
          refine lv_dup K.1 K.2.1 dX1_token_172 rfl ?_
          refine p1g_tokens K S dX1_token_173 ?_
          refine lv_to (y := nI (σ.1 0)) rfl ?_
          refine lv_iconst (v := nI 1) K.1 K.2.1 dX1_token_176 (by decide) ?_
          refine lv_iadd K.1 K.2.1 dX1_token_177 ?_
          refine lv_to (nI_add _ _) ?_
          refine p1p_tokens K S dX1_token_178 (fun H locs S => ?_)
          refine lv_aload_n K.1 K.2.1 dX1_token_181 rfl (lv_at hl 0 rfl) ?_
          refine p1g_height K S dX1_token_182 ?_
          refine lv_to (y := nI (((σ.1 5) - 0) + 1)) rfl ?_
          exact ret _ _ _ _ _ _ dX1_token_185 S (tok_in (by omega) (by rw [tk_lo q1]; omega) (by omega) ⟨rfl, by unfold mTok; rw [if_neg (by omega), if_pos (by omega)]; rfl⟩)
        · refine lv_iconst (v := -1) K.1 K.2.1 dX1_token_30 (by decide) ?_
          exact ret _ _ _ _ _ _ dX1_token_31 S (tok_nok (by omega) (fun z1 z2 => by rw [tk_lo q1] at z1; omega))
    by_cases q2 : k ≤ 5
    · skip
      refine lv_iload_n K.1 K.2.1 dX1_token_0 rfl (lv_at hl 1 rfl) ?_
      refine bn_lt0 (tgt := 30) (by omega) K.1 K.2.1 dX1_token_1 (by decide) (fun c1 => absurd c1 (by omega)) (fun c1 => ?_)
      refine lv_iload_n K.1 K.2.1 dX1_token_4 rfl (lv_at hl 1 rfl) ?_
      refine lv_bipush (v := nI 10) K.1 K.2.1 dX1_token_5 (by decide) ?_
      refine bn_gt (tgt := 30) (by omega) (by omega) K.1 K.2.1 dX1_token_7 (by decide) (fun c7 => absurd c7 (by omega)) (fun c7 => ?_)
      refine lv_aload_n K.1 K.2.1 dX1_token_10 rfl (lv_at hl 0 rfl) ?_
      refine p1g_height K S dX1_token_11 ?_
      refine lv_iload_n K.1 K.2.1 dX1_token_14 rfl (lv_at hl 1 rfl) ?_
      refine cvS K S (mem_takes k (by omega)) (va_cwS 1 K.2.2.2.2.1 (lw_S q198 q199 q17 q200) rfl rfl rfl (by decide +kernel) ⟨Nat.le_of_ble_eq_true rfl, Nat.le_of_ble_eq_true rfl⟩) rfl hl.1 rfl (Nat.le_of_ble_eq_true rfl) dX1_token_15 ⟨Nat.zero_le _, Nat.zero_le _⟩ (fun H locs S => ?_)
      refine lv_to (y := nI 2) (congrArg nI (tk_mid (by omega) q2)) ?_
      refine bn_lt (tgt := 30) (by omega) (by omega) K.1 K.2.1 dX1_token_18 (by decide) (fun c18 => ?_) (fun c18 => ?_)
      · refine lv_iconst (v := -1) K.1 K.2.1 dX1_token_30 (by decide) ?_
        exact ret _ _ _ _ _ _ dX1_token_31 S (tok_nok (by omega) (fun z1 z2 => by rw [tk_mid (by omega) q2] at z1; omega))
      · refine lv_aload_n K.1 K.2.1 dX1_token_21 rfl (lv_at hl 0 rfl) ?_
        refine p1g_tokens K S dX1_token_22 ?_
        refine lv_bipush (v := nI 40) K.1 K.2.1 dX1_token_25 (by decide) ?_
        refine bn_ne (tgt := 32) (by omega) (by omega) K.1 K.2.1 dX1_token_27 (by decide) (fun c27 => ?_) (fun c27 => ?_)
        · refine lv_aload_n K.1 K.2.1 dX1_token_32 rfl (lv_at hl 0 rfl) ?_
          refine p1g_codes K S dX1_token_33 ?_
          refine lv_aload_n K.1 K.2.1 dX1_token_36 rfl (lv_at hl 0 rfl) ?_
          refine p1g_tokens K S dX1_token_37 ?_
          refine lv_iload_n K.1 K.2.1 dX1_token_40 rfl (lv_at hl 1 rfl) ?_
          refine p1s_codes (show σ.1 0 < 40 by omega) K S dX1_token_41 (fun H locs S => ?_)
          refine lv_aload_n K.1 K.2.1 dX1_token_42 rfl (lv_at hl 0 rfl) ?_
          refine p1g_args K S dX1_token_43 ?_
          refine lv_aload_n K.1 K.2.1 dX1_token_46 rfl (lv_at hl 0 rfl) ?_
          refine p1g_tokens K S dX1_token_47 ?_
          refine lv_to (y := nI (σ.1 0)) rfl ?_
          refine lv_iload_n K.1 K.2.1 dX1_token_50 rfl (lv_at hl 2 rfl) ?_
          refine lv_iconst (v := nI 3) K.1 K.2.1 dX1_token_51 (by decide) ?_
          refine lv_iand K.1 K.2.1 dX1_token_52 ?_
          refine lv_to (a3_and _) ?_
          refine p1s_args (show σ.1 0 < 40 by omega) K S dX1_token_53 (fun H locs S => ?_)
          refine lv_iload_n K.1 K.2.1 dX1_token_54 rfl (lv_at hl 1 rfl) ?_
          refine cvS K S (mem_takes k (by omega)) (va_cwS 1 K.2.2.2.2.1 (lw_S q198 q199 q17 q200) rfl rfl rfl (by decide +kernel) ⟨Nat.le_of_ble_eq_true rfl, Nat.le_of_ble_eq_true rfl⟩) rfl hl.1 rfl (Nat.le_of_ble_eq_true rfl) dX1_token_55 ⟨Nat.zero_le _, Nat.zero_le _⟩ (fun H locs S => ?_)
          refine lv_to (y := nI 2) (congrArg nI (tk_mid (by omega) q2)) ?_
          refine bn_le0 (tgt := 81) (by omega) K.1 K.2.1 dX1_token_58 (by decide) (fun c58 => absurd c58 (by omega)) (fun c58 => ?_)
          refine lv_aload_n K.1 K.2.1 dX1_token_61 rfl (lv_at hl 0 rfl) ?_
          refine p1g_lasts K S dX1_token_62 ?_
          refine lv_aload_n K.1 K.2.1 dX1_token_65 rfl (lv_at hl 0 rfl) ?_
          refine p1g_tokens K S dX1_token_66 ?_
          refine lv_to (y := nI (σ.1 0)) rfl ?_
          refine lv_aload_n K.1 K.2.1 dX1_token_69 rfl (lv_at hl 0 rfl) ?_
          refine p1g_stack K S dX1_token_70 ?_
          refine lv_aload_n K.1 K.2.1 dX1_token_73 rfl (lv_at hl 0 rfl) ?_
          refine p1g_height K S dX1_token_74 ?_
          refine lv_to (y := nI (σ.1 5)) rfl ?_
          refine lv_iconst (v := nI 1) K.1 K.2.1 dX1_token_77 (by decide) ?_
          refine lv_isub K.1 K.2.1 dX1_token_78 ?_
          refine lv_to (pk_sub (by omega)) ?_
          refine p1l_stack (show (σ.1 5) - 1 < 40 by omega) K S dX1_token_79 ?_
          refine lv_to (y := nI (σ.2 6 ((σ.1 5) - 1))) rfl ?_
          refine p1s_lasts (show σ.1 0 < 40 by omega) K S dX1_token_80 (fun H locs S => ?_)
          refine lv_iload_n K.1 K.2.1 dX1_token_81 rfl (lv_at hl 1 rfl) ?_
          refine cvS K S (mem_takes k (by omega)) (va_cwS 1 K.2.2.2.2.1 (lw_S q198 q199 q17 q200) rfl rfl rfl (by decide +kernel) ⟨Nat.le_of_ble_eq_true rfl, Nat.le_of_ble_eq_true rfl⟩) rfl hl.1 rfl (Nat.le_of_ble_eq_true rfl) dX1_token_82 ⟨Nat.zero_le _, Nat.zero_le _⟩ (fun H locs S => ?_)
          refine lv_to (y := nI 2) (congrArg nI (tk_mid (by omega) q2)) ?_
          refine lv_iconst (v := nI 2) K.1 K.2.1 dX1_token_85 (by decide) ?_
          refine bn_ne (tgt := 109) (by omega) (by omega) K.1 K.2.1 dX1_token_86 (by decide) (fun c86 => absurd c86 (by omega)) (fun c86 => ?_)
          refine lv_aload_n K.1 K.2.1 dX1_token_89 rfl (lv_at hl 0 rfl) ?_
          refine p1g_firsts K S dX1_token_90 ?_
          refine lv_aload_n K.1 K.2.1 dX1_token_93 rfl (lv_at hl 0 rfl) ?_
          refine p1g_tokens K S dX1_token_94 ?_
          refine lv_to (y := nI (σ.1 0)) rfl ?_
          refine lv_aload_n K.1 K.2.1 dX1_token_97 rfl (lv_at hl 0 rfl) ?_
          refine p1g_stack K S dX1_token_98 ?_
          refine lv_aload_n K.1 K.2.1 dX1_token_101 rfl (lv_at hl 0 rfl) ?_
          refine p1g_height K S dX1_token_102 ?_
          refine lv_to (y := nI (σ.1 5)) rfl ?_
          refine lv_iconst (v := nI 2) K.1 K.2.1 dX1_token_105 (by decide) ?_
          refine lv_isub K.1 K.2.1 dX1_token_106 ?_
          refine lv_to (pk_sub (by omega)) ?_
          refine p1l_stack (show (σ.1 5) - 2 < 40 by omega) K S dX1_token_107 ?_
          refine lv_to (y := nI (σ.2 6 ((σ.1 5) - 2))) rfl ?_
          refine p1s_firsts (show σ.1 0 < 40 by omega) K S dX1_token_108 (fun H locs S => ?_)
          refine lv_aload_n K.1 K.2.1 dX1_token_109 rfl (lv_at hl 0 rfl) ?_
          refine lv_dup K.1 K.2.1 dX1_token_110 rfl ?_
          refine p1g_height K S dX1_token_111 ?_
          refine lv_to (y := nI (σ.1 5)) rfl ?_
          refine lv_iload_n K.1 K.2.1 dX1_token_114 rfl (lv_at hl 1 rfl) ?_
          refine cvS K S (mem_takes k (by omega)) (va_cwS 1 K.2.2.2.2.1 (lw_S q198 q199 q17 q200) rfl rfl rfl (by decide +kernel) ⟨Nat.le_of_ble_eq_true rfl, Nat.le_of_ble_eq_true rfl⟩) rfl hl.1 rfl (Nat.le_of_ble_eq_true rfl) dX1_token_115 ⟨Nat.zero_le _, Nat.zero_le _⟩ (fun H locs S => ?_)
          refine lv_to (y := nI 2) (congrArg nI (tk_mid (by omega) q2)) ?_
          refine lv_isub K.1 K.2.1 dX1_token_118 ?_
          refine lv_to (pk_sub (by omega)) ?_
          refine p1p_height K S dX1_token_119 (fun H locs S => ?_)
          refine lv_iload_n K.1 K.2.1 dX1_token_122 rfl (lv_at hl 1 rfl) ?_
          refine lv_bipush (v := nI 10) K.1 K.2.1 dX1_token_123 (by decide) ?_
          refine bn_ne (tgt := 148) (by omega) (by omega) K.1 K.2.1 dX1_token_125 (by decide) (fun c125 => ?_) (fun c125 => absurd c125 (by omega))
          refine lv_aload_n K.1 K.2.1 dX1_token_148 rfl (lv_at hl 0 rfl) ?_
          refine p1g_stack K S dX1_token_149 ?_
          refine lv_aload_n K.1 K.2.1 dX1_token_152 rfl (lv_at hl 0 rfl) ?_
          refine p1g_height K S dX1_token_153 ?_
          refine lv_to (y := nI ((σ.1 5) - 2)) rfl ?_
          refine lv_aload_n K.1 K.2.1 dX1_token_156 rfl (lv_at hl 0 rfl) ?_
          refine p1g_tokens K S dX1_token_157 ?_
          refine lv_to (y := nI (σ.1 0)) rfl ?_
          refine p1s_stack (show (σ.1 5) - 2 < 40 by omega) K S dX1_token_160 (fun H locs S => ?_)
          refine lv_aload_n K.1 K.2.1 dX1_token_161 rfl (lv_at hl 0 rfl) ?_
          refine lv_dup K.1 K.2.1 dX1_token_162 rfl ?_
          refine p1g_height K S dX1_token_163 ?_
          refine lv_to (y := nI ((σ.1 5) - 2)) rfl ?_
          refine lv_iconst (v := nI 1) K.1 K.2.1 dX1_token_166 (by decide) ?_
          refine lv_iadd K.1 K.2.1 dX1_token_167 ?_
          refine lv_to (nI_add _ _) ?_
          refine p1p_height K S dX1_token_168 (fun H locs S => ?_)
          refine lv_aload_n K.1 K.2.1 dX1_token_171 rfl (lv_at hl 0 rfl) ?_
          refine lv_dup K.1 K.2.1 dX1_token_172 rfl ?_
          refine p1g_tokens K S dX1_token_173 ?_
          refine lv_to (y := nI (σ.1 0)) rfl ?_
          refine lv_iconst (v := nI 1) K.1 K.2.1 dX1_token_176 (by decide) ?_
          refine lv_iadd K.1 K.2.1 dX1_token_177 ?_
          refine lv_to (nI_add _ _) ?_
          refine p1p_tokens K S dX1_token_178 (fun H locs S => ?_)
          refine lv_aload_n K.1 K.2.1 dX1_token_181 rfl (lv_at hl 0 rfl) ?_
          refine p1g_height K S dX1_token_182 ?_
          refine lv_to (y := nI (((σ.1 5) - 2) + 1)) rfl ?_
          exact ret _ _ _ _ _ _ dX1_token_185 S (tok_in (by omega) (by rw [tk_mid (by omega) q2]; omega) (by omega) ⟨rfl, by unfold mTok; rw [if_neg (by omega), if_neg (by omega), if_pos (by omega)]; rfl⟩)
        · refine lv_iconst (v := -1) K.1 K.2.1 dX1_token_30 (by decide) ?_
          exact ret _ _ _ _ _ _ dX1_token_31 S (tok_nok (by omega) (fun z1 z2 => by rw [tk_mid (by omega) q2] at z1; omega))
    · skip
      refine lv_iload_n K.1 K.2.1 dX1_token_0 rfl (lv_at hl 1 rfl) ?_
      refine bn_lt0 (tgt := 30) (by omega) K.1 K.2.1 dX1_token_1 (by decide) (fun c1 => absurd c1 (by omega)) (fun c1 => ?_)
      refine lv_iload_n K.1 K.2.1 dX1_token_4 rfl (lv_at hl 1 rfl) ?_
      refine lv_bipush (v := nI 10) K.1 K.2.1 dX1_token_5 (by decide) ?_
      refine bn_gt (tgt := 30) (by omega) (by omega) K.1 K.2.1 dX1_token_7 (by decide) (fun c7 => absurd c7 (by omega)) (fun c7 => ?_)
      refine lv_aload_n K.1 K.2.1 dX1_token_10 rfl (lv_at hl 0 rfl) ?_
      refine p1g_height K S dX1_token_11 ?_
      refine lv_iload_n K.1 K.2.1 dX1_token_14 rfl (lv_at hl 1 rfl) ?_
      refine cvS K S (mem_takes k (by omega)) (va_cwS 1 K.2.2.2.2.1 (lw_S q198 q199 q17 q200) rfl rfl rfl (by decide +kernel) ⟨Nat.le_of_ble_eq_true rfl, Nat.le_of_ble_eq_true rfl⟩) rfl hl.1 rfl (Nat.le_of_ble_eq_true rfl) dX1_token_15 ⟨Nat.zero_le _, Nat.zero_le _⟩ (fun H locs S => ?_)
      refine lv_to (y := nI 1) (congrArg nI (tk_hi (by omega))) ?_
      refine bn_lt (tgt := 30) (by omega) (by omega) K.1 K.2.1 dX1_token_18 (by decide) (fun c18 => ?_) (fun c18 => ?_)
      · refine lv_iconst (v := -1) K.1 K.2.1 dX1_token_30 (by decide) ?_
        exact ret _ _ _ _ _ _ dX1_token_31 S (tok_nok (by omega) (fun z1 z2 => by rw [tk_hi (by omega)] at z1; omega))
      · refine lv_aload_n K.1 K.2.1 dX1_token_21 rfl (lv_at hl 0 rfl) ?_
        refine p1g_tokens K S dX1_token_22 ?_
        refine lv_bipush (v := nI 40) K.1 K.2.1 dX1_token_25 (by decide) ?_
        refine bn_ne (tgt := 32) (by omega) (by omega) K.1 K.2.1 dX1_token_27 (by decide) (fun c27 => ?_) (fun c27 => ?_)
        · refine lv_aload_n K.1 K.2.1 dX1_token_32 rfl (lv_at hl 0 rfl) ?_
          refine p1g_codes K S dX1_token_33 ?_
          refine lv_aload_n K.1 K.2.1 dX1_token_36 rfl (lv_at hl 0 rfl) ?_
          refine p1g_tokens K S dX1_token_37 ?_
          refine lv_iload_n K.1 K.2.1 dX1_token_40 rfl (lv_at hl 1 rfl) ?_
          refine p1s_codes (show σ.1 0 < 40 by omega) K S dX1_token_41 (fun H locs S => ?_)
          refine lv_aload_n K.1 K.2.1 dX1_token_42 rfl (lv_at hl 0 rfl) ?_
          refine p1g_args K S dX1_token_43 ?_
          refine lv_aload_n K.1 K.2.1 dX1_token_46 rfl (lv_at hl 0 rfl) ?_
          refine p1g_tokens K S dX1_token_47 ?_
          refine lv_to (y := nI (σ.1 0)) rfl ?_
          refine lv_iload_n K.1 K.2.1 dX1_token_50 rfl (lv_at hl 2 rfl) ?_
          refine lv_iconst (v := nI 3) K.1 K.2.1 dX1_token_51 (by decide) ?_
          refine lv_iand K.1 K.2.1 dX1_token_52 ?_
          refine lv_to (a3_and _) ?_
          refine p1s_args (show σ.1 0 < 40 by omega) K S dX1_token_53 (fun H locs S => ?_)
          refine lv_iload_n K.1 K.2.1 dX1_token_54 rfl (lv_at hl 1 rfl) ?_
          refine cvS K S (mem_takes k (by omega)) (va_cwS 1 K.2.2.2.2.1 (lw_S q198 q199 q17 q200) rfl rfl rfl (by decide +kernel) ⟨Nat.le_of_ble_eq_true rfl, Nat.le_of_ble_eq_true rfl⟩) rfl hl.1 rfl (Nat.le_of_ble_eq_true rfl) dX1_token_55 ⟨Nat.zero_le _, Nat.zero_le _⟩ (fun H locs S => ?_)
          refine lv_to (y := nI 1) (congrArg nI (tk_hi (by omega))) ?_
          refine bn_le0 (tgt := 81) (by omega) K.1 K.2.1 dX1_token_58 (by decide) (fun c58 => absurd c58 (by omega)) (fun c58 => ?_)
          refine lv_aload_n K.1 K.2.1 dX1_token_61 rfl (lv_at hl 0 rfl) ?_
          refine p1g_lasts K S dX1_token_62 ?_
          refine lv_aload_n K.1 K.2.1 dX1_token_65 rfl (lv_at hl 0 rfl) ?_
          refine p1g_tokens K S dX1_token_66 ?_
          refine lv_to (y := nI (σ.1 0)) rfl ?_
          refine lv_aload_n K.1 K.2.1 dX1_token_69 rfl (lv_at hl 0 rfl) ?_
          refine p1g_stack K S dX1_token_70 ?_
          refine lv_aload_n K.1 K.2.1 dX1_token_73 rfl (lv_at hl 0 rfl) ?_
          refine p1g_height K S dX1_token_74 ?_
          refine lv_to (y := nI (σ.1 5)) rfl ?_
          refine lv_iconst (v := nI 1) K.1 K.2.1 dX1_token_77 (by decide) ?_
          refine lv_isub K.1 K.2.1 dX1_token_78 ?_
          refine lv_to (pk_sub (by omega)) ?_
          refine p1l_stack (show (σ.1 5) - 1 < 40 by omega) K S dX1_token_79 ?_
          refine lv_to (y := nI (σ.2 6 ((σ.1 5) - 1))) rfl ?_
          refine p1s_lasts (show σ.1 0 < 40 by omega) K S dX1_token_80 (fun H locs S => ?_)
          refine lv_iload_n K.1 K.2.1 dX1_token_81 rfl (lv_at hl 1 rfl) ?_
          refine cvS K S (mem_takes k (by omega)) (va_cwS 1 K.2.2.2.2.1 (lw_S q198 q199 q17 q200) rfl rfl rfl (by decide +kernel) ⟨Nat.le_of_ble_eq_true rfl, Nat.le_of_ble_eq_true rfl⟩) rfl hl.1 rfl (Nat.le_of_ble_eq_true rfl) dX1_token_82 ⟨Nat.zero_le _, Nat.zero_le _⟩ (fun H locs S => ?_)
          refine lv_to (y := nI 1) (congrArg nI (tk_hi (by omega))) ?_
          refine lv_iconst (v := nI 2) K.1 K.2.1 dX1_token_85 (by decide) ?_
          refine bn_ne (tgt := 109) (by omega) (by omega) K.1 K.2.1 dX1_token_86 (by decide) (fun c86 => ?_) (fun c86 => absurd c86 (by omega))
          refine lv_aload_n K.1 K.2.1 dX1_token_109 rfl (lv_at hl 0 rfl) ?_
          refine lv_dup K.1 K.2.1 dX1_token_110 rfl ?_
          refine p1g_height K S dX1_token_111 ?_
          refine lv_to (y := nI (σ.1 5)) rfl ?_
          refine lv_iload_n K.1 K.2.1 dX1_token_114 rfl (lv_at hl 1 rfl) ?_
          refine cvS K S (mem_takes k (by omega)) (va_cwS 1 K.2.2.2.2.1 (lw_S q198 q199 q17 q200) rfl rfl rfl (by decide +kernel) ⟨Nat.le_of_ble_eq_true rfl, Nat.le_of_ble_eq_true rfl⟩) rfl hl.1 rfl (Nat.le_of_ble_eq_true rfl) dX1_token_115 ⟨Nat.zero_le _, Nat.zero_le _⟩ (fun H locs S => ?_)
          refine lv_to (y := nI 1) (congrArg nI (tk_hi (by omega))) ?_
          refine lv_isub K.1 K.2.1 dX1_token_118 ?_
          refine lv_to (pk_sub (by omega)) ?_
          refine p1p_height K S dX1_token_119 (fun H locs S => ?_)
          refine lv_iload_n K.1 K.2.1 dX1_token_122 rfl (lv_at hl 1 rfl) ?_
          refine lv_bipush (v := nI 10) K.1 K.2.1 dX1_token_123 (by decide) ?_
          refine bn_ne (tgt := 148) (by omega) (by omega) K.1 K.2.1 dX1_token_125 (by decide) (fun c125 => ?_) (fun c125 => ?_)
          · refine lv_aload_n K.1 K.2.1 dX1_token_148 rfl (lv_at hl 0 rfl) ?_
            refine p1g_stack K S dX1_token_149 ?_
            refine lv_aload_n K.1 K.2.1 dX1_token_152 rfl (lv_at hl 0 rfl) ?_
            refine p1g_height K S dX1_token_153 ?_
            refine lv_to (y := nI ((σ.1 5) - 1)) rfl ?_
            refine lv_aload_n K.1 K.2.1 dX1_token_156 rfl (lv_at hl 0 rfl) ?_
            refine p1g_tokens K S dX1_token_157 ?_
            refine lv_to (y := nI (σ.1 0)) rfl ?_
            refine p1s_stack (show (σ.1 5) - 1 < 40 by omega) K S dX1_token_160 (fun H locs S => ?_)
            refine lv_aload_n K.1 K.2.1 dX1_token_161 rfl (lv_at hl 0 rfl) ?_
            refine lv_dup K.1 K.2.1 dX1_token_162 rfl ?_
            refine p1g_height K S dX1_token_163 ?_
            refine lv_to (y := nI ((σ.1 5) - 1)) rfl ?_
            refine lv_iconst (v := nI 1) K.1 K.2.1 dX1_token_166 (by decide) ?_
            refine lv_iadd K.1 K.2.1 dX1_token_167 ?_
            refine lv_to (nI_add _ _) ?_
            refine p1p_height K S dX1_token_168 (fun H locs S => ?_)
            refine lv_aload_n K.1 K.2.1 dX1_token_171 rfl (lv_at hl 0 rfl) ?_
            refine lv_dup K.1 K.2.1 dX1_token_172 rfl ?_
            refine p1g_tokens K S dX1_token_173 ?_
            refine lv_to (y := nI (σ.1 0)) rfl ?_
            refine lv_iconst (v := nI 1) K.1 K.2.1 dX1_token_176 (by decide) ?_
            refine lv_iadd K.1 K.2.1 dX1_token_177 ?_
            refine lv_to (nI_add _ _) ?_
            refine p1p_tokens K S dX1_token_178 (fun H locs S => ?_)
            refine lv_aload_n K.1 K.2.1 dX1_token_181 rfl (lv_at hl 0 rfl) ?_
            refine p1g_height K S dX1_token_182 ?_
            refine lv_to (y := nI (((σ.1 5) - 1) + 1)) rfl ?_
            exact ret _ _ _ _ _ _ dX1_token_185 S (tok_in (by omega) (by rw [tk_hi (by omega)]; omega) (by omega) ⟨rfl, by unfold mTok; rw [if_neg (by omega), if_neg (by omega), if_neg (by omega)]; rfl⟩)
          · refine lv_aload_n K.1 K.2.1 dX1_token_128 rfl (lv_at hl 0 rfl) ?_
            refine p1g_rules K S dX1_token_129 ?_
            refine lv_iload_n K.1 K.2.1 dX1_token_132 rfl (lv_at hl 2 rfl) ?_
            refine lv_iconst (v := nI 3) K.1 K.2.1 dX1_token_133 (by decide) ?_
            refine lv_iand K.1 K.2.1 dX1_token_134 ?_
            refine lv_to (a3_and _) ?_
            refine lv_aload_n K.1 K.2.1 dX1_token_135 rfl (lv_at hl 0 rfl) ?_
            refine p1g_lasts K S dX1_token_136 ?_
            refine lv_aload_n K.1 K.2.1 dX1_token_139 rfl (lv_at hl 0 rfl) ?_
            refine p1g_tokens K S dX1_token_140 ?_
            refine lv_to (y := nI (σ.1 0)) rfl ?_
            refine p1l_lasts (show σ.1 0 < 40 by omega) K S dX1_token_143 ?_
            refine lv_to (y := nI (σ.2 6 (σ.1 5 - 1))) (by show nI (up (σ.2 4) (σ.1 0) (σ.2 6 (σ.1 5 - 1)) (σ.1 0)) = _; rw [up_s]) ?_
            refine lv_to (nI_e1 _) ?_
            refine p1s_rules (show a3 y < 4 by omega) K S dX1_token_144 (fun H locs S => ?_)
            refine lv_goto (tgt := 171) K.1 K.2.1 dX1_token_145 (by decide) ?_
            refine lv_aload_n K.1 K.2.1 dX1_token_171 rfl (lv_at hl 0 rfl) ?_
            refine lv_dup K.1 K.2.1 dX1_token_172 rfl ?_
            refine p1g_tokens K S dX1_token_173 ?_
            refine lv_to (y := nI (σ.1 0)) rfl ?_
            refine lv_iconst (v := nI 1) K.1 K.2.1 dX1_token_176 (by decide) ?_
            refine lv_iadd K.1 K.2.1 dX1_token_177 ?_
            refine lv_to (nI_add _ _) ?_
            refine p1p_tokens K S dX1_token_178 (fun H locs S => ?_)
            refine lv_aload_n K.1 K.2.1 dX1_token_181 rfl (lv_at hl 0 rfl) ?_
            refine p1g_height K S dX1_token_182 ?_
            refine lv_to (y := nI ((σ.1 5) - 1)) rfl ?_
            exact ret _ _ _ _ _ _ dX1_token_185 S (tok_in (by omega) (by rw [tk_hi (by omega)]; omega) (by omega) ⟨rfl, by unfold mTok; rw [if_pos (by omega)]; rfl⟩)
        · refine lv_iconst (v := -1) K.1 K.2.1 dX1_token_30 (by decide) ?_
          exact ret _ _ _ _ _ _ dX1_token_31 S (tok_nok (by omega) (fun z1 z2 => by rw [tk_hi (by omega)] at z1; omega))
end
section
set_option maxRecDepth 100000
/-! the constructors -/
def sz0 : PT := (fun _ => 0, fun k _ => if k = 4 ∨ k = 5 ∨ k = 8 then 1 else if k = 11 then 4 else 0)
def sz1 : PT := (fun _ => 0, fun k _ => if k = 7 then 1 else if k = 10 then 4 else 0)
theorem z_nI (cA : ClassId) (n : Nat) : vp_cell cA (n, .inl (fun _ => nI 0)) = arrV cA n (fun _ => defaultValue .int) := rfl
theorem z_e1 (cA : ClassId) (n : Nat) : vp_cell cA (n, .inl (fun _ => e1 1)) = arrV cA n (fun _ => defaultValue .int) := congrArg (arrV cA n) (funext fun _ => congrArg Value.int (show e1 1 = 0 by decide))
theorem z_e4 (cA : ClassId) (n : Nat) : vp_cell cA (n, .inl (fun _ => e4 4)) = arrV cA n (fun _ => defaultValue .int) := congrArg (arrV cA n) (funext fun _ => congrArg Value.int (show e4 4 = 0 by decide))
theorem cA_eq {D : va_G} {cl : List vw_C} {s : State} {a b : ClassId} (h : va_K D cl [(a, .int), (b, .int)] s) : b = a := Option.some.inj ((va_nm_int (h.2 1 (b, .int) rfl).2).symm.trans (va_nm_int (h.2 0 (a, .int) rfl).2))
def hm0 (q0 q2 q3 q4 q5 q7 q8 q10 q11 q13 q14 q15 : Nat) : Nat → Nat := fun k => match k with
  | 0 => q0
  | 2 => q2
  | 3 => q3
  | 4 => q4
  | 5 => q5
  | 7 => q7
  | 8 => q8
  | 10 => q10
  | 11 => q11
  | 13 => q13
  | 14 => q14
  | _ => q15
def hm1 (q0 q1 q2 q3 q4 q6 q7 q9 q10 : Nat) : Nat → Nat := fun k => match k with
  | 0 => q0
  | 1 => q1
  | 2 => q2
  | 3 => q3
  | 4 => q4
  | 6 => q6
  | 7 => q7
  | 9 => q9
  | _ => q10
set_option maxHeartbeats 4000000 in
set_option maxRecDepth 100000 in
theorem met_init (l : Launch) (dC : Nat → ClassId) (dI : Nat → Nat → Nat) (q0 sz : Nat) : Met l yX0_init (ws_ yX0_init cX0_init 1 none) ({ frames := 2, cells := 11, slots := 3584, locals := 42 }) (va_Pc [.ref q0] (fun U => U.heap.size = sz ∧ va_P (dC, dI) vwCl [(q0, .inr (0, [.int (nI 0), .int (nI 0), .null, .null, .null, .null, .int (nI 0), .null, .null, .int (nI 0), .null, .null, .int (nI 0), .null, .null, .null]))] U.heap ∧ va_K (dC, dI) vwCl [] U ∧ va_D (fun _ => True) [(q0, .inr (0, [.int (nI 0), .int (nI 0), .null, .null, .null, .null, .int (nI 0), .null, .null, .int (nI 0), .null, .null, .int (nI 0), .null, .null, .null]))])) (va_Qv (fun u : (Nat → Nat) × ClassId => u.1 0 = q0) (fun u t => va_P (dC, dI) vwCl (pw u.1 u.2 (pClear sz0)) t.heap ∧ va_K (dC, dI) vwCl [(u.2, .int)] t ∧ va_D (va_A [(q0, .inr (0, [.int (nI 0), .int (nI 0), .null, .null, .null, .null, .int (nI 0), .null, .null, .int (nI 0), .null, .null, .int (nI 0), .null, .null, .null]))] sz) (pw u.1 u.2 (pClear sz0))) (va_A [(q0, .inr (0, [.int (nI 0), .int (nI 0), .null, .null, .null, .null, .int (nI 0), .null, .null, .int (nI 0), .null, .null, .int (nI 0), .null, .null, .null]))] sz)) 11 3584 (va_A [(q0, .inr (0, [.int (nI 0), .int (nI 0), .null, .null, .null, .null, .int (nI 0), .null, .null, .int (nI 0), .null, .null, .int (nI 0), .null, .null, .null]))] sz) := by
  refine Met.ofW (cc := cX0_init) (maxL := 1) (ret := none) (by decide) rfl ?_
  intro p e s m args below meth c s₁ B hml hv
  obtain ⟨rfl, hsz, hP, hK, hD0⟩ := hv
  have hx := B.exec
  have hb := B.bytes
  have hr := B.returns
  have hts := atoms_spec (ws := ws_ yX0_init cX0_init 1 none) B.pre
  have hts : ∀ w ∈ lw_all, w.before _ s = true := fun w h => hts w (List.mem_cons_of_mem _ h)
  have hown : s.vm.findClass RX0 = some m.cls := findClass_of_methodNamed B.named
  have hlocks := B.notSynchronized
  have hin : meth.name = "<init>" := (name_of_methodNamed B.named B.method).1
  subst hsz
  have hD := hD0.self (sz := s.heap.size)
  generalize hAe : va_A [(q0, .inr (0, [.int (nI 0), .int (nI 0), .null, .null, .null, .null, .int (nI 0), .null, .null, .int (nI 0), .null, .null, .int (nI 0), .null, .null, .null]))] s.heap.size = A at hD ⊢
  have hA : ∀ q : Nat, s.heap.size ≤ q → A q := fun q h => by rw [← hAe]; exact Or.inr h
  have hS : va_S A s.heap s.heap [] := va_S.rf
  have hl := lv_entry ([.ref q0]) (n := 1) (Nat.le_of_ble_eq_true rfl)
  rw [lg_entry_eq]
  generalize (lg_sl ([.ref q0]) ++ List.replicate (1 - (lg_sl ([.ref q0])).length) Slot.unset).toArray = ls at hl ⊢
  have hl : lv_has ls 1 [(0, .ref q0)] := hl
  refine lv_aload_n hx hb dX0_init_0 rfl (lv_at hl 0 rfl) ?_
  refine W.objInit hx hb hown (hts _ q23) (hts _ q24) (hts _ q25) rfl (by rw [hml]; exact hl.1) rfl dX0_init_1 (Nat.le_of_ble_eq_true rfl) (Nat.le_of_ble_eq_true rfl) ?_
  refine W.eq (g2 := F0 m 4 ls []) rfl ?_
  refine lv_aload_n hx hb dX0_init_4 rfl (lv_at hl 0 rfl) ?_
  refine lv_bipush (v := nI 40) hx hb dX0_init_5 (by decide) ?_
  refine va_newa (atype := .int) (ty := .int) (N' := 40) (a0 := (40, .inl (fun _ => nI 0))) hx hb (hts _ q83) rfl hK hP hD hS hA (fun cA => z_nI cA 40) (nI_pos (by decide)) (nI_clamp (by decide)) (by decide) (Nat.le_of_ble_eq_true rfl) (Nat.le_of_ble_eq_true rfl) dX0_init_7 (fun q2 d H hK hP hD hS => ?_)
  have hK := hK.sub (tys' := [(d, .int)]) [0] rfl
  have hP : va_P (dC, dI) vwCl [(q0, .inr (0, [.int (nI 0), .int (nI 0), .null, .null, .null, .null, .int (nI 0), .null, .null, .int (nI 0), .null, .null, .int (nI 0), .null, .null, .null])), (q2, .inl (d, 40, .inl (fun _ => nI 0)))] H := hP
  have hD : va_D A [(q0, .inr (0, [.int (nI 0), .int (nI 0), .null, .null, .null, .null, .int (nI 0), .null, .null, .int (nI 0), .null, .null, .int (nI 0), .null, .null, .null])), (q2, .inl (d, 40, .inl (fun _ => nI 0)))] := hD
  refine va_putF (D := (dC, dI)) (ci := 0) (v := .ref q2) (ty := .array .int) (C := RX0) (T := TX0) (N := 16) hx hb hts in_X0 tyX0 tyX0_ok nmX0 hown hK hP hD hS 0 rfl rfl 2 (by decide) (hts _ q36) (fun _ h9 => h9) rfl hin rfl (by decide +kernel) rfl rfl (Nat.le_of_ble_eq_true rfl) dX0_init_9 (fun H locs hP hD hS => ?_)
  have hP : va_P (dC, dI) vwCl [(q0, .inr (0, [.int (nI 0), .int (nI 0), .ref q2, .null, .null, .null, .int (nI 0), .null, .null, .int (nI 0), .null, .null, .int (nI 0), .null, .null, .null])), (q2, .inl (d, 40, .inl (fun _ => nI 0)))] H := hP
  have hD : va_D A [(q0, .inr (0, [.int (nI 0), .int (nI 0), .ref q2, .null, .null, .null, .int (nI 0), .null, .null, .int (nI 0), .null, .null, .int (nI 0), .null, .null, .null])), (q2, .inl (d, 40, .inl (fun _ => nI 0)))] := hD
  refine lv_aload_n hx hb dX0_init_12 rfl (lv_at hl 0 rfl) ?_
  refine lv_bipush (v := nI 40) hx hb dX0_init_13 (by decide) ?_
  refine va_newa (atype := .int) (ty := .int) (N' := 40) (a0 := (40, .inl (fun _ => nI 0))) hx hb (hts _ q83) rfl hK hP hD hS hA (fun cA => z_nI cA 40) (nI_pos (by decide)) (nI_clamp (by decide)) (by decide) (Nat.le_of_ble_eq_true rfl) (Nat.le_of_ble_eq_true rfl) dX0_init_15 (fun q3 cA H hK hP hD hS => ?_)
  have hcA := cA_eq hK
  rw [hcA] at hK hP hD
  have hK := hK.sub (tys' := [(d, .int)]) [0] rfl
  have hP : va_P (dC, dI) vwCl [(q0, .inr (0, [.int (nI 0), .int (nI 0), .ref q2, .null, .null, .null, .int (nI 0), .null, .null, .int (nI 0), .null, .null, .int (nI 0), .null, .null, .null])), (q2, .inl (d, 40, .inl (fun _ => nI 0))), (q3, .inl (d, 40, .inl (fun _ => nI 0)))] H := hP
  have hD : va_D A [(q0, .inr (0, [.int (nI 0), .int (nI 0), .ref q2, .null, .null, .null, .int (nI 0), .null, .null, .int (nI 0), .null, .null, .int (nI 0), .null, .null, .null])), (q2, .inl (d, 40, .inl (fun _ => nI 0))), (q3, .inl (d, 40, .inl (fun _ => nI 0)))] := hD
  refine va_putF (D := (dC, dI)) (ci := 0) (v := .ref q3) (ty := .array .int) (C := RX0) (T := TX0) (N := 16) hx hb hts in_X0 tyX0 tyX0_ok nmX0 hown hK hP hD hS 0 rfl rfl 3 (by decide) (hts _ q37) (fun _ h9 => h9) rfl hin rfl (by decide +kernel) rfl rfl (Nat.le_of_ble_eq_true rfl) dX0_init_17 (fun H locs hP hD hS => ?_)
  have hP : va_P (dC, dI) vwCl [(q0, .inr (0, [.int (nI 0), .int (nI 0), .ref q2, .ref q3, .null, .null, .int (nI 0), .null, .null, .int (nI 0), .null, .null, .int (nI 0), .null, .null, .null])), (q2, .inl (d, 40, .inl (fun _ => nI 0))), (q3, .inl (d, 40, .inl (fun _ => nI 0)))] H := hP
  have hD : va_D A [(q0, .inr (0, [.int (nI 0), .int (nI 0), .ref q2, .ref q3, .null, .null, .int (nI 0), .null, .null, .int (nI 0), .null, .null, .int (nI 0), .null, .null, .null])), (q2, .inl (d, 40, .inl (fun _ => nI 0))), (q3, .inl (d, 40, .inl (fun _ => nI 0)))] := hD
  refine lv_aload_n hx hb dX0_init_20 rfl (lv_at hl 0 rfl) ?_
  refine lv_bipush (v := nI 40) hx hb dX0_init_21 (by decide) ?_
  refine va_newa (atype := .int) (ty := .int) (N' := 40) (a0 := (40, .inl (fun _ => e1 1))) hx hb (hts _ q83) rfl hK hP hD hS hA (fun cA => z_e1 cA 40) (nI_pos (by decide)) (nI_clamp (by decide)) (by decide) (Nat.le_of_ble_eq_true rfl) (Nat.le_of_ble_eq_true rfl) dX0_init_23 (fun q4 cA H hK hP hD hS => ?_)
  have hcA := cA_eq hK
  rw [hcA] at hK hP hD
  have hK := hK.sub (tys' := [(d, .int)]) [0] rfl
  have hP : va_P (dC, dI) vwCl [(q0, .inr (0, [.int (nI 0), .int (nI 0), .ref q2, .ref q3, .null, .null, .int (nI 0), .null, .null, .int (nI 0), .null, .null, .int (nI 0), .null, .null, .null])), (q2, .inl (d, 40, .inl (fun _ => nI 0))), (q3, .inl (d, 40, .inl (fun _ => nI 0))), (q4, .inl (d, 40, .inl (fun _ => e1 1)))] H := hP
  have hD : va_D A [(q0, .inr (0, [.int (nI 0), .int (nI 0), .ref q2, .ref q3, .null, .null, .int (nI 0), .null, .null, .int (nI 0), .null, .null, .int (nI 0), .null, .null, .null])), (q2, .inl (d, 40, .inl (fun _ => nI 0))), (q3, .inl (d, 40, .inl (fun _ => nI 0))), (q4, .inl (d, 40, .inl (fun _ => e1 1)))] := hD
  refine va_putF (D := (dC, dI)) (ci := 0) (v := .ref q4) (ty := .array .int) (C := RX0) (T := TX0) (N := 16) hx hb hts in_X0 tyX0 tyX0_ok nmX0 hown hK hP hD hS 0 rfl rfl 4 (by decide) (hts _ q38) (fun _ h9 => h9) rfl hin rfl (by decide +kernel) rfl rfl (Nat.le_of_ble_eq_true rfl) dX0_init_25 (fun H locs hP hD hS => ?_)
  have hP : va_P (dC, dI) vwCl [(q0, .inr (0, [.int (nI 0), .int (nI 0), .ref q2, .ref q3, .ref q4, .null, .int (nI 0), .null, .null, .int (nI 0), .null, .null, .int (nI 0), .null, .null, .null])), (q2, .inl (d, 40, .inl (fun _ => nI 0))), (q3, .inl (d, 40, .inl (fun _ => nI 0))), (q4, .inl (d, 40, .inl (fun _ => e1 1)))] H := hP
  have hD : va_D A [(q0, .inr (0, [.int (nI 0), .int (nI 0), .ref q2, .ref q3, .ref q4, .null, .int (nI 0), .null, .null, .int (nI 0), .null, .null, .int (nI 0), .null, .null, .null])), (q2, .inl (d, 40, .inl (fun _ => nI 0))), (q3, .inl (d, 40, .inl (fun _ => nI 0))), (q4, .inl (d, 40, .inl (fun _ => e1 1)))] := hD
  refine lv_aload_n hx hb dX0_init_28 rfl (lv_at hl 0 rfl) ?_
  refine lv_bipush (v := nI 40) hx hb dX0_init_29 (by decide) ?_
  refine va_newa (atype := .int) (ty := .int) (N' := 40) (a0 := (40, .inl (fun _ => e1 1))) hx hb (hts _ q83) rfl hK hP hD hS hA (fun cA => z_e1 cA 40) (nI_pos (by decide)) (nI_clamp (by decide)) (by decide) (Nat.le_of_ble_eq_true rfl) (Nat.le_of_ble_eq_true rfl) dX0_init_31 (fun q5 cA H hK hP hD hS => ?_)
  have hcA := cA_eq hK
  rw [hcA] at hK hP hD
  have hK := hK.sub (tys' := [(d, .int)]) [0] rfl
  have hP : va_P (dC, dI) vwCl [(q0, .inr (0, [.int (nI 0), .int (nI 0), .ref q2, .ref q3, .ref q4, .null, .int (nI 0), .null, .null, .int (nI 0), .null, .null, .int (nI 0), .null, .null, .null])), (q2, .inl (d, 40, .inl (fun _ => nI 0))), (q3, .inl (d, 40, .inl (fun _ => nI 0))), (q4, .inl (d, 40, .inl (fun _ => e1 1))), (q5, .inl (d, 40, .inl (fun _ => e1 1)))] H := hP
  have hD : va_D A [(q0, .inr (0, [.int (nI 0), .int (nI 0), .ref q2, .ref q3, .ref q4, .null, .int (nI 0), .null, .null, .int (nI 0), .null, .null, .int (nI 0), .null, .null, .null])), (q2, .inl (d, 40, .inl (fun _ => nI 0))), (q3, .inl (d, 40, .inl (fun _ => nI 0))), (q4, .inl (d, 40, .inl (fun _ => e1 1))), (q5, .inl (d, 40, .inl (fun _ => e1 1)))] := hD
  refine va_putF (D := (dC, dI)) (ci := 0) (v := .ref q5) (ty := .array .int) (C := RX0) (T := TX0) (N := 16) hx hb hts in_X0 tyX0 tyX0_ok nmX0 hown hK hP hD hS 0 rfl rfl 5 (by decide) (hts _ q39) (fun _ h9 => h9) rfl hin rfl (by decide +kernel) rfl rfl (Nat.le_of_ble_eq_true rfl) dX0_init_33 (fun H locs hP hD hS => ?_)
  have hP : va_P (dC, dI) vwCl [(q0, .inr (0, [.int (nI 0), .int (nI 0), .ref q2, .ref q3, .ref q4, .ref q5, .int (nI 0), .null, .null, .int (nI 0), .null, .null, .int (nI 0), .null, .null, .null])), (q2, .inl (d, 40, .inl (fun _ => nI 0))), (q3, .inl (d, 40, .inl (fun _ => nI 0))), (q4, .inl (d, 40, .inl (fun _ => e1 1))), (q5, .inl (d, 40, .inl (fun _ => e1 1)))] H := hP
  have hD : va_D A [(q0, .inr (0, [.int (nI 0), .int (nI 0), .ref q2, .ref q3, .ref q4, .ref q5, .int (nI 0), .null, .null, .int (nI 0), .null, .null, .int (nI 0), .null, .null, .null])), (q2, .inl (d, 40, .inl (fun _ => nI 0))), (q3, .inl (d, 40, .inl (fun _ => nI 0))), (q4, .inl (d, 40, .inl (fun _ => e1 1))), (q5, .inl (d, 40, .inl (fun _ => e1 1)))] := hD
  refine lv_aload_n hx hb dX0_init_36 rfl (lv_at hl 0 rfl) ?_
  refine lv_bipush (v := nI 40) hx hb dX0_init_37 (by decide) ?_
  refine va_newa (atype := .int) (ty := .int) (N' := 40) (a0 := (40, .inl (fun _ => nI 0))) hx hb (hts _ q83) rfl hK hP hD hS hA (fun cA => z_nI cA 40) (nI_pos (by decide)) (nI_clamp (by decide)) (by decide) (Nat.le_of_ble_eq_true rfl) (Nat.le_of_ble_eq_true rfl) dX0_init_39 (fun q7 cA H hK hP hD hS => ?_)
  have hcA := cA_eq hK
  rw [hcA] at hK hP hD
  have hK := hK.sub (tys' := [(d, .int)]) [0] rfl
  have hP : va_P (dC, dI) vwCl [(q0, .inr (0, [.int (nI 0), .int (nI 0), .ref q2, .ref q3, .ref q4, .ref q5, .int (nI 0), .null, .null, .int (nI 0), .null, .null, .int (nI 0), .null, .null, .null])), (q2, .inl (d, 40, .inl (fun _ => nI 0))), (q3, .inl (d, 40, .inl (fun _ => nI 0))), (q4, .inl (d, 40, .inl (fun _ => e1 1))), (q5, .inl (d, 40, .inl (fun _ => e1 1))), (q7, .inl (d, 40, .inl (fun _ => nI 0)))] H := hP
  have hD : va_D A [(q0, .inr (0, [.int (nI 0), .int (nI 0), .ref q2, .ref q3, .ref q4, .ref q5, .int (nI 0), .null, .null, .int (nI 0), .null, .null, .int (nI 0), .null, .null, .null])), (q2, .inl (d, 40, .inl (fun _ => nI 0))), (q3, .inl (d, 40, .inl (fun _ => nI 0))), (q4, .inl (d, 40, .inl (fun _ => e1 1))), (q5, .inl (d, 40, .inl (fun _ => e1 1))), (q7, .inl (d, 40, .inl (fun _ => nI 0)))] := hD
  refine va_putF (D := (dC, dI)) (ci := 0) (v := .ref q7) (ty := .array .int) (C := RX0) (T := TX0) (N := 16) hx hb hts in_X0 tyX0 tyX0_ok nmX0 hown hK hP hD hS 0 rfl rfl 7 (by decide) (hts _ q41) (fun _ h9 => h9) rfl hin rfl (by decide +kernel) rfl rfl (Nat.le_of_ble_eq_true rfl) dX0_init_41 (fun H locs hP hD hS => ?_)
  have hP : va_P (dC, dI) vwCl [(q0, .inr (0, [.int (nI 0), .int (nI 0), .ref q2, .ref q3, .ref q4, .ref q5, .int (nI 0), .ref q7, .null, .int (nI 0), .null, .null, .int (nI 0), .null, .null, .null])), (q2, .inl (d, 40, .inl (fun _ => nI 0))), (q3, .inl (d, 40, .inl (fun _ => nI 0))), (q4, .inl (d, 40, .inl (fun _ => e1 1))), (q5, .inl (d, 40, .inl (fun _ => e1 1))), (q7, .inl (d, 40, .inl (fun _ => nI 0)))] H := hP
  have hD : va_D A [(q0, .inr (0, [.int (nI 0), .int (nI 0), .ref q2, .ref q3, .ref q4, .ref q5, .int (nI 0), .ref q7, .null, .int (nI 0), .null, .null, .int (nI 0), .null, .null, .null])), (q2, .inl (d, 40, .inl (fun _ => nI 0))), (q3, .inl (d, 40, .inl (fun _ => nI 0))), (q4, .inl (d, 40, .inl (fun _ => e1 1))), (q5, .inl (d, 40, .inl (fun _ => e1 1))), (q7, .inl (d, 40, .inl (fun _ => nI 0)))] := hD
  refine lv_aload_n hx hb dX0_init_44 rfl (lv_at hl 0 rfl) ?_
  refine lv_iconst (v := nI 4) hx hb dX0_init_45 (by decide) ?_
  refine va_newa (atype := .int) (ty := .int) (N' := 4) (a0 := (4, .inl (fun _ => e1 1))) hx hb (hts _ q83) rfl hK hP hD hS hA (fun cA => z_e1 cA 4) (nI_pos (by decide)) (nI_clamp (by decide)) (by decide) (Nat.le_of_ble_eq_true rfl) (Nat.le_of_ble_eq_true rfl) dX0_init_46 (fun q8 cA H hK hP hD hS => ?_)
  have hcA := cA_eq hK
  rw [hcA] at hK hP hD
  have hK := hK.sub (tys' := [(d, .int)]) [0] rfl
  have hP : va_P (dC, dI) vwCl [(q0, .inr (0, [.int (nI 0), .int (nI 0), .ref q2, .ref q3, .ref q4, .ref q5, .int (nI 0), .ref q7, .null, .int (nI 0), .null, .null, .int (nI 0), .null, .null, .null])), (q2, .inl (d, 40, .inl (fun _ => nI 0))), (q3, .inl (d, 40, .inl (fun _ => nI 0))), (q4, .inl (d, 40, .inl (fun _ => e1 1))), (q5, .inl (d, 40, .inl (fun _ => e1 1))), (q7, .inl (d, 40, .inl (fun _ => nI 0))), (q8, .inl (d, 4, .inl (fun _ => e1 1)))] H := hP
  have hD : va_D A [(q0, .inr (0, [.int (nI 0), .int (nI 0), .ref q2, .ref q3, .ref q4, .ref q5, .int (nI 0), .ref q7, .null, .int (nI 0), .null, .null, .int (nI 0), .null, .null, .null])), (q2, .inl (d, 40, .inl (fun _ => nI 0))), (q3, .inl (d, 40, .inl (fun _ => nI 0))), (q4, .inl (d, 40, .inl (fun _ => e1 1))), (q5, .inl (d, 40, .inl (fun _ => e1 1))), (q7, .inl (d, 40, .inl (fun _ => nI 0))), (q8, .inl (d, 4, .inl (fun _ => e1 1)))] := hD
  refine va_putF (D := (dC, dI)) (ci := 0) (v := .ref q8) (ty := .array .int) (C := RX0) (T := TX0) (N := 16) hx hb hts in_X0 tyX0 tyX0_ok nmX0 hown hK hP hD hS 0 rfl rfl 8 (by decide) (hts _ q42) (fun _ h9 => h9) rfl hin rfl (by decide +kernel) rfl rfl (Nat.le_of_ble_eq_true rfl) dX0_init_48 (fun H locs hP hD hS => ?_)
  have hP : va_P (dC, dI) vwCl [(q0, .inr (0, [.int (nI 0), .int (nI 0), .ref q2, .ref q3, .ref q4, .ref q5, .int (nI 0), .ref q7, .ref q8, .int (nI 0), .null, .null, .int (nI 0), .null, .null, .null])), (q2, .inl (d, 40, .inl (fun _ => nI 0))), (q3, .inl (d, 40, .inl (fun _ => nI 0))), (q4, .inl (d, 40, .inl (fun _ => e1 1))), (q5, .inl (d, 40, .inl (fun _ => e1 1))), (q7, .inl (d, 40, .inl (fun _ => nI 0))), (q8, .inl (d, 4, .inl (fun _ => e1 1)))] H := hP
  have hD : va_D A [(q0, .inr (0, [.int (nI 0), .int (nI 0), .ref q2, .ref q3, .ref q4, .ref q5, .int (nI 0), .ref q7, .ref q8, .int (nI 0), .null, .null, .int (nI 0), .null, .null, .null])), (q2, .inl (d, 40, .inl (fun _ => nI 0))), (q3, .inl (d, 40, .inl (fun _ => nI 0))), (q4, .inl (d, 40, .inl (fun _ => e1 1))), (q5, .inl (d, 40, .inl (fun _ => e1 1))), (q7, .inl (d, 40, .inl (fun _ => nI 0))), (q8, .inl (d, 4, .inl (fun _ => e1 1)))] := hD
  refine lv_aload_n hx hb dX0_init_51 rfl (lv_at hl 0 rfl) ?_
  refine lv_bipush (v := nI 20) hx hb dX0_init_52 (by decide) ?_
  refine va_newa (atype := .int) (ty := .int) (N' := 20) (a0 := (20, .inl (fun _ => nI 0))) hx hb (hts _ q83) rfl hK hP hD hS hA (fun cA => z_nI cA 20) (nI_pos (by decide)) (nI_clamp (by decide)) (by decide) (Nat.le_of_ble_eq_true rfl) (Nat.le_of_ble_eq_true rfl) dX0_init_54 (fun q10 cA H hK hP hD hS => ?_)
  have hcA := cA_eq hK
  rw [hcA] at hK hP hD
  have hK := hK.sub (tys' := [(d, .int)]) [0] rfl
  have hP : va_P (dC, dI) vwCl [(q0, .inr (0, [.int (nI 0), .int (nI 0), .ref q2, .ref q3, .ref q4, .ref q5, .int (nI 0), .ref q7, .ref q8, .int (nI 0), .null, .null, .int (nI 0), .null, .null, .null])), (q2, .inl (d, 40, .inl (fun _ => nI 0))), (q3, .inl (d, 40, .inl (fun _ => nI 0))), (q4, .inl (d, 40, .inl (fun _ => e1 1))), (q5, .inl (d, 40, .inl (fun _ => e1 1))), (q7, .inl (d, 40, .inl (fun _ => nI 0))), (q8, .inl (d, 4, .inl (fun _ => e1 1))), (q10, .inl (d, 20, .inl (fun _ => nI 0)))] H := hP
  have hD : va_D A [(q0, .inr (0, [.int (nI 0), .int (nI 0), .ref q2, .ref q3, .ref q4, .ref q5, .int (nI 0), .ref q7, .ref q8, .int (nI 0), .null, .null, .int (nI 0), .null, .null, .null])), (q2, .inl (d, 40, .inl (fun _ => nI 0))), (q3, .inl (d, 40, .inl (fun _ => nI 0))), (q4, .inl (d, 40, .inl (fun _ => e1 1))), (q5, .inl (d, 40, .inl (fun _ => e1 1))), (q7, .inl (d, 40, .inl (fun _ => nI 0))), (q8, .inl (d, 4, .inl (fun _ => e1 1))), (q10, .inl (d, 20, .inl (fun _ => nI 0)))] := hD
  refine va_putF (D := (dC, dI)) (ci := 0) (v := .ref q10) (ty := .array .int) (C := RX0) (T := TX0) (N := 16) hx hb hts in_X0 tyX0 tyX0_ok nmX0 hown hK hP hD hS 0 rfl rfl 10 (by decide) (hts _ q44) (fun _ h9 => h9) rfl hin rfl (by decide +kernel) rfl rfl (Nat.le_of_ble_eq_true rfl) dX0_init_56 (fun H locs hP hD hS => ?_)
  have hP : va_P (dC, dI) vwCl [(q0, .inr (0, [.int (nI 0), .int (nI 0), .ref q2, .ref q3, .ref q4, .ref q5, .int (nI 0), .ref q7, .ref q8, .int (nI 0), .ref q10, .null, .int (nI 0), .null, .null, .null])), (q2, .inl (d, 40, .inl (fun _ => nI 0))), (q3, .inl (d, 40, .inl (fun _ => nI 0))), (q4, .inl (d, 40, .inl (fun _ => e1 1))), (q5, .inl (d, 40, .inl (fun _ => e1 1))), (q7, .inl (d, 40, .inl (fun _ => nI 0))), (q8, .inl (d, 4, .inl (fun _ => e1 1))), (q10, .inl (d, 20, .inl (fun _ => nI 0)))] H := hP
  have hD : va_D A [(q0, .inr (0, [.int (nI 0), .int (nI 0), .ref q2, .ref q3, .ref q4, .ref q5, .int (nI 0), .ref q7, .ref q8, .int (nI 0), .ref q10, .null, .int (nI 0), .null, .null, .null])), (q2, .inl (d, 40, .inl (fun _ => nI 0))), (q3, .inl (d, 40, .inl (fun _ => nI 0))), (q4, .inl (d, 40, .inl (fun _ => e1 1))), (q5, .inl (d, 40, .inl (fun _ => e1 1))), (q7, .inl (d, 40, .inl (fun _ => nI 0))), (q8, .inl (d, 4, .inl (fun _ => e1 1))), (q10, .inl (d, 20, .inl (fun _ => nI 0)))] := hD
  refine lv_aload_n hx hb dX0_init_59 rfl (lv_at hl 0 rfl) ?_
  refine lv_sipush (v := nI 840) hx hb dX0_init_60 (by decide) ?_
  refine va_newa (atype := .int) (ty := .int) (N' := 840) (a0 := (840, .inl (fun _ => e4 4))) hx hb (hts _ q83) rfl hK hP hD hS hA (fun cA => z_e4 cA 840) (nI_pos (by decide)) (nI_clamp (by decide)) (by decide) (Nat.le_of_ble_eq_true rfl) (Nat.le_of_ble_eq_true rfl) dX0_init_63 (fun q11 cA H hK hP hD hS => ?_)
  have hcA := cA_eq hK
  rw [hcA] at hK hP hD
  have hK := hK.sub (tys' := [(d, .int)]) [0] rfl
  have hP : va_P (dC, dI) vwCl [(q0, .inr (0, [.int (nI 0), .int (nI 0), .ref q2, .ref q3, .ref q4, .ref q5, .int (nI 0), .ref q7, .ref q8, .int (nI 0), .ref q10, .null, .int (nI 0), .null, .null, .null])), (q2, .inl (d, 40, .inl (fun _ => nI 0))), (q3, .inl (d, 40, .inl (fun _ => nI 0))), (q4, .inl (d, 40, .inl (fun _ => e1 1))), (q5, .inl (d, 40, .inl (fun _ => e1 1))), (q7, .inl (d, 40, .inl (fun _ => nI 0))), (q8, .inl (d, 4, .inl (fun _ => e1 1))), (q10, .inl (d, 20, .inl (fun _ => nI 0))), (q11, .inl (d, 840, .inl (fun _ => e4 4)))] H := hP
  have hD : va_D A [(q0, .inr (0, [.int (nI 0), .int (nI 0), .ref q2, .ref q3, .ref q4, .ref q5, .int (nI 0), .ref q7, .ref q8, .int (nI 0), .ref q10, .null, .int (nI 0), .null, .null, .null])), (q2, .inl (d, 40, .inl (fun _ => nI 0))), (q3, .inl (d, 40, .inl (fun _ => nI 0))), (q4, .inl (d, 40, .inl (fun _ => e1 1))), (q5, .inl (d, 40, .inl (fun _ => e1 1))), (q7, .inl (d, 40, .inl (fun _ => nI 0))), (q8, .inl (d, 4, .inl (fun _ => e1 1))), (q10, .inl (d, 20, .inl (fun _ => nI 0))), (q11, .inl (d, 840, .inl (fun _ => e4 4)))] := hD
  refine va_putF (D := (dC, dI)) (ci := 0) (v := .ref q11) (ty := .array .int) (C := RX0) (T := TX0) (N := 16) hx hb hts in_X0 tyX0 tyX0_ok nmX0 hown hK hP hD hS 0 rfl rfl 11 (by decide) (hts _ q45) (fun _ h9 => h9) rfl hin rfl (by decide +kernel) rfl rfl (Nat.le_of_ble_eq_true rfl) dX0_init_65 (fun H locs hP hD hS => ?_)
  have hP : va_P (dC, dI) vwCl [(q0, .inr (0, [.int (nI 0), .int (nI 0), .ref q2, .ref q3, .ref q4, .ref q5, .int (nI 0), .ref q7, .ref q8, .int (nI 0), .ref q10, .ref q11, .int (nI 0), .null, .null, .null])), (q2, .inl (d, 40, .inl (fun _ => nI 0))), (q3, .inl (d, 40, .inl (fun _ => nI 0))), (q4, .inl (d, 40, .inl (fun _ => e1 1))), (q5, .inl (d, 40, .inl (fun _ => e1 1))), (q7, .inl (d, 40, .inl (fun _ => nI 0))), (q8, .inl (d, 4, .inl (fun _ => e1 1))), (q10, .inl (d, 20, .inl (fun _ => nI 0))), (q11, .inl (d, 840, .inl (fun _ => e4 4)))] H := hP
  have hD : va_D A [(q0, .inr (0, [.int (nI 0), .int (nI 0), .ref q2, .ref q3, .ref q4, .ref q5, .int (nI 0), .ref q7, .ref q8, .int (nI 0), .ref q10, .ref q11, .int (nI 0), .null, .null, .null])), (q2, .inl (d, 40, .inl (fun _ => nI 0))), (q3, .inl (d, 40, .inl (fun _ => nI 0))), (q4, .inl (d, 40, .inl (fun _ => e1 1))), (q5, .inl (d, 40, .inl (fun _ => e1 1))), (q7, .inl (d, 40, .inl (fun _ => nI 0))), (q8, .inl (d, 4, .inl (fun _ => e1 1))), (q10, .inl (d, 20, .inl (fun _ => nI 0))), (q11, .inl (d, 840, .inl (fun _ => e4 4)))] := hD
  refine lv_aload_n hx hb dX0_init_68 rfl (lv_at hl 0 rfl) ?_
  refine lv_sipush (v := nI 840) hx hb dX0_init_69 (by decide) ?_
  refine va_newa (atype := .int) (ty := .int) (N' := 840) (a0 := (840, .inl (fun _ => nI 0))) hx hb (hts _ q83) rfl hK hP hD hS hA (fun cA => z_nI cA 840) (nI_pos (by decide)) (nI_clamp (by decide)) (by decide) (Nat.le_of_ble_eq_true rfl) (Nat.le_of_ble_eq_true rfl) dX0_init_72 (fun q13 cA H hK hP hD hS => ?_)
  have hcA := cA_eq hK
  rw [hcA] at hK hP hD
  have hK := hK.sub (tys' := [(d, .int)]) [0] rfl
  have hP : va_P (dC, dI) vwCl [(q0, .inr (0, [.int (nI 0), .int (nI 0), .ref q2, .ref q3, .ref q4, .ref q5, .int (nI 0), .ref q7, .ref q8, .int (nI 0), .ref q10, .ref q11, .int (nI 0), .null, .null, .null])), (q2, .inl (d, 40, .inl (fun _ => nI 0))), (q3, .inl (d, 40, .inl (fun _ => nI 0))), (q4, .inl (d, 40, .inl (fun _ => e1 1))), (q5, .inl (d, 40, .inl (fun _ => e1 1))), (q7, .inl (d, 40, .inl (fun _ => nI 0))), (q8, .inl (d, 4, .inl (fun _ => e1 1))), (q10, .inl (d, 20, .inl (fun _ => nI 0))), (q11, .inl (d, 840, .inl (fun _ => e4 4))), (q13, .inl (d, 840, .inl (fun _ => nI 0)))] H := hP
  have hD : va_D A [(q0, .inr (0, [.int (nI 0), .int (nI 0), .ref q2, .ref q3, .ref q4, .ref q5, .int (nI 0), .ref q7, .ref q8, .int (nI 0), .ref q10, .ref q11, .int (nI 0), .null, .null, .null])), (q2, .inl (d, 40, .inl (fun _ => nI 0))), (q3, .inl (d, 40, .inl (fun _ => nI 0))), (q4, .inl (d, 40, .inl (fun _ => e1 1))), (q5, .inl (d, 40, .inl (fun _ => e1 1))), (q7, .inl (d, 40, .inl (fun _ => nI 0))), (q8, .inl (d, 4, .inl (fun _ => e1 1))), (q10, .inl (d, 20, .inl (fun _ => nI 0))), (q11, .inl (d, 840, .inl (fun _ => e4 4))), (q13, .inl (d, 840, .inl (fun _ => nI 0)))] := hD
  refine va_putF (D := (dC, dI)) (ci := 0) (v := .ref q13) (ty := .array .int) (C := RX0) (T := TX0) (N := 16) hx hb hts in_X0 tyX0 tyX0_ok nmX0 hown hK hP hD hS 0 rfl rfl 13 (by decide) (hts _ q47) (fun _ h9 => h9) rfl hin rfl (by decide +kernel) rfl rfl (Nat.le_of_ble_eq_true rfl) dX0_init_74 (fun H locs hP hD hS => ?_)
  have hP : va_P (dC, dI) vwCl [(q0, .inr (0, [.int (nI 0), .int (nI 0), .ref q2, .ref q3, .ref q4, .ref q5, .int (nI 0), .ref q7, .ref q8, .int (nI 0), .ref q10, .ref q11, .int (nI 0), .ref q13, .null, .null])), (q2, .inl (d, 40, .inl (fun _ => nI 0))), (q3, .inl (d, 40, .inl (fun _ => nI 0))), (q4, .inl (d, 40, .inl (fun _ => e1 1))), (q5, .inl (d, 40, .inl (fun _ => e1 1))), (q7, .inl (d, 40, .inl (fun _ => nI 0))), (q8, .inl (d, 4, .inl (fun _ => e1 1))), (q10, .inl (d, 20, .inl (fun _ => nI 0))), (q11, .inl (d, 840, .inl (fun _ => e4 4))), (q13, .inl (d, 840, .inl (fun _ => nI 0)))] H := hP
  have hD : va_D A [(q0, .inr (0, [.int (nI 0), .int (nI 0), .ref q2, .ref q3, .ref q4, .ref q5, .int (nI 0), .ref q7, .ref q8, .int (nI 0), .ref q10, .ref q11, .int (nI 0), .ref q13, .null, .null])), (q2, .inl (d, 40, .inl (fun _ => nI 0))), (q3, .inl (d, 40, .inl (fun _ => nI 0))), (q4, .inl (d, 40, .inl (fun _ => e1 1))), (q5, .inl (d, 40, .inl (fun _ => e1 1))), (q7, .inl (d, 40, .inl (fun _ => nI 0))), (q8, .inl (d, 4, .inl (fun _ => e1 1))), (q10, .inl (d, 20, .inl (fun _ => nI 0))), (q11, .inl (d, 840, .inl (fun _ => e4 4))), (q13, .inl (d, 840, .inl (fun _ => nI 0)))] := hD
  refine lv_aload_n hx hb dX0_init_77 rfl (lv_at hl 0 rfl) ?_
  refine lv_sipush (v := nI 840) hx hb dX0_init_78 (by decide) ?_
  refine va_newa (atype := .int) (ty := .int) (N' := 840) (a0 := (840, .inl (fun _ => nI 0))) hx hb (hts _ q83) rfl hK hP hD hS hA (fun cA => z_nI cA 840) (nI_pos (by decide)) (nI_clamp (by decide)) (by decide) (Nat.le_of_ble_eq_true rfl) (Nat.le_of_ble_eq_true rfl) dX0_init_81 (fun q14 cA H hK hP hD hS => ?_)
  have hcA := cA_eq hK
  rw [hcA] at hK hP hD
  have hK := hK.sub (tys' := [(d, .int)]) [0] rfl
  have hP : va_P (dC, dI) vwCl [(q0, .inr (0, [.int (nI 0), .int (nI 0), .ref q2, .ref q3, .ref q4, .ref q5, .int (nI 0), .ref q7, .ref q8, .int (nI 0), .ref q10, .ref q11, .int (nI 0), .ref q13, .null, .null])), (q2, .inl (d, 40, .inl (fun _ => nI 0))), (q3, .inl (d, 40, .inl (fun _ => nI 0))), (q4, .inl (d, 40, .inl (fun _ => e1 1))), (q5, .inl (d, 40, .inl (fun _ => e1 1))), (q7, .inl (d, 40, .inl (fun _ => nI 0))), (q8, .inl (d, 4, .inl (fun _ => e1 1))), (q10, .inl (d, 20, .inl (fun _ => nI 0))), (q11, .inl (d, 840, .inl (fun _ => e4 4))), (q13, .inl (d, 840, .inl (fun _ => nI 0))), (q14, .inl (d, 840, .inl (fun _ => nI 0)))] H := hP
  have hD : va_D A [(q0, .inr (0, [.int (nI 0), .int (nI 0), .ref q2, .ref q3, .ref q4, .ref q5, .int (nI 0), .ref q7, .ref q8, .int (nI 0), .ref q10, .ref q11, .int (nI 0), .ref q13, .null, .null])), (q2, .inl (d, 40, .inl (fun _ => nI 0))), (q3, .inl (d, 40, .inl (fun _ => nI 0))), (q4, .inl (d, 40, .inl (fun _ => e1 1))), (q5, .inl (d, 40, .inl (fun _ => e1 1))), (q7, .inl (d, 40, .inl (fun _ => nI 0))), (q8, .inl (d, 4, .inl (fun _ => e1 1))), (q10, .inl (d, 20, .inl (fun _ => nI 0))), (q11, .inl (d, 840, .inl (fun _ => e4 4))), (q13, .inl (d, 840, .inl (fun _ => nI 0))), (q14, .inl (d, 840, .inl (fun _ => nI 0)))] := hD
  refine va_putF (D := (dC, dI)) (ci := 0) (v := .ref q14) (ty := .array .int) (C := RX0) (T := TX0) (N := 16) hx hb hts in_X0 tyX0 tyX0_ok nmX0 hown hK hP hD hS 0 rfl rfl 14 (by decide) (hts _ q48) (fun _ h9 => h9) rfl hin rfl (by decide +kernel) rfl rfl (Nat.le_of_ble_eq_true rfl) dX0_init_83 (fun H locs hP hD hS => ?_)
  have hP : va_P (dC, dI) vwCl [(q0, .inr (0, [.int (nI 0), .int (nI 0), .ref q2, .ref q3, .ref q4, .ref q5, .int (nI 0), .ref q7, .ref q8, .int (nI 0), .ref q10, .ref q11, .int (nI 0), .ref q13, .ref q14, .null])), (q2, .inl (d, 40, .inl (fun _ => nI 0))), (q3, .inl (d, 40, .inl (fun _ => nI 0))), (q4, .inl (d, 40, .inl (fun _ => e1 1))), (q5, .inl (d, 40, .inl (fun _ => e1 1))), (q7, .inl (d, 40, .inl (fun _ => nI 0))), (q8, .inl (d, 4, .inl (fun _ => e1 1))), (q10, .inl (d, 20, .inl (fun _ => nI 0))), (q11, .inl (d, 840, .inl (fun _ => e4 4))), (q13, .inl (d, 840, .inl (fun _ => nI 0))), (q14, .inl (d, 840, .inl (fun _ => nI 0)))] H := hP
  have hD : va_D A [(q0, .inr (0, [.int (nI 0), .int (nI 0), .ref q2, .ref q3, .ref q4, .ref q5, .int (nI 0), .ref q7, .ref q8, .int (nI 0), .ref q10, .ref q11, .int (nI 0), .ref q13, .ref q14, .null])), (q2, .inl (d, 40, .inl (fun _ => nI 0))), (q3, .inl (d, 40, .inl (fun _ => nI 0))), (q4, .inl (d, 40, .inl (fun _ => e1 1))), (q5, .inl (d, 40, .inl (fun _ => e1 1))), (q7, .inl (d, 40, .inl (fun _ => nI 0))), (q8, .inl (d, 4, .inl (fun _ => e1 1))), (q10, .inl (d, 20, .inl (fun _ => nI 0))), (q11, .inl (d, 840, .inl (fun _ => e4 4))), (q13, .inl (d, 840, .inl (fun _ => nI 0))), (q14, .inl (d, 840, .inl (fun _ => nI 0)))] := hD
  refine lv_aload_n hx hb dX0_init_86 rfl (lv_at hl 0 rfl) ?_
  refine lv_sipush (v := nI 840) hx hb dX0_init_87 (by decide) ?_
  refine va_newa (atype := .int) (ty := .int) (N' := 840) (a0 := (840, .inl (fun _ => nI 0))) hx hb (hts _ q83) rfl hK hP hD hS hA (fun cA => z_nI cA 840) (nI_pos (by decide)) (nI_clamp (by decide)) (by decide) (Nat.le_of_ble_eq_true rfl) (Nat.le_of_ble_eq_true rfl) dX0_init_90 (fun q15 cA H hK hP hD hS => ?_)
  have hcA := cA_eq hK
  rw [hcA] at hK hP hD
  have hK := hK.sub (tys' := [(d, .int)]) [0] rfl
  have hP : va_P (dC, dI) vwCl [(q0, .inr (0, [.int (nI 0), .int (nI 0), .ref q2, .ref q3, .ref q4, .ref q5, .int (nI 0), .ref q7, .ref q8, .int (nI 0), .ref q10, .ref q11, .int (nI 0), .ref q13, .ref q14, .null])), (q2, .inl (d, 40, .inl (fun _ => nI 0))), (q3, .inl (d, 40, .inl (fun _ => nI 0))), (q4, .inl (d, 40, .inl (fun _ => e1 1))), (q5, .inl (d, 40, .inl (fun _ => e1 1))), (q7, .inl (d, 40, .inl (fun _ => nI 0))), (q8, .inl (d, 4, .inl (fun _ => e1 1))), (q10, .inl (d, 20, .inl (fun _ => nI 0))), (q11, .inl (d, 840, .inl (fun _ => e4 4))), (q13, .inl (d, 840, .inl (fun _ => nI 0))), (q14, .inl (d, 840, .inl (fun _ => nI 0))), (q15, .inl (d, 840, .inl (fun _ => nI 0)))] H := hP
  have hD : va_D A [(q0, .inr (0, [.int (nI 0), .int (nI 0), .ref q2, .ref q3, .ref q4, .ref q5, .int (nI 0), .ref q7, .ref q8, .int (nI 0), .ref q10, .ref q11, .int (nI 0), .ref q13, .ref q14, .null])), (q2, .inl (d, 40, .inl (fun _ => nI 0))), (q3, .inl (d, 40, .inl (fun _ => nI 0))), (q4, .inl (d, 40, .inl (fun _ => e1 1))), (q5, .inl (d, 40, .inl (fun _ => e1 1))), (q7, .inl (d, 40, .inl (fun _ => nI 0))), (q8, .inl (d, 4, .inl (fun _ => e1 1))), (q10, .inl (d, 20, .inl (fun _ => nI 0))), (q11, .inl (d, 840, .inl (fun _ => e4 4))), (q13, .inl (d, 840, .inl (fun _ => nI 0))), (q14, .inl (d, 840, .inl (fun _ => nI 0))), (q15, .inl (d, 840, .inl (fun _ => nI 0)))] := hD
  refine va_putF (D := (dC, dI)) (ci := 0) (v := .ref q15) (ty := .array .int) (C := RX0) (T := TX0) (N := 16) hx hb hts in_X0 tyX0 tyX0_ok nmX0 hown hK hP hD hS 0 rfl rfl 15 (by decide) (hts _ q49) (fun _ h9 => h9) rfl hin rfl (by decide +kernel) rfl rfl (Nat.le_of_ble_eq_true rfl) dX0_init_92 (fun H locs hP hD hS => ?_)
  have hP : va_P (dC, dI) vwCl [(q0, .inr (0, [.int (nI 0), .int (nI 0), .ref q2, .ref q3, .ref q4, .ref q5, .int (nI 0), .ref q7, .ref q8, .int (nI 0), .ref q10, .ref q11, .int (nI 0), .ref q13, .ref q14, .ref q15])), (q2, .inl (d, 40, .inl (fun _ => nI 0))), (q3, .inl (d, 40, .inl (fun _ => nI 0))), (q4, .inl (d, 40, .inl (fun _ => e1 1))), (q5, .inl (d, 40, .inl (fun _ => e1 1))), (q7, .inl (d, 40, .inl (fun _ => nI 0))), (q8, .inl (d, 4, .inl (fun _ => e1 1))), (q10, .inl (d, 20, .inl (fun _ => nI 0))), (q11, .inl (d, 840, .inl (fun _ => e4 4))), (q13, .inl (d, 840, .inl (fun _ => nI 0))), (q14, .inl (d, 840, .inl (fun _ => nI 0))), (q15, .inl (d, 840, .inl (fun _ => nI 0)))] H := hP
  have hD : va_D A [(q0, .inr (0, [.int (nI 0), .int (nI 0), .ref q2, .ref q3, .ref q4, .ref q5, .int (nI 0), .ref q7, .ref q8, .int (nI 0), .ref q10, .ref q11, .int (nI 0), .ref q13, .ref q14, .ref q15])), (q2, .inl (d, 40, .inl (fun _ => nI 0))), (q3, .inl (d, 40, .inl (fun _ => nI 0))), (q4, .inl (d, 40, .inl (fun _ => e1 1))), (q5, .inl (d, 40, .inl (fun _ => e1 1))), (q7, .inl (d, 40, .inl (fun _ => nI 0))), (q8, .inl (d, 4, .inl (fun _ => e1 1))), (q10, .inl (d, 20, .inl (fun _ => nI 0))), (q11, .inl (d, 840, .inl (fun _ => e4 4))), (q13, .inl (d, 840, .inl (fun _ => nI 0))), (q14, .inl (d, 840, .inl (fun _ => nI 0))), (q15, .inl (d, 840, .inl (fun _ => nI 0)))] := hD
  refine W.widen (k := 11) (n := 3584) (Nat.le_of_ble_eq_true rfl) (Nat.le_of_ble_eq_true rfl) ?_
  have S : St dC dI A s.heap H locs (pw (hm0 q0 q2 q3 q4 q5 q7 q8 q10 q11 q13 q14 q15) d sz0) := ⟨hP, hD, hS⟩
  have K : KX cX0_init 1 RX0 p s m _ c A dC dI d := ⟨hx, hb, hml, hown, hts, hK, hA⟩
  refine lv_aload_n hx hb dX0_init_95 rfl (lv_at hl 0 rfl) ?_
  refine cvV (ci := 0) K S (met_clear (hm0 q0 q2 q3 q4 q5 q7 q8 q10 q11 q13 q14 q15) d sz0) (cwV 0 K.2.2.2.2.1 (lw_V q26 q27 q28 q16 q29) rfl rfl rfl (by decide +kernel) ⟨Nat.le_of_ble_eq_true rfl, Nat.le_of_ble_eq_true rfl⟩) rfl rfl rfl hl.1 rfl (Nat.le_of_ble_eq_true rfl) dX0_init_96 ⟨Nat.le_of_ble_eq_true rfl, Nat.le_of_ble_eq_true rfl⟩ (fun u H locs S hu => ?_)
  rw [hu] at S
  exact W.vret hx hb hr (fun t ht hW => ⟨⟨((hm0 q0 q2 q3 q4 q5 q7 q8 q10 q11 q13 q14 q15), d), rfl, rfl, by rw [ht]; exact S.1, va_K.moved hW.alike hK, S.2.1⟩, S.2.2.F ht⟩) S.2.2.2.2 dX0_init_99
set_option maxHeartbeats 4000000 in
set_option maxRecDepth 100000 in
theorem lp_init1 {p : Program} {l : Launch} {e : Env} {R : Room} {s : State} {m : MethodId} {args : Array Value} {below : List Frame} {meth : Method} {c : Code} {cells slots : Nat} {Q : State → Prop} {A : Nat → Prop} {dC : Nat → ClassId} {dI : Nat → Nat → Nat} {d : ClassId} {h : Nat → Nat} (K : KX cX1_init 2 RX1 p s m args c A dC dI d) (ret : ∀ (H : Heap) (locs : List Loc) (ls : Array Slot), St dC dI A s.heap H locs (mw h d (mClear sz1)) → W p l e R s m args below meth c H locs cells slots Q (F0 m 88 ls [])) : ∀ (j k : Nat) (H : Heap) (locs : List Loc) (ls : Array Slot), k + j = 4 → St dC dI A s.heap H locs (mw h d (setF sz1 7 (fun i => if i < k then 0 else sz1.2 7 i))) → lv_has ls 2 [(1, .int (nI k)), (0, .ref (h 0))] → W p l e R s m args below meth c H locs cells slots Q (F0 m 70 ls []) := by
  intro j
  induction j with
  | zero =>
    intro k H locs ls hk S hl
    refine lv_iload_n K.1 K.2.1 dX1_init_70 rfl (lv_at hl 0 rfl) ?_
    refine lv_iconst (v := nI 4) K.1 K.2.1 dX1_init_71 (by decide) ?_
    refine bn_ge (tgt := 88) (by omega) (by omega) K.1 K.2.1 dX1_init_72 (by decide) (fun c72 => ?_) (fun c72 => absurd c72 (by omega))
    rw [show k = 4 by omega] at S
    exact ret H locs ls S
  | succ j ih =>
    intro k H locs ls hk S hl
    refine lv_iload_n K.1 K.2.1 dX1_init_70 rfl (lv_at hl 0 rfl) ?_
    refine lv_iconst (v := nI 4) K.1 K.2.1 dX1_init_71 (by decide) ?_
    refine bn_ge (tgt := 88) (by omega) (by omega) K.1 K.2.1 dX1_init_72 (by decide) (fun c72 => absurd c72 (by omega)) (fun c72 => ?_)
    refine lv_aload_n K.1 K.2.1 dX1_init_75 rfl (lv_at hl 1 rfl) ?_
    refine p1g_rules K S dX1_init_76 ?_
    refine lv_iload_n K.1 K.2.1 dX1_init_79 rfl (lv_at hl 0 rfl) ?_
    refine lv_iconst (v := -1) K.1 K.2.1 dX1_init_80 (by decide) ?_
    refine lv_to (show (-1 : Int32) = e1 0 by decide) ?_
    refine p1s_rules (show k < 4 by omega) K S dX1_init_81 (fun H locs S => ?_)
    rw [setA_setF, fill_s] at S
    refine lv_iinc (v := nI (k + 1)) (lv' := [(1, .int (nI (k + 1))), (0, .ref (h 0))]) K.1 K.2.1 dX1_init_82 hl (k := 0) rfl (nI_inc _) (by decide) rfl (fun ls hl => ?_)
    refine lv_goto (tgt := 70) K.1 K.2.1 dX1_init_85 (by decide) ?_
    exact ih (k + 1) H locs ls (by omega) S hl
set_option maxHeartbeats 4000000 in
set_option maxRecDepth 100000 in
theorem mem_init (l : Launch) (dC : Nat → ClassId) (dI : Nat → Nat → Nat) (d : ClassId) (q0 sz : Nat) : Met l yX1_init (ws_ yX1_init cX1_init 2 none) ({ frames := 1, cells := 8, slots := 1904, locals := 12 }) (va_Pc [.ref q0] (fun U => U.heap.size = sz ∧ va_P (dC, dI) vwCl [(q0, .inr (1, [.int (nI 0), .null, .null, .null, .null, .int (nI 0), .null, .null, .int (nI 0), .null, .null]))] U.heap ∧ va_K (dC, dI) vwCl [(d, .int)] U ∧ va_D (fun _ => True) [(q0, .inr (1, [.int (nI 0), .null, .null, .null, .null, .int (nI 0), .null, .null, .int (nI 0), .null, .null]))])) (va_Qv (fun u : Nat → Nat => u 0 = q0) (fun u t => va_P (dC, dI) vwCl (mw u d (mClear sz1)) t.heap ∧ va_K (dC, dI) vwCl [(d, .int)] t ∧ va_D (va_A [(q0, .inr (1, [.int (nI 0), .null, .null, .null, .null, .int (nI 0), .null, .null, .int (nI 0), .null, .null]))] sz) (mw u d (mClear sz1))) (va_A [(q0, .inr (1, [.int (nI 0), .null, .null, .null, .null, .int (nI 0), .null, .null, .int (nI 0), .null, .null]))] sz)) 8 1904 (va_A [(q0, .inr (1, [.int (nI 0), .null, .null, .null, .null, .int (nI 0), .null, .null, .int (nI 0), .null, .null]))] sz) := by
  refine Met.ofW (cc := cX1_init) (maxL := 2) (ret := none) (by decide) rfl ?_
  intro p e s m args below meth c s₁ B hml hv
  obtain ⟨rfl, hsz, hP, hK, hD0⟩ := hv
  have hx := B.exec
  have hb := B.bytes
  have hr := B.returns
  have hts := atoms_spec (ws := ws_ yX1_init cX1_init 2 none) B.pre
  have hts : ∀ w ∈ lw_all, w.before _ s = true := fun w h => hts w (List.mem_cons_of_mem _ h)
  have hown : s.vm.findClass RX1 = some m.cls := findClass_of_methodNamed B.named
  have hlocks := B.notSynchronized
  have hin : meth.name = "<init>" := (name_of_methodNamed B.named B.method).1
  subst hsz
  have hD := hD0.self (sz := s.heap.size)
  generalize hAe : va_A [(q0, .inr (1, [.int (nI 0), .null, .null, .null, .null, .int (nI 0), .null, .null, .int (nI 0), .null, .null]))] s.heap.size = A at hD ⊢
  have hA : ∀ q : Nat, s.heap.size ≤ q → A q := fun q h => by rw [← hAe]; exact Or.inr h
  have hS : va_S A s.heap s.heap [] := va_S.rf
  have hl := lv_entry ([.ref q0]) (n := 2) (Nat.le_of_ble_eq_true rfl)
  rw [lg_entry_eq]
  generalize (lg_sl ([.ref q0]) ++ List.replicate (2 - (lg_sl ([.ref q0])).length) Slot.unset).toArray = ls at hl ⊢
  have hl : lv_has ls 2 [(0, .ref q0)] := hl
  refine lv_aload_n hx hb dX1_init_0 rfl (lv_at hl 0 rfl) ?_
  refine W.objInit hx hb hown (hts _ q159) (hts _ q24) (hts _ q25) rfl (by rw [hml]; exact hl.1) rfl dX1_init_1 (Nat.le_of_ble_eq_true rfl) (Nat.le_of_ble_eq_true rfl) ?_
  refine W.eq (g2 := F0 m 4 ls []) rfl ?_
  refine lv_aload_n hx hb dX1_init_4 rfl (lv_at hl 0 rfl) ?_
  refine lv_bipush (v := nI 40) hx hb dX1_init_5 (by decide) ?_
  refine va_newa (atype := .int) (ty := .int) (N' := 40) (a0 := (40, .inl (fun _ => nI 0))) hx hb (hts _ q83) rfl hK hP hD hS hA (fun cA => z_nI cA 40) (nI_pos (by decide)) (nI_clamp (by decide)) (by decide) (Nat.le_of_ble_eq_true rfl) (Nat.le_of_ble_eq_true rfl) dX1_init_7 (fun q1 cA H hK hP hD hS => ?_)
  have hcA := cA_eq hK
  rw [hcA] at hK hP hD
  have hK := hK.sub (tys' := [(d, .int)]) [0] rfl
  have hP : va_P (dC, dI) vwCl [(q0, .inr (1, [.int (nI 0), .null, .null, .null, .null, .int (nI 0), .null, .null, .int (nI 0), .null, .null])), (q1, .inl (d, 40, .inl (fun _ => nI 0)))] H := hP
  have hD : va_D A [(q0, .inr (1, [.int (nI 0), .null, .null, .null, .null, .int (nI 0), .null, .null, .int (nI 0), .null, .null])), (q1, .inl (d, 40, .inl (fun _ => nI 0)))] := hD
  refine va_putF (D := (dC, dI)) (ci := 1) (v := .ref q1) (ty := .array .int) (C := RX1) (T := TX1) (N := 11) hx hb hts in_X1 tyX1 tyX1_ok nmX1 hown hK hP hD hS 0 rfl rfl 1 (by decide) (hts _ q161) (fun _ h9 => h9) rfl hin rfl (by decide +kernel) rfl rfl (Nat.le_of_ble_eq_true rfl) dX1_init_9 (fun H locs hP hD hS => ?_)
  have hP : va_P (dC, dI) vwCl [(q0, .inr (1, [.int (nI 0), .ref q1, .null, .null, .null, .int (nI 0), .null, .null, .int (nI 0), .null, .null])), (q1, .inl (d, 40, .inl (fun _ => nI 0)))] H := hP
  have hD : va_D A [(q0, .inr (1, [.int (nI 0), .ref q1, .null, .null, .null, .int (nI 0), .null, .null, .int (nI 0), .null, .null])), (q1, .inl (d, 40, .inl (fun _ => nI 0)))] := hD
  refine lv_aload_n hx hb dX1_init_12 rfl (lv_at hl 0 rfl) ?_
  refine lv_bipush (v := nI 40) hx hb dX1_init_13 (by decide) ?_
  refine va_newa (atype := .int) (ty := .int) (N' := 40) (a0 := (40, .inl (fun _ => nI 0))) hx hb (hts _ q83) rfl hK hP hD hS hA (fun cA => z_nI cA 40) (nI_pos (by decide)) (nI_clamp (by decide)) (by decide) (Nat.le_of_ble_eq_true rfl) (Nat.le_of_ble_eq_true rfl) dX1_init_15 (fun q2 cA H hK hP hD hS => ?_)
  have hcA := cA_eq hK
  rw [hcA] at hK hP hD
  have hK := hK.sub (tys' := [(d, .int)]) [0] rfl
  have hP : va_P (dC, dI) vwCl [(q0, .inr (1, [.int (nI 0), .ref q1, .null, .null, .null, .int (nI 0), .null, .null, .int (nI 0), .null, .null])), (q1, .inl (d, 40, .inl (fun _ => nI 0))), (q2, .inl (d, 40, .inl (fun _ => nI 0)))] H := hP
  have hD : va_D A [(q0, .inr (1, [.int (nI 0), .ref q1, .null, .null, .null, .int (nI 0), .null, .null, .int (nI 0), .null, .null])), (q1, .inl (d, 40, .inl (fun _ => nI 0))), (q2, .inl (d, 40, .inl (fun _ => nI 0)))] := hD
  refine va_putF (D := (dC, dI)) (ci := 1) (v := .ref q2) (ty := .array .int) (C := RX1) (T := TX1) (N := 11) hx hb hts in_X1 tyX1 tyX1_ok nmX1 hown hK hP hD hS 0 rfl rfl 2 (by decide) (hts _ q162) (fun _ h9 => h9) rfl hin rfl (by decide +kernel) rfl rfl (Nat.le_of_ble_eq_true rfl) dX1_init_17 (fun H locs hP hD hS => ?_)
  have hP : va_P (dC, dI) vwCl [(q0, .inr (1, [.int (nI 0), .ref q1, .ref q2, .null, .null, .int (nI 0), .null, .null, .int (nI 0), .null, .null])), (q1, .inl (d, 40, .inl (fun _ => nI 0))), (q2, .inl (d, 40, .inl (fun _ => nI 0)))] H := hP
  have hD : va_D A [(q0, .inr (1, [.int (nI 0), .ref q1, .ref q2, .null, .null, .int (nI 0), .null, .null, .int (nI 0), .null, .null])), (q1, .inl (d, 40, .inl (fun _ => nI 0))), (q2, .inl (d, 40, .inl (fun _ => nI 0)))] := hD
  refine lv_aload_n hx hb dX1_init_20 rfl (lv_at hl 0 rfl) ?_
  refine lv_bipush (v := nI 40) hx hb dX1_init_21 (by decide) ?_
  refine va_newa (atype := .int) (ty := .int) (N' := 40) (a0 := (40, .inl (fun _ => nI 0))) hx hb (hts _ q83) rfl hK hP hD hS hA (fun cA => z_nI cA 40) (nI_pos (by decide)) (nI_clamp (by decide)) (by decide) (Nat.le_of_ble_eq_true rfl) (Nat.le_of_ble_eq_true rfl) dX1_init_23 (fun q3 cA H hK hP hD hS => ?_)
  have hcA := cA_eq hK
  rw [hcA] at hK hP hD
  have hK := hK.sub (tys' := [(d, .int)]) [0] rfl
  have hP : va_P (dC, dI) vwCl [(q0, .inr (1, [.int (nI 0), .ref q1, .ref q2, .null, .null, .int (nI 0), .null, .null, .int (nI 0), .null, .null])), (q1, .inl (d, 40, .inl (fun _ => nI 0))), (q2, .inl (d, 40, .inl (fun _ => nI 0))), (q3, .inl (d, 40, .inl (fun _ => nI 0)))] H := hP
  have hD : va_D A [(q0, .inr (1, [.int (nI 0), .ref q1, .ref q2, .null, .null, .int (nI 0), .null, .null, .int (nI 0), .null, .null])), (q1, .inl (d, 40, .inl (fun _ => nI 0))), (q2, .inl (d, 40, .inl (fun _ => nI 0))), (q3, .inl (d, 40, .inl (fun _ => nI 0)))] := hD
  refine va_putF (D := (dC, dI)) (ci := 1) (v := .ref q3) (ty := .array .int) (C := RX1) (T := TX1) (N := 11) hx hb hts in_X1 tyX1 tyX1_ok nmX1 hown hK hP hD hS 0 rfl rfl 3 (by decide) (hts _ q163) (fun _ h9 => h9) rfl hin rfl (by decide +kernel) rfl rfl (Nat.le_of_ble_eq_true rfl) dX1_init_25 (fun H locs hP hD hS => ?_)
  have hP : va_P (dC, dI) vwCl [(q0, .inr (1, [.int (nI 0), .ref q1, .ref q2, .ref q3, .null, .int (nI 0), .null, .null, .int (nI 0), .null, .null])), (q1, .inl (d, 40, .inl (fun _ => nI 0))), (q2, .inl (d, 40, .inl (fun _ => nI 0))), (q3, .inl (d, 40, .inl (fun _ => nI 0)))] H := hP
  have hD : va_D A [(q0, .inr (1, [.int (nI 0), .ref q1, .ref q2, .ref q3, .null, .int (nI 0), .null, .null, .int (nI 0), .null, .null])), (q1, .inl (d, 40, .inl (fun _ => nI 0))), (q2, .inl (d, 40, .inl (fun _ => nI 0))), (q3, .inl (d, 40, .inl (fun _ => nI 0)))] := hD
  refine lv_aload_n hx hb dX1_init_28 rfl (lv_at hl 0 rfl) ?_
  refine lv_bipush (v := nI 40) hx hb dX1_init_29 (by decide) ?_
  refine va_newa (atype := .int) (ty := .int) (N' := 40) (a0 := (40, .inl (fun _ => nI 0))) hx hb (hts _ q83) rfl hK hP hD hS hA (fun cA => z_nI cA 40) (nI_pos (by decide)) (nI_clamp (by decide)) (by decide) (Nat.le_of_ble_eq_true rfl) (Nat.le_of_ble_eq_true rfl) dX1_init_31 (fun q4 cA H hK hP hD hS => ?_)
  have hcA := cA_eq hK
  rw [hcA] at hK hP hD
  have hK := hK.sub (tys' := [(d, .int)]) [0] rfl
  have hP : va_P (dC, dI) vwCl [(q0, .inr (1, [.int (nI 0), .ref q1, .ref q2, .ref q3, .null, .int (nI 0), .null, .null, .int (nI 0), .null, .null])), (q1, .inl (d, 40, .inl (fun _ => nI 0))), (q2, .inl (d, 40, .inl (fun _ => nI 0))), (q3, .inl (d, 40, .inl (fun _ => nI 0))), (q4, .inl (d, 40, .inl (fun _ => nI 0)))] H := hP
  have hD : va_D A [(q0, .inr (1, [.int (nI 0), .ref q1, .ref q2, .ref q3, .null, .int (nI 0), .null, .null, .int (nI 0), .null, .null])), (q1, .inl (d, 40, .inl (fun _ => nI 0))), (q2, .inl (d, 40, .inl (fun _ => nI 0))), (q3, .inl (d, 40, .inl (fun _ => nI 0))), (q4, .inl (d, 40, .inl (fun _ => nI 0)))] := hD
  refine va_putF (D := (dC, dI)) (ci := 1) (v := .ref q4) (ty := .array .int) (C := RX1) (T := TX1) (N := 11) hx hb hts in_X1 tyX1 tyX1_ok nmX1 hown hK hP hD hS 0 rfl rfl 4 (by decide) (hts _ q164) (fun _ h9 => h9) rfl hin rfl (by decide +kernel) rfl rfl (Nat.le_of_ble_eq_true rfl) dX1_init_33 (fun H locs hP hD hS => ?_)
  have hP : va_P (dC, dI) vwCl [(q0, .inr (1, [.int (nI 0), .ref q1, .ref q2, .ref q3, .ref q4, .int (nI 0), .null, .null, .int (nI 0), .null, .null])), (q1, .inl (d, 40, .inl (fun _ => nI 0))), (q2, .inl (d, 40, .inl (fun _ => nI 0))), (q3, .inl (d, 40, .inl (fun _ => nI 0))), (q4, .inl (d, 40, .inl (fun _ => nI 0)))] H := hP
  have hD : va_D A [(q0, .inr (1, [.int (nI 0), .ref q1, .ref q2, .ref q3, .ref q4, .int (nI 0), .null, .null, .int (nI 0), .null, .null])), (q1, .inl (d, 40, .inl (fun _ => nI 0))), (q2, .inl (d, 40, .inl (fun _ => nI 0))), (q3, .inl (d, 40, .inl (fun _ => nI 0))), (q4, .inl (d, 40, .inl (fun _ => nI 0)))] := hD
  refine lv_aload_n hx hb dX1_init_36 rfl (lv_at hl 0 rfl) ?_
  refine lv_bipush (v := nI 40) hx hb dX1_init_37 (by decide) ?_
  refine va_newa (atype := .int) (ty := .int) (N' := 40) (a0 := (40, .inl (fun _ => nI 0))) hx hb (hts _ q83) rfl hK hP hD hS hA (fun cA => z_nI cA 40) (nI_pos (by decide)) (nI_clamp (by decide)) (by decide) (Nat.le_of_ble_eq_true rfl) (Nat.le_of_ble_eq_true rfl) dX1_init_39 (fun q6 cA H hK hP hD hS => ?_)
  have hcA := cA_eq hK
  rw [hcA] at hK hP hD
  have hK := hK.sub (tys' := [(d, .int)]) [0] rfl
  have hP : va_P (dC, dI) vwCl [(q0, .inr (1, [.int (nI 0), .ref q1, .ref q2, .ref q3, .ref q4, .int (nI 0), .null, .null, .int (nI 0), .null, .null])), (q1, .inl (d, 40, .inl (fun _ => nI 0))), (q2, .inl (d, 40, .inl (fun _ => nI 0))), (q3, .inl (d, 40, .inl (fun _ => nI 0))), (q4, .inl (d, 40, .inl (fun _ => nI 0))), (q6, .inl (d, 40, .inl (fun _ => nI 0)))] H := hP
  have hD : va_D A [(q0, .inr (1, [.int (nI 0), .ref q1, .ref q2, .ref q3, .ref q4, .int (nI 0), .null, .null, .int (nI 0), .null, .null])), (q1, .inl (d, 40, .inl (fun _ => nI 0))), (q2, .inl (d, 40, .inl (fun _ => nI 0))), (q3, .inl (d, 40, .inl (fun _ => nI 0))), (q4, .inl (d, 40, .inl (fun _ => nI 0))), (q6, .inl (d, 40, .inl (fun _ => nI 0)))] := hD
  refine va_putF (D := (dC, dI)) (ci := 1) (v := .ref q6) (ty := .array .int) (C := RX1) (T := TX1) (N := 11) hx hb hts in_X1 tyX1 tyX1_ok nmX1 hown hK hP hD hS 0 rfl rfl 6 (by decide) (hts _ q166) (fun _ h9 => h9) rfl hin rfl (by decide +kernel) rfl rfl (Nat.le_of_ble_eq_true rfl) dX1_init_41 (fun H locs hP hD hS => ?_)
  have hP : va_P (dC, dI) vwCl [(q0, .inr (1, [.int (nI 0), .ref q1, .ref q2, .ref q3, .ref q4, .int (nI 0), .ref q6, .null, .int (nI 0), .null, .null])), (q1, .inl (d, 40, .inl (fun _ => nI 0))), (q2, .inl (d, 40, .inl (fun _ => nI 0))), (q3, .inl (d, 40, .inl (fun _ => nI 0))), (q4, .inl (d, 40, .inl (fun _ => nI 0))), (q6, .inl (d, 40, .inl (fun _ => nI 0)))] H := hP
  have hD : va_D A [(q0, .inr (1, [.int (nI 0), .ref q1, .ref q2, .ref q3, .ref q4, .int (nI 0), .ref q6, .null, .int (nI 0), .null, .null])), (q1, .inl (d, 40, .inl (fun _ => nI 0))), (q2, .inl (d, 40, .inl (fun _ => nI 0))), (q3, .inl (d, 40, .inl (fun _ => nI 0))), (q4, .inl (d, 40, .inl (fun _ => nI 0))), (q6, .inl (d, 40, .inl (fun _ => nI 0)))] := hD
  refine lv_aload_n hx hb dX1_init_44 rfl (lv_at hl 0 rfl) ?_
  refine lv_iconst (v := nI 4) hx hb dX1_init_45 (by decide) ?_
  refine va_newa (atype := .int) (ty := .int) (N' := 4) (a0 := (4, .inl (fun _ => e1 1))) hx hb (hts _ q83) rfl hK hP hD hS hA (fun cA => z_e1 cA 4) (nI_pos (by decide)) (nI_clamp (by decide)) (by decide) (Nat.le_of_ble_eq_true rfl) (Nat.le_of_ble_eq_true rfl) dX1_init_46 (fun q7 cA H hK hP hD hS => ?_)
  have hcA := cA_eq hK
  rw [hcA] at hK hP hD
  have hK := hK.sub (tys' := [(d, .int)]) [0] rfl
  have hP : va_P (dC, dI) vwCl [(q0, .inr (1, [.int (nI 0), .ref q1, .ref q2, .ref q3, .ref q4, .int (nI 0), .ref q6, .null, .int (nI 0), .null, .null])), (q1, .inl (d, 40, .inl (fun _ => nI 0))), (q2, .inl (d, 40, .inl (fun _ => nI 0))), (q3, .inl (d, 40, .inl (fun _ => nI 0))), (q4, .inl (d, 40, .inl (fun _ => nI 0))), (q6, .inl (d, 40, .inl (fun _ => nI 0))), (q7, .inl (d, 4, .inl (fun _ => e1 1)))] H := hP
  have hD : va_D A [(q0, .inr (1, [.int (nI 0), .ref q1, .ref q2, .ref q3, .ref q4, .int (nI 0), .ref q6, .null, .int (nI 0), .null, .null])), (q1, .inl (d, 40, .inl (fun _ => nI 0))), (q2, .inl (d, 40, .inl (fun _ => nI 0))), (q3, .inl (d, 40, .inl (fun _ => nI 0))), (q4, .inl (d, 40, .inl (fun _ => nI 0))), (q6, .inl (d, 40, .inl (fun _ => nI 0))), (q7, .inl (d, 4, .inl (fun _ => e1 1)))] := hD
  refine va_putF (D := (dC, dI)) (ci := 1) (v := .ref q7) (ty := .array .int) (C := RX1) (T := TX1) (N := 11) hx hb hts in_X1 tyX1 tyX1_ok nmX1 hown hK hP hD hS 0 rfl rfl 7 (by decide) (hts _ q167) (fun _ h9 => h9) rfl hin rfl (by decide +kernel) rfl rfl (Nat.le_of_ble_eq_true rfl) dX1_init_48 (fun H locs hP hD hS => ?_)
  have hP : va_P (dC, dI) vwCl [(q0, .inr (1, [.int (nI 0), .ref q1, .ref q2, .ref q3, .ref q4, .int (nI 0), .ref q6, .ref q7, .int (nI 0), .null, .null])), (q1, .inl (d, 40, .inl (fun _ => nI 0))), (q2, .inl (d, 40, .inl (fun _ => nI 0))), (q3, .inl (d, 40, .inl (fun _ => nI 0))), (q4, .inl (d, 40, .inl (fun _ => nI 0))), (q6, .inl (d, 40, .inl (fun _ => nI 0))), (q7, .inl (d, 4, .inl (fun _ => e1 1)))] H := hP
  have hD : va_D A [(q0, .inr (1, [.int (nI 0), .ref q1, .ref q2, .ref q3, .ref q4, .int (nI 0), .ref q6, .ref q7, .int (nI 0), .null, .null])), (q1, .inl (d, 40, .inl (fun _ => nI 0))), (q2, .inl (d, 40, .inl (fun _ => nI 0))), (q3, .inl (d, 40, .inl (fun _ => nI 0))), (q4, .inl (d, 40, .inl (fun _ => nI 0))), (q6, .inl (d, 40, .inl (fun _ => nI 0))), (q7, .inl (d, 4, .inl (fun _ => e1 1)))] := hD
  refine lv_aload_n hx hb dX1_init_51 rfl (lv_at hl 0 rfl) ?_
  refine lv_bipush (v := nI 20) hx hb dX1_init_52 (by decide) ?_
  refine va_newa (atype := .int) (ty := .int) (N' := 20) (a0 := (20, .inl (fun _ => nI 0))) hx hb (hts _ q83) rfl hK hP hD hS hA (fun cA => z_nI cA 20) (nI_pos (by decide)) (nI_clamp (by decide)) (by decide) (Nat.le_of_ble_eq_true rfl) (Nat.le_of_ble_eq_true rfl) dX1_init_54 (fun q9 cA H hK hP hD hS => ?_)
  have hcA := cA_eq hK
  rw [hcA] at hK hP hD
  have hK := hK.sub (tys' := [(d, .int)]) [0] rfl
  have hP : va_P (dC, dI) vwCl [(q0, .inr (1, [.int (nI 0), .ref q1, .ref q2, .ref q3, .ref q4, .int (nI 0), .ref q6, .ref q7, .int (nI 0), .null, .null])), (q1, .inl (d, 40, .inl (fun _ => nI 0))), (q2, .inl (d, 40, .inl (fun _ => nI 0))), (q3, .inl (d, 40, .inl (fun _ => nI 0))), (q4, .inl (d, 40, .inl (fun _ => nI 0))), (q6, .inl (d, 40, .inl (fun _ => nI 0))), (q7, .inl (d, 4, .inl (fun _ => e1 1))), (q9, .inl (d, 20, .inl (fun _ => nI 0)))] H := hP
  have hD : va_D A [(q0, .inr (1, [.int (nI 0), .ref q1, .ref q2, .ref q3, .ref q4, .int (nI 0), .ref q6, .ref q7, .int (nI 0), .null, .null])), (q1, .inl (d, 40, .inl (fun _ => nI 0))), (q2, .inl (d, 40, .inl (fun _ => nI 0))), (q3, .inl (d, 40, .inl (fun _ => nI 0))), (q4, .inl (d, 40, .inl (fun _ => nI 0))), (q6, .inl (d, 40, .inl (fun _ => nI 0))), (q7, .inl (d, 4, .inl (fun _ => e1 1))), (q9, .inl (d, 20, .inl (fun _ => nI 0)))] := hD
  refine va_putF (D := (dC, dI)) (ci := 1) (v := .ref q9) (ty := .array .int) (C := RX1) (T := TX1) (N := 11) hx hb hts in_X1 tyX1 tyX1_ok nmX1 hown hK hP hD hS 0 rfl rfl 9 (by decide) (hts _ q169) (fun _ h9 => h9) rfl hin rfl (by decide +kernel) rfl rfl (Nat.le_of_ble_eq_true rfl) dX1_init_56 (fun H locs hP hD hS => ?_)
  have hP : va_P (dC, dI) vwCl [(q0, .inr (1, [.int (nI 0), .ref q1, .ref q2, .ref q3, .ref q4, .int (nI 0), .ref q6, .ref q7, .int (nI 0), .ref q9, .null])), (q1, .inl (d, 40, .inl (fun _ => nI 0))), (q2, .inl (d, 40, .inl (fun _ => nI 0))), (q3, .inl (d, 40, .inl (fun _ => nI 0))), (q4, .inl (d, 40, .inl (fun _ => nI 0))), (q6, .inl (d, 40, .inl (fun _ => nI 0))), (q7, .inl (d, 4, .inl (fun _ => e1 1))), (q9, .inl (d, 20, .inl (fun _ => nI 0)))] H := hP
  have hD : va_D A [(q0, .inr (1, [.int (nI 0), .ref q1, .ref q2, .ref q3, .ref q4, .int (nI 0), .ref q6, .ref q7, .int (nI 0), .ref q9, .null])), (q1, .inl (d, 40, .inl (fun _ => nI 0))), (q2, .inl (d, 40, .inl (fun _ => nI 0))), (q3, .inl (d, 40, .inl (fun _ => nI 0))), (q4, .inl (d, 40, .inl (fun _ => nI 0))), (q6, .inl (d, 40, .inl (fun _ => nI 0))), (q7, .inl (d, 4, .inl (fun _ => e1 1))), (q9, .inl (d, 20, .inl (fun _ => nI 0)))] := hD
  refine lv_aload_n hx hb dX1_init_59 rfl (lv_at hl 0 rfl) ?_
  refine lv_sipush (v := nI 840) hx hb dX1_init_60 (by decide) ?_
  refine va_newa (atype := .int) (ty := .int) (N' := 840) (a0 := (840, .inl (fun _ => e4 4))) hx hb (hts _ q83) rfl hK hP hD hS hA (fun cA => z_e4 cA 840) (nI_pos (by decide)) (nI_clamp (by decide)) (by decide) (Nat.le_of_ble_eq_true rfl) (Nat.le_of_ble_eq_true rfl) dX1_init_63 (fun q10 cA H hK hP hD hS => ?_)
  have hcA := cA_eq hK
  rw [hcA] at hK hP hD
  have hK := hK.sub (tys' := [(d, .int)]) [0] rfl
  have hP : va_P (dC, dI) vwCl [(q0, .inr (1, [.int (nI 0), .ref q1, .ref q2, .ref q3, .ref q4, .int (nI 0), .ref q6, .ref q7, .int (nI 0), .ref q9, .null])), (q1, .inl (d, 40, .inl (fun _ => nI 0))), (q2, .inl (d, 40, .inl (fun _ => nI 0))), (q3, .inl (d, 40, .inl (fun _ => nI 0))), (q4, .inl (d, 40, .inl (fun _ => nI 0))), (q6, .inl (d, 40, .inl (fun _ => nI 0))), (q7, .inl (d, 4, .inl (fun _ => e1 1))), (q9, .inl (d, 20, .inl (fun _ => nI 0))), (q10, .inl (d, 840, .inl (fun _ => e4 4)))] H := hP
  have hD : va_D A [(q0, .inr (1, [.int (nI 0), .ref q1, .ref q2, .ref q3, .ref q4, .int (nI 0), .ref q6, .ref q7, .int (nI 0), .ref q9, .null])), (q1, .inl (d, 40, .inl (fun _ => nI 0))), (q2, .inl (d, 40, .inl (fun _ => nI 0))), (q3, .inl (d, 40, .inl (fun _ => nI 0))), (q4, .inl (d, 40, .inl (fun _ => nI 0))), (q6, .inl (d, 40, .inl (fun _ => nI 0))), (q7, .inl (d, 4, .inl (fun _ => e1 1))), (q9, .inl (d, 20, .inl (fun _ => nI 0))), (q10, .inl (d, 840, .inl (fun _ => e4 4)))] := hD
  refine va_putF (D := (dC, dI)) (ci := 1) (v := .ref q10) (ty := .array .int) (C := RX1) (T := TX1) (N := 11) hx hb hts in_X1 tyX1 tyX1_ok nmX1 hown hK hP hD hS 0 rfl rfl 10 (by decide) (hts _ q170) (fun _ h9 => h9) rfl hin rfl (by decide +kernel) rfl rfl (Nat.le_of_ble_eq_true rfl) dX1_init_65 (fun H locs hP hD hS => ?_)
  have hP : va_P (dC, dI) vwCl [(q0, .inr (1, [.int (nI 0), .ref q1, .ref q2, .ref q3, .ref q4, .int (nI 0), .ref q6, .ref q7, .int (nI 0), .ref q9, .ref q10])), (q1, .inl (d, 40, .inl (fun _ => nI 0))), (q2, .inl (d, 40, .inl (fun _ => nI 0))), (q3, .inl (d, 40, .inl (fun _ => nI 0))), (q4, .inl (d, 40, .inl (fun _ => nI 0))), (q6, .inl (d, 40, .inl (fun _ => nI 0))), (q7, .inl (d, 4, .inl (fun _ => e1 1))), (q9, .inl (d, 20, .inl (fun _ => nI 0))), (q10, .inl (d, 840, .inl (fun _ => e4 4)))] H := hP
  have hD : va_D A [(q0, .inr (1, [.int (nI 0), .ref q1, .ref q2, .ref q3, .ref q4, .int (nI 0), .ref q6, .ref q7, .int (nI 0), .ref q9, .ref q10])), (q1, .inl (d, 40, .inl (fun _ => nI 0))), (q2, .inl (d, 40, .inl (fun _ => nI 0))), (q3, .inl (d, 40, .inl (fun _ => nI 0))), (q4, .inl (d, 40, .inl (fun _ => nI 0))), (q6, .inl (d, 40, .inl (fun _ => nI 0))), (q7, .inl (d, 4, .inl (fun _ => e1 1))), (q9, .inl (d, 20, .inl (fun _ => nI 0))), (q10, .inl (d, 840, .inl (fun _ => e4 4)))] := hD
  refine W.widen (k := 8) (n := 1904) (Nat.le_of_ble_eq_true rfl) (Nat.le_of_ble_eq_true rfl) ?_
  have S : St dC dI A s.heap H locs (mw (hm1 q0 q1 q2 q3 q4 q6 q7 q9 q10) d sz1) := ⟨hP, hD, hS⟩
  have K : KX cX1_init 2 RX1 p s m _ c A dC dI d := ⟨hx, hb, hml, hown, hts, hK, hA⟩
  refine lv_iconst (v := nI 0) K.1 K.2.1 dX1_init_68 (by decide) ?_
  refine lv_istore_n (lv' := [(1, .int (nI 0)), (0, .ref q0)]) K.1 K.2.1 dX1_init_69 rfl hl (by decide) rfl (fun ls hl => ?_)
  exact lp_init1 (h := (hm1 q0 q1 q2 q3 q4 q6 q7 q9 q10)) K (fun H locs ls S => W.vret hx hb hr (fun t ht hW => ⟨⟨(hm1 q0 q1 q2 q3 q4 q6 q7 q9 q10), rfl, rfl, by rw [ht]; exact S.1, va_K.moved hW.alike hK, S.2.1⟩, S.2.2.F ht⟩) S.2.2.2.2 dX1_init_88) 4 0 _ _ ls (by omega) (by rw [fill_0, setF_self sz1 7 (f := sz1.2 7) rfl]; exact S) hl
end
section
set_option maxRecDepth 100000
/-! THE PLAIN LAW, 5: PegTables and its reference go together -/
def J (σ τ : PT) : Prop := CW σ ∧ CO σ ∧ MW τ ∧ (σ.1 0 ≤ 40 ∧ σ.1 1 ≤ σ.1 0 ∧ σ.1 6 ≤ σ.1 1 ∧ ∀ i, i < σ.1 6 → σ.2 7 i < σ.1 1) ∧ (σ.1 0 = τ.1 0 ∧ σ.1 6 = τ.1 5) ∧ ∃ φ : Nat → Nat, Sim (gP σ) (gM τ) φ ∧ ∀ i, i < σ.1 6 → τ.2 6 i = φ (σ.2 7 i)
theorem co_forget (σ : PT) : CO (pForget σ) := fun i hi => Or.inl (show (if i < 840 then 1 else σ.2 11 i) = 1 from if_pos hi)
theorem J_len {σ τ : PT} (h : J σ τ) : σ.1 9 = τ.1 8 := by
  obtain ⟨-, -, -, -, -, φ, hS, -⟩ := h
  exact hS.1
/-- the rules answer the same -/
theorem J_mv {σ τ : PT} (h : J σ τ) {j p : Nat} (hj : j < 4) : mv (gP σ) j p = mv (gM τ) j p := by
  obtain ⟨-, -, -, -, -, φ, hS, -⟩ := h
  unfold mv
  rcases hS.2.2.2 j hj with ⟨a, b⟩ | ⟨a, b, c⟩
  · rw [if_pos a, if_pos b]
  · rw [if_neg (by omega), if_neg (by omega), gval_sim hS p (show gR (gP σ) j - 1 < gT (gP σ) by omega), c, Nat.add_sub_cancel]
theorem J_ask {σ τ u v : PT} (h : J σ τ) (hf : Fr u σ) (hc : CW u) (ho : CO u) (hm : Fm v τ) : J u v := by
  obtain ⟨O, rfl⟩ := hm
  obtain ⟨-, -, h3, h4, h5, φ, hS, hφ⟩ := h
  have e0 : u.1 0 = σ.1 0 := hf.1 0 (by decide)
  have e1 : u.1 1 = σ.1 1 := hf.1 1 (by decide)
  have e6 : u.1 6 = σ.1 6 := hf.1 6 (by decide)
  have e7 : u.2 7 = σ.2 7 := hf.2 7 (by decide) (by decide) (by decide) (by decide)
  refine ⟨hc, ho, h3, ?_, ?_, φ, ?_, ?_⟩
  · rw [e0, e1, e6, e7]; exact h4
  · rw [e0, e6]; exact h5
  · rw [fr_gP hf]; exact hS
  · rw [e6, e7]; exact hφ
theorem J_erase {σ τ : PT} (h : J σ τ) : J (pForget (setI σ 9 0)) (setI τ 8 0) := by
  obtain ⟨h1, -, h3, h4, h5, φ, hS, hφ⟩ := h
  refine ⟨⟨h1.1, Nat.zero_le _, h1.2.2⟩, co_forget _, ⟨h3.1, Nat.zero_le _, h3.2.2⟩, h4, h5, φ, ⟨rfl, ?_, hS.2.2.1, hS.2.2.2⟩, hφ⟩
  intro i hi
  exact absurd hi (Nat.not_lt_zero i)
theorem J_type {σ τ : PT} (h : J σ τ) {x : Nat} (hx : x < 4) (hl : σ.1 9 < 20) : J (pType σ x) (mType τ x) := by
  have hlen := J_len h
  obtain ⟨h1, -, h3, h4, h5, φ, hS, hφ⟩ := h
  refine ⟨⟨h1.1, ?_, h1.2.2.1, h1.2.2.2.1, ?_⟩, co_forget _, ⟨h3.1, ?_, h3.2.2.1, h3.2.2.2.1, ?_⟩, h4, h5, φ, ⟨?_, ?_, hS.2.2.1, hS.2.2.2⟩, hφ⟩
  · show σ.1 9 + 1 ≤ 20
    omega
  · intro i hi
    show up (σ.2 10) (σ.1 9) x i < 4
    by_cases q : i = σ.1 9
    · rw [q, up_s]; exact hx
    · rw [up_n q]; exact h1.2.2.2.2 i hi
  · show τ.1 8 + 1 ≤ 20
    omega
  · intro i hi
    show up (τ.2 9) (τ.1 8) x i < 4
    by_cases q : i = τ.1 8
    · rw [q, up_s]; exact hx
    · rw [up_n q]; exact h3.2.2.2.2 i hi
  · show σ.1 9 + 1 = τ.1 8 + 1
    omega
  · intro i hi
    have hi : i < σ.1 9 + 1 := hi
    show up (σ.2 10) (σ.1 9) x i = up (τ.2 9) (τ.1 8) x i
    rw [← hlen]
    by_cases q : i = σ.1 9
    · rw [q, up_s, up_s]
    · rw [up_n q, up_n q]
      exact hS.2.1 i (show i < σ.1 9 by omega)
theorem J_clear {σ τ : PT} (h : J σ τ) : J (pClear σ) (mClear τ) := by
  obtain ⟨h1, -, h3, h4, h5, φ, hS, hφ⟩ := h
  refine ⟨⟨Nat.zero_le _, h1.2.1, ?_, ?_, h1.2.2.2.2⟩, co_forget _, ⟨Nat.zero_le _, h3.2.1, h3.2.2.1, ?_, h3.2.2.2.2⟩, ⟨Nat.zero_le _, Nat.le_refl _, Nat.le_refl _, ?_⟩, ⟨rfl, rfl⟩, φ, ⟨hS.1, hS.2.1, ?_, ?_⟩, ?_⟩
  · intro n hn
    exact absurd hn (Nat.not_lt_zero n)
  · intro r hr
    show (if r < 4 then 0 else σ.2 8 r) ≤ 0
    rw [if_pos hr]
    exact Nat.le_refl 0
  · intro r hr
    show (if r < 4 then 0 else τ.2 7 r) ≤ 40
    rw [if_pos hr]
    exact Nat.zero_le _
  · intro i hi
    exact absurd hi (Nat.not_lt_zero i)
  · intro n hn
    exact absurd hn (Nat.not_lt_zero n)
  · intro r hr
    left
    exact ⟨show (if r < 4 then 0 else σ.2 8 r) = 0 from if_pos hr, show (if r < 4 then 0 else τ.2 7 r) = 0 from if_pos hr⟩
  · intro i hi
    exact absurd hi (Nat.not_lt_zero i)
theorem J_start : J (pClear sz0) (mClear sz1) := by
  refine ⟨⟨Nat.zero_le _, Nat.zero_le _, ?_, ?_, ?_⟩, co_forget _, ⟨Nat.zero_le _, Nat.zero_le _, ?_, ?_, ?_⟩, ⟨Nat.zero_le _, Nat.le_refl _, Nat.le_refl _, ?_⟩, ⟨rfl, rfl⟩, id, ⟨rfl, ?_, ?_, ?_⟩, ?_⟩
  · intro n hn
    exact absurd hn (Nat.not_lt_zero n)
  · intro r hr
    show (if r < 4 then 0 else sz0.2 8 r) ≤ 0
    rw [if_pos hr]
    exact Nat.le_refl 0
  · intro i _
    show (0 : Nat) < 4
    decide
  · intro t _
    exact ⟨show (0 : Nat) ≤ 10 by decide, show (0 : Nat) < 4 by decide, show (0 : Nat) < 40 by decide, show (0 : Nat) < 40 by decide⟩
  · intro r hr
    show (if r < 4 then 0 else sz1.2 7 r) ≤ 40
    rw [if_pos hr]
    exact Nat.zero_le _
  · intro i _
    show (0 : Nat) < 4
    decide
  · intro i hi
    exact absurd hi (Nat.not_lt_zero i)
  · intro i hi
    exact absurd hi (Nat.not_lt_zero i)
  · intro n hn
    exact absurd hn (Nat.not_lt_zero n)
  · intro r hr
    left
    exact ⟨show (if r < 4 then 0 else sz0.2 8 r) = 0 from if_pos hr, show (if r < 4 then 0 else sz1.2 7 r) = 0 from if_pos hr⟩
  · intro i hi
    exact absurd hi (Nat.not_lt_zero i)
/-- DEFINE -/
theorem J_def {σ τ : PT} (h : J σ τ) {a : Nat} (ha : a < 4) (hs : 1 ≤ σ.1 6) (ht : σ.1 0 < 40) : J (pDef σ a) (mTok τ 10 a) := by
  obtain ⟨h1, -, h3, ⟨g1, g2, g3, g4⟩, ⟨k1, k2⟩, φ, hS, hφ⟩ := h
  have hst := g4 (σ.1 6 - 1) (by omega)
  have hms := hφ (σ.1 6 - 1) (by omega)
  have hlt := (hS.2.2.1 (σ.2 7 (σ.1 6 - 1)) hst).1
  have hlt : φ (σ.2 7 (σ.1 6 - 1)) < τ.1 0 := hlt
  have e : mTok τ 10 a = setI (setA (setI (setA (mOne τ 10 a) 4 (τ.1 0) (τ.2 6 (τ.1 5 - 1))) 5 (τ.1 5 - 1)) 7 a (τ.2 6 (τ.1 5 - 1) + 1)) 0 (τ.1 0 + 1) := if_pos rfl
  rw [e, ← k2, hms]
  generalize hu : setI (setA (setI (setA (mOne τ 10 a) 4 (τ.1 0) (φ (σ.2 7 (σ.1 6 - 1)))) 5 (σ.1 6 - 1)) 7 a (φ (σ.2 7 (σ.1 6 - 1)) + 1)) 0 (τ.1 0 + 1) = u
  have d0 : u.1 0 = τ.1 0 + 1 := by rw [← hu]; rfl
  have d5 : u.1 5 = σ.1 6 - 1 := by rw [← hu]; rfl
  have d8 : u.1 8 = τ.1 8 := by rw [← hu]; rfl
  have a1 : u.2 1 = up (τ.2 1) (τ.1 0) 10 := by rw [← hu]; rfl
  have a2 : u.2 2 = up (τ.2 2) (τ.1 0) a := by rw [← hu]; rfl
  have a3' : u.2 3 = τ.2 3 := by rw [← hu]; rfl
  have a4 : u.2 4 = up (τ.2 4) (τ.1 0) (φ (σ.2 7 (σ.1 6 - 1))) := by rw [← hu]; rfl
  have a6 : u.2 6 = τ.2 6 := by rw [← hu]; rfl
  have a7 : u.2 7 = up (τ.2 7) a (φ (σ.2 7 (σ.1 6 - 1)) + 1) := by rw [← hu]; rfl
  have a9 : u.2 9 = τ.2 9 := by rw [← hu]; rfl
  refine ⟨⟨h1.1, h1.2.1, h1.2.2.1, ?_, h1.2.2.2.2⟩, co_forget _, ⟨?_, ?_, ?_, ?_, ?_⟩, ⟨?_, ?_, ?_, ?_⟩, ⟨?_, ?_⟩, φ, ⟨?_, ?_, ?_, ?_⟩, ?_⟩
  · intro r hr
    show up (σ.2 8) a (σ.2 7 (σ.1 6 - 1) + 1) r ≤ σ.1 1
    by_cases q : r = a
    · rw [q, up_s]; omega
    · rw [up_n q]; exact h1.2.2.2.1 r hr
  · rw [d0]; omega
  · rw [d8]; exact h3.2.1
  · intro t ht'
    have b := h3.2.2.1 t ht'
    rw [a1, a2, a3', a4]
    by_cases q : t = τ.1 0
    · rw [q, up_s, up_s, up_s]
      rw [q] at b
      exact ⟨Nat.le_refl _, ha, b.2.2.1, by omega⟩
    · rw [up_n q, up_n q, up_n q]
      exact b
  · intro r hr
    rw [a7]
    by_cases q : r = a
    · rw [q, up_s]; omega
    · rw [up_n q]; exact h3.2.2.2.1 r hr
  · rw [a9]; exact h3.2.2.2.2
  · show σ.1 0 + 1 ≤ 40
    omega
  · show σ.1 1 ≤ σ.1 0 + 1
    omega
  · show σ.1 6 - 1 ≤ σ.1 1
    omega
  · intro i hi
    have hi : i < σ.1 6 - 1 := hi
    exact g4 i (by omega)
  · show σ.1 0 + 1 = u.1 0
    rw [d0]; omega
  · show σ.1 6 - 1 = u.1 5
    rw [d5]
  · show σ.1 9 = u.1 8
    rw [d8]; exact hS.1
  · intro i hi
    show σ.2 10 i = u.2 9 i
    rw [a9]; exact hS.2.1 i hi
  · intro n hn
    have b := hS.2.2.1 n hn
    have b1 : φ n < τ.1 0 := b.1
    show φ n < u.1 0 ∧ u.2 1 (φ n) = σ.2 2 n ∧ u.2 2 (φ n) = σ.2 3 n ∧ σ.2 3 n < 4 ∧ (4 ≤ σ.2 2 n → gS (gP σ) n < σ.1 1 ∧ u.2 4 (φ n) = φ (gS (gP σ) n)) ∧ ((σ.2 2 n = 4 ∨ σ.2 2 n = 5) → gF (gP σ) n < σ.1 1 ∧ u.2 3 (φ n) = φ (gF (gP σ) n))
    rw [d0, a1, a2, a3', a4, up_n (by omega), up_n (by omega), up_n (by omega)]
    exact ⟨by omega, b.2⟩
  · intro r hr
    show (up (σ.2 8) a (σ.2 7 (σ.1 6 - 1) + 1) r = 0 ∧ u.2 7 r = 0) ∨ (1 ≤ up (σ.2 8) a (σ.2 7 (σ.1 6 - 1) + 1) r ∧ up (σ.2 8) a (σ.2 7 (σ.1 6 - 1) + 1) r ≤ σ.1 1 ∧ u.2 7 r = φ (up (σ.2 8) a (σ.2 7 (σ.1 6 - 1) + 1) r - 1) + 1)
    rw [a7]
    by_cases q : r = a
    · rw [q, up_s, up_s]
      right
      exact ⟨by omega, by omega, by rw [Nat.add_sub_cancel]⟩
    · rw [up_n q, up_n q]
      exact hS.2.2.2 r hr
  · intro i hi
    have hi : i < σ.1 6 - 1 := hi
    show u.2 6 i = φ (σ.2 7 i)
    rw [a6]
    exact hφ i (by omega)
/-- a new expression -/
theorem J_node {σ τ u : PT} {k a t lf rt : Nat} (h : J σ τ) (hk : k ≤ 9) (ha : a < 4) (hs : t ≤ σ.1 6) (ht : σ.1 0 < 40)
    (d0 : u.1 0 = τ.1 0 + 1) (d5 : u.1 5 = τ.1 5 - t + 1) (d8 : u.1 8 = τ.1 8) (a1 : u.2 1 = up (τ.2 1) (τ.1 0) k) (a2 : u.2 2 = up (τ.2 2) (τ.1 0) a)
    (a3' : ∀ i, i ≠ τ.1 0 → u.2 3 i = τ.2 3 i) (b3 : u.2 3 (τ.1 0) < 40) (a4 : ∀ i, i ≠ τ.1 0 → u.2 4 i = τ.2 4 i) (b4 : u.2 4 (τ.1 0) < 40)
    (a6 : u.2 6 = up (τ.2 6) (τ.1 5 - t) (τ.1 0)) (a7 : u.2 7 = τ.2 7) (a9 : u.2 9 = τ.2 9)
    (h45 : (k = 4 ∨ k = 5) → ∃ i j, i < σ.1 6 ∧ j < σ.1 6 ∧ lf = σ.2 7 i + 1 ∧ rt = σ.2 7 j + 1 ∧ u.2 3 (τ.1 0) = τ.2 6 i ∧ u.2 4 (τ.1 0) = τ.2 6 j)
    (h69 : 6 ≤ k → ∃ i, i < σ.1 6 ∧ lf = σ.2 7 i + 1 ∧ u.2 4 (τ.1 0) = τ.2 6 i) : J (pNode σ k a t lf rt) u := by
  obtain ⟨h1, h2, h3, ⟨g1, g2, g3, g4⟩, ⟨k1, k2⟩, φ, hS, hφ⟩ := h
  generalize hv : pNode σ k a t lf rt = v
  have c0 : v.1 0 = σ.1 0 + 1 := by rw [← hv]; rfl
  have c1 : v.1 1 = σ.1 1 + 1 := by rw [← hv]; rfl
  have c6 : v.1 6 = σ.1 6 - t + 1 := by rw [← hv]; rfl
  have c9 : v.1 9 = σ.1 9 := by rw [← hv]; rfl
  have f2 : v.2 2 = up (σ.2 2) (σ.1 1) k := by rw [← hv]; rfl
  have f3 : v.2 3 = up (σ.2 3) (σ.1 1) a := by rw [← hv]; rfl
  have f4 : v.2 4 = up (σ.2 4) (σ.1 1) lf := by rw [← hv]; rfl
  have f5 : v.2 5 = up (σ.2 5) (σ.1 1) rt := by rw [← hv]; rfl
  have f7 : v.2 7 = up (σ.2 7) (σ.1 6 - t) (σ.1 1) := by rw [← hv]; rfl
  have f8 : v.2 8 = σ.2 8 := by rw [← hv]; rfl
  have f10 : v.2 10 = σ.2 10 := by rw [← hv]; rfl
  have f11 : v.2 11 = σ.2 11 := by rw [← hv]; rfl
  -- the new node's parts
  have n45 : (k = 4 ∨ k = 5) → 1 ≤ lf ∧ lf ≤ σ.1 1 ∧ 1 ≤ rt ∧ rt ≤ σ.1 1 ∧ u.2 3 (τ.1 0) = φ (lf - 1) ∧ u.2 4 (τ.1 0) = φ (rt - 1) := by
    intro z
    obtain ⟨i, j, z1, z2, z3, z4, z5, z6⟩ := h45 z
    have := g4 i z1
    have := g4 j z2
    rw [z5, z6, hφ i z1, hφ j z2, z3, z4, Nat.add_sub_cancel, Nat.add_sub_cancel]
    refine ⟨by omega, by omega, by omega, by omega, rfl, rfl⟩
  have n69 : 6 ≤ k → 1 ≤ lf ∧ lf ≤ σ.1 1 ∧ u.2 4 (τ.1 0) = φ (lf - 1) := by
    intro z
    obtain ⟨i, z1, z3, z5⟩ := h69 z
    have := g4 i z1
    rw [z5, hφ i z1, z3, Nat.add_sub_cancel]
    refine ⟨by omega, by omega, rfl⟩
  have oldS : ∀ n, n < σ.1 1 → gS (gP v) n = gS (gP σ) n := by
    intro n hn
    rw [gP_S, gP_S, f2, f4, f5, up_n (by omega), up_n (by omega), up_n (by omega)]
  have oldF : ∀ n, n < σ.1 1 → gF (gP v) n = gF (gP σ) n := by
    intro n hn
    rw [gP_F, gP_F, f4, up_n (by omega)]
  have oldC : ∀ n, n < σ.1 1 → gC (gP v) n = gC (gP σ) n := by
    intro n hn
    rw [gP_C, gP_C, f2, up_n (by omega)]
  have oldA : ∀ n, n < σ.1 1 → gA (gP v) n = gA (gP σ) n := by
    intro n hn
    rw [gP_A, gP_A, f3, up_n (by omega)]
  have newC : gC (gP v) (σ.1 1) = k := by rw [gP_C, f2, up_s]
  have newA : gA (gP v) (σ.1 1) = a := by rw [gP_A, f3, up_s]
  have newF : gF (gP v) (σ.1 1) = lf - 1 := by rw [gP_F, f4, up_s]
  have newS2 : (k = 4 ∨ k = 5) → gS (gP v) (σ.1 1) = rt - 1 := by
    intro z
    rw [gP_S2 (by rw [f2, up_s]; exact z), f5, up_s]
  have newS1 : ¬ (k = 4 ∨ k = 5) → gS (gP v) (σ.1 1) = lf - 1 := by
    intro z
    rw [gP_S1 (by rw [f2, up_s]; exact z), f4, up_s]
  -- the old grammar lies in the new one
  have hid : Sim (gP σ) (gP v) id := by
    refine ⟨by rw [gP_L, gP_L, c9], fun i _ => by rw [gP_X, gP_X, f10], ?_, ?_⟩
    · intro n hn
      have hn' : n < σ.1 1 := hn
      have b := h1.2.2.1 n hn'
      refine ⟨by rw [gP_T, c1]; exact Nat.lt_succ_of_lt hn', oldC n hn', oldA n hn', b.2.1, fun z => ⟨?_, oldS n hn'⟩, fun z => ⟨?_, oldF n hn'⟩⟩
      · have z : 4 ≤ σ.2 2 n := z
        have := b.2.2.1 z
        rw [gP_T]
        by_cases q : σ.2 2 n = 4 ∨ σ.2 2 n = 5
        · have := b.2.2.2 q
          rw [gP_S2 q]; omega
        · rw [gP_S1 q]; omega
      · have z : σ.2 2 n = 4 ∨ σ.2 2 n = 5 := z
        have := b.2.2.1 (by omega)
        rw [gP_T, gP_F]; omega
    · intro r hr
      rw [gP_R, gP_R, gP_T, f8]
      have := h1.2.2.2.1 r hr
      by_cases q : σ.2 8 r = 0
      · exact Or.inl ⟨q, q⟩
      · right
        exact ⟨by omega, this, by show σ.2 8 r = σ.2 8 r - 1 + 1; omega⟩
  refine ⟨⟨?_, ?_, ?_, ?_, ?_⟩, ?_, ⟨?_, ?_, ?_, ?_, ?_⟩, ⟨?_, ?_, ?_, ?_⟩, ⟨?_, ?_⟩, up φ (σ.1 1) (τ.1 0), ⟨?_, ?_, ?_, ?_⟩, ?_⟩
  · rw [c1]; omega
  · rw [c9]; exact h1.2.1
  · intro n hn
    rw [c1] at hn
    rw [f2, f3, f4, f5, c1]
    by_cases q : n = σ.1 1
    · rw [q, up_s, up_s, up_s, up_s]
      refine ⟨hk, ha, fun z => ?_, fun z => ?_⟩
      · by_cases z2 : k = 4 ∨ k = 5
        · have := n45 z2; omega
        · have := n69 (by omega); omega
      · have := n45 z; omega
    · rw [up_n q, up_n q, up_n q, up_n q]
      have b := h1.2.2.1 n (by omega)
      refine ⟨b.1, b.2.1, fun z => ?_, fun z => ?_⟩
      · have := b.2.2.1 z; omega
      · have := b.2.2.2 z; omega
  · intro r hr
    rw [f8, c1]
    have := h1.2.2.2.1 r hr
    omega
  · rw [f10]; exact h1.2.2.2.2
  · intro i hi
    rw [f11]
    rcases h2 i hi with z | ⟨z1, z2⟩
    · exact Or.inl z
    · right
      have z3 : i / 21 < σ.1 1 := z1.1
      have z4 : i % 21 ≤ σ.1 9 := z1.2
      refine ⟨⟨by rw [gP_T, c1]; omega, by rw [gP_L, c9]; exact z4⟩, ?_⟩
      rw [z2]
      exact gval_sim hid (i % 21) z1.1
  · rw [d0]; omega
  · rw [d8]; exact h3.2.1
  · intro i hi
    have b := h3.2.2.1 i hi
    rw [a1, a2]
    by_cases q : i = τ.1 0
    · rw [q, up_s, up_s]
      exact ⟨by omega, ha, b3, b4⟩
    · rw [up_n q, up_n q, a3' i q, a4 i q]
      exact b
  · rw [a7]; exact h3.2.2.2.1
  · rw [a9]; exact h3.2.2.2.2
  · rw [c0]; omega
  · rw [c1, c0]; omega
  · rw [c6, c1]; omega
  · intro i hi
    rw [c6] at hi
    rw [f7, c1]
    by_cases q : i = σ.1 6 - t
    · rw [q, up_s]; omega
    · rw [up_n q]
      have := g4 i (by omega)
      omega
  · rw [c0, d0, k1]
  · rw [c6, d5, k2]
  · rw [gP_L, c9, gM_L, d8]; exact hS.1
  · intro i hi
    rw [gP_L, c9] at hi
    rw [gP_X, f10, gM_X, a9]
    exact hS.2.1 i hi
  · intro n hn
    rw [gP_T, c1] at hn
    rw [gM_T, gM_C, gM_A, gM_S, gM_F, gP_T, c1, d0, a1, a2]
    by_cases q : n = σ.1 1
    · rw [q, up_s, up_s, up_s, newC, newA, newF]
      refine ⟨by omega, rfl, rfl, ha, fun z => ?_, fun z => ?_⟩
      · by_cases z2 : k = 4 ∨ k = 5
        · have m := n45 z2
          rw [newS2 z2, up_n (show rt - 1 ≠ σ.1 1 by omega)]
          exact ⟨by omega, m.2.2.2.2.2⟩
        · have m := n69 (by omega)
          rw [newS1 z2, up_n (show lf - 1 ≠ σ.1 1 by omega)]
          exact ⟨by omega, m.2.2⟩
      · have m := n45 z
        rw [up_n (show lf - 1 ≠ σ.1 1 by omega)]
        exact ⟨by omega, m.2.2.2.2.1⟩
    · have hn1 : n < σ.1 1 := by omega
      have b := hS.2.2.1 n hn1
      have b1 : φ n < τ.1 0 := b.1
      rw [oldC n hn1, oldA n hn1, oldS n hn1, oldF n hn1, up_n q, up_n (show φ n ≠ τ.1 0 by omega), up_n (show φ n ≠ τ.1 0 by omega), a3' _ (by omega), a4 _ (by omega)]
      refine ⟨by omega, b.2.1, b.2.2.1, b.2.2.2.1, fun z => ?_, fun z => ?_⟩
      · have m := b.2.2.2.2.1 z
        have m1 : gS (gP σ) n < σ.1 1 := m.1
        rw [up_n (show gS (gP σ) n ≠ σ.1 1 by omega)]
        exact ⟨by omega, m.2⟩
      · have m := b.2.2.2.2.2 z
        have m1 : gF (gP σ) n < σ.1 1 := m.1
        rw [up_n (show gF (gP σ) n ≠ σ.1 1 by omega)]
        exact ⟨by omega, m.2⟩
  · intro r hr
    rw [gP_R, f8, gM_R, a7, gP_T, c1]
    have m := h1.2.2.2.1 r hr
    rcases hS.2.2.2 r hr with z | ⟨z1, z2, z3⟩
    · exact Or.inl z
    · right
      have z1 : 1 ≤ σ.2 8 r := z1
      have z3 : τ.2 7 r = φ (σ.2 8 r - 1) + 1 := z3
      rw [up_n (show σ.2 8 r - 1 ≠ σ.1 1 by omega)]
      exact ⟨z1, by omega, z3⟩
  · intro i hi
    rw [c6] at hi
    rw [a6, f7, ← k2]
    by_cases q : i = σ.1 6 - t
    · rw [q, up_s, up_s, up_s]
    · have m := g4 i (by omega)
      rw [up_n q, up_n q, up_n (show σ.2 7 i ≠ σ.1 1 by omega)]
      exact hφ i (by omega)
theorem J_tok {σ τ : PT} (h : J σ τ) {k a : Nat} (hk : k ≤ 10) (ha : a < 4) (hs : tk k ≤ σ.1 6) (ht : σ.1 0 < 40) : J (pTok σ k a) (mTok τ k a) := by
  have h3 := h.2.2.1
  have k1 := h.2.2.2.2.1.1
  have k2 := h.2.2.2.2.1.2
  have hstk : ∀ i, i < σ.1 6 → τ.2 6 i < 40 := by
    intro i hi
    obtain ⟨-, -, -, ⟨g1, g2, g3, g4⟩, -, φ, hS, hφ⟩ := h
    rw [hφ i hi]
    have : φ (σ.2 7 i) < τ.1 0 := (hS.2.2.1 _ (g4 i hi)).1
    omega
  have b := h3.2.2.1 (τ.1 0) (by omega)
  by_cases q : k = 10
  · subst q
    have e : pTok σ 10 a = pDef σ a := if_pos rfl
    rw [e]
    rw [tk_hi (by decide)] at hs
    exact J_def h ha hs ht
  · unfold pTok mTok
    rw [if_neg q, if_neg q]
    by_cases q3 : k ≤ 3
    · rw [if_pos q3, if_pos q3]
      exact J_node (t := 0) h (by omega) ha (Nat.zero_le _) ht rfl rfl rfl rfl rfl (fun _ _ => rfl) b.2.2.1 (fun _ _ => rfl) b.2.2.2 rfl rfl rfl (fun z => by omega) (fun z => by omega)
    · rw [if_neg q3, if_neg q3]
      by_cases q5 : k ≤ 5
      · rw [if_pos q5, if_pos q5]
        rw [tk_mid (by omega) q5] at hs
        refine J_node (t := 2) h (by omega) ha hs ht rfl rfl rfl rfl rfl (fun i hi => up_n hi) ?_ (fun i hi => up_n hi) ?_ rfl rfl rfl (fun z => ⟨σ.1 6 - 2, σ.1 6 - 1, by omega, by omega, rfl, rfl, ?_, ?_⟩) (fun z => by omega)
        · show up (τ.2 3) (τ.1 0) (τ.2 6 (τ.1 5 - 2)) (τ.1 0) < 40
          rw [up_s]; exact hstk _ (by omega)
        · show up (τ.2 4) (τ.1 0) (τ.2 6 (τ.1 5 - 1)) (τ.1 0) < 40
          rw [up_s]; exact hstk _ (by omega)
        · show up (τ.2 3) (τ.1 0) (τ.2 6 (τ.1 5 - 2)) (τ.1 0) = _
          rw [up_s, k2]
        · show up (τ.2 4) (τ.1 0) (τ.2 6 (τ.1 5 - 1)) (τ.1 0) = _
          rw [up_s, k2]
      · rw [if_neg q5, if_neg q5]
        rw [tk_hi (by omega)] at hs
        refine J_node (t := 1) h (by omega) ha hs ht rfl rfl rfl rfl rfl (fun _ _ => rfl) b.2.2.1 (fun i hi => up_n hi) ?_ rfl rfl rfl (fun z => by omega) (fun z => ⟨σ.1 6 - 1, by omega, rfl, ?_⟩)
        · show up (τ.2 4) (τ.1 0) (τ.2 6 (τ.1 5 - 1)) (τ.1 0) < 40
          rw [up_s]; exact hstk _ (by omega)
        · show up (τ.2 4) (τ.1 0) (τ.2 6 (τ.1 5 - 1)) (τ.1 0) = _
          rw [up_s, k2]
end
section
set_option maxRecDepth 100000
/-! THE PLAIN LAW, 6: each call answers the same and keeps the two together -/
theorem law_tok {σ τ u v : PT} {x y r1 r2 : Int32} (h : J σ τ) (h1 : Tok (σ.1 0) (σ.1 6) (fun k r u => r = nI (u.1 6) ∧ u = pTok σ k (a3 y)) σ x r1 u) (h2 : Tok (τ.1 0) (τ.1 5) (fun k r u => r = nI (u.1 5) ∧ u = mTok τ k (a3 y)) τ x r2 v) : r1 = r2 ∧ J u v := by
  have k1 := h.2.2.2.2.1.1
  have k2 := h.2.2.2.2.1.2
  rw [← k1, ← k2] at h2
  by_cases q : ∃ k, k ≤ 10 ∧ x = nI k ∧ tk k ≤ σ.1 6 ∧ σ.1 0 < 40
  · obtain ⟨k, a, b, c, d⟩ := q
    obtain ⟨e1, e2⟩ := h1.1 k a b c d
    obtain ⟨f1, f2⟩ := h2.1 k a b c d
    have hj := J_tok h a (a3_lt y) c d
    rw [← e2, ← f2] at hj
    exact ⟨by rw [e1, f1, hj.2.2.2.2.1.2], hj⟩
  · have z : ∀ k, k ≤ 10 → x = nI k → tk k ≤ σ.1 6 → σ.1 0 < 40 → False := fun k a b c d => q ⟨k, a, b, c, d⟩
    obtain ⟨e1, e2⟩ := h1.2 z
    obtain ⟨f1, f2⟩ := h2.2 z
    rw [e1, f1, e2, f2]
    exact ⟨rfl, h⟩
theorem law_type {σ τ u v : PT} {x r1 r2 : Int32} (h : J σ τ) (h1 : (σ.1 9 = 20 → r1 = -1 ∧ u = σ) ∧ (σ.1 9 < 20 → r1 = nI (σ.1 9 + 1) ∧ u = pType σ (a3 x))) (h2 : (τ.1 8 = 20 → r2 = -1 ∧ v = τ) ∧ (τ.1 8 < 20 → r2 = nI (τ.1 8 + 1) ∧ v = mType τ (a3 x))) : r1 = r2 ∧ J u v := by
  have k := J_len h
  rw [← k] at h2
  have l := h.1.2.1
  by_cases q : σ.1 9 = 20
  · obtain ⟨e1, e2⟩ := h1.1 q
    obtain ⟨f1, f2⟩ := h2.1 q
    rw [e1, f1, e2, f2]
    exact ⟨rfl, h⟩
  · obtain ⟨e1, e2⟩ := h1.2 (by omega)
    obtain ⟨f1, f2⟩ := h2.2 (by omega)
    rw [e1, f1, e2, f2]
    exact ⟨rfl, J_type h (a3_lt x) (by omega)⟩
theorem law_match {σ τ u v : PT} {x y r1 r2 : Int32} (h : J σ τ) (h1 : Mres (gP σ) x y r1 ∧ Fr u σ ∧ CW u ∧ CO u) (h2 : Mres (gM τ) x y r2 ∧ Fm v τ) : r1 = r2 ∧ J u v :=
  ⟨mres_eq (G := gP σ) (G' := gM τ) (J_len h) (fun _ _ hj _ => J_mv h hj) h1.1 h2.1, J_ask h h1.2.1 h1.2.2.1 h1.2.2.2 h2.2⟩
theorem law_matches {σ τ u v : PT} {x r1 r2 : Int32} (h : J σ τ) (h1 : Ask (fun j r => r = nI (cMat (gP σ) j (σ.1 9 + 1))) x r1 ∧ Fr u σ ∧ CW u ∧ CO u) (h2 : Ask (fun j r => r = nI (cMat (gM τ) j (τ.1 8 + 1))) x r2 ∧ Fm v τ) : r1 = r2 ∧ J u v := by
  refine ⟨ask_eq (fun j hj e1 e2 => ?_) h1.1 h2.1, J_ask h h1.2.1 h1.2.2.1 h1.2.2.2 h2.2⟩
  rw [e1, e2, ← J_len h]
  exact congrArg nI (sm_cong fun p _ => by rw [J_mv h hj])
theorem law_stuck {σ τ u v : PT} {x r1 r2 : Int32} (h : J σ τ) (h1 : Ask (fun j r => r = nI (cStk (gP σ) j (σ.1 9 + 1))) x r1 ∧ Fr u σ ∧ CW u ∧ CO u) (h2 : Ask (fun j r => r = nI (cStk (gM τ) j (τ.1 8 + 1))) x r2 ∧ Fm v τ) : r1 = r2 ∧ J u v := by
  refine ⟨ask_eq (fun j hj e1 e2 => ?_) h1.1 h2.1, J_ask h h1.2.1 h1.2.2.1 h1.2.2.2 h2.2⟩
  rw [e1, e2, ← J_len h]
  exact congrArg nI (sm_cong fun p _ => by rw [J_mv h hj])
theorem law_whole {σ τ u v : PT} {x r1 r2 : Int32} (h : J σ τ) (h1 : Ask (fun j r => r = nI (if mv (gP σ) j 0 = σ.1 9 + 4 then 1 else 0)) x r1 ∧ Fr u σ ∧ CW u ∧ CO u) (h2 : Ask (fun j r => r = nI (if mv (gM τ) j 0 = τ.1 8 + 4 then 1 else 0)) x r2 ∧ Fm v τ) : r1 = r2 ∧ J u v := by
  refine ⟨ask_eq (fun j hj e1 e2 => ?_) h1.1 h2.1, J_ask h h1.2.1 h1.2.2.1 h1.2.2.2 h2.2⟩
  rw [e1, e2, ← J_len h, J_mv h hj]
theorem law_find {σ τ u v : PT} {x y r1 r2 : Int32} (h : J σ τ) (h1 : Ask (Fnd (gP σ) y) x r1 ∧ Fr u σ ∧ CW u ∧ CO u) (h2 : Ask (Fnd (gM τ) y) x r2 ∧ Fm v τ) : r1 = r2 ∧ J u v :=
  ⟨ask_eq (fun _ hj e1 e2 => fnd_eq (G := gP σ) (G' := gM τ) (J_len h) (fun _ _ => J_mv h hj) e1 e2) h1.1 h2.1, J_ask h h1.2.1 h1.2.2.1 h1.2.2.2 h2.2⟩
/-! calls from the law: the other object stays -/
def R_law : String := "PegTablesLaw"
section LAWC
variable {p : Program} {l : Launch} {e : Env} {R : Room} {s : State} {m : MethodId} {args : Array Value} {below : List Frame} {meth : Method} {c : Code} {H : Heap} {locs : List Loc} {cells slots : Nat} {Q : State → Prop}
variable {cc : ByteArray} {pc nL : Nat} {ls : Array Slot} {rest st : List Value} {A : Nat → Prop} {dC : Nat → ClassId} {dI : Nat → Nat → Nat} {d : ClassId}
variable {h g : Nat → Nat} {y : MethodName} {bytes : ByteArray} {maxL index n : Nat} {rm : Room} {as : List Value} {σ τ : PT}
theorem lc0I {post : Int32 → PT → Prop} (K : KX cc nL R_law p s m args c A dC dI d) (S : St dC dI A s.heap H locs (pw h d σ ++ mw g d τ)) (hM : CI (h 0) (pw h d) y bytes maxL rm d as σ post) (cw : CallW R s args R_law RX0 index y bytes maxL (some .int) (ws_ y bytes maxL (some .int)) rm 0 0 n) (hn : as.length = n) (hls : ls.size = nL) (hst : st = as.reverse ++ .ref (h 0) :: rest) (hW : (rest.map fun v => v.category).sum ≤ 8) (hdg : decode cc pc = .ok (.invokevirtual index, 3)) (hcs : cells ≤ R.cells ∧ slots ≤ R.slots)
    (kk : ∀ (r : Int32) (u : PT) (H1 : Heap) (locs1 : List Loc), St dC dI A s.heap H1 locs1 (pw h d u ++ mw g d τ) → post r u → W p l e R s m args below meth c H1 locs1 cells slots Q (F0 m (pc + 3) ls (.int r :: rest))) : W p l e R s m args below meth c H locs cells slots Q (F0 m pc ls st) := by
  have hPc := S.1.sub (ws' := pw h d σ) [0, 1, 2, 3, 4, 5, 6, 7, 8, 9, 10, 11] rfl
  have hDc := S.2.1.sub (ws' := pw h d σ) [0, 1, 2, 3, 4, 5, 6, 7, 8, 9, 10, 11] (by decide) rfl
  have hFc := va_free (wc := pw h d σ) S.2.1 S.2.2 K.2.2.2.2.2.2 [0, 1, 2, 3, 4, 5, 6, 7, 8, 9, 10, 11] rfl
  refine va_calli (va_runV (As := as) (rest := rest) ⟨K.1, K.2.1, K.2.2.1, K.2.2.2.1, K.2.2.2.2.1⟩ (hM l dC dI H.size) cw ⟨fun a U g mk q => by obtain ⟨q0, q1, qP, qK, qD⟩ := q; exact ⟨q0, q1, qP, va_K.moved (u := U) (U := U.calling g mk a) (Vm.Alike.refl U.vm) qK, qD⟩, va_recv K.2.2.2.2.2.1 hPc (ci := 0) (q0 := 0) rfl rfl, fun U hU hW => ⟨rfl, by rw [hU], by rw [hU]; exact hPc, va_K.moved hW.alike K.2.2.2.2.2.1, hDc.weaken (fun _ _ _ _ => trivial)⟩⟩ rfl hn hls hst (lv_room hW) hdg ⟨hcs.1, hcs.2⟩) S.2.2 (fun q _ h => hFc q h) hFc (fun r u t H1 locs1 ht hvm hw hB hz1 hk1 hS => ?_)
  obtain ⟨hP1, hK1, hD1⟩ := hB
  rw [ht] at hP1
  obtain ⟨hP2, hD2⟩ := va_join (wr := mw g d τ) (w1 := pw h d u) S.1 S.2.1 [0, 1, 2, 3, 4, 5, 6, 7, 8, 9, 10, 11] [12, 13, 14, 15, 16, 17, 18, 19, 20] rfl rfl (by decide) (by decide) hk1 hFc hP1 hD1
  exact kk r u H1 locs1 ⟨hP2.sub [9, 10, 11, 12, 13, 14, 15, 16, 17, 18, 19, 20, 0, 1, 2, 3, 4, 5, 6, 7, 8] rfl, hD2.sub [9, 10, 11, 12, 13, 14, 15, 16, 17, 18, 19, 20, 0, 1, 2, 3, 4, 5, 6, 7, 8] (by decide) rfl, hS⟩ hw
theorem lc0V {post : PT → Prop} (K : KX cc nL R_law p s m args c A dC dI d) (S : St dC dI A s.heap H locs (pw h d σ ++ mw g d τ)) (hM : CV (h 0) (pw h d) y bytes maxL rm d as σ post) (cw : CallW R s args R_law RX0 index y bytes maxL none (ws_ y bytes maxL none) rm 0 0 n) (hn : as.length = n) (hls : ls.size = nL) (hst : st = as.reverse ++ .ref (h 0) :: rest) (hW : (rest.map fun v => v.category).sum ≤ 8) (hdg : decode cc pc = .ok (.invokevirtual index, 3)) (hcs : cells ≤ R.cells ∧ slots ≤ R.slots)
    (kk : ∀ (u : PT) (H1 : Heap) (locs1 : List Loc), St dC dI A s.heap H1 locs1 (pw h d u ++ mw g d τ) → post u → W p l e R s m args below meth c H1 locs1 cells slots Q (F0 m (pc + 3) ls rest)) : W p l e R s m args below meth c H locs cells slots Q (F0 m pc ls st) := by
  have hPc := S.1.sub (ws' := pw h d σ) [0, 1, 2, 3, 4, 5, 6, 7, 8, 9, 10, 11] rfl
  have hDc := S.2.1.sub (ws' := pw h d σ) [0, 1, 2, 3, 4, 5, 6, 7, 8, 9, 10, 11] (by decide) rfl
  have hFc := va_free (wc := pw h d σ) S.2.1 S.2.2 K.2.2.2.2.2.2 [0, 1, 2, 3, 4, 5, 6, 7, 8, 9, 10, 11] rfl
  refine va_callv (va_runV (As := as) (rest := rest) ⟨K.1, K.2.1, K.2.2.1, K.2.2.2.1, K.2.2.2.2.1⟩ (hM l dC dI H.size) cw ⟨fun a U g mk q => by obtain ⟨q0, q1, qP, qK, qD⟩ := q; exact ⟨q0, q1, qP, va_K.moved (u := U) (U := U.calling g mk a) (Vm.Alike.refl U.vm) qK, qD⟩, va_recv K.2.2.2.2.2.1 hPc (ci := 0) (q0 := 0) rfl rfl, fun U hU hW => ⟨rfl, by rw [hU], by rw [hU]; exact hPc, va_K.moved hW.alike K.2.2.2.2.2.1, hDc.weaken (fun _ _ _ _ => trivial)⟩⟩ rfl hn hls hst (lv_room hW) hdg ⟨hcs.1, hcs.2⟩) S.2.2 (fun q _ h => hFc q h) hFc (fun u t H1 locs1 ht hvm hw hB hz1 hk1 hS => ?_)
  obtain ⟨hP1, hK1, hD1⟩ := hB
  rw [ht] at hP1
  obtain ⟨hP2, hD2⟩ := va_join (wr := mw g d τ) (w1 := pw h d u) S.1 S.2.1 [0, 1, 2, 3, 4, 5, 6, 7, 8, 9, 10, 11] [12, 13, 14, 15, 16, 17, 18, 19, 20] rfl rfl (by decide) (by decide) hk1 hFc hP1 hD1
  exact kk u H1 locs1 ⟨hP2.sub [9, 10, 11, 12, 13, 14, 15, 16, 17, 18, 19, 20, 0, 1, 2, 3, 4, 5, 6, 7, 8] rfl, hD2.sub [9, 10, 11, 12, 13, 14, 15, 16, 17, 18, 19, 20, 0, 1, 2, 3, 4, 5, 6, 7, 8] (by decide) rfl, hS⟩ hw
theorem lc1I {post : Int32 → PT → Prop} (K : KX cc nL R_law p s m args c A dC dI d) (S : St dC dI A s.heap H locs (pw h d σ ++ mw g d τ)) (hM : CI (g 0) (mw g d) y bytes maxL rm d as τ post) (cw : CallW R s args R_law RX1 index y bytes maxL (some .int) (ws_ y bytes maxL (some .int)) rm 0 0 n) (hn : as.length = n) (hls : ls.size = nL) (hst : st = as.reverse ++ .ref (g 0) :: rest) (hW : (rest.map fun v => v.category).sum ≤ 8) (hdg : decode cc pc = .ok (.invokevirtual index, 3)) (hcs : cells ≤ R.cells ∧ slots ≤ R.slots)
    (kk : ∀ (r : Int32) (u : PT) (H1 : Heap) (locs1 : List Loc), St dC dI A s.heap H1 locs1 (pw h d σ ++ mw g d u) → post r u → W p l e R s m args below meth c H1 locs1 cells slots Q (F0 m (pc + 3) ls (.int r :: rest))) : W p l e R s m args below meth c H locs cells slots Q (F0 m pc ls st) := by
  have hPc := S.1.sub (ws' := mw g d τ) [12, 13, 14, 15, 16, 17, 18, 19, 20] rfl
  have hDc := S.2.1.sub (ws' := mw g d τ) [12, 13, 14, 15, 16, 17, 18, 19, 20] (by decide) rfl
  have hFc := va_free (wc := mw g d τ) S.2.1 S.2.2 K.2.2.2.2.2.2 [12, 13, 14, 15, 16, 17, 18, 19, 20] rfl
  refine va_calli (va_runV (As := as) (rest := rest) ⟨K.1, K.2.1, K.2.2.1, K.2.2.2.1, K.2.2.2.2.1⟩ (hM l dC dI H.size) cw ⟨fun a U g mk q => by obtain ⟨q0, q1, qP, qK, qD⟩ := q; exact ⟨q0, q1, qP, va_K.moved (u := U) (U := U.calling g mk a) (Vm.Alike.refl U.vm) qK, qD⟩, va_recv K.2.2.2.2.2.1 hPc (ci := 1) (q0 := 0) rfl rfl, fun U hU hW => ⟨rfl, by rw [hU], by rw [hU]; exact hPc, va_K.moved hW.alike K.2.2.2.2.2.1, hDc.weaken (fun _ _ _ _ => trivial)⟩⟩ rfl hn hls hst (lv_room hW) hdg ⟨hcs.1, hcs.2⟩) S.2.2 (fun q _ h => hFc q h) hFc (fun r u t H1 locs1 ht hvm hw hB hz1 hk1 hS => ?_)
  obtain ⟨hP1, hK1, hD1⟩ := hB
  rw [ht] at hP1
  obtain ⟨hP2, hD2⟩ := va_join (wr := pw h d σ) (w1 := mw g d u) S.1 S.2.1 [12, 13, 14, 15, 16, 17, 18, 19, 20] [0, 1, 2, 3, 4, 5, 6, 7, 8, 9, 10, 11] rfl rfl (by decide) (by decide) hk1 hFc hP1 hD1
  exact kk r u H1 locs1 ⟨hP2, hD2, hS⟩ hw
theorem lc1V {post : PT → Prop} (K : KX cc nL R_law p s m args c A dC dI d) (S : St dC dI A s.heap H locs (pw h d σ ++ mw g d τ)) (hM : CV (g 0) (mw g d) y bytes maxL rm d as τ post) (cw : CallW R s args R_law RX1 index y bytes maxL none (ws_ y bytes maxL none) rm 0 0 n) (hn : as.length = n) (hls : ls.size = nL) (hst : st = as.reverse ++ .ref (g 0) :: rest) (hW : (rest.map fun v => v.category).sum ≤ 8) (hdg : decode cc pc = .ok (.invokevirtual index, 3)) (hcs : cells ≤ R.cells ∧ slots ≤ R.slots)
    (kk : ∀ (u : PT) (H1 : Heap) (locs1 : List Loc), St dC dI A s.heap H1 locs1 (pw h d σ ++ mw g d u) → post u → W p l e R s m args below meth c H1 locs1 cells slots Q (F0 m (pc + 3) ls rest)) : W p l e R s m args below meth c H locs cells slots Q (F0 m pc ls st) := by
  have hPc := S.1.sub (ws' := mw g d τ) [12, 13, 14, 15, 16, 17, 18, 19, 20] rfl
  have hDc := S.2.1.sub (ws' := mw g d τ) [12, 13, 14, 15, 16, 17, 18, 19, 20] (by decide) rfl
  have hFc := va_free (wc := mw g d τ) S.2.1 S.2.2 K.2.2.2.2.2.2 [12, 13, 14, 15, 16, 17, 18, 19, 20] rfl
  refine va_callv (va_runV (As := as) (rest := rest) ⟨K.1, K.2.1, K.2.2.1, K.2.2.2.1, K.2.2.2.2.1⟩ (hM l dC dI H.size) cw ⟨fun a U g mk q => by obtain ⟨q0, q1, qP, qK, qD⟩ := q; exact ⟨q0, q1, qP, va_K.moved (u := U) (U := U.calling g mk a) (Vm.Alike.refl U.vm) qK, qD⟩, va_recv K.2.2.2.2.2.1 hPc (ci := 1) (q0 := 0) rfl rfl, fun U hU hW => ⟨rfl, by rw [hU], by rw [hU]; exact hPc, va_K.moved hW.alike K.2.2.2.2.2.1, hDc.weaken (fun _ _ _ _ => trivial)⟩⟩ rfl hn hls hst (lv_room hW) hdg ⟨hcs.1, hcs.2⟩) S.2.2 (fun q _ h => hFc q h) hFc (fun u t H1 locs1 ht hvm hw hB hz1 hk1 hS => ?_)
  obtain ⟨hP1, hK1, hD1⟩ := hB
  rw [ht] at hP1
  obtain ⟨hP2, hD2⟩ := va_join (wr := pw h d σ) (w1 := mw g d u) S.1 S.2.1 [12, 13, 14, 15, 16, 17, 18, 19, 20] [0, 1, 2, 3, 4, 5, 6, 7, 8, 9, 10, 11] rfl rfl (by decide) (by decide) hk1 hFc hP1 hD1
  exact kk u H1 locs1 ⟨hP2, hD2, hS⟩ hw
/-- the script is read -/
theorem ls_ld {b L : Nat} {xs : Nat → Int32} {ws : va_W} {i : Nat} (hX : va_X b L xs s s.heap) (hbl : b < s.heap.size) (hbA : ¬ A b) (hi : i < L) (hL : L < 2 ^ 30) (K : KX cc nL R_law p s m args c A dC dI d) (S : St dC dI A s.heap H locs ws) (hdg : decode cc pc = .ok (.iaload, 1)) (kk : W p l e R s m args below meth c H locs cells slots Q (F0 m (pc + 1) ls (.int (xs i) :: rest))) : W p l e R s m args below meth c H locs cells slots Q (F0 m pc ls (.int (nI i) :: .ref b :: rest)) :=
  va_sld K.1 K.2.1 hX hbl hbA S.2.2 (vp_in_nI hi (by omega)) hdg (by rw [nI_clamp (by omega)]; exact kk)
end LAWC
theorem sub3_lt {L i : Nat} (hL : L < 2 ^ 30) (hi : i < 2 ^ 30) : nI L - nI 3 < nI i ↔ L < i + 3 := by
  rw [Int32.lt_iff_toInt_lt, pk_sub_toInt hL (by decide), nI_toInt (nI_30 hi)]
  omega
def a15 (x : Int32) : Nat := x.toBitVec.toNat % 16
theorem a15_and (x : Int32) : x &&& nI 15 = nI (a15 x) := pk_and x 4 (by decide)
theorem a15_lt (x : Int32) : a15 x < 16 := Nat.mod_lt _ (by decide)
end
section
set_option maxRecDepth 100000
def lw_P (b : Addr) (xs : List Int32) (args : Array Value) (s : State) : Prop := args = #[.ref b] ∧ s.IntsAt b xs ∧ xs.length ≤ 192 ∧ (Jvm.Cond.and given_1 narrow_1).before args s = true
def lw_Q (_ : Array Value) (s : State) (o : Outcome) (t : State) : Prop := o = .returned (some (.int 1)) ∧ Framed s o t [] 600000 7290000
def lw_Z (below : List Frame) (a : Array Value) (s : State) : State → Prop := fun t => ∃ o, t.status = .running ∧ Ended t below o ∧ lw_Q a s o t
/-- the law's own end, with 1 on the stack, nothing written that was there before, its room as the claim has it -/
theorem lw_ret {p : Program} {l : Launch} {e : Env} {s : State} {m : MethodId} {below : List Frame} {meth : Method} {c : Code} {b : Nat} (hx : p.tables.exec = Jvm.exec) (hb : c.code = code) (hr : meth.sig.returnType = ret) (hlocks : meth.locks = false) {pc : Nat} {H : Heap} {ls : Array Slot} (hdg : decode code pc = .ok (.ireturn, 1)) : W p l e room_1 s m #[Value.ref b] below meth c H [] 600000 7290000 (lw_Z below #[Value.ref b] s) (F0 m pc ls [.int 1]) := by
  intro T hT X
  obtain ⟨fs, hret, hrun, hended, hW, hframe⟩ := X.leave (v := some (.int 1)) (hlocks := hlocks) (fun h => by rw [hr] at h; cases h)
  have hmeth' : T.vm.method? m = some meth := X.method'
  refine ⟨T.setFrames fs, ?_, .returned (some (.int 1)), hrun, hended, rfl, ⟨_, rfl⟩, hW, hframe⟩
  jvm_step X.here [X.here.top, hx, hb, hdg, hmeth', hr, ret, narrow_b1]
  (try refine ⟨rfl, ?_⟩); (try refine ⟨rfl, ?_⟩)
  first | (intro acts; rw [hret _ acts rfl rfl rfl]) | rw [hret _ _ rfl rfl rfl]
  exact Steps.refl _
/-- what holds at the law's entry: the machine, the code, the tables' words (any of lw_tbl by 'hts w (by decide +kernel)'), the script of L ints xs at the cell b, what the Statement gives of the start (any of its parts by flat_of_before) -/
def lw_At (p : Program) (s : State) (m : MethodId) (meth : Method) (c : Code) (b L : Nat) (xs : Nat → Int32) : Prop :=
  p.tables.exec = Jvm.exec ∧ c.code = code ∧ meth.sig.returnType = ret ∧ c.maxLocals = 4 ∧ s.vm.findClass R_law = some m.cls ∧ (∀ w ∈ lw_tbl, w.before #[Value.ref b] s = true) ∧ va_X b L xs s s.heap ∧ b < s.heap.size ∧ meth.locks = false ∧ (Jvm.Cond.and given_1 narrow_1).before #[Value.ref b] s = true
set_option maxHeartbeats 4000000 in
set_option maxRecDepth 100000 in
/-- the law's loop at its head: i ints read; PegTables and its reference stand together -/
theorem law_loop {p : Program} {l : Launch} {e : Env} {s : State} {m : MethodId} {below : List Frame} {meth : Method} {c : Code} {A : Nat → Prop} {dC : Nat → ClassId} {dI : Nat → Nat → Nat} {d : ClassId} {b L : Nat} {xs : Nat → Int32} {h g : Nat → Nat} {cells slots : Nat} (hcs : cells ≤ 600000 ∧ slots ≤ 7290000) (hL : L ≤ 192) (hr : meth.sig.returnType = ret) (hlocks : meth.locks = false) (hX : va_X b L xs s s.heap) (hbl : b < s.heap.size) (hbA : ¬ A b) (hAs : ∀ q : Nat, A q → s.heap.size ≤ q) (K : KX code 4 R_law p s m #[Value.ref b] c A dC dI d) : ∀ (n i : Nat) (σ τ : PT) (H : Heap) (locs : List Loc) (ls : Array Slot), L + 1 ≤ i + n → i ≤ 192 → J σ τ → St dC dI A s.heap H locs (pw h d σ ++ mw g d τ) → lv_has ls 4 [(0, .ref b), (1, .ref (h 0)), (2, .ref (g 0)), (3, .int (nI i))] → W p l e room_1 s m #[Value.ref b] below meth c H locs cells slots (lw_Z below #[Value.ref b] s) (F0 m 18 ls []) := by
  have X303 : ∀ (σ τ : PT) (H : Heap) (locs : List Loc) (ls : Array Slot), St dC dI A s.heap H locs (pw h d σ ++ mw g d τ) → W p l e room_1 s m #[Value.ref b] below meth c H locs cells slots (lw_Z below #[Value.ref b] s) (F0 m 303 ls []) := by
    intro σ τ H locs ls S
    refine lv_iconst (v := 1) K.1 K.2.1 dL_law_303 (by decide) ?_
    refine va_forget (fun q hq => hAs _ (S.2.2.2.2 q hq)) ?_
    refine W.widen (k := 600000) (n := 7290000) hcs.1 hcs.2 ?_
    exact lw_ret K.1 K.2.1 hr hlocks dL_law_304
  intro n
  induction n with
  | zero =>
    intro i σ τ H locs ls hn hi hJ S hl
    refine lv_iload_n K.1 K.2.1 dL_law_18 rfl (lv_at hl 3 rfl) ?_
    refine lv_aload_n K.1 K.2.1 dL_law_19 rfl (lv_at hl 0 rfl) ?_
    refine va_slen K.1 K.2.1 hX hbl hbA S.2.2 dL_law_20 ?_
    refine lv_to (y := nI L) rfl ?_
    refine lv_iconst (v := nI 3) K.1 K.2.1 dL_law_21 (by decide) ?_
    refine lv_isub K.1 K.2.1 dL_law_22 ?_
    exact lv_icmp_gt (tgt := 303) K.1 K.2.1 dL_law_23 (by decide) (fun _ => X303 σ τ H locs ls S) (fun c23 => absurd ((sub3_lt (by omega) (by omega)).mpr (by omega)) c23)
  | succ n ih =>
    intro i σ τ H locs ls hn hi hJ S hl
    refine lv_iload_n K.1 K.2.1 dL_law_18 rfl (lv_at hl 3 rfl) ?_
    refine lv_aload_n K.1 K.2.1 dL_law_19 rfl (lv_at hl 0 rfl) ?_
    refine va_slen K.1 K.2.1 hX hbl hbA S.2.2 dL_law_20 ?_
    refine lv_to (y := nI L) rfl ?_
    refine lv_iconst (v := nI 3) K.1 K.2.1 dL_law_21 (by decide) ?_
    refine lv_isub K.1 K.2.1 dL_law_22 ?_
    refine lv_icmp_gt (tgt := 303) K.1 K.2.1 dL_law_23 (by decide) (fun _ => X303 σ τ H locs ls S) (fun c23 => ?_)
    have hi3 : i + 3 ≤ L := Nat.not_lt.mp fun z => c23 ((sub3_lt (by omega) (by omega)).mpr z)
    have K297 : ∀ (σ τ : PT) (H : Heap) (locs : List Loc) (ls : Array Slot), J σ τ → St dC dI A s.heap H locs (pw h d σ ++ mw g d τ) → lv_has ls 4 [(0, .ref b), (1, .ref (h 0)), (2, .ref (g 0)), (3, .int (nI i))] → W p l e room_1 s m #[Value.ref b] below meth c H locs cells slots (lw_Z below #[Value.ref b] s) (F0 m 297 ls []) := by
      intro σ τ H locs ls hJ S hl
      refine lv_iinc (v := nI (i + 3)) (lv' := [(3, .int (nI (i + 3))), (0, .ref b), (1, .ref (h 0)), (2, .ref (g 0))]) K.1 K.2.1 dL_law_297 hl (k := 3) rfl (nI_add i 3) (by decide) rfl (fun ls hl => ?_)
      refine lv_goto (tgt := 18) K.1 K.2.1 dL_law_300 (by decide) ?_
      exact ih (i + 3) σ τ H locs ls (by omega) (by omega) hJ S (lv_sub hl [1, 2, 3, 0] rfl)
    refine lv_aload_n K.1 K.2.1 dL_law_26 rfl (lv_at hl 0 rfl) ?_
    refine lv_iload_n K.1 K.2.1 dL_law_27 rfl (lv_at hl 3 rfl) ?_
    refine ls_ld hX hbl hbA (show i < L by omega) (by omega) K S dL_law_28 ?_
    refine lv_bipush (v := nI 15) K.1 K.2.1 dL_law_29 (by decide) ?_
    refine lv_iand K.1 K.2.1 dL_law_31 ?_
    refine lv_to (a15_and _) ?_
    have hk : a15 (xs i) < 16 := a15_lt _
    generalize a15 (xs i) = k at hk ⊢
    have j1 := hJ.1
    have j2 := hJ.2.1
    have j3 := hJ.2.2.1
    have j4 := hJ.2.2.2.1
    have j5 := hJ.2.2.2.2.1
    rcases (show k = 0 ∨ k = 1 ∨ k = 2 ∨ k = 3 ∨ k = 4 ∨ k = 5 ∨ k = 6 ∨ k = 7 ∨ k = 8 ∨ 8 < k by omega) with rfl | rfl | rfl | rfl | rfl | rfl | rfl | rfl | rfl | hk9
    · refine lv_tableIn (off := 52) (tgt := 84) K.1 K.2.1 dL_law_32 (by decide) (by decide) (by decide) (by decide) ?_
      refine lv_aload_n K.1 K.2.1 dL_law_84 rfl (lv_at hl 1 rfl) ?_
      refine lv_aload_n K.1 K.2.1 dL_law_85 rfl (lv_at hl 0 rfl) ?_
      refine lv_iload_n K.1 K.2.1 dL_law_86 rfl (lv_at hl 3 rfl) ?_
      refine lv_iconst (v := nI 1) K.1 K.2.1 dL_law_87 (by decide) ?_
      refine lv_iadd K.1 K.2.1 dL_law_88 ?_
      refine lv_to (nI_add _ _) ?_
      refine ls_ld hX hbl hbA (show i + 1 < L by omega) (by omega) K S dL_law_89 ?_
      refine lv_aload_n K.1 K.2.1 dL_law_90 rfl (lv_at hl 0 rfl) ?_
      refine lv_iload_n K.1 K.2.1 dL_law_91 rfl (lv_at hl 3 rfl) ?_
      refine lv_iconst (v := nI 2) K.1 K.2.1 dL_law_92 (by decide) ?_
      refine lv_iadd K.1 K.2.1 dL_law_93 ?_
      refine lv_to (nI_add _ _) ?_
      refine ls_ld hX hbl hbA (show i + 2 < L by omega) (by omega) K S dL_law_94 ?_
      refine lc0I K S (met_token h d σ (xs (i + 1)) (xs (i + 2)) j4.1 j4.2.1 j4.2.2.1) (cwV 2 K.2.2.2.2.1 (lw_V q84 q85 q86 q16 q87) rfl rfl rfl (by decide +kernel) ⟨Nat.le_of_ble_eq_true rfl, Nat.le_of_ble_eq_true rfl⟩) rfl hl.1 rfl (Nat.le_of_ble_eq_true rfl) dL_law_95 hcs (fun r1 u H locs S hu => ?_)
      refine lv_aload_n K.1 K.2.1 dL_law_98 rfl (lv_at hl 2 rfl) ?_
      refine lv_aload_n K.1 K.2.1 dL_law_99 rfl (lv_at hl 0 rfl) ?_
      refine lv_iload_n K.1 K.2.1 dL_law_100 rfl (lv_at hl 3 rfl) ?_
      refine lv_iconst (v := nI 1) K.1 K.2.1 dL_law_101 (by decide) ?_
      refine lv_iadd K.1 K.2.1 dL_law_102 ?_
      refine lv_to (nI_add _ _) ?_
      refine ls_ld hX hbl hbA (show i + 1 < L by omega) (by omega) K S dL_law_103 ?_
      refine lv_aload_n K.1 K.2.1 dL_law_104 rfl (lv_at hl 0 rfl) ?_
      refine lv_iload_n K.1 K.2.1 dL_law_105 rfl (lv_at hl 3 rfl) ?_
      refine lv_iconst (v := nI 2) K.1 K.2.1 dL_law_106 (by decide) ?_
      refine lv_iadd K.1 K.2.1 dL_law_107 ?_
      refine lv_to (nI_add _ _) ?_
      refine ls_ld hX hbl hbA (show i + 2 < L by omega) (by omega) K S dL_law_108 ?_
      refine lc1I K S (mem_token g d τ (xs (i + 1)) (xs (i + 2)) (by omega) (by omega)) (cwV 2 K.2.2.2.2.1 (lw_V q194 q195 q196 q17 q197) rfl rfl rfl (by decide +kernel) ⟨Nat.le_of_ble_eq_true rfl, Nat.le_of_ble_eq_true rfl⟩) rfl hl.1 rfl (Nat.le_of_ble_eq_true rfl) dL_law_109 hcs (fun r2 v H locs S hv => ?_)
      obtain ⟨he, hJ2⟩ := law_tok hJ hu hv
      exact lv_icmp_eq (tgt := 297) K.1 K.2.1 dL_law_112 (by decide) (fun _ => K297 u v H locs ls hJ2 S hl) (fun z => absurd he z)
    · refine lv_tableIn (off := 85) (tgt := 117) K.1 K.2.1 dL_law_32 (by decide) (by decide) (by decide) (by decide) ?_
      refine lv_aload_n K.1 K.2.1 dL_law_117 rfl (lv_at hl 1 rfl) ?_
      refine lc0V K S (met_clear h d σ  ) (cwV 0 K.2.2.2.2.1 (lw_V q88 q27 q28 q16 q29) rfl rfl rfl (by decide +kernel) ⟨Nat.le_of_ble_eq_true rfl, Nat.le_of_ble_eq_true rfl⟩) rfl hl.1 rfl (Nat.le_of_ble_eq_true rfl) dL_law_118 hcs (fun u H locs S hu => ?_)
      refine lv_aload_n K.1 K.2.1 dL_law_121 rfl (lv_at hl 2 rfl) ?_
      refine lc1V K S (mem_clear g d τ  ) (cwV 0 K.2.2.2.2.1 (lw_V q201 q202 q203 q17 q204) rfl rfl rfl (by decide +kernel) ⟨Nat.le_of_ble_eq_true rfl, Nat.le_of_ble_eq_true rfl⟩) rfl hl.1 rfl (Nat.le_of_ble_eq_true rfl) dL_law_122 hcs (fun v H locs S hv => ?_)
      refine lv_goto (tgt := 297) K.1 K.2.1 dL_law_125 (by decide) ?_
      rw [hu, hv] at S
      exact K297 _ _ H locs ls (J_clear hJ) S hl
    · refine lv_tableIn (off := 96) (tgt := 128) K.1 K.2.1 dL_law_32 (by decide) (by decide) (by decide) (by decide) ?_
      refine lv_aload_n K.1 K.2.1 dL_law_128 rfl (lv_at hl 1 rfl) ?_
      refine lv_aload_n K.1 K.2.1 dL_law_129 rfl (lv_at hl 0 rfl) ?_
      refine lv_iload_n K.1 K.2.1 dL_law_130 rfl (lv_at hl 3 rfl) ?_
      refine lv_iconst (v := nI 1) K.1 K.2.1 dL_law_131 (by decide) ?_
      refine lv_iadd K.1 K.2.1 dL_law_132 ?_
      refine lv_to (nI_add _ _) ?_
      refine ls_ld hX hbl hbA (show i + 1 < L by omega) (by omega) K S dL_law_133 ?_
      refine lc0I K S (met_type h d σ (xs (i + 1)) j1.2.1) (cwV 1 K.2.2.2.2.1 (lw_V q89 q90 q91 q16 q92) rfl rfl rfl (by decide +kernel) ⟨Nat.le_of_ble_eq_true rfl, Nat.le_of_ble_eq_true rfl⟩) rfl hl.1 rfl (Nat.le_of_ble_eq_true rfl) dL_law_134 hcs (fun r1 u H locs S hu => ?_)
      refine lv_aload_n K.1 K.2.1 dL_law_137 rfl (lv_at hl 2 rfl) ?_
      refine lv_aload_n K.1 K.2.1 dL_law_138 rfl (lv_at hl 0 rfl) ?_
      refine lv_iload_n K.1 K.2.1 dL_law_139 rfl (lv_at hl 3 rfl) ?_
      refine lv_iconst (v := nI 1) K.1 K.2.1 dL_law_140 (by decide) ?_
      refine lv_iadd K.1 K.2.1 dL_law_141 ?_
      refine lv_to (nI_add _ _) ?_
      refine ls_ld hX hbl hbA (show i + 1 < L by omega) (by omega) K S dL_law_142 ?_
      refine lc1I K S (mem_type g d τ (xs (i + 1)) j3.2.1) (cwV 1 K.2.2.2.2.1 (lw_V q205 q206 q207 q17 q208) rfl rfl rfl (by decide +kernel) ⟨Nat.le_of_ble_eq_true rfl, Nat.le_of_ble_eq_true rfl⟩) rfl hl.1 rfl (Nat.le_of_ble_eq_true rfl) dL_law_143 hcs (fun r2 v H locs S hv => ?_)
      obtain ⟨he, hJ2⟩ := law_type hJ hu hv
      exact lv_icmp_eq (tgt := 297) K.1 K.2.1 dL_law_146 (by decide) (fun _ => K297 u v H locs ls hJ2 S hl) (fun z => absurd he z)
    · refine lv_tableIn (off := 119) (tgt := 151) K.1 K.2.1 dL_law_32 (by decide) (by decide) (by decide) (by decide) ?_
      refine lv_aload_n K.1 K.2.1 dL_law_151 rfl (lv_at hl 1 rfl) ?_
      refine lc0V K S (met_erase h d σ  ) (cwV 0 K.2.2.2.2.1 (lw_V q93 q94 q95 q16 q96) rfl rfl rfl (by decide +kernel) ⟨Nat.le_of_ble_eq_true rfl, Nat.le_of_ble_eq_true rfl⟩) rfl hl.1 rfl (Nat.le_of_ble_eq_true rfl) dL_law_152 hcs (fun u H locs S hu => ?_)
      refine lv_aload_n K.1 K.2.1 dL_law_155 rfl (lv_at hl 2 rfl) ?_
      refine lc1V K S (mem_erase g d τ  ) (cwV 0 K.2.2.2.2.1 (lw_V q209 q210 q211 q17 q212) rfl rfl rfl (by decide +kernel) ⟨Nat.le_of_ble_eq_true rfl, Nat.le_of_ble_eq_true rfl⟩) rfl hl.1 rfl (Nat.le_of_ble_eq_true rfl) dL_law_156 hcs (fun v H locs S hv => ?_)
      refine lv_goto (tgt := 297) K.1 K.2.1 dL_law_159 (by decide) ?_
      rw [hu, hv] at S
      exact K297 _ _ H locs ls (J_erase hJ) S hl
    · refine lv_tableIn (off := 130) (tgt := 162) K.1 K.2.1 dL_law_32 (by decide) (by decide) (by decide) (by decide) ?_
      refine lv_aload_n K.1 K.2.1 dL_law_162 rfl (lv_at hl 1 rfl) ?_
      refine lv_aload_n K.1 K.2.1 dL_law_163 rfl (lv_at hl 0 rfl) ?_
      refine lv_iload_n K.1 K.2.1 dL_law_164 rfl (lv_at hl 3 rfl) ?_
      refine lv_iconst (v := nI 1) K.1 K.2.1 dL_law_165 (by decide) ?_
      refine lv_iadd K.1 K.2.1 dL_law_166 ?_
      refine lv_to (nI_add _ _) ?_
      refine ls_ld hX hbl hbA (show i + 1 < L by omega) (by omega) K S dL_law_167 ?_
      refine lv_aload_n K.1 K.2.1 dL_law_168 rfl (lv_at hl 0 rfl) ?_
      refine lv_iload_n K.1 K.2.1 dL_law_169 rfl (lv_at hl 3 rfl) ?_
      refine lv_iconst (v := nI 2) K.1 K.2.1 dL_law_170 (by decide) ?_
      refine lv_iadd K.1 K.2.1 dL_law_171 ?_
      refine lv_to (nI_add _ _) ?_
      refine ls_ld hX hbl hbA (show i + 2 < L by omega) (by omega) K S dL_law_172 ?_
      refine lc0I K S (met_match h d σ (xs (i + 1)) (xs (i + 2)) j1 j2) (cwV 2 K.2.2.2.2.1 (lw_V q97 q98 q99 q16 q100) rfl rfl rfl (by decide +kernel) ⟨Nat.le_of_ble_eq_true rfl, Nat.le_of_ble_eq_true rfl⟩) rfl hl.1 rfl (Nat.le_of_ble_eq_true rfl) dL_law_173 hcs (fun r1 u H locs S hu => ?_)
      refine lv_aload_n K.1 K.2.1 dL_law_176 rfl (lv_at hl 2 rfl) ?_
      refine lv_aload_n K.1 K.2.1 dL_law_177 rfl (lv_at hl 0 rfl) ?_
      refine lv_iload_n K.1 K.2.1 dL_law_178 rfl (lv_at hl 3 rfl) ?_
      refine lv_iconst (v := nI 1) K.1 K.2.1 dL_law_179 (by decide) ?_
      refine lv_iadd K.1 K.2.1 dL_law_180 ?_
      refine lv_to (nI_add _ _) ?_
      refine ls_ld hX hbl hbA (show i + 1 < L by omega) (by omega) K S dL_law_181 ?_
      refine lv_aload_n K.1 K.2.1 dL_law_182 rfl (lv_at hl 0 rfl) ?_
      refine lv_iload_n K.1 K.2.1 dL_law_183 rfl (lv_at hl 3 rfl) ?_
      refine lv_iconst (v := nI 2) K.1 K.2.1 dL_law_184 (by decide) ?_
      refine lv_iadd K.1 K.2.1 dL_law_185 ?_
      refine lv_to (nI_add _ _) ?_
      refine ls_ld hX hbl hbA (show i + 2 < L by omega) (by omega) K S dL_law_186 ?_
      refine lc1I K S (mem_match g d τ (xs (i + 1)) (xs (i + 2)) j3) (cwV 2 K.2.2.2.2.1 (lw_V q213 q214 q215 q17 q216) rfl rfl rfl (by decide +kernel) ⟨Nat.le_of_ble_eq_true rfl, Nat.le_of_ble_eq_true rfl⟩) rfl hl.1 rfl (Nat.le_of_ble_eq_true rfl) dL_law_187 hcs (fun r2 v H locs S hv => ?_)
      obtain ⟨he, hJ2⟩ := law_match hJ hu hv
      exact lv_icmp_eq (tgt := 297) K.1 K.2.1 dL_law_190 (by decide) (fun _ => K297 u v H locs ls hJ2 S hl) (fun z => absurd he z)
    · refine lv_tableIn (off := 163) (tgt := 195) K.1 K.2.1 dL_law_32 (by decide) (by decide) (by decide) (by decide) ?_
      refine lv_aload_n K.1 K.2.1 dL_law_195 rfl (lv_at hl 1 rfl) ?_
      refine lv_aload_n K.1 K.2.1 dL_law_196 rfl (lv_at hl 0 rfl) ?_
      refine lv_iload_n K.1 K.2.1 dL_law_197 rfl (lv_at hl 3 rfl) ?_
      refine lv_iconst (v := nI 1) K.1 K.2.1 dL_law_198 (by decide) ?_
      refine lv_iadd K.1 K.2.1 dL_law_199 ?_
      refine lv_to (nI_add _ _) ?_
      refine ls_ld hX hbl hbA (show i + 1 < L by omega) (by omega) K S dL_law_200 ?_
      refine lc0I K S (met_matches h d σ (xs (i + 1)) j1 j2) (cwV 1 K.2.2.2.2.1 (lw_V q137 q138 q139 q16 q140) rfl rfl rfl (by decide +kernel) ⟨Nat.le_of_ble_eq_true rfl, Nat.le_of_ble_eq_true rfl⟩) rfl hl.1 rfl (Nat.le_of_ble_eq_true rfl) dL_law_201 hcs (fun r1 u H locs S hu => ?_)
      refine lv_aload_n K.1 K.2.1 dL_law_204 rfl (lv_at hl 2 rfl) ?_
      refine lv_aload_n K.1 K.2.1 dL_law_205 rfl (lv_at hl 0 rfl) ?_
      refine lv_iload_n K.1 K.2.1 dL_law_206 rfl (lv_at hl 3 rfl) ?_
      refine lv_iconst (v := nI 1) K.1 K.2.1 dL_law_207 (by decide) ?_
      refine lv_iadd K.1 K.2.1 dL_law_208 ?_
      refine lv_to (nI_add _ _) ?_
      refine ls_ld hX hbl hbA (show i + 1 < L by omega) (by omega) K S dL_law_209 ?_
      refine lc1I K S (mem_matches g d τ (xs (i + 1)) j3) (cwV 1 K.2.2.2.2.1 (lw_V q236 q237 q238 q17 q239) rfl rfl rfl (by decide +kernel) ⟨Nat.le_of_ble_eq_true rfl, Nat.le_of_ble_eq_true rfl⟩) rfl hl.1 rfl (Nat.le_of_ble_eq_true rfl) dL_law_210 hcs (fun r2 v H locs S hv => ?_)
      obtain ⟨he, hJ2⟩ := law_matches hJ hu hv
      exact lv_icmp_eq (tgt := 297) K.1 K.2.1 dL_law_213 (by decide) (fun _ => K297 u v H locs ls hJ2 S hl) (fun z => absurd he z)
    · refine lv_tableIn (off := 186) (tgt := 218) K.1 K.2.1 dL_law_32 (by decide) (by decide) (by decide) (by decide) ?_
      refine lv_aload_n K.1 K.2.1 dL_law_218 rfl (lv_at hl 1 rfl) ?_
      refine lv_aload_n K.1 K.2.1 dL_law_219 rfl (lv_at hl 0 rfl) ?_
      refine lv_iload_n K.1 K.2.1 dL_law_220 rfl (lv_at hl 3 rfl) ?_
      refine lv_iconst (v := nI 1) K.1 K.2.1 dL_law_221 (by decide) ?_
      refine lv_iadd K.1 K.2.1 dL_law_222 ?_
      refine lv_to (nI_add _ _) ?_
      refine ls_ld hX hbl hbA (show i + 1 < L by omega) (by omega) K S dL_law_223 ?_
      refine lv_aload_n K.1 K.2.1 dL_law_224 rfl (lv_at hl 0 rfl) ?_
      refine lv_iload_n K.1 K.2.1 dL_law_225 rfl (lv_at hl 3 rfl) ?_
      refine lv_iconst (v := nI 2) K.1 K.2.1 dL_law_226 (by decide) ?_
      refine lv_iadd K.1 K.2.1 dL_law_227 ?_
      refine lv_to (nI_add _ _) ?_
      refine ls_ld hX hbl hbA (show i + 2 < L by omega) (by omega) K S dL_law_228 ?_
      refine lc0I K S (met_find h d σ (xs (i + 1)) (xs (i + 2)) j1 j2) (cwV 2 K.2.2.2.2.1 (lw_V q142 q143 q144 q16 q145) rfl rfl rfl (by decide +kernel) ⟨Nat.le_of_ble_eq_true rfl, Nat.le_of_ble_eq_true rfl⟩) rfl hl.1 rfl (Nat.le_of_ble_eq_true rfl) dL_law_229 hcs (fun r1 u H locs S hu => ?_)
      refine lv_aload_n K.1 K.2.1 dL_law_232 rfl (lv_at hl 2 rfl) ?_
      refine lv_aload_n K.1 K.2.1 dL_law_233 rfl (lv_at hl 0 rfl) ?_
      refine lv_iload_n K.1 K.2.1 dL_law_234 rfl (lv_at hl 3 rfl) ?_
      refine lv_iconst (v := nI 1) K.1 K.2.1 dL_law_235 (by decide) ?_
      refine lv_iadd K.1 K.2.1 dL_law_236 ?_
      refine lv_to (nI_add _ _) ?_
      refine ls_ld hX hbl hbA (show i + 1 < L by omega) (by omega) K S dL_law_237 ?_
      refine lv_aload_n K.1 K.2.1 dL_law_238 rfl (lv_at hl 0 rfl) ?_
      refine lv_iload_n K.1 K.2.1 dL_law_239 rfl (lv_at hl 3 rfl) ?_
      refine lv_iconst (v := nI 2) K.1 K.2.1 dL_law_240 (by decide) ?_
      refine lv_iadd K.1 K.2.1 dL_law_241 ?_
      refine lv_to (nI_add _ _) ?_
      refine ls_ld hX hbl hbA (show i + 2 < L by omega) (by omega) K S dL_law_242 ?_
      refine lc1I K S (mem_find g d τ (xs (i + 1)) (xs (i + 2)) j3) (cwV 2 K.2.2.2.2.1 (lw_V q240 q241 q242 q17 q243) rfl rfl rfl (by decide +kernel) ⟨Nat.le_of_ble_eq_true rfl, Nat.le_of_ble_eq_true rfl⟩) rfl hl.1 rfl (Nat.le_of_ble_eq_true rfl) dL_law_243 hcs (fun r2 v H locs S hv => ?_)
      obtain ⟨he, hJ2⟩ := law_find hJ hu hv
      exact lv_icmp_eq (tgt := 297) K.1 K.2.1 dL_law_246 (by decide) (fun _ => K297 u v H locs ls hJ2 S hl) (fun z => absurd he z)
    · refine lv_tableIn (off := 219) (tgt := 251) K.1 K.2.1 dL_law_32 (by decide) (by decide) (by decide) (by decide) ?_
      refine lv_aload_n K.1 K.2.1 dL_law_251 rfl (lv_at hl 1 rfl) ?_
      refine lv_aload_n K.1 K.2.1 dL_law_252 rfl (lv_at hl 0 rfl) ?_
      refine lv_iload_n K.1 K.2.1 dL_law_253 rfl (lv_at hl 3 rfl) ?_
      refine lv_iconst (v := nI 1) K.1 K.2.1 dL_law_254 (by decide) ?_
      refine lv_iadd K.1 K.2.1 dL_law_255 ?_
      refine lv_to (nI_add _ _) ?_
      refine ls_ld hX hbl hbA (show i + 1 < L by omega) (by omega) K S dL_law_256 ?_
      refine lc0I K S (met_whole h d σ (xs (i + 1)) j1 j2) (cwV 1 K.2.2.2.2.1 (lw_V q146 q147 q148 q16 q149) rfl rfl rfl (by decide +kernel) ⟨Nat.le_of_ble_eq_true rfl, Nat.le_of_ble_eq_true rfl⟩) rfl hl.1 rfl (Nat.le_of_ble_eq_true rfl) dL_law_257 hcs (fun r1 u H locs S hu => ?_)
      refine lv_aload_n K.1 K.2.1 dL_law_260 rfl (lv_at hl 2 rfl) ?_
      refine lv_aload_n K.1 K.2.1 dL_law_261 rfl (lv_at hl 0 rfl) ?_
      refine lv_iload_n K.1 K.2.1 dL_law_262 rfl (lv_at hl 3 rfl) ?_
      refine lv_iconst (v := nI 1) K.1 K.2.1 dL_law_263 (by decide) ?_
      refine lv_iadd K.1 K.2.1 dL_law_264 ?_
      refine lv_to (nI_add _ _) ?_
      refine ls_ld hX hbl hbA (show i + 1 < L by omega) (by omega) K S dL_law_265 ?_
      refine lc1I K S (mem_whole g d τ (xs (i + 1)) j3) (cwV 1 K.2.2.2.2.1 (lw_V q248 q249 q250 q17 q251) rfl rfl rfl (by decide +kernel) ⟨Nat.le_of_ble_eq_true rfl, Nat.le_of_ble_eq_true rfl⟩) rfl hl.1 rfl (Nat.le_of_ble_eq_true rfl) dL_law_266 hcs (fun r2 v H locs S hv => ?_)
      obtain ⟨he, hJ2⟩ := law_whole hJ hu hv
      exact lv_icmp_eq (tgt := 297) K.1 K.2.1 dL_law_269 (by decide) (fun _ => K297 u v H locs ls hJ2 S hl) (fun z => absurd he z)
    · refine lv_tableIn (off := 242) (tgt := 274) K.1 K.2.1 dL_law_32 (by decide) (by decide) (by decide) (by decide) ?_
      refine lv_aload_n K.1 K.2.1 dL_law_274 rfl (lv_at hl 1 rfl) ?_
      refine lv_aload_n K.1 K.2.1 dL_law_275 rfl (lv_at hl 0 rfl) ?_
      refine lv_iload_n K.1 K.2.1 dL_law_276 rfl (lv_at hl 3 rfl) ?_
      refine lv_iconst (v := nI 1) K.1 K.2.1 dL_law_277 (by decide) ?_
      refine lv_iadd K.1 K.2.1 dL_law_278 ?_
      refine lv_to (nI_add _ _) ?_
      refine ls_ld hX hbl hbA (show i + 1 < L by omega) (by omega) K S dL_law_279 ?_
      refine lc0I K S (met_stuck h d σ (xs (i + 1)) j1 j2) (cwV 1 K.2.2.2.2.1 (lw_V q150 q151 q152 q16 q153) rfl rfl rfl (by decide +kernel) ⟨Nat.le_of_ble_eq_true rfl, Nat.le_of_ble_eq_true rfl⟩) rfl hl.1 rfl (Nat.le_of_ble_eq_true rfl) dL_law_280 hcs (fun r1 u H locs S hu => ?_)
      refine lv_aload_n K.1 K.2.1 dL_law_283 rfl (lv_at hl 2 rfl) ?_
      refine lv_aload_n K.1 K.2.1 dL_law_284 rfl (lv_at hl 0 rfl) ?_
      refine lv_iload_n K.1 K.2.1 dL_law_285 rfl (lv_at hl 3 rfl) ?_
      refine lv_iconst (v := nI 1) K.1 K.2.1 dL_law_286 (by decide) ?_
      refine lv_iadd K.1 K.2.1 dL_law_287 ?_
      refine lv_to (nI_add _ _) ?_
      refine ls_ld hX hbl hbA (show i + 1 < L by omega) (by omega) K S dL_law_288 ?_
      refine lc1I K S (mem_stuck g d τ (xs (i + 1)) j3) (cwV 1 K.2.2.2.2.1 (lw_V q252 q253 q254 q17 q255) rfl rfl rfl (by decide +kernel) ⟨Nat.le_of_ble_eq_true rfl, Nat.le_of_ble_eq_true rfl⟩) rfl hl.1 rfl (Nat.le_of_ble_eq_true rfl) dL_law_289 hcs (fun r2 v H locs S hv => ?_)
      obtain ⟨he, hJ2⟩ := law_stuck hJ hu hv
      exact lv_icmp_eq (tgt := 297) K.1 K.2.1 dL_law_292 (by decide) (fun _ => K297 u v H locs ls hJ2 S hl) (fun z => absurd he z)
    · refine lv_tableOut (tgt := 297) K.1 K.2.1 dL_law_32 (Or.inr (by rw [nI_toInt (by omega)]; omega)) (by decide) ?_
      exact K297 σ τ H locs ls hJ S hl
end
section
set_option maxRecDepth 100000
set_option maxHeartbeats 4000000 in
set_option maxRecDepth 100000 in
/-- from the entry, for every script of at most 192 ints, the law comes to its end with true -/
theorem whole_start {p : Program} {e : Env} {s : State} {m : MethodId} {below : List Frame} {meth : Method} {c : Code} (l : Launch) {b L : Nat} {xs : Nat → Int32} (hL : L ≤ 192) (C0 : lw_At p s m meth c b L xs) : W p l e room_1 s m #[Value.ref b] below meth c s.heap [] 0 0 (lw_Z below #[Value.ref b] s) (entryFrame m ([Value.ref b] : List Value).toArray 4) := by
  obtain ⟨hx, hb, hr, hml, hown, hts0, hX, hbl, hlocks, hgv⟩ := C0
  have hts : ∀ w ∈ lw_all, w.before #[Value.ref b] s = true := fun w h => hts0 w (lw_all_tbl h)
  obtain ⟨c0, i0, hKn0⟩ := u_known (C := RX0) (T := TX0) (N := 16) (n := 16) hts0 (fun w h => lw_all_tbl (in_X0 w h)) (hts0 _ (lw_all_tbl q19))
  obtain ⟨c1, i1, hKn1⟩ := u_known (C := RX1) (T := TX1) (N := 11) (n := 11) hts0 (fun w h => lw_all_tbl (in_X1 w h)) (hts0 _ (lw_all_tbl q155))
  have hKc : ∃ (dC : Nat → ClassId) (dI : Nat → Nat → Nat), va_K (dC, dI) vwCl [] s := by
    refine ⟨fun k => if k = 0 then c0 else c1, fun k => if k = 0 then i0 else i1, fun k q hq => ?_, fun k q hk => by simp at hk⟩
    match k, hq with
    | 0, hq => cases hq; exact hKn0
    | 1, hq => cases hq; exact hKn1
    | k + 2, hq => simp [vwCl] at hq
  obtain ⟨dC, dI, hK⟩ := hKc
  have hAs : ∀ q : Nat, s.heap.size ≤ q → (fun q : Nat => s.heap.size ≤ q) q := fun _ h => h
  generalize hA2 : (fun q : Nat => s.heap.size ≤ q) = A at hAs
  have hA : ∀ q : Nat, s.heap.size ≤ q → A q := hAs
  have hAr : ∀ q : Nat, A q → s.heap.size ≤ q := by rw [← hA2]; exact fun _ h => h
  have hbA : ¬ A b := fun z => absurd (hAr b z) (Nat.not_le.mpr hbl)
  have hP : va_P (dC, dI) vwCl [] s.heap := fun k q h => by simp at h
  have hD : va_D A [] := ⟨fun i j q r h => by simp at h, fun k q h => by simp at h⟩
  have hS : va_S A s.heap s.heap [] := va_S.rf
  have hl := lv_entry ([.ref b]) (n := 4) (Nat.le_of_ble_eq_true rfl)
  rw [lg_entry_eq]
  generalize (lg_sl ([.ref b]) ++ List.replicate (4 - (lg_sl ([.ref b])).length) Slot.unset).toArray = ls at hl ⊢
  have hl : lv_has ls 4 [(0, .ref b)] := hl
  refine va_new (ci := 0) (fs := [.int (nI 0), .int (nI 0), .null, .null, .null, .null, .int (nI 0), .null, .null, .int (nI 0), .null, .null, .int (nI 0), .null, .null, .null]) (C := RX0) (T := TX0) (N := 16) hx hb hts in_X0 tyX0 tyX0_ok hown (hts _ q18) (hts _ q19) (hts _ q16) hK hP hD hS hA rfl (fun j hj => by rcases (show j = 0 ∨ j = 1 ∨ j = 2 ∨ j = 3 ∨ j = 4 ∨ j = 5 ∨ j = 6 ∨ j = 7 ∨ j = 8 ∨ j = 9 ∨ j = 10 ∨ j = 11 ∨ j = 12 ∨ j = 13 ∨ j = 14 ∨ j = 15 by omega) with rfl | rfl | rfl | rfl | rfl | rfl | rfl | rfl | rfl | rfl | rfl | rfl | rfl | rfl | rfl | rfl <;> rfl) (Nat.le_of_ble_eq_true rfl) (Nat.le_of_ble_eq_true rfl) dL_law_0 (fun q0 H hP hD hS => ?_)
  have hP : va_P (dC, dI) vwCl [(q0, .inr (0, [.int (nI 0), .int (nI 0), .null, .null, .null, .null, .int (nI 0), .null, .null, .int (nI 0), .null, .null, .int (nI 0), .null, .null, .null]))] H := hP
  have hD : va_D A [(q0, .inr (0, [.int (nI 0), .int (nI 0), .null, .null, .null, .null, .int (nI 0), .null, .null, .int (nI 0), .null, .null, .int (nI 0), .null, .null, .null]))] := hD
  refine lv_dup hx hb dL_law_3 rfl ?_
  have hFc := va_free (wc := [(q0, .inr (0, [.int (nI 0), .int (nI 0), .null, .null, .null, .null, .int (nI 0), .null, .null, .int (nI 0), .null, .null, .int (nI 0), .null, .null, .null]))]) hD hS hA [0] rfl
  refine va_callv (va_runI (As := []) (rest := [.ref q0]) ⟨hx, hb, hml, hown, hts⟩ (met_init l dC dI q0 H.size) (cwI 0 hts (lw_meth q22) rfl rfl rfl (hts _ q16) (hts _ q20) (hts _ q21) rfl (by decide +kernel) ⟨Nat.le_of_ble_eq_true rfl, Nat.le_of_ble_eq_true rfl⟩) ⟨fun a U g mk q => by obtain ⟨z0, z1, qP, qK, qD⟩ := q; exact ⟨z0, z1, qP, va_K.moved (u := U) (U := U.calling g mk a) (Vm.Alike.refl U.vm) qK, qD⟩, fun U hU hW => ⟨rfl, by rw [hU], by rw [hU]; exact hP, va_K.moved hW.alike hK, hD.weaken (fun _ _ _ _ => trivial)⟩⟩ rfl rfl hl.1 rfl (lv_room (Nat.le_of_ble_eq_true rfl)) dL_law_4 ⟨Nat.le_of_ble_eq_true rfl, Nat.le_of_ble_eq_true rfl⟩) hS (fun q _ h => hFc q h) hFc (fun u t H1 locs ht hvm hw1 hB hz1 hk1 hS => ?_)
  obtain ⟨h, d⟩ := u
  have hw1 : h 0 = q0 := hw1
  obtain ⟨hP1, hK1, hD1⟩ := hB
  have hP1 : va_P (dC, dI) vwCl (pw h d (pClear sz0)) t.heap := hP1
  have hK1 : va_K (dC, dI) vwCl [(d, .int)] t := hK1
  rw [ht] at hP1
  have hK := va_K.moved hvm.symm hK1
  have hP := hP1
  have hD : va_D A (pw h d (pClear sz0)) := hD1.weaken (fun _ _ _ z => hFc _ z)
  generalize H1 = H at hP hS ⊢
  refine lv_astore_n (lv' := [(1, .ref q0), (0, .ref b)]) hx hb dL_law_7 rfl hl (by decide) rfl (fun ls hl => ?_)
  refine va_new (ci := 1) (fs := [.int (nI 0), .null, .null, .null, .null, .int (nI 0), .null, .null, .int (nI 0), .null, .null]) (C := RX1) (T := TX1) (N := 11) hx hb hts in_X1 tyX1 tyX1_ok hown (hts _ q154) (hts _ q155) (hts _ q17) hK hP hD hS hA rfl (fun j hj => by rcases (show j = 0 ∨ j = 1 ∨ j = 2 ∨ j = 3 ∨ j = 4 ∨ j = 5 ∨ j = 6 ∨ j = 7 ∨ j = 8 ∨ j = 9 ∨ j = 10 by omega) with rfl | rfl | rfl | rfl | rfl | rfl | rfl | rfl | rfl | rfl | rfl <;> rfl) (Nat.le_of_ble_eq_true rfl) (Nat.le_of_ble_eq_true rfl) dL_law_8 (fun q1 H hP hD hS => ?_)
  refine lv_dup hx hb dL_law_11 rfl ?_
  have hPc := hP.sub (ws' := [(q1, .inr (1, [.int (nI 0), .null, .null, .null, .null, .int (nI 0), .null, .null, .int (nI 0), .null, .null]))]) [12] rfl
  have hDc := hD.sub (ws' := [(q1, .inr (1, [.int (nI 0), .null, .null, .null, .null, .int (nI 0), .null, .null, .int (nI 0), .null, .null]))]) [12] (by decide) rfl
  have hFc := va_free (wc := [(q1, .inr (1, [.int (nI 0), .null, .null, .null, .null, .int (nI 0), .null, .null, .int (nI 0), .null, .null]))]) hD hS hA [12] rfl
  refine va_callv (va_runI (As := []) (rest := [.ref q1]) ⟨hx, hb, hml, hown, hts⟩ (mem_init l dC dI d q1 H.size) (cwI 0 hts (lw_meth q158) rfl rfl rfl (hts _ q17) (hts _ q156) (hts _ q157) rfl (by decide +kernel) ⟨Nat.le_of_ble_eq_true rfl, Nat.le_of_ble_eq_true rfl⟩) ⟨fun a U g mk q => by obtain ⟨z0, z1, qP, qK, qD⟩ := q; exact ⟨z0, z1, qP, va_K.moved (u := U) (U := U.calling g mk a) (Vm.Alike.refl U.vm) qK, qD⟩, fun U hU hW => ⟨rfl, by rw [hU], by rw [hU]; exact hPc, va_K.moved hW.alike hK, hDc.weaken (fun _ _ _ _ => trivial)⟩⟩ rfl rfl hl.1 rfl (lv_room (Nat.le_of_ble_eq_true rfl)) dL_law_12 ⟨Nat.le_of_ble_eq_true rfl, Nat.le_of_ble_eq_true rfl⟩) hS (fun q _ h => hFc q h) hFc (fun g t H1 locs ht hvm hw2 hB hz1 hk1 hS => ?_)
  have hw2 : g 0 = q1 := hw2
  obtain ⟨hP1, hK1, hD1⟩ := hB
  rw [ht] at hP1
  obtain ⟨hP, hD⟩ := va_join (wr := pw h d (pClear sz0)) (w1 := mw g d (mClear sz1)) hP hD [12] [0, 1, 2, 3, 4, 5, 6, 7, 8, 9, 10, 11] rfl rfl (by decide) (by decide) hk1 hFc hP1 hD1
  refine lv_astore_n (lv' := [(2, .ref q1), (1, .ref q0), (0, .ref b)]) hx hb dL_law_15 rfl hl (by decide) rfl (fun ls hl => ?_)
  refine lv_iconst (v := nI 0) hx hb dL_law_16 (by decide) ?_
  refine lv_istore_n (lv' := [(3, .int (nI 0)), (2, .ref q1), (1, .ref q0), (0, .ref b)]) hx hb dL_law_17 rfl hl (by decide) rfl (fun ls hl => ?_)
  rw [← hw1, ← hw2] at hl
  exact law_loop (d := d) (h := h) (g := g) ⟨Nat.le_of_ble_eq_true rfl, Nat.le_of_ble_eq_true rfl⟩ hL hr hlocks hX hbl hbA hAr ⟨hx, hb, hml, hown, hts, hK, hA⟩ (L + 1) 0 _ _ _ _ ls (by omega) (by omega) J_start ⟨hP, hD, hS⟩ (lv_sub hl [3, 2, 1, 0] rfl)
set_option maxHeartbeats 4000000 in
theorem lw_walk (l : Launch) (b : Addr) (xs : List Int32) : MetFree l x (headSpec (Jvm.Cond.code x code maxLocals ret :: tables_1) room_1) (lw_P b xs) (fun _ _ _ _ _ => True) lw_Q := by
  refine MetFree.of_bodyS (code := code) (maxLocals := maxLocals) (ret := ret) (by decide) ?_ ?_
  · intro args s m h hn
    obtain ⟨meth, c, h1, h2, h3, h4, h5, h6, -, -⟩ := Cond.code_spec hn (atoms_spec (ws := Jvm.Cond.code x code maxLocals ret :: tables_1) h _ List.mem_cons_self)
    exact ⟨meth, c, h1, h2, h3, h4, h5, h6⟩
  · intro p e s m args below meth c s₁ B hml0 hP _
    obtain ⟨rfl, hx, hbd, hgv⟩ := hP
    obtain ⟨scr, harrAt, hlist, hof, hsmall⟩ := hx
    obtain ⟨hcb, hkn, -, -⟩ := State.arrayAt?_spec harrAt
    have hown : s.vm.findClass R_law = some m.cls := findClass_of_methodNamed B.named
    have hts0 : ∀ c ∈ (Jvm.Cond.code x code maxLocals ret :: tables_1), c.before #[Value.ref b] s = true := atoms_spec (ws := Jvm.Cond.code x code maxLocals ret :: tables_1) B.pre
    have hts : ∀ w ∈ lw_tbl, w.before #[Value.ref b] s = true := k2_hts_sels lw_privs (fun w hw => hts0 w (List.mem_cons_of_mem _ hw)) lw_privs_ok
    have hml : c.maxLocals = 4 := B.maxLocals_eq (hts0 _ List.mem_cons_self)
    have X₀ : Stand p l e room_1 s m #[Value.ref b] below meth c s₁ [] 0 0 := Stand.of_body B
    have hh0 : s₁.heap = s.heap := by rw [B.state]; rfl
    have hsz : scr.slots.size = xs.length := by rw [← Array.length_toList, hlist, List.length_map]
    have hval : ∀ j : Nat, j < xs.length → scr.slots[j]? = some (.int (xs.getD j 0)) := fun j hj => by
      rw [← Array.getElem?_toList, hlist]
      simp [hj]
    have hbl : b < s.heap.size := (Array.getElem?_eq_some_iff.mp hcb).1
    have hX : va_X b xs.length (fun j => xs.getD j 0) s s.heap := ⟨scr, hcb, hof, hkn, hsz, hval⟩
    have K : W p l e room_1 s m #[Value.ref b] below meth c s₁.heap [] 0 0 (lw_Z below #[Value.ref b] s) (entryFrame m ([Value.ref b] : List Value).toArray 4) := by
      rw [hh0]
      exact whole_start l hbd ⟨B.exec, B.bytes, B.returns, hml, hown, hts, hX, hbl, B.notSynchronized, hgv⟩
    obtain ⟨t, a1, o, b1, b2, b3⟩ := K s₁ rfl X₀
    exact ⟨t, o, a1, b1, b2, b3⟩
theorem lw_pre_spec {args : Array Value} {s : State} (h : (Jvm.Cond.and given_1 narrow_1).before args s = true) (hr : rest_1_c.before args s = true) : ∃ (b : Addr) (xs : List Int32), lw_P b xs args s := by
  have hs := flat_of_before _ h
  have hq := flat_of_before _ hr
  have hc : (Cond.count 1).before args s = true := hs _ (by decide +kernel)
  have harr : (Cond.arrayOf (.arg 0) .int).before args s = true := hs _ (by decide +kernel)
  have hle : (Cond.le (.length (.arg 0)) (.int 192)).before args s = true := hs _ (by decide +kernel)
  have hlen : (Cond.isInt (.length (.arg 0))).before args s = true := hq _ (by decide +kernel)
  have hall : (Cond.all (.arg 0) (.isInt (.elem (.arg 0) (.index 0)))).before args s = true := hq _ (by decide +kernel)
  obtain ⟨b, xs, hb, hx⟩ := State.ints_of_pre rfl harr hlen hall
  have hsm : xs.length < 2 ^ 31 := hx.choose_spec.2.2.2
  have hev : (Term.length (.arg 0)).eval args s none [] s = some (.int xs.length.toInt32) := hx.length_eval hb
  have hv := Cond.le_ints hev (show (Term.int 192).eval args s none [] s = some (.int 192) from rfl)
  have hd : xs.length.toInt32 ≤ 192 := by
    simpa [Cond.before, Cond.holds, hv] using hle
  have hN : xs.length ≤ 192 := (Int32.ofNat_le_ofNat hsm (by decide)).mp (show Int32.ofNat xs.length ≤ Int32.ofNat 192 from hd)
  exact ⟨b, xs, Cond.one_arg hc (show args[0]? = some (.ref b) from hb), hx, hN, h⟩
theorem lw_comes (l : Launch) : Comes l x (Jvm.Cond.code x code maxLocals ret :: tables_1) room_1 (fun tb e args s => Calls_1 tb e args s ∧ rest_1 tb e args s ∧ Pre_1 tb e args s)
    (fun _ _ args s o t => lw_Q args s o t) := by
  intro p e ha hc hk s m args below hf hfit hheap happ hpre
  obtain ⟨b, xs, hP⟩ := lw_pre_spec hpre.2.2 hpre.2.1
  obtain ⟨k, o, h1, h2, h3, hQ⟩ := lw_walk l b xs p e ha hc hk s m args below hf ((Spec.applies_iff_loose hf).mp happ).1 hP trivial
  exact ⟨k, o, h1, h2, h3, hQ⟩
theorem lw_frame {s t : State} {o : Outcome} {args : Array Value} (h : Framed s o t [] 600000 7290000) :
    Framed s o t (fieldLocs frame_1_writes args s ++ arrayLocs frame_1_arrays args s ++ staticLocs frame_1_statics s) 600000 7290000 := h
theorem lw_limb (L : Cond) (hL : ∀ (args : Array Value) (s t : State), L.after args s (.returned (some (.int 1))) t = true) :
    ArmFor flags0 classFile x code maxLocals ret World_1 tables_1 room_1 Calls_1 rest_1 Pre_1
      (fun tb e a s o t => postC L tb e a s o t ∧ Framed s o t (fieldLocs frame_1_writes a s ++ arrayLocs frame_1_arrays a s ++ staticLocs frame_1_statics s) 600000 7290000) := by
  intro l _ _ _ p e ha hc hk s m args below hf hfit hheap happ hpre
  obtain ⟨k, o, h1, h2, h3, rfl, hF⟩ := lw_comes l p e ha hc hk s m args below hf hfit hheap happ hpre
  exact ⟨k, _, h1, h2, h3, hL args s _, lw_frame hF⟩
theorem i_vc : Claimed_1_1 ∧ Claimed_1_2 := ⟨lw_limb limb_1_1 (fun args s t => by simp [limb_1_1, Cond.after, Cond.holds, Cond.value]), lw_limb limb_1_2 (fun args s t => Cond.after_iff.mpr (by
  first | (rw [show limb_1_2 = Cond.eq .result (.int 1) from rfl, Cond.eq_ints (x := 1) (y := 1) rfl rfl]; simp; done) | (simp [limb_1_2, Cond.value, Term.eval]; done)))⟩
end
