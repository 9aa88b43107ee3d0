section
-- ===== PART A: goes FIRST, ahead of the names: the tables' words, and 'selects' of the private methods out of them =====
/-- a private method of a class that the tables say can be made, by its rows of tables_1 -/
def lw_okq (q : MethodName × Nat) : Prop := (q.1.cls ≠ "java/lang/invoke/MethodHandle" ∧ q.1.cls ≠ "java/lang/invoke/VarHandle") ∧ Cond.instantiable q.1.cls q.2 ∈ tables_1 ∧ Cond.privateMethod q.1 ∈ tables_1 ∧ Cond.instanceMethod q.1 ∈ tables_1
set_option maxRecDepth 100000
theorem lw_t1 {w : Cond} (h : w ∈ tables_1_1) : w ∈ tables_1 := List.mem_append_left _ h
theorem lw_t2 {w : Cond} (h : w ∈ tables_1_2) : w ∈ tables_1 := List.mem_append_right _ h
theorem lw_p0 : lw_okq (⟨"OolMessagePorts", "hold", "(I)I"⟩, 13) := ⟨⟨by decide +kernel, by decide +kernel⟩, lw_t1 (List.mem_of_getElem? (i := 4) rfl), lw_t1 (List.mem_of_getElem? (i := 64) rfl), lw_t1 (List.mem_of_getElem? (i := 65) rfl)⟩
theorem lw_p1 : lw_okq (⟨"OolMessagePorts", "mappedPages", "(I)I"⟩, 13) := ⟨⟨by decide +kernel, by decide +kernel⟩, lw_t1 (List.mem_of_getElem? (i := 4) rfl), lw_t1 (List.mem_of_getElem? (i := 68) rfl), lw_t1 (List.mem_of_getElem? (i := 69) rfl)⟩
theorem lw_p2 : lw_okq (⟨"OolMessagePorts", "letGo", "(I)V"⟩, 13) := ⟨⟨by decide +kernel, by decide +kernel⟩, lw_t1 (List.mem_of_getElem? (i := 4) rfl), lw_t1 (List.mem_of_getElem? (i := 76) rfl), lw_t1 (List.mem_of_getElem? (i := 77) rfl)⟩
theorem lw_p3 : lw_okq (⟨"OolMessagePorts", "ownFrame", "(I)I"⟩, 13) := ⟨⟨by decide +kernel, by decide +kernel⟩, lw_t1 (List.mem_of_getElem? (i := 4) rfl), lw_t1 (List.mem_of_getElem? (i := 84) rfl), lw_t1 (List.mem_of_getElem? (i := 85) rfl)⟩
theorem lw_p4 : lw_okq (⟨"OolMessagePorts", "dropHead", "(I)V"⟩, 13) := ⟨⟨by decide +kernel, by decide +kernel⟩, lw_t1 (List.mem_of_getElem? (i := 4) rfl), lw_t1 (List.mem_of_getElem? (i := 100) rfl), lw_t1 (List.mem_of_getElem? (i := 101) rfl)⟩
theorem lw_p5 : lw_okq (⟨"OolMessagePorts", "clearKept", "(I)V"⟩, 13) := ⟨⟨by decide +kernel, by decide +kernel⟩, lw_t1 (List.mem_of_getElem? (i := 4) rfl), lw_t1 (List.mem_of_getElem? (i := 112) rfl), lw_t1 (List.mem_of_getElem? (i := 113) rfl)⟩
theorem lw_p6 : lw_okq (⟨"OolMessagePorts", "clearTable", "(I)V"⟩, 13) := ⟨⟨by decide +kernel, by decide +kernel⟩, lw_t1 (List.mem_of_getElem? (i := 4) rfl), lw_t1 (List.mem_of_getElem? (i := 120) rfl), lw_t1 (List.mem_of_getElem? (i := 121) rfl)⟩
theorem lw_p7 : lw_okq (⟨"OolMessagePortsModel", "bad", "(I)Z"⟩, 10) := ⟨⟨by decide +kernel, by decide +kernel⟩, lw_t1 (List.mem_of_getElem? (i := 144) rfl), lw_t1 (List.mem_of_getElem? (i := 185) rfl), lw_t1 (List.mem_of_getElem? (i := 186) rfl)⟩
theorem lw_p8 : lw_okq (⟨"OolMessagePortsModel", "badPage", "(I)Z"⟩, 10) := ⟨⟨by decide +kernel, by decide +kernel⟩, lw_t1 (List.mem_of_getElem? (i := 144) rfl), lw_t1 (List.mem_of_getElem? (i := 189) rfl), lw_t1 (List.mem_of_getElem? (i := 190) rfl)⟩
theorem lw_p9 : lw_okq (⟨"OolMessagePortsModel", "count", "(I)I"⟩, 10) := ⟨⟨by decide +kernel, by decide +kernel⟩, lw_t1 (List.mem_of_getElem? (i := 144) rfl), lw_t1 (List.mem_of_getElem? (i := 193) rfl), lw_t1 (List.mem_of_getElem? (i := 194) rfl)⟩
theorem lw_p10 : lw_okq (⟨"OolMessagePortsModel", "forward", "(I)V"⟩, 10) := ⟨⟨by decide +kernel, by decide +kernel⟩, lw_t1 (List.mem_of_getElem? (i := 144) rfl), lw_t1 (List.mem_of_getElem? (i := 217) rfl), lw_t1 (List.mem_of_getElem? (i := 218) rfl)⟩
def lw_privs_1 : List (MethodName × Nat) := [(⟨"OolMessagePorts", "hold", "(I)I"⟩, 13), (⟨"OolMessagePorts", "mappedPages", "(I)I"⟩, 13), (⟨"OolMessagePorts", "letGo", "(I)V"⟩, 13), (⟨"OolMessagePorts", "ownFrame", "(I)I"⟩, 13), (⟨"OolMessagePorts", "dropHead", "(I)V"⟩, 13), (⟨"OolMessagePorts", "clearKept", "(I)V"⟩, 13), (⟨"OolMessagePorts", "clearTable", "(I)V"⟩, 13), (⟨"OolMessagePortsModel", "bad", "(I)Z"⟩, 10), (⟨"OolMessagePortsModel", "badPage", "(I)Z"⟩, 10), (⟨"OolMessagePortsModel", "count", "(I)I"⟩, 10), (⟨"OolMessagePortsModel", "forward", "(I)V"⟩, 10)]
theorem lw_r1 : ∀ q ∈ lw_privs_1, lw_okq q := List.forall_mem_cons.mpr ⟨lw_p0, List.forall_mem_cons.mpr ⟨lw_p1, List.forall_mem_cons.mpr ⟨lw_p2, List.forall_mem_cons.mpr ⟨lw_p3, List.forall_mem_cons.mpr ⟨lw_p4, List.forall_mem_cons.mpr ⟨lw_p5, List.forall_mem_cons.mpr ⟨lw_p6, List.forall_mem_cons.mpr ⟨lw_p7, List.forall_mem_cons.mpr ⟨lw_p8, List.forall_mem_cons.mpr ⟨lw_p9, List.forall_mem_cons.mpr ⟨lw_p10, fun _ h => absurd h List.not_mem_nil⟩⟩⟩⟩⟩⟩⟩⟩⟩⟩⟩
def lw_privs : List (MethodName × Nat) := lw_privs_1
def lw_tbl : List Cond := k2_sels lw_privs ++ tables_1
theorem lw_privs_ok : ∀ q ∈ lw_privs, lw_okq q := lw_r1
-- ===== ONE list of words for every method: the tables' words that hold all through a run =====
def lw_all : List Cond := lw_tbl.filter goodWord
/-- a word of the tables by its place: claim/WORDS.tsv -/
theorem lw_w {w : Cond} (i : Nat) (h : lw_tbl[i]? = some w) (g : goodWord w = true) : w ∈ lw_all := List.mem_filter.mpr ⟨List.mem_of_getElem? h, g⟩
theorem lw_all_tbl {w : Cond} (h : w ∈ lw_all) : w ∈ lw_tbl := (List.mem_filter.mp h).1
theorem lw_self : GoodIn lw_all lw_all := fun w h => ⟨h, good_of_word (List.mem_filter.mp h).2⟩
/-- a class's field words, by their places -/
theorem lw_in (ws : List Cond) (ps : List Nat) (hp : ws = ps.filterMap (fun i => lw_tbl[i]?)) (hg : ws.all goodWord = true) : ∀ w ∈ ws, w ∈ lw_all := by
  intro w h
  have h1 := List.all_eq_true.mp hg w h
  rw [hp] at h
  obtain ⟨i, -, hi⟩ := List.mem_filterMap.mp h
  exact lw_w i hi h1
/-- the words of a contract for the method y with code b, L locals, answer r -/
abbrev ws_ (y : MethodName) (b : ByteArray) (L : Nat) (r : Option FieldType) : List Cond := Cond.code y b L r :: lw_all
theorem lw_meth {y : MethodName} {b : ByteArray} {L : Nat} {r : Option FieldType} (h : Cond.code y b L r ∈ lw_all) : GoodIn lw_all (ws_ y b L r) := by
  intro w hw
  rcases List.mem_cons.mp hw with e | e
  · rw [e]
    exact lw_self _ h
  · exact lw_self _ e
theorem lw_app {a c : List Cond} (ha : ∀ w ∈ a, w ∈ lw_all) (hc : GoodIn lw_all c) : GoodIn lw_all (a ++ c) := by
  intro w hw
  rcases List.mem_append.mp hw with e | e
  · exact lw_self w (ha w e)
  · exact hc w e
/-- what a call through an object asks: cwV n hts (lw_V ..) -/
theorem lw_V {own : String} {idx : Nat} {C : String} {y : MethodName} {b : ByteArray} {L : Nat} {r : Option FieldType} (h1 : Cond.methodLink own idx y ∈ lw_all) (h2 : Cond.instanceMethod y ∈ lw_all) (h3 : Cond.selects C y y ∈ lw_all) (h4 : Cond.initialized C ∈ lw_all) (h5 : Cond.code y b L r ∈ lw_all) : GoodIn lw_all (wsV own idx C y (ws_ y b L r)) := by
  refine lw_app ?_ (lw_meth h5)
  intro w hw
  simp only [List.mem_cons, List.not_mem_nil, or_false] at hw
  rcases hw with e | e | e | e
  · rw [e]; exact h1
  · rw [e]; exact h2
  · rw [e]; exact h3
  · rw [e]; exact h4
/-- what a static call asks: va_cwS n hts (lw_S ..) -/
theorem lw_S {own : String} {idx : Nat} {y : MethodName} {b : ByteArray} {L : Nat} {r : Option FieldType} (h1 : Cond.methodLink own idx y ∈ lw_all) (h2 : Cond.static y ∈ lw_all) (h3 : Cond.initialized y.cls ∈ lw_all) (h4 : Cond.code y b L r ∈ lw_all) : GoodIn lw_all (va_wsS own idx y (ws_ y b L r)) := by
  refine lw_app ?_ (lw_meth h4)
  intro w hw
  simp only [List.mem_cons, List.not_mem_nil, or_false] at hw
  rcases hw with e | e | e
  · rw [e]; exact h1
  · rw [e]; exact h2
  · rw [e]; exact h3
/-- the words of a contract for a method WITH HANDLERS (hh: its table) -/
abbrev wsW_ (y : MethodName) (b : ByteArray) (L : Nat) (r : Option FieldType) (hh : List (Nat × Nat × Nat × Nat)) : List Cond := Cond.codeWith y b L r hh :: lw_all
theorem lw_methW {y : MethodName} {b : ByteArray} {L : Nat} {r : Option FieldType} {hh : List (Nat × Nat × Nat × Nat)} (h : Cond.codeWith y b L r hh ∈ lw_all) : GoodIn lw_all (wsW_ y b L r hh) := by
  intro w hw
  rcases List.mem_cons.mp hw with e | e
  · rw [e]
    exact lw_self _ h
  · exact lw_self _ e
/-- any list of words by their places (lw_in), good -/
theorem lw_good {ws : List Cond} (h : ∀ w ∈ ws, w ∈ lw_all) : GoodIn lw_all ws := fun w hw => lw_self w (h w hw)
/-- what a call of a method with handlers asks: vx_cwVW n hts (lw_VW ..), vx_cwSW n hts (lw_SW ..) -/
theorem lw_VW {own : String} {idx : Nat} {C : String} {y : MethodName} {b : ByteArray} {L : Nat} {r : Option FieldType} {hh : List (Nat × Nat × Nat × Nat)} (h1 : Cond.methodLink own idx y ∈ lw_all) (h2 : Cond.instanceMethod y ∈ lw_all) (h3 : Cond.selects C y y ∈ lw_all) (h4 : Cond.initialized C ∈ lw_all) (h5 : Cond.codeWith y b L r hh ∈ lw_all) : GoodIn lw_all (wsV own idx C y (wsW_ y b L r hh)) := by
  refine lw_app ?_ (lw_methW h5)
  intro w hw
  simp only [List.mem_cons, List.not_mem_nil, or_false] at hw
  rcases hw with e | e | e | e
  · rw [e]; exact h1
  · rw [e]; exact h2
  · rw [e]; exact h3
  · rw [e]; exact h4
theorem lw_SW {own : String} {idx : Nat} {y : MethodName} {b : ByteArray} {L : Nat} {r : Option FieldType} {hh : List (Nat × Nat × Nat × Nat)} (h1 : Cond.methodLink own idx y ∈ lw_all) (h2 : Cond.static y ∈ lw_all) (h3 : Cond.initialized y.cls ∈ lw_all) (h4 : Cond.codeWith y b L r hh ∈ lw_all) : GoodIn lw_all (va_wsS own idx y (wsW_ y b L r hh)) := by
  refine lw_app ?_ (lw_methW h4)
  intro w hw
  simp only [List.mem_cons, List.not_mem_nil, or_false] at hw
  rcases hw with e | e | e
  · rw [e]; exact h1
  · rw [e]; exact h2
  · rw [e]; exact h3
/-- a word by its place in its run of the tables -/
theorem lw_at {r : List Cond} (hr : ∀ w ∈ r, w ∈ lw_tbl) {w : Cond} (i : Nat) (h : r[i]? = some w) : w ∈ lw_tbl := hr w (List.mem_of_getElem? h)
theorem lw_g {w : Cond} (h : w ∈ lw_tbl) (g : goodWord w = true) : w ∈ lw_all := List.mem_filter.mpr ⟨h, g⟩
theorem lw_ms : ∀ w ∈ k2_sels lw_privs, w ∈ lw_tbl := fun w h => show w ∈ k2_sels lw_privs ++ tables_1 from List.mem_append_left _ h
theorem lw_m1 : ∀ w ∈ tables_1_1, w ∈ lw_tbl := fun w h => show w ∈ k2_sels lw_privs ++ tables_1 from List.mem_append_right (k2_sels lw_privs) (show w ∈ tables_1 from List.mem_append_left _ h)
theorem lw_m2 : ∀ w ∈ tables_1_2, w ∈ lw_tbl := fun w h => show w ∈ k2_sels lw_privs ++ tables_1 from List.mem_append_right (k2_sels lw_privs) (show w ∈ tables_1 from List.mem_append_right _ h)
theorem qs0 : (Cond.selects "OolMessagePorts" ⟨"OolMessagePorts", "hold", "(I)I"⟩ ⟨"OolMessagePorts", "hold", "(I)I"⟩) ∈ lw_all := lw_g (lw_at lw_ms 0 rfl) rfl
theorem qs1 : (Cond.selects "OolMessagePorts" ⟨"OolMessagePorts", "mappedPages", "(I)I"⟩ ⟨"OolMessagePorts", "mappedPages", "(I)I"⟩) ∈ lw_all := lw_g (lw_at lw_ms 1 rfl) rfl
theorem qs2 : (Cond.selects "OolMessagePorts" ⟨"OolMessagePorts", "letGo", "(I)V"⟩ ⟨"OolMessagePorts", "letGo", "(I)V"⟩) ∈ lw_all := lw_g (lw_at lw_ms 2 rfl) rfl
theorem qs3 : (Cond.selects "OolMessagePorts" ⟨"OolMessagePorts", "ownFrame", "(I)I"⟩ ⟨"OolMessagePorts", "ownFrame", "(I)I"⟩) ∈ lw_all := lw_g (lw_at lw_ms 3 rfl) rfl
theorem qs4 : (Cond.selects "OolMessagePorts" ⟨"OolMessagePorts", "dropHead", "(I)V"⟩ ⟨"OolMessagePorts", "dropHead", "(I)V"⟩) ∈ lw_all := lw_g (lw_at lw_ms 4 rfl) rfl
theorem qs5 : (Cond.selects "OolMessagePorts" ⟨"OolMessagePorts", "clearKept", "(I)V"⟩ ⟨"OolMessagePorts", "clearKept", "(I)V"⟩) ∈ lw_all := lw_g (lw_at lw_ms 5 rfl) rfl
theorem qs6 : (Cond.selects "OolMessagePorts" ⟨"OolMessagePorts", "clearTable", "(I)V"⟩ ⟨"OolMessagePorts", "clearTable", "(I)V"⟩) ∈ lw_all := lw_g (lw_at lw_ms 6 rfl) rfl
theorem qs7 : (Cond.selects "OolMessagePortsModel" ⟨"OolMessagePortsModel", "bad", "(I)Z"⟩ ⟨"OolMessagePortsModel", "bad", "(I)Z"⟩) ∈ lw_all := lw_g (lw_at lw_ms 7 rfl) rfl
theorem qs8 : (Cond.selects "OolMessagePortsModel" ⟨"OolMessagePortsModel", "badPage", "(I)Z"⟩ ⟨"OolMessagePortsModel", "badPage", "(I)Z"⟩) ∈ lw_all := lw_g (lw_at lw_ms 8 rfl) rfl
theorem qs9 : (Cond.selects "OolMessagePortsModel" ⟨"OolMessagePortsModel", "count", "(I)I"⟩ ⟨"OolMessagePortsModel", "count", "(I)I"⟩) ∈ lw_all := lw_g (lw_at lw_ms 9 rfl) rfl
theorem qs10 : (Cond.selects "OolMessagePortsModel" ⟨"OolMessagePortsModel", "forward", "(I)V"⟩ ⟨"OolMessagePortsModel", "forward", "(I)V"⟩) ∈ lw_all := lw_g (lw_at lw_ms 10 rfl) rfl
end
section
set_option maxRecDepth 100000
def RJ0 : String := "java/lang/Object"
abbrev cJ0_init : ByteArray := object_method_1_code
def yJ0_init : MethodName := ⟨RJ0, "<init>", "()V"⟩
theorem q20 : (Jvm.Cond.instanceMethod ({ cls := "java/lang/Object", name := "<init>", desc := "()V" } : Jvm.MethodName)) ∈ lw_all := lw_g (lw_at lw_m1 9 rfl) rfl
theorem q21 : (Jvm.Cond.code ({ cls := "java/lang/Object", name := "<init>", desc := "()V" } : Jvm.MethodName) object_method_1_code (1 : Nat) (Option.none : Option Jvm.ClassFile.FieldType)) ∈ lw_all := lw_g (lw_at lw_m1 10 rfl) rfl
theorem q62 : (Jvm.Cond.arrayClass Jvm.ClassFile.FieldType.int) ∈ lw_all := lw_g (lw_at lw_m1 51 rfl) rfl
theorem q63 : (Jvm.Cond.arrayClass Jvm.ClassFile.FieldType.boolean) ∈ lw_all := lw_g (lw_at lw_m1 52 rfl) rfl
def RX0 : String := "OolMessagePorts"
def TX0 : u_T := fun k => match k with
  | 0 => ("OolMessagePorts", "words", "[I", true)
  | 1 => ("OolMessagePorts", "holders", "[I", true)
  | 2 => ("OolMessagePorts", "free", "[I", true)
  | 3 => ("OolMessagePorts", "freeTop", "I", false)
  | 4 => ("OolMessagePorts", "table", "[I", true)
  | 5 => ("OolMessagePorts", "kept", "[I", true)
  | 6 => ("OolMessagePorts", "hasKept", "[Z", true)
  | 7 => ("OolMessagePorts", "last", "[I", true)
  | 8 => ("OolMessagePorts", "head", "[I", true)
  | 9 => ("OolMessagePorts", "count", "[I", true)
  | 10 => ("OolMessagePorts", "inline", "[I", true)
  | 11 => ("OolMessagePorts", "pages", "[I", true)
  | _ => ("OolMessagePorts", "carried", "[I", true)
def tyX0 : Nat → FieldType := fun k => match k with
  | 0 => .array .int
  | 1 => .array .int
  | 2 => .array .int
  | 3 => .int
  | 4 => .array .int
  | 5 => .array .int
  | 6 => .array .boolean
  | 7 => .array .int
  | 8 => .array .int
  | 9 => .array .int
  | 10 => .array .int
  | 11 => .array .int
  | _ => .array .int
abbrev wsX00 : List Cond := u_ws RX0 TX0 13
set_option maxRecDepth 100000 in
theorem nmX0 : ∀ a, a < 13 → ∀ b, b < 13 → a ≠ b → (TX0 a).2.1 ≠ (TX0 b).2.1 := by decide +kernel
set_option maxRecDepth 100000 in
theorem tyX0_ok : ∀ k, k < 13 → parseFieldDescriptor (TX0 k).2.2.1 = some (tyX0 k) := by decide +kernel
abbrev cX0_init : ByteArray := prog_1_method_1_code
def yX0_init : MethodName := ⟨RX0, "<init>", "()V"⟩
abbrev cX0_map : ByteArray := prog_1_method_10_code
def yX0_map : MethodName := ⟨RX0, "map", "(II)I"⟩
abbrev cX0_badNumber : ByteArray := prog_1_method_2_code
def yX0_badNumber : MethodName := ⟨RX0, "badNumber", "(I)Z"⟩
abbrev cX0_badPage : ByteArray := prog_1_method_3_code
def yX0_badPage : MethodName := ⟨RX0, "badPage", "(I)Z"⟩
abbrev cX0_hold : ByteArray := prog_1_method_4_code
def yX0_hold : MethodName := ⟨RX0, "hold", "(I)I"⟩
abbrev cX0_mappedPages : ByteArray := prog_1_method_7_code
def yX0_mappedPages : MethodName := ⟨RX0, "mappedPages", "(I)I"⟩
abbrev cX0_unmap : ByteArray := prog_1_method_11_code
def yX0_unmap : MethodName := ⟨RX0, "unmap", "(II)I"⟩
abbrev cX0_letGo : ByteArray := prog_1_method_5_code
def yX0_letGo : MethodName := ⟨RX0, "letGo", "(I)V"⟩
abbrev cX0_write : ByteArray := prog_1_method_12_code
def yX0_write : MethodName := ⟨RX0, "write", "(III)I"⟩
abbrev cX0_ownFrame : ByteArray := prog_1_method_6_code
def yX0_ownFrame : MethodName := ⟨RX0, "ownFrame", "(I)I"⟩
abbrev cX0_copy : ByteArray := prog_1_method_13_code
def yX0_copy : MethodName := ⟨RX0, "copy", "(III)I"⟩
abbrev cX0_send : ByteArray := prog_1_method_14_code
def yX0_send : MethodName := ⟨RX0, "send", "(IIII)I"⟩
abbrev cX0_receive : ByteArray := prog_1_method_15_code
def yX0_receive : MethodName := ⟨RX0, "receive", "(III)I"⟩
abbrev cX0_dropHead : ByteArray := prog_1_method_16_code
def yX0_dropHead : MethodName := ⟨RX0, "dropHead", "(I)V"⟩
abbrev cX0_drain : ByteArray := prog_1_method_17_code
def yX0_drain : MethodName := ⟨RX0, "drain", "(I)I"⟩
abbrev cX0_snapshot : ByteArray := prog_1_method_18_code
def yX0_snapshot : MethodName := ⟨RX0, "snapshot", "(I)I"⟩
abbrev cX0_clearKept : ByteArray := prog_1_method_9_code
def yX0_clearKept : MethodName := ⟨RX0, "clearKept", "(I)V"⟩
abbrev cX0_rollBack : ByteArray := prog_1_method_19_code
def yX0_rollBack : MethodName := ⟨RX0, "rollBack", "(I)I"⟩
abbrev cX0_clearTable : ByteArray := prog_1_method_8_code
def yX0_clearTable : MethodName := ⟨RX0, "clearTable", "(I)V"⟩
abbrev cX0_exit : ByteArray := prog_1_method_20_code
def yX0_exit : MethodName := ⟨RX0, "exit", "(I)I"⟩
abbrev cX0_read : ByteArray := prog_1_method_21_code
def yX0_read : MethodName := ⟨RX0, "read", "(II)I"⟩
abbrev cX0_mapped : ByteArray := prog_1_method_22_code
def yX0_mapped : MethodName := ⟨RX0, "mapped", "(II)Z"⟩
abbrev cX0_lastWord : ByteArray := prog_1_method_23_code
def yX0_lastWord : MethodName := ⟨RX0, "lastWord", "(I)I"⟩
abbrev cX0_waiting : ByteArray := prog_1_method_24_code
def yX0_waiting : MethodName := ⟨RX0, "waiting", "(I)I"⟩
theorem q12 : (Jvm.Cond.initialized "OolMessagePorts") ∈ lw_all := lw_g (lw_at lw_m1 1 rfl) rfl
theorem q15 : (Jvm.Cond.instantiable "OolMessagePorts" (13 : Nat)) ∈ lw_all := lw_g (lw_at lw_m1 4 rfl) rfl
theorem q17 : (Jvm.Cond.instanceMethod ({ cls := "OolMessagePorts", name := "<init>", desc := "()V" } : Jvm.MethodName)) ∈ lw_all := lw_g (lw_at lw_m1 6 rfl) rfl
theorem q18 : (Jvm.Cond.code ({ cls := "OolMessagePorts", name := "<init>", desc := "()V" } : Jvm.MethodName) prog_1_method_1_code (2 : Nat) (Option.none : Option Jvm.ClassFile.FieldType)) ∈ lw_all := lw_g (lw_at lw_m1 7 rfl) rfl
theorem q19 : (Jvm.Cond.methodLink "OolMessagePorts" (1 : Nat) ({ cls := "java/lang/Object", name := "<init>", desc := "()V" } : Jvm.MethodName)) ∈ lw_all := lw_g (lw_at lw_m1 8 rfl) rfl
theorem q22 : (Jvm.Cond.fieldLink "OolMessagePorts" (7 : Nat) "OolMessagePorts" "words" "[I") ∈ lw_all := lw_g (lw_at lw_m1 11 rfl) rfl
theorem q23 : (Jvm.Cond.fieldLink "OolMessagePorts" (13 : Nat) "OolMessagePorts" "holders" "[I") ∈ lw_all := lw_g (lw_at lw_m1 12 rfl) rfl
theorem q24 : (Jvm.Cond.fieldLink "OolMessagePorts" (16 : Nat) "OolMessagePorts" "free" "[I") ∈ lw_all := lw_g (lw_at lw_m1 13 rfl) rfl
theorem q25 : (Jvm.Cond.fieldLink "OolMessagePorts" (47 : Nat) "OolMessagePorts" "freeTop" "I") ∈ lw_all := lw_g (lw_at lw_m1 14 rfl) rfl
theorem q26 : (Jvm.Cond.fieldLink "OolMessagePorts" (19 : Nat) "OolMessagePorts" "table" "[I") ∈ lw_all := lw_g (lw_at lw_m1 15 rfl) rfl
theorem q27 : (Jvm.Cond.fieldLink "OolMessagePorts" (22 : Nat) "OolMessagePorts" "kept" "[I") ∈ lw_all := lw_g (lw_at lw_m1 16 rfl) rfl
theorem q28 : (Jvm.Cond.fieldLink "OolMessagePorts" (25 : Nat) "OolMessagePorts" "hasKept" "[Z") ∈ lw_all := lw_g (lw_at lw_m1 17 rfl) rfl
theorem q29 : (Jvm.Cond.fieldLink "OolMessagePorts" (29 : Nat) "OolMessagePorts" "last" "[I") ∈ lw_all := lw_g (lw_at lw_m1 18 rfl) rfl
theorem q30 : (Jvm.Cond.fieldLink "OolMessagePorts" (32 : Nat) "OolMessagePorts" "head" "[I") ∈ lw_all := lw_g (lw_at lw_m1 19 rfl) rfl
theorem q31 : (Jvm.Cond.fieldLink "OolMessagePorts" (35 : Nat) "OolMessagePorts" "count" "[I") ∈ lw_all := lw_g (lw_at lw_m1 20 rfl) rfl
theorem q32 : (Jvm.Cond.fieldLink "OolMessagePorts" (38 : Nat) "OolMessagePorts" "inline" "[I") ∈ lw_all := lw_g (lw_at lw_m1 21 rfl) rfl
theorem q33 : (Jvm.Cond.fieldLink "OolMessagePorts" (41 : Nat) "OolMessagePorts" "pages" "[I") ∈ lw_all := lw_g (lw_at lw_m1 22 rfl) rfl
theorem q34 : (Jvm.Cond.fieldLink "OolMessagePorts" (44 : Nat) "OolMessagePorts" "carried" "[I") ∈ lw_all := lw_g (lw_at lw_m1 23 rfl) rfl
theorem q35 : (Jvm.Cond.laysFinal "OolMessagePorts" "OolMessagePorts" "words" "[I") ∈ lw_all := lw_g (lw_at lw_m1 24 rfl) rfl
theorem q36 : (Jvm.Cond.soleField "OolMessagePorts" "words") ∈ lw_all := lw_g (lw_at lw_m1 25 rfl) rfl
theorem q37 : (Jvm.Cond.laysFinal "OolMessagePorts" "OolMessagePorts" "holders" "[I") ∈ lw_all := lw_g (lw_at lw_m1 26 rfl) rfl
theorem q38 : (Jvm.Cond.soleField "OolMessagePorts" "holders") ∈ lw_all := lw_g (lw_at lw_m1 27 rfl) rfl
theorem q39 : (Jvm.Cond.laysFinal "OolMessagePorts" "OolMessagePorts" "free" "[I") ∈ lw_all := lw_g (lw_at lw_m1 28 rfl) rfl
theorem q40 : (Jvm.Cond.soleField "OolMessagePorts" "free") ∈ lw_all := lw_g (lw_at lw_m1 29 rfl) rfl
theorem q41 : (Jvm.Cond.lays "OolMessagePorts" "OolMessagePorts" "freeTop" "I") ∈ lw_all := lw_g (lw_at lw_m1 30 rfl) rfl
theorem q42 : (Jvm.Cond.soleField "OolMessagePorts" "freeTop") ∈ lw_all := lw_g (lw_at lw_m1 31 rfl) rfl
theorem q43 : (Jvm.Cond.laysFinal "OolMessagePorts" "OolMessagePorts" "table" "[I") ∈ lw_all := lw_g (lw_at lw_m1 32 rfl) rfl
theorem q44 : (Jvm.Cond.soleField "OolMessagePorts" "table") ∈ lw_all := lw_g (lw_at lw_m1 33 rfl) rfl
theorem q45 : (Jvm.Cond.laysFinal "OolMessagePorts" "OolMessagePorts" "kept" "[I") ∈ lw_all := lw_g (lw_at lw_m1 34 rfl) rfl
theorem q46 : (Jvm.Cond.soleField "OolMessagePorts" "kept") ∈ lw_all := lw_g (lw_at lw_m1 35 rfl) rfl
theorem q47 : (Jvm.Cond.laysFinal "OolMessagePorts" "OolMessagePorts" "hasKept" "[Z") ∈ lw_all := lw_g (lw_at lw_m1 36 rfl) rfl
theorem q48 : (Jvm.Cond.soleField "OolMessagePorts" "hasKept") ∈ lw_all := lw_g (lw_at lw_m1 37 rfl) rfl
theorem q49 : (Jvm.Cond.laysFinal "OolMessagePorts" "OolMessagePorts" "last" "[I") ∈ lw_all := lw_g (lw_at lw_m1 38 rfl) rfl
theorem q50 : (Jvm.Cond.soleField "OolMessagePorts" "last") ∈ lw_all := lw_g (lw_at lw_m1 39 rfl) rfl
theorem q51 : (Jvm.Cond.laysFinal "OolMessagePorts" "OolMessagePorts" "head" "[I") ∈ lw_all := lw_g (lw_at lw_m1 40 rfl) rfl
theorem q52 : (Jvm.Cond.soleField "OolMessagePorts" "head") ∈ lw_all := lw_g (lw_at lw_m1 41 rfl) rfl
theorem q53 : (Jvm.Cond.laysFinal "OolMessagePorts" "OolMessagePorts" "count" "[I") ∈ lw_all := lw_g (lw_at lw_m1 42 rfl) rfl
theorem q54 : (Jvm.Cond.soleField "OolMessagePorts" "count") ∈ lw_all := lw_g (lw_at lw_m1 43 rfl) rfl
theorem q55 : (Jvm.Cond.laysFinal "OolMessagePorts" "OolMessagePorts" "inline" "[I") ∈ lw_all := lw_g (lw_at lw_m1 44 rfl) rfl
theorem q56 : (Jvm.Cond.soleField "OolMessagePorts" "inline") ∈ lw_all := lw_g (lw_at lw_m1 45 rfl) rfl
theorem q57 : (Jvm.Cond.laysFinal "OolMessagePorts" "OolMessagePorts" "pages" "[I") ∈ lw_all := lw_g (lw_at lw_m1 46 rfl) rfl
theorem q58 : (Jvm.Cond.soleField "OolMessagePorts" "pages") ∈ lw_all := lw_g (lw_at lw_m1 47 rfl) rfl
theorem q59 : (Jvm.Cond.laysFinal "OolMessagePorts" "OolMessagePorts" "carried" "[I") ∈ lw_all := lw_g (lw_at lw_m1 48 rfl) rfl
theorem q60 : (Jvm.Cond.soleField "OolMessagePorts" "carried") ∈ lw_all := lw_g (lw_at lw_m1 49 rfl) rfl
theorem q61 : (Jvm.Cond.superclass "OolMessagePorts" "java/lang/Object") ∈ lw_all := lw_g (lw_at lw_m1 50 rfl) rfl
theorem q65 : (Jvm.Cond.instanceMethod ({ cls := "OolMessagePorts", name := "map", desc := "(II)I" } : Jvm.MethodName)) ∈ lw_all := lw_g (lw_at lw_m1 54 rfl) rfl
theorem q66 : (Jvm.Cond.selects "OolMessagePorts" ({ cls := "OolMessagePorts", name := "map", desc := "(II)I" } : Jvm.MethodName) ({ cls := "OolMessagePorts", name := "map", desc := "(II)I" } : Jvm.MethodName)) ∈ lw_all := lw_g (lw_at lw_m1 55 rfl) rfl
theorem q67 : (Jvm.Cond.code ({ cls := "OolMessagePorts", name := "map", desc := "(II)I" } : Jvm.MethodName) prog_1_method_10_code (4 : Nat) (Option.some Jvm.ClassFile.FieldType.int)) ∈ lw_all := lw_g (lw_at lw_m1 56 rfl) rfl
theorem q68 : (Jvm.Cond.methodLink "OolMessagePorts" (55 : Nat) ({ cls := "OolMessagePorts", name := "badNumber", desc := "(I)Z" } : Jvm.MethodName)) ∈ lw_all := lw_g (lw_at lw_m1 57 rfl) rfl
theorem q69 : (Jvm.Cond.static ({ cls := "OolMessagePorts", name := "badNumber", desc := "(I)Z" } : Jvm.MethodName)) ∈ lw_all := lw_g (lw_at lw_m1 58 rfl) rfl
theorem q70 : (Jvm.Cond.code ({ cls := "OolMessagePorts", name := "badNumber", desc := "(I)Z" } : Jvm.MethodName) prog_1_method_2_code (1 : Nat) (Option.some Jvm.ClassFile.FieldType.boolean)) ∈ lw_all := lw_g (lw_at lw_m1 59 rfl) rfl
theorem q71 : (Jvm.Cond.methodLink "OolMessagePorts" (59 : Nat) ({ cls := "OolMessagePorts", name := "badPage", desc := "(I)Z" } : Jvm.MethodName)) ∈ lw_all := lw_g (lw_at lw_m1 60 rfl) rfl
theorem q72 : (Jvm.Cond.static ({ cls := "OolMessagePorts", name := "badPage", desc := "(I)Z" } : Jvm.MethodName)) ∈ lw_all := lw_g (lw_at lw_m1 61 rfl) rfl
theorem q73 : (Jvm.Cond.code ({ cls := "OolMessagePorts", name := "badPage", desc := "(I)Z" } : Jvm.MethodName) prog_1_method_3_code (1 : Nat) (Option.some Jvm.ClassFile.FieldType.boolean)) ∈ lw_all := lw_g (lw_at lw_m1 62 rfl) rfl
theorem q74 : (Jvm.Cond.methodLink "OolMessagePorts" (62 : Nat) ({ cls := "OolMessagePorts", name := "hold", desc := "(I)I" } : Jvm.MethodName)) ∈ lw_all := lw_g (lw_at lw_m1 63 rfl) rfl
theorem q75 : (Jvm.Cond.privateMethod ({ cls := "OolMessagePorts", name := "hold", desc := "(I)I" } : Jvm.MethodName)) ∈ lw_tbl := lw_at lw_m1 64 rfl
theorem q76 : (Jvm.Cond.instanceMethod ({ cls := "OolMessagePorts", name := "hold", desc := "(I)I" } : Jvm.MethodName)) ∈ lw_all := lw_g (lw_at lw_m1 65 rfl) rfl
theorem q77 : (Jvm.Cond.code ({ cls := "OolMessagePorts", name := "hold", desc := "(I)I" } : Jvm.MethodName) prog_1_method_4_code (2 : Nat) (Option.some Jvm.ClassFile.FieldType.int)) ∈ lw_all := lw_g (lw_at lw_m1 66 rfl) rfl
theorem q78 : (Jvm.Cond.methodLink "OolMessagePorts" (66 : Nat) ({ cls := "OolMessagePorts", name := "mappedPages", desc := "(I)I" } : Jvm.MethodName)) ∈ lw_all := lw_g (lw_at lw_m1 67 rfl) rfl
theorem q79 : (Jvm.Cond.privateMethod ({ cls := "OolMessagePorts", name := "mappedPages", desc := "(I)I" } : Jvm.MethodName)) ∈ lw_tbl := lw_at lw_m1 68 rfl
theorem q80 : (Jvm.Cond.instanceMethod ({ cls := "OolMessagePorts", name := "mappedPages", desc := "(I)I" } : Jvm.MethodName)) ∈ lw_all := lw_g (lw_at lw_m1 69 rfl) rfl
theorem q81 : (Jvm.Cond.code ({ cls := "OolMessagePorts", name := "mappedPages", desc := "(I)I" } : Jvm.MethodName) prog_1_method_7_code (4 : Nat) (Option.some Jvm.ClassFile.FieldType.int)) ∈ lw_all := lw_g (lw_at lw_m1 70 rfl) rfl
theorem q83 : (Jvm.Cond.instanceMethod ({ cls := "OolMessagePorts", name := "unmap", desc := "(II)I" } : Jvm.MethodName)) ∈ lw_all := lw_g (lw_at lw_m1 72 rfl) rfl
theorem q84 : (Jvm.Cond.selects "OolMessagePorts" ({ cls := "OolMessagePorts", name := "unmap", desc := "(II)I" } : Jvm.MethodName) ({ cls := "OolMessagePorts", name := "unmap", desc := "(II)I" } : Jvm.MethodName)) ∈ lw_all := lw_g (lw_at lw_m1 73 rfl) rfl
theorem q85 : (Jvm.Cond.code ({ cls := "OolMessagePorts", name := "unmap", desc := "(II)I" } : Jvm.MethodName) prog_1_method_11_code (4 : Nat) (Option.some Jvm.ClassFile.FieldType.int)) ∈ lw_all := lw_g (lw_at lw_m1 74 rfl) rfl
theorem q86 : (Jvm.Cond.methodLink "OolMessagePorts" (51 : Nat) ({ cls := "OolMessagePorts", name := "letGo", desc := "(I)V" } : Jvm.MethodName)) ∈ lw_all := lw_g (lw_at lw_m1 75 rfl) rfl
theorem q87 : (Jvm.Cond.privateMethod ({ cls := "OolMessagePorts", name := "letGo", desc := "(I)V" } : Jvm.MethodName)) ∈ lw_tbl := lw_at lw_m1 76 rfl
theorem q88 : (Jvm.Cond.instanceMethod ({ cls := "OolMessagePorts", name := "letGo", desc := "(I)V" } : Jvm.MethodName)) ∈ lw_all := lw_g (lw_at lw_m1 77 rfl) rfl
theorem q89 : (Jvm.Cond.code ({ cls := "OolMessagePorts", name := "letGo", desc := "(I)V" } : Jvm.MethodName) prog_1_method_5_code (2 : Nat) (Option.none : Option Jvm.ClassFile.FieldType)) ∈ lw_all := lw_g (lw_at lw_m1 78 rfl) rfl
theorem q91 : (Jvm.Cond.instanceMethod ({ cls := "OolMessagePorts", name := "write", desc := "(III)I" } : Jvm.MethodName)) ∈ lw_all := lw_g (lw_at lw_m1 80 rfl) rfl
theorem q92 : (Jvm.Cond.selects "OolMessagePorts" ({ cls := "OolMessagePorts", name := "write", desc := "(III)I" } : Jvm.MethodName) ({ cls := "OolMessagePorts", name := "write", desc := "(III)I" } : Jvm.MethodName)) ∈ lw_all := lw_g (lw_at lw_m1 81 rfl) rfl
theorem q93 : (Jvm.Cond.code ({ cls := "OolMessagePorts", name := "write", desc := "(III)I" } : Jvm.MethodName) prog_1_method_12_code (6 : Nat) (Option.some Jvm.ClassFile.FieldType.int)) ∈ lw_all := lw_g (lw_at lw_m1 82 rfl) rfl
theorem q94 : (Jvm.Cond.methodLink "OolMessagePorts" (69 : Nat) ({ cls := "OolMessagePorts", name := "ownFrame", desc := "(I)I" } : Jvm.MethodName)) ∈ lw_all := lw_g (lw_at lw_m1 83 rfl) rfl
theorem q95 : (Jvm.Cond.privateMethod ({ cls := "OolMessagePorts", name := "ownFrame", desc := "(I)I" } : Jvm.MethodName)) ∈ lw_tbl := lw_at lw_m1 84 rfl
theorem q96 : (Jvm.Cond.instanceMethod ({ cls := "OolMessagePorts", name := "ownFrame", desc := "(I)I" } : Jvm.MethodName)) ∈ lw_all := lw_g (lw_at lw_m1 85 rfl) rfl
theorem q97 : (Jvm.Cond.code ({ cls := "OolMessagePorts", name := "ownFrame", desc := "(I)I" } : Jvm.MethodName) prog_1_method_6_code (4 : Nat) (Option.some Jvm.ClassFile.FieldType.int)) ∈ lw_all := lw_g (lw_at lw_m1 86 rfl) rfl
theorem q99 : (Jvm.Cond.instanceMethod ({ cls := "OolMessagePorts", name := "copy", desc := "(III)I" } : Jvm.MethodName)) ∈ lw_all := lw_g (lw_at lw_m1 88 rfl) rfl
theorem q100 : (Jvm.Cond.selects "OolMessagePorts" ({ cls := "OolMessagePorts", name := "copy", desc := "(III)I" } : Jvm.MethodName) ({ cls := "OolMessagePorts", name := "copy", desc := "(III)I" } : Jvm.MethodName)) ∈ lw_all := lw_g (lw_at lw_m1 89 rfl) rfl
theorem q101 : (Jvm.Cond.code ({ cls := "OolMessagePorts", name := "copy", desc := "(III)I" } : Jvm.MethodName) prog_1_method_13_code (5 : Nat) (Option.some Jvm.ClassFile.FieldType.int)) ∈ lw_all := lw_g (lw_at lw_m1 90 rfl) rfl
theorem q103 : (Jvm.Cond.instanceMethod ({ cls := "OolMessagePorts", name := "send", desc := "(IIII)I" } : Jvm.MethodName)) ∈ lw_all := lw_g (lw_at lw_m1 92 rfl) rfl
theorem q104 : (Jvm.Cond.selects "OolMessagePorts" ({ cls := "OolMessagePorts", name := "send", desc := "(IIII)I" } : Jvm.MethodName) ({ cls := "OolMessagePorts", name := "send", desc := "(IIII)I" } : Jvm.MethodName)) ∈ lw_all := lw_g (lw_at lw_m1 93 rfl) rfl
theorem q105 : (Jvm.Cond.code ({ cls := "OolMessagePorts", name := "send", desc := "(IIII)I" } : Jvm.MethodName) prog_1_method_14_code (9 : Nat) (Option.some Jvm.ClassFile.FieldType.int)) ∈ lw_all := lw_g (lw_at lw_m1 94 rfl) rfl
theorem q107 : (Jvm.Cond.instanceMethod ({ cls := "OolMessagePorts", name := "receive", desc := "(III)I" } : Jvm.MethodName)) ∈ lw_all := lw_g (lw_at lw_m1 96 rfl) rfl
theorem q108 : (Jvm.Cond.selects "OolMessagePorts" ({ cls := "OolMessagePorts", name := "receive", desc := "(III)I" } : Jvm.MethodName) ({ cls := "OolMessagePorts", name := "receive", desc := "(III)I" } : Jvm.MethodName)) ∈ lw_all := lw_g (lw_at lw_m1 97 rfl) rfl
theorem q109 : (Jvm.Cond.code ({ cls := "OolMessagePorts", name := "receive", desc := "(III)I" } : Jvm.MethodName) prog_1_method_15_code (7 : Nat) (Option.some Jvm.ClassFile.FieldType.int)) ∈ lw_all := lw_g (lw_at lw_m1 98 rfl) rfl
theorem q110 : (Jvm.Cond.methodLink "OolMessagePorts" (72 : Nat) ({ cls := "OolMessagePorts", name := "dropHead", desc := "(I)V" } : Jvm.MethodName)) ∈ lw_all := lw_g (lw_at lw_m1 99 rfl) rfl
theorem q111 : (Jvm.Cond.privateMethod ({ cls := "OolMessagePorts", name := "dropHead", desc := "(I)V" } : Jvm.MethodName)) ∈ lw_tbl := lw_at lw_m1 100 rfl
theorem q112 : (Jvm.Cond.instanceMethod ({ cls := "OolMessagePorts", name := "dropHead", desc := "(I)V" } : Jvm.MethodName)) ∈ lw_all := lw_g (lw_at lw_m1 101 rfl) rfl
theorem q113 : (Jvm.Cond.code ({ cls := "OolMessagePorts", name := "dropHead", desc := "(I)V" } : Jvm.MethodName) prog_1_method_16_code (2 : Nat) (Option.none : Option Jvm.ClassFile.FieldType)) ∈ lw_all := lw_g (lw_at lw_m1 102 rfl) rfl
theorem q115 : (Jvm.Cond.instanceMethod ({ cls := "OolMessagePorts", name := "drain", desc := "(I)I" } : Jvm.MethodName)) ∈ lw_all := lw_g (lw_at lw_m1 104 rfl) rfl
theorem q116 : (Jvm.Cond.selects "OolMessagePorts" ({ cls := "OolMessagePorts", name := "drain", desc := "(I)I" } : Jvm.MethodName) ({ cls := "OolMessagePorts", name := "drain", desc := "(I)I" } : Jvm.MethodName)) ∈ lw_all := lw_g (lw_at lw_m1 105 rfl) rfl
theorem q117 : (Jvm.Cond.code ({ cls := "OolMessagePorts", name := "drain", desc := "(I)I" } : Jvm.MethodName) prog_1_method_17_code (6 : Nat) (Option.some Jvm.ClassFile.FieldType.int)) ∈ lw_all := lw_g (lw_at lw_m1 106 rfl) rfl
theorem q119 : (Jvm.Cond.instanceMethod ({ cls := "OolMessagePorts", name := "snapshot", desc := "(I)I" } : Jvm.MethodName)) ∈ lw_all := lw_g (lw_at lw_m1 108 rfl) rfl
theorem q120 : (Jvm.Cond.selects "OolMessagePorts" ({ cls := "OolMessagePorts", name := "snapshot", desc := "(I)I" } : Jvm.MethodName) ({ cls := "OolMessagePorts", name := "snapshot", desc := "(I)I" } : Jvm.MethodName)) ∈ lw_all := lw_g (lw_at lw_m1 109 rfl) rfl
theorem q121 : (Jvm.Cond.code ({ cls := "OolMessagePorts", name := "snapshot", desc := "(I)I" } : Jvm.MethodName) prog_1_method_18_code (3 : Nat) (Option.some Jvm.ClassFile.FieldType.int)) ∈ lw_all := lw_g (lw_at lw_m1 110 rfl) rfl
theorem q122 : (Jvm.Cond.methodLink "OolMessagePorts" (75 : Nat) ({ cls := "OolMessagePorts", name := "clearKept", desc := "(I)V" } : Jvm.MethodName)) ∈ lw_all := lw_g (lw_at lw_m1 111 rfl) rfl
theorem q123 : (Jvm.Cond.privateMethod ({ cls := "OolMessagePorts", name := "clearKept", desc := "(I)V" } : Jvm.MethodName)) ∈ lw_tbl := lw_at lw_m1 112 rfl
theorem q124 : (Jvm.Cond.instanceMethod ({ cls := "OolMessagePorts", name := "clearKept", desc := "(I)V" } : Jvm.MethodName)) ∈ lw_all := lw_g (lw_at lw_m1 113 rfl) rfl
theorem q125 : (Jvm.Cond.code ({ cls := "OolMessagePorts", name := "clearKept", desc := "(I)V" } : Jvm.MethodName) prog_1_method_9_code (3 : Nat) (Option.none : Option Jvm.ClassFile.FieldType)) ∈ lw_all := lw_g (lw_at lw_m1 114 rfl) rfl
theorem q127 : (Jvm.Cond.instanceMethod ({ cls := "OolMessagePorts", name := "rollBack", desc := "(I)I" } : Jvm.MethodName)) ∈ lw_all := lw_g (lw_at lw_m1 116 rfl) rfl
theorem q128 : (Jvm.Cond.selects "OolMessagePorts" ({ cls := "OolMessagePorts", name := "rollBack", desc := "(I)I" } : Jvm.MethodName) ({ cls := "OolMessagePorts", name := "rollBack", desc := "(I)I" } : Jvm.MethodName)) ∈ lw_all := lw_g (lw_at lw_m1 117 rfl) rfl
theorem q129 : (Jvm.Cond.code ({ cls := "OolMessagePorts", name := "rollBack", desc := "(I)I" } : Jvm.MethodName) prog_1_method_19_code (3 : Nat) (Option.some Jvm.ClassFile.FieldType.int)) ∈ lw_all := lw_g (lw_at lw_m1 118 rfl) rfl
theorem q130 : (Jvm.Cond.methodLink "OolMessagePorts" (78 : Nat) ({ cls := "OolMessagePorts", name := "clearTable", desc := "(I)V" } : Jvm.MethodName)) ∈ lw_all := lw_g (lw_at lw_m1 119 rfl) rfl
theorem q131 : (Jvm.Cond.privateMethod ({ cls := "OolMessagePorts", name := "clearTable", desc := "(I)V" } : Jvm.MethodName)) ∈ lw_tbl := lw_at lw_m1 120 rfl
theorem q132 : (Jvm.Cond.instanceMethod ({ cls := "OolMessagePorts", name := "clearTable", desc := "(I)V" } : Jvm.MethodName)) ∈ lw_all := lw_g (lw_at lw_m1 121 rfl) rfl
theorem q133 : (Jvm.Cond.code ({ cls := "OolMessagePorts", name := "clearTable", desc := "(I)V" } : Jvm.MethodName) prog_1_method_8_code (3 : Nat) (Option.none : Option Jvm.ClassFile.FieldType)) ∈ lw_all := lw_g (lw_at lw_m1 122 rfl) rfl
theorem q135 : (Jvm.Cond.instanceMethod ({ cls := "OolMessagePorts", name := "exit", desc := "(I)I" } : Jvm.MethodName)) ∈ lw_all := lw_g (lw_at lw_m1 124 rfl) rfl
theorem q136 : (Jvm.Cond.selects "OolMessagePorts" ({ cls := "OolMessagePorts", name := "exit", desc := "(I)I" } : Jvm.MethodName) ({ cls := "OolMessagePorts", name := "exit", desc := "(I)I" } : Jvm.MethodName)) ∈ lw_all := lw_g (lw_at lw_m1 125 rfl) rfl
theorem q137 : (Jvm.Cond.code ({ cls := "OolMessagePorts", name := "exit", desc := "(I)I" } : Jvm.MethodName) prog_1_method_20_code (3 : Nat) (Option.some Jvm.ClassFile.FieldType.int)) ∈ lw_all := lw_g (lw_at lw_m1 126 rfl) rfl
theorem q139 : (Jvm.Cond.instanceMethod ({ cls := "OolMessagePorts", name := "read", desc := "(II)I" } : Jvm.MethodName)) ∈ lw_all := lw_g (lw_at lw_m1 128 rfl) rfl
theorem q140 : (Jvm.Cond.selects "OolMessagePorts" ({ cls := "OolMessagePorts", name := "read", desc := "(II)I" } : Jvm.MethodName) ({ cls := "OolMessagePorts", name := "read", desc := "(II)I" } : Jvm.MethodName)) ∈ lw_all := lw_g (lw_at lw_m1 129 rfl) rfl
theorem q141 : (Jvm.Cond.code ({ cls := "OolMessagePorts", name := "read", desc := "(II)I" } : Jvm.MethodName) prog_1_method_21_code (4 : Nat) (Option.some Jvm.ClassFile.FieldType.int)) ∈ lw_all := lw_g (lw_at lw_m1 130 rfl) rfl
theorem q143 : (Jvm.Cond.instanceMethod ({ cls := "OolMessagePorts", name := "mapped", desc := "(II)Z" } : Jvm.MethodName)) ∈ lw_all := lw_g (lw_at lw_m1 132 rfl) rfl
theorem q144 : (Jvm.Cond.selects "OolMessagePorts" ({ cls := "OolMessagePorts", name := "mapped", desc := "(II)Z" } : Jvm.MethodName) ({ cls := "OolMessagePorts", name := "mapped", desc := "(II)Z" } : Jvm.MethodName)) ∈ lw_all := lw_g (lw_at lw_m1 133 rfl) rfl
theorem q145 : (Jvm.Cond.code ({ cls := "OolMessagePorts", name := "mapped", desc := "(II)Z" } : Jvm.MethodName) prog_1_method_22_code (3 : Nat) (Option.some Jvm.ClassFile.FieldType.boolean)) ∈ lw_all := lw_g (lw_at lw_m1 134 rfl) rfl
theorem q147 : (Jvm.Cond.instanceMethod ({ cls := "OolMessagePorts", name := "lastWord", desc := "(I)I" } : Jvm.MethodName)) ∈ lw_all := lw_g (lw_at lw_m1 136 rfl) rfl
theorem q148 : (Jvm.Cond.selects "OolMessagePorts" ({ cls := "OolMessagePorts", name := "lastWord", desc := "(I)I" } : Jvm.MethodName) ({ cls := "OolMessagePorts", name := "lastWord", desc := "(I)I" } : Jvm.MethodName)) ∈ lw_all := lw_g (lw_at lw_m1 137 rfl) rfl
theorem q149 : (Jvm.Cond.code ({ cls := "OolMessagePorts", name := "lastWord", desc := "(I)I" } : Jvm.MethodName) prog_1_method_23_code (2 : Nat) (Option.some Jvm.ClassFile.FieldType.int)) ∈ lw_all := lw_g (lw_at lw_m1 138 rfl) rfl
theorem q151 : (Jvm.Cond.instanceMethod ({ cls := "OolMessagePorts", name := "waiting", desc := "(I)I" } : Jvm.MethodName)) ∈ lw_all := lw_g (lw_at lw_m1 140 rfl) rfl
theorem q152 : (Jvm.Cond.selects "OolMessagePorts" ({ cls := "OolMessagePorts", name := "waiting", desc := "(I)I" } : Jvm.MethodName) ({ cls := "OolMessagePorts", name := "waiting", desc := "(I)I" } : Jvm.MethodName)) ∈ lw_all := lw_g (lw_at lw_m1 141 rfl) rfl
theorem q153 : (Jvm.Cond.code ({ cls := "OolMessagePorts", name := "waiting", desc := "(I)I" } : Jvm.MethodName) prog_1_method_24_code (2 : Nat) (Option.some Jvm.ClassFile.FieldType.int)) ∈ lw_all := lw_g (lw_at lw_m1 142 rfl) rfl
theorem in_X0 : ∀ w ∈ wsX00, w ∈ lw_all := lw_in wsX00 [35, 37, 39, 41, 43, 45, 47, 49, 51, 53, 55, 57, 59] (by decide +kernel) (by decide +kernel)
def RX1 : String := "OolMessagePortsModel"
def TX1 : u_T := fun k => match k with
  | 0 => ("OolMessagePortsModel", "pages", "[Z", true)
  | 1 => ("OolMessagePortsModel", "words", "[I", true)
  | 2 => ("OolMessagePortsModel", "last", "[I", true)
  | 3 => ("OolMessagePortsModel", "kept", "[Z", true)
  | 4 => ("OolMessagePortsModel", "keptPages", "[Z", true)
  | 5 => ("OolMessagePortsModel", "keptWords", "[I", true)
  | 6 => ("OolMessagePortsModel", "messages", "[I", true)
  | 7 => ("OolMessagePortsModel", "inline", "[I", true)
  | 8 => ("OolMessagePortsModel", "counts", "[I", true)
  | _ => ("OolMessagePortsModel", "sent", "[I", true)
def tyX1 : Nat → FieldType := fun k => match k with
  | 0 => .array .boolean
  | 1 => .array .int
  | 2 => .array .int
  | 3 => .array .boolean
  | 4 => .array .boolean
  | 5 => .array .int
  | 6 => .array .int
  | 7 => .array .int
  | 8 => .array .int
  | _ => .array .int
abbrev wsX10 : List Cond := u_ws RX1 TX1 10
theorem nmX1 : ∀ a, a < 10 → ∀ b, b < 10 → a ≠ b → (TX1 a).2.1 ≠ (TX1 b).2.1 := by decide +kernel
theorem tyX1_ok : ∀ k, k < 10 → parseFieldDescriptor (TX1 k).2.2.1 = some (tyX1 k) := by decide +kernel
abbrev cX1_init : ByteArray := prog_3_method_1_code
def yX1_init : MethodName := ⟨RX1, "<init>", "()V"⟩
abbrev cX1_map : ByteArray := prog_3_method_5_code
def yX1_map : MethodName := ⟨RX1, "map", "(II)I"⟩
abbrev cX1_bad : ByteArray := prog_3_method_2_code
def yX1_bad : MethodName := ⟨RX1, "bad", "(I)Z"⟩
abbrev cX1_badPage : ByteArray := prog_3_method_3_code
def yX1_badPage : MethodName := ⟨RX1, "badPage", "(I)Z"⟩
abbrev cX1_count : ByteArray := prog_3_method_4_code
def yX1_count : MethodName := ⟨RX1, "count", "(I)I"⟩
abbrev cX1_unmap : ByteArray := prog_3_method_6_code
def yX1_unmap : MethodName := ⟨RX1, "unmap", "(II)I"⟩
abbrev cX1_write : ByteArray := prog_3_method_7_code
def yX1_write : MethodName := ⟨RX1, "write", "(III)I"⟩
abbrev cX1_copy : ByteArray := prog_3_method_8_code
def yX1_copy : MethodName := ⟨RX1, "copy", "(III)I"⟩
abbrev cX1_send : ByteArray := prog_3_method_9_code
def yX1_send : MethodName := ⟨RX1, "send", "(IIII)I"⟩
abbrev cX1_receive : ByteArray := prog_3_method_10_code
def yX1_receive : MethodName := ⟨RX1, "receive", "(III)I"⟩
abbrev cX1_forward : ByteArray := prog_3_method_11_code
def yX1_forward : MethodName := ⟨RX1, "forward", "(I)V"⟩
abbrev cX1_drain : ByteArray := prog_3_method_12_code
def yX1_drain : MethodName := ⟨RX1, "drain", "(I)I"⟩
abbrev cX1_snapshot : ByteArray := prog_3_method_13_code
def yX1_snapshot : MethodName := ⟨RX1, "snapshot", "(I)I"⟩
abbrev cX1_rollBack : ByteArray := prog_3_method_14_code
def yX1_rollBack : MethodName := ⟨RX1, "rollBack", "(I)I"⟩
abbrev cX1_exit : ByteArray := prog_3_method_15_code
def yX1_exit : MethodName := ⟨RX1, "exit", "(I)I"⟩
abbrev cX1_read : ByteArray := prog_3_method_16_code
def yX1_read : MethodName := ⟨RX1, "read", "(II)I"⟩
abbrev cX1_mapped : ByteArray := prog_3_method_17_code
def yX1_mapped : MethodName := ⟨RX1, "mapped", "(II)Z"⟩
abbrev cX1_lastWord : ByteArray := prog_3_method_18_code
def yX1_lastWord : MethodName := ⟨RX1, "lastWord", "(I)I"⟩
abbrev cX1_waiting : ByteArray := prog_3_method_19_code
def yX1_waiting : MethodName := ⟨RX1, "waiting", "(I)I"⟩
theorem q13 : (Jvm.Cond.initialized "OolMessagePortsModel") ∈ lw_all := lw_g (lw_at lw_m1 2 rfl) rfl
theorem q155 : (Jvm.Cond.instantiable "OolMessagePortsModel" (10 : Nat)) ∈ lw_all := lw_g (lw_at lw_m1 144 rfl) rfl
theorem q157 : (Jvm.Cond.instanceMethod ({ cls := "OolMessagePortsModel", name := "<init>", desc := "()V" } : Jvm.MethodName)) ∈ lw_all := lw_g (lw_at lw_m1 146 rfl) rfl
theorem q158 : (Jvm.Cond.code ({ cls := "OolMessagePortsModel", name := "<init>", desc := "()V" } : Jvm.MethodName) prog_3_method_1_code (1 : Nat) (Option.none : Option Jvm.ClassFile.FieldType)) ∈ lw_all := lw_g (lw_at lw_m1 147 rfl) rfl
theorem q159 : (Jvm.Cond.methodLink "OolMessagePortsModel" (1 : Nat) ({ cls := "java/lang/Object", name := "<init>", desc := "()V" } : Jvm.MethodName)) ∈ lw_all := lw_g (lw_at lw_m1 148 rfl) rfl
theorem q160 : (Jvm.Cond.fieldLink "OolMessagePortsModel" (7 : Nat) "OolMessagePortsModel" "pages" "[Z") ∈ lw_all := lw_g (lw_at lw_m1 149 rfl) rfl
theorem q161 : (Jvm.Cond.fieldLink "OolMessagePortsModel" (13 : Nat) "OolMessagePortsModel" "words" "[I") ∈ lw_all := lw_g (lw_at lw_m1 150 rfl) rfl
theorem q162 : (Jvm.Cond.fieldLink "OolMessagePortsModel" (17 : Nat) "OolMessagePortsModel" "last" "[I") ∈ lw_all := lw_g (lw_at lw_m1 151 rfl) rfl
theorem q163 : (Jvm.Cond.fieldLink "OolMessagePortsModel" (20 : Nat) "OolMessagePortsModel" "kept" "[Z") ∈ lw_all := lw_g (lw_at lw_m1 152 rfl) rfl
theorem q164 : (Jvm.Cond.fieldLink "OolMessagePortsModel" (23 : Nat) "OolMessagePortsModel" "keptPages" "[Z") ∈ lw_all := lw_g (lw_at lw_m1 153 rfl) rfl
theorem q165 : (Jvm.Cond.fieldLink "OolMessagePortsModel" (26 : Nat) "OolMessagePortsModel" "keptWords" "[I") ∈ lw_all := lw_g (lw_at lw_m1 154 rfl) rfl
theorem q166 : (Jvm.Cond.fieldLink "OolMessagePortsModel" (29 : Nat) "OolMessagePortsModel" "messages" "[I") ∈ lw_all := lw_g (lw_at lw_m1 155 rfl) rfl
theorem q167 : (Jvm.Cond.fieldLink "OolMessagePortsModel" (32 : Nat) "OolMessagePortsModel" "inline" "[I") ∈ lw_all := lw_g (lw_at lw_m1 156 rfl) rfl
theorem q168 : (Jvm.Cond.fieldLink "OolMessagePortsModel" (35 : Nat) "OolMessagePortsModel" "counts" "[I") ∈ lw_all := lw_g (lw_at lw_m1 157 rfl) rfl
theorem q169 : (Jvm.Cond.fieldLink "OolMessagePortsModel" (38 : Nat) "OolMessagePortsModel" "sent" "[I") ∈ lw_all := lw_g (lw_at lw_m1 158 rfl) rfl
theorem q170 : (Jvm.Cond.laysFinal "OolMessagePortsModel" "OolMessagePortsModel" "pages" "[Z") ∈ lw_all := lw_g (lw_at lw_m1 159 rfl) rfl
theorem q171 : (Jvm.Cond.soleField "OolMessagePortsModel" "pages") ∈ lw_all := lw_g (lw_at lw_m1 160 rfl) rfl
theorem q172 : (Jvm.Cond.laysFinal "OolMessagePortsModel" "OolMessagePortsModel" "words" "[I") ∈ lw_all := lw_g (lw_at lw_m1 161 rfl) rfl
theorem q173 : (Jvm.Cond.soleField "OolMessagePortsModel" "words") ∈ lw_all := lw_g (lw_at lw_m1 162 rfl) rfl
theorem q174 : (Jvm.Cond.laysFinal "OolMessagePortsModel" "OolMessagePortsModel" "last" "[I") ∈ lw_all := lw_g (lw_at lw_m1 163 rfl) rfl
theorem q175 : (Jvm.Cond.soleField "OolMessagePortsModel" "last") ∈ lw_all := lw_g (lw_at lw_m1 164 rfl) rfl
theorem q176 : (Jvm.Cond.laysFinal "OolMessagePortsModel" "OolMessagePortsModel" "kept" "[Z") ∈ lw_all := lw_g (lw_at lw_m1 165 rfl) rfl
theorem q177 : (Jvm.Cond.soleField "OolMessagePortsModel" "kept") ∈ lw_all := lw_g (lw_at lw_m1 166 rfl) rfl
theorem q178 : (Jvm.Cond.laysFinal "OolMessagePortsModel" "OolMessagePortsModel" "keptPages" "[Z") ∈ lw_all := lw_g (lw_at lw_m1 167 rfl) rfl
theorem q179 : (Jvm.Cond.soleField "OolMessagePortsModel" "keptPages") ∈ lw_all := lw_g (lw_at lw_m1 168 rfl) rfl
theorem q180 : (Jvm.Cond.laysFinal "OolMessagePortsModel" "OolMessagePortsModel" "keptWords" "[I") ∈ lw_all := lw_g (lw_at lw_m1 169 rfl) rfl
theorem q181 : (Jvm.Cond.soleField "OolMessagePortsModel" "keptWords") ∈ lw_all := lw_g (lw_at lw_m1 170 rfl) rfl
theorem q182 : (Jvm.Cond.laysFinal "OolMessagePortsModel" "OolMessagePortsModel" "messages" "[I") ∈ lw_all := lw_g (lw_at lw_m1 171 rfl) rfl
theorem q183 : (Jvm.Cond.soleField "OolMessagePortsModel" "messages") ∈ lw_all := lw_g (lw_at lw_m1 172 rfl) rfl
theorem q184 : (Jvm.Cond.laysFinal "OolMessagePortsModel" "OolMessagePortsModel" "inline" "[I") ∈ lw_all := lw_g (lw_at lw_m1 173 rfl) rfl
theorem q185 : (Jvm.Cond.soleField "OolMessagePortsModel" "inline") ∈ lw_all := lw_g (lw_at lw_m1 174 rfl) rfl
theorem q186 : (Jvm.Cond.laysFinal "OolMessagePortsModel" "OolMessagePortsModel" "counts" "[I") ∈ lw_all := lw_g (lw_at lw_m1 175 rfl) rfl
theorem q187 : (Jvm.Cond.soleField "OolMessagePortsModel" "counts") ∈ lw_all := lw_g (lw_at lw_m1 176 rfl) rfl
theorem q188 : (Jvm.Cond.laysFinal "OolMessagePortsModel" "OolMessagePortsModel" "sent" "[I") ∈ lw_all := lw_g (lw_at lw_m1 177 rfl) rfl
theorem q189 : (Jvm.Cond.soleField "OolMessagePortsModel" "sent") ∈ lw_all := lw_g (lw_at lw_m1 178 rfl) rfl
theorem q190 : (Jvm.Cond.superclass "OolMessagePortsModel" "java/lang/Object") ∈ lw_all := lw_g (lw_at lw_m1 179 rfl) rfl
theorem q192 : (Jvm.Cond.instanceMethod ({ cls := "OolMessagePortsModel", name := "map", desc := "(II)I" } : Jvm.MethodName)) ∈ lw_all := lw_g (lw_at lw_m1 181 rfl) rfl
theorem q193 : (Jvm.Cond.selects "OolMessagePortsModel" ({ cls := "OolMessagePortsModel", name := "map", desc := "(II)I" } : Jvm.MethodName) ({ cls := "OolMessagePortsModel", name := "map", desc := "(II)I" } : Jvm.MethodName)) ∈ lw_all := lw_g (lw_at lw_m1 182 rfl) rfl
theorem q194 : (Jvm.Cond.code ({ cls := "OolMessagePortsModel", name := "map", desc := "(II)I" } : Jvm.MethodName) prog_3_method_5_code (4 : Nat) (Option.some Jvm.ClassFile.FieldType.int)) ∈ lw_all := lw_g (lw_at lw_m1 183 rfl) rfl
theorem q195 : (Jvm.Cond.methodLink "OolMessagePortsModel" (41 : Nat) ({ cls := "OolMessagePortsModel", name := "bad", desc := "(I)Z" } : Jvm.MethodName)) ∈ lw_all := lw_g (lw_at lw_m1 184 rfl) rfl
theorem q196 : (Jvm.Cond.privateMethod ({ cls := "OolMessagePortsModel", name := "bad", desc := "(I)Z" } : Jvm.MethodName)) ∈ lw_tbl := lw_at lw_m1 185 rfl
theorem q197 : (Jvm.Cond.instanceMethod ({ cls := "OolMessagePortsModel", name := "bad", desc := "(I)Z" } : Jvm.MethodName)) ∈ lw_all := lw_g (lw_at lw_m1 186 rfl) rfl
theorem q198 : (Jvm.Cond.code ({ cls := "OolMessagePortsModel", name := "bad", desc := "(I)Z" } : Jvm.MethodName) prog_3_method_2_code (2 : Nat) (Option.some Jvm.ClassFile.FieldType.boolean)) ∈ lw_all := lw_g (lw_at lw_m1 187 rfl) rfl
theorem q199 : (Jvm.Cond.methodLink "OolMessagePortsModel" (45 : Nat) ({ cls := "OolMessagePortsModel", name := "badPage", desc := "(I)Z" } : Jvm.MethodName)) ∈ lw_all := lw_g (lw_at lw_m1 188 rfl) rfl
theorem q200 : (Jvm.Cond.privateMethod ({ cls := "OolMessagePortsModel", name := "badPage", desc := "(I)Z" } : Jvm.MethodName)) ∈ lw_tbl := lw_at lw_m1 189 rfl
theorem q201 : (Jvm.Cond.instanceMethod ({ cls := "OolMessagePortsModel", name := "badPage", desc := "(I)Z" } : Jvm.MethodName)) ∈ lw_all := lw_g (lw_at lw_m1 190 rfl) rfl
theorem q202 : (Jvm.Cond.code ({ cls := "OolMessagePortsModel", name := "badPage", desc := "(I)Z" } : Jvm.MethodName) prog_3_method_3_code (2 : Nat) (Option.some Jvm.ClassFile.FieldType.boolean)) ∈ lw_all := lw_g (lw_at lw_m1 191 rfl) rfl
theorem q203 : (Jvm.Cond.methodLink "OolMessagePortsModel" (48 : Nat) ({ cls := "OolMessagePortsModel", name := "count", desc := "(I)I" } : Jvm.MethodName)) ∈ lw_all := lw_g (lw_at lw_m1 192 rfl) rfl
theorem q204 : (Jvm.Cond.privateMethod ({ cls := "OolMessagePortsModel", name := "count", desc := "(I)I" } : Jvm.MethodName)) ∈ lw_tbl := lw_at lw_m1 193 rfl
theorem q205 : (Jvm.Cond.instanceMethod ({ cls := "OolMessagePortsModel", name := "count", desc := "(I)I" } : Jvm.MethodName)) ∈ lw_all := lw_g (lw_at lw_m1 194 rfl) rfl
theorem q206 : (Jvm.Cond.code ({ cls := "OolMessagePortsModel", name := "count", desc := "(I)I" } : Jvm.MethodName) prog_3_method_4_code (4 : Nat) (Option.some Jvm.ClassFile.FieldType.int)) ∈ lw_all := lw_g (lw_at lw_m1 195 rfl) rfl
theorem q208 : (Jvm.Cond.instanceMethod ({ cls := "OolMessagePortsModel", name := "unmap", desc := "(II)I" } : Jvm.MethodName)) ∈ lw_all := lw_g (lw_at lw_m1 197 rfl) rfl
theorem q209 : (Jvm.Cond.selects "OolMessagePortsModel" ({ cls := "OolMessagePortsModel", name := "unmap", desc := "(II)I" } : Jvm.MethodName) ({ cls := "OolMessagePortsModel", name := "unmap", desc := "(II)I" } : Jvm.MethodName)) ∈ lw_all := lw_g (lw_at lw_m1 198 rfl) rfl
theorem q210 : (Jvm.Cond.code ({ cls := "OolMessagePortsModel", name := "unmap", desc := "(II)I" } : Jvm.MethodName) prog_3_method_6_code (3 : Nat) (Option.some Jvm.ClassFile.FieldType.int)) ∈ lw_all := lw_g (lw_at lw_m1 199 rfl) rfl
theorem q212 : (Jvm.Cond.instanceMethod ({ cls := "OolMessagePortsModel", name := "write", desc := "(III)I" } : Jvm.MethodName)) ∈ lw_all := lw_g (lw_at lw_m1 201 rfl) rfl
theorem q213 : (Jvm.Cond.selects "OolMessagePortsModel" ({ cls := "OolMessagePortsModel", name := "write", desc := "(III)I" } : Jvm.MethodName) ({ cls := "OolMessagePortsModel", name := "write", desc := "(III)I" } : Jvm.MethodName)) ∈ lw_all := lw_g (lw_at lw_m1 202 rfl) rfl
theorem q214 : (Jvm.Cond.code ({ cls := "OolMessagePortsModel", name := "write", desc := "(III)I" } : Jvm.MethodName) prog_3_method_7_code (4 : Nat) (Option.some Jvm.ClassFile.FieldType.int)) ∈ lw_all := lw_g (lw_at lw_m1 203 rfl) rfl
theorem q216 : (Jvm.Cond.instanceMethod ({ cls := "OolMessagePortsModel", name := "copy", desc := "(III)I" } : Jvm.MethodName)) ∈ lw_all := lw_g (lw_at lw_m1 205 rfl) rfl
theorem q217 : (Jvm.Cond.selects "OolMessagePortsModel" ({ cls := "OolMessagePortsModel", name := "copy", desc := "(III)I" } : Jvm.MethodName) ({ cls := "OolMessagePortsModel", name := "copy", desc := "(III)I" } : Jvm.MethodName)) ∈ lw_all := lw_g (lw_at lw_m1 206 rfl) rfl
theorem q218 : (Jvm.Cond.code ({ cls := "OolMessagePortsModel", name := "copy", desc := "(III)I" } : Jvm.MethodName) prog_3_method_8_code (5 : Nat) (Option.some Jvm.ClassFile.FieldType.int)) ∈ lw_all := lw_g (lw_at lw_m1 207 rfl) rfl
theorem q220 : (Jvm.Cond.instanceMethod ({ cls := "OolMessagePortsModel", name := "send", desc := "(IIII)I" } : Jvm.MethodName)) ∈ lw_all := lw_g (lw_at lw_m1 209 rfl) rfl
theorem q221 : (Jvm.Cond.selects "OolMessagePortsModel" ({ cls := "OolMessagePortsModel", name := "send", desc := "(IIII)I" } : Jvm.MethodName) ({ cls := "OolMessagePortsModel", name := "send", desc := "(IIII)I" } : Jvm.MethodName)) ∈ lw_all := lw_g (lw_at lw_m1 210 rfl) rfl
theorem q222 : (Jvm.Cond.code ({ cls := "OolMessagePortsModel", name := "send", desc := "(IIII)I" } : Jvm.MethodName) prog_3_method_9_code (10 : Nat) (Option.some Jvm.ClassFile.FieldType.int)) ∈ lw_all := lw_g (lw_at lw_m1 211 rfl) rfl
theorem q224 : (Jvm.Cond.instanceMethod ({ cls := "OolMessagePortsModel", name := "receive", desc := "(III)I" } : Jvm.MethodName)) ∈ lw_all := lw_g (lw_at lw_m1 213 rfl) rfl
theorem q225 : (Jvm.Cond.selects "OolMessagePortsModel" ({ cls := "OolMessagePortsModel", name := "receive", desc := "(III)I" } : Jvm.MethodName) ({ cls := "OolMessagePortsModel", name := "receive", desc := "(III)I" } : Jvm.MethodName)) ∈ lw_all := lw_g (lw_at lw_m1 214 rfl) rfl
theorem q226 : (Jvm.Cond.code ({ cls := "OolMessagePortsModel", name := "receive", desc := "(III)I" } : Jvm.MethodName) prog_3_method_10_code (7 : Nat) (Option.some Jvm.ClassFile.FieldType.int)) ∈ lw_all := lw_g (lw_at lw_m1 215 rfl) rfl
theorem q227 : (Jvm.Cond.methodLink "OolMessagePortsModel" (52 : Nat) ({ cls := "OolMessagePortsModel", name := "forward", desc := "(I)V" } : Jvm.MethodName)) ∈ lw_all := lw_g (lw_at lw_m1 216 rfl) rfl
theorem q228 : (Jvm.Cond.privateMethod ({ cls := "OolMessagePortsModel", name := "forward", desc := "(I)V" } : Jvm.MethodName)) ∈ lw_tbl := lw_at lw_m1 217 rfl
theorem q229 : (Jvm.Cond.instanceMethod ({ cls := "OolMessagePortsModel", name := "forward", desc := "(I)V" } : Jvm.MethodName)) ∈ lw_all := lw_g (lw_at lw_m1 218 rfl) rfl
theorem q230 : (Jvm.Cond.code ({ cls := "OolMessagePortsModel", name := "forward", desc := "(I)V" } : Jvm.MethodName) prog_3_method_11_code (4 : Nat) (Option.none : Option Jvm.ClassFile.FieldType)) ∈ lw_all := lw_g (lw_at lw_m1 219 rfl) rfl
theorem q232 : (Jvm.Cond.instanceMethod ({ cls := "OolMessagePortsModel", name := "drain", desc := "(I)I" } : Jvm.MethodName)) ∈ lw_all := lw_g (lw_at lw_m1 221 rfl) rfl
theorem q233 : (Jvm.Cond.selects "OolMessagePortsModel" ({ cls := "OolMessagePortsModel", name := "drain", desc := "(I)I" } : Jvm.MethodName) ({ cls := "OolMessagePortsModel", name := "drain", desc := "(I)I" } : Jvm.MethodName)) ∈ lw_all := lw_g (lw_at lw_m1 222 rfl) rfl
theorem q234 : (Jvm.Cond.code ({ cls := "OolMessagePortsModel", name := "drain", desc := "(I)I" } : Jvm.MethodName) prog_3_method_12_code (3 : Nat) (Option.some Jvm.ClassFile.FieldType.int)) ∈ lw_all := lw_g (lw_at lw_m1 223 rfl) rfl
theorem q236 : (Jvm.Cond.instanceMethod ({ cls := "OolMessagePortsModel", name := "snapshot", desc := "(I)I" } : Jvm.MethodName)) ∈ lw_all := lw_g (lw_at lw_m1 225 rfl) rfl
theorem q237 : (Jvm.Cond.selects "OolMessagePortsModel" ({ cls := "OolMessagePortsModel", name := "snapshot", desc := "(I)I" } : Jvm.MethodName) ({ cls := "OolMessagePortsModel", name := "snapshot", desc := "(I)I" } : Jvm.MethodName)) ∈ lw_all := lw_g (lw_at lw_m1 226 rfl) rfl
theorem q238 : (Jvm.Cond.code ({ cls := "OolMessagePortsModel", name := "snapshot", desc := "(I)I" } : Jvm.MethodName) prog_3_method_13_code (3 : Nat) (Option.some Jvm.ClassFile.FieldType.int)) ∈ lw_all := lw_g (lw_at lw_m1 227 rfl) rfl
theorem q240 : (Jvm.Cond.instanceMethod ({ cls := "OolMessagePortsModel", name := "rollBack", desc := "(I)I" } : Jvm.MethodName)) ∈ lw_all := lw_g (lw_at lw_m1 229 rfl) rfl
theorem q241 : (Jvm.Cond.selects "OolMessagePortsModel" ({ cls := "OolMessagePortsModel", name := "rollBack", desc := "(I)I" } : Jvm.MethodName) ({ cls := "OolMessagePortsModel", name := "rollBack", desc := "(I)I" } : Jvm.MethodName)) ∈ lw_all := lw_g (lw_at lw_m1 230 rfl) rfl
theorem q242 : (Jvm.Cond.code ({ cls := "OolMessagePortsModel", name := "rollBack", desc := "(I)I" } : Jvm.MethodName) prog_3_method_14_code (3 : Nat) (Option.some Jvm.ClassFile.FieldType.int)) ∈ lw_all := lw_g (lw_at lw_m1 231 rfl) rfl
theorem q244 : (Jvm.Cond.instanceMethod ({ cls := "OolMessagePortsModel", name := "exit", desc := "(I)I" } : Jvm.MethodName)) ∈ lw_all := lw_g (lw_at lw_m1 233 rfl) rfl
theorem q245 : (Jvm.Cond.selects "OolMessagePortsModel" ({ cls := "OolMessagePortsModel", name := "exit", desc := "(I)I" } : Jvm.MethodName) ({ cls := "OolMessagePortsModel", name := "exit", desc := "(I)I" } : Jvm.MethodName)) ∈ lw_all := lw_g (lw_at lw_m1 234 rfl) rfl
theorem q246 : (Jvm.Cond.code ({ cls := "OolMessagePortsModel", name := "exit", desc := "(I)I" } : Jvm.MethodName) prog_3_method_15_code (4 : Nat) (Option.some Jvm.ClassFile.FieldType.int)) ∈ lw_all := lw_g (lw_at lw_m1 235 rfl) rfl
theorem q248 : (Jvm.Cond.instanceMethod ({ cls := "OolMessagePortsModel", name := "read", desc := "(II)I" } : Jvm.MethodName)) ∈ lw_all := lw_g (lw_at lw_m1 237 rfl) rfl
theorem q249 : (Jvm.Cond.selects "OolMessagePortsModel" ({ cls := "OolMessagePortsModel", name := "read", desc := "(II)I" } : Jvm.MethodName) ({ cls := "OolMessagePortsModel", name := "read", desc := "(II)I" } : Jvm.MethodName)) ∈ lw_all := lw_g (lw_at lw_m1 238 rfl) rfl
theorem q250 : (Jvm.Cond.code ({ cls := "OolMessagePortsModel", name := "read", desc := "(II)I" } : Jvm.MethodName) prog_3_method_16_code (3 : Nat) (Option.some Jvm.ClassFile.FieldType.int)) ∈ lw_all := lw_g (lw_at lw_m1 239 rfl) rfl
theorem q252 : (Jvm.Cond.instanceMethod ({ cls := "OolMessagePortsModel", name := "mapped", desc := "(II)Z" } : Jvm.MethodName)) ∈ lw_all := lw_g (lw_at lw_m2 1 rfl) rfl
theorem q253 : (Jvm.Cond.selects "OolMessagePortsModel" ({ cls := "OolMessagePortsModel", name := "mapped", desc := "(II)Z" } : Jvm.MethodName) ({ cls := "OolMessagePortsModel", name := "mapped", desc := "(II)Z" } : Jvm.MethodName)) ∈ lw_all := lw_g (lw_at lw_m2 2 rfl) rfl
theorem q254 : (Jvm.Cond.code ({ cls := "OolMessagePortsModel", name := "mapped", desc := "(II)Z" } : Jvm.MethodName) prog_3_method_17_code (3 : Nat) (Option.some Jvm.ClassFile.FieldType.boolean)) ∈ lw_all := lw_g (lw_at lw_m2 3 rfl) rfl
theorem q256 : (Jvm.Cond.instanceMethod ({ cls := "OolMessagePortsModel", name := "lastWord", desc := "(I)I" } : Jvm.MethodName)) ∈ lw_all := lw_g (lw_at lw_m2 5 rfl) rfl
theorem q257 : (Jvm.Cond.selects "OolMessagePortsModel" ({ cls := "OolMessagePortsModel", name := "lastWord", desc := "(I)I" } : Jvm.MethodName) ({ cls := "OolMessagePortsModel", name := "lastWord", desc := "(I)I" } : Jvm.MethodName)) ∈ lw_all := lw_g (lw_at lw_m2 6 rfl) rfl
theorem q258 : (Jvm.Cond.code ({ cls := "OolMessagePortsModel", name := "lastWord", desc := "(I)I" } : Jvm.MethodName) prog_3_method_18_code (2 : Nat) (Option.some Jvm.ClassFile.FieldType.int)) ∈ lw_all := lw_g (lw_at lw_m2 7 rfl) rfl
theorem q260 : (Jvm.Cond.instanceMethod ({ cls := "OolMessagePortsModel", name := "waiting", desc := "(I)I" } : Jvm.MethodName)) ∈ lw_all := lw_g (lw_at lw_m2 9 rfl) rfl
theorem q261 : (Jvm.Cond.selects "OolMessagePortsModel" ({ cls := "OolMessagePortsModel", name := "waiting", desc := "(I)I" } : Jvm.MethodName) ({ cls := "OolMessagePortsModel", name := "waiting", desc := "(I)I" } : Jvm.MethodName)) ∈ lw_all := lw_g (lw_at lw_m2 10 rfl) rfl
theorem q262 : (Jvm.Cond.code ({ cls := "OolMessagePortsModel", name := "waiting", desc := "(I)I" } : Jvm.MethodName) prog_3_method_19_code (2 : Nat) (Option.some Jvm.ClassFile.FieldType.int)) ∈ lw_all := lw_g (lw_at lw_m2 11 rfl) rfl
theorem in_X1 : ∀ w ∈ wsX10, w ∈ lw_all := lw_in wsX10 [170, 172, 174, 176, 178, 180, 182, 184, 186, 188] (by decide +kernel) (by decide +kernel)
abbrev cL_law : ByteArray := code
theorem q11 : (Jvm.Cond.initialized "OolMessagePortsLaw") ∈ lw_all := lw_g (lw_at lw_m1 0 rfl) rfl
theorem q14 : (Jvm.Cond.classLink "OolMessagePortsLaw" (7 : Nat) "OolMessagePorts") ∈ lw_all := lw_g (lw_at lw_m1 3 rfl) rfl
theorem q16 : (Jvm.Cond.methodLink "OolMessagePortsLaw" (9 : Nat) ({ cls := "OolMessagePorts", name := "<init>", desc := "()V" } : Jvm.MethodName)) ∈ lw_all := lw_g (lw_at lw_m1 5 rfl) rfl
theorem q64 : (Jvm.Cond.methodLink "OolMessagePortsLaw" (13 : Nat) ({ cls := "OolMessagePorts", name := "map", desc := "(II)I" } : Jvm.MethodName)) ∈ lw_all := lw_g (lw_at lw_m1 53 rfl) rfl
theorem q82 : (Jvm.Cond.methodLink "OolMessagePortsLaw" (18 : Nat) ({ cls := "OolMessagePorts", name := "unmap", desc := "(II)I" } : Jvm.MethodName)) ∈ lw_all := lw_g (lw_at lw_m1 71 rfl) rfl
theorem q90 : (Jvm.Cond.methodLink "OolMessagePortsLaw" (22 : Nat) ({ cls := "OolMessagePorts", name := "write", desc := "(III)I" } : Jvm.MethodName)) ∈ lw_all := lw_g (lw_at lw_m1 79 rfl) rfl
theorem q98 : (Jvm.Cond.methodLink "OolMessagePortsLaw" (27 : Nat) ({ cls := "OolMessagePorts", name := "copy", desc := "(III)I" } : Jvm.MethodName)) ∈ lw_all := lw_g (lw_at lw_m1 87 rfl) rfl
theorem q102 : (Jvm.Cond.methodLink "OolMessagePortsLaw" (31 : Nat) ({ cls := "OolMessagePorts", name := "send", desc := "(IIII)I" } : Jvm.MethodName)) ∈ lw_all := lw_g (lw_at lw_m1 91 rfl) rfl
theorem q106 : (Jvm.Cond.methodLink "OolMessagePortsLaw" (36 : Nat) ({ cls := "OolMessagePorts", name := "receive", desc := "(III)I" } : Jvm.MethodName)) ∈ lw_all := lw_g (lw_at lw_m1 95 rfl) rfl
theorem q114 : (Jvm.Cond.methodLink "OolMessagePortsLaw" (40 : Nat) ({ cls := "OolMessagePorts", name := "drain", desc := "(I)I" } : Jvm.MethodName)) ∈ lw_all := lw_g (lw_at lw_m1 103 rfl) rfl
theorem q118 : (Jvm.Cond.methodLink "OolMessagePortsLaw" (45 : Nat) ({ cls := "OolMessagePorts", name := "snapshot", desc := "(I)I" } : Jvm.MethodName)) ∈ lw_all := lw_g (lw_at lw_m1 107 rfl) rfl
theorem q126 : (Jvm.Cond.methodLink "OolMessagePortsLaw" (49 : Nat) ({ cls := "OolMessagePorts", name := "rollBack", desc := "(I)I" } : Jvm.MethodName)) ∈ lw_all := lw_g (lw_at lw_m1 115 rfl) rfl
theorem q134 : (Jvm.Cond.methodLink "OolMessagePortsLaw" (53 : Nat) ({ cls := "OolMessagePorts", name := "exit", desc := "(I)I" } : Jvm.MethodName)) ∈ lw_all := lw_g (lw_at lw_m1 123 rfl) rfl
theorem q138 : (Jvm.Cond.methodLink "OolMessagePortsLaw" (57 : Nat) ({ cls := "OolMessagePorts", name := "read", desc := "(II)I" } : Jvm.MethodName)) ∈ lw_all := lw_g (lw_at lw_m1 127 rfl) rfl
theorem q142 : (Jvm.Cond.methodLink "OolMessagePortsLaw" (61 : Nat) ({ cls := "OolMessagePorts", name := "mapped", desc := "(II)Z" } : Jvm.MethodName)) ∈ lw_all := lw_g (lw_at lw_m1 131 rfl) rfl
theorem q146 : (Jvm.Cond.methodLink "OolMessagePortsLaw" (66 : Nat) ({ cls := "OolMessagePorts", name := "lastWord", desc := "(I)I" } : Jvm.MethodName)) ∈ lw_all := lw_g (lw_at lw_m1 135 rfl) rfl
theorem q150 : (Jvm.Cond.methodLink "OolMessagePortsLaw" (70 : Nat) ({ cls := "OolMessagePorts", name := "waiting", desc := "(I)I" } : Jvm.MethodName)) ∈ lw_all := lw_g (lw_at lw_m1 139 rfl) rfl
theorem q154 : (Jvm.Cond.classLink "OolMessagePortsLaw" (10 : Nat) "OolMessagePortsModel") ∈ lw_all := lw_g (lw_at lw_m1 143 rfl) rfl
theorem q156 : (Jvm.Cond.methodLink "OolMessagePortsLaw" (12 : Nat) ({ cls := "OolMessagePortsModel", name := "<init>", desc := "()V" } : Jvm.MethodName)) ∈ lw_all := lw_g (lw_at lw_m1 145 rfl) rfl
theorem q191 : (Jvm.Cond.methodLink "OolMessagePortsLaw" (17 : Nat) ({ cls := "OolMessagePortsModel", name := "map", desc := "(II)I" } : Jvm.MethodName)) ∈ lw_all := lw_g (lw_at lw_m1 180 rfl) rfl
theorem q207 : (Jvm.Cond.methodLink "OolMessagePortsLaw" (21 : Nat) ({ cls := "OolMessagePortsModel", name := "unmap", desc := "(II)I" } : Jvm.MethodName)) ∈ lw_all := lw_g (lw_at lw_m1 196 rfl) rfl
theorem q211 : (Jvm.Cond.methodLink "OolMessagePortsLaw" (26 : Nat) ({ cls := "OolMessagePortsModel", name := "write", desc := "(III)I" } : Jvm.MethodName)) ∈ lw_all := lw_g (lw_at lw_m1 200 rfl) rfl
theorem q215 : (Jvm.Cond.methodLink "OolMessagePortsLaw" (30 : Nat) ({ cls := "OolMessagePortsModel", name := "copy", desc := "(III)I" } : Jvm.MethodName)) ∈ lw_all := lw_g (lw_at lw_m1 204 rfl) rfl
theorem q219 : (Jvm.Cond.methodLink "OolMessagePortsLaw" (35 : Nat) ({ cls := "OolMessagePortsModel", name := "send", desc := "(IIII)I" } : Jvm.MethodName)) ∈ lw_all := lw_g (lw_at lw_m1 208 rfl) rfl
theorem q223 : (Jvm.Cond.methodLink "OolMessagePortsLaw" (39 : Nat) ({ cls := "OolMessagePortsModel", name := "receive", desc := "(III)I" } : Jvm.MethodName)) ∈ lw_all := lw_g (lw_at lw_m1 212 rfl) rfl
theorem q231 : (Jvm.Cond.methodLink "OolMessagePortsLaw" (44 : Nat) ({ cls := "OolMessagePortsModel", name := "drain", desc := "(I)I" } : Jvm.MethodName)) ∈ lw_all := lw_g (lw_at lw_m1 220 rfl) rfl
theorem q235 : (Jvm.Cond.methodLink "OolMessagePortsLaw" (48 : Nat) ({ cls := "OolMessagePortsModel", name := "snapshot", desc := "(I)I" } : Jvm.MethodName)) ∈ lw_all := lw_g (lw_at lw_m1 224 rfl) rfl
theorem q239 : (Jvm.Cond.methodLink "OolMessagePortsLaw" (52 : Nat) ({ cls := "OolMessagePortsModel", name := "rollBack", desc := "(I)I" } : Jvm.MethodName)) ∈ lw_all := lw_g (lw_at lw_m1 228 rfl) rfl
theorem q243 : (Jvm.Cond.methodLink "OolMessagePortsLaw" (56 : Nat) ({ cls := "OolMessagePortsModel", name := "exit", desc := "(I)I" } : Jvm.MethodName)) ∈ lw_all := lw_g (lw_at lw_m1 232 rfl) rfl
theorem q247 : (Jvm.Cond.methodLink "OolMessagePortsLaw" (60 : Nat) ({ cls := "OolMessagePortsModel", name := "read", desc := "(II)I" } : Jvm.MethodName)) ∈ lw_all := lw_g (lw_at lw_m1 236 rfl) rfl
theorem q251 : (Jvm.Cond.methodLink "OolMessagePortsLaw" (65 : Nat) ({ cls := "OolMessagePortsModel", name := "mapped", desc := "(II)Z" } : Jvm.MethodName)) ∈ lw_all := lw_g (lw_at lw_m2 0 rfl) rfl
theorem q255 : (Jvm.Cond.methodLink "OolMessagePortsLaw" (69 : Nat) ({ cls := "OolMessagePortsModel", name := "lastWord", desc := "(I)I" } : Jvm.MethodName)) ∈ lw_all := lw_g (lw_at lw_m2 4 rfl) rfl
theorem q259 : (Jvm.Cond.methodLink "OolMessagePortsLaw" (73 : Nat) ({ cls := "OolMessagePortsModel", name := "waiting", desc := "(I)I" } : Jvm.MethodName)) ∈ lw_all := lw_g (lw_at lw_m2 8 rfl) rfl
theorem dJ0_init_0 : decode cJ0_init 0 = .ok (.return_, 1) := by decide +kernel
end
section
set_option maxRecDepth 100000
theorem dX0_init_0 : decode cX0_init 0 = .ok (.aload_n 0, 1) := by decide +kernel
theorem dX0_init_1 : decode cX0_init 1 = .ok (.invokespecial 1, 3) := by decide +kernel
theorem dX0_init_4 : decode cX0_init 4 = .ok (.aload_n 0, 1) := by decide +kernel
theorem dX0_init_5 : decode cX0_init 5 = .ok (.sipush 320, 3) := by decide +kernel
theorem dX0_init_8 : decode cX0_init 8 = .ok (.newarray .int, 2) := by decide +kernel
theorem dX0_init_10 : decode cX0_init 10 = .ok (.putfield 7, 3) := by decide +kernel
theorem dX0_init_13 : decode cX0_init 13 = .ok (.aload_n 0, 1) := by decide +kernel
theorem dX0_init_14 : decode cX0_init 14 = .ok (.bipush 80, 2) := by decide +kernel
theorem dX0_init_16 : decode cX0_init 16 = .ok (.newarray .int, 2) := by decide +kernel
theorem dX0_init_18 : decode cX0_init 18 = .ok (.putfield 13, 3) := by decide +kernel
theorem dX0_init_21 : decode cX0_init 21 = .ok (.aload_n 0, 1) := by decide +kernel
theorem dX0_init_22 : decode cX0_init 22 = .ok (.bipush 80, 2) := by decide +kernel
theorem dX0_init_24 : decode cX0_init 24 = .ok (.newarray .int, 2) := by decide +kernel
theorem dX0_init_26 : decode cX0_init 26 = .ok (.putfield 16, 3) := by decide +kernel
theorem dX0_init_29 : decode cX0_init 29 = .ok (.aload_n 0, 1) := by decide +kernel
theorem dX0_init_30 : decode cX0_init 30 = .ok (.bipush 24, 2) := by decide +kernel
theorem dX0_init_32 : decode cX0_init 32 = .ok (.newarray .int, 2) := by decide +kernel
theorem dX0_init_34 : decode cX0_init 34 = .ok (.putfield 19, 3) := by decide +kernel
theorem dX0_init_37 : decode cX0_init 37 = .ok (.aload_n 0, 1) := by decide +kernel
theorem dX0_init_38 : decode cX0_init 38 = .ok (.bipush 24, 2) := by decide +kernel
theorem dX0_init_40 : decode cX0_init 40 = .ok (.newarray .int, 2) := by decide +kernel
theorem dX0_init_42 : decode cX0_init 42 = .ok (.putfield 22, 3) := by decide +kernel
theorem dX0_init_45 : decode cX0_init 45 = .ok (.aload_n 0, 1) := by decide +kernel
theorem dX0_init_46 : decode cX0_init 46 = .ok (.iconst 3, 1) := by decide +kernel
theorem dX0_init_47 : decode cX0_init 47 = .ok (.newarray .boolean, 2) := by decide +kernel
theorem dX0_init_49 : decode cX0_init 49 = .ok (.putfield 25, 3) := by decide +kernel
theorem dX0_init_52 : decode cX0_init 52 = .ok (.aload_n 0, 1) := by decide +kernel
theorem dX0_init_53 : decode cX0_init 53 = .ok (.iconst 3, 1) := by decide +kernel
theorem dX0_init_54 : decode cX0_init 54 = .ok (.newarray .int, 2) := by decide +kernel
theorem dX0_init_56 : decode cX0_init 56 = .ok (.putfield 29, 3) := by decide +kernel
theorem dX0_init_59 : decode cX0_init 59 = .ok (.aload_n 0, 1) := by decide +kernel
theorem dX0_init_60 : decode cX0_init 60 = .ok (.iconst 3, 1) := by decide +kernel
theorem dX0_init_61 : decode cX0_init 61 = .ok (.newarray .int, 2) := by decide +kernel
theorem dX0_init_63 : decode cX0_init 63 = .ok (.putfield 32, 3) := by decide +kernel
theorem dX0_init_66 : decode cX0_init 66 = .ok (.aload_n 0, 1) := by decide +kernel
theorem dX0_init_67 : decode cX0_init 67 = .ok (.iconst 3, 1) := by decide +kernel
theorem dX0_init_68 : decode cX0_init 68 = .ok (.newarray .int, 2) := by decide +kernel
theorem dX0_init_70 : decode cX0_init 70 = .ok (.putfield 35, 3) := by decide +kernel
theorem dX0_init_73 : decode cX0_init 73 = .ok (.aload_n 0, 1) := by decide +kernel
theorem dX0_init_74 : decode cX0_init 74 = .ok (.bipush 9, 2) := by decide +kernel
theorem dX0_init_76 : decode cX0_init 76 = .ok (.newarray .int, 2) := by decide +kernel
theorem dX0_init_78 : decode cX0_init 78 = .ok (.putfield 38, 3) := by decide +kernel
theorem dX0_init_81 : decode cX0_init 81 = .ok (.aload_n 0, 1) := by decide +kernel
theorem dX0_init_82 : decode cX0_init 82 = .ok (.bipush 9, 2) := by decide +kernel
theorem dX0_init_84 : decode cX0_init 84 = .ok (.newarray .int, 2) := by decide +kernel
theorem dX0_init_86 : decode cX0_init 86 = .ok (.putfield 41, 3) := by decide +kernel
theorem dX0_init_89 : decode cX0_init 89 = .ok (.aload_n 0, 1) := by decide +kernel
theorem dX0_init_90 : decode cX0_init 90 = .ok (.bipush 27, 2) := by decide +kernel
theorem dX0_init_92 : decode cX0_init 92 = .ok (.newarray .int, 2) := by decide +kernel
theorem dX0_init_94 : decode cX0_init 94 = .ok (.putfield 44, 3) := by decide +kernel
theorem dX0_init_97 : decode cX0_init 97 = .ok (.iconst 0, 1) := by decide +kernel
theorem dX0_init_98 : decode cX0_init 98 = .ok (.istore_n 1, 1) := by decide +kernel
theorem dX0_init_99 : decode cX0_init 99 = .ok (.iload_n 1, 1) := by decide +kernel
theorem dX0_init_100 : decode cX0_init 100 = .ok (.bipush 24, 2) := by decide +kernel
theorem dX0_init_102 : decode cX0_init 102 = .ok (.if_icmp .ge 23, 3) := by decide +kernel
theorem dX0_init_105 : decode cX0_init 105 = .ok (.aload_n 0, 1) := by decide +kernel
theorem dX0_init_106 : decode cX0_init 106 = .ok (.getfield 19, 3) := by decide +kernel
theorem dX0_init_109 : decode cX0_init 109 = .ok (.iload_n 1, 1) := by decide +kernel
theorem dX0_init_110 : decode cX0_init 110 = .ok (.iconst (-1), 1) := by decide +kernel
theorem dX0_init_111 : decode cX0_init 111 = .ok (.iastore, 1) := by decide +kernel
theorem dX0_init_112 : decode cX0_init 112 = .ok (.aload_n 0, 1) := by decide +kernel
theorem dX0_init_113 : decode cX0_init 113 = .ok (.getfield 22, 3) := by decide +kernel
theorem dX0_init_116 : decode cX0_init 116 = .ok (.iload_n 1, 1) := by decide +kernel
theorem dX0_init_117 : decode cX0_init 117 = .ok (.iconst (-1), 1) := by decide +kernel
theorem dX0_init_118 : decode cX0_init 118 = .ok (.iastore, 1) := by decide +kernel
theorem dX0_init_119 : decode cX0_init 119 = .ok (.iinc 1 1, 3) := by decide +kernel
theorem dX0_init_122 : decode cX0_init 122 = .ok (.goto (-23), 3) := by decide +kernel
theorem dX0_init_125 : decode cX0_init 125 = .ok (.aload_n 0, 1) := by decide +kernel
theorem dX0_init_126 : decode cX0_init 126 = .ok (.getfield 13, 3) := by decide +kernel
theorem dX0_init_129 : decode cX0_init 129 = .ok (.iconst 0, 1) := by decide +kernel
theorem dX0_init_130 : decode cX0_init 130 = .ok (.iconst 1, 1) := by decide +kernel
theorem dX0_init_131 : decode cX0_init 131 = .ok (.iastore, 1) := by decide +kernel
theorem dX0_init_132 : decode cX0_init 132 = .ok (.bipush 79, 2) := by decide +kernel
theorem dX0_init_134 : decode cX0_init 134 = .ok (.istore_n 1, 1) := by decide +kernel
theorem dX0_init_135 : decode cX0_init 135 = .ok (.iload_n 1, 1) := by decide +kernel
theorem dX0_init_136 : decode cX0_init 136 = .ok (.ifCond .le 29, 3) := by decide +kernel
theorem dX0_init_139 : decode cX0_init 139 = .ok (.aload_n 0, 1) := by decide +kernel
theorem dX0_init_140 : decode cX0_init 140 = .ok (.getfield 16, 3) := by decide +kernel
theorem dX0_init_143 : decode cX0_init 143 = .ok (.aload_n 0, 1) := by decide +kernel
theorem dX0_init_144 : decode cX0_init 144 = .ok (.getfield 47, 3) := by decide +kernel
theorem dX0_init_147 : decode cX0_init 147 = .ok (.iload_n 1, 1) := by decide +kernel
theorem dX0_init_148 : decode cX0_init 148 = .ok (.iastore, 1) := by decide +kernel
theorem dX0_init_149 : decode cX0_init 149 = .ok (.aload_n 0, 1) := by decide +kernel
theorem dX0_init_150 : decode cX0_init 150 = .ok (.dup, 1) := by decide +kernel
theorem dX0_init_151 : decode cX0_init 151 = .ok (.getfield 47, 3) := by decide +kernel
theorem dX0_init_154 : decode cX0_init 154 = .ok (.iconst 1, 1) := by decide +kernel
theorem dX0_init_155 : decode cX0_init 155 = .ok (.iadd, 1) := by decide +kernel
theorem dX0_init_156 : decode cX0_init 156 = .ok (.putfield 47, 3) := by decide +kernel
theorem dX0_init_159 : decode cX0_init 159 = .ok (.iinc 1 (-1), 3) := by decide +kernel
theorem dX0_init_162 : decode cX0_init 162 = .ok (.goto (-27), 3) := by decide +kernel
theorem dX0_init_165 : decode cX0_init 165 = .ok (.return_, 1) := by decide +kernel
theorem dX0_map_0 : decode cX0_map 0 = .ok (.iload_n 1, 1) := by decide +kernel
theorem dX0_map_1 : decode cX0_map 1 = .ok (.invokestatic 55, 3) := by decide +kernel
theorem dX0_map_4 : decode cX0_map 4 = .ok (.ifCond .eq 5, 3) := by decide +kernel
theorem dX0_map_7 : decode cX0_map 7 = .ok (.iconst (-1), 1) := by decide +kernel
theorem dX0_map_8 : decode cX0_map 8 = .ok (.ireturn, 1) := by decide +kernel
theorem dX0_map_9 : decode cX0_map 9 = .ok (.iload_n 2, 1) := by decide +kernel
theorem dX0_map_10 : decode cX0_map 10 = .ok (.invokestatic 59, 3) := by decide +kernel
theorem dX0_map_13 : decode cX0_map 13 = .ok (.ifCond .eq 6, 3) := by decide +kernel
theorem dX0_map_16 : decode cX0_map 16 = .ok (.bipush (-2), 2) := by decide +kernel
theorem dX0_map_18 : decode cX0_map 18 = .ok (.ireturn, 1) := by decide +kernel
theorem dX0_map_19 : decode cX0_map 19 = .ok (.iload_n 1, 1) := by decide +kernel
theorem dX0_map_20 : decode cX0_map 20 = .ok (.bipush 8, 2) := by decide +kernel
theorem dX0_map_22 : decode cX0_map 22 = .ok (.imul, 1) := by decide +kernel
theorem dX0_map_23 : decode cX0_map 23 = .ok (.iload_n 2, 1) := by decide +kernel
theorem dX0_map_24 : decode cX0_map 24 = .ok (.iadd, 1) := by decide +kernel
theorem dX0_map_25 : decode cX0_map 25 = .ok (.istore_n 3, 1) := by decide +kernel
theorem dX0_map_26 : decode cX0_map 26 = .ok (.aload_n 0, 1) := by decide +kernel
theorem dX0_map_27 : decode cX0_map 27 = .ok (.getfield 19, 3) := by decide +kernel
theorem dX0_map_30 : decode cX0_map 30 = .ok (.iload_n 3, 1) := by decide +kernel
theorem dX0_map_31 : decode cX0_map 31 = .ok (.iaload, 1) := by decide +kernel
theorem dX0_map_32 : decode cX0_map 32 = .ok (.ifCond .lt 6, 3) := by decide +kernel
theorem dX0_map_35 : decode cX0_map 35 = .ok (.bipush (-3), 2) := by decide +kernel
theorem dX0_map_37 : decode cX0_map 37 = .ok (.ireturn, 1) := by decide +kernel
theorem dX0_map_38 : decode cX0_map 38 = .ok (.aload_n 0, 1) := by decide +kernel
theorem dX0_map_39 : decode cX0_map 39 = .ok (.getfield 19, 3) := by decide +kernel
theorem dX0_map_42 : decode cX0_map 42 = .ok (.iload_n 3, 1) := by decide +kernel
theorem dX0_map_43 : decode cX0_map 43 = .ok (.aload_n 0, 1) := by decide +kernel
theorem dX0_map_44 : decode cX0_map 44 = .ok (.iconst 0, 1) := by decide +kernel
theorem dX0_map_45 : decode cX0_map 45 = .ok (.invokevirtual 62, 3) := by decide +kernel
theorem dX0_map_48 : decode cX0_map 48 = .ok (.iastore, 1) := by decide +kernel
theorem dX0_map_49 : decode cX0_map 49 = .ok (.aload_n 0, 1) := by decide +kernel
theorem dX0_map_50 : decode cX0_map 50 = .ok (.iload_n 1, 1) := by decide +kernel
theorem dX0_map_51 : decode cX0_map 51 = .ok (.invokevirtual 66, 3) := by decide +kernel
theorem dX0_map_54 : decode cX0_map 54 = .ok (.ireturn, 1) := by decide +kernel
theorem dX0_badNumber_0 : decode cX0_badNumber 0 = .ok (.iload_n 0, 1) := by decide +kernel
theorem dX0_badNumber_1 : decode cX0_badNumber 1 = .ok (.ifCond .lt 8, 3) := by decide +kernel
theorem dX0_badNumber_4 : decode cX0_badNumber 4 = .ok (.iload_n 0, 1) := by decide +kernel
theorem dX0_badNumber_5 : decode cX0_badNumber 5 = .ok (.iconst 2, 1) := by decide +kernel
theorem dX0_badNumber_6 : decode cX0_badNumber 6 = .ok (.if_icmp .le 7, 3) := by decide +kernel
theorem dX0_badNumber_9 : decode cX0_badNumber 9 = .ok (.iconst 1, 1) := by decide +kernel
theorem dX0_badNumber_10 : decode cX0_badNumber 10 = .ok (.goto 4, 3) := by decide +kernel
theorem dX0_badNumber_13 : decode cX0_badNumber 13 = .ok (.iconst 0, 1) := by decide +kernel
theorem dX0_badNumber_14 : decode cX0_badNumber 14 = .ok (.ireturn, 1) := by decide +kernel
theorem dX0_badPage_0 : decode cX0_badPage 0 = .ok (.iload_n 0, 1) := by decide +kernel
theorem dX0_badPage_1 : decode cX0_badPage 1 = .ok (.ifCond .lt 9, 3) := by decide +kernel
theorem dX0_badPage_4 : decode cX0_badPage 4 = .ok (.iload_n 0, 1) := by decide +kernel
theorem dX0_badPage_5 : decode cX0_badPage 5 = .ok (.bipush 7, 2) := by decide +kernel
theorem dX0_badPage_7 : decode cX0_badPage 7 = .ok (.if_icmp .le 7, 3) := by decide +kernel
theorem dX0_badPage_10 : decode cX0_badPage 10 = .ok (.iconst 1, 1) := by decide +kernel
theorem dX0_badPage_11 : decode cX0_badPage 11 = .ok (.goto 4, 3) := by decide +kernel
theorem dX0_badPage_14 : decode cX0_badPage 14 = .ok (.iconst 0, 1) := by decide +kernel
theorem dX0_badPage_15 : decode cX0_badPage 15 = .ok (.ireturn, 1) := by decide +kernel
theorem dX0_hold_0 : decode cX0_hold 0 = .ok (.iload_n 1, 1) := by decide +kernel
theorem dX0_hold_1 : decode cX0_hold 1 = .ok (.ifCond .lt 13, 3) := by decide +kernel
theorem dX0_hold_4 : decode cX0_hold 4 = .ok (.aload_n 0, 1) := by decide +kernel
theorem dX0_hold_5 : decode cX0_hold 5 = .ok (.getfield 13, 3) := by decide +kernel
theorem dX0_hold_8 : decode cX0_hold 8 = .ok (.iload_n 1, 1) := by decide +kernel
theorem dX0_hold_9 : decode cX0_hold 9 = .ok (.dup2, 1) := by decide +kernel
theorem dX0_hold_10 : decode cX0_hold 10 = .ok (.iaload, 1) := by decide +kernel
theorem dX0_hold_11 : decode cX0_hold 11 = .ok (.iconst 1, 1) := by decide +kernel
theorem dX0_hold_12 : decode cX0_hold 12 = .ok (.iadd, 1) := by decide +kernel
theorem dX0_hold_13 : decode cX0_hold 13 = .ok (.iastore, 1) := by decide +kernel
theorem dX0_hold_14 : decode cX0_hold 14 = .ok (.iload_n 1, 1) := by decide +kernel
theorem dX0_hold_15 : decode cX0_hold 15 = .ok (.ireturn, 1) := by decide +kernel
theorem dX0_mappedPages_0 : decode cX0_mappedPages 0 = .ok (.iconst 0, 1) := by decide +kernel
theorem dX0_mappedPages_1 : decode cX0_mappedPages 1 = .ok (.istore_n 2, 1) := by decide +kernel
theorem dX0_mappedPages_2 : decode cX0_mappedPages 2 = .ok (.iconst 0, 1) := by decide +kernel
theorem dX0_mappedPages_3 : decode cX0_mappedPages 3 = .ok (.istore_n 3, 1) := by decide +kernel
theorem dX0_mappedPages_4 : decode cX0_mappedPages 4 = .ok (.iload_n 3, 1) := by decide +kernel
theorem dX0_mappedPages_5 : decode cX0_mappedPages 5 = .ok (.bipush 8, 2) := by decide +kernel
theorem dX0_mappedPages_7 : decode cX0_mappedPages 7 = .ok (.if_icmp .ge 26, 3) := by decide +kernel
theorem dX0_mappedPages_10 : decode cX0_mappedPages 10 = .ok (.aload_n 0, 1) := by decide +kernel
theorem dX0_mappedPages_11 : decode cX0_mappedPages 11 = .ok (.getfield 19, 3) := by decide +kernel
theorem dX0_mappedPages_14 : decode cX0_mappedPages 14 = .ok (.iload_n 1, 1) := by decide +kernel
theorem dX0_mappedPages_15 : decode cX0_mappedPages 15 = .ok (.bipush 8, 2) := by decide +kernel
theorem dX0_mappedPages_17 : decode cX0_mappedPages 17 = .ok (.imul, 1) := by decide +kernel
theorem dX0_mappedPages_18 : decode cX0_mappedPages 18 = .ok (.iload_n 3, 1) := by decide +kernel
theorem dX0_mappedPages_19 : decode cX0_mappedPages 19 = .ok (.iadd, 1) := by decide +kernel
theorem dX0_mappedPages_20 : decode cX0_mappedPages 20 = .ok (.iaload, 1) := by decide +kernel
theorem dX0_mappedPages_21 : decode cX0_mappedPages 21 = .ok (.ifCond .lt 6, 3) := by decide +kernel
theorem dX0_mappedPages_24 : decode cX0_mappedPages 24 = .ok (.iinc 2 1, 3) := by decide +kernel
theorem dX0_mappedPages_27 : decode cX0_mappedPages 27 = .ok (.iinc 3 1, 3) := by decide +kernel
theorem dX0_mappedPages_30 : decode cX0_mappedPages 30 = .ok (.goto (-26), 3) := by decide +kernel
theorem dX0_mappedPages_33 : decode cX0_mappedPages 33 = .ok (.iload_n 2, 1) := by decide +kernel
theorem dX0_mappedPages_34 : decode cX0_mappedPages 34 = .ok (.ireturn, 1) := by decide +kernel
theorem dX0_unmap_0 : decode cX0_unmap 0 = .ok (.iload_n 1, 1) := by decide +kernel
theorem dX0_unmap_1 : decode cX0_unmap 1 = .ok (.invokestatic 55, 3) := by decide +kernel
theorem dX0_unmap_4 : decode cX0_unmap 4 = .ok (.ifCond .eq 5, 3) := by decide +kernel
theorem dX0_unmap_7 : decode cX0_unmap 7 = .ok (.iconst (-1), 1) := by decide +kernel
theorem dX0_unmap_8 : decode cX0_unmap 8 = .ok (.ireturn, 1) := by decide +kernel
theorem dX0_unmap_9 : decode cX0_unmap 9 = .ok (.iload_n 2, 1) := by decide +kernel
theorem dX0_unmap_10 : decode cX0_unmap 10 = .ok (.invokestatic 59, 3) := by decide +kernel
theorem dX0_unmap_13 : decode cX0_unmap 13 = .ok (.ifCond .eq 6, 3) := by decide +kernel
theorem dX0_unmap_16 : decode cX0_unmap 16 = .ok (.bipush (-2), 2) := by decide +kernel
theorem dX0_unmap_18 : decode cX0_unmap 18 = .ok (.ireturn, 1) := by decide +kernel
theorem dX0_unmap_19 : decode cX0_unmap 19 = .ok (.iload_n 1, 1) := by decide +kernel
theorem dX0_unmap_20 : decode cX0_unmap 20 = .ok (.bipush 8, 2) := by decide +kernel
theorem dX0_unmap_22 : decode cX0_unmap 22 = .ok (.imul, 1) := by decide +kernel
theorem dX0_unmap_23 : decode cX0_unmap 23 = .ok (.iload_n 2, 1) := by decide +kernel
theorem dX0_unmap_24 : decode cX0_unmap 24 = .ok (.iadd, 1) := by decide +kernel
theorem dX0_unmap_25 : decode cX0_unmap 25 = .ok (.istore_n 3, 1) := by decide +kernel
theorem dX0_unmap_26 : decode cX0_unmap 26 = .ok (.aload_n 0, 1) := by decide +kernel
theorem dX0_unmap_27 : decode cX0_unmap 27 = .ok (.getfield 19, 3) := by decide +kernel
theorem dX0_unmap_30 : decode cX0_unmap 30 = .ok (.iload_n 3, 1) := by decide +kernel
theorem dX0_unmap_31 : decode cX0_unmap 31 = .ok (.iaload, 1) := by decide +kernel
theorem dX0_unmap_32 : decode cX0_unmap 32 = .ok (.ifCond .ge 6, 3) := by decide +kernel
theorem dX0_unmap_35 : decode cX0_unmap 35 = .ok (.bipush (-4), 2) := by decide +kernel
theorem dX0_unmap_37 : decode cX0_unmap 37 = .ok (.ireturn, 1) := by decide +kernel
theorem dX0_unmap_38 : decode cX0_unmap 38 = .ok (.aload_n 0, 1) := by decide +kernel
theorem dX0_unmap_39 : decode cX0_unmap 39 = .ok (.aload_n 0, 1) := by decide +kernel
theorem dX0_unmap_40 : decode cX0_unmap 40 = .ok (.getfield 19, 3) := by decide +kernel
theorem dX0_unmap_43 : decode cX0_unmap 43 = .ok (.iload_n 3, 1) := by decide +kernel
theorem dX0_unmap_44 : decode cX0_unmap 44 = .ok (.iaload, 1) := by decide +kernel
theorem dX0_unmap_45 : decode cX0_unmap 45 = .ok (.invokevirtual 51, 3) := by decide +kernel
theorem dX0_unmap_48 : decode cX0_unmap 48 = .ok (.aload_n 0, 1) := by decide +kernel
theorem dX0_unmap_49 : decode cX0_unmap 49 = .ok (.getfield 19, 3) := by decide +kernel
theorem dX0_unmap_52 : decode cX0_unmap 52 = .ok (.iload_n 3, 1) := by decide +kernel
theorem dX0_unmap_53 : decode cX0_unmap 53 = .ok (.iconst (-1), 1) := by decide +kernel
theorem dX0_unmap_54 : decode cX0_unmap 54 = .ok (.iastore, 1) := by decide +kernel
theorem dX0_unmap_55 : decode cX0_unmap 55 = .ok (.aload_n 0, 1) := by decide +kernel
theorem dX0_unmap_56 : decode cX0_unmap 56 = .ok (.iload_n 1, 1) := by decide +kernel
theorem dX0_unmap_57 : decode cX0_unmap 57 = .ok (.invokevirtual 66, 3) := by decide +kernel
theorem dX0_unmap_60 : decode cX0_unmap 60 = .ok (.ireturn, 1) := by decide +kernel
theorem dX0_letGo_0 : decode cX0_letGo 0 = .ok (.iload_n 1, 1) := by decide +kernel
theorem dX0_letGo_1 : decode cX0_letGo 1 = .ok (.ifCond .ge 4, 3) := by decide +kernel
theorem dX0_letGo_4 : decode cX0_letGo 4 = .ok (.return_, 1) := by decide +kernel
theorem dX0_letGo_5 : decode cX0_letGo 5 = .ok (.aload_n 0, 1) := by decide +kernel
theorem dX0_letGo_6 : decode cX0_letGo 6 = .ok (.getfield 13, 3) := by decide +kernel
theorem dX0_letGo_9 : decode cX0_letGo 9 = .ok (.iload_n 1, 1) := by decide +kernel
theorem dX0_letGo_10 : decode cX0_letGo 10 = .ok (.dup2, 1) := by decide +kernel
theorem dX0_letGo_11 : decode cX0_letGo 11 = .ok (.iaload, 1) := by decide +kernel
theorem dX0_letGo_12 : decode cX0_letGo 12 = .ok (.iconst 1, 1) := by decide +kernel
theorem dX0_letGo_13 : decode cX0_letGo 13 = .ok (.isub, 1) := by decide +kernel
theorem dX0_letGo_14 : decode cX0_letGo 14 = .ok (.iastore, 1) := by decide +kernel
theorem dX0_letGo_15 : decode cX0_letGo 15 = .ok (.aload_n 0, 1) := by decide +kernel
theorem dX0_letGo_16 : decode cX0_letGo 16 = .ok (.getfield 13, 3) := by decide +kernel
theorem dX0_letGo_19 : decode cX0_letGo 19 = .ok (.iload_n 1, 1) := by decide +kernel
theorem dX0_letGo_20 : decode cX0_letGo 20 = .ok (.iaload, 1) := by decide +kernel
theorem dX0_letGo_21 : decode cX0_letGo 21 = .ok (.ifCond .ne 23, 3) := by decide +kernel
theorem dX0_letGo_24 : decode cX0_letGo 24 = .ok (.aload_n 0, 1) := by decide +kernel
theorem dX0_letGo_25 : decode cX0_letGo 25 = .ok (.getfield 16, 3) := by decide +kernel
theorem dX0_letGo_28 : decode cX0_letGo 28 = .ok (.aload_n 0, 1) := by decide +kernel
theorem dX0_letGo_29 : decode cX0_letGo 29 = .ok (.getfield 47, 3) := by decide +kernel
theorem dX0_letGo_32 : decode cX0_letGo 32 = .ok (.iload_n 1, 1) := by decide +kernel
theorem dX0_letGo_33 : decode cX0_letGo 33 = .ok (.iastore, 1) := by decide +kernel
theorem dX0_letGo_34 : decode cX0_letGo 34 = .ok (.aload_n 0, 1) := by decide +kernel
theorem dX0_letGo_35 : decode cX0_letGo 35 = .ok (.dup, 1) := by decide +kernel
theorem dX0_letGo_36 : decode cX0_letGo 36 = .ok (.getfield 47, 3) := by decide +kernel
theorem dX0_letGo_39 : decode cX0_letGo 39 = .ok (.iconst 1, 1) := by decide +kernel
theorem dX0_letGo_40 : decode cX0_letGo 40 = .ok (.iadd, 1) := by decide +kernel
theorem dX0_letGo_41 : decode cX0_letGo 41 = .ok (.putfield 47, 3) := by decide +kernel
theorem dX0_letGo_44 : decode cX0_letGo 44 = .ok (.return_, 1) := by decide +kernel
theorem dX0_write_0 : decode cX0_write 0 = .ok (.iload_n 1, 1) := by decide +kernel
theorem dX0_write_1 : decode cX0_write 1 = .ok (.invokestatic 55, 3) := by decide +kernel
theorem dX0_write_4 : decode cX0_write 4 = .ok (.ifCond .eq 5, 3) := by decide +kernel
theorem dX0_write_7 : decode cX0_write 7 = .ok (.iconst (-1), 1) := by decide +kernel
theorem dX0_write_8 : decode cX0_write 8 = .ok (.ireturn, 1) := by decide +kernel
theorem dX0_write_9 : decode cX0_write 9 = .ok (.iload_n 2, 1) := by decide +kernel
theorem dX0_write_10 : decode cX0_write 10 = .ok (.ifCond .lt 9, 3) := by decide +kernel
theorem dX0_write_13 : decode cX0_write 13 = .ok (.iload_n 2, 1) := by decide +kernel
theorem dX0_write_14 : decode cX0_write 14 = .ok (.bipush 31, 2) := by decide +kernel
theorem dX0_write_16 : decode cX0_write 16 = .ok (.if_icmp .le 6, 3) := by decide +kernel
theorem dX0_write_19 : decode cX0_write 19 = .ok (.bipush (-2), 2) := by decide +kernel
theorem dX0_write_21 : decode cX0_write 21 = .ok (.ireturn, 1) := by decide +kernel
theorem dX0_write_22 : decode cX0_write 22 = .ok (.iload_n 2, 1) := by decide +kernel
theorem dX0_write_23 : decode cX0_write 23 = .ok (.iconst 4, 1) := by decide +kernel
theorem dX0_write_24 : decode cX0_write 24 = .ok (.idiv, 1) := by decide +kernel
theorem dX0_write_25 : decode cX0_write 25 = .ok (.istore 4, 2) := by decide +kernel
theorem dX0_write_27 : decode cX0_write 27 = .ok (.iload_n 1, 1) := by decide +kernel
theorem dX0_write_28 : decode cX0_write 28 = .ok (.bipush 8, 2) := by decide +kernel
theorem dX0_write_30 : decode cX0_write 30 = .ok (.imul, 1) := by decide +kernel
theorem dX0_write_31 : decode cX0_write 31 = .ok (.iload 4, 2) := by decide +kernel
theorem dX0_write_33 : decode cX0_write 33 = .ok (.iadd, 1) := by decide +kernel
theorem dX0_write_34 : decode cX0_write 34 = .ok (.istore 5, 2) := by decide +kernel
theorem dX0_write_36 : decode cX0_write 36 = .ok (.aload_n 0, 1) := by decide +kernel
theorem dX0_write_37 : decode cX0_write 37 = .ok (.getfield 19, 3) := by decide +kernel
theorem dX0_write_40 : decode cX0_write 40 = .ok (.iload 5, 2) := by decide +kernel
theorem dX0_write_42 : decode cX0_write 42 = .ok (.iaload, 1) := by decide +kernel
theorem dX0_write_43 : decode cX0_write 43 = .ok (.ifCond .ge 6, 3) := by decide +kernel
theorem dX0_write_46 : decode cX0_write 46 = .ok (.bipush (-4), 2) := by decide +kernel
theorem dX0_write_48 : decode cX0_write 48 = .ok (.ireturn, 1) := by decide +kernel
theorem dX0_write_49 : decode cX0_write 49 = .ok (.aload_n 0, 1) := by decide +kernel
theorem dX0_write_50 : decode cX0_write 50 = .ok (.getfield 19, 3) := by decide +kernel
theorem dX0_write_53 : decode cX0_write 53 = .ok (.iload 5, 2) := by decide +kernel
theorem dX0_write_55 : decode cX0_write 55 = .ok (.aload_n 0, 1) := by decide +kernel
theorem dX0_write_56 : decode cX0_write 56 = .ok (.aload_n 0, 1) := by decide +kernel
theorem dX0_write_57 : decode cX0_write 57 = .ok (.getfield 19, 3) := by decide +kernel
theorem dX0_write_60 : decode cX0_write 60 = .ok (.iload 5, 2) := by decide +kernel
theorem dX0_write_62 : decode cX0_write 62 = .ok (.iaload, 1) := by decide +kernel
theorem dX0_write_63 : decode cX0_write 63 = .ok (.invokevirtual 69, 3) := by decide +kernel
theorem dX0_write_66 : decode cX0_write 66 = .ok (.iastore, 1) := by decide +kernel
theorem dX0_write_67 : decode cX0_write 67 = .ok (.aload_n 0, 1) := by decide +kernel
theorem dX0_write_68 : decode cX0_write 68 = .ok (.getfield 7, 3) := by decide +kernel
theorem dX0_write_71 : decode cX0_write 71 = .ok (.aload_n 0, 1) := by decide +kernel
theorem dX0_write_72 : decode cX0_write 72 = .ok (.getfield 19, 3) := by decide +kernel
theorem dX0_write_75 : decode cX0_write 75 = .ok (.iload 5, 2) := by decide +kernel
theorem dX0_write_77 : decode cX0_write 77 = .ok (.iaload, 1) := by decide +kernel
theorem dX0_write_78 : decode cX0_write 78 = .ok (.iconst 4, 1) := by decide +kernel
theorem dX0_write_79 : decode cX0_write 79 = .ok (.imul, 1) := by decide +kernel
theorem dX0_write_80 : decode cX0_write 80 = .ok (.iload_n 2, 1) := by decide +kernel
theorem dX0_write_81 : decode cX0_write 81 = .ok (.iconst 4, 1) := by decide +kernel
theorem dX0_write_82 : decode cX0_write 82 = .ok (.irem, 1) := by decide +kernel
theorem dX0_write_83 : decode cX0_write 83 = .ok (.iadd, 1) := by decide +kernel
theorem dX0_write_84 : decode cX0_write 84 = .ok (.iload_n 3, 1) := by decide +kernel
theorem dX0_write_85 : decode cX0_write 85 = .ok (.iastore, 1) := by decide +kernel
theorem dX0_write_86 : decode cX0_write 86 = .ok (.iload 4, 2) := by decide +kernel
theorem dX0_write_88 : decode cX0_write 88 = .ok (.ireturn, 1) := by decide +kernel
theorem dX0_ownFrame_0 : decode cX0_ownFrame 0 = .ok (.aload_n 0, 1) := by decide +kernel
theorem dX0_ownFrame_1 : decode cX0_ownFrame 1 = .ok (.getfield 13, 3) := by decide +kernel
theorem dX0_ownFrame_4 : decode cX0_ownFrame 4 = .ok (.iload_n 1, 1) := by decide +kernel
theorem dX0_ownFrame_5 : decode cX0_ownFrame 5 = .ok (.iaload, 1) := by decide +kernel
theorem dX0_ownFrame_6 : decode cX0_ownFrame 6 = .ok (.iconst 1, 1) := by decide +kernel
theorem dX0_ownFrame_7 : decode cX0_ownFrame 7 = .ok (.if_icmp .eq 10, 3) := by decide +kernel
theorem dX0_ownFrame_10 : decode cX0_ownFrame 10 = .ok (.aload_n 0, 1) := by decide +kernel
theorem dX0_ownFrame_11 : decode cX0_ownFrame 11 = .ok (.getfield 47, 3) := by decide +kernel
theorem dX0_ownFrame_14 : decode cX0_ownFrame 14 = .ok (.ifCond .ne 5, 3) := by decide +kernel
theorem dX0_ownFrame_17 : decode cX0_ownFrame 17 = .ok (.iload_n 1, 1) := by decide +kernel
theorem dX0_ownFrame_18 : decode cX0_ownFrame 18 = .ok (.ireturn, 1) := by decide +kernel
theorem dX0_ownFrame_19 : decode cX0_ownFrame 19 = .ok (.aload_n 0, 1) := by decide +kernel
theorem dX0_ownFrame_20 : decode cX0_ownFrame 20 = .ok (.dup, 1) := by decide +kernel
theorem dX0_ownFrame_21 : decode cX0_ownFrame 21 = .ok (.getfield 47, 3) := by decide +kernel
theorem dX0_ownFrame_24 : decode cX0_ownFrame 24 = .ok (.iconst 1, 1) := by decide +kernel
theorem dX0_ownFrame_25 : decode cX0_ownFrame 25 = .ok (.isub, 1) := by decide +kernel
theorem dX0_ownFrame_26 : decode cX0_ownFrame 26 = .ok (.putfield 47, 3) := by decide +kernel
theorem dX0_ownFrame_29 : decode cX0_ownFrame 29 = .ok (.aload_n 0, 1) := by decide +kernel
theorem dX0_ownFrame_30 : decode cX0_ownFrame 30 = .ok (.getfield 16, 3) := by decide +kernel
theorem dX0_ownFrame_33 : decode cX0_ownFrame 33 = .ok (.aload_n 0, 1) := by decide +kernel
theorem dX0_ownFrame_34 : decode cX0_ownFrame 34 = .ok (.getfield 47, 3) := by decide +kernel
theorem dX0_ownFrame_37 : decode cX0_ownFrame 37 = .ok (.iaload, 1) := by decide +kernel
theorem dX0_ownFrame_38 : decode cX0_ownFrame 38 = .ok (.istore_n 2, 1) := by decide +kernel
theorem dX0_ownFrame_39 : decode cX0_ownFrame 39 = .ok (.aload_n 0, 1) := by decide +kernel
theorem dX0_ownFrame_40 : decode cX0_ownFrame 40 = .ok (.getfield 13, 3) := by decide +kernel
theorem dX0_ownFrame_43 : decode cX0_ownFrame 43 = .ok (.iload_n 2, 1) := by decide +kernel
theorem dX0_ownFrame_44 : decode cX0_ownFrame 44 = .ok (.iconst 1, 1) := by decide +kernel
theorem dX0_ownFrame_45 : decode cX0_ownFrame 45 = .ok (.iastore, 1) := by decide +kernel
theorem dX0_ownFrame_46 : decode cX0_ownFrame 46 = .ok (.iconst 0, 1) := by decide +kernel
theorem dX0_ownFrame_47 : decode cX0_ownFrame 47 = .ok (.istore_n 3, 1) := by decide +kernel
theorem dX0_ownFrame_48 : decode cX0_ownFrame 48 = .ok (.iload_n 3, 1) := by decide +kernel
theorem dX0_ownFrame_49 : decode cX0_ownFrame 49 = .ok (.iconst 4, 1) := by decide +kernel
end
section
set_option maxRecDepth 100000
theorem dX0_ownFrame_50 : decode cX0_ownFrame 50 = .ok (.if_icmp .ge 29, 3) := by decide +kernel
theorem dX0_ownFrame_53 : decode cX0_ownFrame 53 = .ok (.aload_n 0, 1) := by decide +kernel
theorem dX0_ownFrame_54 : decode cX0_ownFrame 54 = .ok (.getfield 7, 3) := by decide +kernel
theorem dX0_ownFrame_57 : decode cX0_ownFrame 57 = .ok (.iload_n 2, 1) := by decide +kernel
theorem dX0_ownFrame_58 : decode cX0_ownFrame 58 = .ok (.iconst 4, 1) := by decide +kernel
theorem dX0_ownFrame_59 : decode cX0_ownFrame 59 = .ok (.imul, 1) := by decide +kernel
theorem dX0_ownFrame_60 : decode cX0_ownFrame 60 = .ok (.iload_n 3, 1) := by decide +kernel
theorem dX0_ownFrame_61 : decode cX0_ownFrame 61 = .ok (.iadd, 1) := by decide +kernel
theorem dX0_ownFrame_62 : decode cX0_ownFrame 62 = .ok (.aload_n 0, 1) := by decide +kernel
theorem dX0_ownFrame_63 : decode cX0_ownFrame 63 = .ok (.getfield 7, 3) := by decide +kernel
theorem dX0_ownFrame_66 : decode cX0_ownFrame 66 = .ok (.iload_n 1, 1) := by decide +kernel
theorem dX0_ownFrame_67 : decode cX0_ownFrame 67 = .ok (.iconst 4, 1) := by decide +kernel
theorem dX0_ownFrame_68 : decode cX0_ownFrame 68 = .ok (.imul, 1) := by decide +kernel
theorem dX0_ownFrame_69 : decode cX0_ownFrame 69 = .ok (.iload_n 3, 1) := by decide +kernel
theorem dX0_ownFrame_70 : decode cX0_ownFrame 70 = .ok (.iadd, 1) := by decide +kernel
theorem dX0_ownFrame_71 : decode cX0_ownFrame 71 = .ok (.iaload, 1) := by decide +kernel
theorem dX0_ownFrame_72 : decode cX0_ownFrame 72 = .ok (.iastore, 1) := by decide +kernel
theorem dX0_ownFrame_73 : decode cX0_ownFrame 73 = .ok (.iinc 3 1, 3) := by decide +kernel
theorem dX0_ownFrame_76 : decode cX0_ownFrame 76 = .ok (.goto (-28), 3) := by decide +kernel
theorem dX0_ownFrame_79 : decode cX0_ownFrame 79 = .ok (.aload_n 0, 1) := by decide +kernel
theorem dX0_ownFrame_80 : decode cX0_ownFrame 80 = .ok (.iload_n 1, 1) := by decide +kernel
theorem dX0_ownFrame_81 : decode cX0_ownFrame 81 = .ok (.invokevirtual 51, 3) := by decide +kernel
theorem dX0_ownFrame_84 : decode cX0_ownFrame 84 = .ok (.iload_n 2, 1) := by decide +kernel
theorem dX0_ownFrame_85 : decode cX0_ownFrame 85 = .ok (.ireturn, 1) := by decide +kernel
theorem dX0_copy_0 : decode cX0_copy 0 = .ok (.iload_n 1, 1) := by decide +kernel
theorem dX0_copy_1 : decode cX0_copy 1 = .ok (.invokestatic 55, 3) := by decide +kernel
theorem dX0_copy_4 : decode cX0_copy 4 = .ok (.ifCond .eq 5, 3) := by decide +kernel
theorem dX0_copy_7 : decode cX0_copy 7 = .ok (.iconst (-1), 1) := by decide +kernel
theorem dX0_copy_8 : decode cX0_copy 8 = .ok (.ireturn, 1) := by decide +kernel
theorem dX0_copy_9 : decode cX0_copy 9 = .ok (.iload_n 2, 1) := by decide +kernel
theorem dX0_copy_10 : decode cX0_copy 10 = .ok (.invokestatic 59, 3) := by decide +kernel
theorem dX0_copy_13 : decode cX0_copy 13 = .ok (.ifCond .ne 10, 3) := by decide +kernel
theorem dX0_copy_16 : decode cX0_copy 16 = .ok (.iload_n 3, 1) := by decide +kernel
theorem dX0_copy_17 : decode cX0_copy 17 = .ok (.invokestatic 59, 3) := by decide +kernel
theorem dX0_copy_20 : decode cX0_copy 20 = .ok (.ifCond .eq 6, 3) := by decide +kernel
theorem dX0_copy_23 : decode cX0_copy 23 = .ok (.bipush (-2), 2) := by decide +kernel
theorem dX0_copy_25 : decode cX0_copy 25 = .ok (.ireturn, 1) := by decide +kernel
theorem dX0_copy_26 : decode cX0_copy 26 = .ok (.aload_n 0, 1) := by decide +kernel
theorem dX0_copy_27 : decode cX0_copy 27 = .ok (.getfield 19, 3) := by decide +kernel
theorem dX0_copy_30 : decode cX0_copy 30 = .ok (.iload_n 1, 1) := by decide +kernel
theorem dX0_copy_31 : decode cX0_copy 31 = .ok (.bipush 8, 2) := by decide +kernel
theorem dX0_copy_33 : decode cX0_copy 33 = .ok (.imul, 1) := by decide +kernel
theorem dX0_copy_34 : decode cX0_copy 34 = .ok (.iload_n 2, 1) := by decide +kernel
theorem dX0_copy_35 : decode cX0_copy 35 = .ok (.iadd, 1) := by decide +kernel
theorem dX0_copy_36 : decode cX0_copy 36 = .ok (.iaload, 1) := by decide +kernel
theorem dX0_copy_37 : decode cX0_copy 37 = .ok (.istore 4, 2) := by decide +kernel
theorem dX0_copy_39 : decode cX0_copy 39 = .ok (.iload 4, 2) := by decide +kernel
theorem dX0_copy_41 : decode cX0_copy 41 = .ok (.ifCond .ge 6, 3) := by decide +kernel
theorem dX0_copy_44 : decode cX0_copy 44 = .ok (.bipush (-4), 2) := by decide +kernel
theorem dX0_copy_46 : decode cX0_copy 46 = .ok (.ireturn, 1) := by decide +kernel
theorem dX0_copy_47 : decode cX0_copy 47 = .ok (.aload_n 0, 1) := by decide +kernel
theorem dX0_copy_48 : decode cX0_copy 48 = .ok (.iload 4, 2) := by decide +kernel
theorem dX0_copy_50 : decode cX0_copy 50 = .ok (.invokevirtual 62, 3) := by decide +kernel
theorem dX0_copy_53 : decode cX0_copy 53 = .ok (.pop, 1) := by decide +kernel
theorem dX0_copy_54 : decode cX0_copy 54 = .ok (.aload_n 0, 1) := by decide +kernel
theorem dX0_copy_55 : decode cX0_copy 55 = .ok (.aload_n 0, 1) := by decide +kernel
theorem dX0_copy_56 : decode cX0_copy 56 = .ok (.getfield 19, 3) := by decide +kernel
theorem dX0_copy_59 : decode cX0_copy 59 = .ok (.iload_n 1, 1) := by decide +kernel
theorem dX0_copy_60 : decode cX0_copy 60 = .ok (.bipush 8, 2) := by decide +kernel
theorem dX0_copy_62 : decode cX0_copy 62 = .ok (.imul, 1) := by decide +kernel
theorem dX0_copy_63 : decode cX0_copy 63 = .ok (.iload_n 3, 1) := by decide +kernel
theorem dX0_copy_64 : decode cX0_copy 64 = .ok (.iadd, 1) := by decide +kernel
theorem dX0_copy_65 : decode cX0_copy 65 = .ok (.iaload, 1) := by decide +kernel
theorem dX0_copy_66 : decode cX0_copy 66 = .ok (.invokevirtual 51, 3) := by decide +kernel
theorem dX0_copy_69 : decode cX0_copy 69 = .ok (.aload_n 0, 1) := by decide +kernel
theorem dX0_copy_70 : decode cX0_copy 70 = .ok (.getfield 19, 3) := by decide +kernel
theorem dX0_copy_73 : decode cX0_copy 73 = .ok (.iload_n 1, 1) := by decide +kernel
theorem dX0_copy_74 : decode cX0_copy 74 = .ok (.bipush 8, 2) := by decide +kernel
theorem dX0_copy_76 : decode cX0_copy 76 = .ok (.imul, 1) := by decide +kernel
theorem dX0_copy_77 : decode cX0_copy 77 = .ok (.iload_n 3, 1) := by decide +kernel
theorem dX0_copy_78 : decode cX0_copy 78 = .ok (.iadd, 1) := by decide +kernel
theorem dX0_copy_79 : decode cX0_copy 79 = .ok (.iload 4, 2) := by decide +kernel
theorem dX0_copy_81 : decode cX0_copy 81 = .ok (.iastore, 1) := by decide +kernel
theorem dX0_copy_82 : decode cX0_copy 82 = .ok (.aload_n 0, 1) := by decide +kernel
theorem dX0_copy_83 : decode cX0_copy 83 = .ok (.iload_n 1, 1) := by decide +kernel
theorem dX0_copy_84 : decode cX0_copy 84 = .ok (.invokevirtual 66, 3) := by decide +kernel
theorem dX0_copy_87 : decode cX0_copy 87 = .ok (.ireturn, 1) := by decide +kernel
theorem dX0_send_0 : decode cX0_send 0 = .ok (.iload_n 1, 1) := by decide +kernel
theorem dX0_send_1 : decode cX0_send 1 = .ok (.invokestatic 55, 3) := by decide +kernel
theorem dX0_send_4 : decode cX0_send 4 = .ok (.ifCond .ne 10, 3) := by decide +kernel
theorem dX0_send_7 : decode cX0_send 7 = .ok (.iload_n 2, 1) := by decide +kernel
theorem dX0_send_8 : decode cX0_send 8 = .ok (.invokestatic 55, 3) := by decide +kernel
theorem dX0_send_11 : decode cX0_send 11 = .ok (.ifCond .eq 5, 3) := by decide +kernel
theorem dX0_send_14 : decode cX0_send 14 = .ok (.iconst (-1), 1) := by decide +kernel
theorem dX0_send_15 : decode cX0_send 15 = .ok (.ireturn, 1) := by decide +kernel
theorem dX0_send_16 : decode cX0_send 16 = .ok (.aload_n 0, 1) := by decide +kernel
theorem dX0_send_17 : decode cX0_send 17 = .ok (.getfield 35, 3) := by decide +kernel
theorem dX0_send_20 : decode cX0_send 20 = .ok (.iload_n 2, 1) := by decide +kernel
theorem dX0_send_21 : decode cX0_send 21 = .ok (.iaload, 1) := by decide +kernel
theorem dX0_send_22 : decode cX0_send 22 = .ok (.iconst 3, 1) := by decide +kernel
theorem dX0_send_23 : decode cX0_send 23 = .ok (.if_icmp .lt 6, 3) := by decide +kernel
theorem dX0_send_26 : decode cX0_send 26 = .ok (.bipush (-5), 2) := by decide +kernel
theorem dX0_send_28 : decode cX0_send 28 = .ok (.ireturn, 1) := by decide +kernel
theorem dX0_send_29 : decode cX0_send 29 = .ok (.iload 4, 2) := by decide +kernel
theorem dX0_send_31 : decode cX0_send 31 = .ok (.bipush 7, 2) := by decide +kernel
theorem dX0_send_33 : decode cX0_send 33 = .ok (.iand, 1) := by decide +kernel
theorem dX0_send_34 : decode cX0_send 34 = .ok (.istore 5, 2) := by decide +kernel
theorem dX0_send_36 : decode cX0_send 36 = .ok (.iload 4, 2) := by decide +kernel
theorem dX0_send_38 : decode cX0_send 38 = .ok (.iconst 3, 1) := by decide +kernel
theorem dX0_send_39 : decode cX0_send 39 = .ok (.ishr, 1) := by decide +kernel
theorem dX0_send_40 : decode cX0_send 40 = .ok (.iconst 3, 1) := by decide +kernel
theorem dX0_send_41 : decode cX0_send 41 = .ok (.iand, 1) := by decide +kernel
theorem dX0_send_42 : decode cX0_send 42 = .ok (.istore 6, 2) := by decide +kernel
theorem dX0_send_44 : decode cX0_send 44 = .ok (.iload 5, 2) := by decide +kernel
theorem dX0_send_46 : decode cX0_send 46 = .ok (.iload 6, 2) := by decide +kernel
theorem dX0_send_48 : decode cX0_send 48 = .ok (.iadd, 1) := by decide +kernel
theorem dX0_send_49 : decode cX0_send 49 = .ok (.bipush 8, 2) := by decide +kernel
theorem dX0_send_51 : decode cX0_send 51 = .ok (.if_icmp .le 6, 3) := by decide +kernel
theorem dX0_send_54 : decode cX0_send 54 = .ok (.bipush (-2), 2) := by decide +kernel
theorem dX0_send_56 : decode cX0_send 56 = .ok (.ireturn, 1) := by decide +kernel
theorem dX0_send_57 : decode cX0_send 57 = .ok (.iconst 0, 1) := by decide +kernel
theorem dX0_send_58 : decode cX0_send 58 = .ok (.istore 7, 2) := by decide +kernel
theorem dX0_send_60 : decode cX0_send 60 = .ok (.iload 7, 2) := by decide +kernel
theorem dX0_send_62 : decode cX0_send 62 = .ok (.iload 6, 2) := by decide +kernel
theorem dX0_send_64 : decode cX0_send 64 = .ok (.if_icmp .ge 30, 3) := by decide +kernel
theorem dX0_send_67 : decode cX0_send 67 = .ok (.aload_n 0, 1) := by decide +kernel
theorem dX0_send_68 : decode cX0_send 68 = .ok (.getfield 19, 3) := by decide +kernel
theorem dX0_send_71 : decode cX0_send 71 = .ok (.iload_n 1, 1) := by decide +kernel
theorem dX0_send_72 : decode cX0_send 72 = .ok (.bipush 8, 2) := by decide +kernel
theorem dX0_send_74 : decode cX0_send 74 = .ok (.imul, 1) := by decide +kernel
theorem dX0_send_75 : decode cX0_send 75 = .ok (.iload 5, 2) := by decide +kernel
theorem dX0_send_77 : decode cX0_send 77 = .ok (.iadd, 1) := by decide +kernel
theorem dX0_send_78 : decode cX0_send 78 = .ok (.iload 7, 2) := by decide +kernel
theorem dX0_send_80 : decode cX0_send 80 = .ok (.iadd, 1) := by decide +kernel
theorem dX0_send_81 : decode cX0_send 81 = .ok (.iaload, 1) := by decide +kernel
theorem dX0_send_82 : decode cX0_send 82 = .ok (.ifCond .ge 6, 3) := by decide +kernel
theorem dX0_send_85 : decode cX0_send 85 = .ok (.bipush (-4), 2) := by decide +kernel
theorem dX0_send_87 : decode cX0_send 87 = .ok (.ireturn, 1) := by decide +kernel
theorem dX0_send_88 : decode cX0_send 88 = .ok (.iinc 7 1, 3) := by decide +kernel
theorem dX0_send_91 : decode cX0_send 91 = .ok (.goto (-31), 3) := by decide +kernel
theorem dX0_send_94 : decode cX0_send 94 = .ok (.iload_n 2, 1) := by decide +kernel
theorem dX0_send_95 : decode cX0_send 95 = .ok (.iconst 3, 1) := by decide +kernel
theorem dX0_send_96 : decode cX0_send 96 = .ok (.imul, 1) := by decide +kernel
theorem dX0_send_97 : decode cX0_send 97 = .ok (.aload_n 0, 1) := by decide +kernel
theorem dX0_send_98 : decode cX0_send 98 = .ok (.getfield 32, 3) := by decide +kernel
theorem dX0_send_101 : decode cX0_send 101 = .ok (.iload_n 2, 1) := by decide +kernel
theorem dX0_send_102 : decode cX0_send 102 = .ok (.iaload, 1) := by decide +kernel
theorem dX0_send_103 : decode cX0_send 103 = .ok (.aload_n 0, 1) := by decide +kernel
theorem dX0_send_104 : decode cX0_send 104 = .ok (.getfield 35, 3) := by decide +kernel
theorem dX0_send_107 : decode cX0_send 107 = .ok (.iload_n 2, 1) := by decide +kernel
theorem dX0_send_108 : decode cX0_send 108 = .ok (.iaload, 1) := by decide +kernel
theorem dX0_send_109 : decode cX0_send 109 = .ok (.iadd, 1) := by decide +kernel
theorem dX0_send_110 : decode cX0_send 110 = .ok (.iconst 3, 1) := by decide +kernel
theorem dX0_send_111 : decode cX0_send 111 = .ok (.irem, 1) := by decide +kernel
theorem dX0_send_112 : decode cX0_send 112 = .ok (.iadd, 1) := by decide +kernel
theorem dX0_send_113 : decode cX0_send 113 = .ok (.istore 7, 2) := by decide +kernel
theorem dX0_send_115 : decode cX0_send 115 = .ok (.aload_n 0, 1) := by decide +kernel
theorem dX0_send_116 : decode cX0_send 116 = .ok (.getfield 38, 3) := by decide +kernel
theorem dX0_send_119 : decode cX0_send 119 = .ok (.iload 7, 2) := by decide +kernel
theorem dX0_send_121 : decode cX0_send 121 = .ok (.iload_n 3, 1) := by decide +kernel
theorem dX0_send_122 : decode cX0_send 122 = .ok (.iastore, 1) := by decide +kernel
theorem dX0_send_123 : decode cX0_send 123 = .ok (.aload_n 0, 1) := by decide +kernel
theorem dX0_send_124 : decode cX0_send 124 = .ok (.getfield 41, 3) := by decide +kernel
theorem dX0_send_127 : decode cX0_send 127 = .ok (.iload 7, 2) := by decide +kernel
theorem dX0_send_129 : decode cX0_send 129 = .ok (.iload 6, 2) := by decide +kernel
theorem dX0_send_131 : decode cX0_send 131 = .ok (.iastore, 1) := by decide +kernel
theorem dX0_send_132 : decode cX0_send 132 = .ok (.iconst 0, 1) := by decide +kernel
theorem dX0_send_133 : decode cX0_send 133 = .ok (.istore 8, 2) := by decide +kernel
theorem dX0_send_135 : decode cX0_send 135 = .ok (.iload 8, 2) := by decide +kernel
theorem dX0_send_137 : decode cX0_send 137 = .ok (.iload 6, 2) := by decide +kernel
theorem dX0_send_139 : decode cX0_send 139 = .ok (.if_icmp .ge 40, 3) := by decide +kernel
theorem dX0_send_142 : decode cX0_send 142 = .ok (.aload_n 0, 1) := by decide +kernel
theorem dX0_send_143 : decode cX0_send 143 = .ok (.getfield 44, 3) := by decide +kernel
theorem dX0_send_146 : decode cX0_send 146 = .ok (.iload 7, 2) := by decide +kernel
theorem dX0_send_148 : decode cX0_send 148 = .ok (.iconst 3, 1) := by decide +kernel
theorem dX0_send_149 : decode cX0_send 149 = .ok (.imul, 1) := by decide +kernel
theorem dX0_send_150 : decode cX0_send 150 = .ok (.iload 8, 2) := by decide +kernel
theorem dX0_send_152 : decode cX0_send 152 = .ok (.iadd, 1) := by decide +kernel
theorem dX0_send_153 : decode cX0_send 153 = .ok (.aload_n 0, 1) := by decide +kernel
theorem dX0_send_154 : decode cX0_send 154 = .ok (.aload_n 0, 1) := by decide +kernel
theorem dX0_send_155 : decode cX0_send 155 = .ok (.getfield 19, 3) := by decide +kernel
theorem dX0_send_158 : decode cX0_send 158 = .ok (.iload_n 1, 1) := by decide +kernel
theorem dX0_send_159 : decode cX0_send 159 = .ok (.bipush 8, 2) := by decide +kernel
theorem dX0_send_161 : decode cX0_send 161 = .ok (.imul, 1) := by decide +kernel
theorem dX0_send_162 : decode cX0_send 162 = .ok (.iload 5, 2) := by decide +kernel
theorem dX0_send_164 : decode cX0_send 164 = .ok (.iadd, 1) := by decide +kernel
theorem dX0_send_165 : decode cX0_send 165 = .ok (.iload 8, 2) := by decide +kernel
theorem dX0_send_167 : decode cX0_send 167 = .ok (.iadd, 1) := by decide +kernel
theorem dX0_send_168 : decode cX0_send 168 = .ok (.iaload, 1) := by decide +kernel
theorem dX0_send_169 : decode cX0_send 169 = .ok (.invokevirtual 62, 3) := by decide +kernel
theorem dX0_send_172 : decode cX0_send 172 = .ok (.iastore, 1) := by decide +kernel
theorem dX0_send_173 : decode cX0_send 173 = .ok (.iinc 8 1, 3) := by decide +kernel
theorem dX0_send_176 : decode cX0_send 176 = .ok (.goto (-41), 3) := by decide +kernel
theorem dX0_send_179 : decode cX0_send 179 = .ok (.aload_n 0, 1) := by decide +kernel
theorem dX0_send_180 : decode cX0_send 180 = .ok (.getfield 35, 3) := by decide +kernel
theorem dX0_send_183 : decode cX0_send 183 = .ok (.iload_n 2, 1) := by decide +kernel
theorem dX0_send_184 : decode cX0_send 184 = .ok (.dup2, 1) := by decide +kernel
theorem dX0_send_185 : decode cX0_send 185 = .ok (.iaload, 1) := by decide +kernel
theorem dX0_send_186 : decode cX0_send 186 = .ok (.iconst 1, 1) := by decide +kernel
theorem dX0_send_187 : decode cX0_send 187 = .ok (.iadd, 1) := by decide +kernel
theorem dX0_send_188 : decode cX0_send 188 = .ok (.iastore, 1) := by decide +kernel
theorem dX0_send_189 : decode cX0_send 189 = .ok (.aload_n 0, 1) := by decide +kernel
theorem dX0_send_190 : decode cX0_send 190 = .ok (.getfield 35, 3) := by decide +kernel
theorem dX0_send_193 : decode cX0_send 193 = .ok (.iload_n 2, 1) := by decide +kernel
theorem dX0_send_194 : decode cX0_send 194 = .ok (.iaload, 1) := by decide +kernel
theorem dX0_send_195 : decode cX0_send 195 = .ok (.ireturn, 1) := by decide +kernel
theorem dX0_receive_0 : decode cX0_receive 0 = .ok (.iload_n 1, 1) := by decide +kernel
theorem dX0_receive_1 : decode cX0_receive 1 = .ok (.invokestatic 55, 3) := by decide +kernel
theorem dX0_receive_4 : decode cX0_receive 4 = .ok (.ifCond .ne 10, 3) := by decide +kernel
theorem dX0_receive_7 : decode cX0_receive 7 = .ok (.iload_n 2, 1) := by decide +kernel
theorem dX0_receive_8 : decode cX0_receive 8 = .ok (.invokestatic 55, 3) := by decide +kernel
theorem dX0_receive_11 : decode cX0_receive 11 = .ok (.ifCond .eq 5, 3) := by decide +kernel
theorem dX0_receive_14 : decode cX0_receive 14 = .ok (.iconst (-1), 1) := by decide +kernel
theorem dX0_receive_15 : decode cX0_receive 15 = .ok (.ireturn, 1) := by decide +kernel
theorem dX0_receive_16 : decode cX0_receive 16 = .ok (.aload_n 0, 1) := by decide +kernel
theorem dX0_receive_17 : decode cX0_receive 17 = .ok (.getfield 35, 3) := by decide +kernel
theorem dX0_receive_20 : decode cX0_receive 20 = .ok (.iload_n 2, 1) := by decide +kernel
theorem dX0_receive_21 : decode cX0_receive 21 = .ok (.iaload, 1) := by decide +kernel
theorem dX0_receive_22 : decode cX0_receive 22 = .ok (.ifCond .ne 6, 3) := by decide +kernel
theorem dX0_receive_25 : decode cX0_receive 25 = .ok (.bipush (-6), 2) := by decide +kernel
theorem dX0_receive_27 : decode cX0_receive 27 = .ok (.ireturn, 1) := by decide +kernel
theorem dX0_receive_28 : decode cX0_receive 28 = .ok (.iload_n 2, 1) := by decide +kernel
theorem dX0_receive_29 : decode cX0_receive 29 = .ok (.iconst 3, 1) := by decide +kernel
theorem dX0_receive_30 : decode cX0_receive 30 = .ok (.imul, 1) := by decide +kernel
theorem dX0_receive_31 : decode cX0_receive 31 = .ok (.aload_n 0, 1) := by decide +kernel
theorem dX0_receive_32 : decode cX0_receive 32 = .ok (.getfield 32, 3) := by decide +kernel
theorem dX0_receive_35 : decode cX0_receive 35 = .ok (.iload_n 2, 1) := by decide +kernel
theorem dX0_receive_36 : decode cX0_receive 36 = .ok (.iaload, 1) := by decide +kernel
theorem dX0_receive_37 : decode cX0_receive 37 = .ok (.iadd, 1) := by decide +kernel
theorem dX0_receive_38 : decode cX0_receive 38 = .ok (.istore 4, 2) := by decide +kernel
theorem dX0_receive_40 : decode cX0_receive 40 = .ok (.aload_n 0, 1) := by decide +kernel
theorem dX0_receive_41 : decode cX0_receive 41 = .ok (.getfield 41, 3) := by decide +kernel
theorem dX0_receive_44 : decode cX0_receive 44 = .ok (.iload 4, 2) := by decide +kernel
theorem dX0_receive_46 : decode cX0_receive 46 = .ok (.iaload, 1) := by decide +kernel
theorem dX0_receive_47 : decode cX0_receive 47 = .ok (.istore 5, 2) := by decide +kernel
theorem dX0_receive_49 : decode cX0_receive 49 = .ok (.iload_n 3, 1) := by decide +kernel
theorem dX0_receive_50 : decode cX0_receive 50 = .ok (.invokestatic 59, 3) := by decide +kernel
theorem dX0_receive_53 : decode cX0_receive 53 = .ok (.ifCond .ne 12, 3) := by decide +kernel
theorem dX0_receive_56 : decode cX0_receive 56 = .ok (.iload_n 3, 1) := by decide +kernel
theorem dX0_receive_57 : decode cX0_receive 57 = .ok (.iload 5, 2) := by decide +kernel
theorem dX0_receive_59 : decode cX0_receive 59 = .ok (.iadd, 1) := by decide +kernel
theorem dX0_receive_60 : decode cX0_receive 60 = .ok (.bipush 8, 2) := by decide +kernel
theorem dX0_receive_62 : decode cX0_receive 62 = .ok (.if_icmp .le 6, 3) := by decide +kernel
theorem dX0_receive_65 : decode cX0_receive 65 = .ok (.bipush (-2), 2) := by decide +kernel
theorem dX0_receive_67 : decode cX0_receive 67 = .ok (.ireturn, 1) := by decide +kernel
theorem dX0_receive_68 : decode cX0_receive 68 = .ok (.iconst 0, 1) := by decide +kernel
theorem dX0_receive_69 : decode cX0_receive 69 = .ok (.istore 6, 2) := by decide +kernel
theorem dX0_receive_71 : decode cX0_receive 71 = .ok (.iload 6, 2) := by decide +kernel
theorem dX0_receive_73 : decode cX0_receive 73 = .ok (.iload 5, 2) := by decide +kernel
theorem dX0_receive_75 : decode cX0_receive 75 = .ok (.if_icmp .ge 29, 3) := by decide +kernel
theorem dX0_receive_78 : decode cX0_receive 78 = .ok (.aload_n 0, 1) := by decide +kernel
theorem dX0_receive_79 : decode cX0_receive 79 = .ok (.getfield 19, 3) := by decide +kernel
theorem dX0_receive_82 : decode cX0_receive 82 = .ok (.iload_n 1, 1) := by decide +kernel
theorem dX0_receive_83 : decode cX0_receive 83 = .ok (.bipush 8, 2) := by decide +kernel
theorem dX0_receive_85 : decode cX0_receive 85 = .ok (.imul, 1) := by decide +kernel
theorem dX0_receive_86 : decode cX0_receive 86 = .ok (.iload_n 3, 1) := by decide +kernel
theorem dX0_receive_87 : decode cX0_receive 87 = .ok (.iadd, 1) := by decide +kernel
theorem dX0_receive_88 : decode cX0_receive 88 = .ok (.iload 6, 2) := by decide +kernel
theorem dX0_receive_90 : decode cX0_receive 90 = .ok (.iadd, 1) := by decide +kernel
theorem dX0_receive_91 : decode cX0_receive 91 = .ok (.iaload, 1) := by decide +kernel
theorem dX0_receive_92 : decode cX0_receive 92 = .ok (.ifCond .lt 6, 3) := by decide +kernel
theorem dX0_receive_95 : decode cX0_receive 95 = .ok (.bipush (-3), 2) := by decide +kernel
theorem dX0_receive_97 : decode cX0_receive 97 = .ok (.ireturn, 1) := by decide +kernel
theorem dX0_receive_98 : decode cX0_receive 98 = .ok (.iinc 6 1, 3) := by decide +kernel
theorem dX0_receive_101 : decode cX0_receive 101 = .ok (.goto (-30), 3) := by decide +kernel
theorem dX0_receive_104 : decode cX0_receive 104 = .ok (.iconst 0, 1) := by decide +kernel
theorem dX0_receive_105 : decode cX0_receive 105 = .ok (.istore 6, 2) := by decide +kernel
theorem dX0_receive_107 : decode cX0_receive 107 = .ok (.iload 6, 2) := by decide +kernel
theorem dX0_receive_109 : decode cX0_receive 109 = .ok (.iload 5, 2) := by decide +kernel
theorem dX0_receive_111 : decode cX0_receive 111 = .ok (.if_icmp .ge 35, 3) := by decide +kernel
theorem dX0_receive_114 : decode cX0_receive 114 = .ok (.aload_n 0, 1) := by decide +kernel
theorem dX0_receive_115 : decode cX0_receive 115 = .ok (.getfield 19, 3) := by decide +kernel
theorem dX0_receive_118 : decode cX0_receive 118 = .ok (.iload_n 1, 1) := by decide +kernel
theorem dX0_receive_119 : decode cX0_receive 119 = .ok (.bipush 8, 2) := by decide +kernel
theorem dX0_receive_121 : decode cX0_receive 121 = .ok (.imul, 1) := by decide +kernel
theorem dX0_receive_122 : decode cX0_receive 122 = .ok (.iload_n 3, 1) := by decide +kernel
theorem dX0_receive_123 : decode cX0_receive 123 = .ok (.iadd, 1) := by decide +kernel
theorem dX0_receive_124 : decode cX0_receive 124 = .ok (.iload 6, 2) := by decide +kernel
theorem dX0_receive_126 : decode cX0_receive 126 = .ok (.iadd, 1) := by decide +kernel
theorem dX0_receive_127 : decode cX0_receive 127 = .ok (.aload_n 0, 1) := by decide +kernel
theorem dX0_receive_128 : decode cX0_receive 128 = .ok (.getfield 44, 3) := by decide +kernel
theorem dX0_receive_131 : decode cX0_receive 131 = .ok (.iload 4, 2) := by decide +kernel
theorem dX0_receive_133 : decode cX0_receive 133 = .ok (.iconst 3, 1) := by decide +kernel
theorem dX0_receive_134 : decode cX0_receive 134 = .ok (.imul, 1) := by decide +kernel
theorem dX0_receive_135 : decode cX0_receive 135 = .ok (.iload 6, 2) := by decide +kernel
theorem dX0_receive_137 : decode cX0_receive 137 = .ok (.iadd, 1) := by decide +kernel
theorem dX0_receive_138 : decode cX0_receive 138 = .ok (.iaload, 1) := by decide +kernel
theorem dX0_receive_139 : decode cX0_receive 139 = .ok (.iastore, 1) := by decide +kernel
theorem dX0_receive_140 : decode cX0_receive 140 = .ok (.iinc 6 1, 3) := by decide +kernel
theorem dX0_receive_143 : decode cX0_receive 143 = .ok (.goto (-36), 3) := by decide +kernel
theorem dX0_receive_146 : decode cX0_receive 146 = .ok (.aload_n 0, 1) := by decide +kernel
theorem dX0_receive_147 : decode cX0_receive 147 = .ok (.getfield 29, 3) := by decide +kernel
theorem dX0_receive_150 : decode cX0_receive 150 = .ok (.iload_n 1, 1) := by decide +kernel
theorem dX0_receive_151 : decode cX0_receive 151 = .ok (.aload_n 0, 1) := by decide +kernel
theorem dX0_receive_152 : decode cX0_receive 152 = .ok (.getfield 38, 3) := by decide +kernel
theorem dX0_receive_155 : decode cX0_receive 155 = .ok (.iload 4, 2) := by decide +kernel
theorem dX0_receive_157 : decode cX0_receive 157 = .ok (.iaload, 1) := by decide +kernel
theorem dX0_receive_158 : decode cX0_receive 158 = .ok (.iastore, 1) := by decide +kernel
theorem dX0_receive_159 : decode cX0_receive 159 = .ok (.aload_n 0, 1) := by decide +kernel
theorem dX0_receive_160 : decode cX0_receive 160 = .ok (.iload_n 2, 1) := by decide +kernel
theorem dX0_receive_161 : decode cX0_receive 161 = .ok (.invokevirtual 72, 3) := by decide +kernel
theorem dX0_receive_164 : decode cX0_receive 164 = .ok (.iload 5, 2) := by decide +kernel
theorem dX0_receive_166 : decode cX0_receive 166 = .ok (.ireturn, 1) := by decide +kernel
theorem dX0_dropHead_0 : decode cX0_dropHead 0 = .ok (.aload_n 0, 1) := by decide +kernel
theorem dX0_dropHead_1 : decode cX0_dropHead 1 = .ok (.getfield 32, 3) := by decide +kernel
theorem dX0_dropHead_4 : decode cX0_dropHead 4 = .ok (.iload_n 1, 1) := by decide +kernel
theorem dX0_dropHead_5 : decode cX0_dropHead 5 = .ok (.aload_n 0, 1) := by decide +kernel
theorem dX0_dropHead_6 : decode cX0_dropHead 6 = .ok (.getfield 32, 3) := by decide +kernel
theorem dX0_dropHead_9 : decode cX0_dropHead 9 = .ok (.iload_n 1, 1) := by decide +kernel
theorem dX0_dropHead_10 : decode cX0_dropHead 10 = .ok (.iaload, 1) := by decide +kernel
theorem dX0_dropHead_11 : decode cX0_dropHead 11 = .ok (.iconst 2, 1) := by decide +kernel
theorem dX0_dropHead_12 : decode cX0_dropHead 12 = .ok (.if_icmp .ne 7, 3) := by decide +kernel
theorem dX0_dropHead_15 : decode cX0_dropHead 15 = .ok (.iconst 0, 1) := by decide +kernel
theorem dX0_dropHead_16 : decode cX0_dropHead 16 = .ok (.goto 11, 3) := by decide +kernel
theorem dX0_dropHead_19 : decode cX0_dropHead 19 = .ok (.aload_n 0, 1) := by decide +kernel
theorem dX0_dropHead_20 : decode cX0_dropHead 20 = .ok (.getfield 32, 3) := by decide +kernel
theorem dX0_dropHead_23 : decode cX0_dropHead 23 = .ok (.iload_n 1, 1) := by decide +kernel
theorem dX0_dropHead_24 : decode cX0_dropHead 24 = .ok (.iaload, 1) := by decide +kernel
theorem dX0_dropHead_25 : decode cX0_dropHead 25 = .ok (.iconst 1, 1) := by decide +kernel
theorem dX0_dropHead_26 : decode cX0_dropHead 26 = .ok (.iadd, 1) := by decide +kernel
theorem dX0_dropHead_27 : decode cX0_dropHead 27 = .ok (.iastore, 1) := by decide +kernel
theorem dX0_dropHead_28 : decode cX0_dropHead 28 = .ok (.aload_n 0, 1) := by decide +kernel
theorem dX0_dropHead_29 : decode cX0_dropHead 29 = .ok (.getfield 35, 3) := by decide +kernel
theorem dX0_dropHead_32 : decode cX0_dropHead 32 = .ok (.iload_n 1, 1) := by decide +kernel
theorem dX0_dropHead_33 : decode cX0_dropHead 33 = .ok (.dup2, 1) := by decide +kernel
theorem dX0_dropHead_34 : decode cX0_dropHead 34 = .ok (.iaload, 1) := by decide +kernel
theorem dX0_dropHead_35 : decode cX0_dropHead 35 = .ok (.iconst 1, 1) := by decide +kernel
theorem dX0_dropHead_36 : decode cX0_dropHead 36 = .ok (.isub, 1) := by decide +kernel
theorem dX0_dropHead_37 : decode cX0_dropHead 37 = .ok (.iastore, 1) := by decide +kernel
theorem dX0_dropHead_38 : decode cX0_dropHead 38 = .ok (.return_, 1) := by decide +kernel
theorem dX0_drain_0 : decode cX0_drain 0 = .ok (.iload_n 1, 1) := by decide +kernel
theorem dX0_drain_1 : decode cX0_drain 1 = .ok (.invokestatic 55, 3) := by decide +kernel
theorem dX0_drain_4 : decode cX0_drain 4 = .ok (.ifCond .eq 5, 3) := by decide +kernel
theorem dX0_drain_7 : decode cX0_drain 7 = .ok (.iconst (-1), 1) := by decide +kernel
theorem dX0_drain_8 : decode cX0_drain 8 = .ok (.ireturn, 1) := by decide +kernel
theorem dX0_drain_9 : decode cX0_drain 9 = .ok (.aload_n 0, 1) := by decide +kernel
theorem dX0_drain_10 : decode cX0_drain 10 = .ok (.getfield 35, 3) := by decide +kernel
theorem dX0_drain_13 : decode cX0_drain 13 = .ok (.iload_n 1, 1) := by decide +kernel
theorem dX0_drain_14 : decode cX0_drain 14 = .ok (.iaload, 1) := by decide +kernel
theorem dX0_drain_15 : decode cX0_drain 15 = .ok (.istore_n 2, 1) := by decide +kernel
end
section
set_option maxRecDepth 100000
theorem dX0_drain_16 : decode cX0_drain 16 = .ok (.iconst 0, 1) := by decide +kernel
theorem dX0_drain_17 : decode cX0_drain 17 = .ok (.istore_n 3, 1) := by decide +kernel
theorem dX0_drain_18 : decode cX0_drain 18 = .ok (.iload_n 3, 1) := by decide +kernel
theorem dX0_drain_19 : decode cX0_drain 19 = .ok (.iload_n 2, 1) := by decide +kernel
theorem dX0_drain_20 : decode cX0_drain 20 = .ok (.if_icmp .ge 63, 3) := by decide +kernel
theorem dX0_drain_23 : decode cX0_drain 23 = .ok (.iload_n 1, 1) := by decide +kernel
theorem dX0_drain_24 : decode cX0_drain 24 = .ok (.iconst 3, 1) := by decide +kernel
theorem dX0_drain_25 : decode cX0_drain 25 = .ok (.imul, 1) := by decide +kernel
theorem dX0_drain_26 : decode cX0_drain 26 = .ok (.aload_n 0, 1) := by decide +kernel
theorem dX0_drain_27 : decode cX0_drain 27 = .ok (.getfield 32, 3) := by decide +kernel
theorem dX0_drain_30 : decode cX0_drain 30 = .ok (.iload_n 1, 1) := by decide +kernel
theorem dX0_drain_31 : decode cX0_drain 31 = .ok (.iaload, 1) := by decide +kernel
theorem dX0_drain_32 : decode cX0_drain 32 = .ok (.iadd, 1) := by decide +kernel
theorem dX0_drain_33 : decode cX0_drain 33 = .ok (.istore 4, 2) := by decide +kernel
theorem dX0_drain_35 : decode cX0_drain 35 = .ok (.iconst 0, 1) := by decide +kernel
theorem dX0_drain_36 : decode cX0_drain 36 = .ok (.istore 5, 2) := by decide +kernel
theorem dX0_drain_38 : decode cX0_drain 38 = .ok (.iload 5, 2) := by decide +kernel
theorem dX0_drain_40 : decode cX0_drain 40 = .ok (.aload_n 0, 1) := by decide +kernel
theorem dX0_drain_41 : decode cX0_drain 41 = .ok (.getfield 41, 3) := by decide +kernel
theorem dX0_drain_44 : decode cX0_drain 44 = .ok (.iload 4, 2) := by decide +kernel
theorem dX0_drain_46 : decode cX0_drain 46 = .ok (.iaload, 1) := by decide +kernel
theorem dX0_drain_47 : decode cX0_drain 47 = .ok (.if_icmp .ge 25, 3) := by decide +kernel
theorem dX0_drain_50 : decode cX0_drain 50 = .ok (.aload_n 0, 1) := by decide +kernel
theorem dX0_drain_51 : decode cX0_drain 51 = .ok (.aload_n 0, 1) := by decide +kernel
theorem dX0_drain_52 : decode cX0_drain 52 = .ok (.getfield 44, 3) := by decide +kernel
theorem dX0_drain_55 : decode cX0_drain 55 = .ok (.iload 4, 2) := by decide +kernel
theorem dX0_drain_57 : decode cX0_drain 57 = .ok (.iconst 3, 1) := by decide +kernel
theorem dX0_drain_58 : decode cX0_drain 58 = .ok (.imul, 1) := by decide +kernel
theorem dX0_drain_59 : decode cX0_drain 59 = .ok (.iload 5, 2) := by decide +kernel
theorem dX0_drain_61 : decode cX0_drain 61 = .ok (.iadd, 1) := by decide +kernel
theorem dX0_drain_62 : decode cX0_drain 62 = .ok (.iaload, 1) := by decide +kernel
theorem dX0_drain_63 : decode cX0_drain 63 = .ok (.invokevirtual 51, 3) := by decide +kernel
theorem dX0_drain_66 : decode cX0_drain 66 = .ok (.iinc 5 1, 3) := by decide +kernel
theorem dX0_drain_69 : decode cX0_drain 69 = .ok (.goto (-31), 3) := by decide +kernel
theorem dX0_drain_72 : decode cX0_drain 72 = .ok (.aload_n 0, 1) := by decide +kernel
theorem dX0_drain_73 : decode cX0_drain 73 = .ok (.iload_n 1, 1) := by decide +kernel
theorem dX0_drain_74 : decode cX0_drain 74 = .ok (.invokevirtual 72, 3) := by decide +kernel
theorem dX0_drain_77 : decode cX0_drain 77 = .ok (.iinc 3 1, 3) := by decide +kernel
theorem dX0_drain_80 : decode cX0_drain 80 = .ok (.goto (-62), 3) := by decide +kernel
theorem dX0_drain_83 : decode cX0_drain 83 = .ok (.iload_n 2, 1) := by decide +kernel
theorem dX0_drain_84 : decode cX0_drain 84 = .ok (.ireturn, 1) := by decide +kernel
theorem dX0_snapshot_0 : decode cX0_snapshot 0 = .ok (.iload_n 1, 1) := by decide +kernel
theorem dX0_snapshot_1 : decode cX0_snapshot 1 = .ok (.invokestatic 55, 3) := by decide +kernel
theorem dX0_snapshot_4 : decode cX0_snapshot 4 = .ok (.ifCond .eq 5, 3) := by decide +kernel
theorem dX0_snapshot_7 : decode cX0_snapshot 7 = .ok (.iconst (-1), 1) := by decide +kernel
theorem dX0_snapshot_8 : decode cX0_snapshot 8 = .ok (.ireturn, 1) := by decide +kernel
theorem dX0_snapshot_9 : decode cX0_snapshot 9 = .ok (.aload_n 0, 1) := by decide +kernel
theorem dX0_snapshot_10 : decode cX0_snapshot 10 = .ok (.iload_n 1, 1) := by decide +kernel
theorem dX0_snapshot_11 : decode cX0_snapshot 11 = .ok (.invokevirtual 75, 3) := by decide +kernel
theorem dX0_snapshot_14 : decode cX0_snapshot 14 = .ok (.iconst 0, 1) := by decide +kernel
theorem dX0_snapshot_15 : decode cX0_snapshot 15 = .ok (.istore_n 2, 1) := by decide +kernel
theorem dX0_snapshot_16 : decode cX0_snapshot 16 = .ok (.iload_n 2, 1) := by decide +kernel
theorem dX0_snapshot_17 : decode cX0_snapshot 17 = .ok (.bipush 8, 2) := by decide +kernel
theorem dX0_snapshot_19 : decode cX0_snapshot 19 = .ok (.if_icmp .ge 35, 3) := by decide +kernel
theorem dX0_snapshot_22 : decode cX0_snapshot 22 = .ok (.aload_n 0, 1) := by decide +kernel
theorem dX0_snapshot_23 : decode cX0_snapshot 23 = .ok (.getfield 22, 3) := by decide +kernel
theorem dX0_snapshot_26 : decode cX0_snapshot 26 = .ok (.iload_n 1, 1) := by decide +kernel
theorem dX0_snapshot_27 : decode cX0_snapshot 27 = .ok (.bipush 8, 2) := by decide +kernel
theorem dX0_snapshot_29 : decode cX0_snapshot 29 = .ok (.imul, 1) := by decide +kernel
theorem dX0_snapshot_30 : decode cX0_snapshot 30 = .ok (.iload_n 2, 1) := by decide +kernel
theorem dX0_snapshot_31 : decode cX0_snapshot 31 = .ok (.iadd, 1) := by decide +kernel
theorem dX0_snapshot_32 : decode cX0_snapshot 32 = .ok (.aload_n 0, 1) := by decide +kernel
theorem dX0_snapshot_33 : decode cX0_snapshot 33 = .ok (.aload_n 0, 1) := by decide +kernel
theorem dX0_snapshot_34 : decode cX0_snapshot 34 = .ok (.getfield 19, 3) := by decide +kernel
theorem dX0_snapshot_37 : decode cX0_snapshot 37 = .ok (.iload_n 1, 1) := by decide +kernel
theorem dX0_snapshot_38 : decode cX0_snapshot 38 = .ok (.bipush 8, 2) := by decide +kernel
theorem dX0_snapshot_40 : decode cX0_snapshot 40 = .ok (.imul, 1) := by decide +kernel
theorem dX0_snapshot_41 : decode cX0_snapshot 41 = .ok (.iload_n 2, 1) := by decide +kernel
theorem dX0_snapshot_42 : decode cX0_snapshot 42 = .ok (.iadd, 1) := by decide +kernel
theorem dX0_snapshot_43 : decode cX0_snapshot 43 = .ok (.iaload, 1) := by decide +kernel
theorem dX0_snapshot_44 : decode cX0_snapshot 44 = .ok (.invokevirtual 62, 3) := by decide +kernel
theorem dX0_snapshot_47 : decode cX0_snapshot 47 = .ok (.iastore, 1) := by decide +kernel
theorem dX0_snapshot_48 : decode cX0_snapshot 48 = .ok (.iinc 2 1, 3) := by decide +kernel
theorem dX0_snapshot_51 : decode cX0_snapshot 51 = .ok (.goto (-35), 3) := by decide +kernel
theorem dX0_snapshot_54 : decode cX0_snapshot 54 = .ok (.aload_n 0, 1) := by decide +kernel
theorem dX0_snapshot_55 : decode cX0_snapshot 55 = .ok (.getfield 25, 3) := by decide +kernel
theorem dX0_snapshot_58 : decode cX0_snapshot 58 = .ok (.iload_n 1, 1) := by decide +kernel
theorem dX0_snapshot_59 : decode cX0_snapshot 59 = .ok (.iconst 1, 1) := by decide +kernel
theorem dX0_snapshot_60 : decode cX0_snapshot 60 = .ok (.bastore, 1) := by decide +kernel
theorem dX0_snapshot_61 : decode cX0_snapshot 61 = .ok (.aload_n 0, 1) := by decide +kernel
theorem dX0_snapshot_62 : decode cX0_snapshot 62 = .ok (.iload_n 1, 1) := by decide +kernel
theorem dX0_snapshot_63 : decode cX0_snapshot 63 = .ok (.invokevirtual 66, 3) := by decide +kernel
theorem dX0_snapshot_66 : decode cX0_snapshot 66 = .ok (.ireturn, 1) := by decide +kernel
theorem dX0_clearKept_0 : decode cX0_clearKept 0 = .ok (.iconst 0, 1) := by decide +kernel
theorem dX0_clearKept_1 : decode cX0_clearKept 1 = .ok (.istore_n 2, 1) := by decide +kernel
theorem dX0_clearKept_2 : decode cX0_clearKept 2 = .ok (.iload_n 2, 1) := by decide +kernel
theorem dX0_clearKept_3 : decode cX0_clearKept 3 = .ok (.bipush 8, 2) := by decide +kernel
theorem dX0_clearKept_5 : decode cX0_clearKept 5 = .ok (.if_icmp .ge 36, 3) := by decide +kernel
theorem dX0_clearKept_8 : decode cX0_clearKept 8 = .ok (.aload_n 0, 1) := by decide +kernel
theorem dX0_clearKept_9 : decode cX0_clearKept 9 = .ok (.aload_n 0, 1) := by decide +kernel
theorem dX0_clearKept_10 : decode cX0_clearKept 10 = .ok (.getfield 22, 3) := by decide +kernel
theorem dX0_clearKept_13 : decode cX0_clearKept 13 = .ok (.iload_n 1, 1) := by decide +kernel
theorem dX0_clearKept_14 : decode cX0_clearKept 14 = .ok (.bipush 8, 2) := by decide +kernel
theorem dX0_clearKept_16 : decode cX0_clearKept 16 = .ok (.imul, 1) := by decide +kernel
theorem dX0_clearKept_17 : decode cX0_clearKept 17 = .ok (.iload_n 2, 1) := by decide +kernel
theorem dX0_clearKept_18 : decode cX0_clearKept 18 = .ok (.iadd, 1) := by decide +kernel
theorem dX0_clearKept_19 : decode cX0_clearKept 19 = .ok (.iaload, 1) := by decide +kernel
theorem dX0_clearKept_20 : decode cX0_clearKept 20 = .ok (.invokevirtual 51, 3) := by decide +kernel
theorem dX0_clearKept_23 : decode cX0_clearKept 23 = .ok (.aload_n 0, 1) := by decide +kernel
theorem dX0_clearKept_24 : decode cX0_clearKept 24 = .ok (.getfield 22, 3) := by decide +kernel
theorem dX0_clearKept_27 : decode cX0_clearKept 27 = .ok (.iload_n 1, 1) := by decide +kernel
theorem dX0_clearKept_28 : decode cX0_clearKept 28 = .ok (.bipush 8, 2) := by decide +kernel
theorem dX0_clearKept_30 : decode cX0_clearKept 30 = .ok (.imul, 1) := by decide +kernel
theorem dX0_clearKept_31 : decode cX0_clearKept 31 = .ok (.iload_n 2, 1) := by decide +kernel
theorem dX0_clearKept_32 : decode cX0_clearKept 32 = .ok (.iadd, 1) := by decide +kernel
theorem dX0_clearKept_33 : decode cX0_clearKept 33 = .ok (.iconst (-1), 1) := by decide +kernel
theorem dX0_clearKept_34 : decode cX0_clearKept 34 = .ok (.iastore, 1) := by decide +kernel
theorem dX0_clearKept_35 : decode cX0_clearKept 35 = .ok (.iinc 2 1, 3) := by decide +kernel
theorem dX0_clearKept_38 : decode cX0_clearKept 38 = .ok (.goto (-36), 3) := by decide +kernel
theorem dX0_clearKept_41 : decode cX0_clearKept 41 = .ok (.aload_n 0, 1) := by decide +kernel
theorem dX0_clearKept_42 : decode cX0_clearKept 42 = .ok (.getfield 25, 3) := by decide +kernel
theorem dX0_clearKept_45 : decode cX0_clearKept 45 = .ok (.iload_n 1, 1) := by decide +kernel
theorem dX0_clearKept_46 : decode cX0_clearKept 46 = .ok (.iconst 0, 1) := by decide +kernel
theorem dX0_clearKept_47 : decode cX0_clearKept 47 = .ok (.bastore, 1) := by decide +kernel
theorem dX0_clearKept_48 : decode cX0_clearKept 48 = .ok (.return_, 1) := by decide +kernel
theorem dX0_rollBack_0 : decode cX0_rollBack 0 = .ok (.iload_n 1, 1) := by decide +kernel
theorem dX0_rollBack_1 : decode cX0_rollBack 1 = .ok (.invokestatic 55, 3) := by decide +kernel
theorem dX0_rollBack_4 : decode cX0_rollBack 4 = .ok (.ifCond .eq 5, 3) := by decide +kernel
theorem dX0_rollBack_7 : decode cX0_rollBack 7 = .ok (.iconst (-1), 1) := by decide +kernel
theorem dX0_rollBack_8 : decode cX0_rollBack 8 = .ok (.ireturn, 1) := by decide +kernel
theorem dX0_rollBack_9 : decode cX0_rollBack 9 = .ok (.aload_n 0, 1) := by decide +kernel
theorem dX0_rollBack_10 : decode cX0_rollBack 10 = .ok (.getfield 25, 3) := by decide +kernel
theorem dX0_rollBack_13 : decode cX0_rollBack 13 = .ok (.iload_n 1, 1) := by decide +kernel
theorem dX0_rollBack_14 : decode cX0_rollBack 14 = .ok (.baload, 1) := by decide +kernel
theorem dX0_rollBack_15 : decode cX0_rollBack 15 = .ok (.ifCond .ne 6, 3) := by decide +kernel
theorem dX0_rollBack_18 : decode cX0_rollBack 18 = .ok (.bipush (-7), 2) := by decide +kernel
theorem dX0_rollBack_20 : decode cX0_rollBack 20 = .ok (.ireturn, 1) := by decide +kernel
theorem dX0_rollBack_21 : decode cX0_rollBack 21 = .ok (.aload_n 0, 1) := by decide +kernel
theorem dX0_rollBack_22 : decode cX0_rollBack 22 = .ok (.iload_n 1, 1) := by decide +kernel
theorem dX0_rollBack_23 : decode cX0_rollBack 23 = .ok (.invokevirtual 78, 3) := by decide +kernel
theorem dX0_rollBack_26 : decode cX0_rollBack 26 = .ok (.iconst 0, 1) := by decide +kernel
theorem dX0_rollBack_27 : decode cX0_rollBack 27 = .ok (.istore_n 2, 1) := by decide +kernel
theorem dX0_rollBack_28 : decode cX0_rollBack 28 = .ok (.iload_n 2, 1) := by decide +kernel
theorem dX0_rollBack_29 : decode cX0_rollBack 29 = .ok (.bipush 8, 2) := by decide +kernel
theorem dX0_rollBack_31 : decode cX0_rollBack 31 = .ok (.if_icmp .ge 35, 3) := by decide +kernel
theorem dX0_rollBack_34 : decode cX0_rollBack 34 = .ok (.aload_n 0, 1) := by decide +kernel
theorem dX0_rollBack_35 : decode cX0_rollBack 35 = .ok (.getfield 19, 3) := by decide +kernel
theorem dX0_rollBack_38 : decode cX0_rollBack 38 = .ok (.iload_n 1, 1) := by decide +kernel
theorem dX0_rollBack_39 : decode cX0_rollBack 39 = .ok (.bipush 8, 2) := by decide +kernel
theorem dX0_rollBack_41 : decode cX0_rollBack 41 = .ok (.imul, 1) := by decide +kernel
theorem dX0_rollBack_42 : decode cX0_rollBack 42 = .ok (.iload_n 2, 1) := by decide +kernel
theorem dX0_rollBack_43 : decode cX0_rollBack 43 = .ok (.iadd, 1) := by decide +kernel
theorem dX0_rollBack_44 : decode cX0_rollBack 44 = .ok (.aload_n 0, 1) := by decide +kernel
theorem dX0_rollBack_45 : decode cX0_rollBack 45 = .ok (.aload_n 0, 1) := by decide +kernel
theorem dX0_rollBack_46 : decode cX0_rollBack 46 = .ok (.getfield 22, 3) := by decide +kernel
theorem dX0_rollBack_49 : decode cX0_rollBack 49 = .ok (.iload_n 1, 1) := by decide +kernel
theorem dX0_rollBack_50 : decode cX0_rollBack 50 = .ok (.bipush 8, 2) := by decide +kernel
theorem dX0_rollBack_52 : decode cX0_rollBack 52 = .ok (.imul, 1) := by decide +kernel
theorem dX0_rollBack_53 : decode cX0_rollBack 53 = .ok (.iload_n 2, 1) := by decide +kernel
theorem dX0_rollBack_54 : decode cX0_rollBack 54 = .ok (.iadd, 1) := by decide +kernel
theorem dX0_rollBack_55 : decode cX0_rollBack 55 = .ok (.iaload, 1) := by decide +kernel
theorem dX0_rollBack_56 : decode cX0_rollBack 56 = .ok (.invokevirtual 62, 3) := by decide +kernel
theorem dX0_rollBack_59 : decode cX0_rollBack 59 = .ok (.iastore, 1) := by decide +kernel
theorem dX0_rollBack_60 : decode cX0_rollBack 60 = .ok (.iinc 2 1, 3) := by decide +kernel
theorem dX0_rollBack_63 : decode cX0_rollBack 63 = .ok (.goto (-35), 3) := by decide +kernel
theorem dX0_rollBack_66 : decode cX0_rollBack 66 = .ok (.aload_n 0, 1) := by decide +kernel
theorem dX0_rollBack_67 : decode cX0_rollBack 67 = .ok (.iload_n 1, 1) := by decide +kernel
theorem dX0_rollBack_68 : decode cX0_rollBack 68 = .ok (.invokevirtual 66, 3) := by decide +kernel
theorem dX0_rollBack_71 : decode cX0_rollBack 71 = .ok (.ireturn, 1) := by decide +kernel
theorem dX0_clearTable_0 : decode cX0_clearTable 0 = .ok (.iconst 0, 1) := by decide +kernel
theorem dX0_clearTable_1 : decode cX0_clearTable 1 = .ok (.istore_n 2, 1) := by decide +kernel
theorem dX0_clearTable_2 : decode cX0_clearTable 2 = .ok (.iload_n 2, 1) := by decide +kernel
theorem dX0_clearTable_3 : decode cX0_clearTable 3 = .ok (.bipush 8, 2) := by decide +kernel
theorem dX0_clearTable_5 : decode cX0_clearTable 5 = .ok (.if_icmp .ge 36, 3) := by decide +kernel
theorem dX0_clearTable_8 : decode cX0_clearTable 8 = .ok (.aload_n 0, 1) := by decide +kernel
theorem dX0_clearTable_9 : decode cX0_clearTable 9 = .ok (.aload_n 0, 1) := by decide +kernel
theorem dX0_clearTable_10 : decode cX0_clearTable 10 = .ok (.getfield 19, 3) := by decide +kernel
theorem dX0_clearTable_13 : decode cX0_clearTable 13 = .ok (.iload_n 1, 1) := by decide +kernel
theorem dX0_clearTable_14 : decode cX0_clearTable 14 = .ok (.bipush 8, 2) := by decide +kernel
theorem dX0_clearTable_16 : decode cX0_clearTable 16 = .ok (.imul, 1) := by decide +kernel
theorem dX0_clearTable_17 : decode cX0_clearTable 17 = .ok (.iload_n 2, 1) := by decide +kernel
theorem dX0_clearTable_18 : decode cX0_clearTable 18 = .ok (.iadd, 1) := by decide +kernel
theorem dX0_clearTable_19 : decode cX0_clearTable 19 = .ok (.iaload, 1) := by decide +kernel
theorem dX0_clearTable_20 : decode cX0_clearTable 20 = .ok (.invokevirtual 51, 3) := by decide +kernel
theorem dX0_clearTable_23 : decode cX0_clearTable 23 = .ok (.aload_n 0, 1) := by decide +kernel
theorem dX0_clearTable_24 : decode cX0_clearTable 24 = .ok (.getfield 19, 3) := by decide +kernel
theorem dX0_clearTable_27 : decode cX0_clearTable 27 = .ok (.iload_n 1, 1) := by decide +kernel
theorem dX0_clearTable_28 : decode cX0_clearTable 28 = .ok (.bipush 8, 2) := by decide +kernel
theorem dX0_clearTable_30 : decode cX0_clearTable 30 = .ok (.imul, 1) := by decide +kernel
theorem dX0_clearTable_31 : decode cX0_clearTable 31 = .ok (.iload_n 2, 1) := by decide +kernel
theorem dX0_clearTable_32 : decode cX0_clearTable 32 = .ok (.iadd, 1) := by decide +kernel
theorem dX0_clearTable_33 : decode cX0_clearTable 33 = .ok (.iconst (-1), 1) := by decide +kernel
theorem dX0_clearTable_34 : decode cX0_clearTable 34 = .ok (.iastore, 1) := by decide +kernel
theorem dX0_clearTable_35 : decode cX0_clearTable 35 = .ok (.iinc 2 1, 3) := by decide +kernel
theorem dX0_clearTable_38 : decode cX0_clearTable 38 = .ok (.goto (-36), 3) := by decide +kernel
theorem dX0_clearTable_41 : decode cX0_clearTable 41 = .ok (.return_, 1) := by decide +kernel
theorem dX0_exit_0 : decode cX0_exit 0 = .ok (.iload_n 1, 1) := by decide +kernel
theorem dX0_exit_1 : decode cX0_exit 1 = .ok (.invokestatic 55, 3) := by decide +kernel
theorem dX0_exit_4 : decode cX0_exit 4 = .ok (.ifCond .eq 5, 3) := by decide +kernel
theorem dX0_exit_7 : decode cX0_exit 7 = .ok (.iconst (-1), 1) := by decide +kernel
theorem dX0_exit_8 : decode cX0_exit 8 = .ok (.ireturn, 1) := by decide +kernel
theorem dX0_exit_9 : decode cX0_exit 9 = .ok (.aload_n 0, 1) := by decide +kernel
theorem dX0_exit_10 : decode cX0_exit 10 = .ok (.iload_n 1, 1) := by decide +kernel
theorem dX0_exit_11 : decode cX0_exit 11 = .ok (.invokevirtual 66, 3) := by decide +kernel
theorem dX0_exit_14 : decode cX0_exit 14 = .ok (.istore_n 2, 1) := by decide +kernel
theorem dX0_exit_15 : decode cX0_exit 15 = .ok (.aload_n 0, 1) := by decide +kernel
theorem dX0_exit_16 : decode cX0_exit 16 = .ok (.iload_n 1, 1) := by decide +kernel
theorem dX0_exit_17 : decode cX0_exit 17 = .ok (.invokevirtual 78, 3) := by decide +kernel
theorem dX0_exit_20 : decode cX0_exit 20 = .ok (.aload_n 0, 1) := by decide +kernel
theorem dX0_exit_21 : decode cX0_exit 21 = .ok (.iload_n 1, 1) := by decide +kernel
theorem dX0_exit_22 : decode cX0_exit 22 = .ok (.invokevirtual 75, 3) := by decide +kernel
theorem dX0_exit_25 : decode cX0_exit 25 = .ok (.aload_n 0, 1) := by decide +kernel
theorem dX0_exit_26 : decode cX0_exit 26 = .ok (.getfield 29, 3) := by decide +kernel
theorem dX0_exit_29 : decode cX0_exit 29 = .ok (.iload_n 1, 1) := by decide +kernel
theorem dX0_exit_30 : decode cX0_exit 30 = .ok (.iconst 0, 1) := by decide +kernel
theorem dX0_exit_31 : decode cX0_exit 31 = .ok (.iastore, 1) := by decide +kernel
theorem dX0_exit_32 : decode cX0_exit 32 = .ok (.iload_n 2, 1) := by decide +kernel
theorem dX0_exit_33 : decode cX0_exit 33 = .ok (.ireturn, 1) := by decide +kernel
theorem dX0_read_0 : decode cX0_read 0 = .ok (.iload_n 1, 1) := by decide +kernel
theorem dX0_read_1 : decode cX0_read 1 = .ok (.invokestatic 55, 3) := by decide +kernel
theorem dX0_read_4 : decode cX0_read 4 = .ok (.ifCond .ne 13, 3) := by decide +kernel
theorem dX0_read_7 : decode cX0_read 7 = .ok (.iload_n 2, 1) := by decide +kernel
theorem dX0_read_8 : decode cX0_read 8 = .ok (.ifCond .lt 9, 3) := by decide +kernel
theorem dX0_read_11 : decode cX0_read 11 = .ok (.iload_n 2, 1) := by decide +kernel
theorem dX0_read_12 : decode cX0_read 12 = .ok (.bipush 31, 2) := by decide +kernel
theorem dX0_read_14 : decode cX0_read 14 = .ok (.if_icmp .le 5, 3) := by decide +kernel
theorem dX0_read_17 : decode cX0_read 17 = .ok (.iconst 0, 1) := by decide +kernel
theorem dX0_read_18 : decode cX0_read 18 = .ok (.ireturn, 1) := by decide +kernel
theorem dX0_read_19 : decode cX0_read 19 = .ok (.aload_n 0, 1) := by decide +kernel
theorem dX0_read_20 : decode cX0_read 20 = .ok (.getfield 19, 3) := by decide +kernel
theorem dX0_read_23 : decode cX0_read 23 = .ok (.iload_n 1, 1) := by decide +kernel
theorem dX0_read_24 : decode cX0_read 24 = .ok (.bipush 8, 2) := by decide +kernel
theorem dX0_read_26 : decode cX0_read 26 = .ok (.imul, 1) := by decide +kernel
theorem dX0_read_27 : decode cX0_read 27 = .ok (.iload_n 2, 1) := by decide +kernel
theorem dX0_read_28 : decode cX0_read 28 = .ok (.iconst 4, 1) := by decide +kernel
theorem dX0_read_29 : decode cX0_read 29 = .ok (.idiv, 1) := by decide +kernel
theorem dX0_read_30 : decode cX0_read 30 = .ok (.iadd, 1) := by decide +kernel
theorem dX0_read_31 : decode cX0_read 31 = .ok (.iaload, 1) := by decide +kernel
theorem dX0_read_32 : decode cX0_read 32 = .ok (.istore_n 3, 1) := by decide +kernel
theorem dX0_read_33 : decode cX0_read 33 = .ok (.iload_n 3, 1) := by decide +kernel
theorem dX0_read_34 : decode cX0_read 34 = .ok (.ifCond .ge 7, 3) := by decide +kernel
theorem dX0_read_37 : decode cX0_read 37 = .ok (.iconst 0, 1) := by decide +kernel
theorem dX0_read_38 : decode cX0_read 38 = .ok (.goto 15, 3) := by decide +kernel
theorem dX0_read_41 : decode cX0_read 41 = .ok (.aload_n 0, 1) := by decide +kernel
theorem dX0_read_42 : decode cX0_read 42 = .ok (.getfield 7, 3) := by decide +kernel
theorem dX0_read_45 : decode cX0_read 45 = .ok (.iload_n 3, 1) := by decide +kernel
theorem dX0_read_46 : decode cX0_read 46 = .ok (.iconst 4, 1) := by decide +kernel
theorem dX0_read_47 : decode cX0_read 47 = .ok (.imul, 1) := by decide +kernel
theorem dX0_read_48 : decode cX0_read 48 = .ok (.iload_n 2, 1) := by decide +kernel
theorem dX0_read_49 : decode cX0_read 49 = .ok (.iconst 4, 1) := by decide +kernel
theorem dX0_read_50 : decode cX0_read 50 = .ok (.irem, 1) := by decide +kernel
theorem dX0_read_51 : decode cX0_read 51 = .ok (.iadd, 1) := by decide +kernel
theorem dX0_read_52 : decode cX0_read 52 = .ok (.iaload, 1) := by decide +kernel
theorem dX0_read_53 : decode cX0_read 53 = .ok (.ireturn, 1) := by decide +kernel
theorem dX0_mapped_0 : decode cX0_mapped 0 = .ok (.iload_n 1, 1) := by decide +kernel
theorem dX0_mapped_1 : decode cX0_mapped 1 = .ok (.invokestatic 55, 3) := by decide +kernel
theorem dX0_mapped_4 : decode cX0_mapped 4 = .ok (.ifCond .ne 10, 3) := by decide +kernel
theorem dX0_mapped_7 : decode cX0_mapped 7 = .ok (.iload_n 2, 1) := by decide +kernel
theorem dX0_mapped_8 : decode cX0_mapped 8 = .ok (.invokestatic 59, 3) := by decide +kernel
theorem dX0_mapped_11 : decode cX0_mapped 11 = .ok (.ifCond .eq 5, 3) := by decide +kernel
theorem dX0_mapped_14 : decode cX0_mapped 14 = .ok (.iconst 0, 1) := by decide +kernel
theorem dX0_mapped_15 : decode cX0_mapped 15 = .ok (.ireturn, 1) := by decide +kernel
theorem dX0_mapped_16 : decode cX0_mapped 16 = .ok (.aload_n 0, 1) := by decide +kernel
theorem dX0_mapped_17 : decode cX0_mapped 17 = .ok (.getfield 19, 3) := by decide +kernel
theorem dX0_mapped_20 : decode cX0_mapped 20 = .ok (.iload_n 1, 1) := by decide +kernel
theorem dX0_mapped_21 : decode cX0_mapped 21 = .ok (.bipush 8, 2) := by decide +kernel
theorem dX0_mapped_23 : decode cX0_mapped 23 = .ok (.imul, 1) := by decide +kernel
theorem dX0_mapped_24 : decode cX0_mapped 24 = .ok (.iload_n 2, 1) := by decide +kernel
theorem dX0_mapped_25 : decode cX0_mapped 25 = .ok (.iadd, 1) := by decide +kernel
theorem dX0_mapped_26 : decode cX0_mapped 26 = .ok (.iaload, 1) := by decide +kernel
theorem dX0_mapped_27 : decode cX0_mapped 27 = .ok (.ifCond .lt 7, 3) := by decide +kernel
theorem dX0_mapped_30 : decode cX0_mapped 30 = .ok (.iconst 1, 1) := by decide +kernel
theorem dX0_mapped_31 : decode cX0_mapped 31 = .ok (.goto 4, 3) := by decide +kernel
theorem dX0_mapped_34 : decode cX0_mapped 34 = .ok (.iconst 0, 1) := by decide +kernel
theorem dX0_mapped_35 : decode cX0_mapped 35 = .ok (.ireturn, 1) := by decide +kernel
theorem dX0_lastWord_0 : decode cX0_lastWord 0 = .ok (.iload_n 1, 1) := by decide +kernel
theorem dX0_lastWord_1 : decode cX0_lastWord 1 = .ok (.invokestatic 55, 3) := by decide +kernel
theorem dX0_lastWord_4 : decode cX0_lastWord 4 = .ok (.ifCond .eq 7, 3) := by decide +kernel
theorem dX0_lastWord_7 : decode cX0_lastWord 7 = .ok (.iconst 0, 1) := by decide +kernel
theorem dX0_lastWord_8 : decode cX0_lastWord 8 = .ok (.goto 9, 3) := by decide +kernel
theorem dX0_lastWord_11 : decode cX0_lastWord 11 = .ok (.aload_n 0, 1) := by decide +kernel
theorem dX0_lastWord_12 : decode cX0_lastWord 12 = .ok (.getfield 29, 3) := by decide +kernel
theorem dX0_lastWord_15 : decode cX0_lastWord 15 = .ok (.iload_n 1, 1) := by decide +kernel
theorem dX0_lastWord_16 : decode cX0_lastWord 16 = .ok (.iaload, 1) := by decide +kernel
theorem dX0_lastWord_17 : decode cX0_lastWord 17 = .ok (.ireturn, 1) := by decide +kernel
theorem dX0_waiting_0 : decode cX0_waiting 0 = .ok (.iload_n 1, 1) := by decide +kernel
theorem dX0_waiting_1 : decode cX0_waiting 1 = .ok (.invokestatic 55, 3) := by decide +kernel
theorem dX0_waiting_4 : decode cX0_waiting 4 = .ok (.ifCond .eq 7, 3) := by decide +kernel
theorem dX0_waiting_7 : decode cX0_waiting 7 = .ok (.iconst (-1), 1) := by decide +kernel
theorem dX0_waiting_8 : decode cX0_waiting 8 = .ok (.goto 9, 3) := by decide +kernel
theorem dX0_waiting_11 : decode cX0_waiting 11 = .ok (.aload_n 0, 1) := by decide +kernel
theorem dX0_waiting_12 : decode cX0_waiting 12 = .ok (.getfield 35, 3) := by decide +kernel
theorem dX0_waiting_15 : decode cX0_waiting 15 = .ok (.iload_n 1, 1) := by decide +kernel
theorem dX0_waiting_16 : decode cX0_waiting 16 = .ok (.iaload, 1) := by decide +kernel
theorem dX0_waiting_17 : decode cX0_waiting 17 = .ok (.ireturn, 1) := by decide +kernel
end
section
set_option maxRecDepth 100000
theorem dX1_init_0 : decode cX1_init 0 = .ok (.aload_n 0, 1) := by decide +kernel
theorem dX1_init_1 : decode cX1_init 1 = .ok (.invokespecial 1, 3) := by decide +kernel
theorem dX1_init_4 : decode cX1_init 4 = .ok (.aload_n 0, 1) := by decide +kernel
theorem dX1_init_5 : decode cX1_init 5 = .ok (.bipush 24, 2) := by decide +kernel
theorem dX1_init_7 : decode cX1_init 7 = .ok (.newarray .boolean, 2) := by decide +kernel
theorem dX1_init_9 : decode cX1_init 9 = .ok (.putfield 7, 3) := by decide +kernel
theorem dX1_init_12 : decode cX1_init 12 = .ok (.aload_n 0, 1) := by decide +kernel
theorem dX1_init_13 : decode cX1_init 13 = .ok (.bipush 96, 2) := by decide +kernel
theorem dX1_init_15 : decode cX1_init 15 = .ok (.newarray .int, 2) := by decide +kernel
theorem dX1_init_17 : decode cX1_init 17 = .ok (.putfield 13, 3) := by decide +kernel
theorem dX1_init_20 : decode cX1_init 20 = .ok (.aload_n 0, 1) := by decide +kernel
theorem dX1_init_21 : decode cX1_init 21 = .ok (.iconst 3, 1) := by decide +kernel
theorem dX1_init_22 : decode cX1_init 22 = .ok (.newarray .int, 2) := by decide +kernel
theorem dX1_init_24 : decode cX1_init 24 = .ok (.putfield 17, 3) := by decide +kernel
theorem dX1_init_27 : decode cX1_init 27 = .ok (.aload_n 0, 1) := by decide +kernel
theorem dX1_init_28 : decode cX1_init 28 = .ok (.iconst 3, 1) := by decide +kernel
theorem dX1_init_29 : decode cX1_init 29 = .ok (.newarray .boolean, 2) := by decide +kernel
theorem dX1_init_31 : decode cX1_init 31 = .ok (.putfield 20, 3) := by decide +kernel
theorem dX1_init_34 : decode cX1_init 34 = .ok (.aload_n 0, 1) := by decide +kernel
theorem dX1_init_35 : decode cX1_init 35 = .ok (.bipush 24, 2) := by decide +kernel
theorem dX1_init_37 : decode cX1_init 37 = .ok (.newarray .boolean, 2) := by decide +kernel
theorem dX1_init_39 : decode cX1_init 39 = .ok (.putfield 23, 3) := by decide +kernel
theorem dX1_init_42 : decode cX1_init 42 = .ok (.aload_n 0, 1) := by decide +kernel
theorem dX1_init_43 : decode cX1_init 43 = .ok (.bipush 96, 2) := by decide +kernel
theorem dX1_init_45 : decode cX1_init 45 = .ok (.newarray .int, 2) := by decide +kernel
theorem dX1_init_47 : decode cX1_init 47 = .ok (.putfield 26, 3) := by decide +kernel
theorem dX1_init_50 : decode cX1_init 50 = .ok (.aload_n 0, 1) := by decide +kernel
theorem dX1_init_51 : decode cX1_init 51 = .ok (.iconst 3, 1) := by decide +kernel
theorem dX1_init_52 : decode cX1_init 52 = .ok (.newarray .int, 2) := by decide +kernel
theorem dX1_init_54 : decode cX1_init 54 = .ok (.putfield 29, 3) := by decide +kernel
theorem dX1_init_57 : decode cX1_init 57 = .ok (.aload_n 0, 1) := by decide +kernel
theorem dX1_init_58 : decode cX1_init 58 = .ok (.bipush 9, 2) := by decide +kernel
theorem dX1_init_60 : decode cX1_init 60 = .ok (.newarray .int, 2) := by decide +kernel
theorem dX1_init_62 : decode cX1_init 62 = .ok (.putfield 32, 3) := by decide +kernel
theorem dX1_init_65 : decode cX1_init 65 = .ok (.aload_n 0, 1) := by decide +kernel
theorem dX1_init_66 : decode cX1_init 66 = .ok (.bipush 9, 2) := by decide +kernel
theorem dX1_init_68 : decode cX1_init 68 = .ok (.newarray .int, 2) := by decide +kernel
theorem dX1_init_70 : decode cX1_init 70 = .ok (.putfield 35, 3) := by decide +kernel
theorem dX1_init_73 : decode cX1_init 73 = .ok (.aload_n 0, 1) := by decide +kernel
theorem dX1_init_74 : decode cX1_init 74 = .ok (.bipush 108, 2) := by decide +kernel
theorem dX1_init_76 : decode cX1_init 76 = .ok (.newarray .int, 2) := by decide +kernel
theorem dX1_init_78 : decode cX1_init 78 = .ok (.putfield 38, 3) := by decide +kernel
theorem dX1_init_81 : decode cX1_init 81 = .ok (.return_, 1) := by decide +kernel
theorem dX1_map_0 : decode cX1_map 0 = .ok (.aload_n 0, 1) := by decide +kernel
theorem dX1_map_1 : decode cX1_map 1 = .ok (.iload_n 1, 1) := by decide +kernel
theorem dX1_map_2 : decode cX1_map 2 = .ok (.invokevirtual 41, 3) := by decide +kernel
theorem dX1_map_5 : decode cX1_map 5 = .ok (.ifCond .eq 5, 3) := by decide +kernel
theorem dX1_map_8 : decode cX1_map 8 = .ok (.iconst (-1), 1) := by decide +kernel
theorem dX1_map_9 : decode cX1_map 9 = .ok (.ireturn, 1) := by decide +kernel
theorem dX1_map_10 : decode cX1_map 10 = .ok (.aload_n 0, 1) := by decide +kernel
theorem dX1_map_11 : decode cX1_map 11 = .ok (.iload_n 2, 1) := by decide +kernel
theorem dX1_map_12 : decode cX1_map 12 = .ok (.invokevirtual 45, 3) := by decide +kernel
theorem dX1_map_15 : decode cX1_map 15 = .ok (.ifCond .eq 6, 3) := by decide +kernel
theorem dX1_map_18 : decode cX1_map 18 = .ok (.bipush (-2), 2) := by decide +kernel
theorem dX1_map_20 : decode cX1_map 20 = .ok (.ireturn, 1) := by decide +kernel
theorem dX1_map_21 : decode cX1_map 21 = .ok (.aload_n 0, 1) := by decide +kernel
theorem dX1_map_22 : decode cX1_map 22 = .ok (.getfield 7, 3) := by decide +kernel
theorem dX1_map_25 : decode cX1_map 25 = .ok (.iload_n 1, 1) := by decide +kernel
theorem dX1_map_26 : decode cX1_map 26 = .ok (.bipush 8, 2) := by decide +kernel
theorem dX1_map_28 : decode cX1_map 28 = .ok (.imul, 1) := by decide +kernel
theorem dX1_map_29 : decode cX1_map 29 = .ok (.iload_n 2, 1) := by decide +kernel
theorem dX1_map_30 : decode cX1_map 30 = .ok (.iadd, 1) := by decide +kernel
theorem dX1_map_31 : decode cX1_map 31 = .ok (.baload, 1) := by decide +kernel
theorem dX1_map_32 : decode cX1_map 32 = .ok (.ifCond .eq 6, 3) := by decide +kernel
theorem dX1_map_35 : decode cX1_map 35 = .ok (.bipush (-3), 2) := by decide +kernel
theorem dX1_map_37 : decode cX1_map 37 = .ok (.ireturn, 1) := by decide +kernel
theorem dX1_map_38 : decode cX1_map 38 = .ok (.aload_n 0, 1) := by decide +kernel
theorem dX1_map_39 : decode cX1_map 39 = .ok (.getfield 7, 3) := by decide +kernel
theorem dX1_map_42 : decode cX1_map 42 = .ok (.iload_n 1, 1) := by decide +kernel
theorem dX1_map_43 : decode cX1_map 43 = .ok (.bipush 8, 2) := by decide +kernel
theorem dX1_map_45 : decode cX1_map 45 = .ok (.imul, 1) := by decide +kernel
theorem dX1_map_46 : decode cX1_map 46 = .ok (.iload_n 2, 1) := by decide +kernel
theorem dX1_map_47 : decode cX1_map 47 = .ok (.iadd, 1) := by decide +kernel
theorem dX1_map_48 : decode cX1_map 48 = .ok (.iconst 1, 1) := by decide +kernel
theorem dX1_map_49 : decode cX1_map 49 = .ok (.bastore, 1) := by decide +kernel
theorem dX1_map_50 : decode cX1_map 50 = .ok (.iconst 0, 1) := by decide +kernel
theorem dX1_map_51 : decode cX1_map 51 = .ok (.istore_n 3, 1) := by decide +kernel
theorem dX1_map_52 : decode cX1_map 52 = .ok (.iload_n 3, 1) := by decide +kernel
theorem dX1_map_53 : decode cX1_map 53 = .ok (.iconst 4, 1) := by decide +kernel
theorem dX1_map_54 : decode cX1_map 54 = .ok (.if_icmp .ge 25, 3) := by decide +kernel
theorem dX1_map_57 : decode cX1_map 57 = .ok (.aload_n 0, 1) := by decide +kernel
theorem dX1_map_58 : decode cX1_map 58 = .ok (.getfield 13, 3) := by decide +kernel
theorem dX1_map_61 : decode cX1_map 61 = .ok (.iload_n 1, 1) := by decide +kernel
theorem dX1_map_62 : decode cX1_map 62 = .ok (.bipush 32, 2) := by decide +kernel
theorem dX1_map_64 : decode cX1_map 64 = .ok (.imul, 1) := by decide +kernel
theorem dX1_map_65 : decode cX1_map 65 = .ok (.iload_n 2, 1) := by decide +kernel
theorem dX1_map_66 : decode cX1_map 66 = .ok (.iconst 4, 1) := by decide +kernel
theorem dX1_map_67 : decode cX1_map 67 = .ok (.imul, 1) := by decide +kernel
theorem dX1_map_68 : decode cX1_map 68 = .ok (.iadd, 1) := by decide +kernel
theorem dX1_map_69 : decode cX1_map 69 = .ok (.iload_n 3, 1) := by decide +kernel
theorem dX1_map_70 : decode cX1_map 70 = .ok (.iadd, 1) := by decide +kernel
theorem dX1_map_71 : decode cX1_map 71 = .ok (.iconst 0, 1) := by decide +kernel
theorem dX1_map_72 : decode cX1_map 72 = .ok (.iastore, 1) := by decide +kernel
theorem dX1_map_73 : decode cX1_map 73 = .ok (.iinc 3 1, 3) := by decide +kernel
theorem dX1_map_76 : decode cX1_map 76 = .ok (.goto (-24), 3) := by decide +kernel
theorem dX1_map_79 : decode cX1_map 79 = .ok (.aload_n 0, 1) := by decide +kernel
theorem dX1_map_80 : decode cX1_map 80 = .ok (.iload_n 1, 1) := by decide +kernel
theorem dX1_map_81 : decode cX1_map 81 = .ok (.invokevirtual 48, 3) := by decide +kernel
theorem dX1_map_84 : decode cX1_map 84 = .ok (.ireturn, 1) := by decide +kernel
theorem dX1_bad_0 : decode cX1_bad 0 = .ok (.iload_n 1, 1) := by decide +kernel
theorem dX1_bad_1 : decode cX1_bad 1 = .ok (.ifCond .lt 8, 3) := by decide +kernel
theorem dX1_bad_4 : decode cX1_bad 4 = .ok (.iload_n 1, 1) := by decide +kernel
theorem dX1_bad_5 : decode cX1_bad 5 = .ok (.iconst 2, 1) := by decide +kernel
theorem dX1_bad_6 : decode cX1_bad 6 = .ok (.if_icmp .le 7, 3) := by decide +kernel
theorem dX1_bad_9 : decode cX1_bad 9 = .ok (.iconst 1, 1) := by decide +kernel
theorem dX1_bad_10 : decode cX1_bad 10 = .ok (.goto 4, 3) := by decide +kernel
theorem dX1_bad_13 : decode cX1_bad 13 = .ok (.iconst 0, 1) := by decide +kernel
theorem dX1_bad_14 : decode cX1_bad 14 = .ok (.ireturn, 1) := by decide +kernel
theorem dX1_badPage_0 : decode cX1_badPage 0 = .ok (.iload_n 1, 1) := by decide +kernel
theorem dX1_badPage_1 : decode cX1_badPage 1 = .ok (.ifCond .lt 9, 3) := by decide +kernel
theorem dX1_badPage_4 : decode cX1_badPage 4 = .ok (.iload_n 1, 1) := by decide +kernel
theorem dX1_badPage_5 : decode cX1_badPage 5 = .ok (.bipush 7, 2) := by decide +kernel
theorem dX1_badPage_7 : decode cX1_badPage 7 = .ok (.if_icmp .le 7, 3) := by decide +kernel
theorem dX1_badPage_10 : decode cX1_badPage 10 = .ok (.iconst 1, 1) := by decide +kernel
theorem dX1_badPage_11 : decode cX1_badPage 11 = .ok (.goto 4, 3) := by decide +kernel
theorem dX1_badPage_14 : decode cX1_badPage 14 = .ok (.iconst 0, 1) := by decide +kernel
theorem dX1_badPage_15 : decode cX1_badPage 15 = .ok (.ireturn, 1) := by decide +kernel
theorem dX1_count_0 : decode cX1_count 0 = .ok (.iconst 0, 1) := by decide +kernel
theorem dX1_count_1 : decode cX1_count 1 = .ok (.istore_n 2, 1) := by decide +kernel
theorem dX1_count_2 : decode cX1_count 2 = .ok (.iconst 0, 1) := by decide +kernel
theorem dX1_count_3 : decode cX1_count 3 = .ok (.istore_n 3, 1) := by decide +kernel
theorem dX1_count_4 : decode cX1_count 4 = .ok (.iload_n 3, 1) := by decide +kernel
theorem dX1_count_5 : decode cX1_count 5 = .ok (.bipush 8, 2) := by decide +kernel
theorem dX1_count_7 : decode cX1_count 7 = .ok (.if_icmp .ge 26, 3) := by decide +kernel
theorem dX1_count_10 : decode cX1_count 10 = .ok (.aload_n 0, 1) := by decide +kernel
theorem dX1_count_11 : decode cX1_count 11 = .ok (.getfield 7, 3) := by decide +kernel
theorem dX1_count_14 : decode cX1_count 14 = .ok (.iload_n 1, 1) := by decide +kernel
theorem dX1_count_15 : decode cX1_count 15 = .ok (.bipush 8, 2) := by decide +kernel
theorem dX1_count_17 : decode cX1_count 17 = .ok (.imul, 1) := by decide +kernel
theorem dX1_count_18 : decode cX1_count 18 = .ok (.iload_n 3, 1) := by decide +kernel
theorem dX1_count_19 : decode cX1_count 19 = .ok (.iadd, 1) := by decide +kernel
theorem dX1_count_20 : decode cX1_count 20 = .ok (.baload, 1) := by decide +kernel
theorem dX1_count_21 : decode cX1_count 21 = .ok (.ifCond .eq 6, 3) := by decide +kernel
theorem dX1_count_24 : decode cX1_count 24 = .ok (.iinc 2 1, 3) := by decide +kernel
theorem dX1_count_27 : decode cX1_count 27 = .ok (.iinc 3 1, 3) := by decide +kernel
theorem dX1_count_30 : decode cX1_count 30 = .ok (.goto (-26), 3) := by decide +kernel
theorem dX1_count_33 : decode cX1_count 33 = .ok (.iload_n 2, 1) := by decide +kernel
theorem dX1_count_34 : decode cX1_count 34 = .ok (.ireturn, 1) := by decide +kernel
theorem dX1_unmap_0 : decode cX1_unmap 0 = .ok (.aload_n 0, 1) := by decide +kernel
theorem dX1_unmap_1 : decode cX1_unmap 1 = .ok (.iload_n 1, 1) := by decide +kernel
theorem dX1_unmap_2 : decode cX1_unmap 2 = .ok (.invokevirtual 41, 3) := by decide +kernel
theorem dX1_unmap_5 : decode cX1_unmap 5 = .ok (.ifCond .eq 5, 3) := by decide +kernel
theorem dX1_unmap_8 : decode cX1_unmap 8 = .ok (.iconst (-1), 1) := by decide +kernel
theorem dX1_unmap_9 : decode cX1_unmap 9 = .ok (.ireturn, 1) := by decide +kernel
theorem dX1_unmap_10 : decode cX1_unmap 10 = .ok (.aload_n 0, 1) := by decide +kernel
theorem dX1_unmap_11 : decode cX1_unmap 11 = .ok (.iload_n 2, 1) := by decide +kernel
theorem dX1_unmap_12 : decode cX1_unmap 12 = .ok (.invokevirtual 45, 3) := by decide +kernel
theorem dX1_unmap_15 : decode cX1_unmap 15 = .ok (.ifCond .eq 6, 3) := by decide +kernel
theorem dX1_unmap_18 : decode cX1_unmap 18 = .ok (.bipush (-2), 2) := by decide +kernel
theorem dX1_unmap_20 : decode cX1_unmap 20 = .ok (.ireturn, 1) := by decide +kernel
theorem dX1_unmap_21 : decode cX1_unmap 21 = .ok (.aload_n 0, 1) := by decide +kernel
theorem dX1_unmap_22 : decode cX1_unmap 22 = .ok (.getfield 7, 3) := by decide +kernel
theorem dX1_unmap_25 : decode cX1_unmap 25 = .ok (.iload_n 1, 1) := by decide +kernel
theorem dX1_unmap_26 : decode cX1_unmap 26 = .ok (.bipush 8, 2) := by decide +kernel
theorem dX1_unmap_28 : decode cX1_unmap 28 = .ok (.imul, 1) := by decide +kernel
theorem dX1_unmap_29 : decode cX1_unmap 29 = .ok (.iload_n 2, 1) := by decide +kernel
theorem dX1_unmap_30 : decode cX1_unmap 30 = .ok (.iadd, 1) := by decide +kernel
theorem dX1_unmap_31 : decode cX1_unmap 31 = .ok (.baload, 1) := by decide +kernel
theorem dX1_unmap_32 : decode cX1_unmap 32 = .ok (.ifCond .ne 6, 3) := by decide +kernel
theorem dX1_unmap_35 : decode cX1_unmap 35 = .ok (.bipush (-4), 2) := by decide +kernel
theorem dX1_unmap_37 : decode cX1_unmap 37 = .ok (.ireturn, 1) := by decide +kernel
theorem dX1_unmap_38 : decode cX1_unmap 38 = .ok (.aload_n 0, 1) := by decide +kernel
theorem dX1_unmap_39 : decode cX1_unmap 39 = .ok (.getfield 7, 3) := by decide +kernel
theorem dX1_unmap_42 : decode cX1_unmap 42 = .ok (.iload_n 1, 1) := by decide +kernel
theorem dX1_unmap_43 : decode cX1_unmap 43 = .ok (.bipush 8, 2) := by decide +kernel
theorem dX1_unmap_45 : decode cX1_unmap 45 = .ok (.imul, 1) := by decide +kernel
theorem dX1_unmap_46 : decode cX1_unmap 46 = .ok (.iload_n 2, 1) := by decide +kernel
theorem dX1_unmap_47 : decode cX1_unmap 47 = .ok (.iadd, 1) := by decide +kernel
theorem dX1_unmap_48 : decode cX1_unmap 48 = .ok (.iconst 0, 1) := by decide +kernel
theorem dX1_unmap_49 : decode cX1_unmap 49 = .ok (.bastore, 1) := by decide +kernel
theorem dX1_unmap_50 : decode cX1_unmap 50 = .ok (.aload_n 0, 1) := by decide +kernel
theorem dX1_unmap_51 : decode cX1_unmap 51 = .ok (.iload_n 1, 1) := by decide +kernel
theorem dX1_unmap_52 : decode cX1_unmap 52 = .ok (.invokevirtual 48, 3) := by decide +kernel
theorem dX1_unmap_55 : decode cX1_unmap 55 = .ok (.ireturn, 1) := by decide +kernel
theorem dX1_write_0 : decode cX1_write 0 = .ok (.aload_n 0, 1) := by decide +kernel
theorem dX1_write_1 : decode cX1_write 1 = .ok (.iload_n 1, 1) := by decide +kernel
theorem dX1_write_2 : decode cX1_write 2 = .ok (.invokevirtual 41, 3) := by decide +kernel
theorem dX1_write_5 : decode cX1_write 5 = .ok (.ifCond .eq 5, 3) := by decide +kernel
theorem dX1_write_8 : decode cX1_write 8 = .ok (.iconst (-1), 1) := by decide +kernel
theorem dX1_write_9 : decode cX1_write 9 = .ok (.ireturn, 1) := by decide +kernel
theorem dX1_write_10 : decode cX1_write 10 = .ok (.iload_n 2, 1) := by decide +kernel
theorem dX1_write_11 : decode cX1_write 11 = .ok (.ifCond .lt 9, 3) := by decide +kernel
theorem dX1_write_14 : decode cX1_write 14 = .ok (.iload_n 2, 1) := by decide +kernel
theorem dX1_write_15 : decode cX1_write 15 = .ok (.bipush 31, 2) := by decide +kernel
theorem dX1_write_17 : decode cX1_write 17 = .ok (.if_icmp .le 6, 3) := by decide +kernel
theorem dX1_write_20 : decode cX1_write 20 = .ok (.bipush (-2), 2) := by decide +kernel
theorem dX1_write_22 : decode cX1_write 22 = .ok (.ireturn, 1) := by decide +kernel
theorem dX1_write_23 : decode cX1_write 23 = .ok (.aload_n 0, 1) := by decide +kernel
theorem dX1_write_24 : decode cX1_write 24 = .ok (.getfield 7, 3) := by decide +kernel
theorem dX1_write_27 : decode cX1_write 27 = .ok (.iload_n 1, 1) := by decide +kernel
theorem dX1_write_28 : decode cX1_write 28 = .ok (.bipush 8, 2) := by decide +kernel
theorem dX1_write_30 : decode cX1_write 30 = .ok (.imul, 1) := by decide +kernel
theorem dX1_write_31 : decode cX1_write 31 = .ok (.iload_n 2, 1) := by decide +kernel
theorem dX1_write_32 : decode cX1_write 32 = .ok (.iconst 4, 1) := by decide +kernel
theorem dX1_write_33 : decode cX1_write 33 = .ok (.idiv, 1) := by decide +kernel
theorem dX1_write_34 : decode cX1_write 34 = .ok (.iadd, 1) := by decide +kernel
theorem dX1_write_35 : decode cX1_write 35 = .ok (.baload, 1) := by decide +kernel
theorem dX1_write_36 : decode cX1_write 36 = .ok (.ifCond .ne 6, 3) := by decide +kernel
theorem dX1_write_39 : decode cX1_write 39 = .ok (.bipush (-4), 2) := by decide +kernel
theorem dX1_write_41 : decode cX1_write 41 = .ok (.ireturn, 1) := by decide +kernel
theorem dX1_write_42 : decode cX1_write 42 = .ok (.aload_n 0, 1) := by decide +kernel
theorem dX1_write_43 : decode cX1_write 43 = .ok (.getfield 13, 3) := by decide +kernel
theorem dX1_write_46 : decode cX1_write 46 = .ok (.iload_n 1, 1) := by decide +kernel
theorem dX1_write_47 : decode cX1_write 47 = .ok (.bipush 32, 2) := by decide +kernel
theorem dX1_write_49 : decode cX1_write 49 = .ok (.imul, 1) := by decide +kernel
theorem dX1_write_50 : decode cX1_write 50 = .ok (.iload_n 2, 1) := by decide +kernel
theorem dX1_write_51 : decode cX1_write 51 = .ok (.iadd, 1) := by decide +kernel
theorem dX1_write_52 : decode cX1_write 52 = .ok (.iload_n 3, 1) := by decide +kernel
theorem dX1_write_53 : decode cX1_write 53 = .ok (.iastore, 1) := by decide +kernel
theorem dX1_write_54 : decode cX1_write 54 = .ok (.iload_n 2, 1) := by decide +kernel
theorem dX1_write_55 : decode cX1_write 55 = .ok (.iconst 4, 1) := by decide +kernel
theorem dX1_write_56 : decode cX1_write 56 = .ok (.idiv, 1) := by decide +kernel
theorem dX1_write_57 : decode cX1_write 57 = .ok (.ireturn, 1) := by decide +kernel
theorem dX1_copy_0 : decode cX1_copy 0 = .ok (.aload_n 0, 1) := by decide +kernel
theorem dX1_copy_1 : decode cX1_copy 1 = .ok (.iload_n 1, 1) := by decide +kernel
theorem dX1_copy_2 : decode cX1_copy 2 = .ok (.invokevirtual 41, 3) := by decide +kernel
theorem dX1_copy_5 : decode cX1_copy 5 = .ok (.ifCond .eq 5, 3) := by decide +kernel
theorem dX1_copy_8 : decode cX1_copy 8 = .ok (.iconst (-1), 1) := by decide +kernel
theorem dX1_copy_9 : decode cX1_copy 9 = .ok (.ireturn, 1) := by decide +kernel
theorem dX1_copy_10 : decode cX1_copy 10 = .ok (.aload_n 0, 1) := by decide +kernel
theorem dX1_copy_11 : decode cX1_copy 11 = .ok (.iload_n 2, 1) := by decide +kernel
theorem dX1_copy_12 : decode cX1_copy 12 = .ok (.invokevirtual 45, 3) := by decide +kernel
theorem dX1_copy_15 : decode cX1_copy 15 = .ok (.ifCond .ne 11, 3) := by decide +kernel
theorem dX1_copy_18 : decode cX1_copy 18 = .ok (.aload_n 0, 1) := by decide +kernel
theorem dX1_copy_19 : decode cX1_copy 19 = .ok (.iload_n 3, 1) := by decide +kernel
theorem dX1_copy_20 : decode cX1_copy 20 = .ok (.invokevirtual 45, 3) := by decide +kernel
theorem dX1_copy_23 : decode cX1_copy 23 = .ok (.ifCond .eq 6, 3) := by decide +kernel
theorem dX1_copy_26 : decode cX1_copy 26 = .ok (.bipush (-2), 2) := by decide +kernel
theorem dX1_copy_28 : decode cX1_copy 28 = .ok (.ireturn, 1) := by decide +kernel
theorem dX1_copy_29 : decode cX1_copy 29 = .ok (.aload_n 0, 1) := by decide +kernel
theorem dX1_copy_30 : decode cX1_copy 30 = .ok (.getfield 7, 3) := by decide +kernel
theorem dX1_copy_33 : decode cX1_copy 33 = .ok (.iload_n 1, 1) := by decide +kernel
theorem dX1_copy_34 : decode cX1_copy 34 = .ok (.bipush 8, 2) := by decide +kernel
theorem dX1_copy_36 : decode cX1_copy 36 = .ok (.imul, 1) := by decide +kernel
theorem dX1_copy_37 : decode cX1_copy 37 = .ok (.iload_n 2, 1) := by decide +kernel
theorem dX1_copy_38 : decode cX1_copy 38 = .ok (.iadd, 1) := by decide +kernel
theorem dX1_copy_39 : decode cX1_copy 39 = .ok (.baload, 1) := by decide +kernel
theorem dX1_copy_40 : decode cX1_copy 40 = .ok (.ifCond .ne 6, 3) := by decide +kernel
theorem dX1_copy_43 : decode cX1_copy 43 = .ok (.bipush (-4), 2) := by decide +kernel
theorem dX1_copy_45 : decode cX1_copy 45 = .ok (.ireturn, 1) := by decide +kernel
theorem dX1_copy_46 : decode cX1_copy 46 = .ok (.aload_n 0, 1) := by decide +kernel
theorem dX1_copy_47 : decode cX1_copy 47 = .ok (.getfield 7, 3) := by decide +kernel
theorem dX1_copy_50 : decode cX1_copy 50 = .ok (.iload_n 1, 1) := by decide +kernel
theorem dX1_copy_51 : decode cX1_copy 51 = .ok (.bipush 8, 2) := by decide +kernel
theorem dX1_copy_53 : decode cX1_copy 53 = .ok (.imul, 1) := by decide +kernel
theorem dX1_copy_54 : decode cX1_copy 54 = .ok (.iload_n 3, 1) := by decide +kernel
theorem dX1_copy_55 : decode cX1_copy 55 = .ok (.iadd, 1) := by decide +kernel
theorem dX1_copy_56 : decode cX1_copy 56 = .ok (.iconst 1, 1) := by decide +kernel
theorem dX1_copy_57 : decode cX1_copy 57 = .ok (.bastore, 1) := by decide +kernel
theorem dX1_copy_58 : decode cX1_copy 58 = .ok (.iconst 0, 1) := by decide +kernel
theorem dX1_copy_59 : decode cX1_copy 59 = .ok (.istore 4, 2) := by decide +kernel
theorem dX1_copy_61 : decode cX1_copy 61 = .ok (.iload 4, 2) := by decide +kernel
theorem dX1_copy_63 : decode cX1_copy 63 = .ok (.iconst 4, 1) := by decide +kernel
theorem dX1_copy_64 : decode cX1_copy 64 = .ok (.if_icmp .ge 41, 3) := by decide +kernel
theorem dX1_copy_67 : decode cX1_copy 67 = .ok (.aload_n 0, 1) := by decide +kernel
theorem dX1_copy_68 : decode cX1_copy 68 = .ok (.getfield 13, 3) := by decide +kernel
theorem dX1_copy_71 : decode cX1_copy 71 = .ok (.iload_n 1, 1) := by decide +kernel
theorem dX1_copy_72 : decode cX1_copy 72 = .ok (.bipush 32, 2) := by decide +kernel
theorem dX1_copy_74 : decode cX1_copy 74 = .ok (.imul, 1) := by decide +kernel
theorem dX1_copy_75 : decode cX1_copy 75 = .ok (.iload_n 3, 1) := by decide +kernel
theorem dX1_copy_76 : decode cX1_copy 76 = .ok (.iconst 4, 1) := by decide +kernel
theorem dX1_copy_77 : decode cX1_copy 77 = .ok (.imul, 1) := by decide +kernel
theorem dX1_copy_78 : decode cX1_copy 78 = .ok (.iadd, 1) := by decide +kernel
theorem dX1_copy_79 : decode cX1_copy 79 = .ok (.iload 4, 2) := by decide +kernel
theorem dX1_copy_81 : decode cX1_copy 81 = .ok (.iadd, 1) := by decide +kernel
theorem dX1_copy_82 : decode cX1_copy 82 = .ok (.aload_n 0, 1) := by decide +kernel
theorem dX1_copy_83 : decode cX1_copy 83 = .ok (.getfield 13, 3) := by decide +kernel
theorem dX1_copy_86 : decode cX1_copy 86 = .ok (.iload_n 1, 1) := by decide +kernel
theorem dX1_copy_87 : decode cX1_copy 87 = .ok (.bipush 32, 2) := by decide +kernel
theorem dX1_copy_89 : decode cX1_copy 89 = .ok (.imul, 1) := by decide +kernel
theorem dX1_copy_90 : decode cX1_copy 90 = .ok (.iload_n 2, 1) := by decide +kernel
theorem dX1_copy_91 : decode cX1_copy 91 = .ok (.iconst 4, 1) := by decide +kernel
theorem dX1_copy_92 : decode cX1_copy 92 = .ok (.imul, 1) := by decide +kernel
theorem dX1_copy_93 : decode cX1_copy 93 = .ok (.iadd, 1) := by decide +kernel
theorem dX1_copy_94 : decode cX1_copy 94 = .ok (.iload 4, 2) := by decide +kernel
theorem dX1_copy_96 : decode cX1_copy 96 = .ok (.iadd, 1) := by decide +kernel
theorem dX1_copy_97 : decode cX1_copy 97 = .ok (.iaload, 1) := by decide +kernel
theorem dX1_copy_98 : decode cX1_copy 98 = .ok (.iastore, 1) := by decide +kernel
theorem dX1_copy_99 : decode cX1_copy 99 = .ok (.iinc 4 1, 3) := by decide +kernel
theorem dX1_copy_102 : decode cX1_copy 102 = .ok (.goto (-41), 3) := by decide +kernel
theorem dX1_copy_105 : decode cX1_copy 105 = .ok (.aload_n 0, 1) := by decide +kernel
theorem dX1_copy_106 : decode cX1_copy 106 = .ok (.iload_n 1, 1) := by decide +kernel
theorem dX1_copy_107 : decode cX1_copy 107 = .ok (.invokevirtual 48, 3) := by decide +kernel
theorem dX1_copy_110 : decode cX1_copy 110 = .ok (.ireturn, 1) := by decide +kernel
theorem dX1_send_0 : decode cX1_send 0 = .ok (.aload_n 0, 1) := by decide +kernel
theorem dX1_send_1 : decode cX1_send 1 = .ok (.iload_n 1, 1) := by decide +kernel
theorem dX1_send_2 : decode cX1_send 2 = .ok (.invokevirtual 41, 3) := by decide +kernel
theorem dX1_send_5 : decode cX1_send 5 = .ok (.ifCond .ne 11, 3) := by decide +kernel
theorem dX1_send_8 : decode cX1_send 8 = .ok (.aload_n 0, 1) := by decide +kernel
theorem dX1_send_9 : decode cX1_send 9 = .ok (.iload_n 2, 1) := by decide +kernel
theorem dX1_send_10 : decode cX1_send 10 = .ok (.invokevirtual 41, 3) := by decide +kernel
theorem dX1_send_13 : decode cX1_send 13 = .ok (.ifCond .eq 5, 3) := by decide +kernel
theorem dX1_send_16 : decode cX1_send 16 = .ok (.iconst (-1), 1) := by decide +kernel
theorem dX1_send_17 : decode cX1_send 17 = .ok (.ireturn, 1) := by decide +kernel
theorem dX1_send_18 : decode cX1_send 18 = .ok (.aload_n 0, 1) := by decide +kernel
theorem dX1_send_19 : decode cX1_send 19 = .ok (.getfield 29, 3) := by decide +kernel
theorem dX1_send_22 : decode cX1_send 22 = .ok (.iload_n 2, 1) := by decide +kernel
theorem dX1_send_23 : decode cX1_send 23 = .ok (.iaload, 1) := by decide +kernel
theorem dX1_send_24 : decode cX1_send 24 = .ok (.istore 5, 2) := by decide +kernel
theorem dX1_send_26 : decode cX1_send 26 = .ok (.iload 5, 2) := by decide +kernel
theorem dX1_send_28 : decode cX1_send 28 = .ok (.iconst 3, 1) := by decide +kernel
theorem dX1_send_29 : decode cX1_send 29 = .ok (.if_icmp .lt 6, 3) := by decide +kernel
theorem dX1_send_32 : decode cX1_send 32 = .ok (.bipush (-5), 2) := by decide +kernel
theorem dX1_send_34 : decode cX1_send 34 = .ok (.ireturn, 1) := by decide +kernel
theorem dX1_send_35 : decode cX1_send 35 = .ok (.iload 4, 2) := by decide +kernel
theorem dX1_send_37 : decode cX1_send 37 = .ok (.bipush 7, 2) := by decide +kernel
theorem dX1_send_39 : decode cX1_send 39 = .ok (.iand, 1) := by decide +kernel
theorem dX1_send_40 : decode cX1_send 40 = .ok (.istore 6, 2) := by decide +kernel
theorem dX1_send_42 : decode cX1_send 42 = .ok (.iload 4, 2) := by decide +kernel
theorem dX1_send_44 : decode cX1_send 44 = .ok (.iconst 3, 1) := by decide +kernel
theorem dX1_send_45 : decode cX1_send 45 = .ok (.ishr, 1) := by decide +kernel
theorem dX1_send_46 : decode cX1_send 46 = .ok (.iconst 3, 1) := by decide +kernel
theorem dX1_send_47 : decode cX1_send 47 = .ok (.iand, 1) := by decide +kernel
theorem dX1_send_48 : decode cX1_send 48 = .ok (.istore 7, 2) := by decide +kernel
theorem dX1_send_50 : decode cX1_send 50 = .ok (.iload 6, 2) := by decide +kernel
theorem dX1_send_52 : decode cX1_send 52 = .ok (.iload 7, 2) := by decide +kernel
theorem dX1_send_54 : decode cX1_send 54 = .ok (.iadd, 1) := by decide +kernel
theorem dX1_send_55 : decode cX1_send 55 = .ok (.bipush 8, 2) := by decide +kernel
theorem dX1_send_57 : decode cX1_send 57 = .ok (.if_icmp .le 6, 3) := by decide +kernel
theorem dX1_send_60 : decode cX1_send 60 = .ok (.bipush (-2), 2) := by decide +kernel
theorem dX1_send_62 : decode cX1_send 62 = .ok (.ireturn, 1) := by decide +kernel
theorem dX1_send_63 : decode cX1_send 63 = .ok (.iconst 0, 1) := by decide +kernel
theorem dX1_send_64 : decode cX1_send 64 = .ok (.istore 8, 2) := by decide +kernel
theorem dX1_send_66 : decode cX1_send 66 = .ok (.iload 8, 2) := by decide +kernel
theorem dX1_send_68 : decode cX1_send 68 = .ok (.iload 7, 2) := by decide +kernel
theorem dX1_send_70 : decode cX1_send 70 = .ok (.if_icmp .ge 30, 3) := by decide +kernel
theorem dX1_send_73 : decode cX1_send 73 = .ok (.aload_n 0, 1) := by decide +kernel
theorem dX1_send_74 : decode cX1_send 74 = .ok (.getfield 7, 3) := by decide +kernel
theorem dX1_send_77 : decode cX1_send 77 = .ok (.iload_n 1, 1) := by decide +kernel
theorem dX1_send_78 : decode cX1_send 78 = .ok (.bipush 8, 2) := by decide +kernel
end
section
set_option maxRecDepth 100000
theorem dX1_send_80 : decode cX1_send 80 = .ok (.imul, 1) := by decide +kernel
theorem dX1_send_81 : decode cX1_send 81 = .ok (.iload 6, 2) := by decide +kernel
theorem dX1_send_83 : decode cX1_send 83 = .ok (.iadd, 1) := by decide +kernel
theorem dX1_send_84 : decode cX1_send 84 = .ok (.iload 8, 2) := by decide +kernel
theorem dX1_send_86 : decode cX1_send 86 = .ok (.iadd, 1) := by decide +kernel
theorem dX1_send_87 : decode cX1_send 87 = .ok (.baload, 1) := by decide +kernel
theorem dX1_send_88 : decode cX1_send 88 = .ok (.ifCond .ne 6, 3) := by decide +kernel
theorem dX1_send_91 : decode cX1_send 91 = .ok (.bipush (-4), 2) := by decide +kernel
theorem dX1_send_93 : decode cX1_send 93 = .ok (.ireturn, 1) := by decide +kernel
theorem dX1_send_94 : decode cX1_send 94 = .ok (.iinc 8 1, 3) := by decide +kernel
theorem dX1_send_97 : decode cX1_send 97 = .ok (.goto (-31), 3) := by decide +kernel
theorem dX1_send_100 : decode cX1_send 100 = .ok (.iload_n 2, 1) := by decide +kernel
theorem dX1_send_101 : decode cX1_send 101 = .ok (.iconst 3, 1) := by decide +kernel
theorem dX1_send_102 : decode cX1_send 102 = .ok (.imul, 1) := by decide +kernel
theorem dX1_send_103 : decode cX1_send 103 = .ok (.iload 5, 2) := by decide +kernel
theorem dX1_send_105 : decode cX1_send 105 = .ok (.iadd, 1) := by decide +kernel
theorem dX1_send_106 : decode cX1_send 106 = .ok (.istore 8, 2) := by decide +kernel
theorem dX1_send_108 : decode cX1_send 108 = .ok (.aload_n 0, 1) := by decide +kernel
theorem dX1_send_109 : decode cX1_send 109 = .ok (.getfield 32, 3) := by decide +kernel
theorem dX1_send_112 : decode cX1_send 112 = .ok (.iload 8, 2) := by decide +kernel
theorem dX1_send_114 : decode cX1_send 114 = .ok (.iload_n 3, 1) := by decide +kernel
theorem dX1_send_115 : decode cX1_send 115 = .ok (.iastore, 1) := by decide +kernel
theorem dX1_send_116 : decode cX1_send 116 = .ok (.aload_n 0, 1) := by decide +kernel
theorem dX1_send_117 : decode cX1_send 117 = .ok (.getfield 35, 3) := by decide +kernel
theorem dX1_send_120 : decode cX1_send 120 = .ok (.iload 8, 2) := by decide +kernel
theorem dX1_send_122 : decode cX1_send 122 = .ok (.iload 7, 2) := by decide +kernel
theorem dX1_send_124 : decode cX1_send 124 = .ok (.iastore, 1) := by decide +kernel
theorem dX1_send_125 : decode cX1_send 125 = .ok (.iconst 0, 1) := by decide +kernel
theorem dX1_send_126 : decode cX1_send 126 = .ok (.istore 9, 2) := by decide +kernel
theorem dX1_send_128 : decode cX1_send 128 = .ok (.iload 9, 2) := by decide +kernel
theorem dX1_send_130 : decode cX1_send 130 = .ok (.iload 7, 2) := by decide +kernel
theorem dX1_send_132 : decode cX1_send 132 = .ok (.iconst 4, 1) := by decide +kernel
theorem dX1_send_133 : decode cX1_send 133 = .ok (.imul, 1) := by decide +kernel
theorem dX1_send_134 : decode cX1_send 134 = .ok (.if_icmp .ge 39, 3) := by decide +kernel
theorem dX1_send_137 : decode cX1_send 137 = .ok (.aload_n 0, 1) := by decide +kernel
theorem dX1_send_138 : decode cX1_send 138 = .ok (.getfield 38, 3) := by decide +kernel
theorem dX1_send_141 : decode cX1_send 141 = .ok (.iload 8, 2) := by decide +kernel
theorem dX1_send_143 : decode cX1_send 143 = .ok (.bipush 12, 2) := by decide +kernel
theorem dX1_send_145 : decode cX1_send 145 = .ok (.imul, 1) := by decide +kernel
theorem dX1_send_146 : decode cX1_send 146 = .ok (.iload 9, 2) := by decide +kernel
theorem dX1_send_148 : decode cX1_send 148 = .ok (.iadd, 1) := by decide +kernel
theorem dX1_send_149 : decode cX1_send 149 = .ok (.aload_n 0, 1) := by decide +kernel
theorem dX1_send_150 : decode cX1_send 150 = .ok (.getfield 13, 3) := by decide +kernel
theorem dX1_send_153 : decode cX1_send 153 = .ok (.iload_n 1, 1) := by decide +kernel
theorem dX1_send_154 : decode cX1_send 154 = .ok (.bipush 32, 2) := by decide +kernel
theorem dX1_send_156 : decode cX1_send 156 = .ok (.imul, 1) := by decide +kernel
theorem dX1_send_157 : decode cX1_send 157 = .ok (.iload 6, 2) := by decide +kernel
theorem dX1_send_159 : decode cX1_send 159 = .ok (.iconst 4, 1) := by decide +kernel
theorem dX1_send_160 : decode cX1_send 160 = .ok (.imul, 1) := by decide +kernel
theorem dX1_send_161 : decode cX1_send 161 = .ok (.iadd, 1) := by decide +kernel
theorem dX1_send_162 : decode cX1_send 162 = .ok (.iload 9, 2) := by decide +kernel
theorem dX1_send_164 : decode cX1_send 164 = .ok (.iadd, 1) := by decide +kernel
theorem dX1_send_165 : decode cX1_send 165 = .ok (.iaload, 1) := by decide +kernel
theorem dX1_send_166 : decode cX1_send 166 = .ok (.iastore, 1) := by decide +kernel
theorem dX1_send_167 : decode cX1_send 167 = .ok (.iinc 9 1, 3) := by decide +kernel
theorem dX1_send_170 : decode cX1_send 170 = .ok (.goto (-42), 3) := by decide +kernel
theorem dX1_send_173 : decode cX1_send 173 = .ok (.aload_n 0, 1) := by decide +kernel
theorem dX1_send_174 : decode cX1_send 174 = .ok (.getfield 29, 3) := by decide +kernel
theorem dX1_send_177 : decode cX1_send 177 = .ok (.iload_n 2, 1) := by decide +kernel
theorem dX1_send_178 : decode cX1_send 178 = .ok (.iload 5, 2) := by decide +kernel
theorem dX1_send_180 : decode cX1_send 180 = .ok (.iconst 1, 1) := by decide +kernel
theorem dX1_send_181 : decode cX1_send 181 = .ok (.iadd, 1) := by decide +kernel
theorem dX1_send_182 : decode cX1_send 182 = .ok (.iastore, 1) := by decide +kernel
theorem dX1_send_183 : decode cX1_send 183 = .ok (.iload 5, 2) := by decide +kernel
theorem dX1_send_185 : decode cX1_send 185 = .ok (.iconst 1, 1) := by decide +kernel
theorem dX1_send_186 : decode cX1_send 186 = .ok (.iadd, 1) := by decide +kernel
theorem dX1_send_187 : decode cX1_send 187 = .ok (.ireturn, 1) := by decide +kernel
theorem dX1_receive_0 : decode cX1_receive 0 = .ok (.aload_n 0, 1) := by decide +kernel
theorem dX1_receive_1 : decode cX1_receive 1 = .ok (.iload_n 1, 1) := by decide +kernel
theorem dX1_receive_2 : decode cX1_receive 2 = .ok (.invokevirtual 41, 3) := by decide +kernel
theorem dX1_receive_5 : decode cX1_receive 5 = .ok (.ifCond .ne 11, 3) := by decide +kernel
theorem dX1_receive_8 : decode cX1_receive 8 = .ok (.aload_n 0, 1) := by decide +kernel
theorem dX1_receive_9 : decode cX1_receive 9 = .ok (.iload_n 2, 1) := by decide +kernel
theorem dX1_receive_10 : decode cX1_receive 10 = .ok (.invokevirtual 41, 3) := by decide +kernel
theorem dX1_receive_13 : decode cX1_receive 13 = .ok (.ifCond .eq 5, 3) := by decide +kernel
theorem dX1_receive_16 : decode cX1_receive 16 = .ok (.iconst (-1), 1) := by decide +kernel
theorem dX1_receive_17 : decode cX1_receive 17 = .ok (.ireturn, 1) := by decide +kernel
theorem dX1_receive_18 : decode cX1_receive 18 = .ok (.aload_n 0, 1) := by decide +kernel
theorem dX1_receive_19 : decode cX1_receive 19 = .ok (.getfield 29, 3) := by decide +kernel
theorem dX1_receive_22 : decode cX1_receive 22 = .ok (.iload_n 2, 1) := by decide +kernel
theorem dX1_receive_23 : decode cX1_receive 23 = .ok (.iaload, 1) := by decide +kernel
theorem dX1_receive_24 : decode cX1_receive 24 = .ok (.ifCond .ne 6, 3) := by decide +kernel
theorem dX1_receive_27 : decode cX1_receive 27 = .ok (.bipush (-6), 2) := by decide +kernel
theorem dX1_receive_29 : decode cX1_receive 29 = .ok (.ireturn, 1) := by decide +kernel
theorem dX1_receive_30 : decode cX1_receive 30 = .ok (.iload_n 2, 1) := by decide +kernel
theorem dX1_receive_31 : decode cX1_receive 31 = .ok (.iconst 3, 1) := by decide +kernel
theorem dX1_receive_32 : decode cX1_receive 32 = .ok (.imul, 1) := by decide +kernel
theorem dX1_receive_33 : decode cX1_receive 33 = .ok (.istore 4, 2) := by decide +kernel
theorem dX1_receive_35 : decode cX1_receive 35 = .ok (.aload_n 0, 1) := by decide +kernel
theorem dX1_receive_36 : decode cX1_receive 36 = .ok (.getfield 35, 3) := by decide +kernel
theorem dX1_receive_39 : decode cX1_receive 39 = .ok (.iload 4, 2) := by decide +kernel
theorem dX1_receive_41 : decode cX1_receive 41 = .ok (.iaload, 1) := by decide +kernel
theorem dX1_receive_42 : decode cX1_receive 42 = .ok (.istore 5, 2) := by decide +kernel
theorem dX1_receive_44 : decode cX1_receive 44 = .ok (.aload_n 0, 1) := by decide +kernel
theorem dX1_receive_45 : decode cX1_receive 45 = .ok (.iload_n 3, 1) := by decide +kernel
theorem dX1_receive_46 : decode cX1_receive 46 = .ok (.invokevirtual 45, 3) := by decide +kernel
theorem dX1_receive_49 : decode cX1_receive 49 = .ok (.ifCond .ne 12, 3) := by decide +kernel
theorem dX1_receive_52 : decode cX1_receive 52 = .ok (.iload_n 3, 1) := by decide +kernel
theorem dX1_receive_53 : decode cX1_receive 53 = .ok (.iload 5, 2) := by decide +kernel
theorem dX1_receive_55 : decode cX1_receive 55 = .ok (.iadd, 1) := by decide +kernel
theorem dX1_receive_56 : decode cX1_receive 56 = .ok (.bipush 8, 2) := by decide +kernel
theorem dX1_receive_58 : decode cX1_receive 58 = .ok (.if_icmp .le 6, 3) := by decide +kernel
theorem dX1_receive_61 : decode cX1_receive 61 = .ok (.bipush (-2), 2) := by decide +kernel
theorem dX1_receive_63 : decode cX1_receive 63 = .ok (.ireturn, 1) := by decide +kernel
theorem dX1_receive_64 : decode cX1_receive 64 = .ok (.iconst 0, 1) := by decide +kernel
theorem dX1_receive_65 : decode cX1_receive 65 = .ok (.istore 6, 2) := by decide +kernel
theorem dX1_receive_67 : decode cX1_receive 67 = .ok (.iload 6, 2) := by decide +kernel
theorem dX1_receive_69 : decode cX1_receive 69 = .ok (.iload 5, 2) := by decide +kernel
theorem dX1_receive_71 : decode cX1_receive 71 = .ok (.if_icmp .ge 29, 3) := by decide +kernel
theorem dX1_receive_74 : decode cX1_receive 74 = .ok (.aload_n 0, 1) := by decide +kernel
theorem dX1_receive_75 : decode cX1_receive 75 = .ok (.getfield 7, 3) := by decide +kernel
theorem dX1_receive_78 : decode cX1_receive 78 = .ok (.iload_n 1, 1) := by decide +kernel
theorem dX1_receive_79 : decode cX1_receive 79 = .ok (.bipush 8, 2) := by decide +kernel
theorem dX1_receive_81 : decode cX1_receive 81 = .ok (.imul, 1) := by decide +kernel
theorem dX1_receive_82 : decode cX1_receive 82 = .ok (.iload_n 3, 1) := by decide +kernel
theorem dX1_receive_83 : decode cX1_receive 83 = .ok (.iadd, 1) := by decide +kernel
theorem dX1_receive_84 : decode cX1_receive 84 = .ok (.iload 6, 2) := by decide +kernel
theorem dX1_receive_86 : decode cX1_receive 86 = .ok (.iadd, 1) := by decide +kernel
theorem dX1_receive_87 : decode cX1_receive 87 = .ok (.baload, 1) := by decide +kernel
theorem dX1_receive_88 : decode cX1_receive 88 = .ok (.ifCond .eq 6, 3) := by decide +kernel
theorem dX1_receive_91 : decode cX1_receive 91 = .ok (.bipush (-3), 2) := by decide +kernel
theorem dX1_receive_93 : decode cX1_receive 93 = .ok (.ireturn, 1) := by decide +kernel
theorem dX1_receive_94 : decode cX1_receive 94 = .ok (.iinc 6 1, 3) := by decide +kernel
theorem dX1_receive_97 : decode cX1_receive 97 = .ok (.goto (-30), 3) := by decide +kernel
theorem dX1_receive_100 : decode cX1_receive 100 = .ok (.aload_n 0, 1) := by decide +kernel
theorem dX1_receive_101 : decode cX1_receive 101 = .ok (.getfield 17, 3) := by decide +kernel
theorem dX1_receive_104 : decode cX1_receive 104 = .ok (.iload_n 1, 1) := by decide +kernel
theorem dX1_receive_105 : decode cX1_receive 105 = .ok (.aload_n 0, 1) := by decide +kernel
theorem dX1_receive_106 : decode cX1_receive 106 = .ok (.getfield 32, 3) := by decide +kernel
theorem dX1_receive_109 : decode cX1_receive 109 = .ok (.iload 4, 2) := by decide +kernel
theorem dX1_receive_111 : decode cX1_receive 111 = .ok (.iaload, 1) := by decide +kernel
theorem dX1_receive_112 : decode cX1_receive 112 = .ok (.iastore, 1) := by decide +kernel
theorem dX1_receive_113 : decode cX1_receive 113 = .ok (.iconst 0, 1) := by decide +kernel
theorem dX1_receive_114 : decode cX1_receive 114 = .ok (.istore 6, 2) := by decide +kernel
theorem dX1_receive_116 : decode cX1_receive 116 = .ok (.iload 6, 2) := by decide +kernel
theorem dX1_receive_118 : decode cX1_receive 118 = .ok (.iload 5, 2) := by decide +kernel
theorem dX1_receive_120 : decode cX1_receive 120 = .ok (.if_icmp .ge 24, 3) := by decide +kernel
theorem dX1_receive_123 : decode cX1_receive 123 = .ok (.aload_n 0, 1) := by decide +kernel
theorem dX1_receive_124 : decode cX1_receive 124 = .ok (.getfield 7, 3) := by decide +kernel
theorem dX1_receive_127 : decode cX1_receive 127 = .ok (.iload_n 1, 1) := by decide +kernel
theorem dX1_receive_128 : decode cX1_receive 128 = .ok (.bipush 8, 2) := by decide +kernel
theorem dX1_receive_130 : decode cX1_receive 130 = .ok (.imul, 1) := by decide +kernel
theorem dX1_receive_131 : decode cX1_receive 131 = .ok (.iload_n 3, 1) := by decide +kernel
theorem dX1_receive_132 : decode cX1_receive 132 = .ok (.iadd, 1) := by decide +kernel
theorem dX1_receive_133 : decode cX1_receive 133 = .ok (.iload 6, 2) := by decide +kernel
theorem dX1_receive_135 : decode cX1_receive 135 = .ok (.iadd, 1) := by decide +kernel
theorem dX1_receive_136 : decode cX1_receive 136 = .ok (.iconst 1, 1) := by decide +kernel
theorem dX1_receive_137 : decode cX1_receive 137 = .ok (.bastore, 1) := by decide +kernel
theorem dX1_receive_138 : decode cX1_receive 138 = .ok (.iinc 6 1, 3) := by decide +kernel
theorem dX1_receive_141 : decode cX1_receive 141 = .ok (.goto (-25), 3) := by decide +kernel
theorem dX1_receive_144 : decode cX1_receive 144 = .ok (.iconst 0, 1) := by decide +kernel
theorem dX1_receive_145 : decode cX1_receive 145 = .ok (.istore 6, 2) := by decide +kernel
theorem dX1_receive_147 : decode cX1_receive 147 = .ok (.iload 6, 2) := by decide +kernel
theorem dX1_receive_149 : decode cX1_receive 149 = .ok (.iload 5, 2) := by decide +kernel
theorem dX1_receive_151 : decode cX1_receive 151 = .ok (.iconst 4, 1) := by decide +kernel
theorem dX1_receive_152 : decode cX1_receive 152 = .ok (.imul, 1) := by decide +kernel
theorem dX1_receive_153 : decode cX1_receive 153 = .ok (.if_icmp .ge 38, 3) := by decide +kernel
theorem dX1_receive_156 : decode cX1_receive 156 = .ok (.aload_n 0, 1) := by decide +kernel
theorem dX1_receive_157 : decode cX1_receive 157 = .ok (.getfield 13, 3) := by decide +kernel
theorem dX1_receive_160 : decode cX1_receive 160 = .ok (.iload_n 1, 1) := by decide +kernel
theorem dX1_receive_161 : decode cX1_receive 161 = .ok (.bipush 32, 2) := by decide +kernel
theorem dX1_receive_163 : decode cX1_receive 163 = .ok (.imul, 1) := by decide +kernel
theorem dX1_receive_164 : decode cX1_receive 164 = .ok (.iload_n 3, 1) := by decide +kernel
theorem dX1_receive_165 : decode cX1_receive 165 = .ok (.iconst 4, 1) := by decide +kernel
theorem dX1_receive_166 : decode cX1_receive 166 = .ok (.imul, 1) := by decide +kernel
theorem dX1_receive_167 : decode cX1_receive 167 = .ok (.iadd, 1) := by decide +kernel
theorem dX1_receive_168 : decode cX1_receive 168 = .ok (.iload 6, 2) := by decide +kernel
theorem dX1_receive_170 : decode cX1_receive 170 = .ok (.iadd, 1) := by decide +kernel
theorem dX1_receive_171 : decode cX1_receive 171 = .ok (.aload_n 0, 1) := by decide +kernel
theorem dX1_receive_172 : decode cX1_receive 172 = .ok (.getfield 38, 3) := by decide +kernel
theorem dX1_receive_175 : decode cX1_receive 175 = .ok (.iload 4, 2) := by decide +kernel
theorem dX1_receive_177 : decode cX1_receive 177 = .ok (.bipush 12, 2) := by decide +kernel
theorem dX1_receive_179 : decode cX1_receive 179 = .ok (.imul, 1) := by decide +kernel
theorem dX1_receive_180 : decode cX1_receive 180 = .ok (.iload 6, 2) := by decide +kernel
theorem dX1_receive_182 : decode cX1_receive 182 = .ok (.iadd, 1) := by decide +kernel
theorem dX1_receive_183 : decode cX1_receive 183 = .ok (.iaload, 1) := by decide +kernel
theorem dX1_receive_184 : decode cX1_receive 184 = .ok (.iastore, 1) := by decide +kernel
theorem dX1_receive_185 : decode cX1_receive 185 = .ok (.iinc 6 1, 3) := by decide +kernel
theorem dX1_receive_188 : decode cX1_receive 188 = .ok (.goto (-41), 3) := by decide +kernel
theorem dX1_receive_191 : decode cX1_receive 191 = .ok (.aload_n 0, 1) := by decide +kernel
theorem dX1_receive_192 : decode cX1_receive 192 = .ok (.iload_n 2, 1) := by decide +kernel
theorem dX1_receive_193 : decode cX1_receive 193 = .ok (.invokevirtual 52, 3) := by decide +kernel
theorem dX1_receive_196 : decode cX1_receive 196 = .ok (.iload 5, 2) := by decide +kernel
theorem dX1_receive_198 : decode cX1_receive 198 = .ok (.ireturn, 1) := by decide +kernel
theorem dX1_forward_0 : decode cX1_forward 0 = .ok (.iload_n 1, 1) := by decide +kernel
theorem dX1_forward_1 : decode cX1_forward 1 = .ok (.iconst 3, 1) := by decide +kernel
theorem dX1_forward_2 : decode cX1_forward 2 = .ok (.imul, 1) := by decide +kernel
theorem dX1_forward_3 : decode cX1_forward 3 = .ok (.istore_n 2, 1) := by decide +kernel
theorem dX1_forward_4 : decode cX1_forward 4 = .ok (.iload_n 2, 1) := by decide +kernel
theorem dX1_forward_5 : decode cX1_forward 5 = .ok (.iload_n 1, 1) := by decide +kernel
theorem dX1_forward_6 : decode cX1_forward 6 = .ok (.iconst 3, 1) := by decide +kernel
theorem dX1_forward_7 : decode cX1_forward 7 = .ok (.imul, 1) := by decide +kernel
theorem dX1_forward_8 : decode cX1_forward 8 = .ok (.iconst 2, 1) := by decide +kernel
theorem dX1_forward_9 : decode cX1_forward 9 = .ok (.iadd, 1) := by decide +kernel
theorem dX1_forward_10 : decode cX1_forward 10 = .ok (.if_icmp .ge 76, 3) := by decide +kernel
theorem dX1_forward_13 : decode cX1_forward 13 = .ok (.aload_n 0, 1) := by decide +kernel
theorem dX1_forward_14 : decode cX1_forward 14 = .ok (.getfield 32, 3) := by decide +kernel
theorem dX1_forward_17 : decode cX1_forward 17 = .ok (.iload_n 2, 1) := by decide +kernel
theorem dX1_forward_18 : decode cX1_forward 18 = .ok (.aload_n 0, 1) := by decide +kernel
theorem dX1_forward_19 : decode cX1_forward 19 = .ok (.getfield 32, 3) := by decide +kernel
theorem dX1_forward_22 : decode cX1_forward 22 = .ok (.iload_n 2, 1) := by decide +kernel
theorem dX1_forward_23 : decode cX1_forward 23 = .ok (.iconst 1, 1) := by decide +kernel
theorem dX1_forward_24 : decode cX1_forward 24 = .ok (.iadd, 1) := by decide +kernel
theorem dX1_forward_25 : decode cX1_forward 25 = .ok (.iaload, 1) := by decide +kernel
theorem dX1_forward_26 : decode cX1_forward 26 = .ok (.iastore, 1) := by decide +kernel
theorem dX1_forward_27 : decode cX1_forward 27 = .ok (.aload_n 0, 1) := by decide +kernel
theorem dX1_forward_28 : decode cX1_forward 28 = .ok (.getfield 35, 3) := by decide +kernel
theorem dX1_forward_31 : decode cX1_forward 31 = .ok (.iload_n 2, 1) := by decide +kernel
theorem dX1_forward_32 : decode cX1_forward 32 = .ok (.aload_n 0, 1) := by decide +kernel
theorem dX1_forward_33 : decode cX1_forward 33 = .ok (.getfield 35, 3) := by decide +kernel
theorem dX1_forward_36 : decode cX1_forward 36 = .ok (.iload_n 2, 1) := by decide +kernel
theorem dX1_forward_37 : decode cX1_forward 37 = .ok (.iconst 1, 1) := by decide +kernel
theorem dX1_forward_38 : decode cX1_forward 38 = .ok (.iadd, 1) := by decide +kernel
theorem dX1_forward_39 : decode cX1_forward 39 = .ok (.iaload, 1) := by decide +kernel
theorem dX1_forward_40 : decode cX1_forward 40 = .ok (.iastore, 1) := by decide +kernel
theorem dX1_forward_41 : decode cX1_forward 41 = .ok (.iconst 0, 1) := by decide +kernel
theorem dX1_forward_42 : decode cX1_forward 42 = .ok (.istore_n 3, 1) := by decide +kernel
theorem dX1_forward_43 : decode cX1_forward 43 = .ok (.iload_n 3, 1) := by decide +kernel
theorem dX1_forward_44 : decode cX1_forward 44 = .ok (.bipush 12, 2) := by decide +kernel
theorem dX1_forward_46 : decode cX1_forward 46 = .ok (.if_icmp .ge 34, 3) := by decide +kernel
theorem dX1_forward_49 : decode cX1_forward 49 = .ok (.aload_n 0, 1) := by decide +kernel
theorem dX1_forward_50 : decode cX1_forward 50 = .ok (.getfield 38, 3) := by decide +kernel
theorem dX1_forward_53 : decode cX1_forward 53 = .ok (.iload_n 2, 1) := by decide +kernel
theorem dX1_forward_54 : decode cX1_forward 54 = .ok (.bipush 12, 2) := by decide +kernel
theorem dX1_forward_56 : decode cX1_forward 56 = .ok (.imul, 1) := by decide +kernel
theorem dX1_forward_57 : decode cX1_forward 57 = .ok (.iload_n 3, 1) := by decide +kernel
theorem dX1_forward_58 : decode cX1_forward 58 = .ok (.iadd, 1) := by decide +kernel
theorem dX1_forward_59 : decode cX1_forward 59 = .ok (.aload_n 0, 1) := by decide +kernel
theorem dX1_forward_60 : decode cX1_forward 60 = .ok (.getfield 38, 3) := by decide +kernel
theorem dX1_forward_63 : decode cX1_forward 63 = .ok (.iload_n 2, 1) := by decide +kernel
theorem dX1_forward_64 : decode cX1_forward 64 = .ok (.bipush 12, 2) := by decide +kernel
theorem dX1_forward_66 : decode cX1_forward 66 = .ok (.imul, 1) := by decide +kernel
theorem dX1_forward_67 : decode cX1_forward 67 = .ok (.bipush 12, 2) := by decide +kernel
theorem dX1_forward_69 : decode cX1_forward 69 = .ok (.iadd, 1) := by decide +kernel
theorem dX1_forward_70 : decode cX1_forward 70 = .ok (.iload_n 3, 1) := by decide +kernel
theorem dX1_forward_71 : decode cX1_forward 71 = .ok (.iadd, 1) := by decide +kernel
theorem dX1_forward_72 : decode cX1_forward 72 = .ok (.iaload, 1) := by decide +kernel
theorem dX1_forward_73 : decode cX1_forward 73 = .ok (.iastore, 1) := by decide +kernel
theorem dX1_forward_74 : decode cX1_forward 74 = .ok (.iinc 3 1, 3) := by decide +kernel
theorem dX1_forward_77 : decode cX1_forward 77 = .ok (.goto (-34), 3) := by decide +kernel
theorem dX1_forward_80 : decode cX1_forward 80 = .ok (.iinc 2 1, 3) := by decide +kernel
theorem dX1_forward_83 : decode cX1_forward 83 = .ok (.goto (-79), 3) := by decide +kernel
theorem dX1_forward_86 : decode cX1_forward 86 = .ok (.aload_n 0, 1) := by decide +kernel
theorem dX1_forward_87 : decode cX1_forward 87 = .ok (.getfield 29, 3) := by decide +kernel
theorem dX1_forward_90 : decode cX1_forward 90 = .ok (.iload_n 1, 1) := by decide +kernel
theorem dX1_forward_91 : decode cX1_forward 91 = .ok (.aload_n 0, 1) := by decide +kernel
theorem dX1_forward_92 : decode cX1_forward 92 = .ok (.getfield 29, 3) := by decide +kernel
theorem dX1_forward_95 : decode cX1_forward 95 = .ok (.iload_n 1, 1) := by decide +kernel
theorem dX1_forward_96 : decode cX1_forward 96 = .ok (.iaload, 1) := by decide +kernel
theorem dX1_forward_97 : decode cX1_forward 97 = .ok (.iconst 1, 1) := by decide +kernel
theorem dX1_forward_98 : decode cX1_forward 98 = .ok (.isub, 1) := by decide +kernel
theorem dX1_forward_99 : decode cX1_forward 99 = .ok (.iastore, 1) := by decide +kernel
theorem dX1_forward_100 : decode cX1_forward 100 = .ok (.return_, 1) := by decide +kernel
theorem dX1_drain_0 : decode cX1_drain 0 = .ok (.aload_n 0, 1) := by decide +kernel
theorem dX1_drain_1 : decode cX1_drain 1 = .ok (.iload_n 1, 1) := by decide +kernel
theorem dX1_drain_2 : decode cX1_drain 2 = .ok (.invokevirtual 41, 3) := by decide +kernel
theorem dX1_drain_5 : decode cX1_drain 5 = .ok (.ifCond .eq 5, 3) := by decide +kernel
theorem dX1_drain_8 : decode cX1_drain 8 = .ok (.iconst (-1), 1) := by decide +kernel
theorem dX1_drain_9 : decode cX1_drain 9 = .ok (.ireturn, 1) := by decide +kernel
theorem dX1_drain_10 : decode cX1_drain 10 = .ok (.aload_n 0, 1) := by decide +kernel
theorem dX1_drain_11 : decode cX1_drain 11 = .ok (.getfield 29, 3) := by decide +kernel
theorem dX1_drain_14 : decode cX1_drain 14 = .ok (.iload_n 1, 1) := by decide +kernel
theorem dX1_drain_15 : decode cX1_drain 15 = .ok (.iaload, 1) := by decide +kernel
theorem dX1_drain_16 : decode cX1_drain 16 = .ok (.istore_n 2, 1) := by decide +kernel
theorem dX1_drain_17 : decode cX1_drain 17 = .ok (.aload_n 0, 1) := by decide +kernel
theorem dX1_drain_18 : decode cX1_drain 18 = .ok (.getfield 29, 3) := by decide +kernel
theorem dX1_drain_21 : decode cX1_drain 21 = .ok (.iload_n 1, 1) := by decide +kernel
theorem dX1_drain_22 : decode cX1_drain 22 = .ok (.iconst 0, 1) := by decide +kernel
theorem dX1_drain_23 : decode cX1_drain 23 = .ok (.iastore, 1) := by decide +kernel
theorem dX1_drain_24 : decode cX1_drain 24 = .ok (.iload_n 2, 1) := by decide +kernel
theorem dX1_drain_25 : decode cX1_drain 25 = .ok (.ireturn, 1) := by decide +kernel
theorem dX1_snapshot_0 : decode cX1_snapshot 0 = .ok (.aload_n 0, 1) := by decide +kernel
theorem dX1_snapshot_1 : decode cX1_snapshot 1 = .ok (.iload_n 1, 1) := by decide +kernel
theorem dX1_snapshot_2 : decode cX1_snapshot 2 = .ok (.invokevirtual 41, 3) := by decide +kernel
theorem dX1_snapshot_5 : decode cX1_snapshot 5 = .ok (.ifCond .eq 5, 3) := by decide +kernel
theorem dX1_snapshot_8 : decode cX1_snapshot 8 = .ok (.iconst (-1), 1) := by decide +kernel
theorem dX1_snapshot_9 : decode cX1_snapshot 9 = .ok (.ireturn, 1) := by decide +kernel
theorem dX1_snapshot_10 : decode cX1_snapshot 10 = .ok (.aload_n 0, 1) := by decide +kernel
theorem dX1_snapshot_11 : decode cX1_snapshot 11 = .ok (.getfield 20, 3) := by decide +kernel
theorem dX1_snapshot_14 : decode cX1_snapshot 14 = .ok (.iload_n 1, 1) := by decide +kernel
theorem dX1_snapshot_15 : decode cX1_snapshot 15 = .ok (.iconst 1, 1) := by decide +kernel
theorem dX1_snapshot_16 : decode cX1_snapshot 16 = .ok (.bastore, 1) := by decide +kernel
theorem dX1_snapshot_17 : decode cX1_snapshot 17 = .ok (.iload_n 1, 1) := by decide +kernel
theorem dX1_snapshot_18 : decode cX1_snapshot 18 = .ok (.bipush 8, 2) := by decide +kernel
theorem dX1_snapshot_20 : decode cX1_snapshot 20 = .ok (.imul, 1) := by decide +kernel
theorem dX1_snapshot_21 : decode cX1_snapshot 21 = .ok (.istore_n 2, 1) := by decide +kernel
theorem dX1_snapshot_22 : decode cX1_snapshot 22 = .ok (.iload_n 2, 1) := by decide +kernel
theorem dX1_snapshot_23 : decode cX1_snapshot 23 = .ok (.iload_n 1, 1) := by decide +kernel
theorem dX1_snapshot_24 : decode cX1_snapshot 24 = .ok (.bipush 8, 2) := by decide +kernel
theorem dX1_snapshot_26 : decode cX1_snapshot 26 = .ok (.imul, 1) := by decide +kernel
theorem dX1_snapshot_27 : decode cX1_snapshot 27 = .ok (.bipush 8, 2) := by decide +kernel
theorem dX1_snapshot_29 : decode cX1_snapshot 29 = .ok (.iadd, 1) := by decide +kernel
theorem dX1_snapshot_30 : decode cX1_snapshot 30 = .ok (.if_icmp .ge 21, 3) := by decide +kernel
theorem dX1_snapshot_33 : decode cX1_snapshot 33 = .ok (.aload_n 0, 1) := by decide +kernel
theorem dX1_snapshot_34 : decode cX1_snapshot 34 = .ok (.getfield 23, 3) := by decide +kernel
theorem dX1_snapshot_37 : decode cX1_snapshot 37 = .ok (.iload_n 2, 1) := by decide +kernel
theorem dX1_snapshot_38 : decode cX1_snapshot 38 = .ok (.aload_n 0, 1) := by decide +kernel
theorem dX1_snapshot_39 : decode cX1_snapshot 39 = .ok (.getfield 7, 3) := by decide +kernel
theorem dX1_snapshot_42 : decode cX1_snapshot 42 = .ok (.iload_n 2, 1) := by decide +kernel
theorem dX1_snapshot_43 : decode cX1_snapshot 43 = .ok (.baload, 1) := by decide +kernel
theorem dX1_snapshot_44 : decode cX1_snapshot 44 = .ok (.bastore, 1) := by decide +kernel
theorem dX1_snapshot_45 : decode cX1_snapshot 45 = .ok (.iinc 2 1, 3) := by decide +kernel
theorem dX1_snapshot_48 : decode cX1_snapshot 48 = .ok (.goto (-26), 3) := by decide +kernel
theorem dX1_snapshot_51 : decode cX1_snapshot 51 = .ok (.iload_n 1, 1) := by decide +kernel
theorem dX1_snapshot_52 : decode cX1_snapshot 52 = .ok (.bipush 32, 2) := by decide +kernel
theorem dX1_snapshot_54 : decode cX1_snapshot 54 = .ok (.imul, 1) := by decide +kernel
theorem dX1_snapshot_55 : decode cX1_snapshot 55 = .ok (.istore_n 2, 1) := by decide +kernel
theorem dX1_snapshot_56 : decode cX1_snapshot 56 = .ok (.iload_n 2, 1) := by decide +kernel
theorem dX1_snapshot_57 : decode cX1_snapshot 57 = .ok (.iload_n 1, 1) := by decide +kernel
theorem dX1_snapshot_58 : decode cX1_snapshot 58 = .ok (.bipush 32, 2) := by decide +kernel
theorem dX1_snapshot_60 : decode cX1_snapshot 60 = .ok (.imul, 1) := by decide +kernel
theorem dX1_snapshot_61 : decode cX1_snapshot 61 = .ok (.bipush 32, 2) := by decide +kernel
theorem dX1_snapshot_63 : decode cX1_snapshot 63 = .ok (.iadd, 1) := by decide +kernel
theorem dX1_snapshot_64 : decode cX1_snapshot 64 = .ok (.if_icmp .ge 21, 3) := by decide +kernel
theorem dX1_snapshot_67 : decode cX1_snapshot 67 = .ok (.aload_n 0, 1) := by decide +kernel
theorem dX1_snapshot_68 : decode cX1_snapshot 68 = .ok (.getfield 26, 3) := by decide +kernel
theorem dX1_snapshot_71 : decode cX1_snapshot 71 = .ok (.iload_n 2, 1) := by decide +kernel
theorem dX1_snapshot_72 : decode cX1_snapshot 72 = .ok (.aload_n 0, 1) := by decide +kernel
theorem dX1_snapshot_73 : decode cX1_snapshot 73 = .ok (.getfield 13, 3) := by decide +kernel
theorem dX1_snapshot_76 : decode cX1_snapshot 76 = .ok (.iload_n 2, 1) := by decide +kernel
theorem dX1_snapshot_77 : decode cX1_snapshot 77 = .ok (.iaload, 1) := by decide +kernel
theorem dX1_snapshot_78 : decode cX1_snapshot 78 = .ok (.iastore, 1) := by decide +kernel
theorem dX1_snapshot_79 : decode cX1_snapshot 79 = .ok (.iinc 2 1, 3) := by decide +kernel
theorem dX1_snapshot_82 : decode cX1_snapshot 82 = .ok (.goto (-26), 3) := by decide +kernel
theorem dX1_snapshot_85 : decode cX1_snapshot 85 = .ok (.aload_n 0, 1) := by decide +kernel
theorem dX1_snapshot_86 : decode cX1_snapshot 86 = .ok (.iload_n 1, 1) := by decide +kernel
theorem dX1_snapshot_87 : decode cX1_snapshot 87 = .ok (.invokevirtual 48, 3) := by decide +kernel
theorem dX1_snapshot_90 : decode cX1_snapshot 90 = .ok (.ireturn, 1) := by decide +kernel
theorem dX1_rollBack_0 : decode cX1_rollBack 0 = .ok (.aload_n 0, 1) := by decide +kernel
theorem dX1_rollBack_1 : decode cX1_rollBack 1 = .ok (.iload_n 1, 1) := by decide +kernel
end
section
set_option maxRecDepth 100000
theorem dX1_rollBack_2 : decode cX1_rollBack 2 = .ok (.invokevirtual 41, 3) := by decide +kernel
theorem dX1_rollBack_5 : decode cX1_rollBack 5 = .ok (.ifCond .eq 5, 3) := by decide +kernel
theorem dX1_rollBack_8 : decode cX1_rollBack 8 = .ok (.iconst (-1), 1) := by decide +kernel
theorem dX1_rollBack_9 : decode cX1_rollBack 9 = .ok (.ireturn, 1) := by decide +kernel
theorem dX1_rollBack_10 : decode cX1_rollBack 10 = .ok (.aload_n 0, 1) := by decide +kernel
theorem dX1_rollBack_11 : decode cX1_rollBack 11 = .ok (.getfield 20, 3) := by decide +kernel
theorem dX1_rollBack_14 : decode cX1_rollBack 14 = .ok (.iload_n 1, 1) := by decide +kernel
theorem dX1_rollBack_15 : decode cX1_rollBack 15 = .ok (.baload, 1) := by decide +kernel
theorem dX1_rollBack_16 : decode cX1_rollBack 16 = .ok (.ifCond .ne 6, 3) := by decide +kernel
theorem dX1_rollBack_19 : decode cX1_rollBack 19 = .ok (.bipush (-7), 2) := by decide +kernel
theorem dX1_rollBack_21 : decode cX1_rollBack 21 = .ok (.ireturn, 1) := by decide +kernel
theorem dX1_rollBack_22 : decode cX1_rollBack 22 = .ok (.iload_n 1, 1) := by decide +kernel
theorem dX1_rollBack_23 : decode cX1_rollBack 23 = .ok (.bipush 8, 2) := by decide +kernel
theorem dX1_rollBack_25 : decode cX1_rollBack 25 = .ok (.imul, 1) := by decide +kernel
theorem dX1_rollBack_26 : decode cX1_rollBack 26 = .ok (.istore_n 2, 1) := by decide +kernel
theorem dX1_rollBack_27 : decode cX1_rollBack 27 = .ok (.iload_n 2, 1) := by decide +kernel
theorem dX1_rollBack_28 : decode cX1_rollBack 28 = .ok (.iload_n 1, 1) := by decide +kernel
theorem dX1_rollBack_29 : decode cX1_rollBack 29 = .ok (.bipush 8, 2) := by decide +kernel
theorem dX1_rollBack_31 : decode cX1_rollBack 31 = .ok (.imul, 1) := by decide +kernel
theorem dX1_rollBack_32 : decode cX1_rollBack 32 = .ok (.bipush 8, 2) := by decide +kernel
theorem dX1_rollBack_34 : decode cX1_rollBack 34 = .ok (.iadd, 1) := by decide +kernel
theorem dX1_rollBack_35 : decode cX1_rollBack 35 = .ok (.if_icmp .ge 21, 3) := by decide +kernel
theorem dX1_rollBack_38 : decode cX1_rollBack 38 = .ok (.aload_n 0, 1) := by decide +kernel
theorem dX1_rollBack_39 : decode cX1_rollBack 39 = .ok (.getfield 7, 3) := by decide +kernel
theorem dX1_rollBack_42 : decode cX1_rollBack 42 = .ok (.iload_n 2, 1) := by decide +kernel
theorem dX1_rollBack_43 : decode cX1_rollBack 43 = .ok (.aload_n 0, 1) := by decide +kernel
theorem dX1_rollBack_44 : decode cX1_rollBack 44 = .ok (.getfield 23, 3) := by decide +kernel
theorem dX1_rollBack_47 : decode cX1_rollBack 47 = .ok (.iload_n 2, 1) := by decide +kernel
theorem dX1_rollBack_48 : decode cX1_rollBack 48 = .ok (.baload, 1) := by decide +kernel
theorem dX1_rollBack_49 : decode cX1_rollBack 49 = .ok (.bastore, 1) := by decide +kernel
theorem dX1_rollBack_50 : decode cX1_rollBack 50 = .ok (.iinc 2 1, 3) := by decide +kernel
theorem dX1_rollBack_53 : decode cX1_rollBack 53 = .ok (.goto (-26), 3) := by decide +kernel
theorem dX1_rollBack_56 : decode cX1_rollBack 56 = .ok (.iload_n 1, 1) := by decide +kernel
theorem dX1_rollBack_57 : decode cX1_rollBack 57 = .ok (.bipush 32, 2) := by decide +kernel
theorem dX1_rollBack_59 : decode cX1_rollBack 59 = .ok (.imul, 1) := by decide +kernel
theorem dX1_rollBack_60 : decode cX1_rollBack 60 = .ok (.istore_n 2, 1) := by decide +kernel
theorem dX1_rollBack_61 : decode cX1_rollBack 61 = .ok (.iload_n 2, 1) := by decide +kernel
theorem dX1_rollBack_62 : decode cX1_rollBack 62 = .ok (.iload_n 1, 1) := by decide +kernel
theorem dX1_rollBack_63 : decode cX1_rollBack 63 = .ok (.bipush 32, 2) := by decide +kernel
theorem dX1_rollBack_65 : decode cX1_rollBack 65 = .ok (.imul, 1) := by decide +kernel
theorem dX1_rollBack_66 : decode cX1_rollBack 66 = .ok (.bipush 32, 2) := by decide +kernel
theorem dX1_rollBack_68 : decode cX1_rollBack 68 = .ok (.iadd, 1) := by decide +kernel
theorem dX1_rollBack_69 : decode cX1_rollBack 69 = .ok (.if_icmp .ge 21, 3) := by decide +kernel
theorem dX1_rollBack_72 : decode cX1_rollBack 72 = .ok (.aload_n 0, 1) := by decide +kernel
theorem dX1_rollBack_73 : decode cX1_rollBack 73 = .ok (.getfield 13, 3) := by decide +kernel
theorem dX1_rollBack_76 : decode cX1_rollBack 76 = .ok (.iload_n 2, 1) := by decide +kernel
theorem dX1_rollBack_77 : decode cX1_rollBack 77 = .ok (.aload_n 0, 1) := by decide +kernel
theorem dX1_rollBack_78 : decode cX1_rollBack 78 = .ok (.getfield 26, 3) := by decide +kernel
theorem dX1_rollBack_81 : decode cX1_rollBack 81 = .ok (.iload_n 2, 1) := by decide +kernel
theorem dX1_rollBack_82 : decode cX1_rollBack 82 = .ok (.iaload, 1) := by decide +kernel
theorem dX1_rollBack_83 : decode cX1_rollBack 83 = .ok (.iastore, 1) := by decide +kernel
theorem dX1_rollBack_84 : decode cX1_rollBack 84 = .ok (.iinc 2 1, 3) := by decide +kernel
theorem dX1_rollBack_87 : decode cX1_rollBack 87 = .ok (.goto (-26), 3) := by decide +kernel
theorem dX1_rollBack_90 : decode cX1_rollBack 90 = .ok (.aload_n 0, 1) := by decide +kernel
theorem dX1_rollBack_91 : decode cX1_rollBack 91 = .ok (.iload_n 1, 1) := by decide +kernel
theorem dX1_rollBack_92 : decode cX1_rollBack 92 = .ok (.invokevirtual 48, 3) := by decide +kernel
theorem dX1_rollBack_95 : decode cX1_rollBack 95 = .ok (.ireturn, 1) := by decide +kernel
theorem dX1_exit_0 : decode cX1_exit 0 = .ok (.aload_n 0, 1) := by decide +kernel
theorem dX1_exit_1 : decode cX1_exit 1 = .ok (.iload_n 1, 1) := by decide +kernel
theorem dX1_exit_2 : decode cX1_exit 2 = .ok (.invokevirtual 41, 3) := by decide +kernel
theorem dX1_exit_5 : decode cX1_exit 5 = .ok (.ifCond .eq 5, 3) := by decide +kernel
theorem dX1_exit_8 : decode cX1_exit 8 = .ok (.iconst (-1), 1) := by decide +kernel
theorem dX1_exit_9 : decode cX1_exit 9 = .ok (.ireturn, 1) := by decide +kernel
theorem dX1_exit_10 : decode cX1_exit 10 = .ok (.aload_n 0, 1) := by decide +kernel
theorem dX1_exit_11 : decode cX1_exit 11 = .ok (.iload_n 1, 1) := by decide +kernel
theorem dX1_exit_12 : decode cX1_exit 12 = .ok (.invokevirtual 48, 3) := by decide +kernel
theorem dX1_exit_15 : decode cX1_exit 15 = .ok (.istore_n 2, 1) := by decide +kernel
theorem dX1_exit_16 : decode cX1_exit 16 = .ok (.iload_n 1, 1) := by decide +kernel
theorem dX1_exit_17 : decode cX1_exit 17 = .ok (.bipush 8, 2) := by decide +kernel
theorem dX1_exit_19 : decode cX1_exit 19 = .ok (.imul, 1) := by decide +kernel
theorem dX1_exit_20 : decode cX1_exit 20 = .ok (.istore_n 3, 1) := by decide +kernel
theorem dX1_exit_21 : decode cX1_exit 21 = .ok (.iload_n 3, 1) := by decide +kernel
theorem dX1_exit_22 : decode cX1_exit 22 = .ok (.iload_n 1, 1) := by decide +kernel
theorem dX1_exit_23 : decode cX1_exit 23 = .ok (.bipush 8, 2) := by decide +kernel
theorem dX1_exit_25 : decode cX1_exit 25 = .ok (.imul, 1) := by decide +kernel
theorem dX1_exit_26 : decode cX1_exit 26 = .ok (.bipush 8, 2) := by decide +kernel
theorem dX1_exit_28 : decode cX1_exit 28 = .ok (.iadd, 1) := by decide +kernel
theorem dX1_exit_29 : decode cX1_exit 29 = .ok (.if_icmp .ge 16, 3) := by decide +kernel
theorem dX1_exit_32 : decode cX1_exit 32 = .ok (.aload_n 0, 1) := by decide +kernel
theorem dX1_exit_33 : decode cX1_exit 33 = .ok (.getfield 7, 3) := by decide +kernel
theorem dX1_exit_36 : decode cX1_exit 36 = .ok (.iload_n 3, 1) := by decide +kernel
theorem dX1_exit_37 : decode cX1_exit 37 = .ok (.iconst 0, 1) := by decide +kernel
theorem dX1_exit_38 : decode cX1_exit 38 = .ok (.bastore, 1) := by decide +kernel
theorem dX1_exit_39 : decode cX1_exit 39 = .ok (.iinc 3 1, 3) := by decide +kernel
theorem dX1_exit_42 : decode cX1_exit 42 = .ok (.goto (-21), 3) := by decide +kernel
theorem dX1_exit_45 : decode cX1_exit 45 = .ok (.aload_n 0, 1) := by decide +kernel
theorem dX1_exit_46 : decode cX1_exit 46 = .ok (.getfield 20, 3) := by decide +kernel
theorem dX1_exit_49 : decode cX1_exit 49 = .ok (.iload_n 1, 1) := by decide +kernel
theorem dX1_exit_50 : decode cX1_exit 50 = .ok (.iconst 0, 1) := by decide +kernel
theorem dX1_exit_51 : decode cX1_exit 51 = .ok (.bastore, 1) := by decide +kernel
theorem dX1_exit_52 : decode cX1_exit 52 = .ok (.aload_n 0, 1) := by decide +kernel
theorem dX1_exit_53 : decode cX1_exit 53 = .ok (.getfield 17, 3) := by decide +kernel
theorem dX1_exit_56 : decode cX1_exit 56 = .ok (.iload_n 1, 1) := by decide +kernel
theorem dX1_exit_57 : decode cX1_exit 57 = .ok (.iconst 0, 1) := by decide +kernel
theorem dX1_exit_58 : decode cX1_exit 58 = .ok (.iastore, 1) := by decide +kernel
theorem dX1_exit_59 : decode cX1_exit 59 = .ok (.iload_n 2, 1) := by decide +kernel
theorem dX1_exit_60 : decode cX1_exit 60 = .ok (.ireturn, 1) := by decide +kernel
theorem dX1_read_0 : decode cX1_read 0 = .ok (.aload_n 0, 1) := by decide +kernel
theorem dX1_read_1 : decode cX1_read 1 = .ok (.iload_n 1, 1) := by decide +kernel
theorem dX1_read_2 : decode cX1_read 2 = .ok (.invokevirtual 41, 3) := by decide +kernel
theorem dX1_read_5 : decode cX1_read 5 = .ok (.ifCond .ne 29, 3) := by decide +kernel
theorem dX1_read_8 : decode cX1_read 8 = .ok (.iload_n 2, 1) := by decide +kernel
theorem dX1_read_9 : decode cX1_read 9 = .ok (.ifCond .lt 25, 3) := by decide +kernel
theorem dX1_read_12 : decode cX1_read 12 = .ok (.iload_n 2, 1) := by decide +kernel
theorem dX1_read_13 : decode cX1_read 13 = .ok (.bipush 31, 2) := by decide +kernel
theorem dX1_read_15 : decode cX1_read 15 = .ok (.if_icmp .gt 19, 3) := by decide +kernel
theorem dX1_read_18 : decode cX1_read 18 = .ok (.aload_n 0, 1) := by decide +kernel
theorem dX1_read_19 : decode cX1_read 19 = .ok (.getfield 7, 3) := by decide +kernel
theorem dX1_read_22 : decode cX1_read 22 = .ok (.iload_n 1, 1) := by decide +kernel
theorem dX1_read_23 : decode cX1_read 23 = .ok (.bipush 8, 2) := by decide +kernel
theorem dX1_read_25 : decode cX1_read 25 = .ok (.imul, 1) := by decide +kernel
theorem dX1_read_26 : decode cX1_read 26 = .ok (.iload_n 2, 1) := by decide +kernel
theorem dX1_read_27 : decode cX1_read 27 = .ok (.iconst 4, 1) := by decide +kernel
theorem dX1_read_28 : decode cX1_read 28 = .ok (.idiv, 1) := by decide +kernel
theorem dX1_read_29 : decode cX1_read 29 = .ok (.iadd, 1) := by decide +kernel
theorem dX1_read_30 : decode cX1_read 30 = .ok (.baload, 1) := by decide +kernel
theorem dX1_read_31 : decode cX1_read 31 = .ok (.ifCond .ne 5, 3) := by decide +kernel
theorem dX1_read_34 : decode cX1_read 34 = .ok (.iconst 0, 1) := by decide +kernel
theorem dX1_read_35 : decode cX1_read 35 = .ok (.ireturn, 1) := by decide +kernel
theorem dX1_read_36 : decode cX1_read 36 = .ok (.aload_n 0, 1) := by decide +kernel
theorem dX1_read_37 : decode cX1_read 37 = .ok (.getfield 13, 3) := by decide +kernel
theorem dX1_read_40 : decode cX1_read 40 = .ok (.iload_n 1, 1) := by decide +kernel
theorem dX1_read_41 : decode cX1_read 41 = .ok (.bipush 32, 2) := by decide +kernel
theorem dX1_read_43 : decode cX1_read 43 = .ok (.imul, 1) := by decide +kernel
theorem dX1_read_44 : decode cX1_read 44 = .ok (.iload_n 2, 1) := by decide +kernel
theorem dX1_read_45 : decode cX1_read 45 = .ok (.iadd, 1) := by decide +kernel
theorem dX1_read_46 : decode cX1_read 46 = .ok (.iaload, 1) := by decide +kernel
theorem dX1_read_47 : decode cX1_read 47 = .ok (.ireturn, 1) := by decide +kernel
theorem dX1_mapped_0 : decode cX1_mapped 0 = .ok (.aload_n 0, 1) := by decide +kernel
theorem dX1_mapped_1 : decode cX1_mapped 1 = .ok (.iload_n 1, 1) := by decide +kernel
theorem dX1_mapped_2 : decode cX1_mapped 2 = .ok (.invokevirtual 41, 3) := by decide +kernel
theorem dX1_mapped_5 : decode cX1_mapped 5 = .ok (.ifCond .ne 29, 3) := by decide +kernel
theorem dX1_mapped_8 : decode cX1_mapped 8 = .ok (.aload_n 0, 1) := by decide +kernel
theorem dX1_mapped_9 : decode cX1_mapped 9 = .ok (.iload_n 2, 1) := by decide +kernel
theorem dX1_mapped_10 : decode cX1_mapped 10 = .ok (.invokevirtual 45, 3) := by decide +kernel
theorem dX1_mapped_13 : decode cX1_mapped 13 = .ok (.ifCond .ne 21, 3) := by decide +kernel
theorem dX1_mapped_16 : decode cX1_mapped 16 = .ok (.aload_n 0, 1) := by decide +kernel
theorem dX1_mapped_17 : decode cX1_mapped 17 = .ok (.getfield 7, 3) := by decide +kernel
theorem dX1_mapped_20 : decode cX1_mapped 20 = .ok (.iload_n 1, 1) := by decide +kernel
theorem dX1_mapped_21 : decode cX1_mapped 21 = .ok (.bipush 8, 2) := by decide +kernel
theorem dX1_mapped_23 : decode cX1_mapped 23 = .ok (.imul, 1) := by decide +kernel
theorem dX1_mapped_24 : decode cX1_mapped 24 = .ok (.iload_n 2, 1) := by decide +kernel
theorem dX1_mapped_25 : decode cX1_mapped 25 = .ok (.iadd, 1) := by decide +kernel
theorem dX1_mapped_26 : decode cX1_mapped 26 = .ok (.baload, 1) := by decide +kernel
theorem dX1_mapped_27 : decode cX1_mapped 27 = .ok (.ifCond .eq 7, 3) := by decide +kernel
theorem dX1_mapped_30 : decode cX1_mapped 30 = .ok (.iconst 1, 1) := by decide +kernel
theorem dX1_mapped_31 : decode cX1_mapped 31 = .ok (.goto 4, 3) := by decide +kernel
theorem dX1_mapped_34 : decode cX1_mapped 34 = .ok (.iconst 0, 1) := by decide +kernel
theorem dX1_mapped_35 : decode cX1_mapped 35 = .ok (.ireturn, 1) := by decide +kernel
theorem dX1_lastWord_0 : decode cX1_lastWord 0 = .ok (.aload_n 0, 1) := by decide +kernel
theorem dX1_lastWord_1 : decode cX1_lastWord 1 = .ok (.iload_n 1, 1) := by decide +kernel
theorem dX1_lastWord_2 : decode cX1_lastWord 2 = .ok (.invokevirtual 41, 3) := by decide +kernel
theorem dX1_lastWord_5 : decode cX1_lastWord 5 = .ok (.ifCond .eq 7, 3) := by decide +kernel
theorem dX1_lastWord_8 : decode cX1_lastWord 8 = .ok (.iconst 0, 1) := by decide +kernel
theorem dX1_lastWord_9 : decode cX1_lastWord 9 = .ok (.goto 9, 3) := by decide +kernel
theorem dX1_lastWord_12 : decode cX1_lastWord 12 = .ok (.aload_n 0, 1) := by decide +kernel
theorem dX1_lastWord_13 : decode cX1_lastWord 13 = .ok (.getfield 17, 3) := by decide +kernel
theorem dX1_lastWord_16 : decode cX1_lastWord 16 = .ok (.iload_n 1, 1) := by decide +kernel
theorem dX1_lastWord_17 : decode cX1_lastWord 17 = .ok (.iaload, 1) := by decide +kernel
theorem dX1_lastWord_18 : decode cX1_lastWord 18 = .ok (.ireturn, 1) := by decide +kernel
theorem dX1_waiting_0 : decode cX1_waiting 0 = .ok (.aload_n 0, 1) := by decide +kernel
theorem dX1_waiting_1 : decode cX1_waiting 1 = .ok (.iload_n 1, 1) := by decide +kernel
theorem dX1_waiting_2 : decode cX1_waiting 2 = .ok (.invokevirtual 41, 3) := by decide +kernel
theorem dX1_waiting_5 : decode cX1_waiting 5 = .ok (.ifCond .eq 7, 3) := by decide +kernel
theorem dX1_waiting_8 : decode cX1_waiting 8 = .ok (.iconst (-1), 1) := by decide +kernel
theorem dX1_waiting_9 : decode cX1_waiting 9 = .ok (.goto 9, 3) := by decide +kernel
theorem dX1_waiting_12 : decode cX1_waiting 12 = .ok (.aload_n 0, 1) := by decide +kernel
theorem dX1_waiting_13 : decode cX1_waiting 13 = .ok (.getfield 29, 3) := by decide +kernel
theorem dX1_waiting_16 : decode cX1_waiting 16 = .ok (.iload_n 1, 1) := by decide +kernel
theorem dX1_waiting_17 : decode cX1_waiting 17 = .ok (.iaload, 1) := by decide +kernel
theorem dX1_waiting_18 : decode cX1_waiting 18 = .ok (.ireturn, 1) := by decide +kernel
end
section
set_option maxRecDepth 100000
theorem dL_law_0 : decode cL_law 0 = .ok (.new 7, 3) := by decide +kernel
theorem dL_law_3 : decode cL_law 3 = .ok (.dup, 1) := by decide +kernel
theorem dL_law_4 : decode cL_law 4 = .ok (.invokespecial 9, 3) := by decide +kernel
theorem dL_law_7 : decode cL_law 7 = .ok (.astore_n 1, 1) := by decide +kernel
theorem dL_law_8 : decode cL_law 8 = .ok (.new 10, 3) := by decide +kernel
theorem dL_law_11 : decode cL_law 11 = .ok (.dup, 1) := by decide +kernel
theorem dL_law_12 : decode cL_law 12 = .ok (.invokespecial 12, 3) := by decide +kernel
theorem dL_law_15 : decode cL_law 15 = .ok (.astore_n 2, 1) := by decide +kernel
theorem dL_law_16 : decode cL_law 16 = .ok (.iconst 0, 1) := by decide +kernel
theorem dL_law_17 : decode cL_law 17 = .ok (.istore_n 3, 1) := by decide +kernel
theorem dL_law_18 : decode cL_law 18 = .ok (.iload_n 3, 1) := by decide +kernel
theorem dL_law_19 : decode cL_law 19 = .ok (.aload_n 0, 1) := by decide +kernel
theorem dL_law_20 : decode cL_law 20 = .ok (.arraylength, 1) := by decide +kernel
theorem dL_law_21 : decode cL_law 21 = .ok (.iconst 5, 1) := by decide +kernel
theorem dL_law_22 : decode cL_law 22 = .ok (.isub, 1) := by decide +kernel
theorem dL_law_23 : decode cL_law 23 = .ok (.if_icmp .gt 539, 3) := by decide +kernel
theorem dL_law_26 : decode cL_law 26 = .ok (.aload_n 0, 1) := by decide +kernel
theorem dL_law_27 : decode cL_law 27 = .ok (.iload_n 3, 1) := by decide +kernel
theorem dL_law_28 : decode cL_law 28 = .ok (.iaload, 1) := by decide +kernel
theorem dL_law_29 : decode cL_law 29 = .ok (.bipush 15, 2) := by decide +kernel
theorem dL_law_31 : decode cL_law 31 = .ok (.iand, 1) := by decide +kernel
theorem dL_law_32 : decode cL_law 32 = .ok (.tableswitch 524 0 13 #[72, 105, 138, 181, 224, 277, 320, 343, 366, 389, 412, 445, 478, 501], 72) := by decide +kernel
theorem dL_law_104 : decode cL_law 104 = .ok (.aload_n 1, 1) := by decide +kernel
theorem dL_law_105 : decode cL_law 105 = .ok (.aload_n 0, 1) := by decide +kernel
theorem dL_law_106 : decode cL_law 106 = .ok (.iload_n 3, 1) := by decide +kernel
theorem dL_law_107 : decode cL_law 107 = .ok (.iconst 1, 1) := by decide +kernel
theorem dL_law_108 : decode cL_law 108 = .ok (.iadd, 1) := by decide +kernel
theorem dL_law_109 : decode cL_law 109 = .ok (.iaload, 1) := by decide +kernel
theorem dL_law_110 : decode cL_law 110 = .ok (.aload_n 0, 1) := by decide +kernel
theorem dL_law_111 : decode cL_law 111 = .ok (.iload_n 3, 1) := by decide +kernel
theorem dL_law_112 : decode cL_law 112 = .ok (.iconst 2, 1) := by decide +kernel
theorem dL_law_113 : decode cL_law 113 = .ok (.iadd, 1) := by decide +kernel
theorem dL_law_114 : decode cL_law 114 = .ok (.iaload, 1) := by decide +kernel
theorem dL_law_115 : decode cL_law 115 = .ok (.invokevirtual 13, 3) := by decide +kernel
theorem dL_law_118 : decode cL_law 118 = .ok (.aload_n 2, 1) := by decide +kernel
theorem dL_law_119 : decode cL_law 119 = .ok (.aload_n 0, 1) := by decide +kernel
theorem dL_law_120 : decode cL_law 120 = .ok (.iload_n 3, 1) := by decide +kernel
theorem dL_law_121 : decode cL_law 121 = .ok (.iconst 1, 1) := by decide +kernel
theorem dL_law_122 : decode cL_law 122 = .ok (.iadd, 1) := by decide +kernel
theorem dL_law_123 : decode cL_law 123 = .ok (.iaload, 1) := by decide +kernel
theorem dL_law_124 : decode cL_law 124 = .ok (.aload_n 0, 1) := by decide +kernel
theorem dL_law_125 : decode cL_law 125 = .ok (.iload_n 3, 1) := by decide +kernel
theorem dL_law_126 : decode cL_law 126 = .ok (.iconst 2, 1) := by decide +kernel
theorem dL_law_127 : decode cL_law 127 = .ok (.iadd, 1) := by decide +kernel
theorem dL_law_128 : decode cL_law 128 = .ok (.iaload, 1) := by decide +kernel
theorem dL_law_129 : decode cL_law 129 = .ok (.invokevirtual 17, 3) := by decide +kernel
theorem dL_law_132 : decode cL_law 132 = .ok (.if_icmp .eq 424, 3) := by decide +kernel
theorem dL_law_135 : decode cL_law 135 = .ok (.iconst 0, 1) := by decide +kernel
theorem dL_law_136 : decode cL_law 136 = .ok (.ireturn, 1) := by decide +kernel
theorem dL_law_137 : decode cL_law 137 = .ok (.aload_n 1, 1) := by decide +kernel
theorem dL_law_138 : decode cL_law 138 = .ok (.aload_n 0, 1) := by decide +kernel
theorem dL_law_139 : decode cL_law 139 = .ok (.iload_n 3, 1) := by decide +kernel
theorem dL_law_140 : decode cL_law 140 = .ok (.iconst 1, 1) := by decide +kernel
theorem dL_law_141 : decode cL_law 141 = .ok (.iadd, 1) := by decide +kernel
theorem dL_law_142 : decode cL_law 142 = .ok (.iaload, 1) := by decide +kernel
theorem dL_law_143 : decode cL_law 143 = .ok (.aload_n 0, 1) := by decide +kernel
theorem dL_law_144 : decode cL_law 144 = .ok (.iload_n 3, 1) := by decide +kernel
theorem dL_law_145 : decode cL_law 145 = .ok (.iconst 2, 1) := by decide +kernel
theorem dL_law_146 : decode cL_law 146 = .ok (.iadd, 1) := by decide +kernel
theorem dL_law_147 : decode cL_law 147 = .ok (.iaload, 1) := by decide +kernel
theorem dL_law_148 : decode cL_law 148 = .ok (.invokevirtual 18, 3) := by decide +kernel
theorem dL_law_151 : decode cL_law 151 = .ok (.aload_n 2, 1) := by decide +kernel
theorem dL_law_152 : decode cL_law 152 = .ok (.aload_n 0, 1) := by decide +kernel
theorem dL_law_153 : decode cL_law 153 = .ok (.iload_n 3, 1) := by decide +kernel
theorem dL_law_154 : decode cL_law 154 = .ok (.iconst 1, 1) := by decide +kernel
theorem dL_law_155 : decode cL_law 155 = .ok (.iadd, 1) := by decide +kernel
theorem dL_law_156 : decode cL_law 156 = .ok (.iaload, 1) := by decide +kernel
theorem dL_law_157 : decode cL_law 157 = .ok (.aload_n 0, 1) := by decide +kernel
theorem dL_law_158 : decode cL_law 158 = .ok (.iload_n 3, 1) := by decide +kernel
theorem dL_law_159 : decode cL_law 159 = .ok (.iconst 2, 1) := by decide +kernel
theorem dL_law_160 : decode cL_law 160 = .ok (.iadd, 1) := by decide +kernel
theorem dL_law_161 : decode cL_law 161 = .ok (.iaload, 1) := by decide +kernel
theorem dL_law_162 : decode cL_law 162 = .ok (.invokevirtual 21, 3) := by decide +kernel
theorem dL_law_165 : decode cL_law 165 = .ok (.if_icmp .eq 391, 3) := by decide +kernel
theorem dL_law_168 : decode cL_law 168 = .ok (.iconst 0, 1) := by decide +kernel
theorem dL_law_169 : decode cL_law 169 = .ok (.ireturn, 1) := by decide +kernel
theorem dL_law_170 : decode cL_law 170 = .ok (.aload_n 1, 1) := by decide +kernel
theorem dL_law_171 : decode cL_law 171 = .ok (.aload_n 0, 1) := by decide +kernel
theorem dL_law_172 : decode cL_law 172 = .ok (.iload_n 3, 1) := by decide +kernel
theorem dL_law_173 : decode cL_law 173 = .ok (.iconst 1, 1) := by decide +kernel
theorem dL_law_174 : decode cL_law 174 = .ok (.iadd, 1) := by decide +kernel
theorem dL_law_175 : decode cL_law 175 = .ok (.iaload, 1) := by decide +kernel
theorem dL_law_176 : decode cL_law 176 = .ok (.aload_n 0, 1) := by decide +kernel
theorem dL_law_177 : decode cL_law 177 = .ok (.iload_n 3, 1) := by decide +kernel
theorem dL_law_178 : decode cL_law 178 = .ok (.iconst 2, 1) := by decide +kernel
theorem dL_law_179 : decode cL_law 179 = .ok (.iadd, 1) := by decide +kernel
theorem dL_law_180 : decode cL_law 180 = .ok (.iaload, 1) := by decide +kernel
theorem dL_law_181 : decode cL_law 181 = .ok (.aload_n 0, 1) := by decide +kernel
theorem dL_law_182 : decode cL_law 182 = .ok (.iload_n 3, 1) := by decide +kernel
theorem dL_law_183 : decode cL_law 183 = .ok (.iconst 3, 1) := by decide +kernel
theorem dL_law_184 : decode cL_law 184 = .ok (.iadd, 1) := by decide +kernel
theorem dL_law_185 : decode cL_law 185 = .ok (.iaload, 1) := by decide +kernel
theorem dL_law_186 : decode cL_law 186 = .ok (.invokevirtual 22, 3) := by decide +kernel
theorem dL_law_189 : decode cL_law 189 = .ok (.aload_n 2, 1) := by decide +kernel
theorem dL_law_190 : decode cL_law 190 = .ok (.aload_n 0, 1) := by decide +kernel
theorem dL_law_191 : decode cL_law 191 = .ok (.iload_n 3, 1) := by decide +kernel
theorem dL_law_192 : decode cL_law 192 = .ok (.iconst 1, 1) := by decide +kernel
theorem dL_law_193 : decode cL_law 193 = .ok (.iadd, 1) := by decide +kernel
theorem dL_law_194 : decode cL_law 194 = .ok (.iaload, 1) := by decide +kernel
theorem dL_law_195 : decode cL_law 195 = .ok (.aload_n 0, 1) := by decide +kernel
theorem dL_law_196 : decode cL_law 196 = .ok (.iload_n 3, 1) := by decide +kernel
theorem dL_law_197 : decode cL_law 197 = .ok (.iconst 2, 1) := by decide +kernel
theorem dL_law_198 : decode cL_law 198 = .ok (.iadd, 1) := by decide +kernel
theorem dL_law_199 : decode cL_law 199 = .ok (.iaload, 1) := by decide +kernel
theorem dL_law_200 : decode cL_law 200 = .ok (.aload_n 0, 1) := by decide +kernel
theorem dL_law_201 : decode cL_law 201 = .ok (.iload_n 3, 1) := by decide +kernel
theorem dL_law_202 : decode cL_law 202 = .ok (.iconst 3, 1) := by decide +kernel
theorem dL_law_203 : decode cL_law 203 = .ok (.iadd, 1) := by decide +kernel
theorem dL_law_204 : decode cL_law 204 = .ok (.iaload, 1) := by decide +kernel
theorem dL_law_205 : decode cL_law 205 = .ok (.invokevirtual 26, 3) := by decide +kernel
theorem dL_law_208 : decode cL_law 208 = .ok (.if_icmp .eq 348, 3) := by decide +kernel
theorem dL_law_211 : decode cL_law 211 = .ok (.iconst 0, 1) := by decide +kernel
theorem dL_law_212 : decode cL_law 212 = .ok (.ireturn, 1) := by decide +kernel
theorem dL_law_213 : decode cL_law 213 = .ok (.aload_n 1, 1) := by decide +kernel
theorem dL_law_214 : decode cL_law 214 = .ok (.aload_n 0, 1) := by decide +kernel
theorem dL_law_215 : decode cL_law 215 = .ok (.iload_n 3, 1) := by decide +kernel
theorem dL_law_216 : decode cL_law 216 = .ok (.iconst 1, 1) := by decide +kernel
theorem dL_law_217 : decode cL_law 217 = .ok (.iadd, 1) := by decide +kernel
theorem dL_law_218 : decode cL_law 218 = .ok (.iaload, 1) := by decide +kernel
theorem dL_law_219 : decode cL_law 219 = .ok (.aload_n 0, 1) := by decide +kernel
theorem dL_law_220 : decode cL_law 220 = .ok (.iload_n 3, 1) := by decide +kernel
theorem dL_law_221 : decode cL_law 221 = .ok (.iconst 2, 1) := by decide +kernel
theorem dL_law_222 : decode cL_law 222 = .ok (.iadd, 1) := by decide +kernel
theorem dL_law_223 : decode cL_law 223 = .ok (.iaload, 1) := by decide +kernel
theorem dL_law_224 : decode cL_law 224 = .ok (.aload_n 0, 1) := by decide +kernel
theorem dL_law_225 : decode cL_law 225 = .ok (.iload_n 3, 1) := by decide +kernel
theorem dL_law_226 : decode cL_law 226 = .ok (.iconst 3, 1) := by decide +kernel
theorem dL_law_227 : decode cL_law 227 = .ok (.iadd, 1) := by decide +kernel
theorem dL_law_228 : decode cL_law 228 = .ok (.iaload, 1) := by decide +kernel
theorem dL_law_229 : decode cL_law 229 = .ok (.invokevirtual 27, 3) := by decide +kernel
theorem dL_law_232 : decode cL_law 232 = .ok (.aload_n 2, 1) := by decide +kernel
theorem dL_law_233 : decode cL_law 233 = .ok (.aload_n 0, 1) := by decide +kernel
theorem dL_law_234 : decode cL_law 234 = .ok (.iload_n 3, 1) := by decide +kernel
theorem dL_law_235 : decode cL_law 235 = .ok (.iconst 1, 1) := by decide +kernel
theorem dL_law_236 : decode cL_law 236 = .ok (.iadd, 1) := by decide +kernel
theorem dL_law_237 : decode cL_law 237 = .ok (.iaload, 1) := by decide +kernel
theorem dL_law_238 : decode cL_law 238 = .ok (.aload_n 0, 1) := by decide +kernel
theorem dL_law_239 : decode cL_law 239 = .ok (.iload_n 3, 1) := by decide +kernel
theorem dL_law_240 : decode cL_law 240 = .ok (.iconst 2, 1) := by decide +kernel
theorem dL_law_241 : decode cL_law 241 = .ok (.iadd, 1) := by decide +kernel
theorem dL_law_242 : decode cL_law 242 = .ok (.iaload, 1) := by decide +kernel
theorem dL_law_243 : decode cL_law 243 = .ok (.aload_n 0, 1) := by decide +kernel
theorem dL_law_244 : decode cL_law 244 = .ok (.iload_n 3, 1) := by decide +kernel
theorem dL_law_245 : decode cL_law 245 = .ok (.iconst 3, 1) := by decide +kernel
theorem dL_law_246 : decode cL_law 246 = .ok (.iadd, 1) := by decide +kernel
theorem dL_law_247 : decode cL_law 247 = .ok (.iaload, 1) := by decide +kernel
theorem dL_law_248 : decode cL_law 248 = .ok (.invokevirtual 30, 3) := by decide +kernel
theorem dL_law_251 : decode cL_law 251 = .ok (.if_icmp .eq 305, 3) := by decide +kernel
theorem dL_law_254 : decode cL_law 254 = .ok (.iconst 0, 1) := by decide +kernel
theorem dL_law_255 : decode cL_law 255 = .ok (.ireturn, 1) := by decide +kernel
theorem dL_law_256 : decode cL_law 256 = .ok (.aload_n 1, 1) := by decide +kernel
theorem dL_law_257 : decode cL_law 257 = .ok (.aload_n 0, 1) := by decide +kernel
theorem dL_law_258 : decode cL_law 258 = .ok (.iload_n 3, 1) := by decide +kernel
theorem dL_law_259 : decode cL_law 259 = .ok (.iconst 1, 1) := by decide +kernel
theorem dL_law_260 : decode cL_law 260 = .ok (.iadd, 1) := by decide +kernel
theorem dL_law_261 : decode cL_law 261 = .ok (.iaload, 1) := by decide +kernel
theorem dL_law_262 : decode cL_law 262 = .ok (.aload_n 0, 1) := by decide +kernel
theorem dL_law_263 : decode cL_law 263 = .ok (.iload_n 3, 1) := by decide +kernel
theorem dL_law_264 : decode cL_law 264 = .ok (.iconst 2, 1) := by decide +kernel
theorem dL_law_265 : decode cL_law 265 = .ok (.iadd, 1) := by decide +kernel
theorem dL_law_266 : decode cL_law 266 = .ok (.iaload, 1) := by decide +kernel
theorem dL_law_267 : decode cL_law 267 = .ok (.aload_n 0, 1) := by decide +kernel
theorem dL_law_268 : decode cL_law 268 = .ok (.iload_n 3, 1) := by decide +kernel
theorem dL_law_269 : decode cL_law 269 = .ok (.iconst 3, 1) := by decide +kernel
theorem dL_law_270 : decode cL_law 270 = .ok (.iadd, 1) := by decide +kernel
theorem dL_law_271 : decode cL_law 271 = .ok (.iaload, 1) := by decide +kernel
theorem dL_law_272 : decode cL_law 272 = .ok (.aload_n 0, 1) := by decide +kernel
theorem dL_law_273 : decode cL_law 273 = .ok (.iload_n 3, 1) := by decide +kernel
theorem dL_law_274 : decode cL_law 274 = .ok (.iconst 4, 1) := by decide +kernel
theorem dL_law_275 : decode cL_law 275 = .ok (.iadd, 1) := by decide +kernel
theorem dL_law_276 : decode cL_law 276 = .ok (.iaload, 1) := by decide +kernel
theorem dL_law_277 : decode cL_law 277 = .ok (.invokevirtual 31, 3) := by decide +kernel
theorem dL_law_280 : decode cL_law 280 = .ok (.aload_n 2, 1) := by decide +kernel
theorem dL_law_281 : decode cL_law 281 = .ok (.aload_n 0, 1) := by decide +kernel
theorem dL_law_282 : decode cL_law 282 = .ok (.iload_n 3, 1) := by decide +kernel
theorem dL_law_283 : decode cL_law 283 = .ok (.iconst 1, 1) := by decide +kernel
theorem dL_law_284 : decode cL_law 284 = .ok (.iadd, 1) := by decide +kernel
theorem dL_law_285 : decode cL_law 285 = .ok (.iaload, 1) := by decide +kernel
theorem dL_law_286 : decode cL_law 286 = .ok (.aload_n 0, 1) := by decide +kernel
theorem dL_law_287 : decode cL_law 287 = .ok (.iload_n 3, 1) := by decide +kernel
theorem dL_law_288 : decode cL_law 288 = .ok (.iconst 2, 1) := by decide +kernel
theorem dL_law_289 : decode cL_law 289 = .ok (.iadd, 1) := by decide +kernel
theorem dL_law_290 : decode cL_law 290 = .ok (.iaload, 1) := by decide +kernel
theorem dL_law_291 : decode cL_law 291 = .ok (.aload_n 0, 1) := by decide +kernel
theorem dL_law_292 : decode cL_law 292 = .ok (.iload_n 3, 1) := by decide +kernel
theorem dL_law_293 : decode cL_law 293 = .ok (.iconst 3, 1) := by decide +kernel
theorem dL_law_294 : decode cL_law 294 = .ok (.iadd, 1) := by decide +kernel
theorem dL_law_295 : decode cL_law 295 = .ok (.iaload, 1) := by decide +kernel
theorem dL_law_296 : decode cL_law 296 = .ok (.aload_n 0, 1) := by decide +kernel
theorem dL_law_297 : decode cL_law 297 = .ok (.iload_n 3, 1) := by decide +kernel
theorem dL_law_298 : decode cL_law 298 = .ok (.iconst 4, 1) := by decide +kernel
theorem dL_law_299 : decode cL_law 299 = .ok (.iadd, 1) := by decide +kernel
theorem dL_law_300 : decode cL_law 300 = .ok (.iaload, 1) := by decide +kernel
theorem dL_law_301 : decode cL_law 301 = .ok (.invokevirtual 35, 3) := by decide +kernel
theorem dL_law_304 : decode cL_law 304 = .ok (.if_icmp .eq 252, 3) := by decide +kernel
theorem dL_law_307 : decode cL_law 307 = .ok (.iconst 0, 1) := by decide +kernel
theorem dL_law_308 : decode cL_law 308 = .ok (.ireturn, 1) := by decide +kernel
theorem dL_law_309 : decode cL_law 309 = .ok (.aload_n 1, 1) := by decide +kernel
theorem dL_law_310 : decode cL_law 310 = .ok (.aload_n 0, 1) := by decide +kernel
theorem dL_law_311 : decode cL_law 311 = .ok (.iload_n 3, 1) := by decide +kernel
theorem dL_law_312 : decode cL_law 312 = .ok (.iconst 1, 1) := by decide +kernel
theorem dL_law_313 : decode cL_law 313 = .ok (.iadd, 1) := by decide +kernel
theorem dL_law_314 : decode cL_law 314 = .ok (.iaload, 1) := by decide +kernel
theorem dL_law_315 : decode cL_law 315 = .ok (.aload_n 0, 1) := by decide +kernel
theorem dL_law_316 : decode cL_law 316 = .ok (.iload_n 3, 1) := by decide +kernel
theorem dL_law_317 : decode cL_law 317 = .ok (.iconst 2, 1) := by decide +kernel
theorem dL_law_318 : decode cL_law 318 = .ok (.iadd, 1) := by decide +kernel
theorem dL_law_319 : decode cL_law 319 = .ok (.iaload, 1) := by decide +kernel
theorem dL_law_320 : decode cL_law 320 = .ok (.aload_n 0, 1) := by decide +kernel
theorem dL_law_321 : decode cL_law 321 = .ok (.iload_n 3, 1) := by decide +kernel
theorem dL_law_322 : decode cL_law 322 = .ok (.iconst 3, 1) := by decide +kernel
theorem dL_law_323 : decode cL_law 323 = .ok (.iadd, 1) := by decide +kernel
theorem dL_law_324 : decode cL_law 324 = .ok (.iaload, 1) := by decide +kernel
theorem dL_law_325 : decode cL_law 325 = .ok (.invokevirtual 36, 3) := by decide +kernel
theorem dL_law_328 : decode cL_law 328 = .ok (.aload_n 2, 1) := by decide +kernel
theorem dL_law_329 : decode cL_law 329 = .ok (.aload_n 0, 1) := by decide +kernel
theorem dL_law_330 : decode cL_law 330 = .ok (.iload_n 3, 1) := by decide +kernel
theorem dL_law_331 : decode cL_law 331 = .ok (.iconst 1, 1) := by decide +kernel
theorem dL_law_332 : decode cL_law 332 = .ok (.iadd, 1) := by decide +kernel
theorem dL_law_333 : decode cL_law 333 = .ok (.iaload, 1) := by decide +kernel
theorem dL_law_334 : decode cL_law 334 = .ok (.aload_n 0, 1) := by decide +kernel
theorem dL_law_335 : decode cL_law 335 = .ok (.iload_n 3, 1) := by decide +kernel
theorem dL_law_336 : decode cL_law 336 = .ok (.iconst 2, 1) := by decide +kernel
theorem dL_law_337 : decode cL_law 337 = .ok (.iadd, 1) := by decide +kernel
theorem dL_law_338 : decode cL_law 338 = .ok (.iaload, 1) := by decide +kernel
theorem dL_law_339 : decode cL_law 339 = .ok (.aload_n 0, 1) := by decide +kernel
theorem dL_law_340 : decode cL_law 340 = .ok (.iload_n 3, 1) := by decide +kernel
theorem dL_law_341 : decode cL_law 341 = .ok (.iconst 3, 1) := by decide +kernel
theorem dL_law_342 : decode cL_law 342 = .ok (.iadd, 1) := by decide +kernel
theorem dL_law_343 : decode cL_law 343 = .ok (.iaload, 1) := by decide +kernel
theorem dL_law_344 : decode cL_law 344 = .ok (.invokevirtual 39, 3) := by decide +kernel
theorem dL_law_347 : decode cL_law 347 = .ok (.if_icmp .eq 209, 3) := by decide +kernel
theorem dL_law_350 : decode cL_law 350 = .ok (.iconst 0, 1) := by decide +kernel
theorem dL_law_351 : decode cL_law 351 = .ok (.ireturn, 1) := by decide +kernel
theorem dL_law_352 : decode cL_law 352 = .ok (.aload_n 1, 1) := by decide +kernel
theorem dL_law_353 : decode cL_law 353 = .ok (.aload_n 0, 1) := by decide +kernel
theorem dL_law_354 : decode cL_law 354 = .ok (.iload_n 3, 1) := by decide +kernel
theorem dL_law_355 : decode cL_law 355 = .ok (.iconst 1, 1) := by decide +kernel
theorem dL_law_356 : decode cL_law 356 = .ok (.iadd, 1) := by decide +kernel
theorem dL_law_357 : decode cL_law 357 = .ok (.iaload, 1) := by decide +kernel
theorem dL_law_358 : decode cL_law 358 = .ok (.invokevirtual 40, 3) := by decide +kernel
theorem dL_law_361 : decode cL_law 361 = .ok (.aload_n 2, 1) := by decide +kernel
theorem dL_law_362 : decode cL_law 362 = .ok (.aload_n 0, 1) := by decide +kernel
theorem dL_law_363 : decode cL_law 363 = .ok (.iload_n 3, 1) := by decide +kernel
theorem dL_law_364 : decode cL_law 364 = .ok (.iconst 1, 1) := by decide +kernel
theorem dL_law_365 : decode cL_law 365 = .ok (.iadd, 1) := by decide +kernel
theorem dL_law_366 : decode cL_law 366 = .ok (.iaload, 1) := by decide +kernel
theorem dL_law_367 : decode cL_law 367 = .ok (.invokevirtual 44, 3) := by decide +kernel
theorem dL_law_370 : decode cL_law 370 = .ok (.if_icmp .eq 186, 3) := by decide +kernel
theorem dL_law_373 : decode cL_law 373 = .ok (.iconst 0, 1) := by decide +kernel
theorem dL_law_374 : decode cL_law 374 = .ok (.ireturn, 1) := by decide +kernel
theorem dL_law_375 : decode cL_law 375 = .ok (.aload_n 1, 1) := by decide +kernel
theorem dL_law_376 : decode cL_law 376 = .ok (.aload_n 0, 1) := by decide +kernel
theorem dL_law_377 : decode cL_law 377 = .ok (.iload_n 3, 1) := by decide +kernel
theorem dL_law_378 : decode cL_law 378 = .ok (.iconst 1, 1) := by decide +kernel
theorem dL_law_379 : decode cL_law 379 = .ok (.iadd, 1) := by decide +kernel
theorem dL_law_380 : decode cL_law 380 = .ok (.iaload, 1) := by decide +kernel
theorem dL_law_381 : decode cL_law 381 = .ok (.invokevirtual 45, 3) := by decide +kernel
theorem dL_law_384 : decode cL_law 384 = .ok (.aload_n 2, 1) := by decide +kernel
theorem dL_law_385 : decode cL_law 385 = .ok (.aload_n 0, 1) := by decide +kernel
theorem dL_law_386 : decode cL_law 386 = .ok (.iload_n 3, 1) := by decide +kernel
theorem dL_law_387 : decode cL_law 387 = .ok (.iconst 1, 1) := by decide +kernel
theorem dL_law_388 : decode cL_law 388 = .ok (.iadd, 1) := by decide +kernel
theorem dL_law_389 : decode cL_law 389 = .ok (.iaload, 1) := by decide +kernel
theorem dL_law_390 : decode cL_law 390 = .ok (.invokevirtual 48, 3) := by decide +kernel
theorem dL_law_393 : decode cL_law 393 = .ok (.if_icmp .eq 163, 3) := by decide +kernel
theorem dL_law_396 : decode cL_law 396 = .ok (.iconst 0, 1) := by decide +kernel
theorem dL_law_397 : decode cL_law 397 = .ok (.ireturn, 1) := by decide +kernel
theorem dL_law_398 : decode cL_law 398 = .ok (.aload_n 1, 1) := by decide +kernel
theorem dL_law_399 : decode cL_law 399 = .ok (.aload_n 0, 1) := by decide +kernel
theorem dL_law_400 : decode cL_law 400 = .ok (.iload_n 3, 1) := by decide +kernel
theorem dL_law_401 : decode cL_law 401 = .ok (.iconst 1, 1) := by decide +kernel
theorem dL_law_402 : decode cL_law 402 = .ok (.iadd, 1) := by decide +kernel
theorem dL_law_403 : decode cL_law 403 = .ok (.iaload, 1) := by decide +kernel
theorem dL_law_404 : decode cL_law 404 = .ok (.invokevirtual 49, 3) := by decide +kernel
theorem dL_law_407 : decode cL_law 407 = .ok (.aload_n 2, 1) := by decide +kernel
theorem dL_law_408 : decode cL_law 408 = .ok (.aload_n 0, 1) := by decide +kernel
theorem dL_law_409 : decode cL_law 409 = .ok (.iload_n 3, 1) := by decide +kernel
theorem dL_law_410 : decode cL_law 410 = .ok (.iconst 1, 1) := by decide +kernel
theorem dL_law_411 : decode cL_law 411 = .ok (.iadd, 1) := by decide +kernel
theorem dL_law_412 : decode cL_law 412 = .ok (.iaload, 1) := by decide +kernel
theorem dL_law_413 : decode cL_law 413 = .ok (.invokevirtual 52, 3) := by decide +kernel
theorem dL_law_416 : decode cL_law 416 = .ok (.if_icmp .eq 140, 3) := by decide +kernel
theorem dL_law_419 : decode cL_law 419 = .ok (.iconst 0, 1) := by decide +kernel
theorem dL_law_420 : decode cL_law 420 = .ok (.ireturn, 1) := by decide +kernel
theorem dL_law_421 : decode cL_law 421 = .ok (.aload_n 1, 1) := by decide +kernel
theorem dL_law_422 : decode cL_law 422 = .ok (.aload_n 0, 1) := by decide +kernel
theorem dL_law_423 : decode cL_law 423 = .ok (.iload_n 3, 1) := by decide +kernel
theorem dL_law_424 : decode cL_law 424 = .ok (.iconst 1, 1) := by decide +kernel
theorem dL_law_425 : decode cL_law 425 = .ok (.iadd, 1) := by decide +kernel
theorem dL_law_426 : decode cL_law 426 = .ok (.iaload, 1) := by decide +kernel
theorem dL_law_427 : decode cL_law 427 = .ok (.invokevirtual 53, 3) := by decide +kernel
theorem dL_law_430 : decode cL_law 430 = .ok (.aload_n 2, 1) := by decide +kernel
theorem dL_law_431 : decode cL_law 431 = .ok (.aload_n 0, 1) := by decide +kernel
theorem dL_law_432 : decode cL_law 432 = .ok (.iload_n 3, 1) := by decide +kernel
theorem dL_law_433 : decode cL_law 433 = .ok (.iconst 1, 1) := by decide +kernel
theorem dL_law_434 : decode cL_law 434 = .ok (.iadd, 1) := by decide +kernel
theorem dL_law_435 : decode cL_law 435 = .ok (.iaload, 1) := by decide +kernel
theorem dL_law_436 : decode cL_law 436 = .ok (.invokevirtual 56, 3) := by decide +kernel
theorem dL_law_439 : decode cL_law 439 = .ok (.if_icmp .eq 117, 3) := by decide +kernel
theorem dL_law_442 : decode cL_law 442 = .ok (.iconst 0, 1) := by decide +kernel
theorem dL_law_443 : decode cL_law 443 = .ok (.ireturn, 1) := by decide +kernel
theorem dL_law_444 : decode cL_law 444 = .ok (.aload_n 1, 1) := by decide +kernel
theorem dL_law_445 : decode cL_law 445 = .ok (.aload_n 0, 1) := by decide +kernel
theorem dL_law_446 : decode cL_law 446 = .ok (.iload_n 3, 1) := by decide +kernel
theorem dL_law_447 : decode cL_law 447 = .ok (.iconst 1, 1) := by decide +kernel
theorem dL_law_448 : decode cL_law 448 = .ok (.iadd, 1) := by decide +kernel
theorem dL_law_449 : decode cL_law 449 = .ok (.iaload, 1) := by decide +kernel
theorem dL_law_450 : decode cL_law 450 = .ok (.aload_n 0, 1) := by decide +kernel
theorem dL_law_451 : decode cL_law 451 = .ok (.iload_n 3, 1) := by decide +kernel
theorem dL_law_452 : decode cL_law 452 = .ok (.iconst 2, 1) := by decide +kernel
theorem dL_law_453 : decode cL_law 453 = .ok (.iadd, 1) := by decide +kernel
theorem dL_law_454 : decode cL_law 454 = .ok (.iaload, 1) := by decide +kernel
theorem dL_law_455 : decode cL_law 455 = .ok (.invokevirtual 57, 3) := by decide +kernel
theorem dL_law_458 : decode cL_law 458 = .ok (.aload_n 2, 1) := by decide +kernel
theorem dL_law_459 : decode cL_law 459 = .ok (.aload_n 0, 1) := by decide +kernel
theorem dL_law_460 : decode cL_law 460 = .ok (.iload_n 3, 1) := by decide +kernel
theorem dL_law_461 : decode cL_law 461 = .ok (.iconst 1, 1) := by decide +kernel
theorem dL_law_462 : decode cL_law 462 = .ok (.iadd, 1) := by decide +kernel
theorem dL_law_463 : decode cL_law 463 = .ok (.iaload, 1) := by decide +kernel
theorem dL_law_464 : decode cL_law 464 = .ok (.aload_n 0, 1) := by decide +kernel
theorem dL_law_465 : decode cL_law 465 = .ok (.iload_n 3, 1) := by decide +kernel
theorem dL_law_466 : decode cL_law 466 = .ok (.iconst 2, 1) := by decide +kernel
theorem dL_law_467 : decode cL_law 467 = .ok (.iadd, 1) := by decide +kernel
theorem dL_law_468 : decode cL_law 468 = .ok (.iaload, 1) := by decide +kernel
theorem dL_law_469 : decode cL_law 469 = .ok (.invokevirtual 60, 3) := by decide +kernel
theorem dL_law_472 : decode cL_law 472 = .ok (.if_icmp .eq 84, 3) := by decide +kernel
theorem dL_law_475 : decode cL_law 475 = .ok (.iconst 0, 1) := by decide +kernel
theorem dL_law_476 : decode cL_law 476 = .ok (.ireturn, 1) := by decide +kernel
theorem dL_law_477 : decode cL_law 477 = .ok (.aload_n 1, 1) := by decide +kernel
end
section
set_option maxRecDepth 100000
theorem dL_law_478 : decode cL_law 478 = .ok (.aload_n 0, 1) := by decide +kernel
theorem dL_law_479 : decode cL_law 479 = .ok (.iload_n 3, 1) := by decide +kernel
theorem dL_law_480 : decode cL_law 480 = .ok (.iconst 1, 1) := by decide +kernel
theorem dL_law_481 : decode cL_law 481 = .ok (.iadd, 1) := by decide +kernel
theorem dL_law_482 : decode cL_law 482 = .ok (.iaload, 1) := by decide +kernel
theorem dL_law_483 : decode cL_law 483 = .ok (.aload_n 0, 1) := by decide +kernel
theorem dL_law_484 : decode cL_law 484 = .ok (.iload_n 3, 1) := by decide +kernel
theorem dL_law_485 : decode cL_law 485 = .ok (.iconst 2, 1) := by decide +kernel
theorem dL_law_486 : decode cL_law 486 = .ok (.iadd, 1) := by decide +kernel
theorem dL_law_487 : decode cL_law 487 = .ok (.iaload, 1) := by decide +kernel
theorem dL_law_488 : decode cL_law 488 = .ok (.invokevirtual 61, 3) := by decide +kernel
theorem dL_law_491 : decode cL_law 491 = .ok (.aload_n 2, 1) := by decide +kernel
theorem dL_law_492 : decode cL_law 492 = .ok (.aload_n 0, 1) := by decide +kernel
theorem dL_law_493 : decode cL_law 493 = .ok (.iload_n 3, 1) := by decide +kernel
theorem dL_law_494 : decode cL_law 494 = .ok (.iconst 1, 1) := by decide +kernel
theorem dL_law_495 : decode cL_law 495 = .ok (.iadd, 1) := by decide +kernel
theorem dL_law_496 : decode cL_law 496 = .ok (.iaload, 1) := by decide +kernel
theorem dL_law_497 : decode cL_law 497 = .ok (.aload_n 0, 1) := by decide +kernel
theorem dL_law_498 : decode cL_law 498 = .ok (.iload_n 3, 1) := by decide +kernel
theorem dL_law_499 : decode cL_law 499 = .ok (.iconst 2, 1) := by decide +kernel
theorem dL_law_500 : decode cL_law 500 = .ok (.iadd, 1) := by decide +kernel
theorem dL_law_501 : decode cL_law 501 = .ok (.iaload, 1) := by decide +kernel
theorem dL_law_502 : decode cL_law 502 = .ok (.invokevirtual 65, 3) := by decide +kernel
theorem dL_law_505 : decode cL_law 505 = .ok (.if_icmp .eq 51, 3) := by decide +kernel
theorem dL_law_508 : decode cL_law 508 = .ok (.iconst 0, 1) := by decide +kernel
theorem dL_law_509 : decode cL_law 509 = .ok (.ireturn, 1) := by decide +kernel
theorem dL_law_510 : decode cL_law 510 = .ok (.aload_n 1, 1) := by decide +kernel
theorem dL_law_511 : decode cL_law 511 = .ok (.aload_n 0, 1) := by decide +kernel
theorem dL_law_512 : decode cL_law 512 = .ok (.iload_n 3, 1) := by decide +kernel
theorem dL_law_513 : decode cL_law 513 = .ok (.iconst 1, 1) := by decide +kernel
theorem dL_law_514 : decode cL_law 514 = .ok (.iadd, 1) := by decide +kernel
theorem dL_law_515 : decode cL_law 515 = .ok (.iaload, 1) := by decide +kernel
theorem dL_law_516 : decode cL_law 516 = .ok (.invokevirtual 66, 3) := by decide +kernel
theorem dL_law_519 : decode cL_law 519 = .ok (.aload_n 2, 1) := by decide +kernel
theorem dL_law_520 : decode cL_law 520 = .ok (.aload_n 0, 1) := by decide +kernel
theorem dL_law_521 : decode cL_law 521 = .ok (.iload_n 3, 1) := by decide +kernel
theorem dL_law_522 : decode cL_law 522 = .ok (.iconst 1, 1) := by decide +kernel
theorem dL_law_523 : decode cL_law 523 = .ok (.iadd, 1) := by decide +kernel
theorem dL_law_524 : decode cL_law 524 = .ok (.iaload, 1) := by decide +kernel
theorem dL_law_525 : decode cL_law 525 = .ok (.invokevirtual 69, 3) := by decide +kernel
theorem dL_law_528 : decode cL_law 528 = .ok (.if_icmp .eq 28, 3) := by decide +kernel
theorem dL_law_531 : decode cL_law 531 = .ok (.iconst 0, 1) := by decide +kernel
theorem dL_law_532 : decode cL_law 532 = .ok (.ireturn, 1) := by decide +kernel
theorem dL_law_533 : decode cL_law 533 = .ok (.aload_n 1, 1) := by decide +kernel
theorem dL_law_534 : decode cL_law 534 = .ok (.aload_n 0, 1) := by decide +kernel
theorem dL_law_535 : decode cL_law 535 = .ok (.iload_n 3, 1) := by decide +kernel
theorem dL_law_536 : decode cL_law 536 = .ok (.iconst 1, 1) := by decide +kernel
theorem dL_law_537 : decode cL_law 537 = .ok (.iadd, 1) := by decide +kernel
theorem dL_law_538 : decode cL_law 538 = .ok (.iaload, 1) := by decide +kernel
theorem dL_law_539 : decode cL_law 539 = .ok (.invokevirtual 70, 3) := by decide +kernel
theorem dL_law_542 : decode cL_law 542 = .ok (.aload_n 2, 1) := by decide +kernel
theorem dL_law_543 : decode cL_law 543 = .ok (.aload_n 0, 1) := by decide +kernel
theorem dL_law_544 : decode cL_law 544 = .ok (.iload_n 3, 1) := by decide +kernel
theorem dL_law_545 : decode cL_law 545 = .ok (.iconst 1, 1) := by decide +kernel
theorem dL_law_546 : decode cL_law 546 = .ok (.iadd, 1) := by decide +kernel
theorem dL_law_547 : decode cL_law 547 = .ok (.iaload, 1) := by decide +kernel
theorem dL_law_548 : decode cL_law 548 = .ok (.invokevirtual 73, 3) := by decide +kernel
theorem dL_law_551 : decode cL_law 551 = .ok (.if_icmp .eq 5, 3) := by decide +kernel
theorem dL_law_554 : decode cL_law 554 = .ok (.iconst 0, 1) := by decide +kernel
theorem dL_law_555 : decode cL_law 555 = .ok (.ireturn, 1) := by decide +kernel
theorem dL_law_556 : decode cL_law 556 = .ok (.iinc 3 5, 3) := by decide +kernel
theorem dL_law_559 : decode cL_law 559 = .ok (.goto (-541), 3) := by decide +kernel
theorem dL_law_562 : decode cL_law 562 = .ok (.iconst 1, 1) := by decide +kernel
theorem dL_law_563 : decode cL_law 563 = .ok (.ireturn, 1) := by decide +kernel
end
section
/-! own rows over the kit's: numbers by their Nat, options, booleans -/
def oN (v : Option Nat) : Int32 := match v with
  | none => -1
  | some f => nI f
def bI (b : Bool) : Int32 := match b with
  | false => 0
  | true => 1
theorem up_nI {F : Nat → Nat} {k v : Nat} : upd (fun j => nI (F j)) k (nI v) = fun j => nI (va_up F k v j) := by
  funext j
  simp only [upd, va_up]
  split <;> rfl
theorem up_oN {F : Nat → Option Nat} {k : Nat} {v : Option Nat} : upd (fun j => oN (F j)) k (oN v) = fun j => oN (va_up F k v j) := by
  funext j
  simp only [upd, va_up]
  split <;> rfl
theorem up_bI {F : Nat → Bool} {k : Nat} {v : Bool} : upd (fun j => bI (F j)) k (bI v) = fun j => bI (va_up F k v j) := by
  funext j
  simp only [upd, va_up]
  split <;> rfl
theorem up_id {F : Nat → Int32} {k : Nat} {v : Int32} : upd F k v = va_up F k v := rfl
theorem nar_bI (b : Bool) : vp_nar .boolean (bI b) = bI b := by cases b <;> rfl
theorem nar_bI' (b : Bool) : narrow .boolean (.int (bI b)) = .int (bI b) := by cases b <;> rfl
theorem vu_s {α : Type} {f : Nat → α} {k : Nat} {v : α} : va_up f k v k = v := by simp [va_up]
theorem vu_n {α : Type} {f : Nat → α} {k j : Nat} {v : α} (h : j ≠ k) : va_up f k v j = f j := by simp [va_up, h]
abbrev lset (lv : List (Nat × Value)) (i : Nat) (v : Value) : List (Nat × Value) := (i, v) :: lv.filter (fun q => !(q.1 == i) && !(q.1 + 1 == i && q.2.category == 2))
section ZI
variable {p : Program} {l : Launch} {e : Env} {R : Room} {s : State} {m : MethodId} {args : Array Value} {below : List Frame} {meth : Method} {c : Code} {H : Heap} {locs : List Loc} {cells slots : Nat} {Q : State → Prop}
variable {cc : ByteArray} {pc : Nat} {ls : Array Slot} {rest : List Value}
theorem zi_add (hx : p.tables.exec = Jvm.exec) (hb : c.code = cc) {a b : Nat} (hdg : decode cc pc = .ok (.iadd, 1)) (kk : W p l e R s m args below meth c H locs cells slots Q (F0 m (pc + 1) ls (.int (nI (a + b)) :: rest))) : W p l e R s m args below meth c H locs cells slots Q (F0 m pc ls (.int (nI b) :: .int (nI a) :: rest)) := by
  refine lv_iadd hx hb hdg ?_
  rw [nI_add]
  exact kk
theorem zi_mul (hx : p.tables.exec = Jvm.exec) (hb : c.code = cc) {a b : Nat} (hdg : decode cc pc = .ok (.imul, 1)) (kk : W p l e R s m args below meth c H locs cells slots Q (F0 m (pc + 1) ls (.int (nI (a * b)) :: rest))) : W p l e R s m args below meth c H locs cells slots Q (F0 m pc ls (.int (nI b) :: .int (nI a) :: rest)) := by
  refine lv_imul hx hb hdg ?_
  rw [pk_mul]
  exact kk
theorem zi_sub (hx : p.tables.exec = Jvm.exec) (hb : c.code = cc) {a b : Nat} (h : b ≤ a) (hdg : decode cc pc = .ok (.isub, 1)) (kk : W p l e R s m args below meth c H locs cells slots Q (F0 m (pc + 1) ls (.int (nI (a - b)) :: rest))) : W p l e R s m args below meth c H locs cells slots Q (F0 m pc ls (.int (nI b) :: .int (nI a) :: rest)) := by
  refine lv_isub hx hb hdg ?_
  rw [pk_sub h]
  exact kk
theorem zi_div (hx : p.tables.exec = Jvm.exec) (hb : c.code = cc) {a b : Nat} (ha : a < 2 ^ 31) (h0 : 0 < b) (hb2 : b < 2 ^ 31) (hdg : decode cc pc = .ok (.idiv, 1)) (kk : W p l e R s m args below meth c H locs cells slots Q (F0 m (pc + 1) ls (.int (nI (a / b)) :: rest))) : W p l e R s m args below meth c H locs cells slots Q (F0 m pc ls (.int (nI b) :: .int (nI a) :: rest)) := by
  refine lv_idiv hx hb hdg (nI_ne0 h0 hb2) ?_
  rw [pk_div ha h0 hb2]
  exact kk
theorem zi_rem (hx : p.tables.exec = Jvm.exec) (hb : c.code = cc) {a b : Nat} (ha : a < 2 ^ 31) (h0 : 0 < b) (hb2 : b < 2 ^ 31) (hdg : decode cc pc = .ok (.irem, 1)) (kk : W p l e R s m args below meth c H locs cells slots Q (F0 m (pc + 1) ls (.int (nI (a % b)) :: rest))) : W p l e R s m args below meth c H locs cells slots Q (F0 m pc ls (.int (nI b) :: .int (nI a) :: rest)) := by
  refine lv_irem hx hb hdg (nI_ne0 h0 hb2) ?_
  rw [pk_rem ha h0 hb2]
  exact kk
theorem zv_add (hx : p.tables.exec = Jvm.exec) (hb : c.code = cc) {x y v : Int32} (hdg : decode cc pc = .ok (.iadd, 1)) (hv : x + y = v) (kk : W p l e R s m args below meth c H locs cells slots Q (F0 m (pc + 1) ls (.int v :: rest))) : W p l e R s m args below meth c H locs cells slots Q (F0 m pc ls (.int y :: .int x :: rest)) := by
  subst hv
  exact lv_iadd hx hb hdg kk
theorem zv_mul (hx : p.tables.exec = Jvm.exec) (hb : c.code = cc) {x y v : Int32} (hdg : decode cc pc = .ok (.imul, 1)) (hv : x * y = v) (kk : W p l e R s m args below meth c H locs cells slots Q (F0 m (pc + 1) ls (.int v :: rest))) : W p l e R s m args below meth c H locs cells slots Q (F0 m pc ls (.int y :: .int x :: rest)) := by
  subst hv
  exact lv_imul hx hb hdg kk
theorem zv_sub (hx : p.tables.exec = Jvm.exec) (hb : c.code = cc) {x y v : Int32} (hdg : decode cc pc = .ok (.isub, 1)) (hv : x - y = v) (kk : W p l e R s m args below meth c H locs cells slots Q (F0 m (pc + 1) ls (.int v :: rest))) : W p l e R s m args below meth c H locs cells slots Q (F0 m pc ls (.int y :: .int x :: rest)) := by
  subst hv
  exact lv_isub hx hb hdg kk
theorem zv_and (hx : p.tables.exec = Jvm.exec) (hb : c.code = cc) {x y v : Int32} (hdg : decode cc pc = .ok (.iand, 1)) (hv : x &&& y = v) (kk : W p l e R s m args below meth c H locs cells slots Q (F0 m (pc + 1) ls (.int v :: rest))) : W p l e R s m args below meth c H locs cells slots Q (F0 m pc ls (.int y :: .int x :: rest)) := by
  subst hv
  exact lv_iand hx hb hdg kk
theorem zv_shr (hx : p.tables.exec = Jvm.exec) (hb : c.code = cc) {x y v : Int32} (hdg : decode cc pc = .ok (.ishr, 1)) (hv : x >>> (y &&& 31) = v) (kk : W p l e R s m args below meth c H locs cells slots Q (F0 m (pc + 1) ls (.int v :: rest))) : W p l e R s m args below meth c H locs cells slots Q (F0 m pc ls (.int y :: .int x :: rest)) := by
  subst hv
  exact lv_ishr hx hb hdg kk
theorem zi_ge (hx : p.tables.exec = Jvm.exec) (hb : c.code = cc) {a b : Nat} (hA : a < 2 ^ 31) (hB : b < 2 ^ 31) {off : Int} {tgt : Nat} (hdg : decode cc pc = .ok (.if_icmp .ge off, 3)) (ht : (pc : Int) + off = (tgt : Int)) (kt : b ≤ a → W p l e R s m args below meth c H locs cells slots Q (F0 m tgt ls rest)) (kf : a < b → W p l e R s m args below meth c H locs cells slots Q (F0 m (pc + 3) ls rest)) : W p l e R s m args below meth c H locs cells slots Q (F0 m pc ls (.int (nI b) :: .int (nI a) :: rest)) := by
  exact lv_icmp_ge hx hb hdg ht (fun h => kt ((nI_leI hB hA).mp h)) (fun h => kf (Nat.lt_of_not_le (fun q => h ((nI_leI hB hA).mpr q))))
theorem zi_le (hx : p.tables.exec = Jvm.exec) (hb : c.code = cc) {a b : Nat} (hA : a < 2 ^ 31) (hB : b < 2 ^ 31) {off : Int} {tgt : Nat} (hdg : decode cc pc = .ok (.if_icmp .le off, 3)) (ht : (pc : Int) + off = (tgt : Int)) (kt : a ≤ b → W p l e R s m args below meth c H locs cells slots Q (F0 m tgt ls rest)) (kf : b < a → W p l e R s m args below meth c H locs cells slots Q (F0 m (pc + 3) ls rest)) : W p l e R s m args below meth c H locs cells slots Q (F0 m pc ls (.int (nI b) :: .int (nI a) :: rest)) := by
  exact lv_icmp_le hx hb hdg ht (fun h => kt ((nI_leI hA hB).mp h)) (fun h => kf (Nat.lt_of_not_le (fun q => h ((nI_leI hA hB).mpr q))))
theorem zi_lt (hx : p.tables.exec = Jvm.exec) (hb : c.code = cc) {a b : Nat} (hA : a < 2 ^ 31) (hB : b < 2 ^ 31) {off : Int} {tgt : Nat} (hdg : decode cc pc = .ok (.if_icmp .lt off, 3)) (ht : (pc : Int) + off = (tgt : Int)) (kt : a < b → W p l e R s m args below meth c H locs cells slots Q (F0 m tgt ls rest)) (kf : b ≤ a → W p l e R s m args below meth c H locs cells slots Q (F0 m (pc + 3) ls rest)) : W p l e R s m args below meth c H locs cells slots Q (F0 m pc ls (.int (nI b) :: .int (nI a) :: rest)) := by
  exact lv_icmp_lt hx hb hdg ht (fun h => kt ((nI_ltI hA hB).mp h)) (fun h => kf (Nat.le_of_not_lt (fun q => h ((nI_ltI hA hB).mpr q))))
theorem zi_gt (hx : p.tables.exec = Jvm.exec) (hb : c.code = cc) {a b : Nat} (hA : a < 2 ^ 31) (hB : b < 2 ^ 31) {off : Int} {tgt : Nat} (hdg : decode cc pc = .ok (.if_icmp .gt off, 3)) (ht : (pc : Int) + off = (tgt : Int)) (kt : b < a → W p l e R s m args below meth c H locs cells slots Q (F0 m tgt ls rest)) (kf : a ≤ b → W p l e R s m args below meth c H locs cells slots Q (F0 m (pc + 3) ls rest)) : W p l e R s m args below meth c H locs cells slots Q (F0 m pc ls (.int (nI b) :: .int (nI a) :: rest)) := by
  exact lv_icmp_gt hx hb hdg ht (fun h => kt ((nI_ltI hB hA).mp h)) (fun h => kf (Nat.le_of_not_lt (fun q => h ((nI_ltI hB hA).mpr q))))
theorem zi_eq (hx : p.tables.exec = Jvm.exec) (hb : c.code = cc) {a b : Nat} (hA : a < 2 ^ 31) (hB : b < 2 ^ 31) {off : Int} {tgt : Nat} (hdg : decode cc pc = .ok (.if_icmp .eq off, 3)) (ht : (pc : Int) + off = (tgt : Int)) (kt : a = b → W p l e R s m args below meth c H locs cells slots Q (F0 m tgt ls rest)) (kf : a ≠ b → W p l e R s m args below meth c H locs cells slots Q (F0 m (pc + 3) ls rest)) : W p l e R s m args below meth c H locs cells slots Q (F0 m pc ls (.int (nI b) :: .int (nI a) :: rest)) := by
  exact lv_icmp_eq hx hb hdg ht (fun h => kt ((nI_eq hA hB).mp h)) (fun h => kf (fun q => h ((nI_eq hA hB).mpr q)))
theorem zi_ne (hx : p.tables.exec = Jvm.exec) (hb : c.code = cc) {a b : Nat} (hA : a < 2 ^ 31) (hB : b < 2 ^ 31) {off : Int} {tgt : Nat} (hdg : decode cc pc = .ok (.if_icmp .ne off, 3)) (ht : (pc : Int) + off = (tgt : Int)) (kt : a ≠ b → W p l e R s m args below meth c H locs cells slots Q (F0 m tgt ls rest)) (kf : a = b → W p l e R s m args below meth c H locs cells slots Q (F0 m (pc + 3) ls rest)) : W p l e R s m args below meth c H locs cells slots Q (F0 m pc ls (.int (nI b) :: .int (nI a) :: rest)) := by
  exact lv_icmp_ne hx hb hdg ht (fun h => kt (fun q => h ((nI_eq hA hB).mpr q))) (fun h => kf ((nI_eq hA hB).mp h))
theorem zi_ifeq (hx : p.tables.exec = Jvm.exec) (hb : c.code = cc) {a : Nat} (hA : a < 2 ^ 31) {off : Int} {tgt : Nat} (hdg : decode cc pc = .ok (.ifCond .eq off, 3)) (ht : (pc : Int) + off = (tgt : Int)) (kt : a = 0 → W p l e R s m args below meth c H locs cells slots Q (F0 m tgt ls rest)) (kf : 0 < a → W p l e R s m args below meth c H locs cells slots Q (F0 m (pc + 3) ls rest)) : W p l e R s m args below meth c H locs cells slots Q (F0 m pc ls (.int (nI a) :: rest)) := by
  refine lv_if_eq hx hb hdg ht (fun h => kt ?_) (fun h => kf ?_)
  · exact (nI_eq hA (by decide)).mp (show nI a = nI 0 from h)
  · exact Nat.pos_of_ne_zero (fun q => h (by rw [q]; rfl))
theorem zi_ifne (hx : p.tables.exec = Jvm.exec) (hb : c.code = cc) {a : Nat} (hA : a < 2 ^ 31) {off : Int} {tgt : Nat} (hdg : decode cc pc = .ok (.ifCond .ne off, 3)) (ht : (pc : Int) + off = (tgt : Int)) (kt : 0 < a → W p l e R s m args below meth c H locs cells slots Q (F0 m tgt ls rest)) (kf : a = 0 → W p l e R s m args below meth c H locs cells slots Q (F0 m (pc + 3) ls rest)) : W p l e R s m args below meth c H locs cells slots Q (F0 m pc ls (.int (nI a) :: rest)) := by
  refine lv_if_ne hx hb hdg ht (fun h => kt ?_) (fun h => kf ?_)
  · exact Nat.pos_of_ne_zero (fun q => h (by rw [q]; rfl))
  · exact (nI_eq hA (by decide)).mp (show nI a = nI 0 from h)
theorem zi_ifle (hx : p.tables.exec = Jvm.exec) (hb : c.code = cc) {a : Nat} (hA : a < 2 ^ 31) {off : Int} {tgt : Nat} (hdg : decode cc pc = .ok (.ifCond .le off, 3)) (ht : (pc : Int) + off = (tgt : Int)) (kt : a = 0 → W p l e R s m args below meth c H locs cells slots Q (F0 m tgt ls rest)) (kf : 0 < a → W p l e R s m args below meth c H locs cells slots Q (F0 m (pc + 3) ls rest)) : W p l e R s m args below meth c H locs cells slots Q (F0 m pc ls (.int (nI a) :: rest)) := by
  refine lv_if_le hx hb hdg ht (fun h => kt ?_) (fun h => kf ?_)
  · exact Nat.le_zero.mp ((nI_leI hA (by decide)).mp (show nI a ≤ nI 0 from h))
  · exact Nat.pos_of_ne_zero (fun q => h (by rw [q]; decide))
theorem zi_iflt (hx : p.tables.exec = Jvm.exec) (hb : c.code = cc) {a : Nat} (hA : a < 2 ^ 31) {off : Int} {tgt : Nat} (hdg : decode cc pc = .ok (.ifCond .lt off, 3)) (ht : (pc : Int) + off = (tgt : Int)) (kk : W p l e R s m args below meth c H locs cells slots Q (F0 m (pc + 3) ls rest)) : W p l e R s m args below meth c H locs cells slots Q (F0 m pc ls (.int (nI a) :: rest)) := lv_if_lt hx hb hdg ht (fun h => absurd h (nI_pos hA)) (fun _ => kk)
theorem zi_ifge (hx : p.tables.exec = Jvm.exec) (hb : c.code = cc) {a : Nat} (hA : a < 2 ^ 31) {off : Int} {tgt : Nat} (hdg : decode cc pc = .ok (.ifCond .ge off, 3)) (ht : (pc : Int) + off = (tgt : Int)) (kk : W p l e R s m args below meth c H locs cells slots Q (F0 m tgt ls rest)) : W p l e R s m args below meth c H locs cells slots Q (F0 m pc ls (.int (nI a) :: rest)) := lv_if_ge hx hb hdg ht (fun _ => kk) (fun h => absurd (nI_pos' hA) h)
theorem zo_iflt (hx : p.tables.exec = Jvm.exec) (hb : c.code = cc) {off : Int} {tgt : Nat} (hdg : decode cc pc = .ok (.ifCond .lt off, 3)) (ht : (pc : Int) + off = (tgt : Int)) (kk : W p l e R s m args below meth c H locs cells slots Q (F0 m tgt ls rest)) : W p l e R s m args below meth c H locs cells slots Q (F0 m pc ls (.int (oN none) :: rest)) := lv_if_lt hx hb hdg ht (fun _ => kk) (fun h => absurd (by decide) h)
theorem zo_ifge (hx : p.tables.exec = Jvm.exec) (hb : c.code = cc) {off : Int} {tgt : Nat} (hdg : decode cc pc = .ok (.ifCond .ge off, 3)) (ht : (pc : Int) + off = (tgt : Int)) (kk : W p l e R s m args below meth c H locs cells slots Q (F0 m (pc + 3) ls rest)) : W p l e R s m args below meth c H locs cells slots Q (F0 m pc ls (.int (oN none) :: rest)) := lv_if_ge hx hb hdg ht (fun h => absurd h (by decide)) (fun _ => kk)
theorem zo_top {f : Nat} (kk : W p l e R s m args below meth c H locs cells slots Q (F0 m pc ls (.int (nI f) :: rest))) : W p l e R s m args below meth c H locs cells slots Q (F0 m pc ls (.int (oN (some f)) :: rest)) := kk
theorem zb_ifeq (hx : p.tables.exec = Jvm.exec) (hb : c.code = cc) {b : Bool} {off : Int} {tgt : Nat} (hdg : decode cc pc = .ok (.ifCond .eq off, 3)) (ht : (pc : Int) + off = (tgt : Int)) (kt : b = false → W p l e R s m args below meth c H locs cells slots Q (F0 m tgt ls rest)) (kf : b = true → W p l e R s m args below meth c H locs cells slots Q (F0 m (pc + 3) ls rest)) : W p l e R s m args below meth c H locs cells slots Q (F0 m pc ls (.int (bI b) :: rest)) := by
  cases b with
  | false => exact lv_if_eq hx hb hdg ht (fun _ => kt rfl) (fun h => absurd rfl h)
  | true => exact lv_if_eq hx hb hdg ht (fun h => absurd h (by decide)) (fun _ => kf rfl)
theorem zb_ifne (hx : p.tables.exec = Jvm.exec) (hb : c.code = cc) {b : Bool} {off : Int} {tgt : Nat} (hdg : decode cc pc = .ok (.ifCond .ne off, 3)) (ht : (pc : Int) + off = (tgt : Int)) (kt : b = true → W p l e R s m args below meth c H locs cells slots Q (F0 m tgt ls rest)) (kf : b = false → W p l e R s m args below meth c H locs cells slots Q (F0 m (pc + 3) ls rest)) : W p l e R s m args below meth c H locs cells slots Q (F0 m pc ls (.int (bI b) :: rest)) := by
  cases b with
  | false => exact lv_if_ne hx hb hdg ht (fun h => absurd rfl h) (fun _ => kf rfl)
  | true => exact lv_if_ne hx hb hdg ht (fun _ => kt rfl) (fun h => absurd h (by decide))
theorem zi_stn (hx : p.tables.exec = Jvm.exec) (hb : c.code = cc) {k : Fin 4} {i nL : Nat} {x : Int32} {lv : List (Nat × Value)} (hdg : decode cc pc = .ok (.istore_n k, 1)) (hi : (k : Nat) = i) (h : lv_has ls nL lv) (hn : i < nL) (kk : ∀ ls : Array Slot, lv_has ls nL (lset lv i (.int x)) → W p l e R s m args below meth c H locs cells slots Q (F0 m (pc + 1) ls rest)) : W p l e R s m args below meth c H locs cells slots Q (F0 m pc ls (.int x :: rest)) := lv_istore_n hx hb hdg hi h hn rfl kk
theorem zi_st (hx : p.tables.exec = Jvm.exec) (hb : c.code = cc) {i nL : Nat} {x : Int32} {lv : List (Nat × Value)} (hdg : decode cc pc = .ok (.istore i, 2)) (h : lv_has ls nL lv) (hn : i < nL) (kk : ∀ ls : Array Slot, lv_has ls nL (lset lv i (.int x)) → W p l e R s m args below meth c H locs cells slots Q (F0 m (pc + 2) ls rest)) : W p l e R s m args below meth c H locs cells slots Q (F0 m pc ls (.int x :: rest)) := lv_istore hx hb hdg h hn rfl kk
theorem zi_inc (hx : p.tables.exec = Jvm.exec) (hb : c.code = cc) {i nL k a : Nat} {lv : List (Nat × Value)} (hdg : decode cc pc = .ok (.iinc i 1, 3)) (h : lv_has ls nL lv) (hk : lv[k]? = some (i, .int (nI a))) (hn : i < nL) (kk : ∀ ls : Array Slot, lv_has ls nL (lset lv i (.int (nI (a + 1)))) → W p l e R s m args below meth c H locs cells slots Q (F0 m (pc + 3) ls rest)) : W p l e R s m args below meth c H locs cells slots Q (F0 m pc ls rest) := lv_iinc (v := nI (a + 1)) hx hb hdg h hk (nI_1 a) hn rfl kk
theorem zi_dec (hx : p.tables.exec = Jvm.exec) (hb : c.code = cc) {i nL k a : Nat} {lv : List (Nat × Value)} (hdg : decode cc pc = .ok (.iinc i (-1), 3)) (h : lv_has ls nL lv) (hk : lv[k]? = some (i, .int (nI (a + 1)))) (hn : i < nL) (kk : ∀ ls : Array Slot, lv_has ls nL (lset lv i (.int (nI a))) → W p l e R s m args below meth c H locs cells slots Q (F0 m (pc + 3) ls rest)) : W p l e R s m args below meth c H locs cells slots Q (F0 m pc ls rest) := lv_iinc (v := nI a) hx hb hdg h hk (pk_m1 a) hn rfl kk
end ZI
end
section
/-! the worlds of the two objects: the object and its arrays; the class numbers: 0 the component, 1 the twin -/
abbrev vCl : List vw_C := [(RX0, TX0, 13), (RX1, TX1, 10)]
def wX (ad : Nat → Nat) (cI cZ : ClassId) (Wo : Nat → Int32) (Hd : Nat → Nat) (Fr : Nat → Nat) (ft : Nat) (Tb : Nat → Option Nat) (Kt : Nat → Option Nat) (hk : Nat → Bool) (La : Nat → Int32) (He : Nat → Nat) (Co : Nat → Nat) (Iw : Nat → Int32) (Pa : Nat → Nat) (Ca : Nat → Option Nat) : va_W :=
  [(ad 0, .inr (0, [.ref (ad 1), .ref (ad 2), .ref (ad 3), .int (nI ft), .ref (ad 4), .ref (ad 5), .ref (ad 6), .ref (ad 7), .ref (ad 8), .ref (ad 9), .ref (ad 10), .ref (ad 11), .ref (ad 12)])), (ad 1, .inl (cI, 320, .inl Wo)), (ad 2, .inl (cI, 80, .inl (fun j => nI (Hd j)))), (ad 3, .inl (cI, 80, .inl (fun j => nI (Fr j)))), (ad 4, .inl (cI, 24, .inl (fun j => oN (Tb j)))), (ad 5, .inl (cI, 24, .inl (fun j => oN (Kt j)))), (ad 6, .inl (cZ, 3, .inl (fun j => bI (hk j)))), (ad 7, .inl (cI, 3, .inl La)), (ad 8, .inl (cI, 3, .inl (fun j => nI (He j)))), (ad 9, .inl (cI, 3, .inl (fun j => nI (Co j)))), (ad 10, .inl (cI, 9, .inl Iw)), (ad 11, .inl (cI, 9, .inl (fun j => nI (Pa j)))), (ad 12, .inl (cI, 27, .inl (fun j => oN (Ca j))))]
def wM (ad : Nat → Nat) (cI cZ : ClassId) (Pg : Nat → Bool) (Wd : Nat → Int32) (Ls : Nat → Int32) (Kp : Nat → Bool) (KPg : Nat → Bool) (KWd : Nat → Int32) (Ms : Nat → Nat) (Il : Nat → Int32) (Cn : Nat → Nat) (Sn : Nat → Int32) : va_W :=
  [(ad 0, .inr (1, [.ref (ad 1), .ref (ad 2), .ref (ad 3), .ref (ad 4), .ref (ad 5), .ref (ad 6), .ref (ad 7), .ref (ad 8), .ref (ad 9), .ref (ad 10)])), (ad 1, .inl (cZ, 24, .inl (fun j => bI (Pg j)))), (ad 2, .inl (cI, 96, .inl Wd)), (ad 3, .inl (cI, 3, .inl Ls)), (ad 4, .inl (cZ, 3, .inl (fun j => bI (Kp j)))), (ad 5, .inl (cZ, 24, .inl (fun j => bI (KPg j)))), (ad 6, .inl (cI, 96, .inl KWd)), (ad 7, .inl (cI, 3, .inl (fun j => nI (Ms j)))), (ad 8, .inl (cI, 9, .inl Il)), (ad 9, .inl (cI, 9, .inl (fun j => nI (Cn j)))), (ad 10, .inl (cI, 108, .inl Sn))]
abbrev tIZ (cI cZ : ClassId) : List (ClassId × FieldType) := [(cI, .int), (cZ, .boolean)]
section ZX
variable {p : Program} {l : Launch} {e : Env} {R : Room} {s : State} {m : MethodId} {args : Array Value} {below : List Frame} {meth : Method} {c : Code} {H : Heap} {locs : List Loc} {cells slots : Nat} {Q : State → Prop}
variable {cc : ByteArray} {pc : Nat} {ls : Array Slot} {rest : List Value}
variable {D : va_G} {A : Nat → Prop} {H0 : Heap} {ad : Nat → Nat} {cI cZ : ClassId}
variable {Wo : Nat → Int32} {Hd : Nat → Nat} {Fr : Nat → Nat} {ft : Nat} {Tb : Nat → Option Nat} {Kt : Nat → Option Nat} {hk : Nat → Bool} {La : Nat → Int32} {He : Nat → Nat} {Co : Nat → Nat} {Iw : Nat → Int32} {Pa : Nat → Nat} {Ca : Nat → Option Nat}
variable {Pg : Nat → Bool} {Wd : Nat → Int32} {Ls : Nat → Int32} {Kp : Nat → Bool} {KPg : Nat → Bool} {KWd : Nat → Int32} {Ms : Nat → Nat} {Il : Nat → Int32} {Cn : Nat → Nat} {Sn : Nat → Int32}
theorem gX_Wo (hx : p.tables.exec = Jvm.exec) (hb : c.code = cc) (hts : ∀ w ∈ lw_all, w.before args s = true) (hown : s.vm.findClass RX0 = some m.cls) (hK : va_K D vCl (tIZ cI cZ) s) (hP : va_P D vCl (wX ad cI cZ Wo Hd Fr ft Tb Kt hk La He Co Iw Pa Ca) H) (hdg : decode cc pc = .ok (.getfield 7, 3)) (kk : W p l e R s m args below meth c H locs cells slots Q (F0 m (pc + 3) ls (.ref (ad 1) :: rest))) : W p l e R s m args below meth c H locs cells slots Q (F0 m pc ls (.ref (ad 0) :: rest)) :=
  va_get (D := D) (ci := 0) (v := .ref (ad 1)) (C := RX0) (T := TX0) (N := 13) hx hb hts in_X0 hown hK hP 0 rfl rfl 0 (by decide) (hts _ q22) (fun _ h9 => h9) rfl hdg kk
theorem gX_Hd (hx : p.tables.exec = Jvm.exec) (hb : c.code = cc) (hts : ∀ w ∈ lw_all, w.before args s = true) (hown : s.vm.findClass RX0 = some m.cls) (hK : va_K D vCl (tIZ cI cZ) s) (hP : va_P D vCl (wX ad cI cZ Wo Hd Fr ft Tb Kt hk La He Co Iw Pa Ca) H) (hdg : decode cc pc = .ok (.getfield 13, 3)) (kk : W p l e R s m args below meth c H locs cells slots Q (F0 m (pc + 3) ls (.ref (ad 2) :: rest))) : W p l e R s m args below meth c H locs cells slots Q (F0 m pc ls (.ref (ad 0) :: rest)) :=
  va_get (D := D) (ci := 0) (v := .ref (ad 2)) (C := RX0) (T := TX0) (N := 13) hx hb hts in_X0 hown hK hP 0 rfl rfl 1 (by decide) (hts _ q23) (fun _ h9 => h9) rfl hdg kk
theorem gX_Fr (hx : p.tables.exec = Jvm.exec) (hb : c.code = cc) (hts : ∀ w ∈ lw_all, w.before args s = true) (hown : s.vm.findClass RX0 = some m.cls) (hK : va_K D vCl (tIZ cI cZ) s) (hP : va_P D vCl (wX ad cI cZ Wo Hd Fr ft Tb Kt hk La He Co Iw Pa Ca) H) (hdg : decode cc pc = .ok (.getfield 16, 3)) (kk : W p l e R s m args below meth c H locs cells slots Q (F0 m (pc + 3) ls (.ref (ad 3) :: rest))) : W p l e R s m args below meth c H locs cells slots Q (F0 m pc ls (.ref (ad 0) :: rest)) :=
  va_get (D := D) (ci := 0) (v := .ref (ad 3)) (C := RX0) (T := TX0) (N := 13) hx hb hts in_X0 hown hK hP 0 rfl rfl 2 (by decide) (hts _ q24) (fun _ h9 => h9) rfl hdg kk
theorem gX_ft (hx : p.tables.exec = Jvm.exec) (hb : c.code = cc) (hts : ∀ w ∈ lw_all, w.before args s = true) (hown : s.vm.findClass RX0 = some m.cls) (hK : va_K D vCl (tIZ cI cZ) s) (hP : va_P D vCl (wX ad cI cZ Wo Hd Fr ft Tb Kt hk La He Co Iw Pa Ca) H) (hdg : decode cc pc = .ok (.getfield 47, 3)) (kk : W p l e R s m args below meth c H locs cells slots Q (F0 m (pc + 3) ls (.int (nI ft) :: rest))) : W p l e R s m args below meth c H locs cells slots Q (F0 m pc ls (.ref (ad 0) :: rest)) :=
  va_get (D := D) (ci := 0) (v := .int (nI ft)) (C := RX0) (T := TX0) (N := 13) hx hb hts in_X0 hown hK hP 0 rfl rfl 3 (by decide) (hts _ q25) (fun _ h9 => h9) rfl hdg kk
theorem gX_Tb (hx : p.tables.exec = Jvm.exec) (hb : c.code = cc) (hts : ∀ w ∈ lw_all, w.before args s = true) (hown : s.vm.findClass RX0 = some m.cls) (hK : va_K D vCl (tIZ cI cZ) s) (hP : va_P D vCl (wX ad cI cZ Wo Hd Fr ft Tb Kt hk La He Co Iw Pa Ca) H) (hdg : decode cc pc = .ok (.getfield 19, 3)) (kk : W p l e R s m args below meth c H locs cells slots Q (F0 m (pc + 3) ls (.ref (ad 4) :: rest))) : W p l e R s m args below meth c H locs cells slots Q (F0 m pc ls (.ref (ad 0) :: rest)) :=
  va_get (D := D) (ci := 0) (v := .ref (ad 4)) (C := RX0) (T := TX0) (N := 13) hx hb hts in_X0 hown hK hP 0 rfl rfl 4 (by decide) (hts _ q26) (fun _ h9 => h9) rfl hdg kk
theorem gX_Kt (hx : p.tables.exec = Jvm.exec) (hb : c.code = cc) (hts : ∀ w ∈ lw_all, w.before args s = true) (hown : s.vm.findClass RX0 = some m.cls) (hK : va_K D vCl (tIZ cI cZ) s) (hP : va_P D vCl (wX ad cI cZ Wo Hd Fr ft Tb Kt hk La He Co Iw Pa Ca) H) (hdg : decode cc pc = .ok (.getfield 22, 3)) (kk : W p l e R s m args below meth c H locs cells slots Q (F0 m (pc + 3) ls (.ref (ad 5) :: rest))) : W p l e R s m args below meth c H locs cells slots Q (F0 m pc ls (.ref (ad 0) :: rest)) :=
  va_get (D := D) (ci := 0) (v := .ref (ad 5)) (C := RX0) (T := TX0) (N := 13) hx hb hts in_X0 hown hK hP 0 rfl rfl 5 (by decide) (hts _ q27) (fun _ h9 => h9) rfl hdg kk
theorem gX_hk (hx : p.tables.exec = Jvm.exec) (hb : c.code = cc) (hts : ∀ w ∈ lw_all, w.before args s = true) (hown : s.vm.findClass RX0 = some m.cls) (hK : va_K D vCl (tIZ cI cZ) s) (hP : va_P D vCl (wX ad cI cZ Wo Hd Fr ft Tb Kt hk La He Co Iw Pa Ca) H) (hdg : decode cc pc = .ok (.getfield 25, 3)) (kk : W p l e R s m args below meth c H locs cells slots Q (F0 m (pc + 3) ls (.ref (ad 6) :: rest))) : W p l e R s m args below meth c H locs cells slots Q (F0 m pc ls (.ref (ad 0) :: rest)) :=
  va_get (D := D) (ci := 0) (v := .ref (ad 6)) (C := RX0) (T := TX0) (N := 13) hx hb hts in_X0 hown hK hP 0 rfl rfl 6 (by decide) (hts _ q28) (fun _ h9 => h9) rfl hdg kk
theorem gX_La (hx : p.tables.exec = Jvm.exec) (hb : c.code = cc) (hts : ∀ w ∈ lw_all, w.before args s = true) (hown : s.vm.findClass RX0 = some m.cls) (hK : va_K D vCl (tIZ cI cZ) s) (hP : va_P D vCl (wX ad cI cZ Wo Hd Fr ft Tb Kt hk La He Co Iw Pa Ca) H) (hdg : decode cc pc = .ok (.getfield 29, 3)) (kk : W p l e R s m args below meth c H locs cells slots Q (F0 m (pc + 3) ls (.ref (ad 7) :: rest))) : W p l e R s m args below meth c H locs cells slots Q (F0 m pc ls (.ref (ad 0) :: rest)) :=
  va_get (D := D) (ci := 0) (v := .ref (ad 7)) (C := RX0) (T := TX0) (N := 13) hx hb hts in_X0 hown hK hP 0 rfl rfl 7 (by decide) (hts _ q29) (fun _ h9 => h9) rfl hdg kk
theorem gX_He (hx : p.tables.exec = Jvm.exec) (hb : c.code = cc) (hts : ∀ w ∈ lw_all, w.before args s = true) (hown : s.vm.findClass RX0 = some m.cls) (hK : va_K D vCl (tIZ cI cZ) s) (hP : va_P D vCl (wX ad cI cZ Wo Hd Fr ft Tb Kt hk La He Co Iw Pa Ca) H) (hdg : decode cc pc = .ok (.getfield 32, 3)) (kk : W p l e R s m args below meth c H locs cells slots Q (F0 m (pc + 3) ls (.ref (ad 8) :: rest))) : W p l e R s m args below meth c H locs cells slots Q (F0 m pc ls (.ref (ad 0) :: rest)) :=
  va_get (D := D) (ci := 0) (v := .ref (ad 8)) (C := RX0) (T := TX0) (N := 13) hx hb hts in_X0 hown hK hP 0 rfl rfl 8 (by decide) (hts _ q30) (fun _ h9 => h9) rfl hdg kk
theorem gX_Co (hx : p.tables.exec = Jvm.exec) (hb : c.code = cc) (hts : ∀ w ∈ lw_all, w.before args s = true) (hown : s.vm.findClass RX0 = some m.cls) (hK : va_K D vCl (tIZ cI cZ) s) (hP : va_P D vCl (wX ad cI cZ Wo Hd Fr ft Tb Kt hk La He Co Iw Pa Ca) H) (hdg : decode cc pc = .ok (.getfield 35, 3)) (kk : W p l e R s m args below meth c H locs cells slots Q (F0 m (pc + 3) ls (.ref (ad 9) :: rest))) : W p l e R s m args below meth c H locs cells slots Q (F0 m pc ls (.ref (ad 0) :: rest)) :=
  va_get (D := D) (ci := 0) (v := .ref (ad 9)) (C := RX0) (T := TX0) (N := 13) hx hb hts in_X0 hown hK hP 0 rfl rfl 9 (by decide) (hts _ q31) (fun _ h9 => h9) rfl hdg kk
theorem gX_Iw (hx : p.tables.exec = Jvm.exec) (hb : c.code = cc) (hts : ∀ w ∈ lw_all, w.before args s = true) (hown : s.vm.findClass RX0 = some m.cls) (hK : va_K D vCl (tIZ cI cZ) s) (hP : va_P D vCl (wX ad cI cZ Wo Hd Fr ft Tb Kt hk La He Co Iw Pa Ca) H) (hdg : decode cc pc = .ok (.getfield 38, 3)) (kk : W p l e R s m args below meth c H locs cells slots Q (F0 m (pc + 3) ls (.ref (ad 10) :: rest))) : W p l e R s m args below meth c H locs cells slots Q (F0 m pc ls (.ref (ad 0) :: rest)) :=
  va_get (D := D) (ci := 0) (v := .ref (ad 10)) (C := RX0) (T := TX0) (N := 13) hx hb hts in_X0 hown hK hP 0 rfl rfl 10 (by decide) (hts _ q32) (fun _ h9 => h9) rfl hdg kk
theorem gX_Pa (hx : p.tables.exec = Jvm.exec) (hb : c.code = cc) (hts : ∀ w ∈ lw_all, w.before args s = true) (hown : s.vm.findClass RX0 = some m.cls) (hK : va_K D vCl (tIZ cI cZ) s) (hP : va_P D vCl (wX ad cI cZ Wo Hd Fr ft Tb Kt hk La He Co Iw Pa Ca) H) (hdg : decode cc pc = .ok (.getfield 41, 3)) (kk : W p l e R s m args below meth c H locs cells slots Q (F0 m (pc + 3) ls (.ref (ad 11) :: rest))) : W p l e R s m args below meth c H locs cells slots Q (F0 m pc ls (.ref (ad 0) :: rest)) :=
  va_get (D := D) (ci := 0) (v := .ref (ad 11)) (C := RX0) (T := TX0) (N := 13) hx hb hts in_X0 hown hK hP 0 rfl rfl 11 (by decide) (hts _ q33) (fun _ h9 => h9) rfl hdg kk
theorem gX_Ca (hx : p.tables.exec = Jvm.exec) (hb : c.code = cc) (hts : ∀ w ∈ lw_all, w.before args s = true) (hown : s.vm.findClass RX0 = some m.cls) (hK : va_K D vCl (tIZ cI cZ) s) (hP : va_P D vCl (wX ad cI cZ Wo Hd Fr ft Tb Kt hk La He Co Iw Pa Ca) H) (hdg : decode cc pc = .ok (.getfield 44, 3)) (kk : W p l e R s m args below meth c H locs cells slots Q (F0 m (pc + 3) ls (.ref (ad 12) :: rest))) : W p l e R s m args below meth c H locs cells slots Q (F0 m pc ls (.ref (ad 0) :: rest)) :=
  va_get (D := D) (ci := 0) (v := .ref (ad 12)) (C := RX0) (T := TX0) (N := 13) hx hb hts in_X0 hown hK hP 0 rfl rfl 12 (by decide) (hts _ q34) (fun _ h9 => h9) rfl hdg kk
theorem pX_ft (hx : p.tables.exec = Jvm.exec) (hb : c.code = cc) {v : Nat} (hts : ∀ w ∈ lw_all, w.before args s = true) (hown : s.vm.findClass RX0 = some m.cls) (hK : va_K D vCl (tIZ cI cZ) s) (hP : va_P D vCl (wX ad cI cZ Wo Hd Fr ft Tb Kt hk La He Co Iw Pa Ca) H) (hD : va_D A (wX ad cI cZ Wo Hd Fr ft Tb Kt hk La He Co Iw Pa Ca)) (hS : va_S A H0 H locs) (hdg : decode cc pc = .ok (.putfield 47, 3)) (kk : ∀ (H : Heap) (locs : List Loc), va_P D vCl (wX ad cI cZ Wo Hd Fr (v) Tb Kt hk La He Co Iw Pa Ca) H → va_D A (wX ad cI cZ Wo Hd Fr (v) Tb Kt hk La He Co Iw Pa Ca) → va_S A H0 H locs → W p l e R s m args below meth c H locs cells slots Q (F0 m (pc + 3) ls rest)) : W p l e R s m args below meth c H locs cells slots Q (F0 m pc ls (.int (nI v) :: .ref (ad 0) :: rest)) :=
  va_put (D := D) (ci := 0) (v := .int (nI v)) (ty := .int) (C := RX0) (T := TX0) (N := 13) hx hb hts in_X0 tyX0 tyX0_ok nmX0 hown hK hP hD hS 0 rfl rfl 3 (by decide) (hts _ q25) (fun _ h9 => h9) rfl (by decide +kernel) rfl rfl (Nat.le_of_ble_eq_true rfl) hdg (fun H1 locs1 h1 h2 h3 => kk H1 locs1 h1 h2 h3)
theorem lX_Wo (hx : p.tables.exec = Jvm.exec) (hb : c.code = cc) (hK : va_K D vCl (tIZ cI cZ) s) (hP : va_P D vCl (wX ad cI cZ Wo Hd Fr ft Tb Kt hk La He Co Iw Pa Ca) H) {k : Nat} (hk0 : k < 320) (hdg : decode cc pc = .ok (.iaload, 1)) (kk : W p l e R s m args below meth c H locs cells slots Q (F0 m (pc + 1) ls (.int (Wo k) :: rest))) : W p l e R s m args below meth c H locs cells slots Q (F0 m pc ls (.int (nI k) :: .ref (ad 1) :: rest)) := by
  refine va_iald (f := Wo) (n := 320) (cA := cI) hx hb hK hP 1 0 rfl rfl (vp_in_nI hk0 (by decide)) hdg ?_
  rw [nI_clamp (n := k) (by omega)]
  exact kk
theorem sX_Wo (hx : p.tables.exec = Jvm.exec) (hb : c.code = cc) (hK : va_K D vCl (tIZ cI cZ) s) (hP : va_P D vCl (wX ad cI cZ Wo Hd Fr ft Tb Kt hk La He Co Iw Pa Ca) H) (hD : va_D A (wX ad cI cZ Wo Hd Fr ft Tb Kt hk La He Co Iw Pa Ca)) (hS : va_S A H0 H locs) {k : Nat} {v : Int32} (hk0 : k < 320) (hdg : decode cc pc = .ok (.iastore, 1)) (kk : ∀ (H : Heap) (locs : List Loc), va_P D vCl (wX ad cI cZ (va_up Wo k v) Hd Fr ft Tb Kt hk La He Co Iw Pa Ca) H → va_D A (wX ad cI cZ (va_up Wo k v) Hd Fr ft Tb Kt hk La He Co Iw Pa Ca) → va_S A H0 H locs → W p l e R s m args below meth c H locs cells slots Q (F0 m (pc + 1) ls rest)) : W p l e R s m args below meth c H locs cells slots Q (F0 m pc ls (.int (v) :: .int (nI k) :: .ref (ad 1) :: rest)) := by
  refine va_iast (f := Wo) (n := 320) (cA := cI) hx hb hK hP hD hS 1 0 rfl rfl (vp_in_nI hk0 (by decide)) hdg (fun H1 locs1 h1 h2 h3 => ?_)
  rw [nI_clamp (n := k) (by omega), up_id] at h1 h2
  exact kk H1 locs1 h1 h2 h3
theorem lX_Hd (hx : p.tables.exec = Jvm.exec) (hb : c.code = cc) (hK : va_K D vCl (tIZ cI cZ) s) (hP : va_P D vCl (wX ad cI cZ Wo Hd Fr ft Tb Kt hk La He Co Iw Pa Ca) H) {k : Nat} (hk0 : k < 80) (hdg : decode cc pc = .ok (.iaload, 1)) (kk : W p l e R s m args below meth c H locs cells slots Q (F0 m (pc + 1) ls (.int (nI (Hd k)) :: rest))) : W p l e R s m args below meth c H locs cells slots Q (F0 m pc ls (.int (nI k) :: .ref (ad 2) :: rest)) := by
  refine va_iald (f := (fun j => nI (Hd j))) (n := 80) (cA := cI) hx hb hK hP 2 0 rfl rfl (vp_in_nI hk0 (by decide)) hdg ?_
  rw [nI_clamp (n := k) (by omega)]
  exact kk
theorem sX_Hd (hx : p.tables.exec = Jvm.exec) (hb : c.code = cc) (hK : va_K D vCl (tIZ cI cZ) s) (hP : va_P D vCl (wX ad cI cZ Wo Hd Fr ft Tb Kt hk La He Co Iw Pa Ca) H) (hD : va_D A (wX ad cI cZ Wo Hd Fr ft Tb Kt hk La He Co Iw Pa Ca)) (hS : va_S A H0 H locs) {k : Nat} {v : Nat} (hk0 : k < 80) (hdg : decode cc pc = .ok (.iastore, 1)) (kk : ∀ (H : Heap) (locs : List Loc), va_P D vCl (wX ad cI cZ Wo (va_up Hd k v) Fr ft Tb Kt hk La He Co Iw Pa Ca) H → va_D A (wX ad cI cZ Wo (va_up Hd k v) Fr ft Tb Kt hk La He Co Iw Pa Ca) → va_S A H0 H locs → W p l e R s m args below meth c H locs cells slots Q (F0 m (pc + 1) ls rest)) : W p l e R s m args below meth c H locs cells slots Q (F0 m pc ls (.int (nI v) :: .int (nI k) :: .ref (ad 2) :: rest)) := by
  refine va_iast (f := (fun j => nI (Hd j))) (n := 80) (cA := cI) hx hb hK hP hD hS 2 0 rfl rfl (vp_in_nI hk0 (by decide)) hdg (fun H1 locs1 h1 h2 h3 => ?_)
  rw [nI_clamp (n := k) (by omega), up_nI] at h1 h2
  exact kk H1 locs1 h1 h2 h3
theorem lX_Fr (hx : p.tables.exec = Jvm.exec) (hb : c.code = cc) (hK : va_K D vCl (tIZ cI cZ) s) (hP : va_P D vCl (wX ad cI cZ Wo Hd Fr ft Tb Kt hk La He Co Iw Pa Ca) H) {k : Nat} (hk0 : k < 80) (hdg : decode cc pc = .ok (.iaload, 1)) (kk : W p l e R s m args below meth c H locs cells slots Q (F0 m (pc + 1) ls (.int (nI (Fr k)) :: rest))) : W p l e R s m args below meth c H locs cells slots Q (F0 m pc ls (.int (nI k) :: .ref (ad 3) :: rest)) := by
  refine va_iald (f := (fun j => nI (Fr j))) (n := 80) (cA := cI) hx hb hK hP 3 0 rfl rfl (vp_in_nI hk0 (by decide)) hdg ?_
  rw [nI_clamp (n := k) (by omega)]
  exact kk
theorem sX_Fr (hx : p.tables.exec = Jvm.exec) (hb : c.code = cc) (hK : va_K D vCl (tIZ cI cZ) s) (hP : va_P D vCl (wX ad cI cZ Wo Hd Fr ft Tb Kt hk La He Co Iw Pa Ca) H) (hD : va_D A (wX ad cI cZ Wo Hd Fr ft Tb Kt hk La He Co Iw Pa Ca)) (hS : va_S A H0 H locs) {k : Nat} {v : Nat} (hk0 : k < 80) (hdg : decode cc pc = .ok (.iastore, 1)) (kk : ∀ (H : Heap) (locs : List Loc), va_P D vCl (wX ad cI cZ Wo Hd (va_up Fr k v) ft Tb Kt hk La He Co Iw Pa Ca) H → va_D A (wX ad cI cZ Wo Hd (va_up Fr k v) ft Tb Kt hk La He Co Iw Pa Ca) → va_S A H0 H locs → W p l e R s m args below meth c H locs cells slots Q (F0 m (pc + 1) ls rest)) : W p l e R s m args below meth c H locs cells slots Q (F0 m pc ls (.int (nI v) :: .int (nI k) :: .ref (ad 3) :: rest)) := by
  refine va_iast (f := (fun j => nI (Fr j))) (n := 80) (cA := cI) hx hb hK hP hD hS 3 0 rfl rfl (vp_in_nI hk0 (by decide)) hdg (fun H1 locs1 h1 h2 h3 => ?_)
  rw [nI_clamp (n := k) (by omega), up_nI] at h1 h2
  exact kk H1 locs1 h1 h2 h3
theorem lX_Tb (hx : p.tables.exec = Jvm.exec) (hb : c.code = cc) (hK : va_K D vCl (tIZ cI cZ) s) (hP : va_P D vCl (wX ad cI cZ Wo Hd Fr ft Tb Kt hk La He Co Iw Pa Ca) H) {k : Nat} (hk0 : k < 24) (hdg : decode cc pc = .ok (.iaload, 1)) (kk : W p l e R s m args below meth c H locs cells slots Q (F0 m (pc + 1) ls (.int (oN (Tb k)) :: rest))) : W p l e R s m args below meth c H locs cells slots Q (F0 m pc ls (.int (nI k) :: .ref (ad 4) :: rest)) := by
  refine va_iald (f := (fun j => oN (Tb j))) (n := 24) (cA := cI) hx hb hK hP 4 0 rfl rfl (vp_in_nI hk0 (by decide)) hdg ?_
  rw [nI_clamp (n := k) (by omega)]
  exact kk
theorem sX_Tb (hx : p.tables.exec = Jvm.exec) (hb : c.code = cc) (hK : va_K D vCl (tIZ cI cZ) s) (hP : va_P D vCl (wX ad cI cZ Wo Hd Fr ft Tb Kt hk La He Co Iw Pa Ca) H) (hD : va_D A (wX ad cI cZ Wo Hd Fr ft Tb Kt hk La He Co Iw Pa Ca)) (hS : va_S A H0 H locs) {k : Nat} {v : Option Nat} (hk0 : k < 24) (hdg : decode cc pc = .ok (.iastore, 1)) (kk : ∀ (H : Heap) (locs : List Loc), va_P D vCl (wX ad cI cZ Wo Hd Fr ft (va_up Tb k v) Kt hk La He Co Iw Pa Ca) H → va_D A (wX ad cI cZ Wo Hd Fr ft (va_up Tb k v) Kt hk La He Co Iw Pa Ca) → va_S A H0 H locs → W p l e R s m args below meth c H locs cells slots Q (F0 m (pc + 1) ls rest)) : W p l e R s m args below meth c H locs cells slots Q (F0 m pc ls (.int (oN v) :: .int (nI k) :: .ref (ad 4) :: rest)) := by
  refine va_iast (f := (fun j => oN (Tb j))) (n := 24) (cA := cI) hx hb hK hP hD hS 4 0 rfl rfl (vp_in_nI hk0 (by decide)) hdg (fun H1 locs1 h1 h2 h3 => ?_)
  rw [nI_clamp (n := k) (by omega), up_oN] at h1 h2
  exact kk H1 locs1 h1 h2 h3
theorem lX_Kt (hx : p.tables.exec = Jvm.exec) (hb : c.code = cc) (hK : va_K D vCl (tIZ cI cZ) s) (hP : va_P D vCl (wX ad cI cZ Wo Hd Fr ft Tb Kt hk La He Co Iw Pa Ca) H) {k : Nat} (hk0 : k < 24) (hdg : decode cc pc = .ok (.iaload, 1)) (kk : W p l e R s m args below meth c H locs cells slots Q (F0 m (pc + 1) ls (.int (oN (Kt k)) :: rest))) : W p l e R s m args below meth c H locs cells slots Q (F0 m pc ls (.int (nI k) :: .ref (ad 5) :: rest)) := by
  refine va_iald (f := (fun j => oN (Kt j))) (n := 24) (cA := cI) hx hb hK hP 5 0 rfl rfl (vp_in_nI hk0 (by decide)) hdg ?_
  rw [nI_clamp (n := k) (by omega)]
  exact kk
theorem sX_Kt (hx : p.tables.exec = Jvm.exec) (hb : c.code = cc) (hK : va_K D vCl (tIZ cI cZ) s) (hP : va_P D vCl (wX ad cI cZ Wo Hd Fr ft Tb Kt hk La He Co Iw Pa Ca) H) (hD : va_D A (wX ad cI cZ Wo Hd Fr ft Tb Kt hk La He Co Iw Pa Ca)) (hS : va_S A H0 H locs) {k : Nat} {v : Option Nat} (hk0 : k < 24) (hdg : decode cc pc = .ok (.iastore, 1)) (kk : ∀ (H : Heap) (locs : List Loc), va_P D vCl (wX ad cI cZ Wo Hd Fr ft Tb (va_up Kt k v) hk La He Co Iw Pa Ca) H → va_D A (wX ad cI cZ Wo Hd Fr ft Tb (va_up Kt k v) hk La He Co Iw Pa Ca) → va_S A H0 H locs → W p l e R s m args below meth c H locs cells slots Q (F0 m (pc + 1) ls rest)) : W p l e R s m args below meth c H locs cells slots Q (F0 m pc ls (.int (oN v) :: .int (nI k) :: .ref (ad 5) :: rest)) := by
  refine va_iast (f := (fun j => oN (Kt j))) (n := 24) (cA := cI) hx hb hK hP hD hS 5 0 rfl rfl (vp_in_nI hk0 (by decide)) hdg (fun H1 locs1 h1 h2 h3 => ?_)
  rw [nI_clamp (n := k) (by omega), up_oN] at h1 h2
  exact kk H1 locs1 h1 h2 h3
theorem lX_hk (hx : p.tables.exec = Jvm.exec) (hb : c.code = cc) (hK : va_K D vCl (tIZ cI cZ) s) (hP : va_P D vCl (wX ad cI cZ Wo Hd Fr ft Tb Kt hk La He Co Iw Pa Ca) H) {k : Nat} (hk0 : k < 3) (hdg : decode cc pc = .ok (.baload, 1)) (kk : W p l e R s m args below meth c H locs cells slots Q (F0 m (pc + 1) ls (.int (bI (hk k)) :: rest))) : W p l e R s m args below meth c H locs cells slots Q (F0 m pc ls (.int (nI k) :: .ref (ad 6) :: rest)) := by
  refine va_zald (f := (fun j => bI (hk j))) (n := 3) (cA := cZ) hx hb hK hP 6 1 rfl rfl (vp_in_nI hk0 (by decide)) hdg ?_
  rw [nI_clamp (n := k) (by omega)]
  exact kk
theorem sX_hk (hx : p.tables.exec = Jvm.exec) (hb : c.code = cc) (hK : va_K D vCl (tIZ cI cZ) s) (hP : va_P D vCl (wX ad cI cZ Wo Hd Fr ft Tb Kt hk La He Co Iw Pa Ca) H) (hD : va_D A (wX ad cI cZ Wo Hd Fr ft Tb Kt hk La He Co Iw Pa Ca)) (hS : va_S A H0 H locs) {k : Nat} {v : Bool} (hk0 : k < 3) (hdg : decode cc pc = .ok (.bastore, 1)) (kk : ∀ (H : Heap) (locs : List Loc), va_P D vCl (wX ad cI cZ Wo Hd Fr ft Tb Kt (va_up hk k v) La He Co Iw Pa Ca) H → va_D A (wX ad cI cZ Wo Hd Fr ft Tb Kt (va_up hk k v) La He Co Iw Pa Ca) → va_S A H0 H locs → W p l e R s m args below meth c H locs cells slots Q (F0 m (pc + 1) ls rest)) : W p l e R s m args below meth c H locs cells slots Q (F0 m pc ls (.int (bI v) :: .int (nI k) :: .ref (ad 6) :: rest)) := by
  refine va_zast (f := (fun j => bI (hk j))) (n := 3) (cA := cZ) hx hb hK hP hD hS 6 1 rfl rfl (vp_in_nI hk0 (by decide)) hdg (fun H1 locs1 h1 h2 h3 => ?_)
  rw [nI_clamp (n := k) (by omega), nar_bI, up_bI] at h1 h2
  exact kk H1 locs1 h1 h2 h3
theorem lX_La (hx : p.tables.exec = Jvm.exec) (hb : c.code = cc) (hK : va_K D vCl (tIZ cI cZ) s) (hP : va_P D vCl (wX ad cI cZ Wo Hd Fr ft Tb Kt hk La He Co Iw Pa Ca) H) {k : Nat} (hk0 : k < 3) (hdg : decode cc pc = .ok (.iaload, 1)) (kk : W p l e R s m args below meth c H locs cells slots Q (F0 m (pc + 1) ls (.int (La k) :: rest))) : W p l e R s m args below meth c H locs cells slots Q (F0 m pc ls (.int (nI k) :: .ref (ad 7) :: rest)) := by
  refine va_iald (f := La) (n := 3) (cA := cI) hx hb hK hP 7 0 rfl rfl (vp_in_nI hk0 (by decide)) hdg ?_
  rw [nI_clamp (n := k) (by omega)]
  exact kk
theorem sX_La (hx : p.tables.exec = Jvm.exec) (hb : c.code = cc) (hK : va_K D vCl (tIZ cI cZ) s) (hP : va_P D vCl (wX ad cI cZ Wo Hd Fr ft Tb Kt hk La He Co Iw Pa Ca) H) (hD : va_D A (wX ad cI cZ Wo Hd Fr ft Tb Kt hk La He Co Iw Pa Ca)) (hS : va_S A H0 H locs) {k : Nat} {v : Int32} (hk0 : k < 3) (hdg : decode cc pc = .ok (.iastore, 1)) (kk : ∀ (H : Heap) (locs : List Loc), va_P D vCl (wX ad cI cZ Wo Hd Fr ft Tb Kt hk (va_up La k v) He Co Iw Pa Ca) H → va_D A (wX ad cI cZ Wo Hd Fr ft Tb Kt hk (va_up La k v) He Co Iw Pa Ca) → va_S A H0 H locs → W p l e R s m args below meth c H locs cells slots Q (F0 m (pc + 1) ls rest)) : W p l e R s m args below meth c H locs cells slots Q (F0 m pc ls (.int (v) :: .int (nI k) :: .ref (ad 7) :: rest)) := by
  refine va_iast (f := La) (n := 3) (cA := cI) hx hb hK hP hD hS 7 0 rfl rfl (vp_in_nI hk0 (by decide)) hdg (fun H1 locs1 h1 h2 h3 => ?_)
  rw [nI_clamp (n := k) (by omega), up_id] at h1 h2
  exact kk H1 locs1 h1 h2 h3
theorem lX_He (hx : p.tables.exec = Jvm.exec) (hb : c.code = cc) (hK : va_K D vCl (tIZ cI cZ) s) (hP : va_P D vCl (wX ad cI cZ Wo Hd Fr ft Tb Kt hk La He Co Iw Pa Ca) H) {k : Nat} (hk0 : k < 3) (hdg : decode cc pc = .ok (.iaload, 1)) (kk : W p l e R s m args below meth c H locs cells slots Q (F0 m (pc + 1) ls (.int (nI (He k)) :: rest))) : W p l e R s m args below meth c H locs cells slots Q (F0 m pc ls (.int (nI k) :: .ref (ad 8) :: rest)) := by
  refine va_iald (f := (fun j => nI (He j))) (n := 3) (cA := cI) hx hb hK hP 8 0 rfl rfl (vp_in_nI hk0 (by decide)) hdg ?_
  rw [nI_clamp (n := k) (by omega)]
  exact kk
theorem sX_He (hx : p.tables.exec = Jvm.exec) (hb : c.code = cc) (hK : va_K D vCl (tIZ cI cZ) s) (hP : va_P D vCl (wX ad cI cZ Wo Hd Fr ft Tb Kt hk La He Co Iw Pa Ca) H) (hD : va_D A (wX ad cI cZ Wo Hd Fr ft Tb Kt hk La He Co Iw Pa Ca)) (hS : va_S A H0 H locs) {k : Nat} {v : Nat} (hk0 : k < 3) (hdg : decode cc pc = .ok (.iastore, 1)) (kk : ∀ (H : Heap) (locs : List Loc), va_P D vCl (wX ad cI cZ Wo Hd Fr ft Tb Kt hk La (va_up He k v) Co Iw Pa Ca) H → va_D A (wX ad cI cZ Wo Hd Fr ft Tb Kt hk La (va_up He k v) Co Iw Pa Ca) → va_S A H0 H locs → W p l e R s m args below meth c H locs cells slots Q (F0 m (pc + 1) ls rest)) : W p l e R s m args below meth c H locs cells slots Q (F0 m pc ls (.int (nI v) :: .int (nI k) :: .ref (ad 8) :: rest)) := by
  refine va_iast (f := (fun j => nI (He j))) (n := 3) (cA := cI) hx hb hK hP hD hS 8 0 rfl rfl (vp_in_nI hk0 (by decide)) hdg (fun H1 locs1 h1 h2 h3 => ?_)
  rw [nI_clamp (n := k) (by omega), up_nI] at h1 h2
  exact kk H1 locs1 h1 h2 h3
theorem lX_Co (hx : p.tables.exec = Jvm.exec) (hb : c.code = cc) (hK : va_K D vCl (tIZ cI cZ) s) (hP : va_P D vCl (wX ad cI cZ Wo Hd Fr ft Tb Kt hk La He Co Iw Pa Ca) H) {k : Nat} (hk0 : k < 3) (hdg : decode cc pc = .ok (.iaload, 1)) (kk : W p l e R s m args below meth c H locs cells slots Q (F0 m (pc + 1) ls (.int (nI (Co k)) :: rest))) : W p l e R s m args below meth c H locs cells slots Q (F0 m pc ls (.int (nI k) :: .ref (ad 9) :: rest)) := by
  refine va_iald (f := (fun j => nI (Co j))) (n := 3) (cA := cI) hx hb hK hP 9 0 rfl rfl (vp_in_nI hk0 (by decide)) hdg ?_
  rw [nI_clamp (n := k) (by omega)]
  exact kk
theorem sX_Co (hx : p.tables.exec = Jvm.exec) (hb : c.code = cc) (hK : va_K D vCl (tIZ cI cZ) s) (hP : va_P D vCl (wX ad cI cZ Wo Hd Fr ft Tb Kt hk La He Co Iw Pa Ca) H) (hD : va_D A (wX ad cI cZ Wo Hd Fr ft Tb Kt hk La He Co Iw Pa Ca)) (hS : va_S A H0 H locs) {k : Nat} {v : Nat} (hk0 : k < 3) (hdg : decode cc pc = .ok (.iastore, 1)) (kk : ∀ (H : Heap) (locs : List Loc), va_P D vCl (wX ad cI cZ Wo Hd Fr ft Tb Kt hk La He (va_up Co k v) Iw Pa Ca) H → va_D A (wX ad cI cZ Wo Hd Fr ft Tb Kt hk La He (va_up Co k v) Iw Pa Ca) → va_S A H0 H locs → W p l e R s m args below meth c H locs cells slots Q (F0 m (pc + 1) ls rest)) : W p l e R s m args below meth c H locs cells slots Q (F0 m pc ls (.int (nI v) :: .int (nI k) :: .ref (ad 9) :: rest)) := by
  refine va_iast (f := (fun j => nI (Co j))) (n := 3) (cA := cI) hx hb hK hP hD hS 9 0 rfl rfl (vp_in_nI hk0 (by decide)) hdg (fun H1 locs1 h1 h2 h3 => ?_)
  rw [nI_clamp (n := k) (by omega), up_nI] at h1 h2
  exact kk H1 locs1 h1 h2 h3
theorem lX_Iw (hx : p.tables.exec = Jvm.exec) (hb : c.code = cc) (hK : va_K D vCl (tIZ cI cZ) s) (hP : va_P D vCl (wX ad cI cZ Wo Hd Fr ft Tb Kt hk La He Co Iw Pa Ca) H) {k : Nat} (hk0 : k < 9) (hdg : decode cc pc = .ok (.iaload, 1)) (kk : W p l e R s m args below meth c H locs cells slots Q (F0 m (pc + 1) ls (.int (Iw k) :: rest))) : W p l e R s m args below meth c H locs cells slots Q (F0 m pc ls (.int (nI k) :: .ref (ad 10) :: rest)) := by
  refine va_iald (f := Iw) (n := 9) (cA := cI) hx hb hK hP 10 0 rfl rfl (vp_in_nI hk0 (by decide)) hdg ?_
  rw [nI_clamp (n := k) (by omega)]
  exact kk
theorem sX_Iw (hx : p.tables.exec = Jvm.exec) (hb : c.code = cc) (hK : va_K D vCl (tIZ cI cZ) s) (hP : va_P D vCl (wX ad cI cZ Wo Hd Fr ft Tb Kt hk La He Co Iw Pa Ca) H) (hD : va_D A (wX ad cI cZ Wo Hd Fr ft Tb Kt hk La He Co Iw Pa Ca)) (hS : va_S A H0 H locs) {k : Nat} {v : Int32} (hk0 : k < 9) (hdg : decode cc pc = .ok (.iastore, 1)) (kk : ∀ (H : Heap) (locs : List Loc), va_P D vCl (wX ad cI cZ Wo Hd Fr ft Tb Kt hk La He Co (va_up Iw k v) Pa Ca) H → va_D A (wX ad cI cZ Wo Hd Fr ft Tb Kt hk La He Co (va_up Iw k v) Pa Ca) → va_S A H0 H locs → W p l e R s m args below meth c H locs cells slots Q (F0 m (pc + 1) ls rest)) : W p l e R s m args below meth c H locs cells slots Q (F0 m pc ls (.int (v) :: .int (nI k) :: .ref (ad 10) :: rest)) := by
  refine va_iast (f := Iw) (n := 9) (cA := cI) hx hb hK hP hD hS 10 0 rfl rfl (vp_in_nI hk0 (by decide)) hdg (fun H1 locs1 h1 h2 h3 => ?_)
  rw [nI_clamp (n := k) (by omega), up_id] at h1 h2
  exact kk H1 locs1 h1 h2 h3
theorem lX_Pa (hx : p.tables.exec = Jvm.exec) (hb : c.code = cc) (hK : va_K D vCl (tIZ cI cZ) s) (hP : va_P D vCl (wX ad cI cZ Wo Hd Fr ft Tb Kt hk La He Co Iw Pa Ca) H) {k : Nat} (hk0 : k < 9) (hdg : decode cc pc = .ok (.iaload, 1)) (kk : W p l e R s m args below meth c H locs cells slots Q (F0 m (pc + 1) ls (.int (nI (Pa k)) :: rest))) : W p l e R s m args below meth c H locs cells slots Q (F0 m pc ls (.int (nI k) :: .ref (ad 11) :: rest)) := by
  refine va_iald (f := (fun j => nI (Pa j))) (n := 9) (cA := cI) hx hb hK hP 11 0 rfl rfl (vp_in_nI hk0 (by decide)) hdg ?_
  rw [nI_clamp (n := k) (by omega)]
  exact kk
theorem sX_Pa (hx : p.tables.exec = Jvm.exec) (hb : c.code = cc) (hK : va_K D vCl (tIZ cI cZ) s) (hP : va_P D vCl (wX ad cI cZ Wo Hd Fr ft Tb Kt hk La He Co Iw Pa Ca) H) (hD : va_D A (wX ad cI cZ Wo Hd Fr ft Tb Kt hk La He Co Iw Pa Ca)) (hS : va_S A H0 H locs) {k : Nat} {v : Nat} (hk0 : k < 9) (hdg : decode cc pc = .ok (.iastore, 1)) (kk : ∀ (H : Heap) (locs : List Loc), va_P D vCl (wX ad cI cZ Wo Hd Fr ft Tb Kt hk La He Co Iw (va_up Pa k v) Ca) H → va_D A (wX ad cI cZ Wo Hd Fr ft Tb Kt hk La He Co Iw (va_up Pa k v) Ca) → va_S A H0 H locs → W p l e R s m args below meth c H locs cells slots Q (F0 m (pc + 1) ls rest)) : W p l e R s m args below meth c H locs cells slots Q (F0 m pc ls (.int (nI v) :: .int (nI k) :: .ref (ad 11) :: rest)) := by
  refine va_iast (f := (fun j => nI (Pa j))) (n := 9) (cA := cI) hx hb hK hP hD hS 11 0 rfl rfl (vp_in_nI hk0 (by decide)) hdg (fun H1 locs1 h1 h2 h3 => ?_)
  rw [nI_clamp (n := k) (by omega), up_nI] at h1 h2
  exact kk H1 locs1 h1 h2 h3
theorem lX_Ca (hx : p.tables.exec = Jvm.exec) (hb : c.code = cc) (hK : va_K D vCl (tIZ cI cZ) s) (hP : va_P D vCl (wX ad cI cZ Wo Hd Fr ft Tb Kt hk La He Co Iw Pa Ca) H) {k : Nat} (hk0 : k < 27) (hdg : decode cc pc = .ok (.iaload, 1)) (kk : W p l e R s m args below meth c H locs cells slots Q (F0 m (pc + 1) ls (.int (oN (Ca k)) :: rest))) : W p l e R s m args below meth c H locs cells slots Q (F0 m pc ls (.int (nI k) :: .ref (ad 12) :: rest)) := by
  refine va_iald (f := (fun j => oN (Ca j))) (n := 27) (cA := cI) hx hb hK hP 12 0 rfl rfl (vp_in_nI hk0 (by decide)) hdg ?_
  rw [nI_clamp (n := k) (by omega)]
  exact kk
theorem sX_Ca (hx : p.tables.exec = Jvm.exec) (hb : c.code = cc) (hK : va_K D vCl (tIZ cI cZ) s) (hP : va_P D vCl (wX ad cI cZ Wo Hd Fr ft Tb Kt hk La He Co Iw Pa Ca) H) (hD : va_D A (wX ad cI cZ Wo Hd Fr ft Tb Kt hk La He Co Iw Pa Ca)) (hS : va_S A H0 H locs) {k : Nat} {v : Option Nat} (hk0 : k < 27) (hdg : decode cc pc = .ok (.iastore, 1)) (kk : ∀ (H : Heap) (locs : List Loc), va_P D vCl (wX ad cI cZ Wo Hd Fr ft Tb Kt hk La He Co Iw Pa (va_up Ca k v)) H → va_D A (wX ad cI cZ Wo Hd Fr ft Tb Kt hk La He Co Iw Pa (va_up Ca k v)) → va_S A H0 H locs → W p l e R s m args below meth c H locs cells slots Q (F0 m (pc + 1) ls rest)) : W p l e R s m args below meth c H locs cells slots Q (F0 m pc ls (.int (oN v) :: .int (nI k) :: .ref (ad 12) :: rest)) := by
  refine va_iast (f := (fun j => oN (Ca j))) (n := 27) (cA := cI) hx hb hK hP hD hS 12 0 rfl rfl (vp_in_nI hk0 (by decide)) hdg (fun H1 locs1 h1 h2 h3 => ?_)
  rw [nI_clamp (n := k) (by omega), up_oN] at h1 h2
  exact kk H1 locs1 h1 h2 h3
theorem gM_Pg (hx : p.tables.exec = Jvm.exec) (hb : c.code = cc) (hts : ∀ w ∈ lw_all, w.before args s = true) (hown : s.vm.findClass RX1 = some m.cls) (hK : va_K D vCl (tIZ cI cZ) s) (hP : va_P D vCl (wM ad cI cZ Pg Wd Ls Kp KPg KWd Ms Il Cn Sn) H) (hdg : decode cc pc = .ok (.getfield 7, 3)) (kk : W p l e R s m args below meth c H locs cells slots Q (F0 m (pc + 3) ls (.ref (ad 1) :: rest))) : W p l e R s m args below meth c H locs cells slots Q (F0 m pc ls (.ref (ad 0) :: rest)) :=
  va_get (D := D) (ci := 1) (v := .ref (ad 1)) (C := RX1) (T := TX1) (N := 10) hx hb hts in_X1 hown hK hP 0 rfl rfl 0 (by decide) (hts _ q160) (fun _ h9 => h9) rfl hdg kk
theorem gM_Wd (hx : p.tables.exec = Jvm.exec) (hb : c.code = cc) (hts : ∀ w ∈ lw_all, w.before args s = true) (hown : s.vm.findClass RX1 = some m.cls) (hK : va_K D vCl (tIZ cI cZ) s) (hP : va_P D vCl (wM ad cI cZ Pg Wd Ls Kp KPg KWd Ms Il Cn Sn) H) (hdg : decode cc pc = .ok (.getfield 13, 3)) (kk : W p l e R s m args below meth c H locs cells slots Q (F0 m (pc + 3) ls (.ref (ad 2) :: rest))) : W p l e R s m args below meth c H locs cells slots Q (F0 m pc ls (.ref (ad 0) :: rest)) :=
  va_get (D := D) (ci := 1) (v := .ref (ad 2)) (C := RX1) (T := TX1) (N := 10) hx hb hts in_X1 hown hK hP 0 rfl rfl 1 (by decide) (hts _ q161) (fun _ h9 => h9) rfl hdg kk
theorem gM_Ls (hx : p.tables.exec = Jvm.exec) (hb : c.code = cc) (hts : ∀ w ∈ lw_all, w.before args s = true) (hown : s.vm.findClass RX1 = some m.cls) (hK : va_K D vCl (tIZ cI cZ) s) (hP : va_P D vCl (wM ad cI cZ Pg Wd Ls Kp KPg KWd Ms Il Cn Sn) H) (hdg : decode cc pc = .ok (.getfield 17, 3)) (kk : W p l e R s m args below meth c H locs cells slots Q (F0 m (pc + 3) ls (.ref (ad 3) :: rest))) : W p l e R s m args below meth c H locs cells slots Q (F0 m pc ls (.ref (ad 0) :: rest)) :=
  va_get (D := D) (ci := 1) (v := .ref (ad 3)) (C := RX1) (T := TX1) (N := 10) hx hb hts in_X1 hown hK hP 0 rfl rfl 2 (by decide) (hts _ q162) (fun _ h9 => h9) rfl hdg kk
theorem gM_Kp (hx : p.tables.exec = Jvm.exec) (hb : c.code = cc) (hts : ∀ w ∈ lw_all, w.before args s = true) (hown : s.vm.findClass RX1 = some m.cls) (hK : va_K D vCl (tIZ cI cZ) s) (hP : va_P D vCl (wM ad cI cZ Pg Wd Ls Kp KPg KWd Ms Il Cn Sn) H) (hdg : decode cc pc = .ok (.getfield 20, 3)) (kk : W p l e R s m args below meth c H locs cells slots Q (F0 m (pc + 3) ls (.ref (ad 4) :: rest))) : W p l e R s m args below meth c H locs cells slots Q (F0 m pc ls (.ref (ad 0) :: rest)) :=
  va_get (D := D) (ci := 1) (v := .ref (ad 4)) (C := RX1) (T := TX1) (N := 10) hx hb hts in_X1 hown hK hP 0 rfl rfl 3 (by decide) (hts _ q163) (fun _ h9 => h9) rfl hdg kk
theorem gM_KPg (hx : p.tables.exec = Jvm.exec) (hb : c.code = cc) (hts : ∀ w ∈ lw_all, w.before args s = true) (hown : s.vm.findClass RX1 = some m.cls) (hK : va_K D vCl (tIZ cI cZ) s) (hP : va_P D vCl (wM ad cI cZ Pg Wd Ls Kp KPg KWd Ms Il Cn Sn) H) (hdg : decode cc pc = .ok (.getfield 23, 3)) (kk : W p l e R s m args below meth c H locs cells slots Q (F0 m (pc + 3) ls (.ref (ad 5) :: rest))) : W p l e R s m args below meth c H locs cells slots Q (F0 m pc ls (.ref (ad 0) :: rest)) :=
  va_get (D := D) (ci := 1) (v := .ref (ad 5)) (C := RX1) (T := TX1) (N := 10) hx hb hts in_X1 hown hK hP 0 rfl rfl 4 (by decide) (hts _ q164) (fun _ h9 => h9) rfl hdg kk
theorem gM_KWd (hx : p.tables.exec = Jvm.exec) (hb : c.code = cc) (hts : ∀ w ∈ lw_all, w.before args s = true) (hown : s.vm.findClass RX1 = some m.cls) (hK : va_K D vCl (tIZ cI cZ) s) (hP : va_P D vCl (wM ad cI cZ Pg Wd Ls Kp KPg KWd Ms Il Cn Sn) H) (hdg : decode cc pc = .ok (.getfield 26, 3)) (kk : W p l e R s m args below meth c H locs cells slots Q (F0 m (pc + 3) ls (.ref (ad 6) :: rest))) : W p l e R s m args below meth c H locs cells slots Q (F0 m pc ls (.ref (ad 0) :: rest)) :=
  va_get (D := D) (ci := 1) (v := .ref (ad 6)) (C := RX1) (T := TX1) (N := 10) hx hb hts in_X1 hown hK hP 0 rfl rfl 5 (by decide) (hts _ q165) (fun _ h9 => h9) rfl hdg kk
theorem gM_Ms (hx : p.tables.exec = Jvm.exec) (hb : c.code = cc) (hts : ∀ w ∈ lw_all, w.before args s = true) (hown : s.vm.findClass RX1 = some m.cls) (hK : va_K D vCl (tIZ cI cZ) s) (hP : va_P D vCl (wM ad cI cZ Pg Wd Ls Kp KPg KWd Ms Il Cn Sn) H) (hdg : decode cc pc = .ok (.getfield 29, 3)) (kk : W p l e R s m args below meth c H locs cells slots Q (F0 m (pc + 3) ls (.ref (ad 7) :: rest))) : W p l e R s m args below meth c H locs cells slots Q (F0 m pc ls (.ref (ad 0) :: rest)) :=
  va_get (D := D) (ci := 1) (v := .ref (ad 7)) (C := RX1) (T := TX1) (N := 10) hx hb hts in_X1 hown hK hP 0 rfl rfl 6 (by decide) (hts _ q166) (fun _ h9 => h9) rfl hdg kk
theorem gM_Il (hx : p.tables.exec = Jvm.exec) (hb : c.code = cc) (hts : ∀ w ∈ lw_all, w.before args s = true) (hown : s.vm.findClass RX1 = some m.cls) (hK : va_K D vCl (tIZ cI cZ) s) (hP : va_P D vCl (wM ad cI cZ Pg Wd Ls Kp KPg KWd Ms Il Cn Sn) H) (hdg : decode cc pc = .ok (.getfield 32, 3)) (kk : W p l e R s m args below meth c H locs cells slots Q (F0 m (pc + 3) ls (.ref (ad 8) :: rest))) : W p l e R s m args below meth c H locs cells slots Q (F0 m pc ls (.ref (ad 0) :: rest)) :=
  va_get (D := D) (ci := 1) (v := .ref (ad 8)) (C := RX1) (T := TX1) (N := 10) hx hb hts in_X1 hown hK hP 0 rfl rfl 7 (by decide) (hts _ q167) (fun _ h9 => h9) rfl hdg kk
theorem gM_Cn (hx : p.tables.exec = Jvm.exec) (hb : c.code = cc) (hts : ∀ w ∈ lw_all, w.before args s = true) (hown : s.vm.findClass RX1 = some m.cls) (hK : va_K D vCl (tIZ cI cZ) s) (hP : va_P D vCl (wM ad cI cZ Pg Wd Ls Kp KPg KWd Ms Il Cn Sn) H) (hdg : decode cc pc = .ok (.getfield 35, 3)) (kk : W p l e R s m args below meth c H locs cells slots Q (F0 m (pc + 3) ls (.ref (ad 9) :: rest))) : W p l e R s m args below meth c H locs cells slots Q (F0 m pc ls (.ref (ad 0) :: rest)) :=
  va_get (D := D) (ci := 1) (v := .ref (ad 9)) (C := RX1) (T := TX1) (N := 10) hx hb hts in_X1 hown hK hP 0 rfl rfl 8 (by decide) (hts _ q168) (fun _ h9 => h9) rfl hdg kk
theorem gM_Sn (hx : p.tables.exec = Jvm.exec) (hb : c.code = cc) (hts : ∀ w ∈ lw_all, w.before args s = true) (hown : s.vm.findClass RX1 = some m.cls) (hK : va_K D vCl (tIZ cI cZ) s) (hP : va_P D vCl (wM ad cI cZ Pg Wd Ls Kp KPg KWd Ms Il Cn Sn) H) (hdg : decode cc pc = .ok (.getfield 38, 3)) (kk : W p l e R s m args below meth c H locs cells slots Q (F0 m (pc + 3) ls (.ref (ad 10) :: rest))) : W p l e R s m args below meth c H locs cells slots Q (F0 m pc ls (.ref (ad 0) :: rest)) :=
  va_get (D := D) (ci := 1) (v := .ref (ad 10)) (C := RX1) (T := TX1) (N := 10) hx hb hts in_X1 hown hK hP 0 rfl rfl 9 (by decide) (hts _ q169) (fun _ h9 => h9) rfl hdg kk
theorem lM_Pg (hx : p.tables.exec = Jvm.exec) (hb : c.code = cc) (hK : va_K D vCl (tIZ cI cZ) s) (hP : va_P D vCl (wM ad cI cZ Pg Wd Ls Kp KPg KWd Ms Il Cn Sn) H) {k : Nat} (hk0 : k < 24) (hdg : decode cc pc = .ok (.baload, 1)) (kk : W p l e R s m args below meth c H locs cells slots Q (F0 m (pc + 1) ls (.int (bI (Pg k)) :: rest))) : W p l e R s m args below meth c H locs cells slots Q (F0 m pc ls (.int (nI k) :: .ref (ad 1) :: rest)) := by
  refine va_zald (f := (fun j => bI (Pg j))) (n := 24) (cA := cZ) hx hb hK hP 1 1 rfl rfl (vp_in_nI hk0 (by decide)) hdg ?_
  rw [nI_clamp (n := k) (by omega)]
  exact kk
theorem sM_Pg (hx : p.tables.exec = Jvm.exec) (hb : c.code = cc) (hK : va_K D vCl (tIZ cI cZ) s) (hP : va_P D vCl (wM ad cI cZ Pg Wd Ls Kp KPg KWd Ms Il Cn Sn) H) (hD : va_D A (wM ad cI cZ Pg Wd Ls Kp KPg KWd Ms Il Cn Sn)) (hS : va_S A H0 H locs) {k : Nat} {v : Bool} (hk0 : k < 24) (hdg : decode cc pc = .ok (.bastore, 1)) (kk : ∀ (H : Heap) (locs : List Loc), va_P D vCl (wM ad cI cZ (va_up Pg k v) Wd Ls Kp KPg KWd Ms Il Cn Sn) H → va_D A (wM ad cI cZ (va_up Pg k v) Wd Ls Kp KPg KWd Ms Il Cn Sn) → va_S A H0 H locs → W p l e R s m args below meth c H locs cells slots Q (F0 m (pc + 1) ls rest)) : W p l e R s m args below meth c H locs cells slots Q (F0 m pc ls (.int (bI v) :: .int (nI k) :: .ref (ad 1) :: rest)) := by
  refine va_zast (f := (fun j => bI (Pg j))) (n := 24) (cA := cZ) hx hb hK hP hD hS 1 1 rfl rfl (vp_in_nI hk0 (by decide)) hdg (fun H1 locs1 h1 h2 h3 => ?_)
  rw [nI_clamp (n := k) (by omega), nar_bI, up_bI] at h1 h2
  exact kk H1 locs1 h1 h2 h3
theorem lM_Wd (hx : p.tables.exec = Jvm.exec) (hb : c.code = cc) (hK : va_K D vCl (tIZ cI cZ) s) (hP : va_P D vCl (wM ad cI cZ Pg Wd Ls Kp KPg KWd Ms Il Cn Sn) H) {k : Nat} (hk0 : k < 96) (hdg : decode cc pc = .ok (.iaload, 1)) (kk : W p l e R s m args below meth c H locs cells slots Q (F0 m (pc + 1) ls (.int (Wd k) :: rest))) : W p l e R s m args below meth c H locs cells slots Q (F0 m pc ls (.int (nI k) :: .ref (ad 2) :: rest)) := by
  refine va_iald (f := Wd) (n := 96) (cA := cI) hx hb hK hP 2 0 rfl rfl (vp_in_nI hk0 (by decide)) hdg ?_
  rw [nI_clamp (n := k) (by omega)]
  exact kk
theorem sM_Wd (hx : p.tables.exec = Jvm.exec) (hb : c.code = cc) (hK : va_K D vCl (tIZ cI cZ) s) (hP : va_P D vCl (wM ad cI cZ Pg Wd Ls Kp KPg KWd Ms Il Cn Sn) H) (hD : va_D A (wM ad cI cZ Pg Wd Ls Kp KPg KWd Ms Il Cn Sn)) (hS : va_S A H0 H locs) {k : Nat} {v : Int32} (hk0 : k < 96) (hdg : decode cc pc = .ok (.iastore, 1)) (kk : ∀ (H : Heap) (locs : List Loc), va_P D vCl (wM ad cI cZ Pg (va_up Wd k v) Ls Kp KPg KWd Ms Il Cn Sn) H → va_D A (wM ad cI cZ Pg (va_up Wd k v) Ls Kp KPg KWd Ms Il Cn Sn) → va_S A H0 H locs → W p l e R s m args below meth c H locs cells slots Q (F0 m (pc + 1) ls rest)) : W p l e R s m args below meth c H locs cells slots Q (F0 m pc ls (.int (v) :: .int (nI k) :: .ref (ad 2) :: rest)) := by
  refine va_iast (f := Wd) (n := 96) (cA := cI) hx hb hK hP hD hS 2 0 rfl rfl (vp_in_nI hk0 (by decide)) hdg (fun H1 locs1 h1 h2 h3 => ?_)
  rw [nI_clamp (n := k) (by omega), up_id] at h1 h2
  exact kk H1 locs1 h1 h2 h3
theorem lM_Ls (hx : p.tables.exec = Jvm.exec) (hb : c.code = cc) (hK : va_K D vCl (tIZ cI cZ) s) (hP : va_P D vCl (wM ad cI cZ Pg Wd Ls Kp KPg KWd Ms Il Cn Sn) H) {k : Nat} (hk0 : k < 3) (hdg : decode cc pc = .ok (.iaload, 1)) (kk : W p l e R s m args below meth c H locs cells slots Q (F0 m (pc + 1) ls (.int (Ls k) :: rest))) : W p l e R s m args below meth c H locs cells slots Q (F0 m pc ls (.int (nI k) :: .ref (ad 3) :: rest)) := by
  refine va_iald (f := Ls) (n := 3) (cA := cI) hx hb hK hP 3 0 rfl rfl (vp_in_nI hk0 (by decide)) hdg ?_
  rw [nI_clamp (n := k) (by omega)]
  exact kk
theorem sM_Ls (hx : p.tables.exec = Jvm.exec) (hb : c.code = cc) (hK : va_K D vCl (tIZ cI cZ) s) (hP : va_P D vCl (wM ad cI cZ Pg Wd Ls Kp KPg KWd Ms Il Cn Sn) H) (hD : va_D A (wM ad cI cZ Pg Wd Ls Kp KPg KWd Ms Il Cn Sn)) (hS : va_S A H0 H locs) {k : Nat} {v : Int32} (hk0 : k < 3) (hdg : decode cc pc = .ok (.iastore, 1)) (kk : ∀ (H : Heap) (locs : List Loc), va_P D vCl (wM ad cI cZ Pg Wd (va_up Ls k v) Kp KPg KWd Ms Il Cn Sn) H → va_D A (wM ad cI cZ Pg Wd (va_up Ls k v) Kp KPg KWd Ms Il Cn Sn) → va_S A H0 H locs → W p l e R s m args below meth c H locs cells slots Q (F0 m (pc + 1) ls rest)) : W p l e R s m args below meth c H locs cells slots Q (F0 m pc ls (.int (v) :: .int (nI k) :: .ref (ad 3) :: rest)) := by
  refine va_iast (f := Ls) (n := 3) (cA := cI) hx hb hK hP hD hS 3 0 rfl rfl (vp_in_nI hk0 (by decide)) hdg (fun H1 locs1 h1 h2 h3 => ?_)
  rw [nI_clamp (n := k) (by omega), up_id] at h1 h2
  exact kk H1 locs1 h1 h2 h3
theorem lM_Kp (hx : p.tables.exec = Jvm.exec) (hb : c.code = cc) (hK : va_K D vCl (tIZ cI cZ) s) (hP : va_P D vCl (wM ad cI cZ Pg Wd Ls Kp KPg KWd Ms Il Cn Sn) H) {k : Nat} (hk0 : k < 3) (hdg : decode cc pc = .ok (.baload, 1)) (kk : W p l e R s m args below meth c H locs cells slots Q (F0 m (pc + 1) ls (.int (bI (Kp k)) :: rest))) : W p l e R s m args below meth c H locs cells slots Q (F0 m pc ls (.int (nI k) :: .ref (ad 4) :: rest)) := by
  refine va_zald (f := (fun j => bI (Kp j))) (n := 3) (cA := cZ) hx hb hK hP 4 1 rfl rfl (vp_in_nI hk0 (by decide)) hdg ?_
  rw [nI_clamp (n := k) (by omega)]
  exact kk
theorem sM_Kp (hx : p.tables.exec = Jvm.exec) (hb : c.code = cc) (hK : va_K D vCl (tIZ cI cZ) s) (hP : va_P D vCl (wM ad cI cZ Pg Wd Ls Kp KPg KWd Ms Il Cn Sn) H) (hD : va_D A (wM ad cI cZ Pg Wd Ls Kp KPg KWd Ms Il Cn Sn)) (hS : va_S A H0 H locs) {k : Nat} {v : Bool} (hk0 : k < 3) (hdg : decode cc pc = .ok (.bastore, 1)) (kk : ∀ (H : Heap) (locs : List Loc), va_P D vCl (wM ad cI cZ Pg Wd Ls (va_up Kp k v) KPg KWd Ms Il Cn Sn) H → va_D A (wM ad cI cZ Pg Wd Ls (va_up Kp k v) KPg KWd Ms Il Cn Sn) → va_S A H0 H locs → W p l e R s m args below meth c H locs cells slots Q (F0 m (pc + 1) ls rest)) : W p l e R s m args below meth c H locs cells slots Q (F0 m pc ls (.int (bI v) :: .int (nI k) :: .ref (ad 4) :: rest)) := by
  refine va_zast (f := (fun j => bI (Kp j))) (n := 3) (cA := cZ) hx hb hK hP hD hS 4 1 rfl rfl (vp_in_nI hk0 (by decide)) hdg (fun H1 locs1 h1 h2 h3 => ?_)
  rw [nI_clamp (n := k) (by omega), nar_bI, up_bI] at h1 h2
  exact kk H1 locs1 h1 h2 h3
theorem lM_KPg (hx : p.tables.exec = Jvm.exec) (hb : c.code = cc) (hK : va_K D vCl (tIZ cI cZ) s) (hP : va_P D vCl (wM ad cI cZ Pg Wd Ls Kp KPg KWd Ms Il Cn Sn) H) {k : Nat} (hk0 : k < 24) (hdg : decode cc pc = .ok (.baload, 1)) (kk : W p l e R s m args below meth c H locs cells slots Q (F0 m (pc + 1) ls (.int (bI (KPg k)) :: rest))) : W p l e R s m args below meth c H locs cells slots Q (F0 m pc ls (.int (nI k) :: .ref (ad 5) :: rest)) := by
  refine va_zald (f := (fun j => bI (KPg j))) (n := 24) (cA := cZ) hx hb hK hP 5 1 rfl rfl (vp_in_nI hk0 (by decide)) hdg ?_
  rw [nI_clamp (n := k) (by omega)]
  exact kk
theorem sM_KPg (hx : p.tables.exec = Jvm.exec) (hb : c.code = cc) (hK : va_K D vCl (tIZ cI cZ) s) (hP : va_P D vCl (wM ad cI cZ Pg Wd Ls Kp KPg KWd Ms Il Cn Sn) H) (hD : va_D A (wM ad cI cZ Pg Wd Ls Kp KPg KWd Ms Il Cn Sn)) (hS : va_S A H0 H locs) {k : Nat} {v : Bool} (hk0 : k < 24) (hdg : decode cc pc = .ok (.bastore, 1)) (kk : ∀ (H : Heap) (locs : List Loc), va_P D vCl (wM ad cI cZ Pg Wd Ls Kp (va_up KPg k v) KWd Ms Il Cn Sn) H → va_D A (wM ad cI cZ Pg Wd Ls Kp (va_up KPg k v) KWd Ms Il Cn Sn) → va_S A H0 H locs → W p l e R s m args below meth c H locs cells slots Q (F0 m (pc + 1) ls rest)) : W p l e R s m args below meth c H locs cells slots Q (F0 m pc ls (.int (bI v) :: .int (nI k) :: .ref (ad 5) :: rest)) := by
  refine va_zast (f := (fun j => bI (KPg j))) (n := 24) (cA := cZ) hx hb hK hP hD hS 5 1 rfl rfl (vp_in_nI hk0 (by decide)) hdg (fun H1 locs1 h1 h2 h3 => ?_)
  rw [nI_clamp (n := k) (by omega), nar_bI, up_bI] at h1 h2
  exact kk H1 locs1 h1 h2 h3
theorem lM_KWd (hx : p.tables.exec = Jvm.exec) (hb : c.code = cc) (hK : va_K D vCl (tIZ cI cZ) s) (hP : va_P D vCl (wM ad cI cZ Pg Wd Ls Kp KPg KWd Ms Il Cn Sn) H) {k : Nat} (hk0 : k < 96) (hdg : decode cc pc = .ok (.iaload, 1)) (kk : W p l e R s m args below meth c H locs cells slots Q (F0 m (pc + 1) ls (.int (KWd k) :: rest))) : W p l e R s m args below meth c H locs cells slots Q (F0 m pc ls (.int (nI k) :: .ref (ad 6) :: rest)) := by
  refine va_iald (f := KWd) (n := 96) (cA := cI) hx hb hK hP 6 0 rfl rfl (vp_in_nI hk0 (by decide)) hdg ?_
  rw [nI_clamp (n := k) (by omega)]
  exact kk
theorem sM_KWd (hx : p.tables.exec = Jvm.exec) (hb : c.code = cc) (hK : va_K D vCl (tIZ cI cZ) s) (hP : va_P D vCl (wM ad cI cZ Pg Wd Ls Kp KPg KWd Ms Il Cn Sn) H) (hD : va_D A (wM ad cI cZ Pg Wd Ls Kp KPg KWd Ms Il Cn Sn)) (hS : va_S A H0 H locs) {k : Nat} {v : Int32} (hk0 : k < 96) (hdg : decode cc pc = .ok (.iastore, 1)) (kk : ∀ (H : Heap) (locs : List Loc), va_P D vCl (wM ad cI cZ Pg Wd Ls Kp KPg (va_up KWd k v) Ms Il Cn Sn) H → va_D A (wM ad cI cZ Pg Wd Ls Kp KPg (va_up KWd k v) Ms Il Cn Sn) → va_S A H0 H locs → W p l e R s m args below meth c H locs cells slots Q (F0 m (pc + 1) ls rest)) : W p l e R s m args below meth c H locs cells slots Q (F0 m pc ls (.int (v) :: .int (nI k) :: .ref (ad 6) :: rest)) := by
  refine va_iast (f := KWd) (n := 96) (cA := cI) hx hb hK hP hD hS 6 0 rfl rfl (vp_in_nI hk0 (by decide)) hdg (fun H1 locs1 h1 h2 h3 => ?_)
  rw [nI_clamp (n := k) (by omega), up_id] at h1 h2
  exact kk H1 locs1 h1 h2 h3
theorem lM_Ms (hx : p.tables.exec = Jvm.exec) (hb : c.code = cc) (hK : va_K D vCl (tIZ cI cZ) s) (hP : va_P D vCl (wM ad cI cZ Pg Wd Ls Kp KPg KWd Ms Il Cn Sn) H) {k : Nat} (hk0 : k < 3) (hdg : decode cc pc = .ok (.iaload, 1)) (kk : W p l e R s m args below meth c H locs cells slots Q (F0 m (pc + 1) ls (.int (nI (Ms k)) :: rest))) : W p l e R s m args below meth c H locs cells slots Q (F0 m pc ls (.int (nI k) :: .ref (ad 7) :: rest)) := by
  refine va_iald (f := (fun j => nI (Ms j))) (n := 3) (cA := cI) hx hb hK hP 7 0 rfl rfl (vp_in_nI hk0 (by decide)) hdg ?_
  rw [nI_clamp (n := k) (by omega)]
  exact kk
theorem sM_Ms (hx : p.tables.exec = Jvm.exec) (hb : c.code = cc) (hK : va_K D vCl (tIZ cI cZ) s) (hP : va_P D vCl (wM ad cI cZ Pg Wd Ls Kp KPg KWd Ms Il Cn Sn) H) (hD : va_D A (wM ad cI cZ Pg Wd Ls Kp KPg KWd Ms Il Cn Sn)) (hS : va_S A H0 H locs) {k : Nat} {v : Nat} (hk0 : k < 3) (hdg : decode cc pc = .ok (.iastore, 1)) (kk : ∀ (H : Heap) (locs : List Loc), va_P D vCl (wM ad cI cZ Pg Wd Ls Kp KPg KWd (va_up Ms k v) Il Cn Sn) H → va_D A (wM ad cI cZ Pg Wd Ls Kp KPg KWd (va_up Ms k v) Il Cn Sn) → va_S A H0 H locs → W p l e R s m args below meth c H locs cells slots Q (F0 m (pc + 1) ls rest)) : W p l e R s m args below meth c H locs cells slots Q (F0 m pc ls (.int (nI v) :: .int (nI k) :: .ref (ad 7) :: rest)) := by
  refine va_iast (f := (fun j => nI (Ms j))) (n := 3) (cA := cI) hx hb hK hP hD hS 7 0 rfl rfl (vp_in_nI hk0 (by decide)) hdg (fun H1 locs1 h1 h2 h3 => ?_)
  rw [nI_clamp (n := k) (by omega), up_nI] at h1 h2
  exact kk H1 locs1 h1 h2 h3
theorem lM_Il (hx : p.tables.exec = Jvm.exec) (hb : c.code = cc) (hK : va_K D vCl (tIZ cI cZ) s) (hP : va_P D vCl (wM ad cI cZ Pg Wd Ls Kp KPg KWd Ms Il Cn Sn) H) {k : Nat} (hk0 : k < 9) (hdg : decode cc pc = .ok (.iaload, 1)) (kk : W p l e R s m args below meth c H locs cells slots Q (F0 m (pc + 1) ls (.int (Il k) :: rest))) : W p l e R s m args below meth c H locs cells slots Q (F0 m pc ls (.int (nI k) :: .ref (ad 8) :: rest)) := by
  refine va_iald (f := Il) (n := 9) (cA := cI) hx hb hK hP 8 0 rfl rfl (vp_in_nI hk0 (by decide)) hdg ?_
  rw [nI_clamp (n := k) (by omega)]
  exact kk
theorem sM_Il (hx : p.tables.exec = Jvm.exec) (hb : c.code = cc) (hK : va_K D vCl (tIZ cI cZ) s) (hP : va_P D vCl (wM ad cI cZ Pg Wd Ls Kp KPg KWd Ms Il Cn Sn) H) (hD : va_D A (wM ad cI cZ Pg Wd Ls Kp KPg KWd Ms Il Cn Sn)) (hS : va_S A H0 H locs) {k : Nat} {v : Int32} (hk0 : k < 9) (hdg : decode cc pc = .ok (.iastore, 1)) (kk : ∀ (H : Heap) (locs : List Loc), va_P D vCl (wM ad cI cZ Pg Wd Ls Kp KPg KWd Ms (va_up Il k v) Cn Sn) H → va_D A (wM ad cI cZ Pg Wd Ls Kp KPg KWd Ms (va_up Il k v) Cn Sn) → va_S A H0 H locs → W p l e R s m args below meth c H locs cells slots Q (F0 m (pc + 1) ls rest)) : W p l e R s m args below meth c H locs cells slots Q (F0 m pc ls (.int (v) :: .int (nI k) :: .ref (ad 8) :: rest)) := by
  refine va_iast (f := Il) (n := 9) (cA := cI) hx hb hK hP hD hS 8 0 rfl rfl (vp_in_nI hk0 (by decide)) hdg (fun H1 locs1 h1 h2 h3 => ?_)
  rw [nI_clamp (n := k) (by omega), up_id] at h1 h2
  exact kk H1 locs1 h1 h2 h3
theorem lM_Cn (hx : p.tables.exec = Jvm.exec) (hb : c.code = cc) (hK : va_K D vCl (tIZ cI cZ) s) (hP : va_P D vCl (wM ad cI cZ Pg Wd Ls Kp KPg KWd Ms Il Cn Sn) H) {k : Nat} (hk0 : k < 9) (hdg : decode cc pc = .ok (.iaload, 1)) (kk : W p l e R s m args below meth c H locs cells slots Q (F0 m (pc + 1) ls (.int (nI (Cn k)) :: rest))) : W p l e R s m args below meth c H locs cells slots Q (F0 m pc ls (.int (nI k) :: .ref (ad 9) :: rest)) := by
  refine va_iald (f := (fun j => nI (Cn j))) (n := 9) (cA := cI) hx hb hK hP 9 0 rfl rfl (vp_in_nI hk0 (by decide)) hdg ?_
  rw [nI_clamp (n := k) (by omega)]
  exact kk
theorem sM_Cn (hx : p.tables.exec = Jvm.exec) (hb : c.code = cc) (hK : va_K D vCl (tIZ cI cZ) s) (hP : va_P D vCl (wM ad cI cZ Pg Wd Ls Kp KPg KWd Ms Il Cn Sn) H) (hD : va_D A (wM ad cI cZ Pg Wd Ls Kp KPg KWd Ms Il Cn Sn)) (hS : va_S A H0 H locs) {k : Nat} {v : Nat} (hk0 : k < 9) (hdg : decode cc pc = .ok (.iastore, 1)) (kk : ∀ (H : Heap) (locs : List Loc), va_P D vCl (wM ad cI cZ Pg Wd Ls Kp KPg KWd Ms Il (va_up Cn k v) Sn) H → va_D A (wM ad cI cZ Pg Wd Ls Kp KPg KWd Ms Il (va_up Cn k v) Sn) → va_S A H0 H locs → W p l e R s m args below meth c H locs cells slots Q (F0 m (pc + 1) ls rest)) : W p l e R s m args below meth c H locs cells slots Q (F0 m pc ls (.int (nI v) :: .int (nI k) :: .ref (ad 9) :: rest)) := by
  refine va_iast (f := (fun j => nI (Cn j))) (n := 9) (cA := cI) hx hb hK hP hD hS 9 0 rfl rfl (vp_in_nI hk0 (by decide)) hdg (fun H1 locs1 h1 h2 h3 => ?_)
  rw [nI_clamp (n := k) (by omega), up_nI] at h1 h2
  exact kk H1 locs1 h1 h2 h3
theorem lM_Sn (hx : p.tables.exec = Jvm.exec) (hb : c.code = cc) (hK : va_K D vCl (tIZ cI cZ) s) (hP : va_P D vCl (wM ad cI cZ Pg Wd Ls Kp KPg KWd Ms Il Cn Sn) H) {k : Nat} (hk0 : k < 108) (hdg : decode cc pc = .ok (.iaload, 1)) (kk : W p l e R s m args below meth c H locs cells slots Q (F0 m (pc + 1) ls (.int (Sn k) :: rest))) : W p l e R s m args below meth c H locs cells slots Q (F0 m pc ls (.int (nI k) :: .ref (ad 10) :: rest)) := by
  refine va_iald (f := Sn) (n := 108) (cA := cI) hx hb hK hP 10 0 rfl rfl (vp_in_nI hk0 (by decide)) hdg ?_
  rw [nI_clamp (n := k) (by omega)]
  exact kk
theorem sM_Sn (hx : p.tables.exec = Jvm.exec) (hb : c.code = cc) (hK : va_K D vCl (tIZ cI cZ) s) (hP : va_P D vCl (wM ad cI cZ Pg Wd Ls Kp KPg KWd Ms Il Cn Sn) H) (hD : va_D A (wM ad cI cZ Pg Wd Ls Kp KPg KWd Ms Il Cn Sn)) (hS : va_S A H0 H locs) {k : Nat} {v : Int32} (hk0 : k < 108) (hdg : decode cc pc = .ok (.iastore, 1)) (kk : ∀ (H : Heap) (locs : List Loc), va_P D vCl (wM ad cI cZ Pg Wd Ls Kp KPg KWd Ms Il Cn (va_up Sn k v)) H → va_D A (wM ad cI cZ Pg Wd Ls Kp KPg KWd Ms Il Cn (va_up Sn k v)) → va_S A H0 H locs → W p l e R s m args below meth c H locs cells slots Q (F0 m (pc + 1) ls rest)) : W p l e R s m args below meth c H locs cells slots Q (F0 m pc ls (.int (v) :: .int (nI k) :: .ref (ad 10) :: rest)) := by
  refine va_iast (f := Sn) (n := 108) (cA := cI) hx hb hK hP hD hS 10 0 rfl rfl (vp_in_nI hk0 (by decide)) hdg (fun H1 locs1 h1 h2 h3 => ?_)
  rw [nI_clamp (n := k) (by omega), up_id] at h1 h2
  exact kk H1 locs1 h1 h2 h3
end ZX
end
section
/-! contracts' frames: from a body to Met, and calls by contract -/
abbrev zPre (D : va_G) (cl : List vw_C) (tys : List (ClassId × FieldType)) (ws : va_W) (sz : Nat) : State → Prop := fun U => U.heap.size = sz ∧ va_P D cl ws U.heap ∧ va_K D cl tys U ∧ va_D (fun _ => True) ws
abbrev zB {S : Type} (D : va_G) (cl : List vw_C) (tys : List (ClassId × FieldType)) (w1 : S → va_W) (A : Nat → Prop) : S → State → Prop := fun u t => va_P D cl (w1 u) t.heap ∧ va_K D cl tys t ∧ va_D A (w1 u)
abbrev r0 : Room := { frames := 0, cells := 0, slots := 0, locals := 0 }
abbrev r1 : Room := { frames := 1, cells := 0, slots := 0, locals := 30 }
abbrev r2 : Room := { frames := 2, cells := 0, slots := 0, locals := 60 }
section ZF
variable {l : Launch} {y : MethodName} {cc : ByteArray} {maxL : Nat} {rm : Room} {D : va_G} {cl : List vw_C} {tys : List (ClassId × FieldType)} {w0 : va_W} {av : List Value} {sz : Nat} {S : Type} {w1 : S → va_W}
set_option maxHeartbeats 4000000 in
theorem fw_i {post : Int32 → S → Prop} (hy : plainName y.cls = true) (hlen : (lg_sl av).length ≤ maxL)
    (body : ∀ (p : Program) (e : Env) (s : State) (m : MethodId) (below : List Frame) (meth : Method) (c : Code) (A : Nat → Prop) (Q : State → Prop) (ls : Array Slot) (args : Array Value), p.tables.exec = Jvm.exec → c.code = cc → c.maxLocals = maxL → (∀ w ∈ lw_all, w.before args s = true) → s.vm.findClass y.cls = some m.cls → va_K D cl tys s → va_P D cl w0 s.heap → va_D A w0 → va_S A s.heap s.heap [] → (∀ q, s.heap.size ≤ q → A q) → lv_has ls maxL (lv_args 0 av) →
      (∀ (r : Int32) (u : S) (H : Heap) (locs : List Loc) (pc : Nat) (ls : Array Slot), decode cc pc = .ok (.ireturn, 1) → post r u → va_P D cl (w1 u) H → va_D A (w1 u) → va_S A s.heap H locs → W p l e rm s m args below meth c H locs 0 0 Q (F0 m pc ls [.int r])) →
      W p l e rm s m args below meth c s.heap [] 0 0 Q (F0 m 0 ls [])) :
    Met l y (ws_ y cc maxL (some .int)) rm (va_Pc av (zPre D cl tys w0 sz)) (va_Qi post (zB D cl tys w1 (va_A w0 sz)) (va_A w0 sz)) 0 0 (va_A w0 sz) := by
  refine Met.ofW (cc := cc) (maxL := maxL) (ret := some .int) hy rfl ?_
  intro p e s m args below meth c s₁ B hml hv
  obtain ⟨rfl, hsz, hP, hK, hD0⟩ := hv
  have hx := B.exec
  have hb := B.bytes
  have hr := B.returns
  have hts := atoms_spec (ws := ws_ y cc maxL (some .int)) B.pre
  have hts : ∀ w ∈ lw_all, w.before _ s = true := fun w h => hts w (List.mem_cons_of_mem _ h)
  have hown : s.vm.findClass y.cls = some m.cls := findClass_of_methodNamed B.named
  have hlocks := B.notSynchronized
  subst hsz
  have hD := hD0.self (sz := s.heap.size)
  have hl := lv_entry av (n := maxL) hlen
  rw [lg_entry_eq]
  generalize (lg_sl av ++ List.replicate (maxL - (lg_sl av).length) Slot.unset).toArray = ls at hl ⊢
  refine body p e s m below meth c (va_A w0 s.heap.size) _ ls _ hx hb hml hts hown hK hP hD va_S.rf (fun q h => Or.inr h) hl ?_
  intro r u H locs pc ls hdg hp hP1 hD1 hS1
  exact W.iret hx hb hr (fun t ht hW => ⟨⟨r, u, rfl, hp, by rw [ht]; exact hP1, va_K.moved hW.alike hK, hD1⟩, hS1.F ht⟩) hS1.2.2 hdg hlocks
set_option maxHeartbeats 4000000 in
theorem fw_z {post : Int32 → S → Prop} (hy : plainName y.cls = true) (hlen : (lg_sl av).length ≤ maxL)
    (body : ∀ (p : Program) (e : Env) (s : State) (m : MethodId) (below : List Frame) (meth : Method) (c : Code) (A : Nat → Prop) (Q : State → Prop) (ls : Array Slot) (args : Array Value), p.tables.exec = Jvm.exec → c.code = cc → c.maxLocals = maxL → (∀ w ∈ lw_all, w.before args s = true) → s.vm.findClass y.cls = some m.cls → va_K D cl tys s → va_P D cl w0 s.heap → va_D A w0 → va_S A s.heap s.heap [] → (∀ q, s.heap.size ≤ q → A q) → lv_has ls maxL (lv_args 0 av) →
      (∀ (r : Bool) (u : S) (H : Heap) (locs : List Loc) (pc : Nat) (ls : Array Slot), decode cc pc = .ok (.ireturn, 1) → post (bI r) u → va_P D cl (w1 u) H → va_D A (w1 u) → va_S A s.heap H locs → W p l e rm s m args below meth c H locs 0 0 Q (F0 m pc ls [.int (bI r)])) →
      W p l e rm s m args below meth c s.heap [] 0 0 Q (F0 m 0 ls [])) :
    Met l y (ws_ y cc maxL (some .boolean)) rm (va_Pc av (zPre D cl tys w0 sz)) (va_Qi post (zB D cl tys w1 (va_A w0 sz)) (va_A w0 sz)) 0 0 (va_A w0 sz) := by
  refine Met.ofW (cc := cc) (maxL := maxL) (ret := some .boolean) hy rfl ?_
  intro p e s m args below meth c s₁ B hml hv
  obtain ⟨rfl, hsz, hP, hK, hD0⟩ := hv
  have hx := B.exec
  have hb := B.bytes
  have hr := B.returns
  have hts := atoms_spec (ws := ws_ y cc maxL (some .boolean)) B.pre
  have hts : ∀ w ∈ lw_all, w.before _ s = true := fun w h => hts w (List.mem_cons_of_mem _ h)
  have hown : s.vm.findClass y.cls = some m.cls := findClass_of_methodNamed B.named
  have hlocks := B.notSynchronized
  subst hsz
  have hD := hD0.self (sz := s.heap.size)
  have hl := lv_entry av (n := maxL) hlen
  rw [lg_entry_eq]
  generalize (lg_sl av ++ List.replicate (maxL - (lg_sl av).length) Slot.unset).toArray = ls at hl ⊢
  refine body p e s m below meth c (va_A w0 s.heap.size) _ ls _ hx hb hml hts hown hK hP hD va_S.rf (fun q h => Or.inr h) hl ?_
  intro r u H locs pc ls hdg hp hP1 hD1 hS1
  exact W.zret hx hb hr (nar_bI' r) (fun t ht hW => ⟨⟨bI r, u, rfl, hp, by rw [ht]; exact hP1, va_K.moved hW.alike hK, hD1⟩, hS1.F ht⟩) hS1.2.2 hdg hlocks
set_option maxHeartbeats 4000000 in
theorem fw_v {post : S → Prop} (hy : plainName y.cls = true) (hlen : (lg_sl av).length ≤ maxL)
    (body : ∀ (p : Program) (e : Env) (s : State) (m : MethodId) (below : List Frame) (meth : Method) (c : Code) (A : Nat → Prop) (Q : State → Prop) (ls : Array Slot) (args : Array Value), p.tables.exec = Jvm.exec → c.code = cc → c.maxLocals = maxL → (∀ w ∈ lw_all, w.before args s = true) → s.vm.findClass y.cls = some m.cls → va_K D cl tys s → va_P D cl w0 s.heap → va_D A w0 → va_S A s.heap s.heap [] → (∀ q, s.heap.size ≤ q → A q) → lv_has ls maxL (lv_args 0 av) →
      (∀ (u : S) (H : Heap) (locs : List Loc) (pc : Nat) (ls : Array Slot), decode cc pc = .ok (.return_, 1) → post u → va_P D cl (w1 u) H → va_D A (w1 u) → va_S A s.heap H locs → W p l e rm s m args below meth c H locs 0 0 Q (F0 m pc ls [])) →
      W p l e rm s m args below meth c s.heap [] 0 0 Q (F0 m 0 ls [])) :
    Met l y (ws_ y cc maxL none) rm (va_Pc av (zPre D cl tys w0 sz)) (va_Qv post (zB D cl tys w1 (va_A w0 sz)) (va_A w0 sz)) 0 0 (va_A w0 sz) := by
  refine Met.ofW (cc := cc) (maxL := maxL) (ret := none) hy rfl ?_
  intro p e s m args below meth c s₁ B hml hv
  obtain ⟨rfl, hsz, hP, hK, hD0⟩ := hv
  have hx := B.exec
  have hb := B.bytes
  have hr := B.returns
  have hts := atoms_spec (ws := ws_ y cc maxL none) B.pre
  have hts : ∀ w ∈ lw_all, w.before _ s = true := fun w h => hts w (List.mem_cons_of_mem _ h)
  have hown : s.vm.findClass y.cls = some m.cls := findClass_of_methodNamed B.named
  have hlocks := B.notSynchronized
  subst hsz
  have hD := hD0.self (sz := s.heap.size)
  have hl := lv_entry av (n := maxL) hlen
  rw [lg_entry_eq]
  generalize (lg_sl av ++ List.replicate (maxL - (lg_sl av).length) Slot.unset).toArray = ls at hl ⊢
  refine body p e s m below meth c (va_A w0 s.heap.size) _ ls _ hx hb hml hts hown hK hP hD va_S.rf (fun q h => Or.inr h) hl ?_
  intro u H locs pc ls hdg hp hP1 hD1 hS1
  exact W.vret hx hb hr (fun t ht hW => ⟨⟨u, rfl, hp, by rw [ht]; exact hP1, va_K.moved hW.alike hK, hD1⟩, hS1.F ht⟩) hS1.2.2 hdg hlocks
set_option maxHeartbeats 4000000 in
/-- a boolean method that looks at no cell -/
theorem fw_b {post : Int32 → Prop} (hy : plainName y.cls = true) (hlen : (lg_sl av).length ≤ maxL)
    (body : ∀ (p : Program) (e : Env) (s : State) (m : MethodId) (below : List Frame) (meth : Method) (c : Code) (Q : State → Prop) (ls : Array Slot) (args : Array Value), p.tables.exec = Jvm.exec → c.code = cc → lv_has ls maxL (lv_args 0 av) →
      (∀ (r : Bool) (pc : Nat) (ls : Array Slot), decode cc pc = .ok (.ireturn, 1) → post (bI r) → W p l e rm s m args below meth c s.heap [] 0 0 Q (F0 m pc ls [.int (bI r)])) →
      W p l e rm s m args below meth c s.heap [] 0 0 Q (F0 m 0 ls [])) :
    Met l y (ws_ y cc maxL (some .boolean)) rm (va_Pc av (fun _ => True)) (va_Qi (fun r (_ : Unit) => post r) (fun _ _ => True) (fun _ => False)) 0 0 (fun _ => False) := by
  refine Met.ofW (cc := cc) (maxL := maxL) (ret := some .boolean) hy rfl ?_
  intro p e s m args below meth c s₁ B hml hv
  obtain ⟨rfl, -⟩ := hv
  have hx := B.exec
  have hb := B.bytes
  have hr := B.returns
  have hlocks := B.notSynchronized
  have hl := lv_entry av (n := maxL) hlen
  rw [lg_entry_eq]
  generalize (lg_sl av ++ List.replicate (maxL - (lg_sl av).length) Slot.unset).toArray = ls at hl ⊢
  refine body p e s m below meth c _ ls _ hx hb hl ?_
  intro r pc ls hdg hp
  have hS : va_S (fun _ => False) s.heap s.heap [] := va_S.rf
  exact W.zret hx hb hr (nar_bI' r) (fun t ht hW => ⟨⟨bI r, (), rfl, hp, trivial⟩, hS.F ht⟩) hS.2.2 hdg hlocks
end ZF
section ZC
variable {p : Program} {l : Launch} {e : Env} {R : Room} {s : State} {m : MethodId} {args : Array Value} {below : List Frame} {meth : Method} {c : Code} {H : Heap} {locs : List Loc} {cells slots : Nat} {Q : State → Prop}
variable {cc : ByteArray} {pc : Nat} {ls : Array Slot} {rest st : List Value} {D : va_G} {cl : List vw_C} {tys : List (ClassId × FieldType)} {A : Nat → Prop} {H0 : Heap} {ws : va_W}
variable {y : MethodName} {bytes : ByteArray} {maxL nL n index q0 ci : Nat} {ret : Option FieldType} {wy Ts : List Cond} {rm : Room} {own C : String} {b : Nat} {As : List Value} {q : vw_C} {fs : List Value} {S : Type} {w1 : S → va_W}
theorem z_fr (hD : va_D A ws) (hS : va_S A H0 H locs) (hA : ∀ q, H0.size ≤ q → A q) : ∀ q, va_A ws H.size q → A q := by
  intro q h
  rcases h with ⟨k, e, h⟩ | h
  · exact hD.2 k _ h
  · exact hA q (Nat.le_trans hS.1 h)
set_option maxHeartbeats 4000000 in
theorem zc_i {post : Int32 → S → Prop} (F : CallFix p m c cc nL s args Ts own) (hK : va_K D cl tys s) (hP : va_P D cl ws H) (hD : va_D A ws) (hS : va_S A H0 H locs) (hA : ∀ q, H0.size ≤ q → A q)
    (hM : Met l y wy rm (va_Pc (.ref b :: As) (zPre D cl tys ws H.size)) (va_Qi post (zB D cl tys w1 (va_A ws H.size)) (va_A ws H.size)) 0 0 (va_A ws H.size))
    (cw : CallW R s args own C index y bytes maxL ret wy rm 0 0 n) (hc : cl[ci]? = some q) (hC : q.1 = C) (he : ws[q0]? = some (b, .inr (ci, fs)))
    (hn : As.length = n) (hl : ls.size = nL) (hst : st = As.reverse ++ .ref b :: rest) (hroom : (rest.map fun v => v.category).sum ≤ 8) (hdg : decode cc pc = .ok (.invokevirtual index, 3)) (hf : cells + 0 ≤ R.cells ∧ slots + 0 ≤ R.slots)
    (kk : ∀ (r : Int32) (u : S) (H : Heap) (locs : List Loc), post r u → va_P D cl (w1 u) H → va_D A (w1 u) → va_S A H0 H locs → W p l e R s m args below meth c H locs cells slots Q (F0 m (pc + 3) ls (.int r :: rest))) :
    W p l e R s m args below meth c H locs cells slots Q (F0 m pc ls st) := by
  have hFc := z_fr hD hS hA
  refine va_calli (va_runV (As := As) (rest := rest) F hM cw ⟨fun a U g mk q => by obtain ⟨q0, q1, qP, qK, qD⟩ := q; exact ⟨q0, q1, qP, va_K.moved (u := U) (U := U.calling g mk a) (Vm.Alike.refl U.vm) qK, qD⟩, hC ▸ va_recv hK hP hc he, fun U hU hW => ⟨rfl, by rw [hU], by rw [hU]; exact hP, va_K.moved hW.alike hK, hD.weaken (fun _ _ _ _ => trivial)⟩⟩ rfl hn hl hst (lv_room hroom) hdg hf) hS (fun q _ h => hFc q h) hFc (fun r u t H1 locs1 ht hvm hw hB hz1 hk1 hS1 => ?_)
  obtain ⟨hP1, hK1, hD1⟩ := hB
  rw [ht] at hP1
  exact kk r u H1 locs1 hw hP1 (hD1.weaken (fun k q _ h => hFc q.1 h)) hS1
set_option maxHeartbeats 4000000 in
theorem zc_v {post : S → Prop} (F : CallFix p m c cc nL s args Ts own) (hK : va_K D cl tys s) (hP : va_P D cl ws H) (hD : va_D A ws) (hS : va_S A H0 H locs) (hA : ∀ q, H0.size ≤ q → A q)
    (hM : Met l y wy rm (va_Pc (.ref b :: As) (zPre D cl tys ws H.size)) (va_Qv post (zB D cl tys w1 (va_A ws H.size)) (va_A ws H.size)) 0 0 (va_A ws H.size))
    (cw : CallW R s args own C index y bytes maxL ret wy rm 0 0 n) (hc : cl[ci]? = some q) (hC : q.1 = C) (he : ws[q0]? = some (b, .inr (ci, fs)))
    (hn : As.length = n) (hl : ls.size = nL) (hst : st = As.reverse ++ .ref b :: rest) (hroom : (rest.map fun v => v.category).sum ≤ 8) (hdg : decode cc pc = .ok (.invokevirtual index, 3)) (hf : cells + 0 ≤ R.cells ∧ slots + 0 ≤ R.slots)
    (kk : ∀ (u : S) (H : Heap) (locs : List Loc), post u → va_P D cl (w1 u) H → va_D A (w1 u) → va_S A H0 H locs → W p l e R s m args below meth c H locs cells slots Q (F0 m (pc + 3) ls rest)) :
    W p l e R s m args below meth c H locs cells slots Q (F0 m pc ls st) := by
  have hFc := z_fr hD hS hA
  refine va_callv (va_runV (As := As) (rest := rest) F hM cw ⟨fun a U g mk q => by obtain ⟨q0, q1, qP, qK, qD⟩ := q; exact ⟨q0, q1, qP, va_K.moved (u := U) (U := U.calling g mk a) (Vm.Alike.refl U.vm) qK, qD⟩, hC ▸ va_recv hK hP hc he, fun U hU hW => ⟨rfl, by rw [hU], by rw [hU]; exact hP, va_K.moved hW.alike hK, hD.weaken (fun _ _ _ _ => trivial)⟩⟩ rfl hn hl hst (lv_room hroom) hdg hf) hS (fun q _ h => hFc q h) hFc (fun u t H1 locs1 ht hvm hw hB hz1 hk1 hS1 => ?_)
  obtain ⟨hP1, hK1, hD1⟩ := hB
  rw [ht] at hP1
  exact kk u H1 locs1 hw hP1 (hD1.weaken (fun k q _ h => hFc q.1 h)) hS1
set_option maxHeartbeats 4000000 in
/-- a static call that looks at no cell -/
theorem zs_b {post : Int32 → Prop} (F : CallFix p m c cc nL s args Ts own) (hP : va_P D cl ws H) (hS : va_S A H0 H locs)
    (hM : Met l y wy rm (va_Pc As (fun _ => True)) (va_Qi (fun r (_ : Unit) => post r) (fun _ _ => True) (fun _ => False)) 0 0 (fun _ => False))
    (cw : CallB R s args own index y bytes maxL ret wy rm 0 0 n ∧ (Cond.static y).before args s = true)
    (hn : As.length = n) (hl : ls.size = nL) (hst : st = As.reverse ++ rest) (hroom : (rest.map fun v => v.category).sum ≤ 8) (hdg : decode cc pc = .ok (.invokestatic index, 3)) (hf : cells + 0 ≤ R.cells ∧ slots + 0 ≤ R.slots)
    (kk : ∀ (r : Int32) (H : Heap) (locs : List Loc), post r → va_P D cl ws H → va_S A H0 H locs → W p l e R s m args below meth c H locs cells slots Q (F0 m (pc + 3) ls (.int r :: rest))) :
    W p l e R s m args below meth c H locs cells slots Q (F0 m pc ls st) := by
  refine va_calli (va_runS (As := As) (rest := rest) F hM cw ⟨fun a U g mk q => ⟨q.1, trivial⟩, fun U hU hW => ⟨rfl, trivial⟩⟩ rfl hn hl hst (lv_room hroom) hdg hf) hS (fun q _ h => h.elim) (fun q h => h.elim) (fun r u t H1 locs1 ht hvm hw hB hz1 hk1 hS1 => ?_)
  exact kk r H1 locs1 hw (hP.kept (fun k q hq => hk1 q.1 ((hP k q hq).lt) (fun h => h))) hS1
set_option maxHeartbeats 4000000 in
/-- a call through an object that looks at no cell -/
theorem zc_b {post : Int32 → Prop} (F : CallFix p m c cc nL s args Ts own) (hK : va_K D cl tys s) (hP : va_P D cl ws H) (hS : va_S A H0 H locs)
    (hM : Met l y wy rm (va_Pc (.ref b :: As) (fun _ => True)) (va_Qi (fun r (_ : Unit) => post r) (fun _ _ => True) (fun _ => False)) 0 0 (fun _ => False))
    (cw : CallW R s args own C index y bytes maxL ret wy rm 0 0 n) (hc : cl[ci]? = some q) (hC : q.1 = C) (he : ws[q0]? = some (b, .inr (ci, fs)))
    (hn : As.length = n) (hl : ls.size = nL) (hst : st = As.reverse ++ .ref b :: rest) (hroom : (rest.map fun v => v.category).sum ≤ 8) (hdg : decode cc pc = .ok (.invokevirtual index, 3)) (hf : cells + 0 ≤ R.cells ∧ slots + 0 ≤ R.slots)
    (kk : ∀ (r : Int32) (H : Heap) (locs : List Loc), post r → va_P D cl ws H → va_S A H0 H locs → W p l e R s m args below meth c H locs cells slots Q (F0 m (pc + 3) ls (.int r :: rest))) :
    W p l e R s m args below meth c H locs cells slots Q (F0 m pc ls st) := by
  refine va_calli (va_runV (As := As) (rest := rest) F hM cw ⟨fun a U g mk q => ⟨q.1, trivial⟩, hC ▸ va_recv hK hP hc he, fun U hU hW => ⟨rfl, trivial⟩⟩ rfl hn hl hst (lv_room hroom) hdg hf) hS (fun q _ h => h.elim) (fun q h => h.elim) (fun r u t H1 locs1 ht hvm hw hB hz1 hk1 hS1 => ?_)
  exact kk r H1 locs1 hw (hP.kept (fun k q hq => hk1 q.1 ((hP k q hq).lt) (fun h => h))) hS1
set_option maxHeartbeats 4000000 in
/-- a call whose cells are the first part of the caller's; what comes back stands behind the rest -/
theorem zj_i {post : Int32 → S → Prop} {wc wr : va_W} (F : CallFix p m c cc nL s args Ts own) (hK : va_K D cl tys s) (hP : va_P D cl ws H) (hD : va_D A ws) (hS : va_S A H0 H locs) (hA : ∀ q, H0.size ≤ q → A q)
    (isC isR : List Nat) (h1 : isC.map (fun i => ws[i]?) = wc.map some) (h2 : isR.map (fun i => ws[i]?) = wr.map some) (h3 : va_nd isR = true) (h4 : ∀ i ∈ isR, i ∉ isC) (h5 : va_nd isC = true) (h6 : isC.filterMap (fun i => ws[i]?) = wc)
    (hM : Met l y wy rm (va_Pc (.ref b :: As) (zPre D cl tys wc H.size)) (va_Qi post (zB D cl tys w1 (va_A wc H.size)) (va_A wc H.size)) 0 0 (va_A wc H.size))
    (cw : CallW R s args own C index y bytes maxL ret wy rm 0 0 n) (hc : cl[ci]? = some q) (hC : q.1 = C) (he : wc[q0]? = some (b, .inr (ci, fs)))
    (hn : As.length = n) (hl : ls.size = nL) (hst : st = As.reverse ++ .ref b :: rest) (hroom : (rest.map fun v => v.category).sum ≤ 8) (hdg : decode cc pc = .ok (.invokevirtual index, 3)) (hf : cells + 0 ≤ R.cells ∧ slots + 0 ≤ R.slots)
    (kk : ∀ (r : Int32) (u : S) (H : Heap) (locs : List Loc), post r u → va_P D cl (wr ++ w1 u) H → va_D A (wr ++ w1 u) → va_S A H0 H locs → W p l e R s m args below meth c H locs cells slots Q (F0 m (pc + 3) ls (.int r :: rest))) :
    W p l e R s m args below meth c H locs cells slots Q (F0 m pc ls st) := by
  have hPc : va_P D cl wc H := hP.sub isC h6
  have hDc : va_D A wc := hD.sub isC h5 h1
  have hFc := z_fr hDc hS hA
  refine va_calli (va_runV (As := As) (rest := rest) F hM cw ⟨fun a U g mk q => by obtain ⟨q0, q1, qP, qK, qD⟩ := q; exact ⟨q0, q1, qP, va_K.moved (u := U) (U := U.calling g mk a) (Vm.Alike.refl U.vm) qK, qD⟩, hC ▸ va_recv hK hPc hc he, fun U hU hW => ⟨rfl, by rw [hU], by rw [hU]; exact hPc, va_K.moved hW.alike hK, hDc.weaken (fun _ _ _ _ => trivial)⟩⟩ rfl hn hl hst (lv_room hroom) hdg hf) hS (fun q _ h => hFc q h) hFc (fun r u t H1 locs1 ht hvm hw hB hz1 hk1 hS1 => ?_)
  obtain ⟨hP1, hK1, hD1⟩ := hB
  rw [ht] at hP1
  obtain ⟨hP2, hD2⟩ := va_join (wr := wr) (w1 := w1 u) hP hD isC isR h1 h2 h3 h4 hk1 hFc hP1 hD1
  exact kk r u H1 locs1 hw hP2 hD2 hS1
end ZC
end
section
/-! the frames: how often a frame is held, and the list of free ones (plain) -/
def cn (rf : Nat → Option Nat) (f : Nat) : Nat → Nat
  | 0 => 0
  | n + 1 => cn rf f n + (if rf n = some f then 1 else 0)
def us (Hd : Nat → Nat) : Nat → Nat
  | 0 => 0
  | n + 1 => us Hd n + (if Hd n = 0 then 0 else 1)
def sm (F : Nat → Nat) : Nat → Nat
  | 0 => 0
  | n + 1 => sm F n + F n
theorem cn_out {rf : Nat → Option Nat} {f k : Nat} {v : Option Nat} : ∀ n, n ≤ k → cn (va_up rf k v) f n = cn rf f n := by
  intro n
  induction n with
  | zero => intro _; rfl
  | succ n ih =>
    intro h
    simp only [cn]
    rw [ih (by omega), vu_n (by omega)]
theorem cn_up {rf : Nat → Option Nat} {f k : Nat} {v : Option Nat} : ∀ n, k < n → cn (va_up rf k v) f n + (if rf k = some f then 1 else 0) = cn rf f n + (if v = some f then 1 else 0) := by
  intro n
  induction n with
  | zero => intro h; omega
  | succ n ih =>
    intro h
    simp only [cn]
    by_cases hk : k = n
    · subst hk
      rw [cn_out k (Nat.le_refl k), vu_s]
      omega
    · have h2 := ih (by omega)
      rw [vu_n (fun q => hk q.symm)]
      omega
theorem cn_pos {rf : Nat → Option Nat} {f k : Nat} (hr : rf k = some f) : ∀ n, k < n → 0 < cn rf f n := by
  intro n
  induction n with
  | zero => intro h; omega
  | succ n ih =>
    intro h
    simp only [cn]
    by_cases hk : k = n
    · subst hk
      rw [if_pos hr]
      omega
    · have := ih (by omega)
      omega
theorem us_out {Hd : Nat → Nat} {k v : Nat} : ∀ n, n ≤ k → us (va_up Hd k v) n = us Hd n := by
  intro n
  induction n with
  | zero => intro _; rfl
  | succ n ih =>
    intro h
    simp only [us]
    rw [ih (by omega), vu_n (by omega)]
theorem us_up {Hd : Nat → Nat} {k v : Nat} : ∀ n, k < n → us (va_up Hd k v) n + (if Hd k = 0 then 0 else 1) = us Hd n + (if v = 0 then 0 else 1) := by
  intro n
  induction n with
  | zero => intro h; omega
  | succ n ih =>
    intro h
    simp only [us]
    by_cases hk : k = n
    · subst hk
      rw [us_out k (Nat.le_refl k), vu_s]
      omega
    · have h2 := ih (by omega)
      rw [vu_n (fun q => hk q.symm)]
      omega
theorem us_pos {Hd : Nat → Nat} {k : Nat} (hr : Hd k ≠ 0) : ∀ n, k < n → 0 < us Hd n := by
  intro n
  induction n with
  | zero => intro h; omega
  | succ n ih =>
    intro h
    simp only [us]
    by_cases hk : k = n
    · subst hk
      rw [if_neg hr]
      omega
    · have := ih (by omega)
      omega
theorem sm_add {A B : Nat → Nat} : ∀ n, sm (fun f => A f + B f) n = sm A n + sm B n := by
  intro n
  induction n with
  | zero => rfl
  | succ n ih =>
    simp only [sm]
    omega
theorem sm_one {v : Option Nat} : ∀ n, sm (fun f => if v = some f then 1 else 0) n ≤ 1 := by
  cases v with
  | none =>
    intro n
    induction n with
    | zero => simp [sm]
    | succ n ih => simp [sm] at ih ⊢; exact ih
  | some a =>
    have key : ∀ n, sm (fun f => if some a = some f then 1 else 0) n = if a < n then 1 else 0 := by
      intro n
      induction n with
      | zero => simp [sm]
      | succ n ih =>
        simp only [sm]
        rw [ih]
        by_cases h : a = n
        · subst h
          simp
        · have h2 : ¬ (some a = some n) := fun q => h (Option.some.inj q)
          rw [if_neg h2]
          by_cases h3 : a < n
          · rw [if_pos h3, if_pos (by omega)]
          · rw [if_neg h3, if_neg (by omega)]
    intro n
    rw [key]
    split <;> omega
theorem sm_cn {rf : Nat → Option Nat} {n : Nat} : ∀ k, sm (fun f => cn rf f k) n ≤ k := by
  intro k
  induction k with
  | zero =>
    have : ∀ n, sm (fun _ => 0) n = 0 := by
      intro n
      induction n with
      | zero => rfl
      | succ n ih => simp only [sm]; omega
    simp only [cn]
    rw [this]
    exact Nat.le_refl 0
  | succ k ih =>
    simp only [cn]
    rw [sm_add]
    have := sm_one (v := rf k) n
    omega
theorem us_le {Hd C : Nat → Nat} : ∀ n, (∀ f, f < n → Hd f = (if f = 0 then 1 else 0) + C f) → us Hd n ≤ (if n = 0 then 0 else 1) + sm C n := by
  intro n
  induction n with
  | zero => intro _; simp [us]
  | succ n ih =>
    intro h
    have h1 := ih (fun f hf => h f (by omega))
    have h2 := h n (by omega)
    simp only [us, sm]
    rw [if_neg (Nat.succ_ne_zero n)]
    by_cases h0 : n = 0
    · subst h0
      simp only [us]
      split <;> omega
    · rw [if_neg h0] at h1 h2
      split <;> omega
/-- rf: what frame each of the 76 slots holds; Hd: the counts; Fr, ft: the free ones -/
def Pool (rf : Nat → Option Nat) (Hd Fr : Nat → Nat) (ft : Nat) : Prop :=
  (∀ k, k < 76 → ∀ f, rf k = some f → f < 80) ∧ (∀ f, f < 80 → Hd f = (if f = 0 then 1 else 0) + cn rf f 76) ∧
  (∀ i, i < ft → Fr i < 80 ∧ Hd (Fr i) = 0) ∧ (∀ i j, i < ft → j < ft → Fr i = Fr j → i = j) ∧ ft + us Hd 80 = 80
section PL
variable {rf : Nat → Option Nat} {Hd Fr : Nat → Nat} {ft : Nat}
theorem Pool.held (h : Pool rf Hd Fr ft) {k f : Nat} (hk : k < 76) (hr : rf k = some f) : f < 80 ∧ 1 ≤ Hd f ∧ (f = 0 → 2 ≤ Hd f) := by
  have h1 := h.1 k hk f hr
  have h2 := h.2.1 f h1
  have h3 := cn_pos hr 76 hk
  refine ⟨h1, by omega, fun h0 => ?_⟩
  rw [if_pos h0] at h2
  omega
theorem Pool.zero (h : Pool rf Hd Fr ft) : 1 ≤ Hd 0 := by
  have h2 := h.2.1 0 (by omega)
  rw [if_pos rfl] at h2
  omega
theorem Pool.bound (h : Pool rf Hd Fr ft) {f : Nat} (hf : f < 80) : Hd f ≤ 77 := by
  have h2 := h.2.1 f hf
  have h3 : ∀ n, cn rf f n ≤ n := by
    intro n
    induction n with
    | zero => simp [cn]
    | succ n ih => simp only [cn]; split <;> omega
  have h4 := h3 76
  split at h2 <;> omega
theorem Pool.top (h : Pool rf Hd Fr ft) : ft ≤ 80 := by
  have := h.2.2.2.2
  omega
theorem Pool.room (h : Pool rf Hd Fr ft) {f : Nat} (hf : f < 80) (h1 : 1 ≤ Hd f) : ft < 80 := by
  have h2 := us_pos (Hd := Hd) (k := f) (by omega) 80 hf
  have := h.2.2.2.2
  omega
theorem Pool.some_free (h : Pool rf Hd Fr ft) : 0 < ft := by
  have h1 := us_le 80 (C := fun f => cn rf f 76) h.2.1
  have h2 := sm_cn (rf := rf) (n := 80) 76
  have h3 := h.2.2.2.2
  simp at h1
  omega
theorem Pool.fresh (h : Pool rf Hd Fr ft) : Fr (ft - 1) < 80 ∧ Hd (Fr (ft - 1)) = 0 ∧ Fr (ft - 1) ≠ 0 := by
  have h0 := h.some_free
  obtain ⟨h1, h2⟩ := h.2.2.1 (ft - 1) (by omega)
  refine ⟨h1, h2, fun q => ?_⟩
  have := h.zero
  rw [q] at h2
  omega
theorem Pool.notfree (h : Pool rf Hd Fr ft) {k f : Nat} (hk : k < 76) (hr : rf k = some f) : Fr (ft - 1) ≠ f := by
  intro q
  have h1 := h.fresh.2.1
  have h2 := (h.held hk hr).2.1
  rw [q] at h1
  omega
theorem Pool.hold (h : Pool rf Hd Fr ft) {k f : Nat} (hk : k < 76) (hr : rf k = none) (hf : f < 80) (h1 : 1 ≤ Hd f) : Pool (va_up rf k (some f)) (va_up Hd f (Hd f + 1)) Fr ft := by
  obtain ⟨a1, a2, a3, a4, a5⟩ := h
  refine ⟨fun j hj g hg => ?_, fun g hg => ?_, fun i hi => ?_, a4, ?_⟩
  · by_cases hjk : j = k
    · subst hjk
      rw [vu_s] at hg
      cases hg
      exact hf
    · rw [vu_n hjk] at hg
      exact a1 j hj g hg
  · have c := cn_up (rf := rf) (f := g) (v := some f) 76 hk
    rw [hr] at c
    rw [if_neg (by simp)] at c
    have d := a2 g hg
    by_cases hgf : g = f
    · subst hgf
      rw [vu_s]
      rw [if_pos rfl] at c
      omega
    · rw [vu_n hgf]
      rw [if_neg (fun q => hgf (Option.some.inj q).symm)] at c
      omega
  · obtain ⟨b1, b2⟩ := a3 i hi
    refine ⟨b1, ?_⟩
    rw [vu_n (fun q => by rw [q] at b2; omega)]
    exact b2
  · have u := us_up (Hd := Hd) (v := Hd f + 1) 80 hf
    rw [if_neg (by omega), if_neg (by omega)] at u
    omega
theorem Pool.letgo (h : Pool rf Hd Fr ft) {k f : Nat} (hk : k < 76) (hr : rf k = some f) : Pool (va_up rf k none) (va_up Hd f (Hd f - 1)) (if Hd f = 1 then va_up Fr ft f else Fr) (if Hd f = 1 then ft + 1 else ft) := by
  obtain ⟨hf, h1, -⟩ := h.held hk hr
  obtain ⟨a1, a2, a3, a4, a5⟩ := h
  have e1 : ∀ j, j < 76 → ∀ g, va_up rf k none j = some g → g < 80 := by
    intro j hj g hg
    by_cases hjk : j = k
    · subst hjk
      rw [vu_s] at hg
      cases hg
    · rw [vu_n hjk] at hg
      exact a1 j hj g hg
  have e2 : ∀ g, g < 80 → va_up Hd f (Hd f - 1) g = (if g = 0 then 1 else 0) + cn (va_up rf k none) g 76 := by
    intro g hg
    have c := cn_up (rf := rf) (f := g) (v := none) 76 hk
    rw [hr] at c
    have d := a2 g hg
    by_cases hgf : g = f
    · subst hgf
      rw [vu_s]
      rw [if_pos rfl, if_neg (by simp)] at c
      omega
    · rw [vu_n hgf]
      rw [if_neg (fun q => hgf (Option.some.inj q).symm), if_neg (by simp)] at c
      omega
  have u := us_up (Hd := Hd) (v := Hd f - 1) 80 hf
  rw [if_neg (show ¬ Hd f = 0 by omega)] at u
  by_cases hh : Hd f = 1
  · rw [if_pos hh, if_pos hh]
    rw [if_pos (by omega)] at u
    refine ⟨e1, e2, fun i hi => ?_, fun i j hi hj hij => ?_, by omega⟩
    · by_cases hit : i = ft
      · subst hit
        rw [vu_s, vu_s]
        omega
      · obtain ⟨b1, b2⟩ := a3 i (by omega)
        rw [vu_n hit]
        refine ⟨b1, ?_⟩
        by_cases hg : Fr i = f
        · rw [hg, vu_s]
          omega
        · rw [vu_n hg]
          exact b2
    · have nf : ∀ i, i < ft → Fr i ≠ f := fun i hi q => by
        have := (a3 i hi).2
        rw [q] at this
        omega
      by_cases hit : i = ft
      · by_cases hjt : j = ft
        · omega
        · rw [vu_n hjt] at hij
          rw [hit, vu_s] at hij
          exact absurd hij.symm (nf j (by omega))
      · rw [vu_n hit] at hij
        by_cases hjt : j = ft
        · rw [hjt, vu_s] at hij
          exact absurd hij (nf i (by omega))
        · rw [vu_n hjt] at hij
          exact a4 i j (by omega) (by omega) hij
  · rw [if_neg hh, if_neg hh]
    rw [if_neg (by omega)] at u
    refine ⟨e1, e2, fun i hi => ?_, a4, by omega⟩
    obtain ⟨b1, b2⟩ := a3 i hi
    refine ⟨b1, ?_⟩
    rw [vu_n (fun q => by rw [q] at b2; omega)]
    exact b2
theorem Pool.move (h : Pool rf Hd Fr ft) {k j : Nat} {v : Option Nat} (hk : k < 76) (hj : j < 76) (hr : rf k = v) (hn : rf j = none) (hne : j ≠ k) : Pool (va_up (va_up rf k none) j v) Hd Fr ft := by
  obtain ⟨a1, a2, a3, a4, a5⟩ := h
  refine ⟨fun i hi g hg => ?_, fun g hg => ?_, a3, a4, a5⟩
  · by_cases hij : i = j
    · subst hij
      rw [vu_s] at hg
      exact a1 k hk g (hr.trans hg)
    · rw [vu_n hij] at hg
      by_cases hik : i = k
      · rw [hik, vu_s] at hg
        cases hg
      · rw [vu_n hik] at hg
        exact a1 i hi g hg
  · have c1 := cn_up (rf := va_up rf k none) (f := g) (v := v) 76 hj
    have c2 := cn_up (rf := rf) (f := g) (v := none) 76 hk
    rw [vu_n hne, hn, if_neg (show ¬ (none : Option Nat) = some g by simp)] at c1
    rw [hr, if_neg (show ¬ (none : Option Nat) = some g by simp)] at c2
    have d := a2 g hg
    omega
/-- the frame of slot k is changed for the topmost free one -/
theorem Pool.own (h : Pool rf Hd Fr ft) {k f : Nat} (hk : k < 76) (hr : rf k = some f) (h2 : Hd f ≠ 1) : Pool (va_up rf k (some (Fr (ft - 1)))) (va_up (va_up Hd (Fr (ft - 1)) 1) f (Hd f - 1)) Fr (ft - 1) := by
  obtain ⟨hf, h1, -⟩ := h.held hk hr
  obtain ⟨g1, g2, g3⟩ := h.fresh
  have g4 := h.notfree hk hr
  have g5 := h.some_free
  obtain ⟨a1, a2, a3, a4, a5⟩ := h
  generalize hg : Fr (ft - 1) = g at *
  have hz : cn rf g 76 = 0 := by
    have := a2 g g1
    omega
  refine ⟨fun j hj x hx => ?_, fun x hx => ?_, fun i hi => ?_, fun i j hi hj => a4 i j (by omega) (by omega), ?_⟩
  · by_cases hjk : j = k
    · subst hjk
      rw [vu_s] at hx
      cases hx
      exact g1
    · rw [vu_n hjk] at hx
      exact a1 j hj x hx
  · have c := cn_up (rf := rf) (f := x) (v := some g) 76 hk
    rw [hr] at c
    have d := a2 x hx
    by_cases hxf : x = f
    · subst hxf
      rw [vu_s]
      rw [if_pos rfl, if_neg (fun q => g4 (Option.some.inj q))] at c
      omega
    · rw [vu_n hxf]
      rw [if_neg (fun q => hxf (Option.some.inj q).symm)] at c
      by_cases hxg : x = g
      · subst hxg
        rw [vu_s]
        rw [if_pos rfl] at c
        rw [if_neg g3]
        omega
      · rw [vu_n hxg]
        rw [if_neg (fun q => hxg (Option.some.inj q).symm)] at c
        omega
  · obtain ⟨b1, b2⟩ := a3 i (by omega)
    refine ⟨b1, ?_⟩
    have n1 : Fr i ≠ f := fun q => by rw [q] at b2; omega
    have n2 : Fr i ≠ g := fun q => by
      have := a4 i (ft - 1) (by omega) (by omega) (q.trans hg.symm)
      omega
    rw [vu_n n1, vu_n n2]
    exact b2
  · have u1 := us_up (Hd := va_up Hd g 1) (v := Hd f - 1) 80 hf
    have u2 := us_up (Hd := Hd) (v := 1) 80 g1
    rw [vu_n (fun q => g4 q.symm), if_neg (show ¬ Hd f = 0 by omega), if_neg (show ¬ Hd f - 1 = 0 by omega)] at u1
    rw [if_pos g2, if_neg (by omega)] at u2
    omega
end PL
end
section
/-! contracts' short forms -/
abbrev KI (l : Launch) (D : va_G) (cI cZ : ClassId) (y : MethodName) (cc : ByteArray) (maxL : Nat) (rm : Room) (av : List Value) (w0 : va_W) (sz : Nat) {S : Type} (post : Int32 → S → Prop) (w1 : S → va_W) : Prop := Met l y (ws_ y cc maxL (some .int)) rm (va_Pc av (zPre D vCl (tIZ cI cZ) w0 sz)) (va_Qi post (zB D vCl (tIZ cI cZ) w1 (va_A w0 sz)) (va_A w0 sz)) 0 0 (va_A w0 sz)
abbrev KZ (l : Launch) (D : va_G) (cI cZ : ClassId) (y : MethodName) (cc : ByteArray) (maxL : Nat) (rm : Room) (av : List Value) (w0 : va_W) (sz : Nat) {S : Type} (post : Int32 → S → Prop) (w1 : S → va_W) : Prop := Met l y (ws_ y cc maxL (some .boolean)) rm (va_Pc av (zPre D vCl (tIZ cI cZ) w0 sz)) (va_Qi post (zB D vCl (tIZ cI cZ) w1 (va_A w0 sz)) (va_A w0 sz)) 0 0 (va_A w0 sz)
abbrev KV (l : Launch) (D : va_G) (cI cZ : ClassId) (y : MethodName) (cc : ByteArray) (maxL : Nat) (rm : Room) (av : List Value) (w0 : va_W) (sz : Nat) {S : Type} (post : S → Prop) (w1 : S → va_W) : Prop := Met l y (ws_ y cc maxL none) rm (va_Pc av (zPre D vCl (tIZ cI cZ) w0 sz)) (va_Qv post (zB D vCl (tIZ cI cZ) w1 (va_A w0 sz)) (va_A w0 sz)) 0 0 (va_A w0 sz)
abbrev KB (l : Launch) (y : MethodName) (cc : ByteArray) (maxL : Nat) (rm : Room) (av : List Value) (post : Int32 → Prop) : Prop := Met l y (ws_ y cc maxL (some .boolean)) rm (va_Pc av (fun _ => True)) (va_Qi (fun r (_ : Unit) => post r) (fun _ _ => True) (fun _ => False)) 0 0 (fun _ => False)
/-- out of 0, 1, 2; out of 0 .. 7 -/
def bad3 (a : Int32) : Prop := a < 0 ∨ ¬ a ≤ 2
def bad8 (a : Int32) : Prop := a < 0 ∨ ¬ a ≤ 7
def b3 (a r : Int32) : Prop := (r = 1 ∧ bad3 a) ∨ (r = 0 ∧ ∃ p : Nat, p < 3 ∧ a = nI p)
def b8 (a r : Int32) : Prop := (r = 1 ∧ bad8 a) ∨ (r = 0 ∧ ∃ p : Nat, p < 8 ∧ a = nI p)
theorem ng3 {p : Nat} (h : p < 3) : ¬ bad3 (nI p) := by
  rintro (q | q)
  · exact nI_pos (by omega) q
  · exact q (show nI p ≤ nI 2 from nI_le (by omega) (by decide))
theorem ng8 {p : Nat} (h : p < 8) : ¬ bad8 (nI p) := by
  rintro (q | q)
  · exact nI_pos (by omega) q
  · exact q (show nI p ≤ nI 7 from nI_le (by omega) (by decide))
theorem gd3 {a : Int32} (h : ¬ a < 0) (h2 : a ≤ 2) : ∃ p : Nat, p < 3 ∧ a = nI p := by
  obtain ⟨j, h3, h4⟩ := nI_of2 (M := 2) (n := 2) (by decide) h h2
  exact ⟨j, by omega, h4⟩
theorem gd8 {a : Int32} (h : ¬ a < 0) (h2 : a ≤ 7) : ∃ p : Nat, p < 8 ∧ a = nI p := by
  obtain ⟨j, h3, h4⟩ := nI_of2 (M := 7) (n := 7) (by decide) h h2
  exact ⟨j, by omega, h4⟩
set_option maxHeartbeats 4000000 in
set_option maxRecDepth 100000 in
theorem cX_badNumber (l : Launch) (a : Int32) : KB l yX0_badNumber cX0_badNumber 1 r0 [.int a] (b3 a) := by
  refine fw_b (by decide) (Nat.le_of_ble_eq_true rfl) ?_
  intro p e s m below meth c Q ls args hx hb hl hret
  have hl : lv_has ls 1 [(0, .int a)] := hl
  refine lv_iload_n hx hb dX0_badNumber_0 rfl (lv_at hl 0 rfl) ?_
  refine lv_if_lt (tgt := 9) hx hb dX0_badNumber_1 (by decide) (fun h1 => ?_) (fun h1 => ?_)
  · skip
    refine lv_iconst (v := bI true) hx hb dX0_badNumber_9 (by decide) ?_
    refine lv_goto (tgt := 14) hx hb dX0_badNumber_10 (by decide) ?_
    exact hret true _ _ dX0_badNumber_14 (Or.inl ⟨rfl, Or.inl h1⟩)
  · skip
    refine lv_iload_n hx hb dX0_badNumber_4 rfl (lv_at hl 0 rfl) ?_
    refine lv_iconst (v := 2) hx hb dX0_badNumber_5 (by decide) ?_
    refine lv_icmp_le (tgt := 13) hx hb dX0_badNumber_6 (by decide) (fun h6 => ?_) (fun h6 => ?_)
    · skip
      refine lv_iconst (v := bI false) hx hb dX0_badNumber_13 (by decide) ?_
      exact hret false _ _ dX0_badNumber_14 (Or.inr ⟨rfl, gd3 h1 h6⟩)
    · skip
      refine lv_iconst (v := bI true) hx hb dX0_badNumber_9 (by decide) ?_
      refine lv_goto (tgt := 14) hx hb dX0_badNumber_10 (by decide) ?_
      exact hret true _ _ dX0_badNumber_14 (Or.inl ⟨rfl, Or.inr h6⟩)
set_option maxHeartbeats 4000000 in
set_option maxRecDepth 100000 in
theorem cX_badPage (l : Launch) (a : Int32) : KB l yX0_badPage cX0_badPage 1 r0 [.int a] (b8 a) := by
  refine fw_b (by decide) (Nat.le_of_ble_eq_true rfl) ?_
  intro p e s m below meth c Q ls args hx hb hl hret
  have hl : lv_has ls 1 [(0, .int a)] := hl
  refine lv_iload_n hx hb dX0_badPage_0 rfl (lv_at hl 0 rfl) ?_
  refine lv_if_lt (tgt := 10) hx hb dX0_badPage_1 (by decide) (fun h1 => ?_) (fun h1 => ?_)
  · skip
    refine lv_iconst (v := bI true) hx hb dX0_badPage_10 (by decide) ?_
    refine lv_goto (tgt := 15) hx hb dX0_badPage_11 (by decide) ?_
    exact hret true _ _ dX0_badPage_15 (Or.inl ⟨rfl, Or.inl h1⟩)
  · skip
    refine lv_iload_n hx hb dX0_badPage_4 rfl (lv_at hl 0 rfl) ?_
    refine lv_bipush (v := 7) hx hb dX0_badPage_5 (by decide) ?_
    refine lv_icmp_le (tgt := 14) hx hb dX0_badPage_7 (by decide) (fun h7 => ?_) (fun h7 => ?_)
    · skip
      refine lv_iconst (v := bI false) hx hb dX0_badPage_14 (by decide) ?_
      exact hret false _ _ dX0_badPage_15 (Or.inr ⟨rfl, gd8 h1 h7⟩)
    · skip
      refine lv_iconst (v := bI true) hx hb dX0_badPage_10 (by decide) ?_
      refine lv_goto (tgt := 15) hx hb dX0_badPage_11 (by decide) ?_
      exact hret true _ _ dX0_badPage_15 (Or.inl ⟨rfl, Or.inr h7⟩)
set_option maxHeartbeats 4000000 in
set_option maxRecDepth 100000 in
theorem cM_bad (l : Launch) (b : Nat) (a : Int32) : KB l yX1_bad cX1_bad 2 r0 [.ref b, .int a] (b3 a) := by
  refine fw_b (by decide) (Nat.le_of_ble_eq_true rfl) ?_
  intro p e s m below meth c Q ls args hx hb hl hret
  have hl : lv_has ls 2 [(0, .ref b), (1, .int a)] := hl
  refine lv_iload_n hx hb dX1_bad_0 rfl (lv_at hl 1 rfl) ?_
  refine lv_if_lt (tgt := 9) hx hb dX1_bad_1 (by decide) (fun h1 => ?_) (fun h1 => ?_)
  · skip
    refine lv_iconst (v := bI true) hx hb dX1_bad_9 (by decide) ?_
    refine lv_goto (tgt := 14) hx hb dX1_bad_10 (by decide) ?_
    exact hret true _ _ dX1_bad_14 (Or.inl ⟨rfl, Or.inl h1⟩)
  · skip
    refine lv_iload_n hx hb dX1_bad_4 rfl (lv_at hl 1 rfl) ?_
    refine lv_iconst (v := 2) hx hb dX1_bad_5 (by decide) ?_
    refine lv_icmp_le (tgt := 13) hx hb dX1_bad_6 (by decide) (fun h6 => ?_) (fun h6 => ?_)
    · skip
      refine lv_iconst (v := bI false) hx hb dX1_bad_13 (by decide) ?_
      exact hret false _ _ dX1_bad_14 (Or.inr ⟨rfl, gd3 h1 h6⟩)
    · skip
      refine lv_iconst (v := bI true) hx hb dX1_bad_9 (by decide) ?_
      refine lv_goto (tgt := 14) hx hb dX1_bad_10 (by decide) ?_
      exact hret true _ _ dX1_bad_14 (Or.inl ⟨rfl, Or.inr h6⟩)
set_option maxHeartbeats 4000000 in
set_option maxRecDepth 100000 in
theorem cM_badPage (l : Launch) (b : Nat) (a : Int32) : KB l yX1_badPage cX1_badPage 2 r0 [.ref b, .int a] (b8 a) := by
  refine fw_b (by decide) (Nat.le_of_ble_eq_true rfl) ?_
  intro p e s m below meth c Q ls args hx hb hl hret
  have hl : lv_has ls 2 [(0, .ref b), (1, .int a)] := hl
  refine lv_iload_n hx hb dX1_badPage_0 rfl (lv_at hl 1 rfl) ?_
  refine lv_if_lt (tgt := 10) hx hb dX1_badPage_1 (by decide) (fun h1 => ?_) (fun h1 => ?_)
  · skip
    refine lv_iconst (v := bI true) hx hb dX1_badPage_10 (by decide) ?_
    refine lv_goto (tgt := 15) hx hb dX1_badPage_11 (by decide) ?_
    exact hret true _ _ dX1_badPage_15 (Or.inl ⟨rfl, Or.inl h1⟩)
  · skip
    refine lv_iload_n hx hb dX1_badPage_4 rfl (lv_at hl 1 rfl) ?_
    refine lv_bipush (v := 7) hx hb dX1_badPage_5 (by decide) ?_
    refine lv_icmp_le (tgt := 14) hx hb dX1_badPage_7 (by decide) (fun h7 => ?_) (fun h7 => ?_)
    · skip
      refine lv_iconst (v := bI false) hx hb dX1_badPage_14 (by decide) ?_
      exact hret false _ _ dX1_badPage_15 (Or.inr ⟨rfl, gd8 h1 h7⟩)
    · skip
      refine lv_iconst (v := bI true) hx hb dX1_badPage_10 (by decide) ?_
      refine lv_goto (tgt := 15) hx hb dX1_badPage_11 (by decide) ?_
      exact hret true _ _ dX1_badPage_15 (Or.inl ⟨rfl, Or.inr h7⟩)
section KW
variable {R : Room} {s : State} {args : Array Value}
theorem kX_badNumber (hts : ∀ w ∈ lw_all, w.before args s = true) (hR : 0 + 1 ≤ R.frames ∧ 8 + (1 + 11) + 0 ≤ R.locals) : CallB R s args RX0 55 yX0_badNumber cX0_badNumber 1 (some .boolean) (ws_ yX0_badNumber cX0_badNumber 1 (some .boolean)) r0 0 0 1 ∧ (Cond.static yX0_badNumber).before args s = true := va_cwS 1 hts (lw_S q68 q69 q12 q70) rfl rfl rfl (by decide +kernel) hR
theorem kX_badPage (hts : ∀ w ∈ lw_all, w.before args s = true) (hR : 0 + 1 ≤ R.frames ∧ 8 + (1 + 11) + 0 ≤ R.locals) : CallB R s args RX0 59 yX0_badPage cX0_badPage 1 (some .boolean) (ws_ yX0_badPage cX0_badPage 1 (some .boolean)) r0 0 0 1 ∧ (Cond.static yX0_badPage).before args s = true := va_cwS 1 hts (lw_S q71 q72 q12 q73) rfl rfl rfl (by decide +kernel) hR
theorem kX_hold (hts : ∀ w ∈ lw_all, w.before args s = true) (hR : 0 + 1 ≤ R.frames ∧ 8 + (2 + 11) + 0 ≤ R.locals) : CallW R s args RX0 RX0 62 yX0_hold cX0_hold 2 (some .int) (ws_ yX0_hold cX0_hold 2 (some .int)) r0 0 0 1 := cwV 1 hts (lw_V q74 q76 qs0 q12 q77) rfl rfl rfl (by decide +kernel) hR
theorem kX_mappedPages (hts : ∀ w ∈ lw_all, w.before args s = true) (hR : 0 + 1 ≤ R.frames ∧ 8 + (4 + 11) + 0 ≤ R.locals) : CallW R s args RX0 RX0 66 yX0_mappedPages cX0_mappedPages 4 (some .int) (ws_ yX0_mappedPages cX0_mappedPages 4 (some .int)) r0 0 0 1 := cwV 1 hts (lw_V q78 q80 qs1 q12 q81) rfl rfl rfl (by decide +kernel) hR
theorem kX_letGo (hts : ∀ w ∈ lw_all, w.before args s = true) (hR : 0 + 1 ≤ R.frames ∧ 8 + (2 + 11) + 0 ≤ R.locals) : CallW R s args RX0 RX0 51 yX0_letGo cX0_letGo 2 none (ws_ yX0_letGo cX0_letGo 2 none) r0 0 0 1 := cwV 1 hts (lw_V q86 q88 qs2 q12 q89) rfl rfl rfl (by decide +kernel) hR
theorem kX_ownFrame (hts : ∀ w ∈ lw_all, w.before args s = true) (hR : 1 + 1 ≤ R.frames ∧ 8 + (4 + 11) + 30 ≤ R.locals) : CallW R s args RX0 RX0 69 yX0_ownFrame cX0_ownFrame 4 (some .int) (ws_ yX0_ownFrame cX0_ownFrame 4 (some .int)) r1 0 0 1 := cwV 1 hts (lw_V q94 q96 qs3 q12 q97) rfl rfl rfl (by decide +kernel) hR
theorem kX_dropHead (hts : ∀ w ∈ lw_all, w.before args s = true) (hR : 0 + 1 ≤ R.frames ∧ 8 + (2 + 11) + 0 ≤ R.locals) : CallW R s args RX0 RX0 72 yX0_dropHead cX0_dropHead 2 none (ws_ yX0_dropHead cX0_dropHead 2 none) r0 0 0 1 := cwV 1 hts (lw_V q110 q112 qs4 q12 q113) rfl rfl rfl (by decide +kernel) hR
theorem kX_clearKept (hts : ∀ w ∈ lw_all, w.before args s = true) (hR : 1 + 1 ≤ R.frames ∧ 8 + (3 + 11) + 30 ≤ R.locals) : CallW R s args RX0 RX0 75 yX0_clearKept cX0_clearKept 3 none (ws_ yX0_clearKept cX0_clearKept 3 none) r1 0 0 1 := cwV 1 hts (lw_V q122 q124 qs5 q12 q125) rfl rfl rfl (by decide +kernel) hR
theorem kX_clearTable (hts : ∀ w ∈ lw_all, w.before args s = true) (hR : 1 + 1 ≤ R.frames ∧ 8 + (3 + 11) + 30 ≤ R.locals) : CallW R s args RX0 RX0 78 yX0_clearTable cX0_clearTable 3 none (ws_ yX0_clearTable cX0_clearTable 3 none) r1 0 0 1 := cwV 1 hts (lw_V q130 q132 qs6 q12 q133) rfl rfl rfl (by decide +kernel) hR
theorem kM_bad (hts : ∀ w ∈ lw_all, w.before args s = true) (hR : 0 + 1 ≤ R.frames ∧ 8 + (2 + 11) + 0 ≤ R.locals) : CallW R s args RX1 RX1 41 yX1_bad cX1_bad 2 (some .boolean) (ws_ yX1_bad cX1_bad 2 (some .boolean)) r0 0 0 1 := cwV 1 hts (lw_V q195 q197 qs7 q13 q198) rfl rfl rfl (by decide +kernel) hR
theorem kM_badPage (hts : ∀ w ∈ lw_all, w.before args s = true) (hR : 0 + 1 ≤ R.frames ∧ 8 + (2 + 11) + 0 ≤ R.locals) : CallW R s args RX1 RX1 45 yX1_badPage cX1_badPage 2 (some .boolean) (ws_ yX1_badPage cX1_badPage 2 (some .boolean)) r0 0 0 1 := cwV 1 hts (lw_V q199 q201 qs8 q13 q202) rfl rfl rfl (by decide +kernel) hR
theorem kM_count (hts : ∀ w ∈ lw_all, w.before args s = true) (hR : 0 + 1 ≤ R.frames ∧ 8 + (4 + 11) + 0 ≤ R.locals) : CallW R s args RX1 RX1 48 yX1_count cX1_count 4 (some .int) (ws_ yX1_count cX1_count 4 (some .int)) r0 0 0 1 := cwV 1 hts (lw_V q203 q205 qs9 q13 q206) rfl rfl rfl (by decide +kernel) hR
theorem kM_forward (hts : ∀ w ∈ lw_all, w.before args s = true) (hR : 0 + 1 ≤ R.frames ∧ 8 + (4 + 11) + 0 ≤ R.locals) : CallW R s args RX1 RX1 52 yX1_forward cX1_forward 4 none (ws_ yX1_forward cX1_forward 4 none) r0 0 0 1 := cwV 1 hts (lw_V q227 q229 qs10 q13 q230) rfl rfl rfl (by decide +kernel) hR
end KW
end
section
/-! the component's leaves: hold, letGo, mappedPages, dropHead, ownFrame -/
def hdU (Hd : Nat → Nat) (v : Option Nat) : Nat → Nat := match v with
  | none => Hd
  | some f => va_up Hd f (Hd f + 1)
def lgo (v : Option Nat) (Hd Fr : Nat → Nat) (ft : Nat) : (Nat → Nat) × (Nat → Nat) × Nat := match v with
  | none => (Hd, Fr, ft)
  | some f => (va_up Hd f (Hd f - 1), if Hd f = 1 then va_up Fr ft f else Fr, if Hd f = 1 then ft + 1 else ft)
/-- how many of the first n places from b on are mapped -/
def cO (T : Nat → Option Nat) (b : Nat) : Nat → Nat
  | 0 => 0
  | n + 1 => cO T b n + (if (T (b + n)).isSome then 1 else 0)
theorem cO_le {T : Nat → Option Nat} {b : Nat} : ∀ n, cO T b n ≤ n := by
  intro n
  induction n with
  | zero => simp [cO]
  | succ n ih => simp only [cO]; split <;> omega
section XL
variable {l : Launch} {D : va_G} {ad : Nat → Nat} {cI cZ : ClassId} {sz : Nat}
variable {Wo : Nat → Int32} {Hd : Nat → Nat} {Fr : Nat → Nat} {ft : Nat} {Tb : Nat → Option Nat} {Kt : Nat → Option Nat} {hk : Nat → Bool} {La : Nat → Int32} {He : Nat → Nat} {Co : Nat → Nat} {Iw : Nat → Int32} {Pa : Nat → Nat} {Ca : Nat → Option Nat}
set_option maxHeartbeats 4000000 in
set_option maxRecDepth 100000 in
theorem cX_hold (v : Option Nat) (hv : ∀ f, v = some f → f < 80) : KI l D cI cZ yX0_hold cX0_hold 2 r0 [.ref (ad 0), .int (oN v)] (wX ad cI cZ Wo Hd Fr ft Tb Kt hk La He Co Iw Pa Ca) sz (fun r (u : Nat → Nat) => r = oN v ∧ u = hdU Hd v) (fun u => wX ad cI cZ Wo u Fr ft Tb Kt hk La He Co Iw Pa Ca) := by
  refine fw_i (by decide) (Nat.le_of_ble_eq_true rfl) ?_
  intro p e s m below meth c A Q ls args hx hb hml hts hown hK hP hD hS hA hl hret
  have hown : s.vm.findClass RX0 = some m.cls := hown
  have hl : lv_has ls 2 [(0, .ref (ad 0)), (1, .int (oN v))] := hl
  cases v with
  | none =>
    have hl : lv_has ls 2 [(0, .ref (ad 0)), (1, .int (oN none))] := hl
    refine lv_iload_n hx hb dX0_hold_0 rfl (lv_at hl 1 rfl) ?_
    refine zo_iflt (tgt := 14) hx hb dX0_hold_1 (by decide) ?_
    refine lv_iload_n hx hb dX0_hold_14 rfl (lv_at hl 1 rfl) ?_
    exact hret (oN none) Hd _ _ _ _ dX0_hold_15 ⟨rfl, rfl⟩ hP hD hS
  | some f =>
    have hl : lv_has ls 2 [(0, .ref (ad 0)), (1, .int (nI f))] := hl
    have hf := hv f rfl
    refine lv_iload_n hx hb dX0_hold_0 rfl (lv_at hl 1 rfl) ?_
    refine zi_iflt (tgt := 14) hx hb (by omega) dX0_hold_1 (by decide) ?_
    refine lv_aload_n hx hb dX0_hold_4 rfl (lv_at hl 0 rfl) ?_
    refine gX_Hd hx hb hts hown hK hP dX0_hold_5 ?_
    refine lv_iload_n hx hb dX0_hold_8 rfl (lv_at hl 1 rfl) ?_
    refine lv_dup2_11 hx hb dX0_hold_9 rfl rfl ?_
    refine lX_Hd hx hb hK hP (by omega) dX0_hold_10 ?_
    refine lv_iconst (v := nI 1) hx hb dX0_hold_11 (by decide) ?_
    refine zi_add hx hb dX0_hold_12 ?_
    refine sX_Hd hx hb hK hP hD hS (by omega) dX0_hold_13 (fun H locs hP hD hS => ?_)
    refine lv_iload_n hx hb dX0_hold_14 rfl (lv_at hl 1 rfl) ?_
    exact hret (nI f) (va_up Hd f (Hd f + 1)) _ _ _ _ dX0_hold_15 ⟨rfl, rfl⟩ hP hD hS
set_option maxHeartbeats 4000000 in
set_option maxRecDepth 100000 in
theorem cX_letGo (v : Option Nat) (hv : ∀ f, v = some f → f < 80 ∧ 1 ≤ Hd f ∧ (Hd f = 1 → ft < 80) ∧ Hd f < 1000 ∧ ft < 1000) : KV l D cI cZ yX0_letGo cX0_letGo 2 r0 [.ref (ad 0), .int (oN v)] (wX ad cI cZ Wo Hd Fr ft Tb Kt hk La He Co Iw Pa Ca) sz (fun (u : (Nat → Nat) × (Nat → Nat) × Nat) => u = lgo v Hd Fr ft) (fun u => wX ad cI cZ Wo (u.1) (u.2.1) (u.2.2) Tb Kt hk La He Co Iw Pa Ca) := by
  refine fw_v (by decide) (Nat.le_of_ble_eq_true rfl) ?_
  intro p e s m below meth c A Q ls args hx hb hml hts hown hK hP hD hS hA hl hret
  have hown : s.vm.findClass RX0 = some m.cls := hown
  have hl : lv_has ls 2 [(0, .ref (ad 0)), (1, .int (oN v))] := hl
  cases v with
  | none =>
    have hl : lv_has ls 2 [(0, .ref (ad 0)), (1, .int (oN none))] := hl
    refine lv_iload_n hx hb dX0_letGo_0 rfl (lv_at hl 1 rfl) ?_
    refine zo_ifge (tgt := 5) hx hb dX0_letGo_1 (by decide) ?_
    exact hret (Hd, Fr, ft) _ _ _ _ dX0_letGo_4 rfl hP hD hS
  | some f =>
    have hl : lv_has ls 2 [(0, .ref (ad 0)), (1, .int (nI f))] := hl
    obtain ⟨hf, hf1, hf2, hf3, hf4⟩ := hv f rfl
    refine lv_iload_n hx hb dX0_letGo_0 rfl (lv_at hl 1 rfl) ?_
    refine zi_ifge (tgt := 5) hx hb (by omega) dX0_letGo_1 (by decide) ?_
    refine lv_aload_n hx hb dX0_letGo_5 rfl (lv_at hl 0 rfl) ?_
    refine gX_Hd hx hb hts hown hK hP dX0_letGo_6 ?_
    refine lv_iload_n hx hb dX0_letGo_9 rfl (lv_at hl 1 rfl) ?_
    refine lv_dup2_11 hx hb dX0_letGo_10 rfl rfl ?_
    refine lX_Hd hx hb hK hP (by omega) dX0_letGo_11 ?_
    refine lv_iconst (v := nI 1) hx hb dX0_letGo_12 (by decide) ?_
    refine zi_sub hx hb (by omega) dX0_letGo_13 ?_
    refine sX_Hd hx hb hK hP hD hS (by omega) dX0_letGo_14 (fun H locs hP hD hS => ?_)
    refine lv_aload_n hx hb dX0_letGo_15 rfl (lv_at hl 0 rfl) ?_
    refine gX_Hd hx hb hts hown hK hP dX0_letGo_16 ?_
    refine lv_iload_n hx hb dX0_letGo_19 rfl (lv_at hl 1 rfl) ?_
    refine lX_Hd hx hb hK hP (by omega) dX0_letGo_20 ?_
    refine zi_ifne (tgt := 44) hx hb (by rw [vu_s]; omega) dX0_letGo_21 (by decide) (fun h21 => ?_) (fun h21 => ?_)
    · skip
      rw [vu_s] at h21
      exact hret (va_up Hd f (Hd f - 1), Fr, ft) _ _ _ _ dX0_letGo_44 (by simp only [lgo]; rw [if_neg (by omega), if_neg (by omega)]) hP hD hS
    · skip
      rw [vu_s] at h21
      refine lv_aload_n hx hb dX0_letGo_24 rfl (lv_at hl 0 rfl) ?_
      refine gX_Fr hx hb hts hown hK hP dX0_letGo_25 ?_
      refine lv_aload_n hx hb dX0_letGo_28 rfl (lv_at hl 0 rfl) ?_
      refine gX_ft hx hb hts hown hK hP dX0_letGo_29 ?_
      refine lv_iload_n hx hb dX0_letGo_32 rfl (lv_at hl 1 rfl) ?_
      refine sX_Fr hx hb hK hP hD hS (by omega) dX0_letGo_33 (fun H locs hP hD hS => ?_)
      refine lv_aload_n hx hb dX0_letGo_34 rfl (lv_at hl 0 rfl) ?_
      refine lv_dup hx hb dX0_letGo_35 rfl ?_
      refine gX_ft hx hb hts hown hK hP dX0_letGo_36 ?_
      refine lv_iconst (v := nI 1) hx hb dX0_letGo_39 (by decide) ?_
      refine zi_add hx hb dX0_letGo_40 ?_
      refine pX_ft hx hb hts hown hK hP hD hS dX0_letGo_41 (fun H locs hP hD hS => ?_)
      exact hret (va_up Hd f (Hd f - 1), va_up Fr ft f, ft + 1) _ _ _ _ dX0_letGo_44 (by simp only [lgo]; rw [if_pos (by omega), if_pos (by omega)]) hP hD hS
set_option maxHeartbeats 4000000 in
set_option maxRecDepth 100000 in
theorem cX_mappedPages (pn : Nat) (hp : pn < 3) (hT : ∀ k, k < 24 → ∀ f, Tb k = some f → f < 80) : KI l D cI cZ yX0_mappedPages cX0_mappedPages 4 r0 [.ref (ad 0), .int (nI pn)] (wX ad cI cZ Wo Hd Fr ft Tb Kt hk La He Co Iw Pa Ca) sz (fun r (_ : Unit) => r = nI (cO Tb (pn * 8) 8)) (fun _ => wX ad cI cZ Wo Hd Fr ft Tb Kt hk La He Co Iw Pa Ca) := by
  refine fw_i (by decide) (Nat.le_of_ble_eq_true rfl) ?_
  intro p e s m below meth c A Q ls args hx hb hml hts hown hK hP hD hS hA hl hret
  have hown : s.vm.findClass RX0 = some m.cls := hown
  have hl : lv_has ls 4 [(0, .ref (ad 0)), (1, .int (nI pn))] := hl
  refine lv_iconst (v := nI 0) hx hb dX0_mappedPages_0 (by decide) ?_
  refine zi_stn hx hb dX0_mappedPages_1 rfl hl (by decide) (fun ls hl => ?_)
  refine lv_iconst (v := nI 0) hx hb dX0_mappedPages_2 (by decide) ?_
  refine zi_stn hx hb dX0_mappedPages_3 rfl hl (by decide) (fun ls hl => ?_)
  have hloop4 : ∀ (n : Nat) (i : Nat) (H : Heap) (locs : List Loc) (ls : Array Slot), i ≤ 8 → 8 + 1 ≤ i + n → True → va_P D vCl (wX ad cI cZ Wo Hd Fr ft Tb Kt hk La He Co Iw Pa Ca) H → va_D A (wX ad cI cZ Wo Hd Fr ft Tb Kt hk La He Co Iw Pa Ca) → va_S A s.heap H locs → lv_has ls 4 [(0, .ref (ad 0)), (1, .int (nI pn)), (2, .int (nI (cO Tb (pn * 8) i))), (3, .int (nI i))] → W p l e r0 s m args below meth c H locs 0 0 Q (F0 m 4 ls []) := by
    intro n4
    induction n4 with
    | zero => intro i H locs ls hi hn; exact absurd hn (by omega)
    | succ n4 ih4 =>
      intro i H locs ls hi hn _  hP hD hS hl
      have hle := cO_le (T := Tb) (b := pn * 8) i
      refine lv_iload_n hx hb dX0_mappedPages_4 rfl (lv_at hl 3 rfl) ?_
      refine lv_bipush (v := nI 8) hx hb dX0_mappedPages_5 (by decide) ?_
      refine zi_ge (tgt := 33) hx hb (by omega) (by omega) dX0_mappedPages_7 (by decide) (fun h7 => ?_) (fun h7 => ?_)
      · skip
        refine lv_iload_n hx hb dX0_mappedPages_33 rfl (lv_at hl 2 rfl) ?_
        have h8 : i = 8 := by omega
        subst h8
        exact hret _ () _ _ _ _ dX0_mappedPages_34 rfl hP hD hS
      · skip
        refine lv_aload_n hx hb dX0_mappedPages_10 rfl (lv_at hl 0 rfl) ?_
        refine gX_Tb hx hb hts hown hK hP dX0_mappedPages_11 ?_
        refine lv_iload_n hx hb dX0_mappedPages_14 rfl (lv_at hl 1 rfl) ?_
        refine lv_bipush (v := nI 8) hx hb dX0_mappedPages_15 (by decide) ?_
        refine zi_mul hx hb dX0_mappedPages_17 ?_
        refine lv_iload_n hx hb dX0_mappedPages_18 rfl (lv_at hl 3 rfl) ?_
        refine zi_add hx hb dX0_mappedPages_19 ?_
        refine lX_Tb hx hb hK hP (by omega) dX0_mappedPages_20 ?_
        rcases hT20 : Tb (pn * 8 + i) with _ | f
        · skip
          have hc : cO Tb (pn * 8) (i + 1) = cO Tb (pn * 8) i := by simp [cO, hT20]
          refine zo_iflt (tgt := 27) hx hb dX0_mappedPages_21 (by decide) ?_
          refine zi_inc hx hb dX0_mappedPages_27 hl (k := 3) rfl (by decide) (fun ls hl => ?_)
          refine lv_goto (tgt := 4) hx hb dX0_mappedPages_30 (by decide) ?_
          rw [← hc] at hl
          exact ih4 (i + 1)  _ _ _ (by omega) (by omega) trivial  hP hD hS (lv_sub hl [1, 2, 3, 0] rfl)
        · refine zo_top ?_
          have hc : cO Tb (pn * 8) (i + 1) = cO Tb (pn * 8) i + 1 := by simp [cO, hT20]
          have hf := hT (pn * 8 + i) (by omega) f hT20
          refine zi_iflt (tgt := 27) hx hb (by omega) dX0_mappedPages_21 (by decide) ?_
          refine zi_inc hx hb dX0_mappedPages_24 hl (k := 2) rfl (by decide) (fun ls hl => ?_)
          refine zi_inc hx hb dX0_mappedPages_27 hl (k := 3) rfl (by decide) (fun ls hl => ?_)
          refine lv_goto (tgt := 4) hx hb dX0_mappedPages_30 (by decide) ?_
          rw [← hc] at hl
          exact ih4 (i + 1)  _ _ _ (by omega) (by omega) trivial  hP hD hS (lv_sub hl [2, 3, 1, 0] rfl)
  exact hloop4 (8 + 1) 0  _ _ _ (by omega) (by omega) trivial  hP hD hS (lv_sub hl [2, 3, 1, 0] rfl)
set_option maxHeartbeats 4000000 in
set_option maxRecDepth 100000 in
theorem cX_dropHead (pn : Nat) (hp : pn < 3) (h1 : He pn < 3) (h2 : 1 ≤ Co pn) (h3 : Co pn < 1000) : KV l D cI cZ yX0_dropHead cX0_dropHead 2 r0 [.ref (ad 0), .int (nI pn)] (wX ad cI cZ Wo Hd Fr ft Tb Kt hk La He Co Iw Pa Ca) sz (fun (u : (Nat → Nat) × (Nat → Nat)) => u.1 = va_up He pn (if He pn = 2 then 0 else He pn + 1) ∧ u.2 = va_up Co pn (Co pn - 1)) (fun u => wX ad cI cZ Wo Hd Fr ft Tb Kt hk La (u.1) (u.2) Iw Pa Ca) := by
  refine fw_v (by decide) (Nat.le_of_ble_eq_true rfl) ?_
  intro p e s m below meth c A Q ls args hx hb hml hts hown hK hP hD hS hA hl hret
  have hown : s.vm.findClass RX0 = some m.cls := hown
  have hl : lv_has ls 2 [(0, .ref (ad 0)), (1, .int (nI pn))] := hl
  refine lv_aload_n hx hb dX0_dropHead_0 rfl (lv_at hl 0 rfl) ?_
  refine gX_He hx hb hts hown hK hP dX0_dropHead_1 ?_
  refine lv_iload_n hx hb dX0_dropHead_4 rfl (lv_at hl 1 rfl) ?_
  refine lv_aload_n hx hb dX0_dropHead_5 rfl (lv_at hl 0 rfl) ?_
  refine gX_He hx hb hts hown hK hP dX0_dropHead_6 ?_
  refine lv_iload_n hx hb dX0_dropHead_9 rfl (lv_at hl 1 rfl) ?_
  refine lX_He hx hb hK hP (by omega) dX0_dropHead_10 ?_
  refine lv_iconst (v := nI 2) hx hb dX0_dropHead_11 (by decide) ?_
  refine zi_ne (tgt := 19) hx hb (by omega) (by omega) dX0_dropHead_12 (by decide) (fun h12 => ?_) (fun h12 => ?_)
  · skip
    refine lv_aload_n hx hb dX0_dropHead_19 rfl (lv_at hl 0 rfl) ?_
    refine gX_He hx hb hts hown hK hP dX0_dropHead_20 ?_
    refine lv_iload_n hx hb dX0_dropHead_23 rfl (lv_at hl 1 rfl) ?_
    refine lX_He hx hb hK hP (by omega) dX0_dropHead_24 ?_
    refine lv_iconst (v := nI 1) hx hb dX0_dropHead_25 (by decide) ?_
    refine zi_add hx hb dX0_dropHead_26 ?_
    refine sX_He hx hb hK hP hD hS (by omega) dX0_dropHead_27 (fun H locs hP hD hS => ?_)
    refine lv_aload_n hx hb dX0_dropHead_28 rfl (lv_at hl 0 rfl) ?_
    refine gX_Co hx hb hts hown hK hP dX0_dropHead_29 ?_
    refine lv_iload_n hx hb dX0_dropHead_32 rfl (lv_at hl 1 rfl) ?_
    refine lv_dup2_11 hx hb dX0_dropHead_33 rfl rfl ?_
    refine lX_Co hx hb hK hP (by omega) dX0_dropHead_34 ?_
    refine lv_iconst (v := nI 1) hx hb dX0_dropHead_35 (by decide) ?_
    refine zi_sub hx hb (by omega) dX0_dropHead_36 ?_
    refine sX_Co hx hb hK hP hD hS (by omega) dX0_dropHead_37 (fun H locs hP hD hS => ?_)
    exact hret (va_up He pn (He pn + 1), va_up Co pn (Co pn - 1)) _ _ _ _ dX0_dropHead_38 ⟨by rw [if_neg h12], rfl⟩ hP hD hS
  · skip
    refine lv_iconst (v := nI 0) hx hb dX0_dropHead_15 (by decide) ?_
    refine lv_goto (tgt := 27) hx hb dX0_dropHead_16 (by decide) ?_
    refine sX_He hx hb hK hP hD hS (by omega) dX0_dropHead_27 (fun H locs hP hD hS => ?_)
    refine lv_aload_n hx hb dX0_dropHead_28 rfl (lv_at hl 0 rfl) ?_
    refine gX_Co hx hb hts hown hK hP dX0_dropHead_29 ?_
    refine lv_iload_n hx hb dX0_dropHead_32 rfl (lv_at hl 1 rfl) ?_
    refine lv_dup2_11 hx hb dX0_dropHead_33 rfl rfl ?_
    refine lX_Co hx hb hK hP (by omega) dX0_dropHead_34 ?_
    refine lv_iconst (v := nI 1) hx hb dX0_dropHead_35 (by decide) ?_
    refine zi_sub hx hb (by omega) dX0_dropHead_36 ?_
    refine sX_Co hx hb hK hP hD hS (by omega) dX0_dropHead_37 (fun H locs hP hD hS => ?_)
    exact hret (va_up He pn 0, va_up Co pn (Co pn - 1)) _ _ _ _ dX0_dropHead_38 ⟨by rw [if_pos h12], rfl⟩ hP hD hS
theorem cpy_0 {α : Type} {f g : Nat → α} {a b : Nat} : va_cpy f g a b 0 = g := by
  funext j
  simp only [va_cpy]
  rw [if_neg (by omega)]
theorem cpy_s {α : Type} {f g : Nat → α} {a b i : Nat} : va_up (va_cpy f g a b i) (b + i) (f (a + i)) = va_cpy f g a b (i + 1) := by
  funext j
  simp only [va_cpy, va_up]
  by_cases h : j = b + i
  · rw [if_pos h, if_pos (by omega)]
    congr 1
    omega
  · rw [if_neg h]
    by_cases h2 : b ≤ j ∧ j < b + i
    · rw [if_pos h2, if_pos (by omega)]
    · rw [if_neg h2, if_neg (by omega)]
theorem cpy_o {α : Type} {f g : Nat → α} {a b i k : Nat} (h : k < b ∨ b + i ≤ k) : va_cpy f g a b i k = g k := by
  simp only [va_cpy]
  rw [if_neg (by omega)]
theorem cpy_i {α : Type} {f g : Nat → α} {a b i k : Nat} (h : k < i) : va_cpy f g a b i (b + k) = f (a + k) := by
  simp only [va_cpy]
  rw [if_pos (by omega)]
  congr 1
  omega
set_option maxHeartbeats 4000000 in
set_option maxRecDepth 100000 in
theorem cX_ownFrame (fn : Nat) (hf : fn < 80) (h1 : 1 ≤ Hd fn) (h2 : Hd fn < 1000) (h3 : Fr (ft - 1) < 80) (h4 : Fr (ft - 1) ≠ fn) (h5 : 0 < ft) (h6 : ft ≤ 80) : KI l D cI cZ yX0_ownFrame cX0_ownFrame 4 r1 [.ref (ad 0), .int (nI fn)] (wX ad cI cZ Wo Hd Fr ft Tb Kt hk La He Co Iw Pa Ca) sz (fun r (u : (Nat → Int32) × (Nat → Nat) × Nat) => (Hd fn = 1 ∧ r = nI fn ∧ u = (Wo, Hd, ft)) ∨ (Hd fn ≠ 1 ∧ r = nI (Fr (ft - 1)) ∧ u = (va_cpy Wo Wo (fn * 4) (Fr (ft - 1) * 4) 4, va_up (va_up Hd (Fr (ft - 1)) 1) fn (Hd fn - 1), ft - 1))) (fun u => wX ad cI cZ (u.1) (u.2.1) Fr (u.2.2) Tb Kt hk La He Co Iw Pa Ca) := by
  refine fw_i (by decide) (Nat.le_of_ble_eq_true rfl) ?_
  intro p e s m below meth c A Q ls args hx hb hml hts hown hK hP hD hS hA hl hret
  have hown : s.vm.findClass RX0 = some m.cls := hown
  have hl : lv_has ls 4 [(0, .ref (ad 0)), (1, .int (nI fn))] := hl
  refine lv_aload_n hx hb dX0_ownFrame_0 rfl (lv_at hl 0 rfl) ?_
  refine gX_Hd hx hb hts hown hK hP dX0_ownFrame_1 ?_
  refine lv_iload_n hx hb dX0_ownFrame_4 rfl (lv_at hl 1 rfl) ?_
  refine lX_Hd hx hb hK hP (by omega) dX0_ownFrame_5 ?_
  refine lv_iconst (v := nI 1) hx hb dX0_ownFrame_6 (by decide) ?_
  refine zi_eq (tgt := 17) hx hb (by omega) (by omega) dX0_ownFrame_7 (by decide) (fun h7 => ?_) (fun h7 => ?_)
  · skip
    refine lv_iload_n hx hb dX0_ownFrame_17 rfl (lv_at hl 1 rfl) ?_
    exact hret (nI fn) (Wo, Hd, ft) _ _ _ _ dX0_ownFrame_18 (Or.inl ⟨h7, rfl, rfl⟩) hP hD hS
  · skip
    refine lv_aload_n hx hb dX0_ownFrame_10 rfl (lv_at hl 0 rfl) ?_
    refine gX_ft hx hb hts hown hK hP dX0_ownFrame_11 ?_
    refine zi_ifne (tgt := 19) hx hb (by omega) dX0_ownFrame_14 (by decide) (fun h14 => ?_) (fun h14 => ?_)
    · skip
      refine lv_aload_n hx hb dX0_ownFrame_19 rfl (lv_at hl 0 rfl) ?_
      refine lv_dup hx hb dX0_ownFrame_20 rfl ?_
      refine gX_ft hx hb hts hown hK hP dX0_ownFrame_21 ?_
      refine lv_iconst (v := nI 1) hx hb dX0_ownFrame_24 (by decide) ?_
      refine zi_sub hx hb (by omega) dX0_ownFrame_25 ?_
      refine pX_ft hx hb hts hown hK hP hD hS dX0_ownFrame_26 (fun H locs hP hD hS => ?_)
      refine lv_aload_n hx hb dX0_ownFrame_29 rfl (lv_at hl 0 rfl) ?_
      refine gX_Fr hx hb hts hown hK hP dX0_ownFrame_30 ?_
      refine lv_aload_n hx hb dX0_ownFrame_33 rfl (lv_at hl 0 rfl) ?_
      refine gX_ft hx hb hts hown hK hP dX0_ownFrame_34 ?_
      refine lX_Fr hx hb hK hP (by omega) dX0_ownFrame_37 ?_
      refine zi_stn hx hb dX0_ownFrame_38 rfl hl (by decide) (fun ls hl => ?_)
      refine lv_aload_n hx hb dX0_ownFrame_39 rfl (lv_at hl 1 rfl) ?_
      refine gX_Hd hx hb hts hown hK hP dX0_ownFrame_40 ?_
      refine lv_iload_n hx hb dX0_ownFrame_43 rfl (lv_at hl 0 rfl) ?_
      refine lv_iconst (v := nI 1) hx hb dX0_ownFrame_44 (by decide) ?_
      refine sX_Hd hx hb hK hP hD hS (by omega) dX0_ownFrame_45 (fun H locs hP hD hS => ?_)
      refine lv_iconst (v := nI 0) hx hb dX0_ownFrame_46 (by decide) ?_
      refine zi_stn hx hb dX0_ownFrame_47 rfl hl (by decide) (fun ls hl => ?_)
      have hloop48 : ∀ (n : Nat) (i : Nat) (H : Heap) (locs : List Loc) (ls : Array Slot), i ≤ 4 → 4 + 1 ≤ i + n → True → va_P D vCl (wX ad cI cZ (va_cpy Wo Wo (fn * 4) (Fr (ft - 1) * 4) i) (va_up Hd (Fr (ft - 1)) 1) Fr (ft - 1) Tb Kt hk La He Co Iw Pa Ca) H → va_D A (wX ad cI cZ (va_cpy Wo Wo (fn * 4) (Fr (ft - 1) * 4) i) (va_up Hd (Fr (ft - 1)) 1) Fr (ft - 1) Tb Kt hk La He Co Iw Pa Ca) → va_S A s.heap H locs → lv_has ls 4 [(0, .ref (ad 0)), (1, .int (nI fn)), (2, .int (nI (Fr (ft - 1)))), (3, .int (nI i))] → W p l e r1 s m args below meth c H locs 0 0 Q (F0 m 48 ls []) := by
        intro n48
        induction n48 with
        | zero => intro i H locs ls hi hn; exact absurd hn (by omega)
        | succ n48 ih48 =>
          intro i H locs ls hi hn _  hP hD hS hl
          refine lv_iload_n hx hb dX0_ownFrame_48 rfl (lv_at hl 3 rfl) ?_
          refine lv_iconst (v := nI 4) hx hb dX0_ownFrame_49 (by decide) ?_
          refine zi_ge (tgt := 79) hx hb (by omega) (by omega) dX0_ownFrame_50 (by decide) (fun h50 => ?_) (fun h50 => ?_)
          · skip
            refine lv_aload_n hx hb dX0_ownFrame_79 rfl (lv_at hl 0 rfl) ?_
            refine lv_iload_n hx hb dX0_ownFrame_80 rfl (lv_at hl 1 rfl) ?_
            have e4 : i = 4 := by omega
            subst e4
            refine zc_v (ci := 0) (q0 := 0) ⟨hx, hb, hml, hown, hts⟩ hK hP hD hS hA (cX_letGo (some fn) (fun f hf => by cases hf; rw [vu_n (fun q => h4 q.symm)]; omega)) (kX_letGo hts ⟨by decide, by decide⟩) rfl rfl rfl rfl hl.1 rfl (Nat.le_of_ble_eq_true rfl) dX0_ownFrame_81 ⟨Nat.le_refl _, Nat.le_refl _⟩ (fun u H locs hw hP hD hS => ?_)
            subst hw
            refine lv_iload_n hx hb dX0_ownFrame_84 rfl (lv_at hl 2 rfl) ?_
            refine hret (nI (Fr (ft - 1))) (va_cpy Wo Wo (fn * 4) (Fr (ft - 1) * 4) 4, va_up (va_up Hd (Fr (ft - 1)) 1) fn (Hd fn - 1), ft - 1) _ _ _ _ dX0_ownFrame_85 (Or.inr ⟨h7, rfl, rfl⟩) ?_ ?_ hS
            all_goals
              simp only [lgo, vu_n (fun q => h4 q.symm : fn ≠ Fr (ft - 1)), if_neg h7] at hP hD
              first | exact hP | exact hD
          · skip
            refine lv_aload_n hx hb dX0_ownFrame_53 rfl (lv_at hl 0 rfl) ?_
            refine gX_Wo hx hb hts hown hK hP dX0_ownFrame_54 ?_
            refine lv_iload_n hx hb dX0_ownFrame_57 rfl (lv_at hl 2 rfl) ?_
            refine lv_iconst (v := nI 4) hx hb dX0_ownFrame_58 (by decide) ?_
            refine zi_mul hx hb dX0_ownFrame_59 ?_
            refine lv_iload_n hx hb dX0_ownFrame_60 rfl (lv_at hl 3 rfl) ?_
            refine zi_add hx hb dX0_ownFrame_61 ?_
            refine lv_aload_n hx hb dX0_ownFrame_62 rfl (lv_at hl 0 rfl) ?_
            refine gX_Wo hx hb hts hown hK hP dX0_ownFrame_63 ?_
            refine lv_iload_n hx hb dX0_ownFrame_66 rfl (lv_at hl 1 rfl) ?_
            refine lv_iconst (v := nI 4) hx hb dX0_ownFrame_67 (by decide) ?_
            refine zi_mul hx hb dX0_ownFrame_68 ?_
            refine lv_iload_n hx hb dX0_ownFrame_69 rfl (lv_at hl 3 rfl) ?_
            refine zi_add hx hb dX0_ownFrame_70 ?_
            refine lX_Wo hx hb hK hP (by omega) dX0_ownFrame_71 ?_
            rw [cpy_o (f := Wo) (g := Wo) (a := fn * 4) (b := Fr (ft - 1) * 4) (i := i) (k := fn * 4 + i) (by omega)]
            refine sX_Wo hx hb hK hP hD hS (by omega) dX0_ownFrame_72 (fun H locs hP hD hS => ?_)
            refine zi_inc hx hb dX0_ownFrame_73 hl (k := 3) rfl (by decide) (fun ls hl => ?_)
            refine lv_goto (tgt := 48) hx hb dX0_ownFrame_76 (by decide) ?_
            rw [cpy_s] at hP hD
            exact ih48 (i + 1)  _ _ _ (by omega) (by omega) trivial  hP hD hS (lv_sub hl [1, 2, 3, 0] rfl)
      exact hloop48 (4 + 1) 0  _ _ _ (by omega) (by omega) trivial  (by rw [cpy_0]; exact hP) (by rw [cpy_0]; exact hD) hS (lv_sub hl [2, 3, 1, 0] rfl)
    · skip
      exact absurd h14 (by omega)
end XL
end
section
/-! what each call answers and makes of the twin's state (plain functions) -/
abbrev MS : Type := (Nat → Bool) × (Nat → Int32) × (Nat → Int32) × (Nat → Bool) × (Nat → Bool) × (Nat → Int32) × (Nat → Nat) × (Nat → Int32) × (Nat → Nat) × (Nat → Int32)
abbrev XS : Type := (Nat → Int32) × (Nat → Nat) × (Nat → Nat) × Nat × (Nat → Option Nat) × (Nat → Option Nat) × (Nat → Bool) × (Nat → Int32) × (Nat → Nat) × (Nat → Nat) × (Nat → Int32) × (Nat → Nat) × (Nat → Option Nat)
def bad32 (a : Int32) : Prop := a < 0 ∨ ¬ a ≤ 31
theorem ng32 {p : Nat} (h : p < 32) : ¬ bad32 (nI p) := by
  rintro (q | q)
  · exact nI_pos (by omega) q
  · exact q (show nI p ≤ nI 31 from nI_le (by omega) (by decide))
theorem gd32 {a : Int32} (h : ¬ a < 0) (h2 : a ≤ 31) : ∃ p : Nat, p < 32 ∧ a = nI p := by
  obtain ⟨j, h3, h4⟩ := nI_of2 (M := 31) (n := 31) (by decide) h h2
  exact ⟨j, by omega, h4⟩
noncomputable def pz (P : Int32 → Prop) (a : Int32) : Option Nat := @ite _ (P a) (Classical.propDecidable _) none (some a.toNatClampNeg)
theorem pz_b {P : Int32 → Prop} {a : Int32} (h : P a) : pz P a = none := by
  unfold pz
  rw [if_pos h]
theorem pz_3 {p : Nat} (h : p < 3) : pz bad3 (nI p) = some p := by
  unfold pz
  rw [if_neg (ng3 h), nI_clamp (by omega)]
theorem pz_8 {p : Nat} (h : p < 8) : pz bad8 (nI p) = some p := by
  unfold pz
  rw [if_neg (ng8 h), nI_clamp (by omega)]
theorem pz_32 {p : Nat} (h : p < 32) : pz bad32 (nI p) = some p := by
  unfold pz
  rw [if_neg (ng32 h), nI_clamp (by omega)]
def cB (T : Nat → Bool) (b : Nat) : Nat → Nat
  | 0 => 0
  | n + 1 => cB T b n + (if T (b + n) = true then 1 else 0)
theorem cB_le {T : Nat → Bool} {b : Nat} : ∀ n, cB T b n ≤ n := by
  intro n
  induction n with
  | zero => simp [cB]
  | succ n ih => simp only [cB]; split <;> omega
theorem cO_cB {T : Nat → Option Nat} {P : Nat → Bool} {b : Nat} : ∀ n, (∀ j, j < n → (T (b + j)).isSome = P (b + j)) → cO T b n = cB P b n := by
  intro n
  induction n with
  | zero => intro _; rfl
  | succ n ih =>
    intro h
    simp only [cO, cB]
    rw [ih (fun j hj => h j (by omega)), h n (by omega)]
noncomputable def sp_map (a b : Int32) (v : MS) : Int32 × MS := match pz bad3 a with
  | none => (-1, v)
  | some p => match pz bad8 b with
    | none => (-2, v)
    | some q => match v with
      | (Pg, Wd, Ls, Kp, KPg, KWd, Ms, Il, Cn, Sn) => if Pg (p * 8 + q) = true then (-3, (Pg, Wd, Ls, Kp, KPg, KWd, Ms, Il, Cn, Sn)) else (nI (cB (va_up Pg (p * 8 + q) true) (p * 8) 8), (va_up Pg (p * 8 + q) true, va_cpy (fun _ => 0) Wd 0 (p * 32 + q * 4) 4, Ls, Kp, KPg, KWd, Ms, Il, Cn, Sn))
noncomputable def sp_unmap (a b : Int32) (v : MS) : Int32 × MS := match pz bad3 a with
  | none => (-1, v)
  | some p => match pz bad8 b with
    | none => (-2, v)
    | some q => match v with
      | (Pg, Wd, Ls, Kp, KPg, KWd, Ms, Il, Cn, Sn) => if Pg (p * 8 + q) = true then (nI (cB (va_up Pg (p * 8 + q) false) (p * 8) 8), (va_up Pg (p * 8 + q) false, Wd, Ls, Kp, KPg, KWd, Ms, Il, Cn, Sn)) else (-4, (Pg, Wd, Ls, Kp, KPg, KWd, Ms, Il, Cn, Sn))
noncomputable def sp_write (a b x : Int32) (v : MS) : Int32 × MS := match pz bad3 a with
  | none => (-1, v)
  | some p => match pz bad32 b with
    | none => (-2, v)
    | some q => match v with
      | (Pg, Wd, Ls, Kp, KPg, KWd, Ms, Il, Cn, Sn) => if Pg (p * 8 + q / 4) = true then (nI (q / 4), (Pg, va_up Wd (p * 32 + q) x, Ls, Kp, KPg, KWd, Ms, Il, Cn, Sn)) else (-4, (Pg, Wd, Ls, Kp, KPg, KWd, Ms, Il, Cn, Sn))
noncomputable def sp_copy (a b c : Int32) (v : MS) : Int32 × MS := match pz bad3 a with
  | none => (-1, v)
  | some p => match pz bad8 b with
    | none => (-2, v)
    | some q => match pz bad8 c with
      | none => (-2, v)
      | some t => match v with
        | (Pg, Wd, Ls, Kp, KPg, KWd, Ms, Il, Cn, Sn) => if Pg (p * 8 + q) = true then (nI (cB (va_up Pg (p * 8 + t) true) (p * 8) 8), (va_up Pg (p * 8 + t) true, va_cpy Wd Wd (p * 32 + q * 4) (p * 32 + t * 4) 4, Ls, Kp, KPg, KWd, Ms, Il, Cn, Sn)) else (-4, (Pg, Wd, Ls, Kp, KPg, KWd, Ms, Il, Cn, Sn))
/-- the first page and the number of pages that send reads out of its last argument -/
def fN (g : Int32) : Nat := g.toBitVec.toNat % 2 ^ 3
def nN (g : Int32) : Nat := (g >>> ((3 : Int32) &&& 31)).toBitVec.toNat % 2 ^ 2
theorem fN_lt (g : Int32) : fN g < 8 := Nat.mod_lt _ (by decide)
theorem nN_lt (g : Int32) : nN g < 4 := Nat.mod_lt _ (by decide)
theorem fN_e (g : Int32) : g &&& 7 = nI (fN g) := pk_and g 3 (by decide)
theorem nN_e (g : Int32) : (g >>> ((3 : Int32) &&& 31)) &&& 3 = nI (nN g) := pk_and _ 2 (by decide)
noncomputable def sp_send (a b w g : Int32) (v : MS) : Int32 × MS := match pz bad3 a with
  | none => (-1, v)
  | some p => match pz bad3 b with
    | none => (-1, v)
    | some o => match v with
      | (Pg, Wd, Ls, Kp, KPg, KWd, Ms, Il, Cn, Sn) => if 3 ≤ Ms o then (-5, (Pg, Wd, Ls, Kp, KPg, KWd, Ms, Il, Cn, Sn)) else if 8 < fN g + nN g then (-2, (Pg, Wd, Ls, Kp, KPg, KWd, Ms, Il, Cn, Sn)) else if (∀ i, i < nN g → Pg (p * 8 + fN g + i) = true) then (nI (Ms o + 1), (Pg, Wd, Ls, Kp, KPg, KWd, va_up Ms o (Ms o + 1), va_up Il (o * 3 + Ms o) w, va_up Cn (o * 3 + Ms o) (nN g), va_cpy Wd Sn (p * 32 + fN g * 4) ((o * 3 + Ms o) * 12) (nN g * 4))) else (-4, (Pg, Wd, Ls, Kp, KPg, KWd, Ms, Il, Cn, Sn))
noncomputable def sp_receive (a b c : Int32) (v : MS) : Int32 × MS := match pz bad3 a with
  | none => (-1, v)
  | some p => match pz bad3 b with
    | none => (-1, v)
    | some o => match v with
      | (Pg, Wd, Ls, Kp, KPg, KWd, Ms, Il, Cn, Sn) => if Ms o = 0 then (-6, (Pg, Wd, Ls, Kp, KPg, KWd, Ms, Il, Cn, Sn)) else match pz bad8 c with
        | none => (-2, (Pg, Wd, Ls, Kp, KPg, KWd, Ms, Il, Cn, Sn))
        | some q => if 8 < q + Cn (o * 3) then (-2, (Pg, Wd, Ls, Kp, KPg, KWd, Ms, Il, Cn, Sn)) else if (∀ i, i < Cn (o * 3) → Pg (p * 8 + q + i) = false) then (nI (Cn (o * 3)), (va_cpy (fun _ => true) Pg 0 (p * 8 + q) (Cn (o * 3)), va_cpy Sn Wd (o * 3 * 12) (p * 32 + q * 4) (Cn (o * 3) * 4), va_up Ls p (Il (o * 3)), Kp, KPg, KWd, va_up Ms o (Ms o - 1), va_cpy Il Il (o * 3 + 1) (o * 3) 2, va_cpy Cn Cn (o * 3 + 1) (o * 3) 2, va_cpy Sn Sn (o * 36 + 12) (o * 36) 24)) else (-3, (Pg, Wd, Ls, Kp, KPg, KWd, Ms, Il, Cn, Sn))
noncomputable def sp_drain (b : Int32) (v : MS) : Int32 × MS := match pz bad3 b with
  | none => (-1, v)
  | some o => match v with
    | (Pg, Wd, Ls, Kp, KPg, KWd, Ms, Il, Cn, Sn) => (nI (Ms o), (Pg, Wd, Ls, Kp, KPg, KWd, va_up Ms o 0, Il, Cn, Sn))
noncomputable def sp_snapshot (a : Int32) (v : MS) : Int32 × MS := match pz bad3 a with
  | none => (-1, v)
  | some p => match v with
    | (Pg, Wd, Ls, Kp, KPg, KWd, Ms, Il, Cn, Sn) => (nI (cB Pg (p * 8) 8), (Pg, Wd, Ls, va_up Kp p true, va_cpy Pg KPg (p * 8) (p * 8) 8, va_cpy Wd KWd (p * 32) (p * 32) 32, Ms, Il, Cn, Sn))
noncomputable def sp_rollBack (a : Int32) (v : MS) : Int32 × MS := match pz bad3 a with
  | none => (-1, v)
  | some p => match v with
    | (Pg, Wd, Ls, Kp, KPg, KWd, Ms, Il, Cn, Sn) => if Kp p = true then (nI (cB (va_cpy KPg Pg (p * 8) (p * 8) 8) (p * 8) 8), (va_cpy KPg Pg (p * 8) (p * 8) 8, va_cpy KWd Wd (p * 32) (p * 32) 32, Ls, Kp, KPg, KWd, Ms, Il, Cn, Sn)) else (-7, (Pg, Wd, Ls, Kp, KPg, KWd, Ms, Il, Cn, Sn))
noncomputable def sp_exit (a : Int32) (v : MS) : Int32 × MS := match pz bad3 a with
  | none => (-1, v)
  | some p => match v with
    | (Pg, Wd, Ls, Kp, KPg, KWd, Ms, Il, Cn, Sn) => (nI (cB Pg (p * 8) 8), (va_cpy (fun _ => false) Pg 0 (p * 8) 8, Wd, va_up Ls p 0, va_up Kp p false, KPg, KWd, Ms, Il, Cn, Sn))
noncomputable def sp_read (a b : Int32) (v : MS) : Int32 × MS := match pz bad3 a with
  | none => (0, v)
  | some p => match pz bad32 b with
    | none => (0, v)
    | some q => match v with
      | (Pg, Wd, Ls, Kp, KPg, KWd, Ms, Il, Cn, Sn) => if Pg (p * 8 + q / 4) = true then (Wd (p * 32 + q), (Pg, Wd, Ls, Kp, KPg, KWd, Ms, Il, Cn, Sn)) else (0, (Pg, Wd, Ls, Kp, KPg, KWd, Ms, Il, Cn, Sn))
noncomputable def sp_mapped (a b : Int32) (v : MS) : Int32 × MS := match pz bad3 a with
  | none => (bI false, v)
  | some p => match pz bad8 b with
    | none => (bI false, v)
    | some q => (bI (v.1 (p * 8 + q)), v)
noncomputable def sp_lastWord (a : Int32) (v : MS) : Int32 × MS := match pz bad3 a with
  | none => (0, v)
  | some p => (v.2.2.1 p, v)
noncomputable def sp_waiting (b : Int32) (v : MS) : Int32 × MS := match pz bad3 b with
  | none => (-1, v)
  | some o => (nI (v.2.2.2.2.2.2.1 o), v)
/-- the twin's contracts end so -/
def PM (x : Int32 × MS) (r : Int32) (v : MS) : Prop := r = x.1 ∧ v = x.2
theorem pm {x : Int32 × MS} {r : Int32} {v : MS} (e : x = (r, v)) : PM x r v := by
  rw [e]
  exact ⟨rfl, rfl⟩
/-- what the twin's own state must have: no more messages than places, no more pages than a message has -/
def MOK (v : MS) : Prop := ∀ p, p < 3 → v.2.2.2.2.2.2.1 p ≤ 3 ∧ ∀ j, j < v.2.2.2.2.2.2.1 p → v.2.2.2.2.2.2.2.2.1 (p * 3 + j) ≤ 3
abbrev wMt (ad : Nat → Nat) (cI cZ : ClassId) (v : MS) : va_W := wM ad cI cZ v.1 v.2.1 v.2.2.1 v.2.2.2.1 v.2.2.2.2.1 v.2.2.2.2.2.1 v.2.2.2.2.2.2.1 v.2.2.2.2.2.2.2.1 v.2.2.2.2.2.2.2.2.1 v.2.2.2.2.2.2.2.2.2
abbrev wXt (ad : Nat → Nat) (cI cZ : ClassId) (u : XS) : va_W := wX ad cI cZ u.1 u.2.1 u.2.2.1 u.2.2.2.1 u.2.2.2.2.1 u.2.2.2.2.2.1 u.2.2.2.2.2.2.1 u.2.2.2.2.2.2.2.1 u.2.2.2.2.2.2.2.2.1 u.2.2.2.2.2.2.2.2.2.1 u.2.2.2.2.2.2.2.2.2.2.1 u.2.2.2.2.2.2.2.2.2.2.2.1 u.2.2.2.2.2.2.2.2.2.2.2.2
end
section
/-! the twin's leaves: count, forward -/
section ML
variable {l : Launch} {D : va_G} {ad : Nat → Nat} {cI cZ : ClassId} {sz : Nat}
variable {Pg : Nat → Bool} {Wd : Nat → Int32} {Ls : Nat → Int32} {Kp : Nat → Bool} {KPg : Nat → Bool} {KWd : Nat → Int32} {Ms : Nat → Nat} {Il : Nat → Int32} {Cn : Nat → Nat} {Sn : Nat → Int32}
set_option maxHeartbeats 4000000 in
set_option maxRecDepth 100000 in
theorem cM_count (pn : Nat) (hp : pn < 3) : KI l D cI cZ yX1_count cX1_count 4 r0 [.ref (ad 0), .int (nI pn)] (wM ad cI cZ Pg Wd Ls Kp KPg KWd Ms Il Cn Sn) sz (fun r (_ : Unit) => r = nI (cB Pg (pn * 8) 8)) (fun _ => wM ad cI cZ Pg Wd Ls Kp KPg KWd Ms Il Cn Sn) := by
  refine fw_i (by decide) (Nat.le_of_ble_eq_true rfl) ?_
  intro p e s m below meth c A Q ls args hx hb hml hts hown hK hP hD hS hA hl hret
  have hown : s.vm.findClass RX1 = some m.cls := hown
  have hl : lv_has ls 4 [(0, .ref (ad 0)), (1, .int (nI pn))] := hl
  refine lv_iconst (v := nI 0) hx hb dX1_count_0 (by decide) ?_
  refine zi_stn hx hb dX1_count_1 rfl hl (by decide) (fun ls hl => ?_)
  refine lv_iconst (v := nI 0) hx hb dX1_count_2 (by decide) ?_
  refine zi_stn hx hb dX1_count_3 rfl hl (by decide) (fun ls hl => ?_)
  have hloop4 : ∀ (n : Nat) (i : Nat) (H : Heap) (locs : List Loc) (ls : Array Slot), i ≤ 8 → 8 + 1 ≤ i + n → True → va_P D vCl (wM ad cI cZ Pg Wd Ls Kp KPg KWd Ms Il Cn Sn) H → va_D A (wM ad cI cZ Pg Wd Ls Kp KPg KWd Ms Il Cn Sn) → va_S A s.heap H locs → lv_has ls 4 [(0, .ref (ad 0)), (1, .int (nI pn)), (2, .int (nI (cB Pg (pn * 8) i))), (3, .int (nI i))] → W p l e r0 s m args below meth c H locs 0 0 Q (F0 m 4 ls []) := by
    intro n4
    induction n4 with
    | zero => intro i H locs ls hi hn; exact absurd hn (by omega)
    | succ n4 ih4 =>
      intro i H locs ls hi hn _  hP hD hS hl
      have hle := cB_le (T := Pg) (b := pn * 8) i
      refine lv_iload_n hx hb dX1_count_4 rfl (lv_at hl 3 rfl) ?_
      refine lv_bipush (v := nI 8) hx hb dX1_count_5 (by decide) ?_
      refine zi_ge (tgt := 33) hx hb (by omega) (by omega) dX1_count_7 (by decide) (fun h7 => ?_) (fun h7 => ?_)
      · skip
        refine lv_iload_n hx hb dX1_count_33 rfl (lv_at hl 2 rfl) ?_
        have h8 : i = 8 := by omega
        subst h8
        exact hret _ () _ _ _ _ dX1_count_34 rfl hP hD hS
      · skip
        refine lv_aload_n hx hb dX1_count_10 rfl (lv_at hl 0 rfl) ?_
        refine gM_Pg hx hb hts hown hK hP dX1_count_11 ?_
        refine lv_iload_n hx hb dX1_count_14 rfl (lv_at hl 1 rfl) ?_
        refine lv_bipush (v := nI 8) hx hb dX1_count_15 (by decide) ?_
        refine zi_mul hx hb dX1_count_17 ?_
        refine lv_iload_n hx hb dX1_count_18 rfl (lv_at hl 3 rfl) ?_
        refine zi_add hx hb dX1_count_19 ?_
        refine lM_Pg hx hb hK hP (by omega) dX1_count_20 ?_
        refine zb_ifeq (tgt := 27) hx hb dX1_count_21 (by decide) (fun h21 => ?_) (fun h21 => ?_)
        · skip
          have hc : cB Pg (pn * 8) (i + 1) = cB Pg (pn * 8) i := by simp [cB, h21]
          refine zi_inc hx hb dX1_count_27 hl (k := 3) rfl (by decide) (fun ls hl => ?_)
          refine lv_goto (tgt := 4) hx hb dX1_count_30 (by decide) ?_
          rw [← hc] at hl
          exact ih4 (i + 1)  _ _ _ (by omega) (by omega) trivial  hP hD hS (lv_sub hl [1, 2, 3, 0] rfl)
        · skip
          have hc : cB Pg (pn * 8) (i + 1) = cB Pg (pn * 8) i + 1 := by simp [cB, h21]
          refine zi_inc hx hb dX1_count_24 hl (k := 2) rfl (by decide) (fun ls hl => ?_)
          refine zi_inc hx hb dX1_count_27 hl (k := 3) rfl (by decide) (fun ls hl => ?_)
          refine lv_goto (tgt := 4) hx hb dX1_count_30 (by decide) ?_
          rw [← hc] at hl
          exact ih4 (i + 1)  _ _ _ (by omega) (by omega) trivial  hP hD hS (lv_sub hl [2, 3, 1, 0] rfl)
  exact hloop4 (8 + 1) 0  _ _ _ (by omega) (by omega) trivial  hP hD hS (lv_sub hl [2, 3, 1, 0] rfl)
set_option maxHeartbeats 4000000 in
set_option maxRecDepth 100000 in
theorem cM_forward (on : Nat) (hp : on < 3) (h1 : 1 ≤ Ms on) (h2 : Ms on < 1000) : KV l D cI cZ yX1_forward cX1_forward 4 r0 [.ref (ad 0), .int (nI on)] (wM ad cI cZ Pg Wd Ls Kp KPg KWd Ms Il Cn Sn) sz (fun (u : (Nat → Nat) × (Nat → Int32) × (Nat → Nat) × (Nat → Int32)) => u = (va_up Ms on (Ms on - 1), va_cpy Il Il (on * 3 + 1) (on * 3) 2, va_cpy Cn Cn (on * 3 + 1) (on * 3) 2, va_cpy Sn Sn (on * 36 + 12) (on * 36) 24)) (fun u => wM ad cI cZ Pg Wd Ls Kp KPg KWd (u.1) (u.2.1) (u.2.2.1) (u.2.2.2)) := by
  refine fw_v (by decide) (Nat.le_of_ble_eq_true rfl) ?_
  intro p e s m below meth c A Q ls args hx hb hml hts hown hK hP hD hS hA hl hret
  have hown : s.vm.findClass RX1 = some m.cls := hown
  have hl : lv_has ls 4 [(0, .ref (ad 0)), (1, .int (nI on))] := hl
  refine lv_iload_n hx hb dX1_forward_0 rfl (lv_at hl 1 rfl) ?_
  refine lv_iconst (v := nI 3) hx hb dX1_forward_1 (by decide) ?_
  refine zi_mul hx hb dX1_forward_2 ?_
  refine zi_stn hx hb dX1_forward_3 rfl hl (by decide) (fun ls hl => ?_)
  have hloop4 : ∀ (n : Nat) (i : Nat) (H : Heap) (locs : List Loc) (ls : Array Slot), i ≤ 2 → 2 + 1 ≤ i + n → True → va_P D vCl (wM ad cI cZ Pg Wd Ls Kp KPg KWd Ms (va_cpy Il Il (on * 3 + 1) (on * 3) i) (va_cpy Cn Cn (on * 3 + 1) (on * 3) i) (va_cpy Sn Sn (on * 36 + 12) (on * 36) (i * 12))) H → va_D A (wM ad cI cZ Pg Wd Ls Kp KPg KWd Ms (va_cpy Il Il (on * 3 + 1) (on * 3) i) (va_cpy Cn Cn (on * 3 + 1) (on * 3) i) (va_cpy Sn Sn (on * 36 + 12) (on * 36) (i * 12))) → va_S A s.heap H locs → lv_has ls 4 [(0, .ref (ad 0)), (1, .int (nI on)), (2, .int (nI (on * 3 + i)))] → W p l e r0 s m args below meth c H locs 0 0 Q (F0 m 4 ls []) := by
    intro n4
    induction n4 with
    | zero => intro i H locs ls hi hn; exact absurd hn (by omega)
    | succ n4 ih4 =>
      intro i H locs ls hi hn _  hP hD hS hl
      refine lv_iload_n hx hb dX1_forward_4 rfl (lv_at hl 2 rfl) ?_
      refine lv_iload_n hx hb dX1_forward_5 rfl (lv_at hl 1 rfl) ?_
      refine lv_iconst (v := nI 3) hx hb dX1_forward_6 (by decide) ?_
      refine zi_mul hx hb dX1_forward_7 ?_
      refine lv_iconst (v := nI 2) hx hb dX1_forward_8 (by decide) ?_
      refine zi_add hx hb dX1_forward_9 ?_
      refine zi_ge (tgt := 86) hx hb (by omega) (by omega) dX1_forward_10 (by decide) (fun h10 => ?_) (fun h10 => ?_)
      · skip
        refine lv_aload_n hx hb dX1_forward_86 rfl (lv_at hl 0 rfl) ?_
        refine gM_Ms hx hb hts hown hK hP dX1_forward_87 ?_
        refine lv_iload_n hx hb dX1_forward_90 rfl (lv_at hl 1 rfl) ?_
        refine lv_aload_n hx hb dX1_forward_91 rfl (lv_at hl 0 rfl) ?_
        refine gM_Ms hx hb hts hown hK hP dX1_forward_92 ?_
        refine lv_iload_n hx hb dX1_forward_95 rfl (lv_at hl 1 rfl) ?_
        refine lM_Ms hx hb hK hP (by omega) dX1_forward_96 ?_
        refine lv_iconst (v := nI 1) hx hb dX1_forward_97 (by decide) ?_
        refine zi_sub hx hb (by omega) dX1_forward_98 ?_
        refine sM_Ms hx hb hK hP hD hS (by omega) dX1_forward_99 (fun H locs hP hD hS => ?_)
        have e2 : i = 2 := by omega
        subst e2
        exact hret (va_up Ms on (Ms on - 1), va_cpy Il Il (on * 3 + 1) (on * 3) 2, va_cpy Cn Cn (on * 3 + 1) (on * 3) 2, va_cpy Sn Sn (on * 36 + 12) (on * 36) 24) _ _ _ _ dX1_forward_100 rfl hP hD hS
      · skip
        refine lv_aload_n hx hb dX1_forward_13 rfl (lv_at hl 0 rfl) ?_
        refine gM_Il hx hb hts hown hK hP dX1_forward_14 ?_
        refine lv_iload_n hx hb dX1_forward_17 rfl (lv_at hl 2 rfl) ?_
        refine lv_aload_n hx hb dX1_forward_18 rfl (lv_at hl 0 rfl) ?_
        refine gM_Il hx hb hts hown hK hP dX1_forward_19 ?_
        refine lv_iload_n hx hb dX1_forward_22 rfl (lv_at hl 2 rfl) ?_
        refine lv_iconst (v := nI 1) hx hb dX1_forward_23 (by decide) ?_
        refine zi_add hx hb dX1_forward_24 ?_
        refine lM_Il hx hb hK hP (by omega) dX1_forward_25 ?_
        rw [cpy_o (f := Il) (g := Il) (a := on * 3 + 1) (b := on * 3) (i := i) (k := on * 3 + i + 1) (by omega)]
        refine sM_Il hx hb hK hP hD hS (by omega) dX1_forward_26 (fun H locs hP hD hS => ?_)
        rw [show on * 3 + i + 1 = on * 3 + 1 + i by omega, cpy_s] at hP hD
        refine lv_aload_n hx hb dX1_forward_27 rfl (lv_at hl 0 rfl) ?_
        refine gM_Cn hx hb hts hown hK hP dX1_forward_28 ?_
        refine lv_iload_n hx hb dX1_forward_31 rfl (lv_at hl 2 rfl) ?_
        refine lv_aload_n hx hb dX1_forward_32 rfl (lv_at hl 0 rfl) ?_
        refine gM_Cn hx hb hts hown hK hP dX1_forward_33 ?_
        refine lv_iload_n hx hb dX1_forward_36 rfl (lv_at hl 2 rfl) ?_
        refine lv_iconst (v := nI 1) hx hb dX1_forward_37 (by decide) ?_
        refine zi_add hx hb dX1_forward_38 ?_
        refine lM_Cn hx hb hK hP (by omega) dX1_forward_39 ?_
        rw [cpy_o (f := Cn) (g := Cn) (a := on * 3 + 1) (b := on * 3) (i := i) (k := on * 3 + i + 1) (by omega)]
        refine sM_Cn hx hb hK hP hD hS (by omega) dX1_forward_40 (fun H locs hP hD hS => ?_)
        rw [show on * 3 + i + 1 = on * 3 + 1 + i by omega, cpy_s] at hP hD
        refine lv_iconst (v := nI 0) hx hb dX1_forward_41 (by decide) ?_
        refine zi_stn hx hb dX1_forward_42 rfl hl (by decide) (fun ls hl => ?_)
        have hloop43 : ∀ (n : Nat) (k : Nat) (H : Heap) (locs : List Loc) (ls : Array Slot), k ≤ 12 → 12 + 1 ≤ k + n → True → va_P D vCl (wM ad cI cZ Pg Wd Ls Kp KPg KWd Ms (va_cpy Il Il (on * 3 + 1) (on * 3) (i + 1)) (va_cpy Cn Cn (on * 3 + 1) (on * 3) (i + 1)) (va_cpy Sn Sn (on * 36 + 12) (on * 36) (i * 12 + k))) H → va_D A (wM ad cI cZ Pg Wd Ls Kp KPg KWd Ms (va_cpy Il Il (on * 3 + 1) (on * 3) (i + 1)) (va_cpy Cn Cn (on * 3 + 1) (on * 3) (i + 1)) (va_cpy Sn Sn (on * 36 + 12) (on * 36) (i * 12 + k))) → va_S A s.heap H locs → lv_has ls 4 [(0, .ref (ad 0)), (1, .int (nI on)), (2, .int (nI (on * 3 + i))), (3, .int (nI k))] → W p l e r0 s m args below meth c H locs 0 0 Q (F0 m 43 ls []) := by
          intro n43
          induction n43 with
          | zero => intro k H locs ls hi hn; exact absurd hn (by omega)
          | succ n43 ih43 =>
            intro k H locs ls hi hn _  hP hD hS hl
            refine lv_iload_n hx hb dX1_forward_43 rfl (lv_at hl 3 rfl) ?_
            refine lv_bipush (v := nI 12) hx hb dX1_forward_44 (by decide) ?_
            refine zi_ge (tgt := 80) hx hb (by omega) (by omega) dX1_forward_46 (by decide) (fun h46 => ?_) (fun h46 => ?_)
            · skip
              refine zi_inc hx hb dX1_forward_80 hl (k := 2) rfl (by decide) (fun ls hl => ?_)
              refine lv_goto (tgt := 4) hx hb dX1_forward_83 (by decide) ?_
              have e12 : k = 12 := by omega
              subst e12
              exact ih4 (i + 1)  _ _ _ (by omega) (by omega) trivial  (by rw [Nat.add_mul]; exact hP) (by rw [Nat.add_mul]; exact hD) hS (lv_sub hl [1, 2, 0] rfl)
            · skip
              refine lv_aload_n hx hb dX1_forward_49 rfl (lv_at hl 0 rfl) ?_
              refine gM_Sn hx hb hts hown hK hP dX1_forward_50 ?_
              refine lv_iload_n hx hb dX1_forward_53 rfl (lv_at hl 2 rfl) ?_
              refine lv_bipush (v := nI 12) hx hb dX1_forward_54 (by decide) ?_
              refine zi_mul hx hb dX1_forward_56 ?_
              refine lv_iload_n hx hb dX1_forward_57 rfl (lv_at hl 3 rfl) ?_
              refine zi_add hx hb dX1_forward_58 ?_
              refine lv_aload_n hx hb dX1_forward_59 rfl (lv_at hl 0 rfl) ?_
              refine gM_Sn hx hb hts hown hK hP dX1_forward_60 ?_
              refine lv_iload_n hx hb dX1_forward_63 rfl (lv_at hl 2 rfl) ?_
              refine lv_bipush (v := nI 12) hx hb dX1_forward_64 (by decide) ?_
              refine zi_mul hx hb dX1_forward_66 ?_
              refine lv_bipush (v := nI 12) hx hb dX1_forward_67 (by decide) ?_
              refine zi_add hx hb dX1_forward_69 ?_
              refine lv_iload_n hx hb dX1_forward_70 rfl (lv_at hl 3 rfl) ?_
              refine zi_add hx hb dX1_forward_71 ?_
              refine lM_Sn hx hb hK hP (by omega) dX1_forward_72 ?_
              rw [cpy_o (f := Sn) (g := Sn) (a := on * 36 + 12) (b := on * 36) (i := i * 12 + k) (k := (on * 3 + i) * 12 + 12 + k) (by omega)]
              refine sM_Sn hx hb hK hP hD hS (by omega) dX1_forward_73 (fun H locs hP hD hS => ?_)
              rw [show (on * 3 + i) * 12 + 12 + k = on * 36 + 12 + (i * 12 + k) by omega] at hP hD
              refine zi_inc hx hb dX1_forward_74 hl (k := 3) rfl (by decide) (fun ls hl => ?_)
              refine lv_goto (tgt := 43) hx hb dX1_forward_77 (by decide) ?_
              rw [show (on * 3 + i) * 12 + k = on * 36 + (i * 12 + k) by omega, cpy_s] at hP hD
              exact ih43 (k + 1)  _ _ _ (by omega) (by omega) trivial  hP hD hS (lv_sub hl [1, 2, 3, 0] rfl)
        exact hloop43 (12 + 1) 0  _ _ _ (by omega) (by omega) trivial  hP hD hS (lv_sub hl [1, 2, 3, 0] rfl)
  exact hloop4 (2 + 1) 0  _ _ _ (by omega) (by omega) trivial  (by rw [Nat.zero_mul, cpy_0, cpy_0, cpy_0]; exact hP) (by rw [Nat.zero_mul, cpy_0, cpy_0, cpy_0]; exact hD) hS (lv_sub hl [1, 2, 0] rfl)
end ML
end
section
/-! the twin's public methods -/
section MP
variable {l : Launch} {D : va_G} {ad : Nat → Nat} {cI cZ : ClassId} {sz : Nat}
theorem gt31 {b : Int32} (h : 31 < b) : ¬ b ≤ 31 := by
  rw [Int32.lt_iff_toInt_lt] at h
  rw [Int32.le_iff_toInt_le]
  omega
theorem ngt31 {b : Int32} (h : ¬ 31 < b) : b ≤ 31 := by
  rw [Int32.lt_iff_toInt_lt] at h
  rw [Int32.le_iff_toInt_le]
  omega
set_option maxHeartbeats 4000000 in
set_option maxRecDepth 100000 in
theorem cM_map (v : MS) (a b : Int32) : KI l D cI cZ yX1_map cX1_map 4 r2 [.ref (ad 0), .int a, .int b] (wMt ad cI cZ v) sz (PM (sp_map a b v)) (wMt ad cI cZ) := by
  obtain ⟨Pg, Wd, Ls, Kp, KPg, KWd, Ms, Il, Cn, Sn⟩ := v
  refine fw_i (by decide) (Nat.le_of_ble_eq_true rfl) ?_
  intro p e s m below meth c A Q ls args hx hb hml hts hown hK hP hD hS hA hl hret
  have hown : s.vm.findClass RX1 = some m.cls := hown
  have hP : va_P D vCl (wM ad cI cZ Pg Wd Ls Kp KPg KWd Ms Il Cn Sn) s.heap := hP
  have hD : va_D A (wM ad cI cZ Pg Wd Ls Kp KPg KWd Ms Il Cn Sn) := hD
  have hl : lv_has ls 4 [(0, .ref (ad 0)), (1, .int a), (2, .int b)] := hl
  refine lv_aload_n hx hb dX1_map_0 rfl (lv_at hl 0 rfl) ?_
  refine lv_iload_n hx hb dX1_map_1 rfl (lv_at hl 1 rfl) ?_
  refine zc_b (ci := 1) (q0 := 0) ⟨hx, hb, hml, hown, hts⟩ hK hP hS (cM_bad l _ a) (kM_bad hts ⟨by decide, by decide⟩) rfl rfl rfl rfl hl.1 rfl (Nat.le_of_ble_eq_true rfl) dX1_map_2 ⟨Nat.le_refl _, Nat.le_refl _⟩ (fun r H locs hw hP hS => ?_)
  rcases hw with ⟨rfl, hq2⟩ | ⟨rfl, pn, hq2, rfl⟩
  · skip
    refine lv_if_eq (tgt := 10) hx hb dX1_map_5 (by decide) (fun h9 => absurd h9 (by decide)) (fun h9 => ?_)
    refine lv_iconst (v := (-1)) hx hb dX1_map_8 (by decide) ?_
    exact hret (-1) (Pg, Wd, Ls, Kp, KPg, KWd, Ms, Il, Cn, Sn) _ _ _ _ dX1_map_9 (pm (by simp [sp_map, pz_b hq2])) hP hD hS
  · skip
    refine lv_if_eq (tgt := 10) hx hb dX1_map_5 (by decide) (fun h9 => ?_) (fun h9 => absurd rfl h9)
    refine lv_aload_n hx hb dX1_map_10 rfl (lv_at hl 0 rfl) ?_
    refine lv_iload_n hx hb dX1_map_11 rfl (lv_at hl 2 rfl) ?_
    refine zc_b (ci := 1) (q0 := 0) ⟨hx, hb, hml, hown, hts⟩ hK hP hS (cM_badPage l _ b) (kM_badPage hts ⟨by decide, by decide⟩) rfl rfl rfl rfl hl.1 rfl (Nat.le_of_ble_eq_true rfl) dX1_map_12 ⟨Nat.le_refl _, Nat.le_refl _⟩ (fun r H locs hw hP hS => ?_)
    rcases hw with ⟨rfl, hq12⟩ | ⟨rfl, qn, hq12, rfl⟩
    · skip
      refine lv_if_eq (tgt := 21) hx hb dX1_map_15 (by decide) (fun h9 => absurd h9 (by decide)) (fun h9 => ?_)
      refine lv_bipush (v := (-2)) hx hb dX1_map_18 (by decide) ?_
      exact hret (-2) (Pg, Wd, Ls, Kp, KPg, KWd, Ms, Il, Cn, Sn) _ _ _ _ dX1_map_20 (pm (by simp [sp_map, pz_3 hq2, pz_b hq12])) hP hD hS
    · skip
      refine lv_if_eq (tgt := 21) hx hb dX1_map_15 (by decide) (fun h9 => ?_) (fun h9 => absurd rfl h9)
      refine lv_aload_n hx hb dX1_map_21 rfl (lv_at hl 0 rfl) ?_
      refine gM_Pg hx hb hts hown hK hP dX1_map_22 ?_
      refine lv_iload_n hx hb dX1_map_25 rfl (lv_at hl 1 rfl) ?_
      refine lv_bipush (v := nI 8) hx hb dX1_map_26 (by decide) ?_
      refine zi_mul hx hb dX1_map_28 ?_
      refine lv_iload_n hx hb dX1_map_29 rfl (lv_at hl 2 rfl) ?_
      refine zi_add hx hb dX1_map_30 ?_
      refine lM_Pg hx hb hK hP (by omega) dX1_map_31 ?_
      refine zb_ifeq (tgt := 38) hx hb dX1_map_32 (by decide) (fun h32 => ?_) (fun h32 => ?_)
      · skip
        refine lv_aload_n hx hb dX1_map_38 rfl (lv_at hl 0 rfl) ?_
        refine gM_Pg hx hb hts hown hK hP dX1_map_39 ?_
        refine lv_iload_n hx hb dX1_map_42 rfl (lv_at hl 1 rfl) ?_
        refine lv_bipush (v := nI 8) hx hb dX1_map_43 (by decide) ?_
        refine zi_mul hx hb dX1_map_45 ?_
        refine lv_iload_n hx hb dX1_map_46 rfl (lv_at hl 2 rfl) ?_
        refine zi_add hx hb dX1_map_47 ?_
        refine lv_iconst (v := bI true) hx hb dX1_map_48 (by decide) ?_
        refine sM_Pg hx hb hK hP hD hS (by omega) dX1_map_49 (fun H locs hP hD hS => ?_)
        refine lv_iconst (v := nI 0) hx hb dX1_map_50 (by decide) ?_
        refine zi_stn hx hb dX1_map_51 rfl hl (by decide) (fun ls hl => ?_)
        have hloop52 : ∀ (n : Nat) (i : Nat) (H : Heap) (locs : List Loc) (ls : Array Slot), i ≤ 4 → 4 + 1 ≤ i + n → True → va_P D vCl (wM ad cI cZ (va_up Pg (pn * 8 + qn) true) (va_cpy (fun _ => 0) Wd 0 (pn * 32 + qn * 4) i) Ls Kp KPg KWd Ms Il Cn Sn) H → va_D A (wM ad cI cZ (va_up Pg (pn * 8 + qn) true) (va_cpy (fun _ => 0) Wd 0 (pn * 32 + qn * 4) i) Ls Kp KPg KWd Ms Il Cn Sn) → va_S A s.heap H locs → lv_has ls 4 [(0, .ref (ad 0)), (1, .int (nI pn)), (2, .int (nI qn)), (3, .int (nI i))] → W p l e r2 s m args below meth c H locs 0 0 Q (F0 m 52 ls []) := by
          intro n52
          induction n52 with
          | zero => intro i H locs ls hi hn; exact absurd hn (by omega)
          | succ n52 ih52 =>
            intro i H locs ls hi hn _  hP hD hS hl
            refine lv_iload_n hx hb dX1_map_52 rfl (lv_at hl 3 rfl) ?_
            refine lv_iconst (v := nI 4) hx hb dX1_map_53 (by decide) ?_
            refine zi_ge (tgt := 79) hx hb (by omega) (by omega) dX1_map_54 (by decide) (fun h54 => ?_) (fun h54 => ?_)
            · skip
              have e4 : i = 4 := by omega
              subst e4
              refine lv_aload_n hx hb dX1_map_79 rfl (lv_at hl 0 rfl) ?_
              refine lv_iload_n hx hb dX1_map_80 rfl (lv_at hl 1 rfl) ?_
              refine zc_i (ci := 1) (q0 := 0) ⟨hx, hb, hml, hown, hts⟩ hK hP hD hS hA (cM_count _ (by omega)) (kM_count hts ⟨by decide, by decide⟩) rfl rfl rfl rfl hl.1 rfl (Nat.le_of_ble_eq_true rfl) dX1_map_81 ⟨Nat.le_refl _, Nat.le_refl _⟩ (fun r u H locs hw hP hD hS => ?_)
              subst hw
              exact hret _ (va_up Pg (pn * 8 + qn) true, va_cpy (fun _ => 0) Wd 0 (pn * 32 + qn * 4) 4, Ls, Kp, KPg, KWd, Ms, Il, Cn, Sn) _ _ _ _ dX1_map_84 (pm (by simp [sp_map, pz_3 hq2, pz_8 hq12, h32])) hP hD hS
            · skip
              refine lv_aload_n hx hb dX1_map_57 rfl (lv_at hl 0 rfl) ?_
              refine gM_Wd hx hb hts hown hK hP dX1_map_58 ?_
              refine lv_iload_n hx hb dX1_map_61 rfl (lv_at hl 1 rfl) ?_
              refine lv_bipush (v := nI 32) hx hb dX1_map_62 (by decide) ?_
              refine zi_mul hx hb dX1_map_64 ?_
              refine lv_iload_n hx hb dX1_map_65 rfl (lv_at hl 2 rfl) ?_
              refine lv_iconst (v := nI 4) hx hb dX1_map_66 (by decide) ?_
              refine zi_mul hx hb dX1_map_67 ?_
              refine zi_add hx hb dX1_map_68 ?_
              refine lv_iload_n hx hb dX1_map_69 rfl (lv_at hl 3 rfl) ?_
              refine zi_add hx hb dX1_map_70 ?_
              refine lv_iconst (v := 0) hx hb dX1_map_71 (by decide) ?_
              refine sM_Wd hx hb hK hP hD hS (by omega) dX1_map_72 (fun H locs hP hD hS => ?_)
              refine zi_inc hx hb dX1_map_73 hl (k := 3) rfl (by decide) (fun ls hl => ?_)
              refine lv_goto (tgt := 52) hx hb dX1_map_76 (by decide) ?_
              rw [cpy_s (f := fun _ => (0 : Int32))] at hP hD
              exact ih52 (i + 1)  _ _ _ (by omega) (by omega) trivial  hP hD hS (lv_sub hl [1, 2, 3, 0] rfl)
        exact hloop52 (4 + 1) 0  _ _ _ (by omega) (by omega) trivial  (by rw [cpy_0]; exact hP) (by rw [cpy_0]; exact hD) hS (lv_sub hl [1, 2, 3, 0] rfl)
      · skip
        refine lv_bipush (v := (-3)) hx hb dX1_map_35 (by decide) ?_
        exact hret (-3) (Pg, Wd, Ls, Kp, KPg, KWd, Ms, Il, Cn, Sn) _ _ _ _ dX1_map_37 (pm (by simp [sp_map, pz_3 hq2, pz_8 hq12, h32])) hP hD hS
set_option maxHeartbeats 4000000 in
set_option maxRecDepth 100000 in
theorem cM_unmap (v : MS) (a b : Int32) : KI l D cI cZ yX1_unmap cX1_unmap 3 r2 [.ref (ad 0), .int a, .int b] (wMt ad cI cZ v) sz (PM (sp_unmap a b v)) (wMt ad cI cZ) := by
  obtain ⟨Pg, Wd, Ls, Kp, KPg, KWd, Ms, Il, Cn, Sn⟩ := v
  refine fw_i (by decide) (Nat.le_of_ble_eq_true rfl) ?_
  intro p e s m below meth c A Q ls args hx hb hml hts hown hK hP hD hS hA hl hret
  have hown : s.vm.findClass RX1 = some m.cls := hown
  have hP : va_P D vCl (wM ad cI cZ Pg Wd Ls Kp KPg KWd Ms Il Cn Sn) s.heap := hP
  have hD : va_D A (wM ad cI cZ Pg Wd Ls Kp KPg KWd Ms Il Cn Sn) := hD
  have hl : lv_has ls 3 [(0, .ref (ad 0)), (1, .int a), (2, .int b)] := hl
  refine lv_aload_n hx hb dX1_unmap_0 rfl (lv_at hl 0 rfl) ?_
  refine lv_iload_n hx hb dX1_unmap_1 rfl (lv_at hl 1 rfl) ?_
  refine zc_b (ci := 1) (q0 := 0) ⟨hx, hb, hml, hown, hts⟩ hK hP hS (cM_bad l _ a) (kM_bad hts ⟨by decide, by decide⟩) rfl rfl rfl rfl hl.1 rfl (Nat.le_of_ble_eq_true rfl) dX1_unmap_2 ⟨Nat.le_refl _, Nat.le_refl _⟩ (fun r H locs hw hP hS => ?_)
  rcases hw with ⟨rfl, hq2⟩ | ⟨rfl, pn, hq2, rfl⟩
  · skip
    refine lv_if_eq (tgt := 10) hx hb dX1_unmap_5 (by decide) (fun h9 => absurd h9 (by decide)) (fun h9 => ?_)
    refine lv_iconst (v := (-1)) hx hb dX1_unmap_8 (by decide) ?_
    exact hret (-1) (Pg, Wd, Ls, Kp, KPg, KWd, Ms, Il, Cn, Sn) _ _ _ _ dX1_unmap_9 (pm (by simp [sp_unmap, pz_b hq2])) hP hD hS
  · skip
    refine lv_if_eq (tgt := 10) hx hb dX1_unmap_5 (by decide) (fun h9 => ?_) (fun h9 => absurd rfl h9)
    refine lv_aload_n hx hb dX1_unmap_10 rfl (lv_at hl 0 rfl) ?_
    refine lv_iload_n hx hb dX1_unmap_11 rfl (lv_at hl 2 rfl) ?_
    refine zc_b (ci := 1) (q0 := 0) ⟨hx, hb, hml, hown, hts⟩ hK hP hS (cM_badPage l _ b) (kM_badPage hts ⟨by decide, by decide⟩) rfl rfl rfl rfl hl.1 rfl (Nat.le_of_ble_eq_true rfl) dX1_unmap_12 ⟨Nat.le_refl _, Nat.le_refl _⟩ (fun r H locs hw hP hS => ?_)
    rcases hw with ⟨rfl, hq12⟩ | ⟨rfl, qn, hq12, rfl⟩
    · skip
      refine lv_if_eq (tgt := 21) hx hb dX1_unmap_15 (by decide) (fun h9 => absurd h9 (by decide)) (fun h9 => ?_)
      refine lv_bipush (v := (-2)) hx hb dX1_unmap_18 (by decide) ?_
      exact hret (-2) (Pg, Wd, Ls, Kp, KPg, KWd, Ms, Il, Cn, Sn) _ _ _ _ dX1_unmap_20 (pm (by simp [sp_unmap, pz_3 hq2, pz_b hq12])) hP hD hS
    · skip
      refine lv_if_eq (tgt := 21) hx hb dX1_unmap_15 (by decide) (fun h9 => ?_) (fun h9 => absurd rfl h9)
      refine lv_aload_n hx hb dX1_unmap_21 rfl (lv_at hl 0 rfl) ?_
      refine gM_Pg hx hb hts hown hK hP dX1_unmap_22 ?_
      refine lv_iload_n hx hb dX1_unmap_25 rfl (lv_at hl 1 rfl) ?_
      refine lv_bipush (v := nI 8) hx hb dX1_unmap_26 (by decide) ?_
      refine zi_mul hx hb dX1_unmap_28 ?_
      refine lv_iload_n hx hb dX1_unmap_29 rfl (lv_at hl 2 rfl) ?_
      refine zi_add hx hb dX1_unmap_30 ?_
      refine lM_Pg hx hb hK hP (by omega) dX1_unmap_31 ?_
      refine zb_ifne (tgt := 38) hx hb dX1_unmap_32 (by decide) (fun h32 => ?_) (fun h32 => ?_)
      · skip
        refine lv_aload_n hx hb dX1_unmap_38 rfl (lv_at hl 0 rfl) ?_
        refine gM_Pg hx hb hts hown hK hP dX1_unmap_39 ?_
        refine lv_iload_n hx hb dX1_unmap_42 rfl (lv_at hl 1 rfl) ?_
        refine lv_bipush (v := nI 8) hx hb dX1_unmap_43 (by decide) ?_
        refine zi_mul hx hb dX1_unmap_45 ?_
        refine lv_iload_n hx hb dX1_unmap_46 rfl (lv_at hl 2 rfl) ?_
        refine zi_add hx hb dX1_unmap_47 ?_
        refine lv_iconst (v := bI false) hx hb dX1_unmap_48 (by decide) ?_
        refine sM_Pg hx hb hK hP hD hS (by omega) dX1_unmap_49 (fun H locs hP hD hS => ?_)
        refine lv_aload_n hx hb dX1_unmap_50 rfl (lv_at hl 0 rfl) ?_
        refine lv_iload_n hx hb dX1_unmap_51 rfl (lv_at hl 1 rfl) ?_
        refine zc_i (ci := 1) (q0 := 0) ⟨hx, hb, hml, hown, hts⟩ hK hP hD hS hA (cM_count _ (by omega)) (kM_count hts ⟨by decide, by decide⟩) rfl rfl rfl rfl hl.1 rfl (Nat.le_of_ble_eq_true rfl) dX1_unmap_52 ⟨Nat.le_refl _, Nat.le_refl _⟩ (fun r u H locs hw hP hD hS => ?_)
        subst hw
        exact hret _ (va_up Pg (pn * 8 + qn) false, Wd, Ls, Kp, KPg, KWd, Ms, Il, Cn, Sn) _ _ _ _ dX1_unmap_55 (pm (by simp [sp_unmap, pz_3 hq2, pz_8 hq12, h32])) hP hD hS
      · skip
        refine lv_bipush (v := (-4)) hx hb dX1_unmap_35 (by decide) ?_
        exact hret (-4) (Pg, Wd, Ls, Kp, KPg, KWd, Ms, Il, Cn, Sn) _ _ _ _ dX1_unmap_37 (pm (by simp [sp_unmap, pz_3 hq2, pz_8 hq12, h32])) hP hD hS
set_option maxHeartbeats 4000000 in
set_option maxRecDepth 100000 in
theorem cM_write (v : MS) (a b d : Int32) : KI l D cI cZ yX1_write cX1_write 4 r2 [.ref (ad 0), .int a, .int b, .int d] (wMt ad cI cZ v) sz (PM (sp_write a b d v)) (wMt ad cI cZ) := by
  obtain ⟨Pg, Wd, Ls, Kp, KPg, KWd, Ms, Il, Cn, Sn⟩ := v
  refine fw_i (by decide) (Nat.le_of_ble_eq_true rfl) ?_
  intro p e s m below meth c A Q ls args hx hb hml hts hown hK hP hD hS hA hl hret
  have hown : s.vm.findClass RX1 = some m.cls := hown
  have hP : va_P D vCl (wM ad cI cZ Pg Wd Ls Kp KPg KWd Ms Il Cn Sn) s.heap := hP
  have hD : va_D A (wM ad cI cZ Pg Wd Ls Kp KPg KWd Ms Il Cn Sn) := hD
  have hl : lv_has ls 4 [(0, .ref (ad 0)), (1, .int a), (2, .int b), (3, .int d)] := hl
  refine lv_aload_n hx hb dX1_write_0 rfl (lv_at hl 0 rfl) ?_
  refine lv_iload_n hx hb dX1_write_1 rfl (lv_at hl 1 rfl) ?_
  refine zc_b (ci := 1) (q0 := 0) ⟨hx, hb, hml, hown, hts⟩ hK hP hS (cM_bad l _ a) (kM_bad hts ⟨by decide, by decide⟩) rfl rfl rfl rfl hl.1 rfl (Nat.le_of_ble_eq_true rfl) dX1_write_2 ⟨Nat.le_refl _, Nat.le_refl _⟩ (fun r H locs hw hP hS => ?_)
  rcases hw with ⟨rfl, hq2⟩ | ⟨rfl, pn, hq2, rfl⟩
  · skip
    refine lv_if_eq (tgt := 10) hx hb dX1_write_5 (by decide) (fun h9 => absurd h9 (by decide)) (fun h9 => ?_)
    refine lv_iconst (v := (-1)) hx hb dX1_write_8 (by decide) ?_
    exact hret (-1) (Pg, Wd, Ls, Kp, KPg, KWd, Ms, Il, Cn, Sn) _ _ _ _ dX1_write_9 (pm (by simp [sp_write, pz_b hq2])) hP hD hS
  · skip
    refine lv_if_eq (tgt := 10) hx hb dX1_write_5 (by decide) (fun h9 => ?_) (fun h9 => absurd rfl h9)
    refine lv_iload_n hx hb dX1_write_10 rfl (lv_at hl 2 rfl) ?_
    refine lv_if_lt (tgt := 20) hx hb dX1_write_11 (by decide) (fun h11 => ?_) (fun h11 => ?_)
    · skip
      refine lv_bipush (v := (-2)) hx hb dX1_write_20 (by decide) ?_
      exact hret (-2) (Pg, Wd, Ls, Kp, KPg, KWd, Ms, Il, Cn, Sn) _ _ _ _ dX1_write_22 (pm (by simp [sp_write, pz_3 hq2, pz_b (P := bad32) (Or.inl h11)])) hP hD hS
    · skip
      refine lv_iload_n hx hb dX1_write_14 rfl (lv_at hl 2 rfl) ?_
      refine lv_bipush (v := 31) hx hb dX1_write_15 (by decide) ?_
      refine lv_icmp_le (tgt := 23) hx hb dX1_write_17 (by decide) (fun h17 => ?_) (fun h17 => ?_)
      · skip
        obtain ⟨qn, hqn, rfl⟩ := gd32 h11 h17
        refine lv_aload_n hx hb dX1_write_23 rfl (lv_at hl 0 rfl) ?_
        refine gM_Pg hx hb hts hown hK hP dX1_write_24 ?_
        refine lv_iload_n hx hb dX1_write_27 rfl (lv_at hl 1 rfl) ?_
        refine lv_bipush (v := nI 8) hx hb dX1_write_28 (by decide) ?_
        refine zi_mul hx hb dX1_write_30 ?_
        refine lv_iload_n hx hb dX1_write_31 rfl (lv_at hl 2 rfl) ?_
        refine lv_iconst (v := nI 4) hx hb dX1_write_32 (by decide) ?_
        refine zi_div hx hb (by omega) (by decide) (by decide) dX1_write_33 ?_
        refine zi_add hx hb dX1_write_34 ?_
        refine lM_Pg hx hb hK hP (by omega) dX1_write_35 ?_
        refine zb_ifne (tgt := 42) hx hb dX1_write_36 (by decide) (fun h36 => ?_) (fun h36 => ?_)
        · skip
          refine lv_aload_n hx hb dX1_write_42 rfl (lv_at hl 0 rfl) ?_
          refine gM_Wd hx hb hts hown hK hP dX1_write_43 ?_
          refine lv_iload_n hx hb dX1_write_46 rfl (lv_at hl 1 rfl) ?_
          refine lv_bipush (v := nI 32) hx hb dX1_write_47 (by decide) ?_
          refine zi_mul hx hb dX1_write_49 ?_
          refine lv_iload_n hx hb dX1_write_50 rfl (lv_at hl 2 rfl) ?_
          refine zi_add hx hb dX1_write_51 ?_
          refine lv_iload_n hx hb dX1_write_52 rfl (lv_at hl 3 rfl) ?_
          refine sM_Wd hx hb hK hP hD hS (by omega) dX1_write_53 (fun H locs hP hD hS => ?_)
          refine lv_iload_n hx hb dX1_write_54 rfl (lv_at hl 2 rfl) ?_
          refine lv_iconst (v := nI 4) hx hb dX1_write_55 (by decide) ?_
          refine zi_div hx hb (by omega) (by decide) (by decide) dX1_write_56 ?_
          exact hret _ (Pg, va_up Wd (pn * 32 + qn) d, Ls, Kp, KPg, KWd, Ms, Il, Cn, Sn) _ _ _ _ dX1_write_57 (pm (by simp [sp_write, pz_3 hq2, pz_32 hqn, h36])) hP hD hS
        · skip
          refine lv_bipush (v := (-4)) hx hb dX1_write_39 (by decide) ?_
          exact hret (-4) (Pg, Wd, Ls, Kp, KPg, KWd, Ms, Il, Cn, Sn) _ _ _ _ dX1_write_41 (pm (by simp [sp_write, pz_3 hq2, pz_32 hqn, h36])) hP hD hS
      · skip
        refine lv_bipush (v := (-2)) hx hb dX1_write_20 (by decide) ?_
        exact hret (-2) (Pg, Wd, Ls, Kp, KPg, KWd, Ms, Il, Cn, Sn) _ _ _ _ dX1_write_22 (pm (by simp [sp_write, pz_3 hq2, pz_b (P := bad32) (Or.inr h17)])) hP hD hS
set_option maxHeartbeats 4000000 in
set_option maxRecDepth 100000 in
theorem cM_copy (v : MS) (a b d : Int32) : KI l D cI cZ yX1_copy cX1_copy 5 r2 [.ref (ad 0), .int a, .int b, .int d] (wMt ad cI cZ v) sz (PM (sp_copy a b d v)) (wMt ad cI cZ) := by
  obtain ⟨Pg, Wd, Ls, Kp, KPg, KWd, Ms, Il, Cn, Sn⟩ := v
  refine fw_i (by decide) (Nat.le_of_ble_eq_true rfl) ?_
  intro p e s m below meth c A Q ls args hx hb hml hts hown hK hP hD hS hA hl hret
  have hown : s.vm.findClass RX1 = some m.cls := hown
  have hP : va_P D vCl (wM ad cI cZ Pg Wd Ls Kp KPg KWd Ms Il Cn Sn) s.heap := hP
  have hD : va_D A (wM ad cI cZ Pg Wd Ls Kp KPg KWd Ms Il Cn Sn) := hD
  have hl : lv_has ls 5 [(0, .ref (ad 0)), (1, .int a), (2, .int b), (3, .int d)] := hl
  refine lv_aload_n hx hb dX1_copy_0 rfl (lv_at hl 0 rfl) ?_
  refine lv_iload_n hx hb dX1_copy_1 rfl (lv_at hl 1 rfl) ?_
  refine zc_b (ci := 1) (q0 := 0) ⟨hx, hb, hml, hown, hts⟩ hK hP hS (cM_bad l _ a) (kM_bad hts ⟨by decide, by decide⟩) rfl rfl rfl rfl hl.1 rfl (Nat.le_of_ble_eq_true rfl) dX1_copy_2 ⟨Nat.le_refl _, Nat.le_refl _⟩ (fun r H locs hw hP hS => ?_)
  rcases hw with ⟨rfl, hq2⟩ | ⟨rfl, pn, hq2, rfl⟩
  · skip
    refine lv_if_eq (tgt := 10) hx hb dX1_copy_5 (by decide) (fun h9 => absurd h9 (by decide)) (fun h9 => ?_)
    refine lv_iconst (v := (-1)) hx hb dX1_copy_8 (by decide) ?_
    exact hret (-1) (Pg, Wd, Ls, Kp, KPg, KWd, Ms, Il, Cn, Sn) _ _ _ _ dX1_copy_9 (pm (by simp [sp_copy, pz_b hq2])) hP hD hS
  · skip
    refine lv_if_eq (tgt := 10) hx hb dX1_copy_5 (by decide) (fun h9 => ?_) (fun h9 => absurd rfl h9)
    refine lv_aload_n hx hb dX1_copy_10 rfl (lv_at hl 0 rfl) ?_
    refine lv_iload_n hx hb dX1_copy_11 rfl (lv_at hl 2 rfl) ?_
    refine zc_b (ci := 1) (q0 := 0) ⟨hx, hb, hml, hown, hts⟩ hK hP hS (cM_badPage l _ b) (kM_badPage hts ⟨by decide, by decide⟩) rfl rfl rfl rfl hl.1 rfl (Nat.le_of_ble_eq_true rfl) dX1_copy_12 ⟨Nat.le_refl _, Nat.le_refl _⟩ (fun r H locs hw hP hS => ?_)
    rcases hw with ⟨rfl, hq12⟩ | ⟨rfl, qn, hq12, rfl⟩
    · skip
      refine lv_if_ne (tgt := 26) hx hb dX1_copy_15 (by decide) (fun h9 => ?_) (fun h9 => absurd h9 (by decide))
      refine lv_bipush (v := (-2)) hx hb dX1_copy_26 (by decide) ?_
      exact hret (-2) (Pg, Wd, Ls, Kp, KPg, KWd, Ms, Il, Cn, Sn) _ _ _ _ dX1_copy_28 (pm (by simp [sp_copy, pz_3 hq2, pz_b hq12])) hP hD hS
    · skip
      refine lv_if_ne (tgt := 26) hx hb dX1_copy_15 (by decide) (fun h9 => absurd rfl h9) (fun h9 => ?_)
      refine lv_aload_n hx hb dX1_copy_18 rfl (lv_at hl 0 rfl) ?_
      refine lv_iload_n hx hb dX1_copy_19 rfl (lv_at hl 3 rfl) ?_
      refine zc_b (ci := 1) (q0 := 0) ⟨hx, hb, hml, hown, hts⟩ hK hP hS (cM_badPage l _ d) (kM_badPage hts ⟨by decide, by decide⟩) rfl rfl rfl rfl hl.1 rfl (Nat.le_of_ble_eq_true rfl) dX1_copy_20 ⟨Nat.le_refl _, Nat.le_refl _⟩ (fun r H locs hw hP hS => ?_)
      rcases hw with ⟨rfl, hq20⟩ | ⟨rfl, tn, hq20, rfl⟩
      · skip
        refine lv_if_eq (tgt := 29) hx hb dX1_copy_23 (by decide) (fun h9 => absurd h9 (by decide)) (fun h9 => ?_)
        refine lv_bipush (v := (-2)) hx hb dX1_copy_26 (by decide) ?_
        exact hret (-2) (Pg, Wd, Ls, Kp, KPg, KWd, Ms, Il, Cn, Sn) _ _ _ _ dX1_copy_28 (pm (by simp [sp_copy, pz_3 hq2, pz_8 hq12, pz_b hq20])) hP hD hS
      · skip
        refine lv_if_eq (tgt := 29) hx hb dX1_copy_23 (by decide) (fun h9 => ?_) (fun h9 => absurd rfl h9)
        refine lv_aload_n hx hb dX1_copy_29 rfl (lv_at hl 0 rfl) ?_
        refine gM_Pg hx hb hts hown hK hP dX1_copy_30 ?_
        refine lv_iload_n hx hb dX1_copy_33 rfl (lv_at hl 1 rfl) ?_
        refine lv_bipush (v := nI 8) hx hb dX1_copy_34 (by decide) ?_
        refine zi_mul hx hb dX1_copy_36 ?_
        refine lv_iload_n hx hb dX1_copy_37 rfl (lv_at hl 2 rfl) ?_
        refine zi_add hx hb dX1_copy_38 ?_
        refine lM_Pg hx hb hK hP (by omega) dX1_copy_39 ?_
        refine zb_ifne (tgt := 46) hx hb dX1_copy_40 (by decide) (fun h40 => ?_) (fun h40 => ?_)
        · skip
          refine lv_aload_n hx hb dX1_copy_46 rfl (lv_at hl 0 rfl) ?_
          refine gM_Pg hx hb hts hown hK hP dX1_copy_47 ?_
          refine lv_iload_n hx hb dX1_copy_50 rfl (lv_at hl 1 rfl) ?_
          refine lv_bipush (v := nI 8) hx hb dX1_copy_51 (by decide) ?_
          refine zi_mul hx hb dX1_copy_53 ?_
          refine lv_iload_n hx hb dX1_copy_54 rfl (lv_at hl 3 rfl) ?_
          refine zi_add hx hb dX1_copy_55 ?_
          refine lv_iconst (v := bI true) hx hb dX1_copy_56 (by decide) ?_
          refine sM_Pg hx hb hK hP hD hS (by omega) dX1_copy_57 (fun H locs hP hD hS => ?_)
          refine lv_iconst (v := nI 0) hx hb dX1_copy_58 (by decide) ?_
          refine zi_st hx hb dX1_copy_59 hl (by decide) (fun ls hl => ?_)
          have hloop61 : ∀ (n : Nat) (i : Nat) (H : Heap) (locs : List Loc) (ls : Array Slot), i ≤ 4 → 4 + 1 ≤ i + n → True → va_P D vCl (wM ad cI cZ (va_up Pg (pn * 8 + tn) true) (va_cpy Wd Wd (pn * 32 + qn * 4) (pn * 32 + tn * 4) i) Ls Kp KPg KWd Ms Il Cn Sn) H → va_D A (wM ad cI cZ (va_up Pg (pn * 8 + tn) true) (va_cpy Wd Wd (pn * 32 + qn * 4) (pn * 32 + tn * 4) i) Ls Kp KPg KWd Ms Il Cn Sn) → va_S A s.heap H locs → lv_has ls 5 [(0, .ref (ad 0)), (1, .int (nI pn)), (2, .int (nI qn)), (3, .int (nI tn)), (4, .int (nI i))] → W p l e r2 s m args below meth c H locs 0 0 Q (F0 m 61 ls []) := by
            intro n61
            induction n61 with
            | zero => intro i H locs ls hi hn; exact absurd hn (by omega)
            | succ n61 ih61 =>
              intro i H locs ls hi hn _  hP hD hS hl
              refine lv_iload hx hb dX1_copy_61 (lv_at hl 4 rfl) ?_
              refine lv_iconst (v := nI 4) hx hb dX1_copy_63 (by decide) ?_
              refine zi_ge (tgt := 105) hx hb (by omega) (by omega) dX1_copy_64 (by decide) (fun h64 => ?_) (fun h64 => ?_)
              · skip
                have e4 : i = 4 := by omega
                subst e4
                refine lv_aload_n hx hb dX1_copy_105 rfl (lv_at hl 0 rfl) ?_
                refine lv_iload_n hx hb dX1_copy_106 rfl (lv_at hl 1 rfl) ?_
                refine zc_i (ci := 1) (q0 := 0) ⟨hx, hb, hml, hown, hts⟩ hK hP hD hS hA (cM_count _ (by omega)) (kM_count hts ⟨by decide, by decide⟩) rfl rfl rfl rfl hl.1 rfl (Nat.le_of_ble_eq_true rfl) dX1_copy_107 ⟨Nat.le_refl _, Nat.le_refl _⟩ (fun r u H locs hw hP hD hS => ?_)
                subst hw
                exact hret _ (va_up Pg (pn * 8 + tn) true, va_cpy Wd Wd (pn * 32 + qn * 4) (pn * 32 + tn * 4) 4, Ls, Kp, KPg, KWd, Ms, Il, Cn, Sn) _ _ _ _ dX1_copy_110 (pm (by simp [sp_copy, pz_3 hq2, pz_8 hq12, pz_8 hq20, h40])) hP hD hS
              · skip
                refine lv_aload_n hx hb dX1_copy_67 rfl (lv_at hl 0 rfl) ?_
                refine gM_Wd hx hb hts hown hK hP dX1_copy_68 ?_
                refine lv_iload_n hx hb dX1_copy_71 rfl (lv_at hl 1 rfl) ?_
                refine lv_bipush (v := nI 32) hx hb dX1_copy_72 (by decide) ?_
                refine zi_mul hx hb dX1_copy_74 ?_
                refine lv_iload_n hx hb dX1_copy_75 rfl (lv_at hl 3 rfl) ?_
                refine lv_iconst (v := nI 4) hx hb dX1_copy_76 (by decide) ?_
                refine zi_mul hx hb dX1_copy_77 ?_
                refine zi_add hx hb dX1_copy_78 ?_
                refine lv_iload hx hb dX1_copy_79 (lv_at hl 4 rfl) ?_
                refine zi_add hx hb dX1_copy_81 ?_
                refine lv_aload_n hx hb dX1_copy_82 rfl (lv_at hl 0 rfl) ?_
                refine gM_Wd hx hb hts hown hK hP dX1_copy_83 ?_
                refine lv_iload_n hx hb dX1_copy_86 rfl (lv_at hl 1 rfl) ?_
                refine lv_bipush (v := nI 32) hx hb dX1_copy_87 (by decide) ?_
                refine zi_mul hx hb dX1_copy_89 ?_
                refine lv_iload_n hx hb dX1_copy_90 rfl (lv_at hl 2 rfl) ?_
                refine lv_iconst (v := nI 4) hx hb dX1_copy_91 (by decide) ?_
                refine zi_mul hx hb dX1_copy_92 ?_
                refine zi_add hx hb dX1_copy_93 ?_
                refine lv_iload hx hb dX1_copy_94 (lv_at hl 4 rfl) ?_
                refine zi_add hx hb dX1_copy_96 ?_
                refine lM_Wd hx hb hK hP (by omega) dX1_copy_97 ?_
                rw [cpy_o (f := Wd) (g := Wd) (a := pn * 32 + qn * 4) (b := pn * 32 + tn * 4) (i := i) (k := pn * 32 + qn * 4 + i) (by omega)]
                refine sM_Wd hx hb hK hP hD hS (by omega) dX1_copy_98 (fun H locs hP hD hS => ?_)
                refine zi_inc hx hb dX1_copy_99 hl (k := 4) rfl (by decide) (fun ls hl => ?_)
                refine lv_goto (tgt := 61) hx hb dX1_copy_102 (by decide) ?_
                rw [cpy_s] at hP hD
                exact ih61 (i + 1)  _ _ _ (by omega) (by omega) trivial  hP hD hS (lv_sub hl [1, 2, 3, 4, 0] rfl)
          exact hloop61 (4 + 1) 0  _ _ _ (by omega) (by omega) trivial  (by rw [cpy_0]; exact hP) (by rw [cpy_0]; exact hD) hS (lv_sub hl [1, 2, 3, 4, 0] rfl)
        · skip
          refine lv_bipush (v := (-4)) hx hb dX1_copy_43 (by decide) ?_
          exact hret (-4) (Pg, Wd, Ls, Kp, KPg, KWd, Ms, Il, Cn, Sn) _ _ _ _ dX1_copy_45 (pm (by simp [sp_copy, pz_3 hq2, pz_8 hq12, pz_8 hq20, h40])) hP hD hS
set_option maxHeartbeats 4000000 in
set_option maxRecDepth 100000 in
theorem cM_send (v : MS) (hv : MOK v) (a b d g : Int32) : KI l D cI cZ yX1_send cX1_send 10 r2 [.ref (ad 0), .int a, .int b, .int d, .int g] (wMt ad cI cZ v) sz (PM (sp_send a b d g v)) (wMt ad cI cZ) := by
  obtain ⟨Pg, Wd, Ls, Kp, KPg, KWd, Ms, Il, Cn, Sn⟩ := v
  have hv : ∀ p, p < 3 → Ms p ≤ 3 ∧ ∀ j, j < Ms p → Cn (p * 3 + j) ≤ 3 := hv
  refine fw_i (by decide) (Nat.le_of_ble_eq_true rfl) ?_
  intro p e s m below meth c A Q ls args hx hb hml hts hown hK hP hD hS hA hl hret
  have hown : s.vm.findClass RX1 = some m.cls := hown
  have hP : va_P D vCl (wM ad cI cZ Pg Wd Ls Kp KPg KWd Ms Il Cn Sn) s.heap := hP
  have hD : va_D A (wM ad cI cZ Pg Wd Ls Kp KPg KWd Ms Il Cn Sn) := hD
  have hl : lv_has ls 10 [(0, .ref (ad 0)), (1, .int a), (2, .int b), (3, .int d), (4, .int g)] := hl
  refine lv_aload_n hx hb dX1_send_0 rfl (lv_at hl 0 rfl) ?_
  refine lv_iload_n hx hb dX1_send_1 rfl (lv_at hl 1 rfl) ?_
  refine zc_b (ci := 1) (q0 := 0) ⟨hx, hb, hml, hown, hts⟩ hK hP hS (cM_bad l _ a) (kM_bad hts ⟨by decide, by decide⟩) rfl rfl rfl rfl hl.1 rfl (Nat.le_of_ble_eq_true rfl) dX1_send_2 ⟨Nat.le_refl _, Nat.le_refl _⟩ (fun r H locs hw hP hS => ?_)
  rcases hw with ⟨rfl, hq2⟩ | ⟨rfl, pn, hq2, rfl⟩
  · skip
    refine lv_if_ne (tgt := 16) hx hb dX1_send_5 (by decide) (fun h9 => ?_) (fun h9 => absurd h9 (by decide))
    refine lv_iconst (v := (-1)) hx hb dX1_send_16 (by decide) ?_
    exact hret (-1) (Pg, Wd, Ls, Kp, KPg, KWd, Ms, Il, Cn, Sn) _ _ _ _ dX1_send_17 (pm (by simp [sp_send, pz_b hq2])) hP hD hS
  · skip
    refine lv_if_ne (tgt := 16) hx hb dX1_send_5 (by decide) (fun h9 => absurd rfl h9) (fun h9 => ?_)
    refine lv_aload_n hx hb dX1_send_8 rfl (lv_at hl 0 rfl) ?_
    refine lv_iload_n hx hb dX1_send_9 rfl (lv_at hl 2 rfl) ?_
    refine zc_b (ci := 1) (q0 := 0) ⟨hx, hb, hml, hown, hts⟩ hK hP hS (cM_bad l _ b) (kM_bad hts ⟨by decide, by decide⟩) rfl rfl rfl rfl hl.1 rfl (Nat.le_of_ble_eq_true rfl) dX1_send_10 ⟨Nat.le_refl _, Nat.le_refl _⟩ (fun r H locs hw hP hS => ?_)
    rcases hw with ⟨rfl, hq10⟩ | ⟨rfl, on, hq10, rfl⟩
    · skip
      refine lv_if_eq (tgt := 18) hx hb dX1_send_13 (by decide) (fun h9 => absurd h9 (by decide)) (fun h9 => ?_)
      refine lv_iconst (v := (-1)) hx hb dX1_send_16 (by decide) ?_
      exact hret (-1) (Pg, Wd, Ls, Kp, KPg, KWd, Ms, Il, Cn, Sn) _ _ _ _ dX1_send_17 (pm (by simp [sp_send, pz_3 hq2, pz_b hq10])) hP hD hS
    · skip
      refine lv_if_eq (tgt := 18) hx hb dX1_send_13 (by decide) (fun h9 => ?_) (fun h9 => absurd rfl h9)
      have hm : Ms on ≤ 3 := (hv on hq10).1
      have hf8 := fN_lt g
      have hn4 := nN_lt g
      refine lv_aload_n hx hb dX1_send_18 rfl (lv_at hl 0 rfl) ?_
      refine gM_Ms hx hb hts hown hK hP dX1_send_19 ?_
      refine lv_iload_n hx hb dX1_send_22 rfl (lv_at hl 2 rfl) ?_
      refine lM_Ms hx hb hK hP (by omega) dX1_send_23 ?_
      refine zi_st hx hb dX1_send_24 hl (by decide) (fun ls hl => ?_)
      refine lv_iload hx hb dX1_send_26 (lv_at hl 0 rfl) ?_
      refine lv_iconst (v := nI 3) hx hb dX1_send_28 (by decide) ?_
      refine zi_lt (tgt := 35) hx hb (by omega) (by omega) dX1_send_29 (by decide) (fun h29 => ?_) (fun h29 => ?_)
      · skip
        refine lv_iload hx hb dX1_send_35 (lv_at hl 5 rfl) ?_
        refine lv_bipush (v := 7) hx hb dX1_send_37 (by decide) ?_
        refine zv_and (v := nI (fN g)) hx hb dX1_send_39 (fN_e g) ?_
        refine zi_st hx hb dX1_send_40 hl (by decide) (fun ls hl => ?_)
        refine lv_iload hx hb dX1_send_42 (lv_at hl 6 rfl) ?_
        refine lv_iconst (v := 3) hx hb dX1_send_44 (by decide) ?_
        refine lv_ishr hx hb dX1_send_45 ?_
        refine lv_iconst (v := 3) hx hb dX1_send_46 (by decide) ?_
        refine zv_and (v := nI (nN g)) hx hb dX1_send_47 (nN_e g) ?_
        refine zi_st hx hb dX1_send_48 hl (by decide) (fun ls hl => ?_)
        refine lv_iload hx hb dX1_send_50 (lv_at hl 1 rfl) ?_
        refine lv_iload hx hb dX1_send_52 (lv_at hl 0 rfl) ?_
        refine zi_add hx hb dX1_send_54 ?_
        refine lv_bipush (v := nI 8) hx hb dX1_send_55 (by decide) ?_
        refine zi_le (tgt := 63) hx hb (by omega) (by omega) dX1_send_57 (by decide) (fun h57 => ?_) (fun h57 => ?_)
        · skip
          refine lv_iconst (v := nI 0) hx hb dX1_send_63 (by decide) ?_
          refine zi_st hx hb dX1_send_64 hl (by decide) (fun ls hl => ?_)
          have hloop66 : ∀ (n : Nat) (i : Nat) (H : Heap) (locs : List Loc) (ls : Array Slot), i ≤ nN g → nN g + 1 ≤ i + n → True → (∀ j, j < i → Pg (pn * 8 + fN g + j) = true) → va_P D vCl (wM ad cI cZ Pg Wd Ls Kp KPg KWd Ms Il Cn Sn) H → va_D A (wM ad cI cZ Pg Wd Ls Kp KPg KWd Ms Il Cn Sn) → va_S A s.heap H locs → lv_has ls 10 [(0, .ref (ad 0)), (1, .int (nI pn)), (2, .int (nI on)), (3, .int (d)), (4, .int (g)), (5, .int (nI (Ms on))), (6, .int (nI (fN g))), (7, .int (nI (nN g))), (8, .int (nI i))] → W p l e r2 s m args below meth c H locs 0 0 Q (F0 m 66 ls []) := by
            intro n66
            induction n66 with
            | zero => intro i H locs ls hi hn; exact absurd hn (by omega)
            | succ n66 ih66 =>
              intro i H locs ls hi hn _ hI hP hD hS hl
              refine lv_iload hx hb dX1_send_66 (lv_at hl 8 rfl) ?_
              refine lv_iload hx hb dX1_send_68 (lv_at hl 7 rfl) ?_
              refine zi_ge (tgt := 100) hx hb (by omega) (by omega) dX1_send_70 (by decide) (fun h70 => ?_) (fun h70 => ?_)
              · skip
                have hAll : ∀ j, j < nN g → Pg (pn * 8 + fN g + j) = true := fun j hj => hI j (by omega)
                refine lv_iload_n hx hb dX1_send_100 rfl (lv_at hl 2 rfl) ?_
                refine lv_iconst (v := nI 3) hx hb dX1_send_101 (by decide) ?_
                refine zi_mul hx hb dX1_send_102 ?_
                refine lv_iload hx hb dX1_send_103 (lv_at hl 5 rfl) ?_
                refine zi_add hx hb dX1_send_105 ?_
                refine zi_st hx hb dX1_send_106 hl (by decide) (fun ls hl => ?_)
                refine lv_aload_n hx hb dX1_send_108 rfl (lv_at hl 1 rfl) ?_
                refine gM_Il hx hb hts hown hK hP dX1_send_109 ?_
                refine lv_iload hx hb dX1_send_112 (lv_at hl 0 rfl) ?_
                refine lv_iload_n hx hb dX1_send_114 rfl (lv_at hl 4 rfl) ?_
                refine sM_Il hx hb hK hP hD hS (by omega) dX1_send_115 (fun H locs hP hD hS => ?_)
                refine lv_aload_n hx hb dX1_send_116 rfl (lv_at hl 1 rfl) ?_
                refine gM_Cn hx hb hts hown hK hP dX1_send_117 ?_
                refine lv_iload hx hb dX1_send_120 (lv_at hl 0 rfl) ?_
                refine lv_iload hx hb dX1_send_122 (lv_at hl 8 rfl) ?_
                refine sM_Cn hx hb hK hP hD hS (by omega) dX1_send_124 (fun H locs hP hD hS => ?_)
                refine lv_iconst (v := nI 0) hx hb dX1_send_125 (by decide) ?_
                refine zi_st hx hb dX1_send_126 hl (by decide) (fun ls hl => ?_)
                have hloop128 : ∀ (n : Nat) (k : Nat) (H : Heap) (locs : List Loc) (ls : Array Slot), k ≤ (nN g * 4) → (nN g * 4) + 1 ≤ k + n → True → va_P D vCl (wM ad cI cZ Pg Wd Ls Kp KPg KWd Ms (va_up Il (on * 3 + Ms on) d) (va_up Cn (on * 3 + Ms on) (nN g)) (va_cpy Wd Sn (pn * 32 + fN g * 4) ((on * 3 + Ms on) * 12) k)) H → va_D A (wM ad cI cZ Pg Wd Ls Kp KPg KWd Ms (va_up Il (on * 3 + Ms on) d) (va_up Cn (on * 3 + Ms on) (nN g)) (va_cpy Wd Sn (pn * 32 + fN g * 4) ((on * 3 + Ms on) * 12) k)) → va_S A s.heap H locs → lv_has ls 10 [(0, .ref (ad 0)), (1, .int (nI pn)), (2, .int (nI on)), (3, .int (d)), (4, .int (g)), (5, .int (nI (Ms on))), (6, .int (nI (fN g))), (7, .int (nI (nN g))), (8, .int (nI (on * 3 + Ms on))), (9, .int (nI k))] → W p l e r2 s m args below meth c H locs 0 0 Q (F0 m 128 ls []) := by
                  intro n128
                  induction n128 with
                  | zero => intro k H locs ls hi hn; exact absurd hn (by omega)
                  | succ n128 ih128 =>
                    intro k H locs ls hi hn _  hP hD hS hl
                    refine lv_iload hx hb dX1_send_128 (lv_at hl 9 rfl) ?_
                    refine lv_iload hx hb dX1_send_130 (lv_at hl 7 rfl) ?_
                    refine lv_iconst (v := nI 4) hx hb dX1_send_132 (by decide) ?_
                    refine zi_mul hx hb dX1_send_133 ?_
                    refine zi_ge (tgt := 173) hx hb (by omega) (by omega) dX1_send_134 (by decide) (fun h134 => ?_) (fun h134 => ?_)
                    · skip
                      have e4 : k = nN g * 4 := by omega
                      subst e4
                      refine lv_aload_n hx hb dX1_send_173 rfl (lv_at hl 0 rfl) ?_
                      refine gM_Ms hx hb hts hown hK hP dX1_send_174 ?_
                      refine lv_iload_n hx hb dX1_send_177 rfl (lv_at hl 2 rfl) ?_
                      refine lv_iload hx hb dX1_send_178 (lv_at hl 5 rfl) ?_
                      refine lv_iconst (v := nI 1) hx hb dX1_send_180 (by decide) ?_
                      refine zi_add hx hb dX1_send_181 ?_
                      refine sM_Ms hx hb hK hP hD hS (by omega) dX1_send_182 (fun H locs hP hD hS => ?_)
                      refine lv_iload hx hb dX1_send_183 (lv_at hl 5 rfl) ?_
                      refine lv_iconst (v := nI 1) hx hb dX1_send_185 (by decide) ?_
                      refine zi_add hx hb dX1_send_186 ?_
                      exact hret _ (Pg, Wd, Ls, Kp, KPg, KWd, va_up Ms on (Ms on + 1), va_up Il (on * 3 + Ms on) d, va_up Cn (on * 3 + Ms on) (nN g), va_cpy Wd Sn (pn * 32 + fN g * 4) ((on * 3 + Ms on) * 12) (nN g * 4)) _ _ _ _ dX1_send_187 (pm (by simp only [sp_send, pz_3 hq2, pz_3 hq10]; rw [if_neg (by omega), if_neg (by omega), if_pos hAll])) hP hD hS
                    · skip
                      refine lv_aload_n hx hb dX1_send_137 rfl (lv_at hl 0 rfl) ?_
                      refine gM_Sn hx hb hts hown hK hP dX1_send_138 ?_
                      refine lv_iload hx hb dX1_send_141 (lv_at hl 8 rfl) ?_
                      refine lv_bipush (v := nI 12) hx hb dX1_send_143 (by decide) ?_
                      refine zi_mul hx hb dX1_send_145 ?_
                      refine lv_iload hx hb dX1_send_146 (lv_at hl 9 rfl) ?_
                      refine zi_add hx hb dX1_send_148 ?_
                      refine lv_aload_n hx hb dX1_send_149 rfl (lv_at hl 0 rfl) ?_
                      refine gM_Wd hx hb hts hown hK hP dX1_send_150 ?_
                      refine lv_iload_n hx hb dX1_send_153 rfl (lv_at hl 1 rfl) ?_
                      refine lv_bipush (v := nI 32) hx hb dX1_send_154 (by decide) ?_
                      refine zi_mul hx hb dX1_send_156 ?_
                      refine lv_iload hx hb dX1_send_157 (lv_at hl 6 rfl) ?_
                      refine lv_iconst (v := nI 4) hx hb dX1_send_159 (by decide) ?_
                      refine zi_mul hx hb dX1_send_160 ?_
                      refine zi_add hx hb dX1_send_161 ?_
                      refine lv_iload hx hb dX1_send_162 (lv_at hl 9 rfl) ?_
                      refine zi_add hx hb dX1_send_164 ?_
                      refine lM_Wd hx hb hK hP (by omega) dX1_send_165 ?_
                      refine sM_Sn hx hb hK hP hD hS (by omega) dX1_send_166 (fun H locs hP hD hS => ?_)
                      refine zi_inc hx hb dX1_send_167 hl (k := 9) rfl (by decide) (fun ls hl => ?_)
                      refine lv_goto (tgt := 128) hx hb dX1_send_170 (by decide) ?_
                      rw [cpy_s] at hP hD
                      exact ih128 (k + 1)  _ _ _ (by omega) (by omega) trivial  hP hD hS (lv_sub hl [1, 2, 3, 4, 5, 6, 7, 8, 9, 0] rfl)
                exact hloop128 ((nN g * 4) + 1) 0  _ _ _ (by omega) (by omega) trivial  (by rw [cpy_0]; exact hP) (by rw [cpy_0]; exact hD) hS (lv_sub hl [2, 3, 4, 5, 6, 7, 8, 9, 1, 0] rfl)
              · skip
                refine lv_aload_n hx hb dX1_send_73 rfl (lv_at hl 0 rfl) ?_
                refine gM_Pg hx hb hts hown hK hP dX1_send_74 ?_
                refine lv_iload_n hx hb dX1_send_77 rfl (lv_at hl 1 rfl) ?_
                refine lv_bipush (v := nI 8) hx hb dX1_send_78 (by decide) ?_
                refine zi_mul hx hb dX1_send_80 ?_
                refine lv_iload hx hb dX1_send_81 (lv_at hl 6 rfl) ?_
                refine zi_add hx hb dX1_send_83 ?_
                refine lv_iload hx hb dX1_send_84 (lv_at hl 8 rfl) ?_
                refine zi_add hx hb dX1_send_86 ?_
                refine lM_Pg hx hb hK hP (by omega) dX1_send_87 ?_
                refine zb_ifne (tgt := 94) hx hb dX1_send_88 (by decide) (fun h88 => ?_) (fun h88 => ?_)
                · skip
                  refine zi_inc hx hb dX1_send_94 hl (k := 8) rfl (by decide) (fun ls hl => ?_)
                  refine lv_goto (tgt := 66) hx hb dX1_send_97 (by decide) ?_
                  exact ih66 (i + 1)  _ _ _ (by omega) (by omega) trivial (lt_s hI h88) hP hD hS (lv_sub hl [1, 2, 3, 4, 5, 6, 7, 8, 0] rfl)
                · skip
                  refine lv_bipush (v := (-4)) hx hb dX1_send_91 (by decide) ?_
                  exact hret (-4) (Pg, Wd, Ls, Kp, KPg, KWd, Ms, Il, Cn, Sn) _ _ _ _ dX1_send_93 (pm (by simp only [sp_send, pz_3 hq2, pz_3 hq10]; rw [if_neg (by omega), if_neg (by omega), if_neg (fun q => by rw [q i h70] at h88; cases h88)])) hP hD hS
          exact hloop66 (nN g + 1) 0  _ _ _ (by omega) (by omega) trivial lt_0 hP hD hS (lv_sub hl [4, 5, 6, 7, 8, 3, 2, 1, 0] rfl)
        · skip
          refine lv_bipush (v := (-2)) hx hb dX1_send_60 (by decide) ?_
          exact hret (-2) (Pg, Wd, Ls, Kp, KPg, KWd, Ms, Il, Cn, Sn) _ _ _ _ dX1_send_62 (pm (by simp only [sp_send, pz_3 hq2, pz_3 hq10]; rw [if_neg (by omega), if_pos h57])) hP hD hS
      · skip
        refine lv_bipush (v := (-5)) hx hb dX1_send_32 (by decide) ?_
        exact hret (-5) (Pg, Wd, Ls, Kp, KPg, KWd, Ms, Il, Cn, Sn) _ _ _ _ dX1_send_34 (pm (by simp only [sp_send, pz_3 hq2, pz_3 hq10]; rw [if_pos h29])) hP hD hS
set_option maxHeartbeats 4000000 in
set_option maxRecDepth 100000 in
theorem cM_receive (v : MS) (hv : MOK v) (a b d : Int32) : KI l D cI cZ yX1_receive cX1_receive 7 r2 [.ref (ad 0), .int a, .int b, .int d] (wMt ad cI cZ v) sz (PM (sp_receive a b d v)) (wMt ad cI cZ) := by
  obtain ⟨Pg, Wd, Ls, Kp, KPg, KWd, Ms, Il, Cn, Sn⟩ := v
  have hv : ∀ p, p < 3 → Ms p ≤ 3 ∧ ∀ j, j < Ms p → Cn (p * 3 + j) ≤ 3 := hv
  refine fw_i (by decide) (Nat.le_of_ble_eq_true rfl) ?_
  intro p e s m below meth c A Q ls args hx hb hml hts hown hK hP hD hS hA hl hret
  have hown : s.vm.findClass RX1 = some m.cls := hown
  have hP : va_P D vCl (wM ad cI cZ Pg Wd Ls Kp KPg KWd Ms Il Cn Sn) s.heap := hP
  have hD : va_D A (wM ad cI cZ Pg Wd Ls Kp KPg KWd Ms Il Cn Sn) := hD
  have hl : lv_has ls 7 [(0, .ref (ad 0)), (1, .int a), (2, .int b), (3, .int d)] := hl
  refine lv_aload_n hx hb dX1_receive_0 rfl (lv_at hl 0 rfl) ?_
  refine lv_iload_n hx hb dX1_receive_1 rfl (lv_at hl 1 rfl) ?_
  refine zc_b (ci := 1) (q0 := 0) ⟨hx, hb, hml, hown, hts⟩ hK hP hS (cM_bad l _ a) (kM_bad hts ⟨by decide, by decide⟩) rfl rfl rfl rfl hl.1 rfl (Nat.le_of_ble_eq_true rfl) dX1_receive_2 ⟨Nat.le_refl _, Nat.le_refl _⟩ (fun r H locs hw hP hS => ?_)
  rcases hw with ⟨rfl, hq2⟩ | ⟨rfl, pn, hq2, rfl⟩
  · skip
    refine lv_if_ne (tgt := 16) hx hb dX1_receive_5 (by decide) (fun h9 => ?_) (fun h9 => absurd h9 (by decide))
    refine lv_iconst (v := (-1)) hx hb dX1_receive_16 (by decide) ?_
    exact hret (-1) (Pg, Wd, Ls, Kp, KPg, KWd, Ms, Il, Cn, Sn) _ _ _ _ dX1_receive_17 (pm (by simp [sp_receive, pz_b hq2])) hP hD hS
  · skip
    refine lv_if_ne (tgt := 16) hx hb dX1_receive_5 (by decide) (fun h9 => absurd rfl h9) (fun h9 => ?_)
    refine lv_aload_n hx hb dX1_receive_8 rfl (lv_at hl 0 rfl) ?_
    refine lv_iload_n hx hb dX1_receive_9 rfl (lv_at hl 2 rfl) ?_
    refine zc_b (ci := 1) (q0 := 0) ⟨hx, hb, hml, hown, hts⟩ hK hP hS (cM_bad l _ b) (kM_bad hts ⟨by decide, by decide⟩) rfl rfl rfl rfl hl.1 rfl (Nat.le_of_ble_eq_true rfl) dX1_receive_10 ⟨Nat.le_refl _, Nat.le_refl _⟩ (fun r H locs hw hP hS => ?_)
    rcases hw with ⟨rfl, hq10⟩ | ⟨rfl, on, hq10, rfl⟩
    · skip
      refine lv_if_eq (tgt := 18) hx hb dX1_receive_13 (by decide) (fun h9 => absurd h9 (by decide)) (fun h9 => ?_)
      refine lv_iconst (v := (-1)) hx hb dX1_receive_16 (by decide) ?_
      exact hret (-1) (Pg, Wd, Ls, Kp, KPg, KWd, Ms, Il, Cn, Sn) _ _ _ _ dX1_receive_17 (pm (by simp [sp_receive, pz_3 hq2, pz_b hq10])) hP hD hS
    · skip
      refine lv_if_eq (tgt := 18) hx hb dX1_receive_13 (by decide) (fun h9 => ?_) (fun h9 => absurd rfl h9)
      have hm : Ms on ≤ 3 := (hv on hq10).1
      refine lv_aload_n hx hb dX1_receive_18 rfl (lv_at hl 0 rfl) ?_
      refine gM_Ms hx hb hts hown hK hP dX1_receive_19 ?_
      refine lv_iload_n hx hb dX1_receive_22 rfl (lv_at hl 2 rfl) ?_
      refine lM_Ms hx hb hK hP (by omega) dX1_receive_23 ?_
      refine zi_ifne (tgt := 30) hx hb (by omega) dX1_receive_24 (by decide) (fun h24 => ?_) (fun h24 => ?_)
      · skip
        have hc3 : Cn (on * 3) ≤ 3 := (hv on hq10).2 0 h24
        refine lv_iload_n hx hb dX1_receive_30 rfl (lv_at hl 2 rfl) ?_
        refine lv_iconst (v := nI 3) hx hb dX1_receive_31 (by decide) ?_
        refine zi_mul hx hb dX1_receive_32 ?_
        refine zi_st hx hb dX1_receive_33 hl (by decide) (fun ls hl => ?_)
        refine lv_aload_n hx hb dX1_receive_35 rfl (lv_at hl 1 rfl) ?_
        refine gM_Cn hx hb hts hown hK hP dX1_receive_36 ?_
        refine lv_iload hx hb dX1_receive_39 (lv_at hl 0 rfl) ?_
        refine lM_Cn hx hb hK hP (by omega) dX1_receive_41 ?_
        refine zi_st hx hb dX1_receive_42 hl (by decide) (fun ls hl => ?_)
        refine lv_aload_n hx hb dX1_receive_44 rfl (lv_at hl 2 rfl) ?_
        refine lv_iload_n hx hb dX1_receive_45 rfl (lv_at hl 5 rfl) ?_
        refine zc_b (ci := 1) (q0 := 0) ⟨hx, hb, hml, hown, hts⟩ hK hP hS (cM_badPage l _ d) (kM_badPage hts ⟨by decide, by decide⟩) rfl rfl rfl rfl hl.1 rfl (Nat.le_of_ble_eq_true rfl) dX1_receive_46 ⟨Nat.le_refl _, Nat.le_refl _⟩ (fun r H locs hw hP hS => ?_)
        rcases hw with ⟨rfl, hq46⟩ | ⟨rfl, qn, hq46, rfl⟩
        · skip
          refine lv_if_ne (tgt := 61) hx hb dX1_receive_49 (by decide) (fun h9 => ?_) (fun h9 => absurd h9 (by decide))
          refine lv_bipush (v := (-2)) hx hb dX1_receive_61 (by decide) ?_
          exact hret (-2) (Pg, Wd, Ls, Kp, KPg, KWd, Ms, Il, Cn, Sn) _ _ _ _ dX1_receive_63 (pm (by simp only [sp_receive, pz_3 hq2, pz_3 hq10]; rw [if_neg (by omega)]; simp only [pz_b hq46])) hP hD hS
        · skip
          refine lv_if_ne (tgt := 61) hx hb dX1_receive_49 (by decide) (fun h9 => absurd rfl h9) (fun h9 => ?_)
          refine lv_iload_n hx hb dX1_receive_52 rfl (lv_at hl 5 rfl) ?_
          refine lv_iload hx hb dX1_receive_53 (lv_at hl 0 rfl) ?_
          refine zi_add hx hb dX1_receive_55 ?_
          refine lv_bipush (v := nI 8) hx hb dX1_receive_56 (by decide) ?_
          refine zi_le (tgt := 64) hx hb (by omega) (by omega) dX1_receive_58 (by decide) (fun h58 => ?_) (fun h58 => ?_)
          · skip
            refine lv_iconst (v := nI 0) hx hb dX1_receive_64 (by decide) ?_
            refine zi_st hx hb dX1_receive_65 hl (by decide) (fun ls hl => ?_)
            have hloop67 : ∀ (n : Nat) (i : Nat) (H : Heap) (locs : List Loc) (ls : Array Slot), i ≤ Cn (on * 3) → Cn (on * 3) + 1 ≤ i + n → True → (∀ j, j < i → Pg (pn * 8 + qn + j) = false) → va_P D vCl (wM ad cI cZ Pg Wd Ls Kp KPg KWd Ms Il Cn Sn) H → va_D A (wM ad cI cZ Pg Wd Ls Kp KPg KWd Ms Il Cn Sn) → va_S A s.heap H locs → lv_has ls 7 [(0, .ref (ad 0)), (1, .int (nI pn)), (2, .int (nI on)), (3, .int (nI qn)), (4, .int (nI (on * 3))), (5, .int (nI (Cn (on * 3)))), (6, .int (nI i))] → W p l e r2 s m args below meth c H locs 0 0 Q (F0 m 67 ls []) := by
              intro n67
              induction n67 with
              | zero => intro i H locs ls hi hn; exact absurd hn (by omega)
              | succ n67 ih67 =>
                intro i H locs ls hi hn _ hI hP hD hS hl
                refine lv_iload hx hb dX1_receive_67 (lv_at hl 6 rfl) ?_
                refine lv_iload hx hb dX1_receive_69 (lv_at hl 5 rfl) ?_
                refine zi_ge (tgt := 100) hx hb (by omega) (by omega) dX1_receive_71 (by decide) (fun h71 => ?_) (fun h71 => ?_)
                · skip
                  have hAll : ∀ j, j < Cn (on * 3) → Pg (pn * 8 + qn + j) = false := fun j hj => hI j (by omega)
                  refine lv_aload_n hx hb dX1_receive_100 rfl (lv_at hl 0 rfl) ?_
                  refine gM_Ls hx hb hts hown hK hP dX1_receive_101 ?_
                  refine lv_iload_n hx hb dX1_receive_104 rfl (lv_at hl 1 rfl) ?_
                  refine lv_aload_n hx hb dX1_receive_105 rfl (lv_at hl 0 rfl) ?_
                  refine gM_Il hx hb hts hown hK hP dX1_receive_106 ?_
                  refine lv_iload hx hb dX1_receive_109 (lv_at hl 4 rfl) ?_
                  refine lM_Il hx hb hK hP (by omega) dX1_receive_111 ?_
                  refine sM_Ls hx hb hK hP hD hS (by omega) dX1_receive_112 (fun H locs hP hD hS => ?_)
                  refine lv_iconst (v := nI 0) hx hb dX1_receive_113 (by decide) ?_
                  refine zi_st hx hb dX1_receive_114 hl (by decide) (fun ls hl => ?_)
                  have hloop116 : ∀ (n : Nat) (k : Nat) (H : Heap) (locs : List Loc) (ls : Array Slot), k ≤ Cn (on * 3) → Cn (on * 3) + 1 ≤ k + n → True → va_P D vCl (wM ad cI cZ (va_cpy (fun _ => true) Pg 0 (pn * 8 + qn) k) Wd (va_up Ls pn (Il (on * 3))) Kp KPg KWd Ms Il Cn Sn) H → va_D A (wM ad cI cZ (va_cpy (fun _ => true) Pg 0 (pn * 8 + qn) k) Wd (va_up Ls pn (Il (on * 3))) Kp KPg KWd Ms Il Cn Sn) → va_S A s.heap H locs → lv_has ls 7 [(0, .ref (ad 0)), (1, .int (nI pn)), (2, .int (nI on)), (3, .int (nI qn)), (4, .int (nI (on * 3))), (5, .int (nI (Cn (on * 3)))), (6, .int (nI k))] → W p l e r2 s m args below meth c H locs 0 0 Q (F0 m 116 ls []) := by
                    intro n116
                    induction n116 with
                    | zero => intro k H locs ls hi hn; exact absurd hn (by omega)
                    | succ n116 ih116 =>
                      intro k H locs ls hi hn _  hP hD hS hl
                      refine lv_iload hx hb dX1_receive_116 (lv_at hl 6 rfl) ?_
                      refine lv_iload hx hb dX1_receive_118 (lv_at hl 5 rfl) ?_
                      refine zi_ge (tgt := 144) hx hb (by omega) (by omega) dX1_receive_120 (by decide) (fun h120 => ?_) (fun h120 => ?_)
                      · skip
                        have ek : k = Cn (on * 3) := by omega
                        subst ek
                        refine lv_iconst (v := nI 0) hx hb dX1_receive_144 (by decide) ?_
                        refine zi_st hx hb dX1_receive_145 hl (by decide) (fun ls hl => ?_)
                        have hloop147 : ∀ (n : Nat) (z : Nat) (H : Heap) (locs : List Loc) (ls : Array Slot), z ≤ (Cn (on * 3) * 4) → (Cn (on * 3) * 4) + 1 ≤ z + n → True → va_P D vCl (wM ad cI cZ (va_cpy (fun _ => true) Pg 0 (pn * 8 + qn) (Cn (on * 3))) (va_cpy Sn Wd (on * 3 * 12) (pn * 32 + qn * 4) z) (va_up Ls pn (Il (on * 3))) Kp KPg KWd Ms Il Cn Sn) H → va_D A (wM ad cI cZ (va_cpy (fun _ => true) Pg 0 (pn * 8 + qn) (Cn (on * 3))) (va_cpy Sn Wd (on * 3 * 12) (pn * 32 + qn * 4) z) (va_up Ls pn (Il (on * 3))) Kp KPg KWd Ms Il Cn Sn) → va_S A s.heap H locs → lv_has ls 7 [(0, .ref (ad 0)), (1, .int (nI pn)), (2, .int (nI on)), (3, .int (nI qn)), (4, .int (nI (on * 3))), (5, .int (nI (Cn (on * 3)))), (6, .int (nI z))] → W p l e r2 s m args below meth c H locs 0 0 Q (F0 m 147 ls []) := by
                          intro n147
                          induction n147 with
                          | zero => intro z H locs ls hi hn; exact absurd hn (by omega)
                          | succ n147 ih147 =>
                            intro z H locs ls hi hn _  hP hD hS hl
                            refine lv_iload hx hb dX1_receive_147 (lv_at hl 6 rfl) ?_
                            refine lv_iload hx hb dX1_receive_149 (lv_at hl 5 rfl) ?_
                            refine lv_iconst (v := nI 4) hx hb dX1_receive_151 (by decide) ?_
                            refine zi_mul hx hb dX1_receive_152 ?_
                            refine zi_ge (tgt := 191) hx hb (by omega) (by omega) dX1_receive_153 (by decide) (fun h153 => ?_) (fun h153 => ?_)
                            · skip
                              have ez : z = Cn (on * 3) * 4 := by omega
                              subst ez
                              refine lv_aload_n hx hb dX1_receive_191 rfl (lv_at hl 0 rfl) ?_
                              refine lv_iload_n hx hb dX1_receive_192 rfl (lv_at hl 2 rfl) ?_
                              refine zc_v (ci := 1) (q0 := 0) ⟨hx, hb, hml, hown, hts⟩ hK hP hD hS hA (cM_forward _ (by omega) (by omega) (by omega)) (kM_forward hts ⟨by decide, by decide⟩) rfl rfl rfl rfl hl.1 rfl (Nat.le_of_ble_eq_true rfl) dX1_receive_193 ⟨Nat.le_refl _, Nat.le_refl _⟩ (fun u H locs hw hP hD hS => ?_)
                              subst hw
                              refine lv_iload hx hb dX1_receive_196 (lv_at hl 5 rfl) ?_
                              exact hret _ (va_cpy (fun _ => true) Pg 0 (pn * 8 + qn) (Cn (on * 3)), va_cpy Sn Wd (on * 3 * 12) (pn * 32 + qn * 4) (Cn (on * 3) * 4), va_up Ls pn (Il (on * 3)), Kp, KPg, KWd, va_up Ms on (Ms on - 1), va_cpy Il Il (on * 3 + 1) (on * 3) 2, va_cpy Cn Cn (on * 3 + 1) (on * 3) 2, va_cpy Sn Sn (on * 36 + 12) (on * 36) 24) _ _ _ _ dX1_receive_198 (pm (by simp only [sp_receive, pz_3 hq2, pz_3 hq10]; rw [if_neg (by omega)]; simp only [pz_8 hq46]; rw [if_neg (by omega), if_pos hAll])) hP hD hS
                            · skip
                              refine lv_aload_n hx hb dX1_receive_156 rfl (lv_at hl 0 rfl) ?_
                              refine gM_Wd hx hb hts hown hK hP dX1_receive_157 ?_
                              refine lv_iload_n hx hb dX1_receive_160 rfl (lv_at hl 1 rfl) ?_
                              refine lv_bipush (v := nI 32) hx hb dX1_receive_161 (by decide) ?_
                              refine zi_mul hx hb dX1_receive_163 ?_
                              refine lv_iload_n hx hb dX1_receive_164 rfl (lv_at hl 3 rfl) ?_
                              refine lv_iconst (v := nI 4) hx hb dX1_receive_165 (by decide) ?_
                              refine zi_mul hx hb dX1_receive_166 ?_
                              refine zi_add hx hb dX1_receive_167 ?_
                              refine lv_iload hx hb dX1_receive_168 (lv_at hl 6 rfl) ?_
                              refine zi_add hx hb dX1_receive_170 ?_
                              refine lv_aload_n hx hb dX1_receive_171 rfl (lv_at hl 0 rfl) ?_
                              refine gM_Sn hx hb hts hown hK hP dX1_receive_172 ?_
                              refine lv_iload hx hb dX1_receive_175 (lv_at hl 4 rfl) ?_
                              refine lv_bipush (v := nI 12) hx hb dX1_receive_177 (by decide) ?_
                              refine zi_mul hx hb dX1_receive_179 ?_
                              refine lv_iload hx hb dX1_receive_180 (lv_at hl 6 rfl) ?_
                              refine zi_add hx hb dX1_receive_182 ?_
                              refine lM_Sn hx hb hK hP (by omega) dX1_receive_183 ?_
                              refine sM_Wd hx hb hK hP hD hS (by omega) dX1_receive_184 (fun H locs hP hD hS => ?_)
                              refine zi_inc hx hb dX1_receive_185 hl (k := 6) rfl (by decide) (fun ls hl => ?_)
                              refine lv_goto (tgt := 147) hx hb dX1_receive_188 (by decide) ?_
                              rw [cpy_s] at hP hD
                              exact ih147 (z + 1)  _ _ _ (by omega) (by omega) trivial  hP hD hS (lv_sub hl [1, 2, 3, 4, 5, 6, 0] rfl)
                        exact hloop147 ((Cn (on * 3) * 4) + 1) 0  _ _ _ (by omega) (by omega) trivial  (by rw [cpy_0]; exact hP) (by rw [cpy_0]; exact hD) hS (lv_sub hl [1, 2, 3, 4, 5, 6, 0] rfl)
                      · skip
                        refine lv_aload_n hx hb dX1_receive_123 rfl (lv_at hl 0 rfl) ?_
                        refine gM_Pg hx hb hts hown hK hP dX1_receive_124 ?_
                        refine lv_iload_n hx hb dX1_receive_127 rfl (lv_at hl 1 rfl) ?_
                        refine lv_bipush (v := nI 8) hx hb dX1_receive_128 (by decide) ?_
                        refine zi_mul hx hb dX1_receive_130 ?_
                        refine lv_iload_n hx hb dX1_receive_131 rfl (lv_at hl 3 rfl) ?_
                        refine zi_add hx hb dX1_receive_132 ?_
                        refine lv_iload hx hb dX1_receive_133 (lv_at hl 6 rfl) ?_
                        refine zi_add hx hb dX1_receive_135 ?_
                        refine lv_iconst (v := bI true) hx hb dX1_receive_136 (by decide) ?_
                        refine sM_Pg hx hb hK hP hD hS (by omega) dX1_receive_137 (fun H locs hP hD hS => ?_)
                        refine zi_inc hx hb dX1_receive_138 hl (k := 6) rfl (by decide) (fun ls hl => ?_)
                        refine lv_goto (tgt := 116) hx hb dX1_receive_141 (by decide) ?_
                        rw [cpy_s (f := fun _ => true)] at hP hD
                        exact ih116 (k + 1)  _ _ _ (by omega) (by omega) trivial  hP hD hS (lv_sub hl [1, 2, 3, 4, 5, 6, 0] rfl)
                  exact hloop116 (Cn (on * 3) + 1) 0  _ _ _ (by omega) (by omega) trivial  (by rw [cpy_0]; exact hP) (by rw [cpy_0]; exact hD) hS (lv_sub hl [1, 2, 3, 4, 5, 6, 0] rfl)
                · skip
                  refine lv_aload_n hx hb dX1_receive_74 rfl (lv_at hl 0 rfl) ?_
                  refine gM_Pg hx hb hts hown hK hP dX1_receive_75 ?_
                  refine lv_iload_n hx hb dX1_receive_78 rfl (lv_at hl 1 rfl) ?_
                  refine lv_bipush (v := nI 8) hx hb dX1_receive_79 (by decide) ?_
                  refine zi_mul hx hb dX1_receive_81 ?_
                  refine lv_iload_n hx hb dX1_receive_82 rfl (lv_at hl 3 rfl) ?_
                  refine zi_add hx hb dX1_receive_83 ?_
                  refine lv_iload hx hb dX1_receive_84 (lv_at hl 6 rfl) ?_
                  refine zi_add hx hb dX1_receive_86 ?_
                  refine lM_Pg hx hb hK hP (by omega) dX1_receive_87 ?_
                  refine zb_ifeq (tgt := 94) hx hb dX1_receive_88 (by decide) (fun h88 => ?_) (fun h88 => ?_)
                  · skip
                    refine zi_inc hx hb dX1_receive_94 hl (k := 6) rfl (by decide) (fun ls hl => ?_)
                    refine lv_goto (tgt := 67) hx hb dX1_receive_97 (by decide) ?_
                    exact ih67 (i + 1)  _ _ _ (by omega) (by omega) trivial (lt_s hI h88) hP hD hS (lv_sub hl [1, 2, 3, 4, 5, 6, 0] rfl)
                  · skip
                    refine lv_bipush (v := (-3)) hx hb dX1_receive_91 (by decide) ?_
                    exact hret (-3) (Pg, Wd, Ls, Kp, KPg, KWd, Ms, Il, Cn, Sn) _ _ _ _ dX1_receive_93 (pm (by simp only [sp_receive, pz_3 hq2, pz_3 hq10]; rw [if_neg (by omega)]; simp only [pz_8 hq46]; rw [if_neg (by omega), if_neg (fun q => by rw [q i h71] at h88; cases h88)])) hP hD hS
            exact hloop67 (Cn (on * 3) + 1) 0  _ _ _ (by omega) (by omega) trivial lt_0 hP hD hS (lv_sub hl [3, 4, 5, 6, 2, 1, 0] rfl)
          · skip
            refine lv_bipush (v := (-2)) hx hb dX1_receive_61 (by decide) ?_
            exact hret (-2) (Pg, Wd, Ls, Kp, KPg, KWd, Ms, Il, Cn, Sn) _ _ _ _ dX1_receive_63 (pm (by simp only [sp_receive, pz_3 hq2, pz_3 hq10]; rw [if_neg (by omega)]; simp only [pz_8 hq46]; rw [if_pos h58])) hP hD hS
      · skip
        refine lv_bipush (v := (-6)) hx hb dX1_receive_27 (by decide) ?_
        exact hret (-6) (Pg, Wd, Ls, Kp, KPg, KWd, Ms, Il, Cn, Sn) _ _ _ _ dX1_receive_29 (pm (by simp only [sp_receive, pz_3 hq2, pz_3 hq10]; rw [if_pos h24])) hP hD hS
set_option maxHeartbeats 4000000 in
set_option maxRecDepth 100000 in
theorem cM_drain (v : MS) (a : Int32) : KI l D cI cZ yX1_drain cX1_drain 3 r2 [.ref (ad 0), .int a] (wMt ad cI cZ v) sz (PM (sp_drain a v)) (wMt ad cI cZ) := by
  obtain ⟨Pg, Wd, Ls, Kp, KPg, KWd, Ms, Il, Cn, Sn⟩ := v
  refine fw_i (by decide) (Nat.le_of_ble_eq_true rfl) ?_
  intro p e s m below meth c A Q ls args hx hb hml hts hown hK hP hD hS hA hl hret
  have hown : s.vm.findClass RX1 = some m.cls := hown
  have hP : va_P D vCl (wM ad cI cZ Pg Wd Ls Kp KPg KWd Ms Il Cn Sn) s.heap := hP
  have hD : va_D A (wM ad cI cZ Pg Wd Ls Kp KPg KWd Ms Il Cn Sn) := hD
  have hl : lv_has ls 3 [(0, .ref (ad 0)), (1, .int a)] := hl
  refine lv_aload_n hx hb dX1_drain_0 rfl (lv_at hl 0 rfl) ?_
  refine lv_iload_n hx hb dX1_drain_1 rfl (lv_at hl 1 rfl) ?_
  refine zc_b (ci := 1) (q0 := 0) ⟨hx, hb, hml, hown, hts⟩ hK hP hS (cM_bad l _ a) (kM_bad hts ⟨by decide, by decide⟩) rfl rfl rfl rfl hl.1 rfl (Nat.le_of_ble_eq_true rfl) dX1_drain_2 ⟨Nat.le_refl _, Nat.le_refl _⟩ (fun r H locs hw hP hS => ?_)
  rcases hw with ⟨rfl, hq2⟩ | ⟨rfl, on, hq2, rfl⟩
  · skip
    refine lv_if_eq (tgt := 10) hx hb dX1_drain_5 (by decide) (fun h9 => absurd h9 (by decide)) (fun h9 => ?_)
    refine lv_iconst (v := (-1)) hx hb dX1_drain_8 (by decide) ?_
    exact hret (-1) (Pg, Wd, Ls, Kp, KPg, KWd, Ms, Il, Cn, Sn) _ _ _ _ dX1_drain_9 (pm (by simp [sp_drain, pz_b hq2])) hP hD hS
  · skip
    refine lv_if_eq (tgt := 10) hx hb dX1_drain_5 (by decide) (fun h9 => ?_) (fun h9 => absurd rfl h9)
    refine lv_aload_n hx hb dX1_drain_10 rfl (lv_at hl 0 rfl) ?_
    refine gM_Ms hx hb hts hown hK hP dX1_drain_11 ?_
    refine lv_iload_n hx hb dX1_drain_14 rfl (lv_at hl 1 rfl) ?_
    refine lM_Ms hx hb hK hP (by omega) dX1_drain_15 ?_
    refine zi_stn hx hb dX1_drain_16 rfl hl (by decide) (fun ls hl => ?_)
    refine lv_aload_n hx hb dX1_drain_17 rfl (lv_at hl 1 rfl) ?_
    refine gM_Ms hx hb hts hown hK hP dX1_drain_18 ?_
    refine lv_iload_n hx hb dX1_drain_21 rfl (lv_at hl 2 rfl) ?_
    refine lv_iconst (v := nI 0) hx hb dX1_drain_22 (by decide) ?_
    refine sM_Ms hx hb hK hP hD hS (by omega) dX1_drain_23 (fun H locs hP hD hS => ?_)
    refine lv_iload_n hx hb dX1_drain_24 rfl (lv_at hl 0 rfl) ?_
    exact hret _ (Pg, Wd, Ls, Kp, KPg, KWd, va_up Ms on 0, Il, Cn, Sn) _ _ _ _ dX1_drain_25 (pm (by simp [sp_drain, pz_3 hq2])) hP hD hS
set_option maxHeartbeats 4000000 in
set_option maxRecDepth 100000 in
theorem cM_snapshot (v : MS) (a : Int32) : KI l D cI cZ yX1_snapshot cX1_snapshot 3 r2 [.ref (ad 0), .int a] (wMt ad cI cZ v) sz (PM (sp_snapshot a v)) (wMt ad cI cZ) := by
  obtain ⟨Pg, Wd, Ls, Kp, KPg, KWd, Ms, Il, Cn, Sn⟩ := v
  refine fw_i (by decide) (Nat.le_of_ble_eq_true rfl) ?_
  intro p e s m below meth c A Q ls args hx hb hml hts hown hK hP hD hS hA hl hret
  have hown : s.vm.findClass RX1 = some m.cls := hown
  have hP : va_P D vCl (wM ad cI cZ Pg Wd Ls Kp KPg KWd Ms Il Cn Sn) s.heap := hP
  have hD : va_D A (wM ad cI cZ Pg Wd Ls Kp KPg KWd Ms Il Cn Sn) := hD
  have hl : lv_has ls 3 [(0, .ref (ad 0)), (1, .int a)] := hl
  refine lv_aload_n hx hb dX1_snapshot_0 rfl (lv_at hl 0 rfl) ?_
  refine lv_iload_n hx hb dX1_snapshot_1 rfl (lv_at hl 1 rfl) ?_
  refine zc_b (ci := 1) (q0 := 0) ⟨hx, hb, hml, hown, hts⟩ hK hP hS (cM_bad l _ a) (kM_bad hts ⟨by decide, by decide⟩) rfl rfl rfl rfl hl.1 rfl (Nat.le_of_ble_eq_true rfl) dX1_snapshot_2 ⟨Nat.le_refl _, Nat.le_refl _⟩ (fun r H locs hw hP hS => ?_)
  rcases hw with ⟨rfl, hq2⟩ | ⟨rfl, pn, hq2, rfl⟩
  · skip
    refine lv_if_eq (tgt := 10) hx hb dX1_snapshot_5 (by decide) (fun h9 => absurd h9 (by decide)) (fun h9 => ?_)
    refine lv_iconst (v := (-1)) hx hb dX1_snapshot_8 (by decide) ?_
    exact hret (-1) (Pg, Wd, Ls, Kp, KPg, KWd, Ms, Il, Cn, Sn) _ _ _ _ dX1_snapshot_9 (pm (by simp [sp_snapshot, pz_b hq2])) hP hD hS
  · skip
    refine lv_if_eq (tgt := 10) hx hb dX1_snapshot_5 (by decide) (fun h9 => ?_) (fun h9 => absurd rfl h9)
    refine lv_aload_n hx hb dX1_snapshot_10 rfl (lv_at hl 0 rfl) ?_
    refine gM_Kp hx hb hts hown hK hP dX1_snapshot_11 ?_
    refine lv_iload_n hx hb dX1_snapshot_14 rfl (lv_at hl 1 rfl) ?_
    refine lv_iconst (v := bI true) hx hb dX1_snapshot_15 (by decide) ?_
    refine sM_Kp hx hb hK hP hD hS (by omega) dX1_snapshot_16 (fun H locs hP hD hS => ?_)
    refine lv_iload_n hx hb dX1_snapshot_17 rfl (lv_at hl 1 rfl) ?_
    refine lv_bipush (v := nI 8) hx hb dX1_snapshot_18 (by decide) ?_
    refine zi_mul hx hb dX1_snapshot_20 ?_
    refine zi_stn hx hb dX1_snapshot_21 rfl hl (by decide) (fun ls hl => ?_)
    have hloop22 : ∀ (n : Nat) (i : Nat) (H : Heap) (locs : List Loc) (ls : Array Slot), i ≤ 8 → 8 + 1 ≤ i + n → True → va_P D vCl (wM ad cI cZ Pg Wd Ls (va_up Kp pn true) (va_cpy Pg KPg (pn * 8) (pn * 8) i) KWd Ms Il Cn Sn) H → va_D A (wM ad cI cZ Pg Wd Ls (va_up Kp pn true) (va_cpy Pg KPg (pn * 8) (pn * 8) i) KWd Ms Il Cn Sn) → va_S A s.heap H locs → lv_has ls 3 [(0, .ref (ad 0)), (1, .int (nI pn)), (2, .int (nI (pn * 8 + i)))] → W p l e r2 s m args below meth c H locs 0 0 Q (F0 m 22 ls []) := by
      intro n22
      induction n22 with
      | zero => intro i H locs ls hi hn; exact absurd hn (by omega)
      | succ n22 ih22 =>
        intro i H locs ls hi hn _  hP hD hS hl
        refine lv_iload_n hx hb dX1_snapshot_22 rfl (lv_at hl 2 rfl) ?_
        refine lv_iload_n hx hb dX1_snapshot_23 rfl (lv_at hl 1 rfl) ?_
        refine lv_bipush (v := nI 8) hx hb dX1_snapshot_24 (by decide) ?_
        refine zi_mul hx hb dX1_snapshot_26 ?_
        refine lv_bipush (v := nI 8) hx hb dX1_snapshot_27 (by decide) ?_
        refine zi_add hx hb dX1_snapshot_29 ?_
        refine zi_ge (tgt := 51) hx hb (by omega) (by omega) dX1_snapshot_30 (by decide) (fun h30 => ?_) (fun h30 => ?_)
        · skip
          have e8 : i = 8 := by omega
          subst e8
          refine lv_iload_n hx hb dX1_snapshot_51 rfl (lv_at hl 1 rfl) ?_
          refine lv_bipush (v := nI 32) hx hb dX1_snapshot_52 (by decide) ?_
          refine zi_mul hx hb dX1_snapshot_54 ?_
          refine zi_stn hx hb dX1_snapshot_55 rfl hl (by decide) (fun ls hl => ?_)
          have hloop56 : ∀ (n : Nat) (k : Nat) (H : Heap) (locs : List Loc) (ls : Array Slot), k ≤ 32 → 32 + 1 ≤ k + n → True → va_P D vCl (wM ad cI cZ Pg Wd Ls (va_up Kp pn true) (va_cpy Pg KPg (pn * 8) (pn * 8) 8) (va_cpy Wd KWd (pn * 32) (pn * 32) k) Ms Il Cn Sn) H → va_D A (wM ad cI cZ Pg Wd Ls (va_up Kp pn true) (va_cpy Pg KPg (pn * 8) (pn * 8) 8) (va_cpy Wd KWd (pn * 32) (pn * 32) k) Ms Il Cn Sn) → va_S A s.heap H locs → lv_has ls 3 [(0, .ref (ad 0)), (1, .int (nI pn)), (2, .int (nI (pn * 32 + k)))] → W p l e r2 s m args below meth c H locs 0 0 Q (F0 m 56 ls []) := by
            intro n56
            induction n56 with
            | zero => intro k H locs ls hi hn; exact absurd hn (by omega)
            | succ n56 ih56 =>
              intro k H locs ls hi hn _  hP hD hS hl
              refine lv_iload_n hx hb dX1_snapshot_56 rfl (lv_at hl 2 rfl) ?_
              refine lv_iload_n hx hb dX1_snapshot_57 rfl (lv_at hl 1 rfl) ?_
              refine lv_bipush (v := nI 32) hx hb dX1_snapshot_58 (by decide) ?_
              refine zi_mul hx hb dX1_snapshot_60 ?_
              refine lv_bipush (v := nI 32) hx hb dX1_snapshot_61 (by decide) ?_
              refine zi_add hx hb dX1_snapshot_63 ?_
              refine zi_ge (tgt := 85) hx hb (by omega) (by omega) dX1_snapshot_64 (by decide) (fun h64 => ?_) (fun h64 => ?_)
              · skip
                have e8 : k = 32 := by omega
                subst e8
                refine lv_aload_n hx hb dX1_snapshot_85 rfl (lv_at hl 0 rfl) ?_
                refine lv_iload_n hx hb dX1_snapshot_86 rfl (lv_at hl 1 rfl) ?_
                refine zc_i (ci := 1) (q0 := 0) ⟨hx, hb, hml, hown, hts⟩ hK hP hD hS hA (cM_count _ (by omega)) (kM_count hts ⟨by decide, by decide⟩) rfl rfl rfl rfl hl.1 rfl (Nat.le_of_ble_eq_true rfl) dX1_snapshot_87 ⟨Nat.le_refl _, Nat.le_refl _⟩ (fun r u H locs hw hP hD hS => ?_)
                subst hw
                exact hret _ (Pg, Wd, Ls, va_up Kp pn true, va_cpy Pg KPg (pn * 8) (pn * 8) 8, va_cpy Wd KWd (pn * 32) (pn * 32) 32, Ms, Il, Cn, Sn) _ _ _ _ dX1_snapshot_90 (pm (by simp [sp_snapshot, pz_3 hq2])) hP hD hS
              · skip
                refine lv_aload_n hx hb dX1_snapshot_67 rfl (lv_at hl 0 rfl) ?_
                refine gM_KWd hx hb hts hown hK hP dX1_snapshot_68 ?_
                refine lv_iload_n hx hb dX1_snapshot_71 rfl (lv_at hl 2 rfl) ?_
                refine lv_aload_n hx hb dX1_snapshot_72 rfl (lv_at hl 0 rfl) ?_
                refine gM_Wd hx hb hts hown hK hP dX1_snapshot_73 ?_
                refine lv_iload_n hx hb dX1_snapshot_76 rfl (lv_at hl 2 rfl) ?_
                refine lM_Wd hx hb hK hP (by omega) dX1_snapshot_77 ?_
                refine sM_KWd hx hb hK hP hD hS (by omega) dX1_snapshot_78 (fun H locs hP hD hS => ?_)
                refine zi_inc hx hb dX1_snapshot_79 hl (k := 2) rfl (by decide) (fun ls hl => ?_)
                refine lv_goto (tgt := 56) hx hb dX1_snapshot_82 (by decide) ?_
                rw [cpy_s] at hP hD
                exact ih56 (k + 1)  _ _ _ (by omega) (by omega) trivial  hP hD hS (lv_sub hl [1, 2, 0] rfl)
          exact hloop56 (32 + 1) 0  _ _ _ (by omega) (by omega) trivial  (by rw [cpy_0]; exact hP) (by rw [cpy_0]; exact hD) hS (lv_sub hl [1, 2, 0] rfl)
        · skip
          refine lv_aload_n hx hb dX1_snapshot_33 rfl (lv_at hl 0 rfl) ?_
          refine gM_KPg hx hb hts hown hK hP dX1_snapshot_34 ?_
          refine lv_iload_n hx hb dX1_snapshot_37 rfl (lv_at hl 2 rfl) ?_
          refine lv_aload_n hx hb dX1_snapshot_38 rfl (lv_at hl 0 rfl) ?_
          refine gM_Pg hx hb hts hown hK hP dX1_snapshot_39 ?_
          refine lv_iload_n hx hb dX1_snapshot_42 rfl (lv_at hl 2 rfl) ?_
          refine lM_Pg hx hb hK hP (by omega) dX1_snapshot_43 ?_
          refine sM_KPg hx hb hK hP hD hS (by omega) dX1_snapshot_44 (fun H locs hP hD hS => ?_)
          refine zi_inc hx hb dX1_snapshot_45 hl (k := 2) rfl (by decide) (fun ls hl => ?_)
          refine lv_goto (tgt := 22) hx hb dX1_snapshot_48 (by decide) ?_
          rw [cpy_s] at hP hD
          exact ih22 (i + 1)  _ _ _ (by omega) (by omega) trivial  hP hD hS (lv_sub hl [1, 2, 0] rfl)
    exact hloop22 (8 + 1) 0  _ _ _ (by omega) (by omega) trivial  (by rw [cpy_0]; exact hP) (by rw [cpy_0]; exact hD) hS (lv_sub hl [1, 2, 0] rfl)
set_option maxHeartbeats 4000000 in
set_option maxRecDepth 100000 in
theorem cM_rollBack (v : MS) (a : Int32) : KI l D cI cZ yX1_rollBack cX1_rollBack 3 r2 [.ref (ad 0), .int a] (wMt ad cI cZ v) sz (PM (sp_rollBack a v)) (wMt ad cI cZ) := by
  obtain ⟨Pg, Wd, Ls, Kp, KPg, KWd, Ms, Il, Cn, Sn⟩ := v
  refine fw_i (by decide) (Nat.le_of_ble_eq_true rfl) ?_
  intro p e s m below meth c A Q ls args hx hb hml hts hown hK hP hD hS hA hl hret
  have hown : s.vm.findClass RX1 = some m.cls := hown
  have hP : va_P D vCl (wM ad cI cZ Pg Wd Ls Kp KPg KWd Ms Il Cn Sn) s.heap := hP
  have hD : va_D A (wM ad cI cZ Pg Wd Ls Kp KPg KWd Ms Il Cn Sn) := hD
  have hl : lv_has ls 3 [(0, .ref (ad 0)), (1, .int a)] := hl
  refine lv_aload_n hx hb dX1_rollBack_0 rfl (lv_at hl 0 rfl) ?_
  refine lv_iload_n hx hb dX1_rollBack_1 rfl (lv_at hl 1 rfl) ?_
  refine zc_b (ci := 1) (q0 := 0) ⟨hx, hb, hml, hown, hts⟩ hK hP hS (cM_bad l _ a) (kM_bad hts ⟨by decide, by decide⟩) rfl rfl rfl rfl hl.1 rfl (Nat.le_of_ble_eq_true rfl) dX1_rollBack_2 ⟨Nat.le_refl _, Nat.le_refl _⟩ (fun r H locs hw hP hS => ?_)
  rcases hw with ⟨rfl, hq2⟩ | ⟨rfl, pn, hq2, rfl⟩
  · skip
    refine lv_if_eq (tgt := 10) hx hb dX1_rollBack_5 (by decide) (fun h9 => absurd h9 (by decide)) (fun h9 => ?_)
    refine lv_iconst (v := (-1)) hx hb dX1_rollBack_8 (by decide) ?_
    exact hret (-1) (Pg, Wd, Ls, Kp, KPg, KWd, Ms, Il, Cn, Sn) _ _ _ _ dX1_rollBack_9 (pm (by simp [sp_rollBack, pz_b hq2])) hP hD hS
  · skip
    refine lv_if_eq (tgt := 10) hx hb dX1_rollBack_5 (by decide) (fun h9 => ?_) (fun h9 => absurd rfl h9)
    refine lv_aload_n hx hb dX1_rollBack_10 rfl (lv_at hl 0 rfl) ?_
    refine gM_Kp hx hb hts hown hK hP dX1_rollBack_11 ?_
    refine lv_iload_n hx hb dX1_rollBack_14 rfl (lv_at hl 1 rfl) ?_
    refine lM_Kp hx hb hK hP (by omega) dX1_rollBack_15 ?_
    refine zb_ifne (tgt := 22) hx hb dX1_rollBack_16 (by decide) (fun h16 => ?_) (fun h16 => ?_)
    · skip
      refine lv_iload_n hx hb dX1_rollBack_22 rfl (lv_at hl 1 rfl) ?_
      refine lv_bipush (v := nI 8) hx hb dX1_rollBack_23 (by decide) ?_
      refine zi_mul hx hb dX1_rollBack_25 ?_
      refine zi_stn hx hb dX1_rollBack_26 rfl hl (by decide) (fun ls hl => ?_)
      have hloop27 : ∀ (n : Nat) (i : Nat) (H : Heap) (locs : List Loc) (ls : Array Slot), i ≤ 8 → 8 + 1 ≤ i + n → True → va_P D vCl (wM ad cI cZ (va_cpy KPg Pg (pn * 8) (pn * 8) i) Wd Ls Kp KPg KWd Ms Il Cn Sn) H → va_D A (wM ad cI cZ (va_cpy KPg Pg (pn * 8) (pn * 8) i) Wd Ls Kp KPg KWd Ms Il Cn Sn) → va_S A s.heap H locs → lv_has ls 3 [(0, .ref (ad 0)), (1, .int (nI pn)), (2, .int (nI (pn * 8 + i)))] → W p l e r2 s m args below meth c H locs 0 0 Q (F0 m 27 ls []) := by
        intro n27
        induction n27 with
        | zero => intro i H locs ls hi hn; exact absurd hn (by omega)
        | succ n27 ih27 =>
          intro i H locs ls hi hn _  hP hD hS hl
          refine lv_iload_n hx hb dX1_rollBack_27 rfl (lv_at hl 2 rfl) ?_
          refine lv_iload_n hx hb dX1_rollBack_28 rfl (lv_at hl 1 rfl) ?_
          refine lv_bipush (v := nI 8) hx hb dX1_rollBack_29 (by decide) ?_
          refine zi_mul hx hb dX1_rollBack_31 ?_
          refine lv_bipush (v := nI 8) hx hb dX1_rollBack_32 (by decide) ?_
          refine zi_add hx hb dX1_rollBack_34 ?_
          refine zi_ge (tgt := 56) hx hb (by omega) (by omega) dX1_rollBack_35 (by decide) (fun h35 => ?_) (fun h35 => ?_)
          · skip
            have e8 : i = 8 := by omega
            subst e8
            refine lv_iload_n hx hb dX1_rollBack_56 rfl (lv_at hl 1 rfl) ?_
            refine lv_bipush (v := nI 32) hx hb dX1_rollBack_57 (by decide) ?_
            refine zi_mul hx hb dX1_rollBack_59 ?_
            refine zi_stn hx hb dX1_rollBack_60 rfl hl (by decide) (fun ls hl => ?_)
            have hloop61 : ∀ (n : Nat) (k : Nat) (H : Heap) (locs : List Loc) (ls : Array Slot), k ≤ 32 → 32 + 1 ≤ k + n → True → va_P D vCl (wM ad cI cZ (va_cpy KPg Pg (pn * 8) (pn * 8) 8) (va_cpy KWd Wd (pn * 32) (pn * 32) k) Ls Kp KPg KWd Ms Il Cn Sn) H → va_D A (wM ad cI cZ (va_cpy KPg Pg (pn * 8) (pn * 8) 8) (va_cpy KWd Wd (pn * 32) (pn * 32) k) Ls Kp KPg KWd Ms Il Cn Sn) → va_S A s.heap H locs → lv_has ls 3 [(0, .ref (ad 0)), (1, .int (nI pn)), (2, .int (nI (pn * 32 + k)))] → W p l e r2 s m args below meth c H locs 0 0 Q (F0 m 61 ls []) := by
              intro n61
              induction n61 with
              | zero => intro k H locs ls hi hn; exact absurd hn (by omega)
              | succ n61 ih61 =>
                intro k H locs ls hi hn _  hP hD hS hl
                refine lv_iload_n hx hb dX1_rollBack_61 rfl (lv_at hl 2 rfl) ?_
                refine lv_iload_n hx hb dX1_rollBack_62 rfl (lv_at hl 1 rfl) ?_
                refine lv_bipush (v := nI 32) hx hb dX1_rollBack_63 (by decide) ?_
                refine zi_mul hx hb dX1_rollBack_65 ?_
                refine lv_bipush (v := nI 32) hx hb dX1_rollBack_66 (by decide) ?_
                refine zi_add hx hb dX1_rollBack_68 ?_
                refine zi_ge (tgt := 90) hx hb (by omega) (by omega) dX1_rollBack_69 (by decide) (fun h69 => ?_) (fun h69 => ?_)
                · skip
                  have e8 : k = 32 := by omega
                  subst e8
                  refine lv_aload_n hx hb dX1_rollBack_90 rfl (lv_at hl 0 rfl) ?_
                  refine lv_iload_n hx hb dX1_rollBack_91 rfl (lv_at hl 1 rfl) ?_
                  refine zc_i (ci := 1) (q0 := 0) ⟨hx, hb, hml, hown, hts⟩ hK hP hD hS hA (cM_count _ (by omega)) (kM_count hts ⟨by decide, by decide⟩) rfl rfl rfl rfl hl.1 rfl (Nat.le_of_ble_eq_true rfl) dX1_rollBack_92 ⟨Nat.le_refl _, Nat.le_refl _⟩ (fun r u H locs hw hP hD hS => ?_)
                  subst hw
                  exact hret _ (va_cpy KPg Pg (pn * 8) (pn * 8) 8, va_cpy KWd Wd (pn * 32) (pn * 32) 32, Ls, Kp, KPg, KWd, Ms, Il, Cn, Sn) _ _ _ _ dX1_rollBack_95 (pm (by simp [sp_rollBack, pz_3 hq2, h16])) hP hD hS
                · skip
                  refine lv_aload_n hx hb dX1_rollBack_72 rfl (lv_at hl 0 rfl) ?_
                  refine gM_Wd hx hb hts hown hK hP dX1_rollBack_73 ?_
                  refine lv_iload_n hx hb dX1_rollBack_76 rfl (lv_at hl 2 rfl) ?_
                  refine lv_aload_n hx hb dX1_rollBack_77 rfl (lv_at hl 0 rfl) ?_
                  refine gM_KWd hx hb hts hown hK hP dX1_rollBack_78 ?_
                  refine lv_iload_n hx hb dX1_rollBack_81 rfl (lv_at hl 2 rfl) ?_
                  refine lM_KWd hx hb hK hP (by omega) dX1_rollBack_82 ?_
                  refine sM_Wd hx hb hK hP hD hS (by omega) dX1_rollBack_83 (fun H locs hP hD hS => ?_)
                  refine zi_inc hx hb dX1_rollBack_84 hl (k := 2) rfl (by decide) (fun ls hl => ?_)
                  refine lv_goto (tgt := 61) hx hb dX1_rollBack_87 (by decide) ?_
                  rw [cpy_s] at hP hD
                  exact ih61 (k + 1)  _ _ _ (by omega) (by omega) trivial  hP hD hS (lv_sub hl [1, 2, 0] rfl)
            exact hloop61 (32 + 1) 0  _ _ _ (by omega) (by omega) trivial  (by rw [cpy_0]; exact hP) (by rw [cpy_0]; exact hD) hS (lv_sub hl [1, 2, 0] rfl)
          · skip
            refine lv_aload_n hx hb dX1_rollBack_38 rfl (lv_at hl 0 rfl) ?_
            refine gM_Pg hx hb hts hown hK hP dX1_rollBack_39 ?_
            refine lv_iload_n hx hb dX1_rollBack_42 rfl (lv_at hl 2 rfl) ?_
            refine lv_aload_n hx hb dX1_rollBack_43 rfl (lv_at hl 0 rfl) ?_
            refine gM_KPg hx hb hts hown hK hP dX1_rollBack_44 ?_
            refine lv_iload_n hx hb dX1_rollBack_47 rfl (lv_at hl 2 rfl) ?_
            refine lM_KPg hx hb hK hP (by omega) dX1_rollBack_48 ?_
            refine sM_Pg hx hb hK hP hD hS (by omega) dX1_rollBack_49 (fun H locs hP hD hS => ?_)
            refine zi_inc hx hb dX1_rollBack_50 hl (k := 2) rfl (by decide) (fun ls hl => ?_)
            refine lv_goto (tgt := 27) hx hb dX1_rollBack_53 (by decide) ?_
            rw [cpy_s] at hP hD
            exact ih27 (i + 1)  _ _ _ (by omega) (by omega) trivial  hP hD hS (lv_sub hl [1, 2, 0] rfl)
      exact hloop27 (8 + 1) 0  _ _ _ (by omega) (by omega) trivial  (by rw [cpy_0]; exact hP) (by rw [cpy_0]; exact hD) hS (lv_sub hl [1, 2, 0] rfl)
    · skip
      refine lv_bipush (v := (-7)) hx hb dX1_rollBack_19 (by decide) ?_
      exact hret (-7) (Pg, Wd, Ls, Kp, KPg, KWd, Ms, Il, Cn, Sn) _ _ _ _ dX1_rollBack_21 (pm (by simp [sp_rollBack, pz_3 hq2, h16])) hP hD hS
set_option maxHeartbeats 4000000 in
set_option maxRecDepth 100000 in
theorem cM_exit (v : MS) (a : Int32) : KI l D cI cZ yX1_exit cX1_exit 4 r2 [.ref (ad 0), .int a] (wMt ad cI cZ v) sz (PM (sp_exit a v)) (wMt ad cI cZ) := by
  obtain ⟨Pg, Wd, Ls, Kp, KPg, KWd, Ms, Il, Cn, Sn⟩ := v
  refine fw_i (by decide) (Nat.le_of_ble_eq_true rfl) ?_
  intro p e s m below meth c A Q ls args hx hb hml hts hown hK hP hD hS hA hl hret
  have hown : s.vm.findClass RX1 = some m.cls := hown
  have hP : va_P D vCl (wM ad cI cZ Pg Wd Ls Kp KPg KWd Ms Il Cn Sn) s.heap := hP
  have hD : va_D A (wM ad cI cZ Pg Wd Ls Kp KPg KWd Ms Il Cn Sn) := hD
  have hl : lv_has ls 4 [(0, .ref (ad 0)), (1, .int a)] := hl
  refine lv_aload_n hx hb dX1_exit_0 rfl (lv_at hl 0 rfl) ?_
  refine lv_iload_n hx hb dX1_exit_1 rfl (lv_at hl 1 rfl) ?_
  refine zc_b (ci := 1) (q0 := 0) ⟨hx, hb, hml, hown, hts⟩ hK hP hS (cM_bad l _ a) (kM_bad hts ⟨by decide, by decide⟩) rfl rfl rfl rfl hl.1 rfl (Nat.le_of_ble_eq_true rfl) dX1_exit_2 ⟨Nat.le_refl _, Nat.le_refl _⟩ (fun r H locs hw hP hS => ?_)
  rcases hw with ⟨rfl, hq2⟩ | ⟨rfl, pn, hq2, rfl⟩
  · skip
    refine lv_if_eq (tgt := 10) hx hb dX1_exit_5 (by decide) (fun h9 => absurd h9 (by decide)) (fun h9 => ?_)
    refine lv_iconst (v := (-1)) hx hb dX1_exit_8 (by decide) ?_
    exact hret (-1) (Pg, Wd, Ls, Kp, KPg, KWd, Ms, Il, Cn, Sn) _ _ _ _ dX1_exit_9 (pm (by simp [sp_exit, pz_b hq2])) hP hD hS
  · skip
    refine lv_if_eq (tgt := 10) hx hb dX1_exit_5 (by decide) (fun h9 => ?_) (fun h9 => absurd rfl h9)
    refine lv_aload_n hx hb dX1_exit_10 rfl (lv_at hl 0 rfl) ?_
    refine lv_iload_n hx hb dX1_exit_11 rfl (lv_at hl 1 rfl) ?_
    refine zc_i (ci := 1) (q0 := 0) ⟨hx, hb, hml, hown, hts⟩ hK hP hD hS hA (cM_count _ (by omega)) (kM_count hts ⟨by decide, by decide⟩) rfl rfl rfl rfl hl.1 rfl (Nat.le_of_ble_eq_true rfl) dX1_exit_12 ⟨Nat.le_refl _, Nat.le_refl _⟩ (fun r u H locs hw hP hD hS => ?_)
    subst hw
    refine zi_stn hx hb dX1_exit_15 rfl hl (by decide) (fun ls hl => ?_)
    refine lv_iload_n hx hb dX1_exit_16 rfl (lv_at hl 2 rfl) ?_
    refine lv_bipush (v := nI 8) hx hb dX1_exit_17 (by decide) ?_
    refine zi_mul hx hb dX1_exit_19 ?_
    refine zi_stn hx hb dX1_exit_20 rfl hl (by decide) (fun ls hl => ?_)
    have hloop21 : ∀ (n : Nat) (i : Nat) (H : Heap) (locs : List Loc) (ls : Array Slot), i ≤ 8 → 8 + 1 ≤ i + n → True → va_P D vCl (wM ad cI cZ (va_cpy (fun _ => false) Pg 0 (pn * 8) i) Wd Ls Kp KPg KWd Ms Il Cn Sn) H → va_D A (wM ad cI cZ (va_cpy (fun _ => false) Pg 0 (pn * 8) i) Wd Ls Kp KPg KWd Ms Il Cn Sn) → va_S A s.heap H locs → lv_has ls 4 [(0, .ref (ad 0)), (1, .int (nI pn)), (2, .int (nI (cB Pg (pn * 8) 8))), (3, .int (nI (pn * 8 + i)))] → W p l e r2 s m args below meth c H locs 0 0 Q (F0 m 21 ls []) := by
      intro n21
      induction n21 with
      | zero => intro i H locs ls hi hn; exact absurd hn (by omega)
      | succ n21 ih21 =>
        intro i H locs ls hi hn _  hP hD hS hl
        refine lv_iload_n hx hb dX1_exit_21 rfl (lv_at hl 3 rfl) ?_
        refine lv_iload_n hx hb dX1_exit_22 rfl (lv_at hl 1 rfl) ?_
        refine lv_bipush (v := nI 8) hx hb dX1_exit_23 (by decide) ?_
        refine zi_mul hx hb dX1_exit_25 ?_
        refine lv_bipush (v := nI 8) hx hb dX1_exit_26 (by decide) ?_
        refine zi_add hx hb dX1_exit_28 ?_
        refine zi_ge (tgt := 45) hx hb (by omega) (by omega) dX1_exit_29 (by decide) (fun h29 => ?_) (fun h29 => ?_)
        · skip
          have e8 : i = 8 := by omega
          subst e8
          refine lv_aload_n hx hb dX1_exit_45 rfl (lv_at hl 0 rfl) ?_
          refine gM_Kp hx hb hts hown hK hP dX1_exit_46 ?_
          refine lv_iload_n hx hb dX1_exit_49 rfl (lv_at hl 1 rfl) ?_
          refine lv_iconst (v := bI false) hx hb dX1_exit_50 (by decide) ?_
          refine sM_Kp hx hb hK hP hD hS (by omega) dX1_exit_51 (fun H locs hP hD hS => ?_)
          refine lv_aload_n hx hb dX1_exit_52 rfl (lv_at hl 0 rfl) ?_
          refine gM_Ls hx hb hts hown hK hP dX1_exit_53 ?_
          refine lv_iload_n hx hb dX1_exit_56 rfl (lv_at hl 1 rfl) ?_
          refine lv_iconst (v := 0) hx hb dX1_exit_57 (by decide) ?_
          refine sM_Ls hx hb hK hP hD hS (by omega) dX1_exit_58 (fun H locs hP hD hS => ?_)
          refine lv_iload_n hx hb dX1_exit_59 rfl (lv_at hl 2 rfl) ?_
          exact hret _ (va_cpy (fun _ => false) Pg 0 (pn * 8) 8, Wd, va_up Ls pn 0, va_up Kp pn false, KPg, KWd, Ms, Il, Cn, Sn) _ _ _ _ dX1_exit_60 (pm (by simp [sp_exit, pz_3 hq2])) hP hD hS
        · skip
          refine lv_aload_n hx hb dX1_exit_32 rfl (lv_at hl 0 rfl) ?_
          refine gM_Pg hx hb hts hown hK hP dX1_exit_33 ?_
          refine lv_iload_n hx hb dX1_exit_36 rfl (lv_at hl 3 rfl) ?_
          refine lv_iconst (v := bI false) hx hb dX1_exit_37 (by decide) ?_
          refine sM_Pg hx hb hK hP hD hS (by omega) dX1_exit_38 (fun H locs hP hD hS => ?_)
          refine zi_inc hx hb dX1_exit_39 hl (k := 3) rfl (by decide) (fun ls hl => ?_)
          refine lv_goto (tgt := 21) hx hb dX1_exit_42 (by decide) ?_
          rw [cpy_s (f := fun _ => false)] at hP hD
          exact ih21 (i + 1)  _ _ _ (by omega) (by omega) trivial  hP hD hS (lv_sub hl [1, 2, 3, 0] rfl)
    exact hloop21 (8 + 1) 0  _ _ _ (by omega) (by omega) trivial  (by rw [cpy_0]; exact hP) (by rw [cpy_0]; exact hD) hS (lv_sub hl [2, 3, 1, 0] rfl)
set_option maxHeartbeats 4000000 in
set_option maxRecDepth 100000 in
theorem cM_read (v : MS) (a b : Int32) : KI l D cI cZ yX1_read cX1_read 3 r2 [.ref (ad 0), .int a, .int b] (wMt ad cI cZ v) sz (PM (sp_read a b v)) (wMt ad cI cZ) := by
  obtain ⟨Pg, Wd, Ls, Kp, KPg, KWd, Ms, Il, Cn, Sn⟩ := v
  refine fw_i (by decide) (Nat.le_of_ble_eq_true rfl) ?_
  intro p e s m below meth c A Q ls args hx hb hml hts hown hK hP hD hS hA hl hret
  have hown : s.vm.findClass RX1 = some m.cls := hown
  have hP : va_P D vCl (wM ad cI cZ Pg Wd Ls Kp KPg KWd Ms Il Cn Sn) s.heap := hP
  have hD : va_D A (wM ad cI cZ Pg Wd Ls Kp KPg KWd Ms Il Cn Sn) := hD
  have hl : lv_has ls 3 [(0, .ref (ad 0)), (1, .int a), (2, .int b)] := hl
  refine lv_aload_n hx hb dX1_read_0 rfl (lv_at hl 0 rfl) ?_
  refine lv_iload_n hx hb dX1_read_1 rfl (lv_at hl 1 rfl) ?_
  refine zc_b (ci := 1) (q0 := 0) ⟨hx, hb, hml, hown, hts⟩ hK hP hS (cM_bad l _ a) (kM_bad hts ⟨by decide, by decide⟩) rfl rfl rfl rfl hl.1 rfl (Nat.le_of_ble_eq_true rfl) dX1_read_2 ⟨Nat.le_refl _, Nat.le_refl _⟩ (fun r H locs hw hP hS => ?_)
  rcases hw with ⟨rfl, hq2⟩ | ⟨rfl, pn, hq2, rfl⟩
  · skip
    refine lv_if_ne (tgt := 34) hx hb dX1_read_5 (by decide) (fun h9 => ?_) (fun h9 => absurd h9 (by decide))
    refine lv_iconst (v := 0) hx hb dX1_read_34 (by decide) ?_
    exact hret 0 (Pg, Wd, Ls, Kp, KPg, KWd, Ms, Il, Cn, Sn) _ _ _ _ dX1_read_35 (pm (by simp [sp_read, pz_b hq2])) hP hD hS
  · skip
    refine lv_if_ne (tgt := 34) hx hb dX1_read_5 (by decide) (fun h9 => absurd rfl h9) (fun h9 => ?_)
    refine lv_iload_n hx hb dX1_read_8 rfl (lv_at hl 2 rfl) ?_
    refine lv_if_lt (tgt := 34) hx hb dX1_read_9 (by decide) (fun h9 => ?_) (fun h9 => ?_)
    · skip
      refine lv_iconst (v := 0) hx hb dX1_read_34 (by decide) ?_
      exact hret 0 (Pg, Wd, Ls, Kp, KPg, KWd, Ms, Il, Cn, Sn) _ _ _ _ dX1_read_35 (pm (by simp [sp_read, pz_3 hq2, pz_b (P := bad32) (Or.inl h9)])) hP hD hS
    · skip
      refine lv_iload_n hx hb dX1_read_12 rfl (lv_at hl 2 rfl) ?_
      refine lv_bipush (v := 31) hx hb dX1_read_13 (by decide) ?_
      refine lv_icmp_gt (tgt := 34) hx hb dX1_read_15 (by decide) (fun h15 => ?_) (fun h15 => ?_)
      · skip
        refine lv_iconst (v := 0) hx hb dX1_read_34 (by decide) ?_
        exact hret 0 (Pg, Wd, Ls, Kp, KPg, KWd, Ms, Il, Cn, Sn) _ _ _ _ dX1_read_35 (pm (by simp [sp_read, pz_3 hq2, pz_b (P := bad32) (Or.inr (gt31 h15))])) hP hD hS
      · skip
        obtain ⟨qn, hqn, rfl⟩ := gd32 h9 (ngt31 h15)
        refine lv_aload_n hx hb dX1_read_18 rfl (lv_at hl 0 rfl) ?_
        refine gM_Pg hx hb hts hown hK hP dX1_read_19 ?_
        refine lv_iload_n hx hb dX1_read_22 rfl (lv_at hl 1 rfl) ?_
        refine lv_bipush (v := nI 8) hx hb dX1_read_23 (by decide) ?_
        refine zi_mul hx hb dX1_read_25 ?_
        refine lv_iload_n hx hb dX1_read_26 rfl (lv_at hl 2 rfl) ?_
        refine lv_iconst (v := nI 4) hx hb dX1_read_27 (by decide) ?_
        refine zi_div hx hb (by omega) (by decide) (by decide) dX1_read_28 ?_
        refine zi_add hx hb dX1_read_29 ?_
        refine lM_Pg hx hb hK hP (by omega) dX1_read_30 ?_
        refine zb_ifne (tgt := 36) hx hb dX1_read_31 (by decide) (fun h31 => ?_) (fun h31 => ?_)
        · skip
          refine lv_aload_n hx hb dX1_read_36 rfl (lv_at hl 0 rfl) ?_
          refine gM_Wd hx hb hts hown hK hP dX1_read_37 ?_
          refine lv_iload_n hx hb dX1_read_40 rfl (lv_at hl 1 rfl) ?_
          refine lv_bipush (v := nI 32) hx hb dX1_read_41 (by decide) ?_
          refine zi_mul hx hb dX1_read_43 ?_
          refine lv_iload_n hx hb dX1_read_44 rfl (lv_at hl 2 rfl) ?_
          refine zi_add hx hb dX1_read_45 ?_
          refine lM_Wd hx hb hK hP (by omega) dX1_read_46 ?_
          exact hret _ (Pg, Wd, Ls, Kp, KPg, KWd, Ms, Il, Cn, Sn) _ _ _ _ dX1_read_47 (pm (by simp [sp_read, pz_3 hq2, pz_32 hqn, h31])) hP hD hS
        · skip
          refine lv_iconst (v := 0) hx hb dX1_read_34 (by decide) ?_
          exact hret 0 (Pg, Wd, Ls, Kp, KPg, KWd, Ms, Il, Cn, Sn) _ _ _ _ dX1_read_35 (pm (by simp [sp_read, pz_3 hq2, pz_32 hqn, h31])) hP hD hS
set_option maxHeartbeats 4000000 in
set_option maxRecDepth 100000 in
theorem cM_mapped (v : MS) (a b : Int32) : KZ l D cI cZ yX1_mapped cX1_mapped 3 r2 [.ref (ad 0), .int a, .int b] (wMt ad cI cZ v) sz (PM (sp_mapped a b v)) (wMt ad cI cZ) := by
  obtain ⟨Pg, Wd, Ls, Kp, KPg, KWd, Ms, Il, Cn, Sn⟩ := v
  refine fw_z (by decide) (Nat.le_of_ble_eq_true rfl) ?_
  intro p e s m below meth c A Q ls args hx hb hml hts hown hK hP hD hS hA hl hret
  have hown : s.vm.findClass RX1 = some m.cls := hown
  have hP : va_P D vCl (wM ad cI cZ Pg Wd Ls Kp KPg KWd Ms Il Cn Sn) s.heap := hP
  have hD : va_D A (wM ad cI cZ Pg Wd Ls Kp KPg KWd Ms Il Cn Sn) := hD
  have hl : lv_has ls 3 [(0, .ref (ad 0)), (1, .int a), (2, .int b)] := hl
  refine lv_aload_n hx hb dX1_mapped_0 rfl (lv_at hl 0 rfl) ?_
  refine lv_iload_n hx hb dX1_mapped_1 rfl (lv_at hl 1 rfl) ?_
  refine zc_b (ci := 1) (q0 := 0) ⟨hx, hb, hml, hown, hts⟩ hK hP hS (cM_bad l _ a) (kM_bad hts ⟨by decide, by decide⟩) rfl rfl rfl rfl hl.1 rfl (Nat.le_of_ble_eq_true rfl) dX1_mapped_2 ⟨Nat.le_refl _, Nat.le_refl _⟩ (fun r H locs hw hP hS => ?_)
  rcases hw with ⟨rfl, hq2⟩ | ⟨rfl, pn, hq2, rfl⟩
  · skip
    refine lv_if_ne (tgt := 34) hx hb dX1_mapped_5 (by decide) (fun h9 => ?_) (fun h9 => absurd h9 (by decide))
    refine lv_iconst (v := bI false) hx hb dX1_mapped_34 (by decide) ?_
    exact hret false (Pg, Wd, Ls, Kp, KPg, KWd, Ms, Il, Cn, Sn) _ _ _ _ dX1_mapped_35 (pm (by simp [sp_mapped, pz_b hq2])) hP hD hS
  · skip
    refine lv_if_ne (tgt := 34) hx hb dX1_mapped_5 (by decide) (fun h9 => absurd rfl h9) (fun h9 => ?_)
    refine lv_aload_n hx hb dX1_mapped_8 rfl (lv_at hl 0 rfl) ?_
    refine lv_iload_n hx hb dX1_mapped_9 rfl (lv_at hl 2 rfl) ?_
    refine zc_b (ci := 1) (q0 := 0) ⟨hx, hb, hml, hown, hts⟩ hK hP hS (cM_badPage l _ b) (kM_badPage hts ⟨by decide, by decide⟩) rfl rfl rfl rfl hl.1 rfl (Nat.le_of_ble_eq_true rfl) dX1_mapped_10 ⟨Nat.le_refl _, Nat.le_refl _⟩ (fun r H locs hw hP hS => ?_)
    rcases hw with ⟨rfl, hq10⟩ | ⟨rfl, qn, hq10, rfl⟩
    · skip
      refine lv_if_ne (tgt := 34) hx hb dX1_mapped_13 (by decide) (fun h9 => ?_) (fun h9 => absurd h9 (by decide))
      refine lv_iconst (v := bI false) hx hb dX1_mapped_34 (by decide) ?_
      exact hret false (Pg, Wd, Ls, Kp, KPg, KWd, Ms, Il, Cn, Sn) _ _ _ _ dX1_mapped_35 (pm (by simp [sp_mapped, pz_3 hq2, pz_b hq10])) hP hD hS
    · skip
      refine lv_if_ne (tgt := 34) hx hb dX1_mapped_13 (by decide) (fun h9 => absurd rfl h9) (fun h9 => ?_)
      refine lv_aload_n hx hb dX1_mapped_16 rfl (lv_at hl 0 rfl) ?_
      refine gM_Pg hx hb hts hown hK hP dX1_mapped_17 ?_
      refine lv_iload_n hx hb dX1_mapped_20 rfl (lv_at hl 1 rfl) ?_
      refine lv_bipush (v := nI 8) hx hb dX1_mapped_21 (by decide) ?_
      refine zi_mul hx hb dX1_mapped_23 ?_
      refine lv_iload_n hx hb dX1_mapped_24 rfl (lv_at hl 2 rfl) ?_
      refine zi_add hx hb dX1_mapped_25 ?_
      refine lM_Pg hx hb hK hP (by omega) dX1_mapped_26 ?_
      refine zb_ifeq (tgt := 34) hx hb dX1_mapped_27 (by decide) (fun h27 => ?_) (fun h27 => ?_)
      · skip
        refine lv_iconst (v := bI false) hx hb dX1_mapped_34 (by decide) ?_
        exact hret false (Pg, Wd, Ls, Kp, KPg, KWd, Ms, Il, Cn, Sn) _ _ _ _ dX1_mapped_35 (pm (by simp [sp_mapped, pz_3 hq2, pz_8 hq10, h27])) hP hD hS
      · skip
        refine lv_iconst (v := bI true) hx hb dX1_mapped_30 (by decide) ?_
        refine lv_goto (tgt := 35) hx hb dX1_mapped_31 (by decide) ?_
        exact hret true (Pg, Wd, Ls, Kp, KPg, KWd, Ms, Il, Cn, Sn) _ _ _ _ dX1_mapped_35 (pm (by simp [sp_mapped, pz_3 hq2, pz_8 hq10, h27])) hP hD hS
set_option maxHeartbeats 4000000 in
set_option maxRecDepth 100000 in
theorem cM_lastWord (v : MS) (a : Int32) : KI l D cI cZ yX1_lastWord cX1_lastWord 2 r2 [.ref (ad 0), .int a] (wMt ad cI cZ v) sz (PM (sp_lastWord a v)) (wMt ad cI cZ) := by
  obtain ⟨Pg, Wd, Ls, Kp, KPg, KWd, Ms, Il, Cn, Sn⟩ := v
  refine fw_i (by decide) (Nat.le_of_ble_eq_true rfl) ?_
  intro p e s m below meth c A Q ls args hx hb hml hts hown hK hP hD hS hA hl hret
  have hown : s.vm.findClass RX1 = some m.cls := hown
  have hP : va_P D vCl (wM ad cI cZ Pg Wd Ls Kp KPg KWd Ms Il Cn Sn) s.heap := hP
  have hD : va_D A (wM ad cI cZ Pg Wd Ls Kp KPg KWd Ms Il Cn Sn) := hD
  have hl : lv_has ls 2 [(0, .ref (ad 0)), (1, .int a)] := hl
  refine lv_aload_n hx hb dX1_lastWord_0 rfl (lv_at hl 0 rfl) ?_
  refine lv_iload_n hx hb dX1_lastWord_1 rfl (lv_at hl 1 rfl) ?_
  refine zc_b (ci := 1) (q0 := 0) ⟨hx, hb, hml, hown, hts⟩ hK hP hS (cM_bad l _ a) (kM_bad hts ⟨by decide, by decide⟩) rfl rfl rfl rfl hl.1 rfl (Nat.le_of_ble_eq_true rfl) dX1_lastWord_2 ⟨Nat.le_refl _, Nat.le_refl _⟩ (fun r H locs hw hP hS => ?_)
  rcases hw with ⟨rfl, hq2⟩ | ⟨rfl, pn, hq2, rfl⟩
  · skip
    refine lv_if_eq (tgt := 12) hx hb dX1_lastWord_5 (by decide) (fun h9 => absurd h9 (by decide)) (fun h9 => ?_)
    refine lv_iconst (v := 0) hx hb dX1_lastWord_8 (by decide) ?_
    refine lv_goto (tgt := 18) hx hb dX1_lastWord_9 (by decide) ?_
    exact hret 0 (Pg, Wd, Ls, Kp, KPg, KWd, Ms, Il, Cn, Sn) _ _ _ _ dX1_lastWord_18 (pm (by simp [sp_lastWord, pz_b hq2])) hP hD hS
  · skip
    refine lv_if_eq (tgt := 12) hx hb dX1_lastWord_5 (by decide) (fun h9 => ?_) (fun h9 => absurd rfl h9)
    refine lv_aload_n hx hb dX1_lastWord_12 rfl (lv_at hl 0 rfl) ?_
    refine gM_Ls hx hb hts hown hK hP dX1_lastWord_13 ?_
    refine lv_iload_n hx hb dX1_lastWord_16 rfl (lv_at hl 1 rfl) ?_
    refine lM_Ls hx hb hK hP (by omega) dX1_lastWord_17 ?_
    exact hret _ (Pg, Wd, Ls, Kp, KPg, KWd, Ms, Il, Cn, Sn) _ _ _ _ dX1_lastWord_18 (pm (by simp [sp_lastWord, pz_3 hq2])) hP hD hS
set_option maxHeartbeats 4000000 in
set_option maxRecDepth 100000 in
theorem cM_waiting (v : MS) (a : Int32) : KI l D cI cZ yX1_waiting cX1_waiting 2 r2 [.ref (ad 0), .int a] (wMt ad cI cZ v) sz (PM (sp_waiting a v)) (wMt ad cI cZ) := by
  obtain ⟨Pg, Wd, Ls, Kp, KPg, KWd, Ms, Il, Cn, Sn⟩ := v
  refine fw_i (by decide) (Nat.le_of_ble_eq_true rfl) ?_
  intro p e s m below meth c A Q ls args hx hb hml hts hown hK hP hD hS hA hl hret
  have hown : s.vm.findClass RX1 = some m.cls := hown
  have hP : va_P D vCl (wM ad cI cZ Pg Wd Ls Kp KPg KWd Ms Il Cn Sn) s.heap := hP
  have hD : va_D A (wM ad cI cZ Pg Wd Ls Kp KPg KWd Ms Il Cn Sn) := hD
  have hl : lv_has ls 2 [(0, .ref (ad 0)), (1, .int a)] := hl
  refine lv_aload_n hx hb dX1_waiting_0 rfl (lv_at hl 0 rfl) ?_
  refine lv_iload_n hx hb dX1_waiting_1 rfl (lv_at hl 1 rfl) ?_
  refine zc_b (ci := 1) (q0 := 0) ⟨hx, hb, hml, hown, hts⟩ hK hP hS (cM_bad l _ a) (kM_bad hts ⟨by decide, by decide⟩) rfl rfl rfl rfl hl.1 rfl (Nat.le_of_ble_eq_true rfl) dX1_waiting_2 ⟨Nat.le_refl _, Nat.le_refl _⟩ (fun r H locs hw hP hS => ?_)
  rcases hw with ⟨rfl, hq2⟩ | ⟨rfl, on, hq2, rfl⟩
  · skip
    refine lv_if_eq (tgt := 12) hx hb dX1_waiting_5 (by decide) (fun h9 => absurd h9 (by decide)) (fun h9 => ?_)
    refine lv_iconst (v := (-1)) hx hb dX1_waiting_8 (by decide) ?_
    refine lv_goto (tgt := 18) hx hb dX1_waiting_9 (by decide) ?_
    exact hret (-1) (Pg, Wd, Ls, Kp, KPg, KWd, Ms, Il, Cn, Sn) _ _ _ _ dX1_waiting_18 (pm (by simp [sp_waiting, pz_b hq2])) hP hD hS
  · skip
    refine lv_if_eq (tgt := 12) hx hb dX1_waiting_5 (by decide) (fun h9 => ?_) (fun h9 => absurd rfl h9)
    refine lv_aload_n hx hb dX1_waiting_12 rfl (lv_at hl 0 rfl) ?_
    refine gM_Ms hx hb hts hown hK hP dX1_waiting_13 ?_
    refine lv_iload_n hx hb dX1_waiting_16 rfl (lv_at hl 1 rfl) ?_
    refine lM_Ms hx hb hK hP (by omega) dX1_waiting_17 ?_
    exact hret _ (Pg, Wd, Ls, Kp, KPg, KWd, Ms, Il, Cn, Sn) _ _ _ _ dX1_waiting_18 (pm (by simp [sp_waiting, pz_3 hq2])) hP hD hS
end MP
end
section
/-! the relation between the component's state and the twin's (plain) -/
def sl (T K L : Nat → Option Nat) : Nat → Option Nat := fun k => if k < 24 then T k else if k < 48 then K (k - 24) else if k < 75 then L (k - 48) else none
def lvL (He Co Pa : Nat → Nat) (Ca : Nat → Option Nat) : Nat → Option Nat := fun c => if (c / 3 % 3 + 3 - He (c / 9)) % 3 < Co (c / 9) ∧ c % 3 < Pa (c / 3) then Ca c else none
def VT (Wo : Nat → Int32) (Tb : Nat → Option Nat) (Pg : Nat → Bool) (Wd : Nat → Int32) : Prop := ∀ k, k < 24 → (Tb k).isSome = Pg k ∧ ∀ f, Tb k = some f → ∀ i, i < 4 → Wo (f * 4 + i) = Wd (k * 4 + i)
def VK (Wo : Nat → Int32) (Kt : Nat → Option Nat) (hk Kp KPg : Nat → Bool) (KWd : Nat → Int32) : Prop := ∀ p, p < 3 → hk p = Kp p ∧ ∀ q, q < 8 → (hk p = true → (Kt (p * 8 + q)).isSome = KPg (p * 8 + q)) ∧ (hk p = false → Kt (p * 8 + q) = none) ∧ ∀ f, Kt (p * 8 + q) = some f → ∀ i, i < 4 → Wo (f * 4 + i) = KWd ((p * 8 + q) * 4 + i)
def VL (Wo : Nat → Int32) (He Co : Nat → Nat) (Iw : Nat → Int32) (Pa : Nat → Nat) (Ca : Nat → Option Nat) (Ms : Nat → Nat) (Il : Nat → Int32) (Cn : Nat → Nat) (Sn : Nat → Int32) : Prop :=
  ∀ p, p < 3 → Co p = Ms p ∧ Co p ≤ 3 ∧ He p < 3 ∧ ∀ j, j < Co p → Iw (p * 3 + (He p + j) % 3) = Il (p * 3 + j) ∧ Pa (p * 3 + (He p + j) % 3) = Cn (p * 3 + j) ∧ Pa (p * 3 + (He p + j) % 3) ≤ 3 ∧
    ∀ i, i < Pa (p * 3 + (He p + j) % 3) → ∃ f, Ca ((p * 3 + (He p + j) % 3) * 3 + i) = some f ∧ ∀ w, w < 4 → Wo (f * 4 + w) = Sn ((p * 3 + j) * 12 + i * 4 + w)
def RR (Wo : Nat → Int32) (Hd Fr : Nat → Nat) (ft : Nat) (Tb Kt : Nat → Option Nat) (hk : Nat → Bool) (La : Nat → Int32) (He Co : Nat → Nat) (Iw : Nat → Int32) (Pa : Nat → Nat) (Ca : Nat → Option Nat) (v : MS) : Prop :=
  Pool (sl Tb Kt (lvL He Co Pa Ca)) Hd Fr ft ∧ VT Wo Tb v.1 v.2.1 ∧ VK Wo Kt hk v.2.2.2.1 v.2.2.2.2.1 v.2.2.2.2.2.1 ∧ VL Wo He Co Iw Pa Ca v.2.2.2.2.2.2.1 v.2.2.2.2.2.2.2.1 v.2.2.2.2.2.2.2.2.1 v.2.2.2.2.2.2.2.2.2 ∧ (∀ p, p < 3 → La p = v.2.2.1 p) ∧ ∀ i, i < 4 → Wo i = 0
abbrev RRt (u : XS) (v : MS) : Prop := RR u.1 u.2.1 u.2.2.1 u.2.2.2.1 u.2.2.2.2.1 u.2.2.2.2.2.1 u.2.2.2.2.2.2.1 u.2.2.2.2.2.2.2.1 u.2.2.2.2.2.2.2.2.1 u.2.2.2.2.2.2.2.2.2.1 u.2.2.2.2.2.2.2.2.2.2.1 u.2.2.2.2.2.2.2.2.2.2.2.1 u.2.2.2.2.2.2.2.2.2.2.2.2 v
/-- the component's contracts end so -/
def PX (x : Int32 × MS) (r : Int32) (u : XS) : Prop := r = x.1 ∧ RRt u x.2
theorem px {x : Int32 × MS} {r : Int32} {v : MS} {u : XS} (e : x = (r, v)) (h : RRt u v) : PX x r u := by
  rw [e]
  exact ⟨rfl, h⟩
theorem px2 {x : Int32 × MS} {r r' : Int32} {v : MS} {u : XS} (e : x = (r', v)) (hr : r = r') (h : RRt u v) : PX x r u := by
  rw [e]
  exact ⟨hr, h⟩
section RL
variable {T K L : Nat → Option Nat} {rf : Nat → Option Nat} {Hd Fr : Nat → Nat} {ft : Nat}
theorem sl_a {k : Nat} (h : k < 24) : sl T K L k = T k := by simp [sl, h]
theorem sl_b {k : Nat} (h : k < 24) : sl T K L (24 + k) = K k := by
  simp only [sl]
  rw [if_neg (by omega), if_pos (by omega)]
  congr 1
  omega
theorem sl_c {c : Nat} (h : c < 27) : sl T K L (48 + c) = L c := by
  simp only [sl]
  rw [if_neg (by omega), if_neg (by omega), if_pos (by omega)]
  congr 1
  omega
theorem sl_d : sl T K L 75 = none := by simp [sl]
theorem sl_T {k : Nat} {v : Option Nat} (h : k < 24) : sl (va_up T k v) K L = va_up (sl T K L) k v := by
  funext j
  simp only [sl, va_up]
  by_cases hj : j = k
  · rw [if_pos (show j < 24 by omega), if_pos hj, if_pos hj]
  · rw [if_neg hj, if_neg hj]
theorem sl_K {k : Nat} {v : Option Nat} (h : k < 24) : sl T (va_up K k v) L = va_up (sl T K L) (24 + k) v := by
  funext j
  simp only [sl, va_up]
  by_cases hj : j = 24 + k
  · rw [if_neg (show ¬ j < 24 by omega), if_pos (show j < 48 by omega), if_pos (show j - 24 = k by omega), if_pos hj]
  · rw [if_neg hj]
    by_cases h1 : j < 24
    · rw [if_pos h1, if_pos h1]
    · rw [if_neg h1, if_neg h1, if_neg (show ¬ j - 24 = k by omega)]
theorem sl_L {c : Nat} {v : Option Nat} (h : c < 27) : sl T K (va_up L c v) = va_up (sl T K L) (48 + c) v := by
  funext j
  simp only [sl, va_up]
  by_cases hj : j = 48 + c
  · rw [if_neg (show ¬ j < 24 by omega), if_neg (show ¬ j < 48 by omega), if_pos (show j < 75 by omega), if_pos (show j - 48 = c by omega), if_pos hj]
  · rw [if_neg hj]
    by_cases h1 : j < 24
    · rw [if_pos h1, if_pos h1]
    · by_cases h2 : j < 48
      · rw [if_neg h1, if_neg h1, if_pos h2, if_pos h2]
      · rw [if_neg h1, if_neg h1, if_neg h2, if_neg h2, if_neg (show ¬ j - 48 = c by omega)]
theorem sl_eq {L' : Nat → Option Nat} (h : ∀ c, c < 27 → L c = L' c) : sl T K L = sl T K L' := by
  funext j
  simp only [sl]
  by_cases h1 : j < 75
  · rw [if_pos h1, if_pos h1]
    by_cases h2 : j < 24
    · rw [if_pos h2, if_pos h2]
    · by_cases h3 : j < 48
      · rw [if_neg h2, if_neg h2, if_pos h3, if_pos h3]
      · rw [if_neg h2, if_neg h2, if_neg h3, if_neg h3]
        exact h _ (by omega)
  · rw [if_neg (show ¬ j < 24 by omega), if_neg (show ¬ j < 48 by omega), if_neg h1, if_neg (show ¬ j < 24 by omega), if_neg (show ¬ j < 48 by omega), if_neg h1]
theorem vu_id {α : Type} {f : Nat → α} {k : Nat} {v : α} (h : f k = v) : va_up f k v = f := by
  funext j
  simp only [va_up]
  by_cases hj : j = k
  · rw [if_pos hj, hj, h]
  · rw [if_neg hj]
theorem lvL_at {He Co Pa : Nat → Nat} {Ca : Nat → Option Nat} {p r i : Nat} (hr : r < 3) (hi : i < 3) : lvL He Co Pa Ca ((p * 3 + r) * 3 + i) = if (r + 3 - He p) % 3 < Co p ∧ i < Pa (p * 3 + r) then Ca ((p * 3 + r) * 3 + i) else none := by
  have e1 : ((p * 3 + r) * 3 + i) / 9 = p := by omega
  have e2 : ((p * 3 + r) * 3 + i) / 3 = p * 3 + r := by omega
  have e3 : (p * 3 + r) % 3 = r := by omega
  have e4 : ((p * 3 + r) * 3 + i) % 3 = i := by omega
  simp only [lvL, e1, e2, e3, e4]
theorem nine (c : Nat) (h : c < 27) : ∃ p r i, p < 3 ∧ r < 3 ∧ i < 3 ∧ c = (p * 3 + r) * 3 + i := ⟨c / 9, c / 3 % 3, c % 3, by omega, by omega, by omega, by omega⟩
theorem Pool.lg (h : Pool rf Hd Fr ft) {k : Nat} {v : Option Nat} (hk : k < 76) (hr : rf k = v) : ∀ f, v = some f → f < 80 ∧ 1 ≤ Hd f ∧ (Hd f = 1 → ft < 80) ∧ Hd f < 1000 ∧ ft < 1000 := by
  intro f hf
  obtain ⟨h1, h2, -⟩ := h.held hk (hr.trans hf)
  have h3 := h.bound h1
  have h4 := h.top
  exact ⟨h1, h2, fun _ => h.room h1 h2, by omega, by omega⟩
theorem Pool.lgo (h : Pool rf Hd Fr ft) {k : Nat} {v : Option Nat} (hk : k < 76) (hr : rf k = v) : Pool (va_up rf k none) (lgo v Hd Fr ft).1 (lgo v Hd Fr ft).2.1 (lgo v Hd Fr ft).2.2 := by
  cases v with
  | none =>
    rw [vu_id hr]
    exact h
  | some f => exact h.letgo hk hr
theorem Pool.hdU (h : Pool rf Hd Fr ft) {k j : Nat} {v : Option Nat} (hk : k < 76) (hr : rf k = none) (hj : j < 76) (hv : rf j = v) : Pool (va_up rf k v) (hdU Hd v) Fr ft := by
  cases v with
  | none =>
    rw [vu_id hr]
    exact h
  | some f =>
    obtain ⟨h1, h2, -⟩ := h.held hj hv
    exact h.hold hk hr h1 h2
theorem Pool.sole (h : Pool rf Hd Fr ft) {k j f : Nat} (hk : k < 76) (hj : j < 76) (hr : rf k = some f) (hr2 : rf j = some f) (h1 : Hd f = 1) : j = k := by
  rcases Nat.decEq j k with q | q
  · exfalso
    have c := cn_up (rf := rf) (f := f) (v := none) 76 hk
    rw [if_pos hr, if_neg (by simp)] at c
    have c2 := cn_pos (rf := va_up rf k none) (f := f) (k := j) (by rw [vu_n q]; exact hr2) 76 hj
    have d := h.2.1 f (h.1 k hk f hr)
    omega
  · exact q
theorem VT.cnt {Wo Wd : Nat → Int32} {Tb : Nat → Option Nat} {Pg : Nat → Bool} (h : VT Wo Tb Pg Wd) {p : Nat} (hp : p < 3) : cO Tb (p * 8) 8 = cB Pg (p * 8) 8 := cO_cB 8 (fun j hj => (h (p * 8 + j) (by omega)).1)
theorem VT.W {Wo Wo' Wd : Nat → Int32} {Tb : Nat → Option Nat} {Pg : Nat → Bool} (h : VT Wo Tb Pg Wd) (hW : ∀ k f i, k < 24 → Tb k = some f → i < 4 → Wo' (f * 4 + i) = Wo (f * 4 + i)) : VT Wo' Tb Pg Wd := by
  intro k hk
  obtain ⟨h1, h2⟩ := h k hk
  exact ⟨h1, fun f hf i hi => (hW k f i hk hf hi).trans (h2 f hf i hi)⟩
theorem VK.W {Wo Wo' KWd : Nat → Int32} {Kt : Nat → Option Nat} {hk Kp KPg : Nat → Bool} (h : VK Wo Kt hk Kp KPg KWd) (hW : ∀ k f i, k < 24 → Kt k = some f → i < 4 → Wo' (f * 4 + i) = Wo (f * 4 + i)) : VK Wo' Kt hk Kp KPg KWd := by
  intro p hp
  obtain ⟨h1, h2⟩ := h p hp
  refine ⟨h1, fun q hq => ?_⟩
  obtain ⟨h3, h4, h5⟩ := h2 q hq
  exact ⟨h3, h4, fun f hf i hi => (hW (p * 8 + q) f i (by omega) hf hi).trans (h5 f hf i hi)⟩
/-- a place of a message that waits is live -/
theorem live {He Co Pa : Nat → Nat} {Ca : Nat → Option Nat} {p j i : Nat} (h1 : He p < 3) (h2 : Co p ≤ 3) (hj : j < Co p) (hi : i < Pa (p * 3 + (He p + j) % 3)) (h3 : Pa (p * 3 + (He p + j) % 3) ≤ 3) : lvL He Co Pa Ca ((p * 3 + (He p + j) % 3) * 3 + i) = Ca ((p * 3 + (He p + j) % 3) * 3 + i) := by
  rw [lvL_at (by omega) (by omega), if_pos ⟨by omega, hi⟩]
theorem VL.W {Wo Wo' : Nat → Int32} {He Co : Nat → Nat} {Iw : Nat → Int32} {Pa : Nat → Nat} {Ca : Nat → Option Nat} {Ms : Nat → Nat} {Il : Nat → Int32} {Cn : Nat → Nat} {Sn : Nat → Int32} (h : VL Wo He Co Iw Pa Ca Ms Il Cn Sn) (hW : ∀ c f i, c < 27 → lvL He Co Pa Ca c = some f → i < 4 → Wo' (f * 4 + i) = Wo (f * 4 + i)) : VL Wo' He Co Iw Pa Ca Ms Il Cn Sn := by
  intro p hp
  obtain ⟨h1, h2, h3, h4⟩ := h p hp
  refine ⟨h1, h2, h3, fun j hj => ?_⟩
  obtain ⟨a1, a2, a3, a4⟩ := h4 j hj
  refine ⟨a1, a2, a3, fun i hi => ?_⟩
  obtain ⟨f, b1, b2⟩ := a4 i hi
  exact ⟨f, b1, fun w hw => (hW _ f w (by omega) ((live h3 h2 hj hi a3).trans b1) hw).trans (b2 w hw)⟩
end RL
end
section
/-! the relation is kept: map, unmap, write, copy, snapshots, ends (plain) -/
section OP
variable {Wo : Nat → Int32} {Hd : Nat → Nat} {Fr : Nat → Nat} {ft : Nat} {Tb : Nat → Option Nat} {Kt : Nat → Option Nat} {hk : Nat → Bool} {La : Nat → Int32} {He : Nat → Nat} {Co : Nat → Nat} {Iw : Nat → Int32} {Pa : Nat → Nat} {Ca : Nat → Option Nat}
variable {Pg : Nat → Bool} {Wd : Nat → Int32} {Ls : Nat → Int32} {Kp : Nat → Bool} {KPg : Nat → Bool} {KWd : Nat → Int32} {Ms : Nat → Nat} {Il : Nat → Int32} {Cn : Nat → Nat} {Sn : Nat → Int32}
theorem rr_un (h : RR Wo Hd Fr ft Tb Kt hk La He Co Iw Pa Ca (Pg, Wd, Ls, Kp, KPg, KWd, Ms, Il, Cn, Sn)) : Pool (sl Tb Kt (lvL He Co Pa Ca)) Hd Fr ft ∧ VT Wo Tb Pg Wd ∧ VK Wo Kt hk Kp KPg KWd ∧ VL Wo He Co Iw Pa Ca Ms Il Cn Sn ∧ (∀ p, p < 3 → La p = Ls p) ∧ ∀ i, i < 4 → Wo i = 0 := h
theorem rr_mk (h0 : Pool (sl Tb Kt (lvL He Co Pa Ca)) Hd Fr ft) (h1 : VT Wo Tb Pg Wd) (h2 : VK Wo Kt hk Kp KPg KWd) (h3 : VL Wo He Co Iw Pa Ca Ms Il Cn Sn) (h4 : ∀ p, p < 3 → La p = Ls p) (h5 : ∀ i, i < 4 → Wo i = 0) : RRt (Wo, Hd, Fr, ft, Tb, Kt, hk, La, He, Co, Iw, Pa, Ca) (Pg, Wd, Ls, Kp, KPg, KWd, Ms, Il, Cn, Sn) := ⟨h0, h1, h2, h3, h4, h5⟩
theorem R_map {p q : Nat} (h : RR Wo Hd Fr ft Tb Kt hk La He Co Iw Pa Ca (Pg, Wd, Ls, Kp, KPg, KWd, Ms, Il, Cn, Sn)) (hp : p < 3) (hq : q < 8) (ht : Tb (p * 8 + q) = none) : PX (sp_map (nI p) (nI q) (Pg, Wd, Ls, Kp, KPg, KWd, Ms, Il, Cn, Sn)) (nI (cO (va_up Tb (p * 8 + q) (some 0)) (p * 8) 8)) (Wo, hdU Hd (some 0), Fr, ft, va_up Tb (p * 8 + q) (some 0), Kt, hk, La, He, Co, Iw, Pa, Ca) := by
  obtain ⟨h0, h1, h2, h3, h4, h5⟩ := rr_un h
  have hg : Pg (p * 8 + q) = false := by
    have := (h1 (p * 8 + q) (by omega)).1
    rw [ht] at this
    exact this.symm
  have h6 : VT Wo (va_up Tb (p * 8 + q) (some 0)) (va_up Pg (p * 8 + q) true) (va_cpy (fun _ => 0) Wd 0 (p * 32 + q * 4) 4) := by
    intro k hk
    by_cases hkk : k = p * 8 + q
    · subst hkk
      rw [vu_s, vu_s]
      refine ⟨rfl, fun f hf i hi => ?_⟩
      cases hf
      rw [show (p * 8 + q) * 4 + i = p * 32 + q * 4 + i by omega, cpy_i hi, show 0 * 4 + i = i by omega]
      exact h5 i hi
    · rw [vu_n hkk, vu_n hkk]
      obtain ⟨a, b⟩ := h1 k hk
      refine ⟨a, fun f hf i hi => ?_⟩
      rw [cpy_o (show k * 4 + i < p * 32 + q * 4 ∨ p * 32 + q * 4 + 4 ≤ k * 4 + i by omega)]
      exact b f hf i hi
  have e : sp_map (nI p) (nI q) (Pg, Wd, Ls, Kp, KPg, KWd, Ms, Il, Cn, Sn) = (nI (cB (va_up Pg (p * 8 + q) true) (p * 8) 8), (va_up Pg (p * 8 + q) true, va_cpy (fun _ => 0) Wd 0 (p * 32 + q * 4) 4, Ls, Kp, KPg, KWd, Ms, Il, Cn, Sn)) := by simp [sp_map, pz_3 hp, pz_8 hq, hg]
  refine px2 e (by rw [h6.cnt hp]) (rr_mk ?_ h6 h2 h3 h4 h5)
  rw [sl_T (by omega)]
  exact h0.hold (by omega) (by rw [sl_a (by omega)]; exact ht) (by omega) h0.zero
theorem R_unmap {p q f : Nat} (h : RR Wo Hd Fr ft Tb Kt hk La He Co Iw Pa Ca (Pg, Wd, Ls, Kp, KPg, KWd, Ms, Il, Cn, Sn)) (hp : p < 3) (hq : q < 8) (ht : Tb (p * 8 + q) = some f) : PX (sp_unmap (nI p) (nI q) (Pg, Wd, Ls, Kp, KPg, KWd, Ms, Il, Cn, Sn)) (nI (cO (va_up Tb (p * 8 + q) none) (p * 8) 8)) (Wo, (lgo (some f) Hd Fr ft).1, (lgo (some f) Hd Fr ft).2.1, (lgo (some f) Hd Fr ft).2.2, va_up Tb (p * 8 + q) none, Kt, hk, La, He, Co, Iw, Pa, Ca) := by
  obtain ⟨h0, h1, h2, h3, h4, h5⟩ := rr_un h
  have hg : Pg (p * 8 + q) = true := by
    have := (h1 (p * 8 + q) (by omega)).1
    rw [ht] at this
    exact this.symm
  have h6 : VT Wo (va_up Tb (p * 8 + q) none) (va_up Pg (p * 8 + q) false) Wd := by
    intro k hk
    by_cases hkk : k = p * 8 + q
    · subst hkk
      rw [vu_s, vu_s]
      exact ⟨rfl, fun f hf => by cases hf⟩
    · rw [vu_n hkk, vu_n hkk]
      exact h1 k hk
  have e : sp_unmap (nI p) (nI q) (Pg, Wd, Ls, Kp, KPg, KWd, Ms, Il, Cn, Sn) = (nI (cB (va_up Pg (p * 8 + q) false) (p * 8) 8), (va_up Pg (p * 8 + q) false, Wd, Ls, Kp, KPg, KWd, Ms, Il, Cn, Sn)) := by simp [sp_unmap, pz_3 hp, pz_8 hq, hg]
  refine px2 e (by rw [h6.cnt hp]) (rr_mk ?_ h6 h2 h3 h4 h5)
  rw [sl_T (by omega)]
  exact h0.lgo (by omega) (by rw [sl_a (by omega)]; exact ht)
theorem R_write0 {p q f g ft' : Nat} {x : Int32} {W0 : Nat → Int32} {Hd' : Nat → Nat} (h : RR Wo Hd Fr ft Tb Kt hk La He Co Iw Pa Ca (Pg, Wd, Ls, Kp, KPg, KWd, Ms, Il, Cn, Sn)) (hp : p < 3) (hq : q < 32) (ht : Tb (p * 8 + q / 4) = some f) (hg0 : g ≠ 0) (hw1 : ∀ i, i < 4 → W0 (g * 4 + i) = Wo (f * 4 + i)) (hw2 : ∀ f' i, f' ≠ g → i < 4 → W0 (f' * 4 + i) = Wo (f' * 4 + i))
    (hpool : Pool (sl (va_up Tb (p * 8 + q / 4) (some g)) Kt (lvL He Co Pa Ca)) Hd' Fr ft') (hs : ∀ s, s < 76 → s ≠ p * 8 + q / 4 → sl Tb Kt (lvL He Co Pa Ca) s ≠ some g) : PX (sp_write (nI p) (nI q) x (Pg, Wd, Ls, Kp, KPg, KWd, Ms, Il, Cn, Sn)) (nI (q / 4)) (va_up W0 (g * 4 + q % 4) x, Hd', Fr, ft', va_up Tb (p * 8 + q / 4) (some g), Kt, hk, La, He, Co, Iw, Pa, Ca) := by
  obtain ⟨h0, h1, h2, h3, h4, h5⟩ := rr_un h
  have hg : Pg (p * 8 + q / 4) = true := by
    have := (h1 (p * 8 + q / 4) (by omega)).1
    rw [ht] at this
    exact this.symm
  have hW : ∀ f' i, f' ≠ g → i < 4 → va_up W0 (g * 4 + q % 4) x (f' * 4 + i) = Wo (f' * 4 + i) := by
    intro f' i h6 h7
    rw [vu_n (by omega)]
    exact hw2 f' i h6 h7
  have e : sp_write (nI p) (nI q) x (Pg, Wd, Ls, Kp, KPg, KWd, Ms, Il, Cn, Sn) = (nI (q / 4), (Pg, va_up Wd (p * 32 + q) x, Ls, Kp, KPg, KWd, Ms, Il, Cn, Sn)) := by simp [sp_write, pz_3 hp, pz_32 hq, hg]
  refine px e (rr_mk hpool ?_ (h2.W (fun k f' i hk hf hi => ?_)) (h3.W (fun c f' i hc hf hi => ?_)) h4 (fun i hi => ?_))
  · intro k hk
    by_cases hkk : k = p * 8 + q / 4
    · subst hkk
      rw [vu_s]
      refine ⟨hg.symm, fun f' hf i hi => ?_⟩
      cases hf
      by_cases hi4 : i = q % 4
      · rw [hi4, vu_s, show (p * 8 + q / 4) * 4 + q % 4 = p * 32 + q by omega]
        exact vu_s.symm
      · rw [vu_n (by omega), hw1 i hi]
        refine ((h1 _ hk).2 f ht i hi).trans ?_
        exact (vu_n (by omega)).symm
    · rw [vu_n hkk]
      obtain ⟨a, b⟩ := h1 k hk
      refine ⟨a, fun f' hf i hi => ?_⟩
      rw [hW f' i (fun z => hs k (by omega) hkk (by rw [sl_a hk, ← z]; exact hf)) hi, b f' hf i hi]
      exact (vu_n (by omega)).symm
  · exact hW f' i (fun z => hs (24 + k) (by omega) (by omega) (by rw [sl_b hk, ← z]; exact hf)) hi
  · exact hW f' i (fun z => hs (48 + c) (by omega) (by omega) (by rw [sl_c hc, ← z]; exact hf)) hi
  · have := hW 0 i (fun z => hg0 z.symm) hi
    rw [Nat.zero_mul, Nat.zero_add] at this
    exact this.trans (h5 i hi)
theorem R_write1 {p q f : Nat} {x : Int32} (h : RR Wo Hd Fr ft Tb Kt hk La He Co Iw Pa Ca (Pg, Wd, Ls, Kp, KPg, KWd, Ms, Il, Cn, Sn)) (hp : p < 3) (hq : q < 32) (ht : Tb (p * 8 + q / 4) = some f) (h1 : Hd f = 1) : PX (sp_write (nI p) (nI q) x (Pg, Wd, Ls, Kp, KPg, KWd, Ms, Il, Cn, Sn)) (nI (q / 4)) (va_up Wo (f * 4 + q % 4) x, Hd, Fr, ft, va_up Tb (p * 8 + q / 4) (some f), Kt, hk, La, He, Co, Iw, Pa, Ca) := by
  have h0 := (rr_un h).1
  have hr : sl Tb Kt (lvL He Co Pa Ca) (p * 8 + q / 4) = some f := by rw [sl_a (by omega)]; exact ht
  have hh := h0.held (show p * 8 + q / 4 < 76 by omega) hr
  refine R_write0 h hp hq ht (fun z => by have := hh.2.2 z; omega) (fun _ _ => rfl) (fun _ _ _ _ => rfl) (by rw [vu_id ht]; exact h0) (fun s hs hne z => hne (h0.sole (by omega) hs hr z h1))
theorem R_write2 {p q f : Nat} {x : Int32} (h : RR Wo Hd Fr ft Tb Kt hk La He Co Iw Pa Ca (Pg, Wd, Ls, Kp, KPg, KWd, Ms, Il, Cn, Sn)) (hp : p < 3) (hq : q < 32) (ht : Tb (p * 8 + q / 4) = some f) (h1 : Hd f ≠ 1) : PX (sp_write (nI p) (nI q) x (Pg, Wd, Ls, Kp, KPg, KWd, Ms, Il, Cn, Sn)) (nI (q / 4)) (va_up (va_cpy Wo Wo (f * 4) (Fr (ft - 1) * 4) 4) (Fr (ft - 1) * 4 + q % 4) x, va_up (va_up Hd (Fr (ft - 1)) 1) f (Hd f - 1), Fr, ft - 1, va_up Tb (p * 8 + q / 4) (some (Fr (ft - 1))), Kt, hk, La, He, Co, Iw, Pa, Ca) := by
  have h0 := (rr_un h).1
  have hr : sl Tb Kt (lvL He Co Pa Ca) (p * 8 + q / 4) = some f := by rw [sl_a (by omega)]; exact ht
  have hh := h0.held (show p * 8 + q / 4 < 76 by omega) hr
  obtain ⟨g1, g2, g3⟩ := h0.fresh
  have g4 := h0.notfree (show p * 8 + q / 4 < 76 by omega) hr
  refine R_write0 h hp hq ht g3 (fun i hi => cpy_i hi) (fun f' i hne hi => cpy_o (by omega)) (by rw [sl_T (by omega)]; exact h0.own (by omega) hr h1) (fun s hs hne z => ?_)
  have := (h0.held hs z).2.1
  omega
theorem R_copy0 {p q t f : Nat} (h : RR Wo Hd Fr ft Tb Kt hk La He Co Iw Pa Ca (Pg, Wd, Ls, Kp, KPg, KWd, Ms, Il, Cn, Sn)) (hp : p < 3) (hq : q < 8) (ht : t < 8) (hf : Tb (p * 8 + q) = some f) : Pool (va_up (sl Tb Kt (lvL He Co Pa Ca)) 75 (some f)) (hdU Hd (some f)) Fr ft := by
  have h0 := (rr_un h).1
  exact h0.hdU (by omega) sl_d (show p * 8 + q < 76 by omega) (by rw [sl_a (by omega)]; exact hf)
theorem R_copy {p q t f : Nat} (h : RR Wo Hd Fr ft Tb Kt hk La He Co Iw Pa Ca (Pg, Wd, Ls, Kp, KPg, KWd, Ms, Il, Cn, Sn)) (hp : p < 3) (hq : q < 8) (ht : t < 8) (hf : Tb (p * 8 + q) = some f) : PX (sp_copy (nI p) (nI q) (nI t) (Pg, Wd, Ls, Kp, KPg, KWd, Ms, Il, Cn, Sn)) (nI (cO (va_up Tb (p * 8 + t) (some f)) (p * 8) 8)) (Wo, (lgo (Tb (p * 8 + t)) (hdU Hd (some f)) Fr ft).1, (lgo (Tb (p * 8 + t)) (hdU Hd (some f)) Fr ft).2.1, (lgo (Tb (p * 8 + t)) (hdU Hd (some f)) Fr ft).2.2, va_up Tb (p * 8 + t) (some f), Kt, hk, La, He, Co, Iw, Pa, Ca) := by
  have h9 := R_copy0 h hp hq ht hf
  obtain ⟨h0, h1, h2, h3, h4, h5⟩ := rr_un h
  have hg : Pg (p * 8 + q) = true := by
    have := (h1 (p * 8 + q) (by omega)).1
    rw [hf] at this
    exact this.symm
  have h6 : VT Wo (va_up Tb (p * 8 + t) (some f)) (va_up Pg (p * 8 + t) true) (va_cpy Wd Wd (p * 32 + q * 4) (p * 32 + t * 4) 4) := by
    intro k hk
    by_cases hkk : k = p * 8 + t
    · subst hkk
      rw [vu_s, vu_s]
      refine ⟨rfl, fun f' hf' i hi => ?_⟩
      cases hf'
      rw [show (p * 8 + t) * 4 + i = p * 32 + t * 4 + i by omega, cpy_i hi, show p * 32 + q * 4 + i = (p * 8 + q) * 4 + i by omega]
      exact (h1 (p * 8 + q) (by omega)).2 f hf i hi
    · rw [vu_n hkk, vu_n hkk]
      obtain ⟨a, b⟩ := h1 k hk
      refine ⟨a, fun f hf i hi => ?_⟩
      rw [cpy_o (show k * 4 + i < p * 32 + t * 4 ∨ p * 32 + t * 4 + 4 ≤ k * 4 + i by omega)]
      exact b f hf i hi
  have e : sp_copy (nI p) (nI q) (nI t) (Pg, Wd, Ls, Kp, KPg, KWd, Ms, Il, Cn, Sn) = (nI (cB (va_up Pg (p * 8 + t) true) (p * 8) 8), (va_up Pg (p * 8 + t) true, va_cpy Wd Wd (p * 32 + q * 4) (p * 32 + t * 4) 4, Ls, Kp, KPg, KWd, Ms, Il, Cn, Sn)) := by simp [sp_copy, pz_3 hp, pz_8 hq, pz_8 ht, hg]
  refine px2 e (by rw [h6.cnt hp]) (rr_mk ?_ h6 h2 h3 h4 h5)
  have h10 := h9.lgo (k := p * 8 + t) (v := Tb (p * 8 + t)) (by omega) (by rw [vu_n (by omega), sl_a (by omega)])
  have h11 := h10.move (k := 75) (j := p * 8 + t) (v := some f) (by omega) (by omega) (by rw [vu_n (by omega), vu_s]) vu_s (by omega)
  rw [sl_T (by omega)]
  have e2 : va_up (va_up (va_up (va_up (sl Tb Kt (lvL He Co Pa Ca)) 75 (some f)) (p * 8 + t) none) 75 none) (p * 8 + t) (some f) = va_up (sl Tb Kt (lvL He Co Pa Ca)) (p * 8 + t) (some f) := by
    funext j
    by_cases j1 : j = p * 8 + t
    · rw [j1, vu_s, vu_s]
    · rw [vu_n j1, vu_n j1]
      by_cases j2 : j = 75
      · rw [j2, vu_s]
        exact sl_d.symm
      · rw [vu_n j2, vu_n j1, vu_n j2]
  rw [e2] at h11
  exact h11
theorem R_snap {p : Nat} {Hd' Fr' : Nat → Nat} {ft' : Nat} (h : RR Wo Hd Fr ft Tb Kt hk La He Co Iw Pa Ca (Pg, Wd, Ls, Kp, KPg, KWd, Ms, Il, Cn, Sn)) (hp : p < 3) (hpool : Pool (sl Tb (va_cpy Tb (va_cpy (fun _ => none) Kt 0 (p * 8) 8) (p * 8) (p * 8) 8) (lvL He Co Pa Ca)) Hd' Fr' ft') : PX (sp_snapshot (nI p) (Pg, Wd, Ls, Kp, KPg, KWd, Ms, Il, Cn, Sn)) (nI (cO Tb (p * 8) 8)) (Wo, Hd', Fr', ft', Tb, va_cpy Tb (va_cpy (fun _ => none) Kt 0 (p * 8) 8) (p * 8) (p * 8) 8, va_up (va_up hk p false) p true, La, He, Co, Iw, Pa, Ca) := by
  obtain ⟨h0, h1, h2, h3, h4, h5⟩ := rr_un h
  have e : sp_snapshot (nI p) (Pg, Wd, Ls, Kp, KPg, KWd, Ms, Il, Cn, Sn) = (nI (cB Pg (p * 8) 8), (Pg, Wd, Ls, va_up Kp p true, va_cpy Pg KPg (p * 8) (p * 8) 8, va_cpy Wd KWd (p * 32) (p * 32) 32, Ms, Il, Cn, Sn)) := by simp [sp_snapshot, pz_3 hp]
  refine px2 e (by rw [h1.cnt hp]) (rr_mk hpool h1 ?_ h3 h4 h5)
  intro p' hp'
  by_cases hpp : p' = p
  · subst hpp
    rw [vu_s]
    refine ⟨vu_s.symm, fun q hq => ⟨fun _ => ?_, (fun z => by cases z), fun f hf i hi => ?_⟩⟩
    · rw [cpy_i hq, cpy_i hq]
      exact (h1 _ (by omega)).1
    · rw [cpy_i hq] at hf
      rw [show (p' * 8 + q) * 4 + i = p' * 32 + (q * 4 + i) by omega, cpy_i (by omega), show p' * 32 + (q * 4 + i) = (p' * 8 + q) * 4 + i by omega]
      exact (h1 _ (by omega)).2 f hf i hi
  · simp only [vu_n hpp]
    obtain ⟨a, b⟩ := h2 p' hp'
    refine ⟨a, fun q hq => ?_⟩
    rw [cpy_o (show p' * 8 + q < p * 8 ∨ p * 8 + 8 ≤ p' * 8 + q by omega), cpy_o (show p' * 8 + q < p * 8 ∨ p * 8 + 8 ≤ p' * 8 + q by omega), cpy_o (show p' * 8 + q < p * 8 ∨ p * 8 + 8 ≤ p' * 8 + q by omega)]
    obtain ⟨c1, c2, c3⟩ := b q hq
    refine ⟨?_, ?_, fun f hf i hi => ?_⟩
    · exact c1
    · exact c2
    · rw [cpy_o (show (p' * 8 + q) * 4 + i < p * 32 ∨ p * 32 + 32 ≤ (p' * 8 + q) * 4 + i by omega)]
      exact c3 f hf i hi
theorem R_roll {p : Nat} {Hd' Fr' : Nat → Nat} {ft' : Nat} (h : RR Wo Hd Fr ft Tb Kt hk La He Co Iw Pa Ca (Pg, Wd, Ls, Kp, KPg, KWd, Ms, Il, Cn, Sn)) (hp : p < 3) (hk1 : hk p = true) (hpool : Pool (sl (va_cpy Kt (va_cpy (fun _ => none) Tb 0 (p * 8) 8) (p * 8) (p * 8) 8) Kt (lvL He Co Pa Ca)) Hd' Fr' ft') : PX (sp_rollBack (nI p) (Pg, Wd, Ls, Kp, KPg, KWd, Ms, Il, Cn, Sn)) (nI (cO (va_cpy Kt (va_cpy (fun _ => none) Tb 0 (p * 8) 8) (p * 8) (p * 8) 8) (p * 8) 8)) (Wo, Hd', Fr', ft', va_cpy Kt (va_cpy (fun _ => none) Tb 0 (p * 8) 8) (p * 8) (p * 8) 8, Kt, hk, La, He, Co, Iw, Pa, Ca) := by
  obtain ⟨h0, h1, h2, h3, h4, h5⟩ := rr_un h
  obtain ⟨a1, a2⟩ := h2 p hp
  have hkp : Kp p = true := a1.symm.trans hk1
  have h6 : VT Wo (va_cpy Kt (va_cpy (fun _ => none) Tb 0 (p * 8) 8) (p * 8) (p * 8) 8) (va_cpy KPg Pg (p * 8) (p * 8) 8) (va_cpy KWd Wd (p * 32) (p * 32) 32) := by
    intro k hk
    by_cases hkk : p * 8 ≤ k ∧ k < p * 8 + 8
    · obtain ⟨q, hq, rfl⟩ : ∃ q, q < 8 ∧ k = p * 8 + q := ⟨k - p * 8, by omega, by omega⟩
      obtain ⟨c1, c2, c3⟩ := a2 q hq
      rw [cpy_i hq, cpy_i hq]
      refine ⟨c1 hk1, fun f hf i hi => ?_⟩
      rw [show (p * 8 + q) * 4 + i = p * 32 + (q * 4 + i) by omega, cpy_i (by omega), show p * 32 + (q * 4 + i) = (p * 8 + q) * 4 + i by omega]
      exact c3 f hf i hi
    · rw [cpy_o (show k < p * 8 ∨ p * 8 + 8 ≤ k by omega), cpy_o (show k < p * 8 ∨ p * 8 + 8 ≤ k by omega), cpy_o (show k < p * 8 ∨ p * 8 + 8 ≤ k by omega)]
      obtain ⟨b1, b2⟩ := h1 k hk
      refine ⟨b1, fun f hf i hi => ?_⟩
      rw [cpy_o (show k * 4 + i < p * 32 ∨ p * 32 + 32 ≤ k * 4 + i by omega)]
      exact b2 f hf i hi
  have e : sp_rollBack (nI p) (Pg, Wd, Ls, Kp, KPg, KWd, Ms, Il, Cn, Sn) = (nI (cB (va_cpy KPg Pg (p * 8) (p * 8) 8) (p * 8) 8), (va_cpy KPg Pg (p * 8) (p * 8) 8, va_cpy KWd Wd (p * 32) (p * 32) 32, Ls, Kp, KPg, KWd, Ms, Il, Cn, Sn)) := by simp [sp_rollBack, pz_3 hp, hkp]
  exact px2 e (by rw [h6.cnt hp]) (rr_mk hpool h6 h2 h3 h4 h5)
theorem R_exit {p : Nat} {Hd' Fr' : Nat → Nat} {ft' : Nat} (h : RR Wo Hd Fr ft Tb Kt hk La He Co Iw Pa Ca (Pg, Wd, Ls, Kp, KPg, KWd, Ms, Il, Cn, Sn)) (hp : p < 3) (hpool : Pool (sl (va_cpy (fun _ => none) Tb 0 (p * 8) 8) (va_cpy (fun _ => none) Kt 0 (p * 8) 8) (lvL He Co Pa Ca)) Hd' Fr' ft') : PX (sp_exit (nI p) (Pg, Wd, Ls, Kp, KPg, KWd, Ms, Il, Cn, Sn)) (nI (cO Tb (p * 8) 8)) (Wo, Hd', Fr', ft', va_cpy (fun _ => none) Tb 0 (p * 8) 8, va_cpy (fun _ => none) Kt 0 (p * 8) 8, va_up hk p false, va_up La p 0, He, Co, Iw, Pa, Ca) := by
  obtain ⟨h0, h1, h2, h3, h4, h5⟩ := rr_un h
  have e : sp_exit (nI p) (Pg, Wd, Ls, Kp, KPg, KWd, Ms, Il, Cn, Sn) = (nI (cB Pg (p * 8) 8), (va_cpy (fun _ => false) Pg 0 (p * 8) 8, Wd, va_up Ls p 0, va_up Kp p false, KPg, KWd, Ms, Il, Cn, Sn)) := by simp [sp_exit, pz_3 hp]
  refine px2 e (by rw [h1.cnt hp]) (rr_mk hpool ?_ ?_ h3 (fun p' hp' => ?_) h5)
  · intro k hk
    by_cases hkk : p * 8 ≤ k ∧ k < p * 8 + 8
    · obtain ⟨q, hq, rfl⟩ : ∃ q, q < 8 ∧ k = p * 8 + q := ⟨k - p * 8, by omega, by omega⟩
      rw [cpy_i hq, cpy_i hq]
      exact ⟨rfl, fun f hf => by cases hf⟩
    · rw [cpy_o (show k < p * 8 ∨ p * 8 + 8 ≤ k by omega), cpy_o (show k < p * 8 ∨ p * 8 + 8 ≤ k by omega)]
      exact h1 k hk
  · intro p' hp'
    by_cases hpp : p' = p
    · subst hpp
      rw [vu_s]
      refine ⟨vu_s.symm, fun q hq => ?_⟩
      rw [cpy_i hq]
      exact ⟨(fun z => by cases z), (fun _ => rfl), fun f hf => by cases hf⟩
    · simp only [vu_n hpp]
      obtain ⟨a, b⟩ := h2 p' hp'
      refine ⟨a, fun q hq => ?_⟩
      rw [cpy_o (show p' * 8 + q < p * 8 ∨ p * 8 + 8 ≤ p' * 8 + q by omega)]
      exact b q hq
  · by_cases hpp : p' = p
    · subst hpp
      exact vu_s.trans vu_s.symm
    · exact (vu_n hpp).trans ((h4 p' hp').trans (vu_n hpp).symm)
end OP
end
section
/-! the relation is kept: send, receive, drain (plain) -/
section OQ
variable {Wo : Nat → Int32} {Hd : Nat → Nat} {Fr : Nat → Nat} {ft : Nat} {Tb : Nat → Option Nat} {Kt : Nat → Option Nat} {hk : Nat → Bool} {La : Nat → Int32} {He : Nat → Nat} {Co : Nat → Nat} {Iw : Nat → Int32} {Pa : Nat → Nat} {Ca : Nat → Option Nat}
variable {Pg : Nat → Bool} {Wd : Nat → Int32} {Ls : Nat → Int32} {Kp : Nat → Bool} {KPg : Nat → Bool} {KWd : Nat → Int32} {Ms : Nat → Nat} {Il : Nat → Int32} {Cn : Nat → Nat} {Sn : Nat → Int32}
theorem sd_dead {o i : Nat} (h1 : He o < 3) (h2 : Co o < 3) (hi : i < 3) : lvL He Co Pa Ca ((o * 3 + (He o + Co o) % 3) * 3 + i) = none := by
  rw [lvL_at (by omega) hi, if_neg (by omega)]
theorem sd_L {T : Nat → Option Nat} {o n s : Nat} (h1 : He o < 3) (h2 : Co o < 3) (hn : n ≤ 3) : ∀ c, c < 27 → va_cpy T (lvL He Co Pa Ca) s ((o * 3 + (He o + Co o) % 3) * 3) n c = lvL He (va_up Co o (Co o + 1)) (va_up Pa (o * 3 + (He o + Co o) % 3) n) (va_cpy T Ca s ((o * 3 + (He o + Co o) % 3) * 3) n) c := by
  intro c hc
  obtain ⟨p, r, i, hp, hr, hi, rfl⟩ := nine c hc
  by_cases hm : p * 3 + r = (o * 3 + (He o + Co o) % 3)
  · have hpo : p = o := by omega
    subst hpo
    have hr2 : r = (He p + Co p) % 3 := by omega
    rw [lvL_at hr hi, vu_s, hm, vu_s]
    by_cases hin : i < n
    · rw [if_pos ⟨by omega, hin⟩, cpy_i hin, cpy_i hin]
    · rw [if_neg (by omega), cpy_o (show (p * 3 + (He p + Co p) % 3) * 3 + i < (p * 3 + (He p + Co p) % 3) * 3 ∨ (p * 3 + (He p + Co p) % 3) * 3 + n ≤ (p * 3 + (He p + Co p) % 3) * 3 + i by omega)]
      exact sd_dead h1 h2 hi
  · rw [cpy_o (show (p * 3 + r) * 3 + i < (o * 3 + (He o + Co o) % 3) * 3 ∨ (o * 3 + (He o + Co o) % 3) * 3 + n ≤ (p * 3 + r) * 3 + i by omega), lvL_at hr hi, lvL_at hr hi, vu_n hm, cpy_o (show (p * 3 + r) * 3 + i < (o * 3 + (He o + Co o) % 3) * 3 ∨ (o * 3 + (He o + Co o) % 3) * 3 + n ≤ (p * 3 + r) * 3 + i by omega)]
    by_cases hpo : p = o
    · subst hpo
      rw [vu_s]
      by_cases hc1 : (r + 3 - He p) % 3 < Co p
      · by_cases hc2 : i < Pa (p * 3 + r)
        · rw [if_pos ⟨hc1, hc2⟩, if_pos ⟨by omega, hc2⟩]
        · rw [if_neg (fun z => hc2 z.2), if_neg (fun z => hc2 z.2)]
      · rw [if_neg (fun z => hc1 z.1), if_neg (fun z => hc1 (by omega))]
    · rw [vu_n hpo]
theorem sd_step {o s i : Nat} (h1 : He o < 3) (h2 : Co o < 3) (ho : o < 3) (hi : i < 3) (hs : s + i < 24) (h : Pool (sl Tb Kt (va_cpy Tb (lvL He Co Pa Ca) s ((o * 3 + (He o + Co o) % 3) * 3) i)) Hd Fr ft) : Pool (sl Tb Kt (va_cpy Tb (lvL He Co Pa Ca) s ((o * 3 + (He o + Co o) % 3) * 3) (i + 1))) (hdU Hd (Tb (s + i))) Fr ft := by
  rw [← cpy_s, sl_L (by omega)]
  refine h.hdU (j := s + i) (by omega) ?_ (by omega) (sl_a hs)
  rw [sl_c (by omega), cpy_o (show (o * 3 + (He o + Co o) % 3) * 3 + i < (o * 3 + (He o + Co o) % 3) * 3 ∨ (o * 3 + (He o + Co o) % 3) * 3 + i ≤ (o * 3 + (He o + Co o) % 3) * 3 + i by omega)]
  exact sd_dead h1 h2 hi
theorem R_send {p o : Nat} {x g : Int32} {Hd' : Nat → Nat} (h : RR Wo Hd Fr ft Tb Kt hk La He Co Iw Pa Ca (Pg, Wd, Ls, Kp, KPg, KWd, Ms, Il, Cn, Sn)) (hp : p < 3) (ho : o < 3) (hc : Co o < 3) (hfn : fN g + nN g ≤ 8) (hall : ∀ i, i < nN g → ∃ f, Tb (p * 8 + fN g + i) = some f)
    (hpool : Pool (sl Tb Kt (va_cpy Tb (lvL He Co Pa Ca) (p * 8 + fN g) ((o * 3 + (He o + Co o) % 3) * 3) (nN g))) Hd' Fr ft) : PX (sp_send (nI p) (nI o) x g (Pg, Wd, Ls, Kp, KPg, KWd, Ms, Il, Cn, Sn)) (nI (Co o + 1)) (Wo, Hd', Fr, ft, Tb, Kt, hk, La, He, va_up Co o (Co o + 1), va_up Iw (o * 3 + (He o + Co o) % 3) x, va_up Pa (o * 3 + (He o + Co o) % 3) (nN g), va_cpy Tb Ca (p * 8 + fN g) ((o * 3 + (He o + Co o) % 3) * 3) (nN g)) := by
  obtain ⟨h0, h1, h2, h3, h4, h5⟩ := rr_un h
  obtain ⟨m1, m2, m3, -⟩ := h3 o ho
  have hn4 := nN_lt g
  have hPg : ∀ i, i < nN g → Pg (p * 8 + fN g + i) = true := by
    intro i hi
    obtain ⟨f, hf⟩ := hall i hi
    have := (h1 (p * 8 + fN g + i) (by omega)).1
    rw [hf] at this
    exact this.symm
  have e : sp_send (nI p) (nI o) x g (Pg, Wd, Ls, Kp, KPg, KWd, Ms, Il, Cn, Sn) = (nI (Ms o + 1), (Pg, Wd, Ls, Kp, KPg, KWd, va_up Ms o (Ms o + 1), va_up Il (o * 3 + Ms o) x, va_up Cn (o * 3 + Ms o) (nN g), va_cpy Wd Sn (p * 32 + fN g * 4) ((o * 3 + Ms o) * 12) (nN g * 4))) := by
    simp only [sp_send, pz_3 hp, pz_3 ho]
    rw [if_neg (by omega), if_neg (by omega), if_pos hPg]
  refine px2 e (by rw [m1]) (rr_mk ?_ h1 h2 ?_ h4 h5)
  · rw [← sl_eq (sd_L m3 hc (by omega))]
    exact hpool
  · have old : ∀ p' j, p' < 3 → j < Co p' → p' * 3 + (He p' + j) % 3 ≠ (o * 3 + (He o + Co o) % 3) → p' * 3 + j ≠ o * 3 + Ms o → va_up Iw (o * 3 + (He o + Co o) % 3) x (p' * 3 + (He p' + j) % 3) = va_up Il (o * 3 + Ms o) x (p' * 3 + j) ∧ va_up Pa (o * 3 + (He o + Co o) % 3) (nN g) (p' * 3 + (He p' + j) % 3) = va_up Cn (o * 3 + Ms o) (nN g) (p' * 3 + j) ∧ va_up Pa (o * 3 + (He o + Co o) % 3) (nN g) (p' * 3 + (He p' + j) % 3) ≤ 3 ∧
        ∀ i, i < va_up Pa (o * 3 + (He o + Co o) % 3) (nN g) (p' * 3 + (He p' + j) % 3) → ∃ f, va_cpy Tb Ca (p * 8 + fN g) ((o * 3 + (He o + Co o) % 3) * 3) (nN g) ((p' * 3 + (He p' + j) % 3) * 3 + i) = some f ∧ ∀ w, w < 4 → Wo (f * 4 + w) = va_cpy Wd Sn (p * 32 + fN g * 4) ((o * 3 + Ms o) * 12) (nN g * 4) ((p' * 3 + j) * 12 + i * 4 + w) := by
      intro p' j hp' hj n1 n2
      obtain ⟨b1, b2, b3, b4⟩ := h3 p' hp'
      obtain ⟨c1, c2, c3, c4⟩ := b4 j hj
      rw [vu_n n1, vu_n n1, vu_n n2, vu_n n2]
      refine ⟨c1, c2, c3, fun i hi => ?_⟩
      obtain ⟨f, d1, d2⟩ := c4 i hi
      refine ⟨f, ?_, fun w hw => ?_⟩
      · rw [cpy_o (by omega)]
        exact d1
      · rw [cpy_o (by omega)]
        exact d2 w hw
    intro p' hp'
    obtain ⟨b1, b2, b3, b4⟩ := h3 p' hp'
    by_cases hpo : p' = o
    · subst hpo
      rw [vu_s, vu_s]
      refine ⟨by omega, by omega, b3, fun j hj => ?_⟩
      by_cases hjc : j = Co p'
      · subst hjc
        rw [vu_s, vu_s, ← b1, vu_s, vu_s]
        refine ⟨rfl, rfl, by omega, fun i hi => ?_⟩
        obtain ⟨f, hf⟩ := hall i hi
        refine ⟨f, ?_, fun w hw => ?_⟩
        · rw [cpy_i hi]
          exact hf
        · rw [Nat.add_assoc, cpy_i (show i * 4 + w < nN g * 4 by omega), show p * 32 + fN g * 4 + (i * 4 + w) = (p * 8 + fN g + i) * 4 + w by omega]
          exact (h1 _ (by omega)).2 f hf w hw
      · exact old p' j hp' (by omega) (by omega) (by omega)
    · rw [vu_n hpo, vu_n hpo]
      exact ⟨b1, b2, b3, fun j hj => old p' j hp' hj (by omega) (by omega)⟩
theorem rc_L {o : Nat} (h1 : He o < 3) (h2 : Co o ≤ 3) (h3 : 1 ≤ Co o) (hn : Pa (o * 3 + He o) ≤ 3) : ∀ c, c < 27 → va_cpy (fun _ => none) (lvL He Co Pa Ca) 0 ((o * 3 + He o) * 3) (Pa (o * 3 + He o)) c = lvL (va_up He o (if He o = 2 then 0 else He o + 1)) (va_up Co o (Co o - 1)) Pa Ca c := by
  intro c hc
  obtain ⟨p, r, i, hp, hr, hi, rfl⟩ := nine c hc
  by_cases hm : p * 3 + r = o * 3 + He o
  · have hpo : p = o := by omega
    subst hpo
    have hr2 : r = He p := by omega
    subst hr2
    rw [lvL_at hr hi, vu_s, vu_s]
    rw [if_neg (fun z => by have := z.1; split at this <;> omega)]
    by_cases hin : i < Pa (p * 3 + He p)
    · rw [cpy_i hin]
    · rw [cpy_o (show (p * 3 + He p) * 3 + i < (p * 3 + He p) * 3 ∨ (p * 3 + He p) * 3 + Pa (p * 3 + He p) ≤ (p * 3 + He p) * 3 + i by omega), lvL_at hr hi, if_neg (fun z => hin z.2)]
  · rw [cpy_o (show (p * 3 + r) * 3 + i < (o * 3 + He o) * 3 ∨ (o * 3 + He o) * 3 + Pa (o * 3 + He o) ≤ (p * 3 + r) * 3 + i by omega), lvL_at hr hi, lvL_at hr hi]
    by_cases hpo : p = o
    · subst hpo
      rw [vu_s, vu_s]
      have key : ((r + 3 - He p) % 3 < Co p) ↔ ((r + 3 - (if He p = 2 then 0 else He p + 1)) % 3 < Co p - 1) := by
        split <;> omega
      by_cases hc1 : (r + 3 - He p) % 3 < Co p
      · by_cases hc2 : i < Pa (p * 3 + r)
        · rw [if_pos ⟨hc1, hc2⟩, if_pos ⟨key.mp hc1, hc2⟩]
        · rw [if_neg (fun z => hc2 z.2), if_neg (fun z => hc2 z.2)]
      · rw [if_neg (fun z => hc1 z.1), if_neg (fun z => hc1 (key.mpr z.1))]
    · rw [vu_n hpo, vu_n hpo]
theorem rc_live {o i : Nat} (h1 : He o < 3) (h2 : 1 ≤ Co o) (hi : i < Pa (o * 3 + He o)) (h3 : Pa (o * 3 + He o) ≤ 3) : lvL He Co Pa Ca ((o * 3 + He o) * 3 + i) = Ca ((o * 3 + He o) * 3 + i) := by
  rw [lvL_at (by omega) (by omega), if_pos ⟨by omega, hi⟩]
theorem rc_step {o s i : Nat} (h1 : He o < 3) (h2 : 1 ≤ Co o) (ho : o < 3) (hi : i < Pa (o * 3 + He o)) (h3 : Pa (o * 3 + He o) ≤ 3) (hs : s + i < 24) (hf : Tb (s + i) = none) (h : Pool (sl (va_cpy Ca Tb ((o * 3 + He o) * 3) s i) Kt (va_cpy (fun _ => none) (lvL He Co Pa Ca) 0 ((o * 3 + He o) * 3) i)) Hd Fr ft) : Pool (sl (va_cpy Ca Tb ((o * 3 + He o) * 3) s (i + 1)) Kt (va_cpy (fun _ => none) (lvL He Co Pa Ca) 0 ((o * 3 + He o) * 3) (i + 1))) Hd Fr ft := by
  rw [← cpy_s, ← cpy_s (f := fun _ => none), sl_T (by omega), sl_L (by omega)]
  refine h.move (by omega) (by omega) ?_ ?_ (by omega)
  · rw [sl_c (by omega), cpy_o (by omega)]
    exact rc_live h1 h2 hi h3
  · rw [sl_a hs, cpy_o (by omega)]
    exact hf
theorem rc_drop {o i : Nat} (h1 : He o < 3) (h2 : 1 ≤ Co o) (ho : o < 3) (hi : i < Pa (o * 3 + He o)) (h3 : Pa (o * 3 + He o) ≤ 3) : sl Tb Kt (va_cpy (fun _ => none) (lvL He Co Pa Ca) 0 ((o * 3 + He o) * 3) i) (48 + ((o * 3 + He o) * 3 + i)) = Ca ((o * 3 + He o) * 3 + i) := by
  rw [sl_c (by omega), cpy_o (by omega)]
  exact rc_live h1 h2 hi h3
theorem rc_let {o i : Nat} (h1 : He o < 3) (h2 : 1 ≤ Co o) (ho : o < 3) (hi : i < Pa (o * 3 + He o)) (h3 : Pa (o * 3 + He o) ≤ 3) (h : Pool (sl Tb Kt (va_cpy (fun _ => none) (lvL He Co Pa Ca) 0 ((o * 3 + He o) * 3) i)) Hd Fr ft) : Pool (sl Tb Kt (va_cpy (fun _ => none) (lvL He Co Pa Ca) 0 ((o * 3 + He o) * 3) (i + 1))) (lgo (Ca ((o * 3 + He o) * 3 + i)) Hd Fr ft).1 (lgo (Ca ((o * 3 + He o) * 3 + i)) Hd Fr ft).2.1 (lgo (Ca ((o * 3 + He o) * 3 + i)) Hd Fr ft).2.2 := by
  rw [← cpy_s (f := fun _ => none), sl_L (by omega)]
  exact h.lgo (by omega) (rc_drop h1 h2 ho hi h3)
theorem R_recv {p o q : Nat} (h : RR Wo Hd Fr ft Tb Kt hk La He Co Iw Pa Ca (Pg, Wd, Ls, Kp, KPg, KWd, Ms, Il, Cn, Sn)) (hp : p < 3) (ho : o < 3) (hq : q < 8) (hc : 1 ≤ Co o) (hfn : q + Pa (o * 3 + He o) ≤ 8) (hall : ∀ i, i < Pa (o * 3 + He o) → Tb (p * 8 + q + i) = none)
    (hpool : Pool (sl (va_cpy Ca Tb ((o * 3 + He o) * 3) (p * 8 + q) (Pa (o * 3 + He o))) Kt (va_cpy (fun _ => none) (lvL He Co Pa Ca) 0 ((o * 3 + He o) * 3) (Pa (o * 3 + He o)))) Hd Fr ft) : PX (sp_receive (nI p) (nI o) (nI q) (Pg, Wd, Ls, Kp, KPg, KWd, Ms, Il, Cn, Sn)) (nI (Pa (o * 3 + He o))) (Wo, Hd, Fr, ft, va_cpy Ca Tb ((o * 3 + He o) * 3) (p * 8 + q) (Pa (o * 3 + He o)), Kt, hk, va_up La p (Iw (o * 3 + He o)), va_up He o (if He o = 2 then 0 else He o + 1), va_up Co o (Co o - 1), Iw, Pa, Ca) := by
  obtain ⟨h0, h1, h2, h3, h4, h5⟩ := rr_un h
  obtain ⟨m1, m2, m3, m4⟩ := h3 o ho
  obtain ⟨k1, k2, k3, k4⟩ := m4 0 (by omega)
  have e0 : (He o + 0) % 3 = He o := by omega
  rw [e0] at k1 k2 k3 k4
  rw [Nat.add_zero] at k1 k2 k4
  have hPg : ∀ i, i < Cn (o * 3) → Pg (p * 8 + q + i) = false := by
    intro i hi
    have := (h1 (p * 8 + q + i) (by omega)).1
    rw [hall i (by omega)] at this
    exact this.symm
  have e : sp_receive (nI p) (nI o) (nI q) (Pg, Wd, Ls, Kp, KPg, KWd, Ms, Il, Cn, Sn) = (nI (Cn (o * 3)), (va_cpy (fun _ => true) Pg 0 (p * 8 + q) (Cn (o * 3)), va_cpy Sn Wd (o * 3 * 12) (p * 32 + q * 4) (Cn (o * 3) * 4), va_up Ls p (Il (o * 3)), Kp, KPg, KWd, va_up Ms o (Ms o - 1), va_cpy Il Il (o * 3 + 1) (o * 3) 2, va_cpy Cn Cn (o * 3 + 1) (o * 3) 2, va_cpy Sn Sn (o * 36 + 12) (o * 36) 24)) := by
    simp only [sp_receive, pz_3 hp, pz_3 ho]
    rw [if_neg (by omega)]
    simp only [pz_8 hq]
    rw [if_neg (by omega), if_pos hPg]
  refine px2 e (by rw [k2]) (rr_mk ?_ ?_ h2 ?_ ?_ h5)
  · rw [← sl_eq (rc_L m3 m2 hc k3)]
    exact hpool
  · intro k hk
    rw [← k2]
    by_cases hkk : p * 8 + q ≤ k ∧ k < p * 8 + q + Pa (o * 3 + He o)
    · obtain ⟨i, hi, rfl⟩ : ∃ i, i < Pa (o * 3 + He o) ∧ k = p * 8 + q + i := ⟨k - (p * 8 + q), by omega, by omega⟩
      obtain ⟨f, d1, d2⟩ := k4 i hi
      rw [cpy_i hi, cpy_i hi, d1]
      refine ⟨rfl, fun f' hf' w hw => ?_⟩
      cases hf'
      rw [show (p * 8 + q + i) * 4 + w = p * 32 + q * 4 + (i * 4 + w) by omega, cpy_i (show i * 4 + w < Pa (o * 3 + He o) * 4 by omega), ← Nat.add_assoc]
      exact d2 w hw
    · rw [cpy_o (show k < p * 8 + q ∨ p * 8 + q + Pa (o * 3 + He o) ≤ k by omega), cpy_o (show k < p * 8 + q ∨ p * 8 + q + Pa (o * 3 + He o) ≤ k by omega)]
      obtain ⟨a, b⟩ := h1 k hk
      refine ⟨a, fun f hf i hi => ?_⟩
      rw [cpy_o (show k * 4 + i < p * 32 + q * 4 ∨ p * 32 + q * 4 + Pa (o * 3 + He o) * 4 ≤ k * 4 + i by omega)]
      exact b f hf i hi
  · intro p' hp'
    obtain ⟨b1, b2, b3, b4⟩ := h3 p' hp'
    by_cases hpo : p' = o
    · subst hpo
      rw [vu_s, vu_s, vu_s]
      have hh : (if He p' = 2 then 0 else He p' + 1) < 3 := by split <;> omega
      refine ⟨by omega, by omega, hh, fun j hj => ?_⟩
      have e1 : ((if He p' = 2 then 0 else He p' + 1) + j) % 3 = (He p' + (j + 1)) % 3 := by split <;> omega
      rw [e1]
      obtain ⟨c1, c2, c3, c4⟩ := b4 (j + 1) (by omega)
      rw [cpy_i (show j < 2 by omega), cpy_i (show j < 2 by omega)]
      refine ⟨?_, ?_, c3, fun i hi => ?_⟩
      · rw [show p' * 3 + 1 + j = p' * 3 + (j + 1) by omega]
        exact c1
      · rw [show p' * 3 + 1 + j = p' * 3 + (j + 1) by omega]
        exact c2
      · obtain ⟨f, d1, d2⟩ := c4 i hi
        refine ⟨f, d1, fun w hw => ?_⟩
        rw [show (p' * 3 + j) * 12 + i * 4 + w = p' * 36 + (j * 12 + i * 4 + w) by omega, cpy_i (show j * 12 + i * 4 + w < 24 by omega), show p' * 36 + 12 + (j * 12 + i * 4 + w) = (p' * 3 + (j + 1)) * 12 + i * 4 + w by omega]
        exact d2 w hw
    · rw [vu_n hpo, vu_n hpo, vu_n hpo]
      refine ⟨b1, b2, b3, fun j hj => ?_⟩
      obtain ⟨c1, c2, c3, c4⟩ := b4 j hj
      rw [cpy_o (show p' * 3 + j < o * 3 ∨ o * 3 + 2 ≤ p' * 3 + j by omega), cpy_o (show p' * 3 + j < o * 3 ∨ o * 3 + 2 ≤ p' * 3 + j by omega)]
      refine ⟨c1, c2, c3, fun i hi => ?_⟩
      obtain ⟨f, d1, d2⟩ := c4 i hi
      refine ⟨f, d1, fun w hw => ?_⟩
      rw [cpy_o (show (p' * 3 + j) * 12 + i * 4 + w < o * 36 ∨ o * 36 + 24 ≤ (p' * 3 + j) * 12 + i * 4 + w by omega)]
      exact d2 w hw
  · intro p' hp'
    by_cases hpp : p' = p
    · subst hpp
      exact vu_s.trans (k1.trans vu_s.symm)
    · exact (vu_n hpp).trans ((h4 p' hp').trans (vu_n hpp).symm)
theorem R_drain {o h' : Nat} {Hd' Fr' : Nat → Nat} {ft' : Nat} (h : RR Wo Hd Fr ft Tb Kt hk La He Co Iw Pa Ca (Pg, Wd, Ls, Kp, KPg, KWd, Ms, Il, Cn, Sn)) (ho : o < 3) (hh : h' < 3) (hpool : Pool (sl Tb Kt (lvL (va_up He o h') (va_up Co o 0) Pa Ca)) Hd' Fr' ft') : PX (sp_drain (nI o) (Pg, Wd, Ls, Kp, KPg, KWd, Ms, Il, Cn, Sn)) (nI (Co o)) (Wo, Hd', Fr', ft', Tb, Kt, hk, La, va_up He o h', va_up Co o 0, Iw, Pa, Ca) := by
  obtain ⟨h0, h1, h2, h3, h4, h5⟩ := rr_un h
  have e : sp_drain (nI o) (Pg, Wd, Ls, Kp, KPg, KWd, Ms, Il, Cn, Sn) = (nI (Ms o), (Pg, Wd, Ls, Kp, KPg, KWd, va_up Ms o 0, Il, Cn, Sn)) := by simp [sp_drain, pz_3 ho]
  refine px2 e (by rw [(h3 o ho).1]) (rr_mk hpool h1 h2 ?_ h4 h5)
  intro p' hp'
  obtain ⟨b1, b2, b3, b4⟩ := h3 p' hp'
  by_cases hpo : p' = o
  · subst hpo
    rw [vu_s, vu_s, vu_s]
    exact ⟨rfl, by omega, hh, fun j hj => absurd hj (by omega)⟩
  · rw [vu_n hpo, vu_n hpo, vu_n hpo]
    exact ⟨b1, b2, b3, b4⟩
theorem dr_step {o k : Nat} (h1 : He o < 3) (h2 : Co o ≤ 3) (hk : k < Co o) (hn : Pa (o * 3 + (He o + k) % 3) ≤ 3) (h : Pool (sl Tb Kt (va_cpy (fun _ => none) (lvL (va_up He o ((He o + k) % 3)) (va_up Co o (Co o - k)) Pa Ca) 0 ((o * 3 + (He o + k) % 3) * 3) (Pa (o * 3 + (He o + k) % 3)))) Hd Fr ft) :
    Pool (sl Tb Kt (lvL (va_up He o ((He o + (k + 1)) % 3)) (va_up Co o (Co o - (k + 1))) Pa Ca)) Hd Fr ft := by
  have r := rc_L (He := va_up He o ((He o + k) % 3)) (Co := va_up Co o (Co o - k)) (Pa := Pa) (Ca := Ca) (o := o) (by rw [vu_s]; omega) (by rw [vu_s]; omega) (by rw [vu_s]; omega) (by rw [vu_s]; exact hn)
  rw [vu_s, vu_s, bx_uu, bx_uu] at r
  rw [sl_eq r] at h
  have e1 : (if (He o + k) % 3 = 2 then 0 else (He o + k) % 3 + 1) = (He o + (k + 1)) % 3 := by split <;> omega
  have e2 : Co o - k - 1 = Co o - (k + 1) := by omega
  rw [e1, e2] at h
  exact h
end OQ
end
section
/-! the component: clearTable, clearKept -/
section XM
variable {l : Launch} {D : va_G} {ad : Nat → Nat} {cI cZ : ClassId} {sz : Nat}
variable {Wo : Nat → Int32} {Hd : Nat → Nat} {Fr : Nat → Nat} {ft : Nat} {Tb : Nat → Option Nat} {Kt : Nat → Option Nat} {hk : Nat → Bool} {La : Nat → Int32} {He : Nat → Nat} {Co : Nat → Nat} {Iw : Nat → Int32} {Pa : Nat → Nat} {Ca : Nat → Option Nat}
variable {Pg : Nat → Bool} {Wd : Nat → Int32} {Ls : Nat → Int32} {Kp : Nat → Bool} {KPg : Nat → Bool} {KWd : Nat → Int32} {Ms : Nat → Nat} {Il : Nat → Int32} {Cn : Nat → Nat} {Sn : Nat → Int32}
theorem rr_tb {v : MS} (h : RR Wo Hd Fr ft Tb Kt hk La He Co Iw Pa Ca v) : ∀ k, k < 24 → ∀ f, Tb k = some f → f < 80 := fun k hk f hf => h.1.1 k (by omega) f (by rw [sl_a hk]; exact hf)
theorem pg_s {k f : Nat} (h : RR Wo Hd Fr ft Tb Kt hk La He Co Iw Pa Ca (Pg, Wd, Ls, Kp, KPg, KWd, Ms, Il, Cn, Sn)) (hk0 : k < 24) (ht : Tb k = some f) : Pg k = true := by
  have := (h.2.1 k hk0).1
  rw [ht] at this
  exact this.symm
theorem pg_n {k : Nat} (h : RR Wo Hd Fr ft Tb Kt hk La He Co Iw Pa Ca (Pg, Wd, Ls, Kp, KPg, KWd, Ms, Il, Cn, Sn)) (hk0 : k < 24) (ht : Tb k = none) : Pg k = false := by
  have := (h.2.1 k hk0).1
  rw [ht] at this
  exact this.symm
set_option maxHeartbeats 4000000 in
set_option maxRecDepth 100000 in
theorem cX_clearTable (L : Nat → Option Nat) (pn : Nat) (hp : pn < 3) (hpool : Pool (sl Tb Kt L) Hd Fr ft) : KV l D cI cZ yX0_clearTable cX0_clearTable 3 r1 [.ref (ad 0), .int (nI pn)] (wX ad cI cZ Wo Hd Fr ft Tb Kt hk La He Co Iw Pa Ca) sz (fun (u : (Nat → Nat) × (Nat → Nat) × Nat) => Pool (sl (va_cpy (fun _ => none) Tb 0 (pn * 8) 8) Kt L) u.1 u.2.1 u.2.2) (fun u => wX ad cI cZ Wo (u.1) (u.2.1) (u.2.2) (va_cpy (fun _ => none) Tb 0 (pn * 8) 8) Kt hk La He Co Iw Pa Ca) := by
  refine fw_v (by decide) (Nat.le_of_ble_eq_true rfl) ?_
  intro p e s m below meth c A Q ls args hx hb hml hts hown hK hP hD hS hA hl hret
  have hown : s.vm.findClass RX0 = some m.cls := hown
  have hl : lv_has ls 3 [(0, .ref (ad 0)), (1, .int (nI pn))] := hl
  refine lv_iconst (v := nI 0) hx hb dX0_clearTable_0 (by decide) ?_
  refine zi_stn hx hb dX0_clearTable_1 rfl hl (by decide) (fun ls hl => ?_)
  have hloop2 : ∀ (n : Nat) (i : Nat) (Hd : Nat → Nat) (Fr : Nat → Nat) (ft : Nat) (H : Heap) (locs : List Loc) (ls : Array Slot), i ≤ 8 → 8 + 1 ≤ i + n → True → Pool (sl (va_cpy (fun _ => none) Tb 0 (pn * 8) i) Kt L) Hd Fr ft → va_P D vCl (wX ad cI cZ Wo Hd Fr ft (va_cpy (fun _ => none) Tb 0 (pn * 8) i) Kt hk La He Co Iw Pa Ca) H → va_D A (wX ad cI cZ Wo Hd Fr ft (va_cpy (fun _ => none) Tb 0 (pn * 8) i) Kt hk La He Co Iw Pa Ca) → va_S A s.heap H locs → lv_has ls 3 [(0, .ref (ad 0)), (1, .int (nI pn)), (2, .int (nI i))] → W p l e r1 s m args below meth c H locs 0 0 Q (F0 m 2 ls []) := by
    intro n2
    induction n2 with
    | zero => intro i Hd Fr ft H locs ls hi hn; exact absurd hn (by omega)
    | succ n2 ih2 =>
      intro i Hd Fr ft H locs ls hi hn _ hI hP hD hS hl
      refine lv_iload_n hx hb dX0_clearTable_2 rfl (lv_at hl 2 rfl) ?_
      refine lv_bipush (v := nI 8) hx hb dX0_clearTable_3 (by decide) ?_
      refine zi_ge (tgt := 41) hx hb (by omega) (by omega) dX0_clearTable_5 (by decide) (fun h5 => ?_) (fun h5 => ?_)
      · skip
        have e8 : i = 8 := by omega
        subst e8
        exact hret (Hd, Fr, ft) _ _ _ _ dX0_clearTable_41 hI hP hD hS
      · skip
        have hsl : (sl (va_cpy (fun _ => none) Tb 0 (pn * 8) i) Kt L) (pn * 8 + i) = Tb (pn * 8 + i) := by rw [sl_a (by omega), cpy_o (show pn * 8 + i < pn * 8 ∨ pn * 8 + i ≤ pn * 8 + i by omega)]
        refine lv_aload_n hx hb dX0_clearTable_8 rfl (lv_at hl 0 rfl) ?_
        refine lv_aload_n hx hb dX0_clearTable_9 rfl (lv_at hl 0 rfl) ?_
        refine gX_Tb hx hb hts hown hK hP dX0_clearTable_10 ?_
        refine lv_iload_n hx hb dX0_clearTable_13 rfl (lv_at hl 1 rfl) ?_
        refine lv_bipush (v := nI 8) hx hb dX0_clearTable_14 (by decide) ?_
        refine zi_mul hx hb dX0_clearTable_16 ?_
        refine lv_iload_n hx hb dX0_clearTable_17 rfl (lv_at hl 2 rfl) ?_
        refine zi_add hx hb dX0_clearTable_18 ?_
        refine lX_Tb hx hb hK hP (by omega) dX0_clearTable_19 ?_
        rw [cpy_o (show pn * 8 + i < pn * 8 ∨ pn * 8 + i ≤ pn * 8 + i by omega)]
        refine zc_v (ci := 0) (q0 := 0) ⟨hx, hb, hml, hown, hts⟩ hK hP hD hS hA (cX_letGo (Tb (pn * 8 + i)) (hI.lg (k := pn * 8 + i) (by omega) hsl)) (kX_letGo hts ⟨by decide, by decide⟩) rfl rfl rfl rfl hl.1 rfl (Nat.le_of_ble_eq_true rfl) dX0_clearTable_20 ⟨Nat.le_refl _, Nat.le_refl _⟩ (fun u2 H locs hw hP hD hS => ?_)
        refine lv_aload_n hx hb dX0_clearTable_23 rfl (lv_at hl 0 rfl) ?_
        refine gX_Tb hx hb hts hown hK hP dX0_clearTable_24 ?_
        refine lv_iload_n hx hb dX0_clearTable_27 rfl (lv_at hl 1 rfl) ?_
        refine lv_bipush (v := nI 8) hx hb dX0_clearTable_28 (by decide) ?_
        refine zi_mul hx hb dX0_clearTable_30 ?_
        refine lv_iload_n hx hb dX0_clearTable_31 rfl (lv_at hl 2 rfl) ?_
        refine zi_add hx hb dX0_clearTable_32 ?_
        refine lv_iconst (v := oN none) hx hb dX0_clearTable_33 (by decide) ?_
        refine sX_Tb (v := none) hx hb hK hP hD hS (by omega) dX0_clearTable_34 (fun H locs hP hD hS => ?_)
        refine zi_inc hx hb dX0_clearTable_35 hl (k := 2) rfl (by decide) (fun ls hl => ?_)
        refine lv_goto (tgt := 2) hx hb dX0_clearTable_38 (by decide) ?_
        have hI2 : Pool (sl (va_cpy (fun _ => none) Tb 0 (pn * 8) (i + 1)) Kt L) u2.1 u2.2.1 u2.2.2 := by
          rw [hw, ← cpy_s (f := fun _ => none), sl_T (by omega)]
          exact hI.lgo (by omega) hsl
        rw [cpy_s (f := fun _ => none)] at hP hD
        exact ih2 (i + 1) u2.1 u2.2.1 u2.2.2 _ _ _ (by omega) (by omega) trivial hI2 hP hD hS (lv_sub hl [1, 2, 0] rfl)
  exact hloop2 (8 + 1) 0 Hd Fr ft _ _ _ (by omega) (by omega) trivial (by rw [cpy_0]; exact hpool) (by rw [cpy_0]; exact hP) (by rw [cpy_0]; exact hD) hS (lv_sub hl [1, 2, 0] rfl)
set_option maxHeartbeats 4000000 in
set_option maxRecDepth 100000 in
theorem cX_clearKept (L : Nat → Option Nat) (pn : Nat) (hp : pn < 3) (hpool : Pool (sl Tb Kt L) Hd Fr ft) : KV l D cI cZ yX0_clearKept cX0_clearKept 3 r1 [.ref (ad 0), .int (nI pn)] (wX ad cI cZ Wo Hd Fr ft Tb Kt hk La He Co Iw Pa Ca) sz (fun (u : (Nat → Nat) × (Nat → Nat) × Nat) => Pool (sl Tb (va_cpy (fun _ => none) Kt 0 (pn * 8) 8) L) u.1 u.2.1 u.2.2) (fun u => wX ad cI cZ Wo (u.1) (u.2.1) (u.2.2) Tb (va_cpy (fun _ => none) Kt 0 (pn * 8) 8) (va_up hk pn false) La He Co Iw Pa Ca) := by
  refine fw_v (by decide) (Nat.le_of_ble_eq_true rfl) ?_
  intro p e s m below meth c A Q ls args hx hb hml hts hown hK hP hD hS hA hl hret
  have hown : s.vm.findClass RX0 = some m.cls := hown
  have hl : lv_has ls 3 [(0, .ref (ad 0)), (1, .int (nI pn))] := hl
  refine lv_iconst (v := nI 0) hx hb dX0_clearKept_0 (by decide) ?_
  refine zi_stn hx hb dX0_clearKept_1 rfl hl (by decide) (fun ls hl => ?_)
  have hloop2 : ∀ (n : Nat) (i : Nat) (Hd : Nat → Nat) (Fr : Nat → Nat) (ft : Nat) (H : Heap) (locs : List Loc) (ls : Array Slot), i ≤ 8 → 8 + 1 ≤ i + n → True → Pool (sl Tb (va_cpy (fun _ => none) Kt 0 (pn * 8) i) L) Hd Fr ft → va_P D vCl (wX ad cI cZ Wo Hd Fr ft Tb (va_cpy (fun _ => none) Kt 0 (pn * 8) i) hk La He Co Iw Pa Ca) H → va_D A (wX ad cI cZ Wo Hd Fr ft Tb (va_cpy (fun _ => none) Kt 0 (pn * 8) i) hk La He Co Iw Pa Ca) → va_S A s.heap H locs → lv_has ls 3 [(0, .ref (ad 0)), (1, .int (nI pn)), (2, .int (nI i))] → W p l e r1 s m args below meth c H locs 0 0 Q (F0 m 2 ls []) := by
    intro n2
    induction n2 with
    | zero => intro i Hd Fr ft H locs ls hi hn; exact absurd hn (by omega)
    | succ n2 ih2 =>
      intro i Hd Fr ft H locs ls hi hn _ hI hP hD hS hl
      refine lv_iload_n hx hb dX0_clearKept_2 rfl (lv_at hl 2 rfl) ?_
      refine lv_bipush (v := nI 8) hx hb dX0_clearKept_3 (by decide) ?_
      refine zi_ge (tgt := 41) hx hb (by omega) (by omega) dX0_clearKept_5 (by decide) (fun h5 => ?_) (fun h5 => ?_)
      · skip
        refine lv_aload_n hx hb dX0_clearKept_41 rfl (lv_at hl 0 rfl) ?_
        refine gX_hk hx hb hts hown hK hP dX0_clearKept_42 ?_
        refine lv_iload_n hx hb dX0_clearKept_45 rfl (lv_at hl 1 rfl) ?_
        refine lv_iconst (v := bI false) hx hb dX0_clearKept_46 (by decide) ?_
        refine sX_hk hx hb hK hP hD hS (by omega) dX0_clearKept_47 (fun H locs hP hD hS => ?_)
        have e8 : i = 8 := by omega
        subst e8
        exact hret (Hd, Fr, ft) _ _ _ _ dX0_clearKept_48 hI hP hD hS
      · skip
        have hsl : (sl Tb (va_cpy (fun _ => none) Kt 0 (pn * 8) i) L) (24 + (pn * 8 + i)) = Kt (pn * 8 + i) := by rw [sl_b (by omega), cpy_o (show pn * 8 + i < pn * 8 ∨ pn * 8 + i ≤ pn * 8 + i by omega)]
        refine lv_aload_n hx hb dX0_clearKept_8 rfl (lv_at hl 0 rfl) ?_
        refine lv_aload_n hx hb dX0_clearKept_9 rfl (lv_at hl 0 rfl) ?_
        refine gX_Kt hx hb hts hown hK hP dX0_clearKept_10 ?_
        refine lv_iload_n hx hb dX0_clearKept_13 rfl (lv_at hl 1 rfl) ?_
        refine lv_bipush (v := nI 8) hx hb dX0_clearKept_14 (by decide) ?_
        refine zi_mul hx hb dX0_clearKept_16 ?_
        refine lv_iload_n hx hb dX0_clearKept_17 rfl (lv_at hl 2 rfl) ?_
        refine zi_add hx hb dX0_clearKept_18 ?_
        refine lX_Kt hx hb hK hP (by omega) dX0_clearKept_19 ?_
        rw [cpy_o (show pn * 8 + i < pn * 8 ∨ pn * 8 + i ≤ pn * 8 + i by omega)]
        refine zc_v (ci := 0) (q0 := 0) ⟨hx, hb, hml, hown, hts⟩ hK hP hD hS hA (cX_letGo (Kt (pn * 8 + i)) (hI.lg (k := 24 + (pn * 8 + i)) (by omega) hsl)) (kX_letGo hts ⟨by decide, by decide⟩) rfl rfl rfl rfl hl.1 rfl (Nat.le_of_ble_eq_true rfl) dX0_clearKept_20 ⟨Nat.le_refl _, Nat.le_refl _⟩ (fun u2 H locs hw hP hD hS => ?_)
        refine lv_aload_n hx hb dX0_clearKept_23 rfl (lv_at hl 0 rfl) ?_
        refine gX_Kt hx hb hts hown hK hP dX0_clearKept_24 ?_
        refine lv_iload_n hx hb dX0_clearKept_27 rfl (lv_at hl 1 rfl) ?_
        refine lv_bipush (v := nI 8) hx hb dX0_clearKept_28 (by decide) ?_
        refine zi_mul hx hb dX0_clearKept_30 ?_
        refine lv_iload_n hx hb dX0_clearKept_31 rfl (lv_at hl 2 rfl) ?_
        refine zi_add hx hb dX0_clearKept_32 ?_
        refine lv_iconst (v := oN none) hx hb dX0_clearKept_33 (by decide) ?_
        refine sX_Kt (v := none) hx hb hK hP hD hS (by omega) dX0_clearKept_34 (fun H locs hP hD hS => ?_)
        refine zi_inc hx hb dX0_clearKept_35 hl (k := 2) rfl (by decide) (fun ls hl => ?_)
        refine lv_goto (tgt := 2) hx hb dX0_clearKept_38 (by decide) ?_
        have hI2 : Pool (sl Tb (va_cpy (fun _ => none) Kt 0 (pn * 8) (i + 1)) L) u2.1 u2.2.1 u2.2.2 := by
          rw [hw, ← cpy_s (f := fun _ => none), sl_K (by omega)]
          exact hI.lgo (by omega) hsl
        rw [cpy_s (f := fun _ => none)] at hP hD
        exact ih2 (i + 1) u2.1 u2.2.1 u2.2.2 _ _ _ (by omega) (by omega) trivial hI2 hP hD hS (lv_sub hl [1, 2, 0] rfl)
  exact hloop2 (8 + 1) 0 Hd Fr ft _ _ _ (by omega) (by omega) trivial (by rw [cpy_0]; exact hpool) (by rw [cpy_0]; exact hP) (by rw [cpy_0]; exact hD) hS (lv_sub hl [1, 2, 0] rfl)
end XM
end
section
/-! the component's public methods -/
section XP
variable {l : Launch} {D : va_G} {ad : Nat → Nat} {cI cZ : ClassId} {sz : Nat}
set_option maxHeartbeats 4000000 in
set_option maxRecDepth 100000 in
theorem cX_map (u : XS) (v : MS) (hR : RRt u v) (a b : Int32) : KI l D cI cZ yX0_map cX0_map 4 r2 [.ref (ad 0), .int a, .int b] (wXt ad cI cZ u) sz (PX (sp_map a b v)) (wXt ad cI cZ) := by
  obtain ⟨Pg, Wd, Ls, Kp, KPg, KWd, Ms, Il, Cn, Sn⟩ := v
  obtain ⟨Wo, Hd, Fr, ft, Tb, Kt, hk, La, He, Co, Iw, Pa, Ca⟩ := u
  have hR : RR Wo Hd Fr ft Tb Kt hk La He Co Iw Pa Ca (Pg, Wd, Ls, Kp, KPg, KWd, Ms, Il, Cn, Sn) := hR
  refine fw_i (by decide) (Nat.le_of_ble_eq_true rfl) ?_
  intro p e s m below meth c A Q ls args hx hb hml hts hown hK hP hD hS hA hl hret
  have hown : s.vm.findClass RX0 = some m.cls := hown
  have hP : va_P D vCl (wX ad cI cZ Wo Hd Fr ft Tb Kt hk La He Co Iw Pa Ca) s.heap := hP
  have hD : va_D A (wX ad cI cZ Wo Hd Fr ft Tb Kt hk La He Co Iw Pa Ca) := hD
  have hl : lv_has ls 4 [(0, .ref (ad 0)), (1, .int a), (2, .int b)] := hl
  refine lv_iload_n hx hb dX0_map_0 rfl (lv_at hl 1 rfl) ?_
  refine zs_b ⟨hx, hb, hml, hown, hts⟩ hP hS (cX_badNumber l a) (kX_badNumber hts ⟨by decide, by decide⟩) rfl hl.1 rfl (Nat.le_of_ble_eq_true rfl) dX0_map_1 ⟨Nat.le_refl _, Nat.le_refl _⟩ (fun r H locs hw hP hS => ?_)
  rcases hw with ⟨rfl, hq1⟩ | ⟨rfl, pn, hq1, rfl⟩
  · skip
    refine lv_if_eq (tgt := 9) hx hb dX0_map_4 (by decide) (fun h9 => absurd h9 (by decide)) (fun h9 => ?_)
    refine lv_iconst (v := (-1)) hx hb dX0_map_7 (by decide) ?_
    exact hret (-1) (Wo, Hd, Fr, ft, Tb, Kt, hk, La, He, Co, Iw, Pa, Ca) _ _ _ _ dX0_map_8 (px (by simp [sp_map, pz_b hq1]) hR) hP hD hS
  · skip
    refine lv_if_eq (tgt := 9) hx hb dX0_map_4 (by decide) (fun h9 => ?_) (fun h9 => absurd rfl h9)
    refine lv_iload_n hx hb dX0_map_9 rfl (lv_at hl 2 rfl) ?_
    refine zs_b ⟨hx, hb, hml, hown, hts⟩ hP hS (cX_badPage l b) (kX_badPage hts ⟨by decide, by decide⟩) rfl hl.1 rfl (Nat.le_of_ble_eq_true rfl) dX0_map_10 ⟨Nat.le_refl _, Nat.le_refl _⟩ (fun r H locs hw hP hS => ?_)
    rcases hw with ⟨rfl, hq10⟩ | ⟨rfl, qn, hq10, rfl⟩
    · skip
      refine lv_if_eq (tgt := 19) hx hb dX0_map_13 (by decide) (fun h9 => absurd h9 (by decide)) (fun h9 => ?_)
      refine lv_bipush (v := (-2)) hx hb dX0_map_16 (by decide) ?_
      exact hret (-2) (Wo, Hd, Fr, ft, Tb, Kt, hk, La, He, Co, Iw, Pa, Ca) _ _ _ _ dX0_map_18 (px (by simp [sp_map, pz_3 hq1, pz_b hq10]) hR) hP hD hS
    · skip
      refine lv_if_eq (tgt := 19) hx hb dX0_map_13 (by decide) (fun h9 => ?_) (fun h9 => absurd rfl h9)
      refine lv_iload_n hx hb dX0_map_19 rfl (lv_at hl 1 rfl) ?_
      refine lv_bipush (v := nI 8) hx hb dX0_map_20 (by decide) ?_
      refine zi_mul hx hb dX0_map_22 ?_
      refine lv_iload_n hx hb dX0_map_23 rfl (lv_at hl 2 rfl) ?_
      refine zi_add hx hb dX0_map_24 ?_
      refine zi_stn hx hb dX0_map_25 rfl hl (by decide) (fun ls hl => ?_)
      refine lv_aload_n hx hb dX0_map_26 rfl (lv_at hl 1 rfl) ?_
      refine gX_Tb hx hb hts hown hK hP dX0_map_27 ?_
      refine lv_iload_n hx hb dX0_map_30 rfl (lv_at hl 0 rfl) ?_
      refine lX_Tb hx hb hK hP (by omega) dX0_map_31 ?_
      rcases hT31 : Tb (pn * 8 + qn) with _ | f
      · skip
        refine zo_iflt (tgt := 38) hx hb dX0_map_32 (by decide) ?_
        refine lv_aload_n hx hb dX0_map_38 rfl (lv_at hl 1 rfl) ?_
        refine gX_Tb hx hb hts hown hK hP dX0_map_39 ?_
        refine lv_iload_n hx hb dX0_map_42 rfl (lv_at hl 0 rfl) ?_
        refine lv_aload_n hx hb dX0_map_43 rfl (lv_at hl 1 rfl) ?_
        refine lv_iconst (v := nI 0) hx hb dX0_map_44 (by decide) ?_
        refine zc_i (ci := 0) (q0 := 0) ⟨hx, hb, hml, hown, hts⟩ hK hP hD hS hA (cX_hold (some 0) (fun f hf => by cases hf; decide)) (kX_hold hts ⟨by decide, by decide⟩) rfl rfl rfl rfl hl.1 rfl (Nat.le_of_ble_eq_true rfl) dX0_map_45 ⟨Nat.le_refl _, Nat.le_refl _⟩ (fun r u2 H locs hw hP hD hS => ?_)
        obtain ⟨rfl, rfl⟩ := hw
        refine sX_Tb hx hb hK hP hD hS (by omega) dX0_map_48 (fun H locs hP hD hS => ?_)
        have hX := R_map hR hq1 hq10 hT31
        refine lv_aload_n hx hb dX0_map_49 rfl (lv_at hl 1 rfl) ?_
        refine lv_iload_n hx hb dX0_map_50 rfl (lv_at hl 2 rfl) ?_
        refine zc_i (ci := 0) (q0 := 0) ⟨hx, hb, hml, hown, hts⟩ hK hP hD hS hA (cX_mappedPages _ hq1 (rr_tb hX.2)) (kX_mappedPages hts ⟨by decide, by decide⟩) rfl rfl rfl rfl hl.1 rfl (Nat.le_of_ble_eq_true rfl) dX0_map_51 ⟨Nat.le_refl _, Nat.le_refl _⟩ (fun r u2 H locs hw hP hD hS => ?_)
        subst hw
        exact hret _ (Wo, hdU Hd (some 0), Fr, ft, va_up Tb (pn * 8 + qn) (some 0), Kt, hk, La, He, Co, Iw, Pa, Ca) _ _ _ _ dX0_map_54 hX hP hD hS
      · refine zo_top ?_
        have hf := rr_tb hR _ (by omega) f hT31
        have hg := pg_s hR (by omega) hT31
        refine zi_iflt (tgt := 38) hx hb (by omega) dX0_map_32 (by decide) ?_
        refine lv_bipush (v := (-3)) hx hb dX0_map_35 (by decide) ?_
        exact hret (-3) (Wo, Hd, Fr, ft, Tb, Kt, hk, La, He, Co, Iw, Pa, Ca) _ _ _ _ dX0_map_37 (px (by simp [sp_map, pz_3 hq1, pz_8 hq10, hg]) hR) hP hD hS
set_option maxHeartbeats 4000000 in
set_option maxRecDepth 100000 in
theorem cX_unmap (u : XS) (v : MS) (hR : RRt u v) (a b : Int32) : KI l D cI cZ yX0_unmap cX0_unmap 4 r2 [.ref (ad 0), .int a, .int b] (wXt ad cI cZ u) sz (PX (sp_unmap a b v)) (wXt ad cI cZ) := by
  obtain ⟨Pg, Wd, Ls, Kp, KPg, KWd, Ms, Il, Cn, Sn⟩ := v
  obtain ⟨Wo, Hd, Fr, ft, Tb, Kt, hk, La, He, Co, Iw, Pa, Ca⟩ := u
  have hR : RR Wo Hd Fr ft Tb Kt hk La He Co Iw Pa Ca (Pg, Wd, Ls, Kp, KPg, KWd, Ms, Il, Cn, Sn) := hR
  refine fw_i (by decide) (Nat.le_of_ble_eq_true rfl) ?_
  intro p e s m below meth c A Q ls args hx hb hml hts hown hK hP hD hS hA hl hret
  have hown : s.vm.findClass RX0 = some m.cls := hown
  have hP : va_P D vCl (wX ad cI cZ Wo Hd Fr ft Tb Kt hk La He Co Iw Pa Ca) s.heap := hP
  have hD : va_D A (wX ad cI cZ Wo Hd Fr ft Tb Kt hk La He Co Iw Pa Ca) := hD
  have hl : lv_has ls 4 [(0, .ref (ad 0)), (1, .int a), (2, .int b)] := hl
  refine lv_iload_n hx hb dX0_unmap_0 rfl (lv_at hl 1 rfl) ?_
  refine zs_b ⟨hx, hb, hml, hown, hts⟩ hP hS (cX_badNumber l a) (kX_badNumber hts ⟨by decide, by decide⟩) rfl hl.1 rfl (Nat.le_of_ble_eq_true rfl) dX0_unmap_1 ⟨Nat.le_refl _, Nat.le_refl _⟩ (fun r H locs hw hP hS => ?_)
  rcases hw with ⟨rfl, hq1⟩ | ⟨rfl, pn, hq1, rfl⟩
  · skip
    refine lv_if_eq (tgt := 9) hx hb dX0_unmap_4 (by decide) (fun h9 => absurd h9 (by decide)) (fun h9 => ?_)
    refine lv_iconst (v := (-1)) hx hb dX0_unmap_7 (by decide) ?_
    exact hret (-1) (Wo, Hd, Fr, ft, Tb, Kt, hk, La, He, Co, Iw, Pa, Ca) _ _ _ _ dX0_unmap_8 (px (by simp [sp_unmap, pz_b hq1]) hR) hP hD hS
  · skip
    refine lv_if_eq (tgt := 9) hx hb dX0_unmap_4 (by decide) (fun h9 => ?_) (fun h9 => absurd rfl h9)
    refine lv_iload_n hx hb dX0_unmap_9 rfl (lv_at hl 2 rfl) ?_
    refine zs_b ⟨hx, hb, hml, hown, hts⟩ hP hS (cX_badPage l b) (kX_badPage hts ⟨by decide, by decide⟩) rfl hl.1 rfl (Nat.le_of_ble_eq_true rfl) dX0_unmap_10 ⟨Nat.le_refl _, Nat.le_refl _⟩ (fun r H locs hw hP hS => ?_)
    rcases hw with ⟨rfl, hq10⟩ | ⟨rfl, qn, hq10, rfl⟩
    · skip
      refine lv_if_eq (tgt := 19) hx hb dX0_unmap_13 (by decide) (fun h9 => absurd h9 (by decide)) (fun h9 => ?_)
      refine lv_bipush (v := (-2)) hx hb dX0_unmap_16 (by decide) ?_
      exact hret (-2) (Wo, Hd, Fr, ft, Tb, Kt, hk, La, He, Co, Iw, Pa, Ca) _ _ _ _ dX0_unmap_18 (px (by simp [sp_unmap, pz_3 hq1, pz_b hq10]) hR) hP hD hS
    · skip
      refine lv_if_eq (tgt := 19) hx hb dX0_unmap_13 (by decide) (fun h9 => ?_) (fun h9 => absurd rfl h9)
      refine lv_iload_n hx hb dX0_unmap_19 rfl (lv_at hl 1 rfl) ?_
      refine lv_bipush (v := nI 8) hx hb dX0_unmap_20 (by decide) ?_
      refine zi_mul hx hb dX0_unmap_22 ?_
      refine lv_iload_n hx hb dX0_unmap_23 rfl (lv_at hl 2 rfl) ?_
      refine zi_add hx hb dX0_unmap_24 ?_
      refine zi_stn hx hb dX0_unmap_25 rfl hl (by decide) (fun ls hl => ?_)
      refine lv_aload_n hx hb dX0_unmap_26 rfl (lv_at hl 1 rfl) ?_
      refine gX_Tb hx hb hts hown hK hP dX0_unmap_27 ?_
      refine lv_iload_n hx hb dX0_unmap_30 rfl (lv_at hl 0 rfl) ?_
      refine lX_Tb hx hb hK hP (by omega) dX0_unmap_31 ?_
      rcases hT31 : Tb (pn * 8 + qn) with _ | f
      · skip
        have hg := pg_n hR (by omega) hT31
        refine zo_ifge (tgt := 38) hx hb dX0_unmap_32 (by decide) ?_
        refine lv_bipush (v := (-4)) hx hb dX0_unmap_35 (by decide) ?_
        exact hret (-4) (Wo, Hd, Fr, ft, Tb, Kt, hk, La, He, Co, Iw, Pa, Ca) _ _ _ _ dX0_unmap_37 (px (by simp [sp_unmap, pz_3 hq1, pz_8 hq10, hg]) hR) hP hD hS
      · refine zo_top ?_
        have hf := rr_tb hR _ (by omega) f hT31
        refine zi_ifge (tgt := 38) hx hb (by omega) dX0_unmap_32 (by decide) ?_
        refine lv_aload_n hx hb dX0_unmap_38 rfl (lv_at hl 1 rfl) ?_
        refine lv_aload_n hx hb dX0_unmap_39 rfl (lv_at hl 1 rfl) ?_
        refine gX_Tb hx hb hts hown hK hP dX0_unmap_40 ?_
        refine lv_iload_n hx hb dX0_unmap_43 rfl (lv_at hl 0 rfl) ?_
        refine lX_Tb hx hb hK hP (by omega) dX0_unmap_44 ?_
        rw [hT31]
        refine zc_v (ci := 0) (q0 := 0) ⟨hx, hb, hml, hown, hts⟩ hK hP hD hS hA (cX_letGo (some f) (hR.1.lg (k := pn * 8 + qn) (by omega) (by rw [sl_a (by omega)]; exact hT31))) (kX_letGo hts ⟨by decide, by decide⟩) rfl rfl rfl rfl hl.1 rfl (Nat.le_of_ble_eq_true rfl) dX0_unmap_45 ⟨Nat.le_refl _, Nat.le_refl _⟩ (fun u2 H locs hw hP hD hS => ?_)
        subst hw
        refine lv_aload_n hx hb dX0_unmap_48 rfl (lv_at hl 1 rfl) ?_
        refine gX_Tb hx hb hts hown hK hP dX0_unmap_49 ?_
        refine lv_iload_n hx hb dX0_unmap_52 rfl (lv_at hl 0 rfl) ?_
        refine lv_iconst (v := oN none) hx hb dX0_unmap_53 (by decide) ?_
        refine sX_Tb (v := none) hx hb hK hP hD hS (by omega) dX0_unmap_54 (fun H locs hP hD hS => ?_)
        have hX := R_unmap hR hq1 hq10 hT31
        refine lv_aload_n hx hb dX0_unmap_55 rfl (lv_at hl 1 rfl) ?_
        refine lv_iload_n hx hb dX0_unmap_56 rfl (lv_at hl 2 rfl) ?_
        refine zc_i (ci := 0) (q0 := 0) ⟨hx, hb, hml, hown, hts⟩ hK hP hD hS hA (cX_mappedPages _ hq1 (rr_tb hX.2)) (kX_mappedPages hts ⟨by decide, by decide⟩) rfl rfl rfl rfl hl.1 rfl (Nat.le_of_ble_eq_true rfl) dX0_unmap_57 ⟨Nat.le_refl _, Nat.le_refl _⟩ (fun r u2 H locs hw hP hD hS => ?_)
        subst hw
        exact hret _ (Wo, (lgo (some f) Hd Fr ft).1, (lgo (some f) Hd Fr ft).2.1, (lgo (some f) Hd Fr ft).2.2, va_up Tb (pn * 8 + qn) none, Kt, hk, La, He, Co, Iw, Pa, Ca) _ _ _ _ dX0_unmap_60 hX hP hD hS
set_option maxHeartbeats 4000000 in
set_option maxRecDepth 100000 in
theorem cX_write (u : XS) (v : MS) (hR : RRt u v) (a b d : Int32) : KI l D cI cZ yX0_write cX0_write 6 r2 [.ref (ad 0), .int a, .int b, .int d] (wXt ad cI cZ u) sz (PX (sp_write a b d v)) (wXt ad cI cZ) := by
  obtain ⟨Pg, Wd, Ls, Kp, KPg, KWd, Ms, Il, Cn, Sn⟩ := v
  obtain ⟨Wo, Hd, Fr, ft, Tb, Kt, hk, La, He, Co, Iw, Pa, Ca⟩ := u
  have hR : RR Wo Hd Fr ft Tb Kt hk La He Co Iw Pa Ca (Pg, Wd, Ls, Kp, KPg, KWd, Ms, Il, Cn, Sn) := hR
  refine fw_i (by decide) (Nat.le_of_ble_eq_true rfl) ?_
  intro p e s m below meth c A Q ls args hx hb hml hts hown hK hP hD hS hA hl hret
  have hown : s.vm.findClass RX0 = some m.cls := hown
  have hP : va_P D vCl (wX ad cI cZ Wo Hd Fr ft Tb Kt hk La He Co Iw Pa Ca) s.heap := hP
  have hD : va_D A (wX ad cI cZ Wo Hd Fr ft Tb Kt hk La He Co Iw Pa Ca) := hD
  have hl : lv_has ls 6 [(0, .ref (ad 0)), (1, .int a), (2, .int b), (3, .int d)] := hl
  refine lv_iload_n hx hb dX0_write_0 rfl (lv_at hl 1 rfl) ?_
  refine zs_b ⟨hx, hb, hml, hown, hts⟩ hP hS (cX_badNumber l a) (kX_badNumber hts ⟨by decide, by decide⟩) rfl hl.1 rfl (Nat.le_of_ble_eq_true rfl) dX0_write_1 ⟨Nat.le_refl _, Nat.le_refl _⟩ (fun r H locs hw hP hS => ?_)
  rcases hw with ⟨rfl, hq1⟩ | ⟨rfl, pn, hq1, rfl⟩
  · skip
    refine lv_if_eq (tgt := 9) hx hb dX0_write_4 (by decide) (fun h9 => absurd h9 (by decide)) (fun h9 => ?_)
    refine lv_iconst (v := (-1)) hx hb dX0_write_7 (by decide) ?_
    exact hret (-1) (Wo, Hd, Fr, ft, Tb, Kt, hk, La, He, Co, Iw, Pa, Ca) _ _ _ _ dX0_write_8 (px (by simp [sp_write, pz_b hq1]) hR) hP hD hS
  · skip
    refine lv_if_eq (tgt := 9) hx hb dX0_write_4 (by decide) (fun h9 => ?_) (fun h9 => absurd rfl h9)
    refine lv_iload_n hx hb dX0_write_9 rfl (lv_at hl 2 rfl) ?_
    refine lv_if_lt (tgt := 19) hx hb dX0_write_10 (by decide) (fun h10 => ?_) (fun h10 => ?_)
    · skip
      refine lv_bipush (v := (-2)) hx hb dX0_write_19 (by decide) ?_
      exact hret (-2) (Wo, Hd, Fr, ft, Tb, Kt, hk, La, He, Co, Iw, Pa, Ca) _ _ _ _ dX0_write_21 (px (by simp [sp_write, pz_3 hq1, pz_b (P := bad32) (Or.inl h10)]) hR) hP hD hS
    · skip
      refine lv_iload_n hx hb dX0_write_13 rfl (lv_at hl 2 rfl) ?_
      refine lv_bipush (v := 31) hx hb dX0_write_14 (by decide) ?_
      refine lv_icmp_le (tgt := 22) hx hb dX0_write_16 (by decide) (fun h16 => ?_) (fun h16 => ?_)
      · skip
        obtain ⟨qn, hqn, rfl⟩ := gd32 h10 h16
        refine lv_iload_n hx hb dX0_write_22 rfl (lv_at hl 2 rfl) ?_
        refine lv_iconst (v := nI 4) hx hb dX0_write_23 (by decide) ?_
        refine zi_div hx hb (by omega) (by decide) (by decide) dX0_write_24 ?_
        refine zi_st hx hb dX0_write_25 hl (by decide) (fun ls hl => ?_)
        refine lv_iload_n hx hb dX0_write_27 rfl (lv_at hl 2 rfl) ?_
        refine lv_bipush (v := nI 8) hx hb dX0_write_28 (by decide) ?_
        refine zi_mul hx hb dX0_write_30 ?_
        refine lv_iload hx hb dX0_write_31 (lv_at hl 0 rfl) ?_
        refine zi_add hx hb dX0_write_33 ?_
        refine zi_st hx hb dX0_write_34 hl (by decide) (fun ls hl => ?_)
        refine lv_aload_n hx hb dX0_write_36 rfl (lv_at hl 2 rfl) ?_
        refine gX_Tb hx hb hts hown hK hP dX0_write_37 ?_
        refine lv_iload hx hb dX0_write_40 (lv_at hl 0 rfl) ?_
        refine lX_Tb hx hb hK hP (by omega) dX0_write_42 ?_
        rcases hT42 : Tb (pn * 8 + qn / 4) with _ | f
        · skip
          have hg := pg_n hR (by omega) hT42
          refine zo_ifge (tgt := 49) hx hb dX0_write_43 (by decide) ?_
          refine lv_bipush (v := (-4)) hx hb dX0_write_46 (by decide) ?_
          exact hret (-4) (Wo, Hd, Fr, ft, Tb, Kt, hk, La, He, Co, Iw, Pa, Ca) _ _ _ _ dX0_write_48 (px (by simp [sp_write, pz_3 hq1, pz_32 hqn, hg]) hR) hP hD hS
        · refine zo_top ?_
          have hr0 : sl Tb Kt (lvL He Co Pa Ca) (pn * 8 + qn / 4) = some f := by rw [sl_a (by omega)]; exact hT42
          have hh := hR.1.held (k := pn * 8 + qn / 4) (by omega) hr0
          obtain ⟨hf, hf1, -⟩ := hh
          have hf2 := hR.1.bound hf
          obtain ⟨g1, g2, g3⟩ := hR.1.fresh
          have g4 := hR.1.notfree (k := pn * 8 + qn / 4) (by omega) hr0
          have g5 := hR.1.some_free
          have g6 := hR.1.top
          refine zi_ifge (tgt := 49) hx hb (by omega) dX0_write_43 (by decide) ?_
          refine lv_aload_n hx hb dX0_write_49 rfl (lv_at hl 2 rfl) ?_
          refine gX_Tb hx hb hts hown hK hP dX0_write_50 ?_
          refine lv_iload hx hb dX0_write_53 (lv_at hl 0 rfl) ?_
          refine lv_aload_n hx hb dX0_write_55 rfl (lv_at hl 2 rfl) ?_
          refine lv_aload_n hx hb dX0_write_56 rfl (lv_at hl 2 rfl) ?_
          refine gX_Tb hx hb hts hown hK hP dX0_write_57 ?_
          refine lv_iload hx hb dX0_write_60 (lv_at hl 0 rfl) ?_
          refine lX_Tb hx hb hK hP (by omega) dX0_write_62 ?_
          rw [hT42]
          refine zo_top ?_
          refine zc_i (ci := 0) (q0 := 0) ⟨hx, hb, hml, hown, hts⟩ hK hP hD hS hA (cX_ownFrame f hf hf1 (by omega) g1 g4 g5 g6) (kX_ownFrame hts ⟨by decide, by decide⟩) rfl rfl rfl rfl hl.1 rfl (Nat.le_of_ble_eq_true rfl) dX0_write_63 ⟨Nat.le_refl _, Nat.le_refl _⟩ (fun r u2 H locs hw hP hD hS => ?_)
          rcases hw with ⟨e1, rfl, rfl⟩ | ⟨e1, rfl, rfl⟩
          · skip
            refine sX_Tb (v := some f) hx hb hK hP hD hS (by omega) dX0_write_66 (fun H locs hP hD hS => ?_)
            refine lv_aload_n hx hb dX0_write_67 rfl (lv_at hl 2 rfl) ?_
            refine gX_Wo hx hb hts hown hK hP dX0_write_68 ?_
            refine lv_aload_n hx hb dX0_write_71 rfl (lv_at hl 2 rfl) ?_
            refine gX_Tb hx hb hts hown hK hP dX0_write_72 ?_
            refine lv_iload hx hb dX0_write_75 (lv_at hl 0 rfl) ?_
            refine lX_Tb hx hb hK hP (by omega) dX0_write_77 ?_
            rw [vu_s]
            refine zo_top ?_
            refine lv_iconst (v := nI 4) hx hb dX0_write_78 (by decide) ?_
            refine zi_mul hx hb dX0_write_79 ?_
            refine lv_iload_n hx hb dX0_write_80 rfl (lv_at hl 4 rfl) ?_
            refine lv_iconst (v := nI 4) hx hb dX0_write_81 (by decide) ?_
            refine zi_rem hx hb (by omega) (by decide) (by decide) dX0_write_82 ?_
            refine zi_add hx hb dX0_write_83 ?_
            refine lv_iload_n hx hb dX0_write_84 rfl (lv_at hl 5 rfl) ?_
            refine sX_Wo hx hb hK hP hD hS (by omega) dX0_write_85 (fun H locs hP hD hS => ?_)
            refine lv_iload hx hb dX0_write_86 (lv_at hl 1 rfl) ?_
            exact hret _ (va_up Wo (f * 4 + qn % 4) d, Hd, Fr, ft, va_up Tb (pn * 8 + qn / 4) (some f), Kt, hk, La, He, Co, Iw, Pa, Ca) _ _ _ _ dX0_write_88 (R_write1 hR hq1 hqn hT42 e1) hP hD hS
          · skip
            refine sX_Tb (v := some (Fr (ft - 1))) hx hb hK hP hD hS (by omega) dX0_write_66 (fun H locs hP hD hS => ?_)
            refine lv_aload_n hx hb dX0_write_67 rfl (lv_at hl 2 rfl) ?_
            refine gX_Wo hx hb hts hown hK hP dX0_write_68 ?_
            refine lv_aload_n hx hb dX0_write_71 rfl (lv_at hl 2 rfl) ?_
            refine gX_Tb hx hb hts hown hK hP dX0_write_72 ?_
            refine lv_iload hx hb dX0_write_75 (lv_at hl 0 rfl) ?_
            refine lX_Tb hx hb hK hP (by omega) dX0_write_77 ?_
            rw [vu_s]
            refine zo_top ?_
            refine lv_iconst (v := nI 4) hx hb dX0_write_78 (by decide) ?_
            refine zi_mul hx hb dX0_write_79 ?_
            refine lv_iload_n hx hb dX0_write_80 rfl (lv_at hl 4 rfl) ?_
            refine lv_iconst (v := nI 4) hx hb dX0_write_81 (by decide) ?_
            refine zi_rem hx hb (by omega) (by decide) (by decide) dX0_write_82 ?_
            refine zi_add hx hb dX0_write_83 ?_
            refine lv_iload_n hx hb dX0_write_84 rfl (lv_at hl 5 rfl) ?_
            refine sX_Wo hx hb hK hP hD hS (by omega) dX0_write_85 (fun H locs hP hD hS => ?_)
            refine lv_iload hx hb dX0_write_86 (lv_at hl 1 rfl) ?_
            exact hret _ (va_up (va_cpy Wo Wo (f * 4) (Fr (ft - 1) * 4) 4) (Fr (ft - 1) * 4 + qn % 4) d, va_up (va_up Hd (Fr (ft - 1)) 1) f (Hd f - 1), Fr, ft - 1, va_up Tb (pn * 8 + qn / 4) (some (Fr (ft - 1))), Kt, hk, La, He, Co, Iw, Pa, Ca) _ _ _ _ dX0_write_88 (R_write2 hR hq1 hqn hT42 e1) hP hD hS
      · skip
        refine lv_bipush (v := (-2)) hx hb dX0_write_19 (by decide) ?_
        exact hret (-2) (Wo, Hd, Fr, ft, Tb, Kt, hk, La, He, Co, Iw, Pa, Ca) _ _ _ _ dX0_write_21 (px (by simp [sp_write, pz_3 hq1, pz_b (P := bad32) (Or.inr h16)]) hR) hP hD hS
set_option maxHeartbeats 4000000 in
set_option maxRecDepth 100000 in
theorem cX_copy (u : XS) (v : MS) (hR : RRt u v) (a b d : Int32) : KI l D cI cZ yX0_copy cX0_copy 5 r2 [.ref (ad 0), .int a, .int b, .int d] (wXt ad cI cZ u) sz (PX (sp_copy a b d v)) (wXt ad cI cZ) := by
  obtain ⟨Pg, Wd, Ls, Kp, KPg, KWd, Ms, Il, Cn, Sn⟩ := v
  obtain ⟨Wo, Hd, Fr, ft, Tb, Kt, hk, La, He, Co, Iw, Pa, Ca⟩ := u
  have hR : RR Wo Hd Fr ft Tb Kt hk La He Co Iw Pa Ca (Pg, Wd, Ls, Kp, KPg, KWd, Ms, Il, Cn, Sn) := hR
  refine fw_i (by decide) (Nat.le_of_ble_eq_true rfl) ?_
  intro p e s m below meth c A Q ls args hx hb hml hts hown hK hP hD hS hA hl hret
  have hown : s.vm.findClass RX0 = some m.cls := hown
  have hP : va_P D vCl (wX ad cI cZ Wo Hd Fr ft Tb Kt hk La He Co Iw Pa Ca) s.heap := hP
  have hD : va_D A (wX ad cI cZ Wo Hd Fr ft Tb Kt hk La He Co Iw Pa Ca) := hD
  have hl : lv_has ls 5 [(0, .ref (ad 0)), (1, .int a), (2, .int b), (3, .int d)] := hl
  refine lv_iload_n hx hb dX0_copy_0 rfl (lv_at hl 1 rfl) ?_
  refine zs_b ⟨hx, hb, hml, hown, hts⟩ hP hS (cX_badNumber l a) (kX_badNumber hts ⟨by decide, by decide⟩) rfl hl.1 rfl (Nat.le_of_ble_eq_true rfl) dX0_copy_1 ⟨Nat.le_refl _, Nat.le_refl _⟩ (fun r H locs hw hP hS => ?_)
  rcases hw with ⟨rfl, hq1⟩ | ⟨rfl, pn, hq1, rfl⟩
  · skip
    refine lv_if_eq (tgt := 9) hx hb dX0_copy_4 (by decide) (fun h9 => absurd h9 (by decide)) (fun h9 => ?_)
    refine lv_iconst (v := (-1)) hx hb dX0_copy_7 (by decide) ?_
    exact hret (-1) (Wo, Hd, Fr, ft, Tb, Kt, hk, La, He, Co, Iw, Pa, Ca) _ _ _ _ dX0_copy_8 (px (by simp [sp_copy, pz_b hq1]) hR) hP hD hS
  · skip
    refine lv_if_eq (tgt := 9) hx hb dX0_copy_4 (by decide) (fun h9 => ?_) (fun h9 => absurd rfl h9)
    refine lv_iload_n hx hb dX0_copy_9 rfl (lv_at hl 2 rfl) ?_
    refine zs_b ⟨hx, hb, hml, hown, hts⟩ hP hS (cX_badPage l b) (kX_badPage hts ⟨by decide, by decide⟩) rfl hl.1 rfl (Nat.le_of_ble_eq_true rfl) dX0_copy_10 ⟨Nat.le_refl _, Nat.le_refl _⟩ (fun r H locs hw hP hS => ?_)
    rcases hw with ⟨rfl, hq10⟩ | ⟨rfl, qn, hq10, rfl⟩
    · skip
      refine lv_if_ne (tgt := 23) hx hb dX0_copy_13 (by decide) (fun h9 => ?_) (fun h9 => absurd h9 (by decide))
      refine lv_bipush (v := (-2)) hx hb dX0_copy_23 (by decide) ?_
      exact hret (-2) (Wo, Hd, Fr, ft, Tb, Kt, hk, La, He, Co, Iw, Pa, Ca) _ _ _ _ dX0_copy_25 (px (by simp [sp_copy, pz_3 hq1, pz_b hq10]) hR) hP hD hS
    · skip
      refine lv_if_ne (tgt := 23) hx hb dX0_copy_13 (by decide) (fun h9 => absurd rfl h9) (fun h9 => ?_)
      refine lv_iload_n hx hb dX0_copy_16 rfl (lv_at hl 3 rfl) ?_
      refine zs_b ⟨hx, hb, hml, hown, hts⟩ hP hS (cX_badPage l d) (kX_badPage hts ⟨by decide, by decide⟩) rfl hl.1 rfl (Nat.le_of_ble_eq_true rfl) dX0_copy_17 ⟨Nat.le_refl _, Nat.le_refl _⟩ (fun r H locs hw hP hS => ?_)
      rcases hw with ⟨rfl, hq17⟩ | ⟨rfl, tn, hq17, rfl⟩
      · skip
        refine lv_if_eq (tgt := 26) hx hb dX0_copy_20 (by decide) (fun h9 => absurd h9 (by decide)) (fun h9 => ?_)
        refine lv_bipush (v := (-2)) hx hb dX0_copy_23 (by decide) ?_
        exact hret (-2) (Wo, Hd, Fr, ft, Tb, Kt, hk, La, He, Co, Iw, Pa, Ca) _ _ _ _ dX0_copy_25 (px (by simp [sp_copy, pz_3 hq1, pz_8 hq10, pz_b hq17]) hR) hP hD hS
      · skip
        refine lv_if_eq (tgt := 26) hx hb dX0_copy_20 (by decide) (fun h9 => ?_) (fun h9 => absurd rfl h9)
        refine lv_aload_n hx hb dX0_copy_26 rfl (lv_at hl 0 rfl) ?_
        refine gX_Tb hx hb hts hown hK hP dX0_copy_27 ?_
        refine lv_iload_n hx hb dX0_copy_30 rfl (lv_at hl 1 rfl) ?_
        refine lv_bipush (v := nI 8) hx hb dX0_copy_31 (by decide) ?_
        refine zi_mul hx hb dX0_copy_33 ?_
        refine lv_iload_n hx hb dX0_copy_34 rfl (lv_at hl 2 rfl) ?_
        refine zi_add hx hb dX0_copy_35 ?_
        refine lX_Tb hx hb hK hP (by omega) dX0_copy_36 ?_
        rcases hT36 : Tb (pn * 8 + qn) with _ | f
        · skip
          have hg := pg_n hR (by omega) hT36
          refine zi_st hx hb dX0_copy_37 hl (by decide) (fun ls hl => ?_)
          refine lv_iload hx hb dX0_copy_39 (lv_at hl 0 rfl) ?_
          refine zo_ifge (tgt := 47) hx hb dX0_copy_41 (by decide) ?_
          refine lv_bipush (v := (-4)) hx hb dX0_copy_44 (by decide) ?_
          exact hret (-4) (Wo, Hd, Fr, ft, Tb, Kt, hk, La, He, Co, Iw, Pa, Ca) _ _ _ _ dX0_copy_46 (px (by simp [sp_copy, pz_3 hq1, pz_8 hq10, pz_8 hq17, hg]) hR) hP hD hS
        · refine zo_top ?_
          have hf := rr_tb hR _ (by omega) f hT36
          refine zi_st hx hb dX0_copy_37 hl (by decide) (fun ls hl => ?_)
          refine lv_iload hx hb dX0_copy_39 (lv_at hl 0 rfl) ?_
          refine zi_ifge (tgt := 47) hx hb (by omega) dX0_copy_41 (by decide) ?_
          refine lv_aload_n hx hb dX0_copy_47 rfl (lv_at hl 1 rfl) ?_
          refine lv_iload hx hb dX0_copy_48 (lv_at hl 0 rfl) ?_
          refine zc_i (ci := 0) (q0 := 0) ⟨hx, hb, hml, hown, hts⟩ hK hP hD hS hA (cX_hold (some f) (fun x hx2 => by cases hx2; exact hf)) (kX_hold hts ⟨by decide, by decide⟩) rfl rfl rfl rfl hl.1 rfl (Nat.le_of_ble_eq_true rfl) dX0_copy_50 ⟨Nat.le_refl _, Nat.le_refl _⟩ (fun r u2 H locs hw hP hD hS => ?_)
          obtain ⟨rfl, rfl⟩ := hw
          refine lv_pop hx hb dX0_copy_53 rfl ?_
          refine lv_aload_n hx hb dX0_copy_54 rfl (lv_at hl 1 rfl) ?_
          refine lv_aload_n hx hb dX0_copy_55 rfl (lv_at hl 1 rfl) ?_
          refine gX_Tb hx hb hts hown hK hP dX0_copy_56 ?_
          refine lv_iload_n hx hb dX0_copy_59 rfl (lv_at hl 2 rfl) ?_
          refine lv_bipush (v := nI 8) hx hb dX0_copy_60 (by decide) ?_
          refine zi_mul hx hb dX0_copy_62 ?_
          refine lv_iload_n hx hb dX0_copy_63 rfl (lv_at hl 4 rfl) ?_
          refine zi_add hx hb dX0_copy_64 ?_
          refine lX_Tb hx hb hK hP (by omega) dX0_copy_65 ?_
          refine zc_v (ci := 0) (q0 := 0) ⟨hx, hb, hml, hown, hts⟩ hK hP hD hS hA (cX_letGo (Tb (pn * 8 + tn)) ((R_copy0 hR hq1 hq10 hq17 hT36).lg (k := pn * 8 + tn) (by omega) (by rw [vu_n (by omega), sl_a (by omega)]))) (kX_letGo hts ⟨by decide, by decide⟩) rfl rfl rfl rfl hl.1 rfl (Nat.le_of_ble_eq_true rfl) dX0_copy_66 ⟨Nat.le_refl _, Nat.le_refl _⟩ (fun u2 H locs hw hP hD hS => ?_)
          subst hw
          refine lv_aload_n hx hb dX0_copy_69 rfl (lv_at hl 1 rfl) ?_
          refine gX_Tb hx hb hts hown hK hP dX0_copy_70 ?_
          refine lv_iload_n hx hb dX0_copy_73 rfl (lv_at hl 2 rfl) ?_
          refine lv_bipush (v := nI 8) hx hb dX0_copy_74 (by decide) ?_
          refine zi_mul hx hb dX0_copy_76 ?_
          refine lv_iload_n hx hb dX0_copy_77 rfl (lv_at hl 4 rfl) ?_
          refine zi_add hx hb dX0_copy_78 ?_
          refine lv_iload hx hb dX0_copy_79 (lv_at hl 0 rfl) ?_
          refine sX_Tb (v := some f) hx hb hK hP hD hS (by omega) dX0_copy_81 (fun H locs hP hD hS => ?_)
          have hX := R_copy hR hq1 hq10 hq17 hT36
          refine lv_aload_n hx hb dX0_copy_82 rfl (lv_at hl 1 rfl) ?_
          refine lv_iload_n hx hb dX0_copy_83 rfl (lv_at hl 2 rfl) ?_
          refine zc_i (ci := 0) (q0 := 0) ⟨hx, hb, hml, hown, hts⟩ hK hP hD hS hA (cX_mappedPages _ hq1 (rr_tb hX.2)) (kX_mappedPages hts ⟨by decide, by decide⟩) rfl rfl rfl rfl hl.1 rfl (Nat.le_of_ble_eq_true rfl) dX0_copy_84 ⟨Nat.le_refl _, Nat.le_refl _⟩ (fun r u2 H locs hw hP hD hS => ?_)
          subst hw
          exact hret _ (Wo, (lgo (Tb (pn * 8 + tn)) (hdU Hd (some f)) Fr ft).1, (lgo (Tb (pn * 8 + tn)) (hdU Hd (some f)) Fr ft).2.1, (lgo (Tb (pn * 8 + tn)) (hdU Hd (some f)) Fr ft).2.2, va_up Tb (pn * 8 + tn) (some f), Kt, hk, La, He, Co, Iw, Pa, Ca) _ _ _ _ dX0_copy_87 hX hP hD hS
set_option maxHeartbeats 4000000 in
set_option maxRecDepth 100000 in
theorem cX_send (u : XS) (v : MS) (hR : RRt u v) (a b d g : Int32) : KI l D cI cZ yX0_send cX0_send 9 r2 [.ref (ad 0), .int a, .int b, .int d, .int g] (wXt ad cI cZ u) sz (PX (sp_send a b d g v)) (wXt ad cI cZ) := by
  obtain ⟨Pg, Wd, Ls, Kp, KPg, KWd, Ms, Il, Cn, Sn⟩ := v
  obtain ⟨Wo, Hd, Fr, ft, Tb, Kt, hk, La, He, Co, Iw, Pa, Ca⟩ := u
  have hR : RR Wo Hd Fr ft Tb Kt hk La He Co Iw Pa Ca (Pg, Wd, Ls, Kp, KPg, KWd, Ms, Il, Cn, Sn) := hR
  refine fw_i (by decide) (Nat.le_of_ble_eq_true rfl) ?_
  intro p e s m below meth c A Q ls args hx hb hml hts hown hK hP hD hS hA hl hret
  have hown : s.vm.findClass RX0 = some m.cls := hown
  have hP : va_P D vCl (wX ad cI cZ Wo Hd Fr ft Tb Kt hk La He Co Iw Pa Ca) s.heap := hP
  have hD : va_D A (wX ad cI cZ Wo Hd Fr ft Tb Kt hk La He Co Iw Pa Ca) := hD
  have hl : lv_has ls 9 [(0, .ref (ad 0)), (1, .int a), (2, .int b), (3, .int d), (4, .int g)] := hl
  refine lv_iload_n hx hb dX0_send_0 rfl (lv_at hl 1 rfl) ?_
  refine zs_b ⟨hx, hb, hml, hown, hts⟩ hP hS (cX_badNumber l a) (kX_badNumber hts ⟨by decide, by decide⟩) rfl hl.1 rfl (Nat.le_of_ble_eq_true rfl) dX0_send_1 ⟨Nat.le_refl _, Nat.le_refl _⟩ (fun r H locs hw hP hS => ?_)
  rcases hw with ⟨rfl, hq1⟩ | ⟨rfl, pn, hq1, rfl⟩
  · skip
    refine lv_if_ne (tgt := 14) hx hb dX0_send_4 (by decide) (fun h9 => ?_) (fun h9 => absurd h9 (by decide))
    refine lv_iconst (v := (-1)) hx hb dX0_send_14 (by decide) ?_
    exact hret (-1) (Wo, Hd, Fr, ft, Tb, Kt, hk, La, He, Co, Iw, Pa, Ca) _ _ _ _ dX0_send_15 (px (by simp [sp_send, pz_b hq1]) hR) hP hD hS
  · skip
    refine lv_if_ne (tgt := 14) hx hb dX0_send_4 (by decide) (fun h9 => absurd rfl h9) (fun h9 => ?_)
    refine lv_iload_n hx hb dX0_send_7 rfl (lv_at hl 2 rfl) ?_
    refine zs_b ⟨hx, hb, hml, hown, hts⟩ hP hS (cX_badNumber l b) (kX_badNumber hts ⟨by decide, by decide⟩) rfl hl.1 rfl (Nat.le_of_ble_eq_true rfl) dX0_send_8 ⟨Nat.le_refl _, Nat.le_refl _⟩ (fun r H locs hw hP hS => ?_)
    rcases hw with ⟨rfl, hq8⟩ | ⟨rfl, on, hq8, rfl⟩
    · skip
      refine lv_if_eq (tgt := 16) hx hb dX0_send_11 (by decide) (fun h9 => absurd h9 (by decide)) (fun h9 => ?_)
      refine lv_iconst (v := (-1)) hx hb dX0_send_14 (by decide) ?_
      exact hret (-1) (Wo, Hd, Fr, ft, Tb, Kt, hk, La, He, Co, Iw, Pa, Ca) _ _ _ _ dX0_send_15 (px (by simp [sp_send, pz_3 hq1, pz_b hq8]) hR) hP hD hS
    · skip
      refine lv_if_eq (tgt := 16) hx hb dX0_send_11 (by decide) (fun h9 => ?_) (fun h9 => absurd rfl h9)
      obtain ⟨m1, m2, m3, -⟩ := hR.2.2.2.1 on hq8
      have m1 : Co on = Ms on := m1
      have hf8 := fN_lt g
      have hn4 := nN_lt g
      refine lv_aload_n hx hb dX0_send_16 rfl (lv_at hl 0 rfl) ?_
      refine gX_Co hx hb hts hown hK hP dX0_send_17 ?_
      refine lv_iload_n hx hb dX0_send_20 rfl (lv_at hl 2 rfl) ?_
      refine lX_Co hx hb hK hP (by omega) dX0_send_21 ?_
      refine lv_iconst (v := nI 3) hx hb dX0_send_22 (by decide) ?_
      refine zi_lt (tgt := 29) hx hb (by omega) (by omega) dX0_send_23 (by decide) (fun h23 => ?_) (fun h23 => ?_)
      · skip
        refine lv_iload hx hb dX0_send_29 (lv_at hl 4 rfl) ?_
        refine lv_bipush (v := 7) hx hb dX0_send_31 (by decide) ?_
        refine zv_and (v := nI (fN g)) hx hb dX0_send_33 (fN_e g) ?_
        refine zi_st hx hb dX0_send_34 hl (by decide) (fun ls hl => ?_)
        refine lv_iload hx hb dX0_send_36 (lv_at hl 5 rfl) ?_
        refine lv_iconst (v := 3) hx hb dX0_send_38 (by decide) ?_
        refine lv_ishr hx hb dX0_send_39 ?_
        refine lv_iconst (v := 3) hx hb dX0_send_40 (by decide) ?_
        refine zv_and (v := nI (nN g)) hx hb dX0_send_41 (nN_e g) ?_
        refine zi_st hx hb dX0_send_42 hl (by decide) (fun ls hl => ?_)
        refine lv_iload hx hb dX0_send_44 (lv_at hl 1 rfl) ?_
        refine lv_iload hx hb dX0_send_46 (lv_at hl 0 rfl) ?_
        refine zi_add hx hb dX0_send_48 ?_
        refine lv_bipush (v := nI 8) hx hb dX0_send_49 (by decide) ?_
        refine zi_le (tgt := 57) hx hb (by omega) (by omega) dX0_send_51 (by decide) (fun h51 => ?_) (fun h51 => ?_)
        · skip
          refine lv_iconst (v := nI 0) hx hb dX0_send_57 (by decide) ?_
          refine zi_st hx hb dX0_send_58 hl (by decide) (fun ls hl => ?_)
          have hloop60 : ∀ (n : Nat) (i : Nat) (H : Heap) (locs : List Loc) (ls : Array Slot), i ≤ nN g → nN g + 1 ≤ i + n → True → (∀ j, j < i → ∃ f, Tb (pn * 8 + fN g + j) = some f) → va_P D vCl (wX ad cI cZ Wo Hd Fr ft Tb Kt hk La He Co Iw Pa Ca) H → va_D A (wX ad cI cZ Wo Hd Fr ft Tb Kt hk La He Co Iw Pa Ca) → va_S A s.heap H locs → lv_has ls 9 [(0, .ref (ad 0)), (1, .int (nI pn)), (2, .int (nI on)), (3, .int (d)), (4, .int (g)), (5, .int (nI (fN g))), (6, .int (nI (nN g))), (7, .int (nI i))] → W p l e r2 s m args below meth c H locs 0 0 Q (F0 m 60 ls []) := by
            intro n60
            induction n60 with
            | zero => intro i H locs ls hi hn; exact absurd hn (by omega)
            | succ n60 ih60 =>
              intro i H locs ls hi hn _ hI hP hD hS hl
              refine lv_iload hx hb dX0_send_60 (lv_at hl 7 rfl) ?_
              refine lv_iload hx hb dX0_send_62 (lv_at hl 6 rfl) ?_
              refine zi_ge (tgt := 94) hx hb (by omega) (by omega) dX0_send_64 (by decide) (fun h64 => ?_) (fun h64 => ?_)
              · skip
                have hAll : ∀ j, j < nN g → ∃ f, Tb (pn * 8 + fN g + j) = some f := fun j hj => hI j (by omega)
                refine lv_iload_n hx hb dX0_send_94 rfl (lv_at hl 2 rfl) ?_
                refine lv_iconst (v := nI 3) hx hb dX0_send_95 (by decide) ?_
                refine zi_mul hx hb dX0_send_96 ?_
                refine lv_aload_n hx hb dX0_send_97 rfl (lv_at hl 0 rfl) ?_
                refine gX_He hx hb hts hown hK hP dX0_send_98 ?_
                refine lv_iload_n hx hb dX0_send_101 rfl (lv_at hl 2 rfl) ?_
                refine lX_He hx hb hK hP (by omega) dX0_send_102 ?_
                refine lv_aload_n hx hb dX0_send_103 rfl (lv_at hl 0 rfl) ?_
                refine gX_Co hx hb hts hown hK hP dX0_send_104 ?_
                refine lv_iload_n hx hb dX0_send_107 rfl (lv_at hl 2 rfl) ?_
                refine lX_Co hx hb hK hP (by omega) dX0_send_108 ?_
                refine zi_add hx hb dX0_send_109 ?_
                refine lv_iconst (v := nI 3) hx hb dX0_send_110 (by decide) ?_
                refine zi_rem hx hb (by omega) (by decide) (by decide) dX0_send_111 ?_
                refine zi_add hx hb dX0_send_112 ?_
                refine zi_st hx hb dX0_send_113 hl (by decide) (fun ls hl => ?_)
                refine lv_aload_n hx hb dX0_send_115 rfl (lv_at hl 1 rfl) ?_
                refine gX_Iw hx hb hts hown hK hP dX0_send_116 ?_
                refine lv_iload hx hb dX0_send_119 (lv_at hl 0 rfl) ?_
                refine lv_iload_n hx hb dX0_send_121 rfl (lv_at hl 4 rfl) ?_
                refine sX_Iw hx hb hK hP hD hS (by omega) dX0_send_122 (fun H locs hP hD hS => ?_)
                refine lv_aload_n hx hb dX0_send_123 rfl (lv_at hl 1 rfl) ?_
                refine gX_Pa hx hb hts hown hK hP dX0_send_124 ?_
                refine lv_iload hx hb dX0_send_127 (lv_at hl 0 rfl) ?_
                refine lv_iload hx hb dX0_send_129 (lv_at hl 7 rfl) ?_
                refine sX_Pa hx hb hK hP hD hS (by omega) dX0_send_131 (fun H locs hP hD hS => ?_)
                refine lv_iconst (v := nI 0) hx hb dX0_send_132 (by decide) ?_
                refine zi_st hx hb dX0_send_133 hl (by decide) (fun ls hl => ?_)
                have hloop135 : ∀ (n : Nat) (k : Nat) (Hd : Nat → Nat) (H : Heap) (locs : List Loc) (ls : Array Slot), k ≤ nN g → nN g + 1 ≤ k + n → True → Pool (sl Tb Kt (va_cpy Tb (lvL He Co Pa Ca) (pn * 8 + fN g) ((on * 3 + (He on + Co on) % 3) * 3) k)) Hd Fr ft → va_P D vCl (wX ad cI cZ Wo Hd Fr ft Tb Kt hk La He Co (va_up Iw (on * 3 + (He on + Co on) % 3) d) (va_up Pa (on * 3 + (He on + Co on) % 3) (nN g)) (va_cpy Tb Ca (pn * 8 + fN g) ((on * 3 + (He on + Co on) % 3) * 3) k)) H → va_D A (wX ad cI cZ Wo Hd Fr ft Tb Kt hk La He Co (va_up Iw (on * 3 + (He on + Co on) % 3) d) (va_up Pa (on * 3 + (He on + Co on) % 3) (nN g)) (va_cpy Tb Ca (pn * 8 + fN g) ((on * 3 + (He on + Co on) % 3) * 3) k)) → va_S A s.heap H locs → lv_has ls 9 [(0, .ref (ad 0)), (1, .int (nI pn)), (2, .int (nI on)), (3, .int (d)), (4, .int (g)), (5, .int (nI (fN g))), (6, .int (nI (nN g))), (7, .int (nI (on * 3 + (He on + Co on) % 3))), (8, .int (nI k))] → W p l e r2 s m args below meth c H locs 0 0 Q (F0 m 135 ls []) := by
                  intro n135
                  induction n135 with
                  | zero => intro k Hd H locs ls hi hn; exact absurd hn (by omega)
                  | succ n135 ih135 =>
                    intro k Hd H locs ls hi hn _ hJ hP hD hS hl
                    refine lv_iload hx hb dX0_send_135 (lv_at hl 8 rfl) ?_
                    refine lv_iload hx hb dX0_send_137 (lv_at hl 6 rfl) ?_
                    refine zi_ge (tgt := 179) hx hb (by omega) (by omega) dX0_send_139 (by decide) (fun h139 => ?_) (fun h139 => ?_)
                    · skip
                      refine lv_aload_n hx hb dX0_send_179 rfl (lv_at hl 0 rfl) ?_
                      refine gX_Co hx hb hts hown hK hP dX0_send_180 ?_
                      refine lv_iload_n hx hb dX0_send_183 rfl (lv_at hl 2 rfl) ?_
                      refine lv_dup2_11 hx hb dX0_send_184 rfl rfl ?_
                      refine lX_Co hx hb hK hP (by omega) dX0_send_185 ?_
                      refine lv_iconst (v := nI 1) hx hb dX0_send_186 (by decide) ?_
                      refine zi_add hx hb dX0_send_187 ?_
                      refine sX_Co hx hb hK hP hD hS (by omega) dX0_send_188 (fun H locs hP hD hS => ?_)
                      refine lv_aload_n hx hb dX0_send_189 rfl (lv_at hl 0 rfl) ?_
                      refine gX_Co hx hb hts hown hK hP dX0_send_190 ?_
                      refine lv_iload_n hx hb dX0_send_193 rfl (lv_at hl 2 rfl) ?_
                      refine lX_Co hx hb hK hP (by omega) dX0_send_194 ?_
                      rw [vu_s]
                      have ek : k = nN g := by omega
                      subst ek
                      exact hret _ (Wo, Hd, Fr, ft, Tb, Kt, hk, La, He, va_up Co on (Co on + 1), va_up Iw (on * 3 + (He on + Co on) % 3) d, va_up Pa (on * 3 + (He on + Co on) % 3) (nN g), va_cpy Tb Ca (pn * 8 + fN g) ((on * 3 + (He on + Co on) % 3) * 3) (nN g)) _ _ _ _ dX0_send_195 (R_send hR hq1 hq8 h23 h51 hAll hJ) hP hD hS
                    · skip
                      refine lv_aload_n hx hb dX0_send_142 rfl (lv_at hl 0 rfl) ?_
                      refine gX_Ca hx hb hts hown hK hP dX0_send_143 ?_
                      refine lv_iload hx hb dX0_send_146 (lv_at hl 7 rfl) ?_
                      refine lv_iconst (v := nI 3) hx hb dX0_send_148 (by decide) ?_
                      refine zi_mul hx hb dX0_send_149 ?_
                      refine lv_iload hx hb dX0_send_150 (lv_at hl 8 rfl) ?_
                      refine zi_add hx hb dX0_send_152 ?_
                      refine lv_aload_n hx hb dX0_send_153 rfl (lv_at hl 0 rfl) ?_
                      refine lv_aload_n hx hb dX0_send_154 rfl (lv_at hl 0 rfl) ?_
                      refine gX_Tb hx hb hts hown hK hP dX0_send_155 ?_
                      refine lv_iload_n hx hb dX0_send_158 rfl (lv_at hl 1 rfl) ?_
                      refine lv_bipush (v := nI 8) hx hb dX0_send_159 (by decide) ?_
                      refine zi_mul hx hb dX0_send_161 ?_
                      refine lv_iload hx hb dX0_send_162 (lv_at hl 5 rfl) ?_
                      refine zi_add hx hb dX0_send_164 ?_
                      refine lv_iload hx hb dX0_send_165 (lv_at hl 8 rfl) ?_
                      refine zi_add hx hb dX0_send_167 ?_
                      refine lX_Tb hx hb hK hP (by omega) dX0_send_168 ?_
                      refine zc_i (ci := 0) (q0 := 0) ⟨hx, hb, hml, hown, hts⟩ hK hP hD hS hA (cX_hold (Tb (pn * 8 + fN g + k)) (fun f hf => rr_tb hR _ (by omega) f hf)) (kX_hold hts ⟨by decide, by decide⟩) rfl rfl rfl rfl hl.1 rfl (Nat.le_of_ble_eq_true rfl) dX0_send_169 ⟨Nat.le_refl _, Nat.le_refl _⟩ (fun r u2 H locs hw hP hD hS => ?_)
                      obtain ⟨rfl, rfl⟩ := hw
                      refine sX_Ca hx hb hK hP hD hS (by omega) dX0_send_172 (fun H locs hP hD hS => ?_)
                      refine zi_inc hx hb dX0_send_173 hl (k := 8) rfl (by decide) (fun ls hl => ?_)
                      refine lv_goto (tgt := 135) hx hb dX0_send_176 (by decide) ?_
                      rw [cpy_s] at hP hD
                      exact ih135 (k + 1) (hdU Hd (Tb (pn * 8 + fN g + k))) _ _ _ (by omega) (by omega) trivial (sd_step m3 h23 hq8 (by omega) (by omega) hJ) hP hD hS (lv_sub hl [1, 2, 3, 4, 5, 6, 7, 8, 0] rfl)
                exact hloop135 (nN g + 1) 0 Hd _ _ _ (by omega) (by omega) trivial (by rw [cpy_0]; exact hR.1) (by rw [cpy_0]; exact hP) (by rw [cpy_0]; exact hD) hS (lv_sub hl [2, 3, 4, 5, 6, 7, 8, 1, 0] rfl)
              · skip
                refine lv_aload_n hx hb dX0_send_67 rfl (lv_at hl 0 rfl) ?_
                refine gX_Tb hx hb hts hown hK hP dX0_send_68 ?_
                refine lv_iload_n hx hb dX0_send_71 rfl (lv_at hl 1 rfl) ?_
                refine lv_bipush (v := nI 8) hx hb dX0_send_72 (by decide) ?_
                refine zi_mul hx hb dX0_send_74 ?_
                refine lv_iload hx hb dX0_send_75 (lv_at hl 5 rfl) ?_
                refine zi_add hx hb dX0_send_77 ?_
                refine lv_iload hx hb dX0_send_78 (lv_at hl 7 rfl) ?_
                refine zi_add hx hb dX0_send_80 ?_
                refine lX_Tb hx hb hK hP (by omega) dX0_send_81 ?_
                rcases hT81 : Tb (pn * 8 + fN g + i) with _ | f
                · skip
                  have hg := pg_n hR (by omega) hT81
                  refine zo_ifge (tgt := 88) hx hb dX0_send_82 (by decide) ?_
                  refine lv_bipush (v := (-4)) hx hb dX0_send_85 (by decide) ?_
                  exact hret (-4) (Wo, Hd, Fr, ft, Tb, Kt, hk, La, He, Co, Iw, Pa, Ca) _ _ _ _ dX0_send_87 (px (by simp only [sp_send, pz_3 hq1, pz_3 hq8]; rw [if_neg (by omega), if_neg (by omega), if_neg (fun q => by rw [q i h64] at hg; cases hg)]) hR) hP hD hS
                · refine zo_top ?_
                  have hf := rr_tb hR _ (by omega) f hT81
                  refine zi_ifge (tgt := 88) hx hb (by omega) dX0_send_82 (by decide) ?_
                  refine zi_inc hx hb dX0_send_88 hl (k := 7) rfl (by decide) (fun ls hl => ?_)
                  refine lv_goto (tgt := 60) hx hb dX0_send_91 (by decide) ?_
                  exact ih60 (i + 1)  _ _ _ (by omega) (by omega) trivial (lt_s hI ⟨f, hT81⟩) hP hD hS (lv_sub hl [1, 2, 3, 4, 5, 6, 7, 0] rfl)
          exact hloop60 (nN g + 1) 0  _ _ _ (by omega) (by omega) trivial lt_0 hP hD hS (lv_sub hl [3, 4, 5, 6, 7, 2, 1, 0] rfl)
        · skip
          refine lv_bipush (v := (-2)) hx hb dX0_send_54 (by decide) ?_
          exact hret (-2) (Wo, Hd, Fr, ft, Tb, Kt, hk, La, He, Co, Iw, Pa, Ca) _ _ _ _ dX0_send_56 (px (by simp only [sp_send, pz_3 hq1, pz_3 hq8]; rw [if_neg (by omega), if_pos h51]) hR) hP hD hS
      · skip
        refine lv_bipush (v := (-5)) hx hb dX0_send_26 (by decide) ?_
        exact hret (-5) (Wo, Hd, Fr, ft, Tb, Kt, hk, La, He, Co, Iw, Pa, Ca) _ _ _ _ dX0_send_28 (px (by simp only [sp_send, pz_3 hq1, pz_3 hq8]; rw [if_pos (by omega)]) hR) hP hD hS
set_option maxHeartbeats 4000000 in
set_option maxRecDepth 100000 in
theorem cX_receive (u : XS) (v : MS) (hR : RRt u v) (a b d : Int32) : KI l D cI cZ yX0_receive cX0_receive 7 r2 [.ref (ad 0), .int a, .int b, .int d] (wXt ad cI cZ u) sz (PX (sp_receive a b d v)) (wXt ad cI cZ) := by
  obtain ⟨Pg, Wd, Ls, Kp, KPg, KWd, Ms, Il, Cn, Sn⟩ := v
  obtain ⟨Wo, Hd, Fr, ft, Tb, Kt, hk, La, He, Co, Iw, Pa, Ca⟩ := u
  have hR : RR Wo Hd Fr ft Tb Kt hk La He Co Iw Pa Ca (Pg, Wd, Ls, Kp, KPg, KWd, Ms, Il, Cn, Sn) := hR
  refine fw_i (by decide) (Nat.le_of_ble_eq_true rfl) ?_
  intro p e s m below meth c A Q ls args hx hb hml hts hown hK hP hD hS hA hl hret
  have hown : s.vm.findClass RX0 = some m.cls := hown
  have hP : va_P D vCl (wX ad cI cZ Wo Hd Fr ft Tb Kt hk La He Co Iw Pa Ca) s.heap := hP
  have hD : va_D A (wX ad cI cZ Wo Hd Fr ft Tb Kt hk La He Co Iw Pa Ca) := hD
  have hl : lv_has ls 7 [(0, .ref (ad 0)), (1, .int a), (2, .int b), (3, .int d)] := hl
  refine lv_iload_n hx hb dX0_receive_0 rfl (lv_at hl 1 rfl) ?_
  refine zs_b ⟨hx, hb, hml, hown, hts⟩ hP hS (cX_badNumber l a) (kX_badNumber hts ⟨by decide, by decide⟩) rfl hl.1 rfl (Nat.le_of_ble_eq_true rfl) dX0_receive_1 ⟨Nat.le_refl _, Nat.le_refl _⟩ (fun r H locs hw hP hS => ?_)
  rcases hw with ⟨rfl, hq1⟩ | ⟨rfl, pn, hq1, rfl⟩
  · skip
    refine lv_if_ne (tgt := 14) hx hb dX0_receive_4 (by decide) (fun h9 => ?_) (fun h9 => absurd h9 (by decide))
    refine lv_iconst (v := (-1)) hx hb dX0_receive_14 (by decide) ?_
    exact hret (-1) (Wo, Hd, Fr, ft, Tb, Kt, hk, La, He, Co, Iw, Pa, Ca) _ _ _ _ dX0_receive_15 (px (by simp [sp_receive, pz_b hq1]) hR) hP hD hS
  · skip
    refine lv_if_ne (tgt := 14) hx hb dX0_receive_4 (by decide) (fun h9 => absurd rfl h9) (fun h9 => ?_)
    refine lv_iload_n hx hb dX0_receive_7 rfl (lv_at hl 2 rfl) ?_
    refine zs_b ⟨hx, hb, hml, hown, hts⟩ hP hS (cX_badNumber l b) (kX_badNumber hts ⟨by decide, by decide⟩) rfl hl.1 rfl (Nat.le_of_ble_eq_true rfl) dX0_receive_8 ⟨Nat.le_refl _, Nat.le_refl _⟩ (fun r H locs hw hP hS => ?_)
    rcases hw with ⟨rfl, hq8⟩ | ⟨rfl, on, hq8, rfl⟩
    · skip
      refine lv_if_eq (tgt := 16) hx hb dX0_receive_11 (by decide) (fun h9 => absurd h9 (by decide)) (fun h9 => ?_)
      refine lv_iconst (v := (-1)) hx hb dX0_receive_14 (by decide) ?_
      exact hret (-1) (Wo, Hd, Fr, ft, Tb, Kt, hk, La, He, Co, Iw, Pa, Ca) _ _ _ _ dX0_receive_15 (px (by simp [sp_receive, pz_3 hq1, pz_b hq8]) hR) hP hD hS
    · skip
      refine lv_if_eq (tgt := 16) hx hb dX0_receive_11 (by decide) (fun h9 => ?_) (fun h9 => absurd rfl h9)
      obtain ⟨m1, m2, m3, m4⟩ := hR.2.2.2.1 on hq8
      have m1 : Co on = Ms on := m1
      refine lv_aload_n hx hb dX0_receive_16 rfl (lv_at hl 0 rfl) ?_
      refine gX_Co hx hb hts hown hK hP dX0_receive_17 ?_
      refine lv_iload_n hx hb dX0_receive_20 rfl (lv_at hl 2 rfl) ?_
      refine lX_Co hx hb hK hP (by omega) dX0_receive_21 ?_
      refine zi_ifne (tgt := 28) hx hb (by omega) dX0_receive_22 (by decide) (fun h22 => ?_) (fun h22 => ?_)
      · skip
        obtain ⟨k1, k2, hp3, k4⟩ := m4 0 h22
        rw [show (He on + 0) % 3 = He on by omega] at k1 k2 hp3 k4
        have k2 : Pa (on * 3 + He on) = Cn (on * 3) := k2
        refine lv_iload_n hx hb dX0_receive_28 rfl (lv_at hl 2 rfl) ?_
        refine lv_iconst (v := nI 3) hx hb dX0_receive_29 (by decide) ?_
        refine zi_mul hx hb dX0_receive_30 ?_
        refine lv_aload_n hx hb dX0_receive_31 rfl (lv_at hl 0 rfl) ?_
        refine gX_He hx hb hts hown hK hP dX0_receive_32 ?_
        refine lv_iload_n hx hb dX0_receive_35 rfl (lv_at hl 2 rfl) ?_
        refine lX_He hx hb hK hP (by omega) dX0_receive_36 ?_
        refine zi_add hx hb dX0_receive_37 ?_
        refine zi_st hx hb dX0_receive_38 hl (by decide) (fun ls hl => ?_)
        refine lv_aload_n hx hb dX0_receive_40 rfl (lv_at hl 1 rfl) ?_
        refine gX_Pa hx hb hts hown hK hP dX0_receive_41 ?_
        refine lv_iload hx hb dX0_receive_44 (lv_at hl 0 rfl) ?_
        refine lX_Pa hx hb hK hP (by omega) dX0_receive_46 ?_
        refine zi_st hx hb dX0_receive_47 hl (by decide) (fun ls hl => ?_)
        refine lv_iload_n hx hb dX0_receive_49 rfl (lv_at hl 5 rfl) ?_
        refine zs_b ⟨hx, hb, hml, hown, hts⟩ hP hS (cX_badPage l d) (kX_badPage hts ⟨by decide, by decide⟩) rfl hl.1 rfl (Nat.le_of_ble_eq_true rfl) dX0_receive_50 ⟨Nat.le_refl _, Nat.le_refl _⟩ (fun r H locs hw hP hS => ?_)
        rcases hw with ⟨rfl, hq50⟩ | ⟨rfl, qn, hq50, rfl⟩
        · skip
          refine lv_if_ne (tgt := 65) hx hb dX0_receive_53 (by decide) (fun h9 => ?_) (fun h9 => absurd h9 (by decide))
          refine lv_bipush (v := (-2)) hx hb dX0_receive_65 (by decide) ?_
          exact hret (-2) (Wo, Hd, Fr, ft, Tb, Kt, hk, La, He, Co, Iw, Pa, Ca) _ _ _ _ dX0_receive_67 (px (by simp only [sp_receive, pz_3 hq1, pz_3 hq8]; rw [if_neg (by omega)]; simp only [pz_b hq50]) hR) hP hD hS
        · skip
          refine lv_if_ne (tgt := 65) hx hb dX0_receive_53 (by decide) (fun h9 => absurd rfl h9) (fun h9 => ?_)
          refine lv_iload_n hx hb dX0_receive_56 rfl (lv_at hl 5 rfl) ?_
          refine lv_iload hx hb dX0_receive_57 (lv_at hl 0 rfl) ?_
          refine zi_add hx hb dX0_receive_59 ?_
          refine lv_bipush (v := nI 8) hx hb dX0_receive_60 (by decide) ?_
          refine zi_le (tgt := 68) hx hb (by omega) (by omega) dX0_receive_62 (by decide) (fun h62 => ?_) (fun h62 => ?_)
          · skip
            refine lv_iconst (v := nI 0) hx hb dX0_receive_68 (by decide) ?_
            refine zi_st hx hb dX0_receive_69 hl (by decide) (fun ls hl => ?_)
            have hloop71 : ∀ (n : Nat) (i : Nat) (H : Heap) (locs : List Loc) (ls : Array Slot), i ≤ Pa (on * 3 + He on) → Pa (on * 3 + He on) + 1 ≤ i + n → True → (∀ j, j < i → Tb (pn * 8 + qn + j) = none) → va_P D vCl (wX ad cI cZ Wo Hd Fr ft Tb Kt hk La He Co Iw Pa Ca) H → va_D A (wX ad cI cZ Wo Hd Fr ft Tb Kt hk La He Co Iw Pa Ca) → va_S A s.heap H locs → lv_has ls 7 [(0, .ref (ad 0)), (1, .int (nI pn)), (2, .int (nI on)), (3, .int (nI qn)), (4, .int (nI (on * 3 + He on))), (5, .int (nI (Pa (on * 3 + He on)))), (6, .int (nI i))] → W p l e r2 s m args below meth c H locs 0 0 Q (F0 m 71 ls []) := by
              intro n71
              induction n71 with
              | zero => intro i H locs ls hi hn; exact absurd hn (by omega)
              | succ n71 ih71 =>
                intro i H locs ls hi hn _ hI hP hD hS hl
                refine lv_iload hx hb dX0_receive_71 (lv_at hl 6 rfl) ?_
                refine lv_iload hx hb dX0_receive_73 (lv_at hl 5 rfl) ?_
                refine zi_ge (tgt := 104) hx hb (by omega) (by omega) dX0_receive_75 (by decide) (fun h75 => ?_) (fun h75 => ?_)
                · skip
                  have hAll : ∀ j, j < Pa (on * 3 + He on) → Tb (pn * 8 + qn + j) = none := fun j hj => hI j (by omega)
                  refine lv_iconst (v := nI 0) hx hb dX0_receive_104 (by decide) ?_
                  refine zi_st hx hb dX0_receive_105 hl (by decide) (fun ls hl => ?_)
                  have hloop107 : ∀ (n : Nat) (k : Nat) (H : Heap) (locs : List Loc) (ls : Array Slot), k ≤ Pa (on * 3 + He on) → Pa (on * 3 + He on) + 1 ≤ k + n → True → Pool (sl (va_cpy Ca Tb ((on * 3 + He on) * 3) (pn * 8 + qn)  k) Kt (va_cpy (fun _ => none) (lvL He Co Pa Ca) 0 ((on * 3 + He on) * 3) k)) Hd Fr ft → va_P D vCl (wX ad cI cZ Wo Hd Fr ft (va_cpy Ca Tb ((on * 3 + He on) * 3) (pn * 8 + qn) k) Kt hk La He Co Iw Pa Ca) H → va_D A (wX ad cI cZ Wo Hd Fr ft (va_cpy Ca Tb ((on * 3 + He on) * 3) (pn * 8 + qn) k) Kt hk La He Co Iw Pa Ca) → va_S A s.heap H locs → lv_has ls 7 [(0, .ref (ad 0)), (1, .int (nI pn)), (2, .int (nI on)), (3, .int (nI qn)), (4, .int (nI (on * 3 + He on))), (5, .int (nI (Pa (on * 3 + He on)))), (6, .int (nI k))] → W p l e r2 s m args below meth c H locs 0 0 Q (F0 m 107 ls []) := by
                    intro n107
                    induction n107 with
                    | zero => intro k H locs ls hi hn; exact absurd hn (by omega)
                    | succ n107 ih107 =>
                      intro k H locs ls hi hn _ hJ hP hD hS hl
                      refine lv_iload hx hb dX0_receive_107 (lv_at hl 6 rfl) ?_
                      refine lv_iload hx hb dX0_receive_109 (lv_at hl 5 rfl) ?_
                      refine zi_ge (tgt := 146) hx hb (by omega) (by omega) dX0_receive_111 (by decide) (fun h111 => ?_) (fun h111 => ?_)
                      · skip
                        have ek : k = Pa (on * 3 + He on) := by omega
                        subst ek
                        refine lv_aload_n hx hb dX0_receive_146 rfl (lv_at hl 0 rfl) ?_
                        refine gX_La hx hb hts hown hK hP dX0_receive_147 ?_
                        refine lv_iload_n hx hb dX0_receive_150 rfl (lv_at hl 1 rfl) ?_
                        refine lv_aload_n hx hb dX0_receive_151 rfl (lv_at hl 0 rfl) ?_
                        refine gX_Iw hx hb hts hown hK hP dX0_receive_152 ?_
                        refine lv_iload hx hb dX0_receive_155 (lv_at hl 4 rfl) ?_
                        refine lX_Iw hx hb hK hP (by omega) dX0_receive_157 ?_
                        refine sX_La hx hb hK hP hD hS (by omega) dX0_receive_158 (fun H locs hP hD hS => ?_)
                        refine lv_aload_n hx hb dX0_receive_159 rfl (lv_at hl 0 rfl) ?_
                        refine lv_iload_n hx hb dX0_receive_160 rfl (lv_at hl 2 rfl) ?_
                        refine zc_v (ci := 0) (q0 := 0) ⟨hx, hb, hml, hown, hts⟩ hK hP hD hS hA (cX_dropHead on hq8 m3 (by omega) (by omega)) (kX_dropHead hts ⟨by decide, by decide⟩) rfl rfl rfl rfl hl.1 rfl (Nat.le_of_ble_eq_true rfl) dX0_receive_161 ⟨Nat.le_refl _, Nat.le_refl _⟩ (fun u2 H locs hw hP hD hS => ?_)
                        obtain ⟨u3, u4⟩ := u2
                        obtain ⟨rfl, rfl⟩ : u3 = va_up He on (if He on = 2 then 0 else He on + 1) ∧ u4 = va_up Co on (Co on - 1) := hw
                        refine lv_iload hx hb dX0_receive_164 (lv_at hl 5 rfl) ?_
                        exact hret _ (Wo, Hd, Fr, ft, va_cpy Ca Tb ((on * 3 + He on) * 3) (pn * 8 + qn) (Pa (on * 3 + He on)), Kt, hk, va_up La pn (Iw (on * 3 + He on)), va_up He on (if He on = 2 then 0 else He on + 1), va_up Co on (Co on - 1), Iw, Pa, Ca) _ _ _ _ dX0_receive_166 (R_recv hR hq1 hq8 hq50 h22 h62 hAll hJ) hP hD hS
                      · skip
                        refine lv_aload_n hx hb dX0_receive_114 rfl (lv_at hl 0 rfl) ?_
                        refine gX_Tb hx hb hts hown hK hP dX0_receive_115 ?_
                        refine lv_iload_n hx hb dX0_receive_118 rfl (lv_at hl 1 rfl) ?_
                        refine lv_bipush (v := nI 8) hx hb dX0_receive_119 (by decide) ?_
                        refine zi_mul hx hb dX0_receive_121 ?_
                        refine lv_iload_n hx hb dX0_receive_122 rfl (lv_at hl 3 rfl) ?_
                        refine zi_add hx hb dX0_receive_123 ?_
                        refine lv_iload hx hb dX0_receive_124 (lv_at hl 6 rfl) ?_
                        refine zi_add hx hb dX0_receive_126 ?_
                        refine lv_aload_n hx hb dX0_receive_127 rfl (lv_at hl 0 rfl) ?_
                        refine gX_Ca hx hb hts hown hK hP dX0_receive_128 ?_
                        refine lv_iload hx hb dX0_receive_131 (lv_at hl 4 rfl) ?_
                        refine lv_iconst (v := nI 3) hx hb dX0_receive_133 (by decide) ?_
                        refine zi_mul hx hb dX0_receive_134 ?_
                        refine lv_iload hx hb dX0_receive_135 (lv_at hl 6 rfl) ?_
                        refine zi_add hx hb dX0_receive_137 ?_
                        refine lX_Ca hx hb hK hP (by omega) dX0_receive_138 ?_
                        refine sX_Tb hx hb hK hP hD hS (by omega) dX0_receive_139 (fun H locs hP hD hS => ?_)
                        refine zi_inc hx hb dX0_receive_140 hl (k := 6) rfl (by decide) (fun ls hl => ?_)
                        refine lv_goto (tgt := 107) hx hb dX0_receive_143 (by decide) ?_
                        rw [cpy_s] at hP hD
                        exact ih107 (k + 1)  _ _ _ (by omega) (by omega) trivial (rc_step m3 h22 hq8 h111 hp3 (by omega) (hAll k h111) hJ) hP hD hS (lv_sub hl [1, 2, 3, 4, 5, 6, 0] rfl)
                  exact hloop107 (Pa (on * 3 + He on) + 1) 0  _ _ _ (by omega) (by omega) trivial (by rw [cpy_0, cpy_0]; exact hR.1) (by rw [cpy_0]; exact hP) (by rw [cpy_0]; exact hD) hS (lv_sub hl [1, 2, 3, 4, 5, 6, 0] rfl)
                · skip
                  refine lv_aload_n hx hb dX0_receive_78 rfl (lv_at hl 0 rfl) ?_
                  refine gX_Tb hx hb hts hown hK hP dX0_receive_79 ?_
                  refine lv_iload_n hx hb dX0_receive_82 rfl (lv_at hl 1 rfl) ?_
                  refine lv_bipush (v := nI 8) hx hb dX0_receive_83 (by decide) ?_
                  refine zi_mul hx hb dX0_receive_85 ?_
                  refine lv_iload_n hx hb dX0_receive_86 rfl (lv_at hl 3 rfl) ?_
                  refine zi_add hx hb dX0_receive_87 ?_
                  refine lv_iload hx hb dX0_receive_88 (lv_at hl 6 rfl) ?_
                  refine zi_add hx hb dX0_receive_90 ?_
                  refine lX_Tb hx hb hK hP (by omega) dX0_receive_91 ?_
                  rcases hT91 : Tb (pn * 8 + qn + i) with _ | f
                  · skip
                    refine zo_iflt (tgt := 98) hx hb dX0_receive_92 (by decide) ?_
                    refine zi_inc hx hb dX0_receive_98 hl (k := 6) rfl (by decide) (fun ls hl => ?_)
                    refine lv_goto (tgt := 71) hx hb dX0_receive_101 (by decide) ?_
                    exact ih71 (i + 1)  _ _ _ (by omega) (by omega) trivial (lt_s hI hT91) hP hD hS (lv_sub hl [1, 2, 3, 4, 5, 6, 0] rfl)
                  · refine zo_top ?_
                    have hf := rr_tb hR _ (by omega) f hT91
                    have hg := pg_s hR (by omega) hT91
                    refine zi_iflt (tgt := 98) hx hb (by omega) dX0_receive_92 (by decide) ?_
                    refine lv_bipush (v := (-3)) hx hb dX0_receive_95 (by decide) ?_
                    exact hret (-3) (Wo, Hd, Fr, ft, Tb, Kt, hk, La, He, Co, Iw, Pa, Ca) _ _ _ _ dX0_receive_97 (px (by simp only [sp_receive, pz_3 hq1, pz_3 hq8]; rw [if_neg (by omega)]; simp only [pz_8 hq50]; rw [if_neg (by omega), if_neg (fun q => by rw [q i (by omega)] at hg; cases hg)]) hR) hP hD hS
            exact hloop71 (Pa (on * 3 + He on) + 1) 0  _ _ _ (by omega) (by omega) trivial lt_0 hP hD hS (lv_sub hl [3, 4, 5, 6, 2, 1, 0] rfl)
          · skip
            refine lv_bipush (v := (-2)) hx hb dX0_receive_65 (by decide) ?_
            exact hret (-2) (Wo, Hd, Fr, ft, Tb, Kt, hk, La, He, Co, Iw, Pa, Ca) _ _ _ _ dX0_receive_67 (px (by simp only [sp_receive, pz_3 hq1, pz_3 hq8]; rw [if_neg (by omega)]; simp only [pz_8 hq50]; rw [if_pos (by omega)]) hR) hP hD hS
      · skip
        refine lv_bipush (v := (-6)) hx hb dX0_receive_25 (by decide) ?_
        exact hret (-6) (Wo, Hd, Fr, ft, Tb, Kt, hk, La, He, Co, Iw, Pa, Ca) _ _ _ _ dX0_receive_27 (px (by simp only [sp_receive, pz_3 hq1, pz_3 hq8]; rw [if_pos (by omega)]) hR) hP hD hS
set_option maxHeartbeats 4000000 in
set_option maxRecDepth 100000 in
theorem cX_drain (u : XS) (v : MS) (hR : RRt u v) (a : Int32) : KI l D cI cZ yX0_drain cX0_drain 6 r2 [.ref (ad 0), .int a] (wXt ad cI cZ u) sz (PX (sp_drain a v)) (wXt ad cI cZ) := by
  obtain ⟨Pg, Wd, Ls, Kp, KPg, KWd, Ms, Il, Cn, Sn⟩ := v
  obtain ⟨Wo, Hd, Fr, ft, Tb, Kt, hk, La, He, Co, Iw, Pa, Ca⟩ := u
  have hR : RR Wo Hd Fr ft Tb Kt hk La He Co Iw Pa Ca (Pg, Wd, Ls, Kp, KPg, KWd, Ms, Il, Cn, Sn) := hR
  refine fw_i (by decide) (Nat.le_of_ble_eq_true rfl) ?_
  intro p e s m below meth c A Q ls args hx hb hml hts hown hK hP hD hS hA hl hret
  have hown : s.vm.findClass RX0 = some m.cls := hown
  have hP : va_P D vCl (wX ad cI cZ Wo Hd Fr ft Tb Kt hk La He Co Iw Pa Ca) s.heap := hP
  have hD : va_D A (wX ad cI cZ Wo Hd Fr ft Tb Kt hk La He Co Iw Pa Ca) := hD
  have hl : lv_has ls 6 [(0, .ref (ad 0)), (1, .int a)] := hl
  refine lv_iload_n hx hb dX0_drain_0 rfl (lv_at hl 1 rfl) ?_
  refine zs_b ⟨hx, hb, hml, hown, hts⟩ hP hS (cX_badNumber l a) (kX_badNumber hts ⟨by decide, by decide⟩) rfl hl.1 rfl (Nat.le_of_ble_eq_true rfl) dX0_drain_1 ⟨Nat.le_refl _, Nat.le_refl _⟩ (fun r H locs hw hP hS => ?_)
  rcases hw with ⟨rfl, hq1⟩ | ⟨rfl, on, hq1, rfl⟩
  · skip
    refine lv_if_eq (tgt := 9) hx hb dX0_drain_4 (by decide) (fun h9 => absurd h9 (by decide)) (fun h9 => ?_)
    refine lv_iconst (v := (-1)) hx hb dX0_drain_7 (by decide) ?_
    exact hret (-1) (Wo, Hd, Fr, ft, Tb, Kt, hk, La, He, Co, Iw, Pa, Ca) _ _ _ _ dX0_drain_8 (px (by simp [sp_drain, pz_b hq1]) hR) hP hD hS
  · skip
    refine lv_if_eq (tgt := 9) hx hb dX0_drain_4 (by decide) (fun h9 => ?_) (fun h9 => absurd rfl h9)
    obtain ⟨m1, m2, m3, m4⟩ := hR.2.2.2.1 on hq1
    refine lv_aload_n hx hb dX0_drain_9 rfl (lv_at hl 0 rfl) ?_
    refine gX_Co hx hb hts hown hK hP dX0_drain_10 ?_
    refine lv_iload_n hx hb dX0_drain_13 rfl (lv_at hl 1 rfl) ?_
    refine lX_Co hx hb hK hP (by omega) dX0_drain_14 ?_
    refine zi_stn hx hb dX0_drain_15 rfl hl (by decide) (fun ls hl => ?_)
    refine lv_iconst (v := nI 0) hx hb dX0_drain_16 (by decide) ?_
    refine zi_stn hx hb dX0_drain_17 rfl hl (by decide) (fun ls hl => ?_)
    have hloop18 : ∀ (n : Nat) (k : Nat) (Hd : Nat → Nat) (Fr : Nat → Nat) (ft : Nat) (H : Heap) (locs : List Loc) (ls : Array Slot), k ≤ Co on → Co on + 1 ≤ k + n → True → Pool (sl Tb Kt (lvL (va_up He on ((He on + k) % 3)) (va_up Co on (Co on - k)) Pa Ca)) Hd Fr ft → va_P D vCl (wX ad cI cZ Wo Hd Fr ft Tb Kt hk La (va_up He on ((He on + k) % 3)) (va_up Co on (Co on - k)) Iw Pa Ca) H → va_D A (wX ad cI cZ Wo Hd Fr ft Tb Kt hk La (va_up He on ((He on + k) % 3)) (va_up Co on (Co on - k)) Iw Pa Ca) → va_S A s.heap H locs → lv_has ls 6 [(0, .ref (ad 0)), (1, .int (nI on)), (2, .int (nI (Co on))), (3, .int (nI k))] → W p l e r2 s m args below meth c H locs 0 0 Q (F0 m 18 ls []) := by
      intro n18
      induction n18 with
      | zero => intro k Hd Fr ft H locs ls hi hn; exact absurd hn (by omega)
      | succ n18 ih18 =>
        intro k Hd Fr ft H locs ls hi hn _ hJ hP hD hS hl
        refine lv_iload_n hx hb dX0_drain_18 rfl (lv_at hl 3 rfl) ?_
        refine lv_iload_n hx hb dX0_drain_19 rfl (lv_at hl 2 rfl) ?_
        refine zi_ge (tgt := 83) hx hb (by omega) (by omega) dX0_drain_20 (by decide) (fun h20 => ?_) (fun h20 => ?_)
        · skip
          refine lv_iload_n hx hb dX0_drain_83 rfl (lv_at hl 2 rfl) ?_
          have ek : k = Co on := by omega
          subst ek
          rw [Nat.sub_self] at hP hD hJ
          exact hret _ (Wo, Hd, Fr, ft, Tb, Kt, hk, La, va_up He on ((He on + Co on) % 3), va_up Co on 0, Iw, Pa, Ca) _ _ _ _ dX0_drain_84 (R_drain hR hq1 (by omega) hJ) hP hD hS
        · skip
          obtain ⟨-, -, hp3, -⟩ := m4 k h20
          refine lv_iload_n hx hb dX0_drain_23 rfl (lv_at hl 1 rfl) ?_
          refine lv_iconst (v := nI 3) hx hb dX0_drain_24 (by decide) ?_
          refine zi_mul hx hb dX0_drain_25 ?_
          refine lv_aload_n hx hb dX0_drain_26 rfl (lv_at hl 0 rfl) ?_
          refine gX_He hx hb hts hown hK hP dX0_drain_27 ?_
          refine lv_iload_n hx hb dX0_drain_30 rfl (lv_at hl 1 rfl) ?_
          refine lX_He hx hb hK hP (by omega) dX0_drain_31 ?_
          rw [vu_s]
          refine zi_add hx hb dX0_drain_32 ?_
          refine zi_st hx hb dX0_drain_33 hl (by decide) (fun ls hl => ?_)
          refine lv_iconst (v := nI 0) hx hb dX0_drain_35 (by decide) ?_
          refine zi_st hx hb dX0_drain_36 hl (by decide) (fun ls hl => ?_)
          have hloop38 : ∀ (n : Nat) (i : Nat) (Hd : Nat → Nat) (Fr : Nat → Nat) (ft : Nat) (H : Heap) (locs : List Loc) (ls : Array Slot), i ≤ Pa (on * 3 + (He on + k) % 3) → Pa (on * 3 + (He on + k) % 3) + 1 ≤ i + n → True → Pool (sl Tb Kt (va_cpy (fun _ => none) (lvL (va_up He on ((He on + k) % 3)) (va_up Co on (Co on - k)) Pa Ca) 0 ((on * 3 + (He on + k) % 3) * 3) i)) Hd Fr ft → va_P D vCl (wX ad cI cZ Wo Hd Fr ft Tb Kt hk La (va_up He on ((He on + k) % 3)) (va_up Co on (Co on - k)) Iw Pa Ca) H → va_D A (wX ad cI cZ Wo Hd Fr ft Tb Kt hk La (va_up He on ((He on + k) % 3)) (va_up Co on (Co on - k)) Iw Pa Ca) → va_S A s.heap H locs → lv_has ls 6 [(0, .ref (ad 0)), (1, .int (nI on)), (2, .int (nI (Co on))), (3, .int (nI k)), (4, .int (nI (on * 3 + (He on + k) % 3))), (5, .int (nI i))] → W p l e r2 s m args below meth c H locs 0 0 Q (F0 m 38 ls []) := by
            intro n38
            induction n38 with
            | zero => intro i Hd Fr ft H locs ls hi hn; exact absurd hn (by omega)
            | succ n38 ih38 =>
              intro i Hd Fr ft H locs ls hi hn _ hI hP hD hS hl
              refine lv_iload hx hb dX0_drain_38 (lv_at hl 5 rfl) ?_
              refine lv_aload_n hx hb dX0_drain_40 rfl (lv_at hl 0 rfl) ?_
              refine gX_Pa hx hb hts hown hK hP dX0_drain_41 ?_
              refine lv_iload hx hb dX0_drain_44 (lv_at hl 4 rfl) ?_
              refine lX_Pa hx hb hK hP (by omega) dX0_drain_46 ?_
              refine zi_ge (tgt := 72) hx hb (by omega) (by omega) dX0_drain_47 (by decide) (fun h47 => ?_) (fun h47 => ?_)
              · skip
                have ei : i = Pa (on * 3 + (He on + k) % 3) := by omega
                subst ei
                refine lv_aload_n hx hb dX0_drain_72 rfl (lv_at hl 0 rfl) ?_
                refine lv_iload_n hx hb dX0_drain_73 rfl (lv_at hl 1 rfl) ?_
                refine zc_v (ci := 0) (q0 := 0) ⟨hx, hb, hml, hown, hts⟩ hK hP hD hS hA (cX_dropHead on hq1 (by rw [vu_s]; omega) (by rw [vu_s]; omega) (by rw [vu_s]; omega)) (kX_dropHead hts ⟨by decide, by decide⟩) rfl rfl rfl rfl hl.1 rfl (Nat.le_of_ble_eq_true rfl) dX0_drain_74 ⟨Nat.le_refl _, Nat.le_refl _⟩ (fun u2 H locs hw hP hD hS => ?_)
                refine zi_inc hx hb dX0_drain_77 hl (k := 3) rfl (by decide) (fun ls hl => ?_)
                refine lv_goto (tgt := 18) hx hb dX0_drain_80 (by decide) ?_
                obtain ⟨u3, u4⟩ := u2
                have e3 : u3 = va_up He on ((He on + (k + 1)) % 3) := by
                  refine hw.1.trans ?_
                  rw [vu_s, bx_uu]
                  congr 1
                  split <;> omega
                have e4 : u4 = va_up Co on (Co on - (k + 1)) := by
                  refine hw.2.trans ?_
                  rw [vu_s, bx_uu]
                  rfl
                subst e3
                subst e4
                exact ih18 (k + 1) Hd Fr ft _ _ _ (by omega) (by omega) trivial (dr_step m3 m2 h20 hp3 hI) hP hD hS (lv_sub hl [1, 2, 3, 0] rfl)
              · skip
                refine lv_aload_n hx hb dX0_drain_50 rfl (lv_at hl 0 rfl) ?_
                refine lv_aload_n hx hb dX0_drain_51 rfl (lv_at hl 0 rfl) ?_
                refine gX_Ca hx hb hts hown hK hP dX0_drain_52 ?_
                refine lv_iload hx hb dX0_drain_55 (lv_at hl 4 rfl) ?_
                refine lv_iconst (v := nI 3) hx hb dX0_drain_57 (by decide) ?_
                refine zi_mul hx hb dX0_drain_58 ?_
                refine lv_iload hx hb dX0_drain_59 (lv_at hl 5 rfl) ?_
                refine zi_add hx hb dX0_drain_61 ?_
                refine lX_Ca hx hb hK hP (by omega) dX0_drain_62 ?_
                refine zc_v (ci := 0) (q0 := 0) ⟨hx, hb, hml, hown, hts⟩ hK hP hD hS hA (cX_letGo (Ca ((on * 3 + (He on + k) % 3) * 3 + i)) (hI.lg (k := 48 + ((on * 3 + (He on + k) % 3) * 3 + i)) (by omega) (by have hd := rc_drop (Tb := Tb) (Kt := Kt) (He := va_up He on ((He on + k) % 3)) (Co := va_up Co on (Co on - k)) (Pa := Pa) (Ca := Ca) (o := on) (i := i) (by rw [vu_s]; omega) (by rw [vu_s]; omega) hq1 (by rw [vu_s]; exact h47) (by rw [vu_s]; exact hp3); rw [vu_s] at hd; exact hd))) (kX_letGo hts ⟨by decide, by decide⟩) rfl rfl rfl rfl hl.1 rfl (Nat.le_of_ble_eq_true rfl) dX0_drain_63 ⟨Nat.le_refl _, Nat.le_refl _⟩ (fun u2 H locs hw hP hD hS => ?_)
                refine zi_inc hx hb dX0_drain_66 hl (k := 5) rfl (by decide) (fun ls hl => ?_)
                refine lv_goto (tgt := 38) hx hb dX0_drain_69 (by decide) ?_
                have hI2 := rc_let (He := va_up He on ((He on + k) % 3)) (Co := va_up Co on (Co on - k)) (Pa := Pa) (Ca := Ca) (o := on) (i := i) (by rw [vu_s]; omega) (by rw [vu_s]; omega) hq1 (by rw [vu_s]; exact h47) (by rw [vu_s]; exact hp3) (by rw [vu_s]; exact hI)
                rw [vu_s, ← hw] at hI2
                exact ih38 (i + 1) u2.1 u2.2.1 u2.2.2 _ _ _ (by omega) (by omega) trivial hI2 hP hD hS (lv_sub hl [1, 2, 3, 4, 5, 0] rfl)
          exact hloop38 (Pa (on * 3 + (He on + k) % 3) + 1) 0 Hd Fr ft _ _ _ (by omega) (by omega) trivial (by rw [cpy_0]; exact hJ) hP hD hS (lv_sub hl [2, 3, 4, 5, 1, 0] rfl)
    have eH : va_up He on ((He on + 0) % 3) = He := vu_id (by omega)
    have eC : va_up Co on (Co on - 0) = Co := vu_id rfl
    exact hloop18 (Co on + 1) 0 Hd Fr ft _ _ _ (by omega) (by omega) trivial (by rw [eH, eC]; exact hR.1) (by rw [eH, eC]; exact hP) (by rw [eH, eC]; exact hD) hS (lv_sub hl [2, 3, 1, 0] rfl)
set_option maxHeartbeats 4000000 in
set_option maxRecDepth 100000 in
theorem cX_snapshot (u : XS) (v : MS) (hR : RRt u v) (a : Int32) : KI l D cI cZ yX0_snapshot cX0_snapshot 3 r2 [.ref (ad 0), .int a] (wXt ad cI cZ u) sz (PX (sp_snapshot a v)) (wXt ad cI cZ) := by
  obtain ⟨Pg, Wd, Ls, Kp, KPg, KWd, Ms, Il, Cn, Sn⟩ := v
  obtain ⟨Wo, Hd, Fr, ft, Tb, Kt, hk, La, He, Co, Iw, Pa, Ca⟩ := u
  have hR : RR Wo Hd Fr ft Tb Kt hk La He Co Iw Pa Ca (Pg, Wd, Ls, Kp, KPg, KWd, Ms, Il, Cn, Sn) := hR
  refine fw_i (by decide) (Nat.le_of_ble_eq_true rfl) ?_
  intro p e s m below meth c A Q ls args hx hb hml hts hown hK hP hD hS hA hl hret
  have hown : s.vm.findClass RX0 = some m.cls := hown
  have hP : va_P D vCl (wX ad cI cZ Wo Hd Fr ft Tb Kt hk La He Co Iw Pa Ca) s.heap := hP
  have hD : va_D A (wX ad cI cZ Wo Hd Fr ft Tb Kt hk La He Co Iw Pa Ca) := hD
  have hl : lv_has ls 3 [(0, .ref (ad 0)), (1, .int a)] := hl
  refine lv_iload_n hx hb dX0_snapshot_0 rfl (lv_at hl 1 rfl) ?_
  refine zs_b ⟨hx, hb, hml, hown, hts⟩ hP hS (cX_badNumber l a) (kX_badNumber hts ⟨by decide, by decide⟩) rfl hl.1 rfl (Nat.le_of_ble_eq_true rfl) dX0_snapshot_1 ⟨Nat.le_refl _, Nat.le_refl _⟩ (fun r H locs hw hP hS => ?_)
  rcases hw with ⟨rfl, hq1⟩ | ⟨rfl, pn, hq1, rfl⟩
  · skip
    refine lv_if_eq (tgt := 9) hx hb dX0_snapshot_4 (by decide) (fun h9 => absurd h9 (by decide)) (fun h9 => ?_)
    refine lv_iconst (v := (-1)) hx hb dX0_snapshot_7 (by decide) ?_
    exact hret (-1) (Wo, Hd, Fr, ft, Tb, Kt, hk, La, He, Co, Iw, Pa, Ca) _ _ _ _ dX0_snapshot_8 (px (by simp [sp_snapshot, pz_b hq1]) hR) hP hD hS
  · skip
    refine lv_if_eq (tgt := 9) hx hb dX0_snapshot_4 (by decide) (fun h9 => ?_) (fun h9 => absurd rfl h9)
    refine lv_aload_n hx hb dX0_snapshot_9 rfl (lv_at hl 0 rfl) ?_
    refine lv_iload_n hx hb dX0_snapshot_10 rfl (lv_at hl 1 rfl) ?_
    refine zc_v (ci := 0) (q0 := 0) ⟨hx, hb, hml, hown, hts⟩ hK hP hD hS hA (cX_clearKept (lvL He Co Pa Ca) pn hq1 hR.1) (kX_clearKept hts ⟨by decide, by decide⟩) rfl rfl rfl rfl hl.1 rfl (Nat.le_of_ble_eq_true rfl) dX0_snapshot_11 ⟨Nat.le_refl _, Nat.le_refl _⟩ (fun u2 H locs hw hP hD hS => ?_)
    obtain ⟨Hd, Fr, ft⟩ := u2
    refine lv_iconst (v := nI 0) hx hb dX0_snapshot_14 (by decide) ?_
    refine zi_stn hx hb dX0_snapshot_15 rfl hl (by decide) (fun ls hl => ?_)
    have hloop16 : ∀ (n : Nat) (i : Nat) (Hd : Nat → Nat) (H : Heap) (locs : List Loc) (ls : Array Slot), i ≤ 8 → 8 + 1 ≤ i + n → True → Pool (sl Tb (va_cpy Tb (va_cpy (fun _ => none) Kt 0 (pn * 8) 8) (pn * 8) (pn * 8)  i) (lvL He Co Pa Ca)) Hd Fr ft → va_P D vCl (wX ad cI cZ Wo Hd Fr ft Tb (va_cpy Tb (va_cpy (fun _ => none) Kt 0 (pn * 8) 8) (pn * 8) (pn * 8) i) (va_up hk pn false) La He Co Iw Pa Ca) H → va_D A (wX ad cI cZ Wo Hd Fr ft Tb (va_cpy Tb (va_cpy (fun _ => none) Kt 0 (pn * 8) 8) (pn * 8) (pn * 8) i) (va_up hk pn false) La He Co Iw Pa Ca) → va_S A s.heap H locs → lv_has ls 3 [(0, .ref (ad 0)), (1, .int (nI pn)), (2, .int (nI i))] → W p l e r2 s m args below meth c H locs 0 0 Q (F0 m 16 ls []) := by
      intro n16
      induction n16 with
      | zero => intro i Hd H locs ls hi hn; exact absurd hn (by omega)
      | succ n16 ih16 =>
        intro i Hd H locs ls hi hn _ hJ hP hD hS hl
        refine lv_iload_n hx hb dX0_snapshot_16 rfl (lv_at hl 2 rfl) ?_
        refine lv_bipush (v := nI 8) hx hb dX0_snapshot_17 (by decide) ?_
        refine zi_ge (tgt := 54) hx hb (by omega) (by omega) dX0_snapshot_19 (by decide) (fun h19 => ?_) (fun h19 => ?_)
        · skip
          have e8 : i = 8 := by omega
          subst e8
          refine lv_aload_n hx hb dX0_snapshot_54 rfl (lv_at hl 0 rfl) ?_
          refine gX_hk hx hb hts hown hK hP dX0_snapshot_55 ?_
          refine lv_iload_n hx hb dX0_snapshot_58 rfl (lv_at hl 1 rfl) ?_
          refine lv_iconst (v := bI true) hx hb dX0_snapshot_59 (by decide) ?_
          refine sX_hk hx hb hK hP hD hS (by omega) dX0_snapshot_60 (fun H locs hP hD hS => ?_)
          have hX := R_snap hR hq1 hJ
          refine lv_aload_n hx hb dX0_snapshot_61 rfl (lv_at hl 0 rfl) ?_
          refine lv_iload_n hx hb dX0_snapshot_62 rfl (lv_at hl 1 rfl) ?_
          refine zc_i (ci := 0) (q0 := 0) ⟨hx, hb, hml, hown, hts⟩ hK hP hD hS hA (cX_mappedPages _ hq1 (rr_tb hX.2)) (kX_mappedPages hts ⟨by decide, by decide⟩) rfl rfl rfl rfl hl.1 rfl (Nat.le_of_ble_eq_true rfl) dX0_snapshot_63 ⟨Nat.le_refl _, Nat.le_refl _⟩ (fun r u2 H locs hw hP hD hS => ?_)
          subst hw
          exact hret _ (Wo, Hd, Fr, ft, Tb, va_cpy Tb (va_cpy (fun _ => none) Kt 0 (pn * 8) 8) (pn * 8) (pn * 8) 8, va_up (va_up hk pn false) pn true, La, He, Co, Iw, Pa, Ca) _ _ _ _ dX0_snapshot_66 hX hP hD hS
        · skip
          refine lv_aload_n hx hb dX0_snapshot_22 rfl (lv_at hl 0 rfl) ?_
          refine gX_Kt hx hb hts hown hK hP dX0_snapshot_23 ?_
          refine lv_iload_n hx hb dX0_snapshot_26 rfl (lv_at hl 1 rfl) ?_
          refine lv_bipush (v := nI 8) hx hb dX0_snapshot_27 (by decide) ?_
          refine zi_mul hx hb dX0_snapshot_29 ?_
          refine lv_iload_n hx hb dX0_snapshot_30 rfl (lv_at hl 2 rfl) ?_
          refine zi_add hx hb dX0_snapshot_31 ?_
          refine lv_aload_n hx hb dX0_snapshot_32 rfl (lv_at hl 0 rfl) ?_
          refine lv_aload_n hx hb dX0_snapshot_33 rfl (lv_at hl 0 rfl) ?_
          refine gX_Tb hx hb hts hown hK hP dX0_snapshot_34 ?_
          refine lv_iload_n hx hb dX0_snapshot_37 rfl (lv_at hl 1 rfl) ?_
          refine lv_bipush (v := nI 8) hx hb dX0_snapshot_38 (by decide) ?_
          refine zi_mul hx hb dX0_snapshot_40 ?_
          refine lv_iload_n hx hb dX0_snapshot_41 rfl (lv_at hl 2 rfl) ?_
          refine zi_add hx hb dX0_snapshot_42 ?_
          refine lX_Tb hx hb hK hP (by omega) dX0_snapshot_43 ?_
          refine zc_i (ci := 0) (q0 := 0) ⟨hx, hb, hml, hown, hts⟩ hK hP hD hS hA (cX_hold (Tb (pn * 8 + i)) (fun f hf => rr_tb hR _ (by omega) f hf)) (kX_hold hts ⟨by decide, by decide⟩) rfl rfl rfl rfl hl.1 rfl (Nat.le_of_ble_eq_true rfl) dX0_snapshot_44 ⟨Nat.le_refl _, Nat.le_refl _⟩ (fun r u2 H locs hw hP hD hS => ?_)
          obtain ⟨rfl, rfl⟩ := hw
          refine sX_Kt hx hb hK hP hD hS (by omega) dX0_snapshot_47 (fun H locs hP hD hS => ?_)
          refine zi_inc hx hb dX0_snapshot_48 hl (k := 2) rfl (by decide) (fun ls hl => ?_)
          refine lv_goto (tgt := 16) hx hb dX0_snapshot_51 (by decide) ?_
          have hJ2 : Pool (sl Tb (va_cpy Tb (va_cpy (fun _ => none) Kt 0 (pn * 8) 8) (pn * 8) (pn * 8)  (i + 1)) (lvL He Co Pa Ca)) (hdU Hd (Tb (pn * 8 + i))) Fr ft := by
            rw [← cpy_s, sl_K (by omega)]
            refine hJ.hdU (j := pn * 8 + i) (by omega) ?_ (by omega) (sl_a (by omega))
            rw [sl_b (by omega), cpy_o (show pn * 8 + i < pn * 8 ∨ pn * 8 + i ≤ pn * 8 + i by omega), cpy_i (show i < 8 by omega)]
          rw [cpy_s] at hP hD
          exact ih16 (i + 1) (hdU Hd (Tb (pn * 8 + i))) _ _ _ (by omega) (by omega) trivial hJ2 hP hD hS (lv_sub hl [1, 2, 0] rfl)
    exact hloop16 (8 + 1) 0 Hd _ _ _ (by omega) (by omega) trivial (by rw [cpy_0]; exact hw) (by rw [cpy_0]; exact hP) (by rw [cpy_0]; exact hD) hS (lv_sub hl [1, 2, 0] rfl)
set_option maxHeartbeats 4000000 in
set_option maxRecDepth 100000 in
theorem cX_rollBack (u : XS) (v : MS) (hR : RRt u v) (a : Int32) : KI l D cI cZ yX0_rollBack cX0_rollBack 3 r2 [.ref (ad 0), .int a] (wXt ad cI cZ u) sz (PX (sp_rollBack a v)) (wXt ad cI cZ) := by
  obtain ⟨Pg, Wd, Ls, Kp, KPg, KWd, Ms, Il, Cn, Sn⟩ := v
  obtain ⟨Wo, Hd, Fr, ft, Tb, Kt, hk, La, He, Co, Iw, Pa, Ca⟩ := u
  have hR : RR Wo Hd Fr ft Tb Kt hk La He Co Iw Pa Ca (Pg, Wd, Ls, Kp, KPg, KWd, Ms, Il, Cn, Sn) := hR
  refine fw_i (by decide) (Nat.le_of_ble_eq_true rfl) ?_
  intro p e s m below meth c A Q ls args hx hb hml hts hown hK hP hD hS hA hl hret
  have hown : s.vm.findClass RX0 = some m.cls := hown
  have hP : va_P D vCl (wX ad cI cZ Wo Hd Fr ft Tb Kt hk La He Co Iw Pa Ca) s.heap := hP
  have hD : va_D A (wX ad cI cZ Wo Hd Fr ft Tb Kt hk La He Co Iw Pa Ca) := hD
  have hl : lv_has ls 3 [(0, .ref (ad 0)), (1, .int a)] := hl
  refine lv_iload_n hx hb dX0_rollBack_0 rfl (lv_at hl 1 rfl) ?_
  refine zs_b ⟨hx, hb, hml, hown, hts⟩ hP hS (cX_badNumber l a) (kX_badNumber hts ⟨by decide, by decide⟩) rfl hl.1 rfl (Nat.le_of_ble_eq_true rfl) dX0_rollBack_1 ⟨Nat.le_refl _, Nat.le_refl _⟩ (fun r H locs hw hP hS => ?_)
  rcases hw with ⟨rfl, hq1⟩ | ⟨rfl, pn, hq1, rfl⟩
  · skip
    refine lv_if_eq (tgt := 9) hx hb dX0_rollBack_4 (by decide) (fun h9 => absurd h9 (by decide)) (fun h9 => ?_)
    refine lv_iconst (v := (-1)) hx hb dX0_rollBack_7 (by decide) ?_
    exact hret (-1) (Wo, Hd, Fr, ft, Tb, Kt, hk, La, He, Co, Iw, Pa, Ca) _ _ _ _ dX0_rollBack_8 (px (by simp [sp_rollBack, pz_b hq1]) hR) hP hD hS
  · skip
    refine lv_if_eq (tgt := 9) hx hb dX0_rollBack_4 (by decide) (fun h9 => ?_) (fun h9 => absurd rfl h9)
    refine lv_aload_n hx hb dX0_rollBack_9 rfl (lv_at hl 0 rfl) ?_
    refine gX_hk hx hb hts hown hK hP dX0_rollBack_10 ?_
    refine lv_iload_n hx hb dX0_rollBack_13 rfl (lv_at hl 1 rfl) ?_
    refine lX_hk hx hb hK hP (by omega) dX0_rollBack_14 ?_
    refine zb_ifne (tgt := 21) hx hb dX0_rollBack_15 (by decide) (fun h15 => ?_) (fun h15 => ?_)
    · skip
      refine lv_aload_n hx hb dX0_rollBack_21 rfl (lv_at hl 0 rfl) ?_
      refine lv_iload_n hx hb dX0_rollBack_22 rfl (lv_at hl 1 rfl) ?_
      refine zc_v (ci := 0) (q0 := 0) ⟨hx, hb, hml, hown, hts⟩ hK hP hD hS hA (cX_clearTable (lvL He Co Pa Ca) pn hq1 hR.1) (kX_clearTable hts ⟨by decide, by decide⟩) rfl rfl rfl rfl hl.1 rfl (Nat.le_of_ble_eq_true rfl) dX0_rollBack_23 ⟨Nat.le_refl _, Nat.le_refl _⟩ (fun u2 H locs hw hP hD hS => ?_)
      obtain ⟨Hd, Fr, ft⟩ := u2
      refine lv_iconst (v := nI 0) hx hb dX0_rollBack_26 (by decide) ?_
      refine zi_stn hx hb dX0_rollBack_27 rfl hl (by decide) (fun ls hl => ?_)
      have hloop28 : ∀ (n : Nat) (i : Nat) (Hd : Nat → Nat) (H : Heap) (locs : List Loc) (ls : Array Slot), i ≤ 8 → 8 + 1 ≤ i + n → True → Pool (sl (va_cpy Kt (va_cpy (fun _ => none) Tb 0 (pn * 8) 8) (pn * 8) (pn * 8)  i) Kt (lvL He Co Pa Ca)) Hd Fr ft → va_P D vCl (wX ad cI cZ Wo Hd Fr ft (va_cpy Kt (va_cpy (fun _ => none) Tb 0 (pn * 8) 8) (pn * 8) (pn * 8) i) Kt hk La He Co Iw Pa Ca) H → va_D A (wX ad cI cZ Wo Hd Fr ft (va_cpy Kt (va_cpy (fun _ => none) Tb 0 (pn * 8) 8) (pn * 8) (pn * 8) i) Kt hk La He Co Iw Pa Ca) → va_S A s.heap H locs → lv_has ls 3 [(0, .ref (ad 0)), (1, .int (nI pn)), (2, .int (nI i))] → W p l e r2 s m args below meth c H locs 0 0 Q (F0 m 28 ls []) := by
        intro n28
        induction n28 with
        | zero => intro i Hd H locs ls hi hn; exact absurd hn (by omega)
        | succ n28 ih28 =>
          intro i Hd H locs ls hi hn _ hJ hP hD hS hl
          refine lv_iload_n hx hb dX0_rollBack_28 rfl (lv_at hl 2 rfl) ?_
          refine lv_bipush (v := nI 8) hx hb dX0_rollBack_29 (by decide) ?_
          refine zi_ge (tgt := 66) hx hb (by omega) (by omega) dX0_rollBack_31 (by decide) (fun h31 => ?_) (fun h31 => ?_)
          · skip
            have e8 : i = 8 := by omega
            subst e8
            have hX := R_roll hR hq1 h15 hJ
            refine lv_aload_n hx hb dX0_rollBack_66 rfl (lv_at hl 0 rfl) ?_
            refine lv_iload_n hx hb dX0_rollBack_67 rfl (lv_at hl 1 rfl) ?_
            refine zc_i (ci := 0) (q0 := 0) ⟨hx, hb, hml, hown, hts⟩ hK hP hD hS hA (cX_mappedPages _ hq1 (rr_tb hX.2)) (kX_mappedPages hts ⟨by decide, by decide⟩) rfl rfl rfl rfl hl.1 rfl (Nat.le_of_ble_eq_true rfl) dX0_rollBack_68 ⟨Nat.le_refl _, Nat.le_refl _⟩ (fun r u2 H locs hw hP hD hS => ?_)
            subst hw
            exact hret _ (Wo, Hd, Fr, ft, va_cpy Kt (va_cpy (fun _ => none) Tb 0 (pn * 8) 8) (pn * 8) (pn * 8) 8, Kt, hk, La, He, Co, Iw, Pa, Ca) _ _ _ _ dX0_rollBack_71 hX hP hD hS
          · skip
            refine lv_aload_n hx hb dX0_rollBack_34 rfl (lv_at hl 0 rfl) ?_
            refine gX_Tb hx hb hts hown hK hP dX0_rollBack_35 ?_
            refine lv_iload_n hx hb dX0_rollBack_38 rfl (lv_at hl 1 rfl) ?_
            refine lv_bipush (v := nI 8) hx hb dX0_rollBack_39 (by decide) ?_
            refine zi_mul hx hb dX0_rollBack_41 ?_
            refine lv_iload_n hx hb dX0_rollBack_42 rfl (lv_at hl 2 rfl) ?_
            refine zi_add hx hb dX0_rollBack_43 ?_
            refine lv_aload_n hx hb dX0_rollBack_44 rfl (lv_at hl 0 rfl) ?_
            refine lv_aload_n hx hb dX0_rollBack_45 rfl (lv_at hl 0 rfl) ?_
            refine gX_Kt hx hb hts hown hK hP dX0_rollBack_46 ?_
            refine lv_iload_n hx hb dX0_rollBack_49 rfl (lv_at hl 1 rfl) ?_
            refine lv_bipush (v := nI 8) hx hb dX0_rollBack_50 (by decide) ?_
            refine zi_mul hx hb dX0_rollBack_52 ?_
            refine lv_iload_n hx hb dX0_rollBack_53 rfl (lv_at hl 2 rfl) ?_
            refine zi_add hx hb dX0_rollBack_54 ?_
            refine lX_Kt hx hb hK hP (by omega) dX0_rollBack_55 ?_
            refine zc_i (ci := 0) (q0 := 0) ⟨hx, hb, hml, hown, hts⟩ hK hP hD hS hA (cX_hold (Kt (pn * 8 + i)) (fun f hf => hR.1.1 (24 + (pn * 8 + i)) (by omega) f (by rw [sl_b (by omega)]; exact hf))) (kX_hold hts ⟨by decide, by decide⟩) rfl rfl rfl rfl hl.1 rfl (Nat.le_of_ble_eq_true rfl) dX0_rollBack_56 ⟨Nat.le_refl _, Nat.le_refl _⟩ (fun r u2 H locs hw hP hD hS => ?_)
            obtain ⟨rfl, rfl⟩ := hw
            refine sX_Tb hx hb hK hP hD hS (by omega) dX0_rollBack_59 (fun H locs hP hD hS => ?_)
            refine zi_inc hx hb dX0_rollBack_60 hl (k := 2) rfl (by decide) (fun ls hl => ?_)
            refine lv_goto (tgt := 28) hx hb dX0_rollBack_63 (by decide) ?_
            have hJ2 : Pool (sl (va_cpy Kt (va_cpy (fun _ => none) Tb 0 (pn * 8) 8) (pn * 8) (pn * 8)  (i + 1)) Kt (lvL He Co Pa Ca)) (hdU Hd (Kt (pn * 8 + i))) Fr ft := by
              rw [← cpy_s, sl_T (by omega)]
              refine hJ.hdU (j := 24 + (pn * 8 + i)) (by omega) ?_ (by omega) (sl_b (by omega))
              rw [sl_a (by omega), cpy_o (show pn * 8 + i < pn * 8 ∨ pn * 8 + i ≤ pn * 8 + i by omega), cpy_i (show i < 8 by omega)]
            rw [cpy_s] at hP hD
            exact ih28 (i + 1) (hdU Hd (Kt (pn * 8 + i))) _ _ _ (by omega) (by omega) trivial hJ2 hP hD hS (lv_sub hl [1, 2, 0] rfl)
      exact hloop28 (8 + 1) 0 Hd _ _ _ (by omega) (by omega) trivial (by rw [cpy_0]; exact hw) (by rw [cpy_0]; exact hP) (by rw [cpy_0]; exact hD) hS (lv_sub hl [1, 2, 0] rfl)
    · skip
      have hkp : Kp pn = false := (hR.2.2.1 pn hq1).1.symm.trans h15
      refine lv_bipush (v := (-7)) hx hb dX0_rollBack_18 (by decide) ?_
      exact hret (-7) (Wo, Hd, Fr, ft, Tb, Kt, hk, La, He, Co, Iw, Pa, Ca) _ _ _ _ dX0_rollBack_20 (px (by simp [sp_rollBack, pz_3 hq1, hkp]) hR) hP hD hS
set_option maxHeartbeats 4000000 in
set_option maxRecDepth 100000 in
theorem cX_exit (u : XS) (v : MS) (hR : RRt u v) (a : Int32) : KI l D cI cZ yX0_exit cX0_exit 3 r2 [.ref (ad 0), .int a] (wXt ad cI cZ u) sz (PX (sp_exit a v)) (wXt ad cI cZ) := by
  obtain ⟨Pg, Wd, Ls, Kp, KPg, KWd, Ms, Il, Cn, Sn⟩ := v
  obtain ⟨Wo, Hd, Fr, ft, Tb, Kt, hk, La, He, Co, Iw, Pa, Ca⟩ := u
  have hR : RR Wo Hd Fr ft Tb Kt hk La He Co Iw Pa Ca (Pg, Wd, Ls, Kp, KPg, KWd, Ms, Il, Cn, Sn) := hR
  refine fw_i (by decide) (Nat.le_of_ble_eq_true rfl) ?_
  intro p e s m below meth c A Q ls args hx hb hml hts hown hK hP hD hS hA hl hret
  have hown : s.vm.findClass RX0 = some m.cls := hown
  have hP : va_P D vCl (wX ad cI cZ Wo Hd Fr ft Tb Kt hk La He Co Iw Pa Ca) s.heap := hP
  have hD : va_D A (wX ad cI cZ Wo Hd Fr ft Tb Kt hk La He Co Iw Pa Ca) := hD
  have hl : lv_has ls 3 [(0, .ref (ad 0)), (1, .int a)] := hl
  refine lv_iload_n hx hb dX0_exit_0 rfl (lv_at hl 1 rfl) ?_
  refine zs_b ⟨hx, hb, hml, hown, hts⟩ hP hS (cX_badNumber l a) (kX_badNumber hts ⟨by decide, by decide⟩) rfl hl.1 rfl (Nat.le_of_ble_eq_true rfl) dX0_exit_1 ⟨Nat.le_refl _, Nat.le_refl _⟩ (fun r H locs hw hP hS => ?_)
  rcases hw with ⟨rfl, hq1⟩ | ⟨rfl, pn, hq1, rfl⟩
  · skip
    refine lv_if_eq (tgt := 9) hx hb dX0_exit_4 (by decide) (fun h9 => absurd h9 (by decide)) (fun h9 => ?_)
    refine lv_iconst (v := (-1)) hx hb dX0_exit_7 (by decide) ?_
    exact hret (-1) (Wo, Hd, Fr, ft, Tb, Kt, hk, La, He, Co, Iw, Pa, Ca) _ _ _ _ dX0_exit_8 (px (by simp [sp_exit, pz_b hq1]) hR) hP hD hS
  · skip
    refine lv_if_eq (tgt := 9) hx hb dX0_exit_4 (by decide) (fun h9 => ?_) (fun h9 => absurd rfl h9)
    refine lv_aload_n hx hb dX0_exit_9 rfl (lv_at hl 0 rfl) ?_
    refine lv_iload_n hx hb dX0_exit_10 rfl (lv_at hl 1 rfl) ?_
    refine zc_i (ci := 0) (q0 := 0) ⟨hx, hb, hml, hown, hts⟩ hK hP hD hS hA (cX_mappedPages _ hq1 (rr_tb hR)) (kX_mappedPages hts ⟨by decide, by decide⟩) rfl rfl rfl rfl hl.1 rfl (Nat.le_of_ble_eq_true rfl) dX0_exit_11 ⟨Nat.le_refl _, Nat.le_refl _⟩ (fun r u2 H locs hw hP hD hS => ?_)
    subst hw
    refine zi_stn hx hb dX0_exit_14 rfl hl (by decide) (fun ls hl => ?_)
    refine lv_aload_n hx hb dX0_exit_15 rfl (lv_at hl 1 rfl) ?_
    refine lv_iload_n hx hb dX0_exit_16 rfl (lv_at hl 2 rfl) ?_
    refine zc_v (ci := 0) (q0 := 0) ⟨hx, hb, hml, hown, hts⟩ hK hP hD hS hA (cX_clearTable (lvL He Co Pa Ca) pn hq1 hR.1) (kX_clearTable hts ⟨by decide, by decide⟩) rfl rfl rfl rfl hl.1 rfl (Nat.le_of_ble_eq_true rfl) dX0_exit_17 ⟨Nat.le_refl _, Nat.le_refl _⟩ (fun u2 H locs hw hP hD hS => ?_)
    obtain ⟨Hd, Fr, ft⟩ := u2
    refine lv_aload_n hx hb dX0_exit_20 rfl (lv_at hl 1 rfl) ?_
    refine lv_iload_n hx hb dX0_exit_21 rfl (lv_at hl 2 rfl) ?_
    refine zc_v (ci := 0) (q0 := 0) ⟨hx, hb, hml, hown, hts⟩ hK hP hD hS hA (cX_clearKept (lvL He Co Pa Ca) pn hq1 hw) (kX_clearKept hts ⟨by decide, by decide⟩) rfl rfl rfl rfl hl.1 rfl (Nat.le_of_ble_eq_true rfl) dX0_exit_22 ⟨Nat.le_refl _, Nat.le_refl _⟩ (fun u2 H locs hw hP hD hS => ?_)
    obtain ⟨Hd, Fr, ft⟩ := u2
    refine lv_aload_n hx hb dX0_exit_25 rfl (lv_at hl 1 rfl) ?_
    refine gX_La hx hb hts hown hK hP dX0_exit_26 ?_
    refine lv_iload_n hx hb dX0_exit_29 rfl (lv_at hl 2 rfl) ?_
    refine lv_iconst (v := 0) hx hb dX0_exit_30 (by decide) ?_
    refine sX_La hx hb hK hP hD hS (by omega) dX0_exit_31 (fun H locs hP hD hS => ?_)
    refine lv_iload_n hx hb dX0_exit_32 rfl (lv_at hl 0 rfl) ?_
    exact hret _ (Wo, Hd, Fr, ft, va_cpy (fun _ => none) Tb 0 (pn * 8) 8, va_cpy (fun _ => none) Kt 0 (pn * 8) 8, va_up hk pn false, va_up La pn 0, He, Co, Iw, Pa, Ca) _ _ _ _ dX0_exit_33 (R_exit hR hq1 hw) hP hD hS
set_option maxHeartbeats 4000000 in
set_option maxRecDepth 100000 in
theorem cX_read (u : XS) (v : MS) (hR : RRt u v) (a b : Int32) : KI l D cI cZ yX0_read cX0_read 4 r2 [.ref (ad 0), .int a, .int b] (wXt ad cI cZ u) sz (PX (sp_read a b v)) (wXt ad cI cZ) := by
  obtain ⟨Pg, Wd, Ls, Kp, KPg, KWd, Ms, Il, Cn, Sn⟩ := v
  obtain ⟨Wo, Hd, Fr, ft, Tb, Kt, hk, La, He, Co, Iw, Pa, Ca⟩ := u
  have hR : RR Wo Hd Fr ft Tb Kt hk La He Co Iw Pa Ca (Pg, Wd, Ls, Kp, KPg, KWd, Ms, Il, Cn, Sn) := hR
  refine fw_i (by decide) (Nat.le_of_ble_eq_true rfl) ?_
  intro p e s m below meth c A Q ls args hx hb hml hts hown hK hP hD hS hA hl hret
  have hown : s.vm.findClass RX0 = some m.cls := hown
  have hP : va_P D vCl (wX ad cI cZ Wo Hd Fr ft Tb Kt hk La He Co Iw Pa Ca) s.heap := hP
  have hD : va_D A (wX ad cI cZ Wo Hd Fr ft Tb Kt hk La He Co Iw Pa Ca) := hD
  have hl : lv_has ls 4 [(0, .ref (ad 0)), (1, .int a), (2, .int b)] := hl
  refine lv_iload_n hx hb dX0_read_0 rfl (lv_at hl 1 rfl) ?_
  refine zs_b ⟨hx, hb, hml, hown, hts⟩ hP hS (cX_badNumber l a) (kX_badNumber hts ⟨by decide, by decide⟩) rfl hl.1 rfl (Nat.le_of_ble_eq_true rfl) dX0_read_1 ⟨Nat.le_refl _, Nat.le_refl _⟩ (fun r H locs hw hP hS => ?_)
  rcases hw with ⟨rfl, hq1⟩ | ⟨rfl, pn, hq1, rfl⟩
  · skip
    refine lv_if_ne (tgt := 17) hx hb dX0_read_4 (by decide) (fun h9 => ?_) (fun h9 => absurd h9 (by decide))
    refine lv_iconst (v := 0) hx hb dX0_read_17 (by decide) ?_
    exact hret 0 (Wo, Hd, Fr, ft, Tb, Kt, hk, La, He, Co, Iw, Pa, Ca) _ _ _ _ dX0_read_18 (px (by simp [sp_read, pz_b hq1]) hR) hP hD hS
  · skip
    refine lv_if_ne (tgt := 17) hx hb dX0_read_4 (by decide) (fun h9 => absurd rfl h9) (fun h9 => ?_)
    refine lv_iload_n hx hb dX0_read_7 rfl (lv_at hl 2 rfl) ?_
    refine lv_if_lt (tgt := 17) hx hb dX0_read_8 (by decide) (fun h8 => ?_) (fun h8 => ?_)
    · skip
      refine lv_iconst (v := 0) hx hb dX0_read_17 (by decide) ?_
      exact hret 0 (Wo, Hd, Fr, ft, Tb, Kt, hk, La, He, Co, Iw, Pa, Ca) _ _ _ _ dX0_read_18 (px (by simp [sp_read, pz_3 hq1, pz_b (P := bad32) (Or.inl h8)]) hR) hP hD hS
    · skip
      refine lv_iload_n hx hb dX0_read_11 rfl (lv_at hl 2 rfl) ?_
      refine lv_bipush (v := 31) hx hb dX0_read_12 (by decide) ?_
      refine lv_icmp_le (tgt := 19) hx hb dX0_read_14 (by decide) (fun h14 => ?_) (fun h14 => ?_)
      · skip
        obtain ⟨qn, hqn, rfl⟩ := gd32 h8 h14
        refine lv_aload_n hx hb dX0_read_19 rfl (lv_at hl 0 rfl) ?_
        refine gX_Tb hx hb hts hown hK hP dX0_read_20 ?_
        refine lv_iload_n hx hb dX0_read_23 rfl (lv_at hl 1 rfl) ?_
        refine lv_bipush (v := nI 8) hx hb dX0_read_24 (by decide) ?_
        refine zi_mul hx hb dX0_read_26 ?_
        refine lv_iload_n hx hb dX0_read_27 rfl (lv_at hl 2 rfl) ?_
        refine lv_iconst (v := nI 4) hx hb dX0_read_28 (by decide) ?_
        refine zi_div hx hb (by omega) (by decide) (by decide) dX0_read_29 ?_
        refine zi_add hx hb dX0_read_30 ?_
        refine lX_Tb hx hb hK hP (by omega) dX0_read_31 ?_
        rcases hT31 : Tb (pn * 8 + qn / 4) with _ | f
        · skip
          have hg := pg_n hR (by omega) hT31
          refine zi_stn hx hb dX0_read_32 rfl hl (by decide) (fun ls hl => ?_)
          refine lv_iload_n hx hb dX0_read_33 rfl (lv_at hl 0 rfl) ?_
          refine zo_ifge (tgt := 41) hx hb dX0_read_34 (by decide) ?_
          refine lv_iconst (v := 0) hx hb dX0_read_37 (by decide) ?_
          refine lv_goto (tgt := 53) hx hb dX0_read_38 (by decide) ?_
          exact hret 0 (Wo, Hd, Fr, ft, Tb, Kt, hk, La, He, Co, Iw, Pa, Ca) _ _ _ _ dX0_read_53 (px (by simp [sp_read, pz_3 hq1, pz_32 hqn, hg]) hR) hP hD hS
        · refine zo_top ?_
          have hf := rr_tb hR _ (by omega) f hT31
          have hg := pg_s hR (by omega) hT31
          refine zi_stn hx hb dX0_read_32 rfl hl (by decide) (fun ls hl => ?_)
          refine lv_iload_n hx hb dX0_read_33 rfl (lv_at hl 0 rfl) ?_
          refine zi_ifge (tgt := 41) hx hb (by omega) dX0_read_34 (by decide) ?_
          refine lv_aload_n hx hb dX0_read_41 rfl (lv_at hl 1 rfl) ?_
          refine gX_Wo hx hb hts hown hK hP dX0_read_42 ?_
          refine lv_iload_n hx hb dX0_read_45 rfl (lv_at hl 0 rfl) ?_
          refine lv_iconst (v := nI 4) hx hb dX0_read_46 (by decide) ?_
          refine zi_mul hx hb dX0_read_47 ?_
          refine lv_iload_n hx hb dX0_read_48 rfl (lv_at hl 3 rfl) ?_
          refine lv_iconst (v := nI 4) hx hb dX0_read_49 (by decide) ?_
          refine zi_rem hx hb (by omega) (by decide) (by decide) dX0_read_50 ?_
          refine zi_add hx hb dX0_read_51 ?_
          refine lX_Wo hx hb hK hP (by omega) dX0_read_52 ?_
          have hv := (hR.2.1 (pn * 8 + qn / 4) (by omega)).2 f hT31 (qn % 4) (by omega)
          rw [show (pn * 8 + qn / 4) * 4 + qn % 4 = pn * 32 + qn by omega] at hv
          exact hret _ (Wo, Hd, Fr, ft, Tb, Kt, hk, La, He, Co, Iw, Pa, Ca) _ _ _ _ dX0_read_53 (px2 (r' := Wd (pn * 32 + qn)) (by simp [sp_read, pz_3 hq1, pz_32 hqn, hg]) hv hR) hP hD hS
      · skip
        refine lv_iconst (v := 0) hx hb dX0_read_17 (by decide) ?_
        exact hret 0 (Wo, Hd, Fr, ft, Tb, Kt, hk, La, He, Co, Iw, Pa, Ca) _ _ _ _ dX0_read_18 (px (by simp [sp_read, pz_3 hq1, pz_b (P := bad32) (Or.inr h14)]) hR) hP hD hS
set_option maxHeartbeats 4000000 in
set_option maxRecDepth 100000 in
theorem cX_mapped (u : XS) (v : MS) (hR : RRt u v) (a b : Int32) : KZ l D cI cZ yX0_mapped cX0_mapped 3 r2 [.ref (ad 0), .int a, .int b] (wXt ad cI cZ u) sz (PX (sp_mapped a b v)) (wXt ad cI cZ) := by
  obtain ⟨Pg, Wd, Ls, Kp, KPg, KWd, Ms, Il, Cn, Sn⟩ := v
  obtain ⟨Wo, Hd, Fr, ft, Tb, Kt, hk, La, He, Co, Iw, Pa, Ca⟩ := u
  have hR : RR Wo Hd Fr ft Tb Kt hk La He Co Iw Pa Ca (Pg, Wd, Ls, Kp, KPg, KWd, Ms, Il, Cn, Sn) := hR
  refine fw_z (by decide) (Nat.le_of_ble_eq_true rfl) ?_
  intro p e s m below meth c A Q ls args hx hb hml hts hown hK hP hD hS hA hl hret
  have hown : s.vm.findClass RX0 = some m.cls := hown
  have hP : va_P D vCl (wX ad cI cZ Wo Hd Fr ft Tb Kt hk La He Co Iw Pa Ca) s.heap := hP
  have hD : va_D A (wX ad cI cZ Wo Hd Fr ft Tb Kt hk La He Co Iw Pa Ca) := hD
  have hl : lv_has ls 3 [(0, .ref (ad 0)), (1, .int a), (2, .int b)] := hl
  refine lv_iload_n hx hb dX0_mapped_0 rfl (lv_at hl 1 rfl) ?_
  refine zs_b ⟨hx, hb, hml, hown, hts⟩ hP hS (cX_badNumber l a) (kX_badNumber hts ⟨by decide, by decide⟩) rfl hl.1 rfl (Nat.le_of_ble_eq_true rfl) dX0_mapped_1 ⟨Nat.le_refl _, Nat.le_refl _⟩ (fun r H locs hw hP hS => ?_)
  rcases hw with ⟨rfl, hq1⟩ | ⟨rfl, pn, hq1, rfl⟩
  · skip
    refine lv_if_ne (tgt := 14) hx hb dX0_mapped_4 (by decide) (fun h9 => ?_) (fun h9 => absurd h9 (by decide))
    refine lv_iconst (v := bI false) hx hb dX0_mapped_14 (by decide) ?_
    exact hret false (Wo, Hd, Fr, ft, Tb, Kt, hk, La, He, Co, Iw, Pa, Ca) _ _ _ _ dX0_mapped_15 (px (by simp [sp_mapped, pz_b hq1]) hR) hP hD hS
  · skip
    refine lv_if_ne (tgt := 14) hx hb dX0_mapped_4 (by decide) (fun h9 => absurd rfl h9) (fun h9 => ?_)
    refine lv_iload_n hx hb dX0_mapped_7 rfl (lv_at hl 2 rfl) ?_
    refine zs_b ⟨hx, hb, hml, hown, hts⟩ hP hS (cX_badPage l b) (kX_badPage hts ⟨by decide, by decide⟩) rfl hl.1 rfl (Nat.le_of_ble_eq_true rfl) dX0_mapped_8 ⟨Nat.le_refl _, Nat.le_refl _⟩ (fun r H locs hw hP hS => ?_)
    rcases hw with ⟨rfl, hq8⟩ | ⟨rfl, qn, hq8, rfl⟩
    · skip
      refine lv_if_eq (tgt := 16) hx hb dX0_mapped_11 (by decide) (fun h9 => absurd h9 (by decide)) (fun h9 => ?_)
      refine lv_iconst (v := bI false) hx hb dX0_mapped_14 (by decide) ?_
      exact hret false (Wo, Hd, Fr, ft, Tb, Kt, hk, La, He, Co, Iw, Pa, Ca) _ _ _ _ dX0_mapped_15 (px (by simp [sp_mapped, pz_3 hq1, pz_b hq8]) hR) hP hD hS
    · skip
      refine lv_if_eq (tgt := 16) hx hb dX0_mapped_11 (by decide) (fun h9 => ?_) (fun h9 => absurd rfl h9)
      refine lv_aload_n hx hb dX0_mapped_16 rfl (lv_at hl 0 rfl) ?_
      refine gX_Tb hx hb hts hown hK hP dX0_mapped_17 ?_
      refine lv_iload_n hx hb dX0_mapped_20 rfl (lv_at hl 1 rfl) ?_
      refine lv_bipush (v := nI 8) hx hb dX0_mapped_21 (by decide) ?_
      refine zi_mul hx hb dX0_mapped_23 ?_
      refine lv_iload_n hx hb dX0_mapped_24 rfl (lv_at hl 2 rfl) ?_
      refine zi_add hx hb dX0_mapped_25 ?_
      refine lX_Tb hx hb hK hP (by omega) dX0_mapped_26 ?_
      rcases hT26 : Tb (pn * 8 + qn) with _ | f
      · skip
        have hg := pg_n hR (by omega) hT26
        refine zo_iflt (tgt := 34) hx hb dX0_mapped_27 (by decide) ?_
        refine lv_iconst (v := bI false) hx hb dX0_mapped_34 (by decide) ?_
        exact hret false (Wo, Hd, Fr, ft, Tb, Kt, hk, La, He, Co, Iw, Pa, Ca) _ _ _ _ dX0_mapped_35 (px (by simp [sp_mapped, pz_3 hq1, pz_8 hq8, hg]) hR) hP hD hS
      · refine zo_top ?_
        have hf := rr_tb hR _ (by omega) f hT26
        have hg := pg_s hR (by omega) hT26
        refine zi_iflt (tgt := 34) hx hb (by omega) dX0_mapped_27 (by decide) ?_
        refine lv_iconst (v := bI true) hx hb dX0_mapped_30 (by decide) ?_
        refine lv_goto (tgt := 35) hx hb dX0_mapped_31 (by decide) ?_
        exact hret true (Wo, Hd, Fr, ft, Tb, Kt, hk, La, He, Co, Iw, Pa, Ca) _ _ _ _ dX0_mapped_35 (px (by simp [sp_mapped, pz_3 hq1, pz_8 hq8, hg]) hR) hP hD hS
set_option maxHeartbeats 4000000 in
set_option maxRecDepth 100000 in
theorem cX_lastWord (u : XS) (v : MS) (hR : RRt u v) (a : Int32) : KI l D cI cZ yX0_lastWord cX0_lastWord 2 r2 [.ref (ad 0), .int a] (wXt ad cI cZ u) sz (PX (sp_lastWord a v)) (wXt ad cI cZ) := by
  obtain ⟨Pg, Wd, Ls, Kp, KPg, KWd, Ms, Il, Cn, Sn⟩ := v
  obtain ⟨Wo, Hd, Fr, ft, Tb, Kt, hk, La, He, Co, Iw, Pa, Ca⟩ := u
  have hR : RR Wo Hd Fr ft Tb Kt hk La He Co Iw Pa Ca (Pg, Wd, Ls, Kp, KPg, KWd, Ms, Il, Cn, Sn) := hR
  refine fw_i (by decide) (Nat.le_of_ble_eq_true rfl) ?_
  intro p e s m below meth c A Q ls args hx hb hml hts hown hK hP hD hS hA hl hret
  have hown : s.vm.findClass RX0 = some m.cls := hown
  have hP : va_P D vCl (wX ad cI cZ Wo Hd Fr ft Tb Kt hk La He Co Iw Pa Ca) s.heap := hP
  have hD : va_D A (wX ad cI cZ Wo Hd Fr ft Tb Kt hk La He Co Iw Pa Ca) := hD
  have hl : lv_has ls 2 [(0, .ref (ad 0)), (1, .int a)] := hl
  refine lv_iload_n hx hb dX0_lastWord_0 rfl (lv_at hl 1 rfl) ?_
  refine zs_b ⟨hx, hb, hml, hown, hts⟩ hP hS (cX_badNumber l a) (kX_badNumber hts ⟨by decide, by decide⟩) rfl hl.1 rfl (Nat.le_of_ble_eq_true rfl) dX0_lastWord_1 ⟨Nat.le_refl _, Nat.le_refl _⟩ (fun r H locs hw hP hS => ?_)
  rcases hw with ⟨rfl, hq1⟩ | ⟨rfl, pn, hq1, rfl⟩
  · skip
    refine lv_if_eq (tgt := 11) hx hb dX0_lastWord_4 (by decide) (fun h9 => absurd h9 (by decide)) (fun h9 => ?_)
    refine lv_iconst (v := 0) hx hb dX0_lastWord_7 (by decide) ?_
    refine lv_goto (tgt := 17) hx hb dX0_lastWord_8 (by decide) ?_
    exact hret 0 (Wo, Hd, Fr, ft, Tb, Kt, hk, La, He, Co, Iw, Pa, Ca) _ _ _ _ dX0_lastWord_17 (px (by simp [sp_lastWord, pz_b hq1]) hR) hP hD hS
  · skip
    refine lv_if_eq (tgt := 11) hx hb dX0_lastWord_4 (by decide) (fun h9 => ?_) (fun h9 => absurd rfl h9)
    refine lv_aload_n hx hb dX0_lastWord_11 rfl (lv_at hl 0 rfl) ?_
    refine gX_La hx hb hts hown hK hP dX0_lastWord_12 ?_
    refine lv_iload_n hx hb dX0_lastWord_15 rfl (lv_at hl 1 rfl) ?_
    refine lX_La hx hb hK hP (by omega) dX0_lastWord_16 ?_
    exact hret _ (Wo, Hd, Fr, ft, Tb, Kt, hk, La, He, Co, Iw, Pa, Ca) _ _ _ _ dX0_lastWord_17 (px2 (r' := Ls pn) (by simp [sp_lastWord, pz_3 hq1]) (hR.2.2.2.2.1 pn hq1) hR) hP hD hS
set_option maxHeartbeats 4000000 in
set_option maxRecDepth 100000 in
theorem cX_waiting (u : XS) (v : MS) (hR : RRt u v) (a : Int32) : KI l D cI cZ yX0_waiting cX0_waiting 2 r2 [.ref (ad 0), .int a] (wXt ad cI cZ u) sz (PX (sp_waiting a v)) (wXt ad cI cZ) := by
  obtain ⟨Pg, Wd, Ls, Kp, KPg, KWd, Ms, Il, Cn, Sn⟩ := v
  obtain ⟨Wo, Hd, Fr, ft, Tb, Kt, hk, La, He, Co, Iw, Pa, Ca⟩ := u
  have hR : RR Wo Hd Fr ft Tb Kt hk La He Co Iw Pa Ca (Pg, Wd, Ls, Kp, KPg, KWd, Ms, Il, Cn, Sn) := hR
  refine fw_i (by decide) (Nat.le_of_ble_eq_true rfl) ?_
  intro p e s m below meth c A Q ls args hx hb hml hts hown hK hP hD hS hA hl hret
  have hown : s.vm.findClass RX0 = some m.cls := hown
  have hP : va_P D vCl (wX ad cI cZ Wo Hd Fr ft Tb Kt hk La He Co Iw Pa Ca) s.heap := hP
  have hD : va_D A (wX ad cI cZ Wo Hd Fr ft Tb Kt hk La He Co Iw Pa Ca) := hD
  have hl : lv_has ls 2 [(0, .ref (ad 0)), (1, .int a)] := hl
  refine lv_iload_n hx hb dX0_waiting_0 rfl (lv_at hl 1 rfl) ?_
  refine zs_b ⟨hx, hb, hml, hown, hts⟩ hP hS (cX_badNumber l a) (kX_badNumber hts ⟨by decide, by decide⟩) rfl hl.1 rfl (Nat.le_of_ble_eq_true rfl) dX0_waiting_1 ⟨Nat.le_refl _, Nat.le_refl _⟩ (fun r H locs hw hP hS => ?_)
  rcases hw with ⟨rfl, hq1⟩ | ⟨rfl, on, hq1, rfl⟩
  · skip
    refine lv_if_eq (tgt := 11) hx hb dX0_waiting_4 (by decide) (fun h9 => absurd h9 (by decide)) (fun h9 => ?_)
    refine lv_iconst (v := (-1)) hx hb dX0_waiting_7 (by decide) ?_
    refine lv_goto (tgt := 17) hx hb dX0_waiting_8 (by decide) ?_
    exact hret (-1) (Wo, Hd, Fr, ft, Tb, Kt, hk, La, He, Co, Iw, Pa, Ca) _ _ _ _ dX0_waiting_17 (px (by simp [sp_waiting, pz_b hq1]) hR) hP hD hS
  · skip
    refine lv_if_eq (tgt := 11) hx hb dX0_waiting_4 (by decide) (fun h9 => ?_) (fun h9 => absurd rfl h9)
    refine lv_aload_n hx hb dX0_waiting_11 rfl (lv_at hl 0 rfl) ?_
    refine gX_Co hx hb hts hown hK hP dX0_waiting_12 ?_
    refine lv_iload_n hx hb dX0_waiting_15 rfl (lv_at hl 1 rfl) ?_
    refine lX_Co hx hb hK hP (by omega) dX0_waiting_16 ?_
    exact hret _ (Wo, Hd, Fr, ft, Tb, Kt, hk, La, He, Co, Iw, Pa, Ca) _ _ _ _ dX0_waiting_17 (px2 (r' := nI (Ms on)) (by simp [sp_waiting, pz_3 hq1]) (by rw [(hR.2.2.2.1 on hq1).1]) hR) hP hD hS
end XP
end
section
/-! the two constructors -/
abbrev rIX : Room := { frames := 1, cells := 12, slots := 585, locals := 12 }
abbrev rIM : Room := { frames := 1, cells := 10, slots := 375, locals := 12 }
section ZN
variable {l : Launch} {y : MethodName} {cc : ByteArray} {maxL mc ms : Nat} {rm : Room} {D : va_G} {cl : List vw_C} {w0 : va_W} {av : List Value} {sz : Nat} {S : Type} {w1 : S → va_W} {t1 : S → List (ClassId × FieldType)}
set_option maxHeartbeats 4000000 in
theorem fw_I {post : S → Prop} (hy : plainName y.cls = true) (hlen : (lg_sl av).length ≤ maxL)
    (body : ∀ (p : Program) (e : Env) (s : State) (m : MethodId) (below : List Frame) (meth : Method) (c : Code) (A : Nat → Prop) (Q : State → Prop) (ls : Array Slot) (args : Array Value), p.tables.exec = Jvm.exec → c.code = cc → c.maxLocals = maxL → (∀ w ∈ lw_all, w.before args s = true) → s.vm.findClass y.cls = some m.cls → meth.name = y.name → va_K D cl [] s → va_P D cl w0 s.heap → va_D A w0 → va_S A s.heap s.heap [] → (∀ q, s.heap.size ≤ q → A q) → lv_has ls maxL (lv_args 0 av) →
      (∀ (u : S) (H : Heap) (locs : List Loc) (pc : Nat) (ls : Array Slot), decode cc pc = .ok (.return_, 1) → post u → va_P D cl (w1 u) H → va_K D cl (t1 u) s → va_D A (w1 u) → va_S A s.heap H locs → W p l e rm s m args below meth c H locs mc ms Q (F0 m pc ls [])) →
      W p l e rm s m args below meth c s.heap [] 0 0 Q (F0 m 0 ls [])) :
    Met l y (ws_ y cc maxL none) rm (va_Pc av (zPre D cl [] w0 sz)) (va_Qv post (fun u t => va_P D cl (w1 u) t.heap ∧ va_K D cl (t1 u) t ∧ va_D (va_A w0 sz) (w1 u)) (va_A w0 sz)) mc ms (va_A w0 sz) := by
  refine Met.ofW (cc := cc) (maxL := maxL) (ret := none) hy rfl ?_
  intro p e s m args below meth c s₁ B hml hv
  obtain ⟨rfl, hsz, hP, hK, hD0⟩ := hv
  have hx := B.exec
  have hb := B.bytes
  have hr := B.returns
  have hts := atoms_spec (ws := ws_ y cc maxL none) B.pre
  have hts : ∀ w ∈ lw_all, w.before _ s = true := fun w h => hts w (List.mem_cons_of_mem _ h)
  have hown : s.vm.findClass y.cls = some m.cls := findClass_of_methodNamed B.named
  have hlocks := B.notSynchronized
  have hin : meth.name = y.name := (name_of_methodNamed B.named B.method).1
  subst hsz
  have hD := hD0.self (sz := s.heap.size)
  have hl := lv_entry av (n := maxL) hlen
  rw [lg_entry_eq]
  generalize (lg_sl av ++ List.replicate (maxL - (lg_sl av).length) Slot.unset).toArray = ls at hl ⊢
  refine body p e s m below meth c (va_A w0 s.heap.size) _ ls _ hx hb hml hts hown hin hK hP hD va_S.rf (fun q h => Or.inr h) hl ?_
  intro u H locs pc ls hdg hp hP1 hK1 hD1 hS1
  exact W.vret hx hb hr (fun t ht hW => ⟨⟨u, rfl, hp, by rw [ht]; exact hP1, va_K.moved hW.alike hK1, hD1⟩, hS1.F ht⟩) hS1.2.2 hdg hlocks
end ZN
theorem eqI {D : va_G} {cl : List vw_C} {tys : List (ClassId × FieldType)} {s : State} {c1 c2 : ClassId} (h : va_K D cl tys s) (i j : Nat) (hi : tys[i]? = some (c1, .int)) (hj : tys[j]? = some (c2, .int)) : c1 = c2 := by
  have a : s.vm.findClass ("[" ++ FieldType.int.toString) = some c1 := (h.2 i _ hi).2
  have b : s.vm.findClass ("[" ++ FieldType.int.toString) = some c2 := (h.2 j _ hj).2
  exact Option.some.inj (a.symm.trans b)
theorem eqZ {D : va_G} {cl : List vw_C} {tys : List (ClassId × FieldType)} {s : State} {c1 c2 : ClassId} (h : va_K D cl tys s) (i j : Nat) (hi : tys[i]? = some (c1, .boolean)) (hj : tys[j]? = some (c2, .boolean)) : c1 = c2 := by
  have a : s.vm.findClass ("[" ++ FieldType.boolean.toString) = some c1 := (h.2 i _ hi).2
  have b : s.vm.findClass ("[" ++ FieldType.boolean.toString) = some c2 := (h.2 j _ hj).2
  exact Option.some.inj (a.symm.trans b)
abbrev adL (l : List Nat) : Nat → Nat := fun k => l.getD k 0
theorem cpy_s0 {α : Type} {f g : Nat → α} {i : Nat} : va_up (va_cpy f g 0 0 i) i (f i) = va_cpy f g 0 0 (i + 1) := by
  have h := cpy_s (f := f) (g := g) (a := 0) (b := 0) (i := i)
  rw [Nat.zero_add] at h
  exact h
def mInit : MS := (fun _ => false, fun _ => 0, fun _ => 0, fun _ => false, fun _ => false, fun _ => 0, fun _ => 0, fun _ => 0, fun _ => 0, fun _ => 0)
set_option maxHeartbeats 4000000 in
set_option maxRecDepth 100000 in
theorem cM_init {l : Launch} {D : va_G} {sz : Nat} (h0 : Nat) : Met l yX1_init (ws_ yX1_init cX1_init 1 none) rIM (va_Pc [.ref h0] (zPre D vCl [] [(h0, .inr (1, [.null, .null, .null, .null, .null, .null, .null, .null, .null, .null]))] sz)) (va_Qv (fun (u : (Nat → Nat) × ClassId × ClassId) => u.1 0 = h0) (fun u t => va_P D vCl (wMt u.1 u.2.1 u.2.2 mInit) t.heap ∧ va_K D vCl (tIZ u.2.1 u.2.2) t ∧ va_D (va_A [(h0, .inr (1, [.null, .null, .null, .null, .null, .null, .null, .null, .null, .null]))] sz) (wMt u.1 u.2.1 u.2.2 mInit)) (va_A [(h0, .inr (1, [.null, .null, .null, .null, .null, .null, .null, .null, .null, .null]))] sz)) 10 375 (va_A [(h0, .inr (1, [.null, .null, .null, .null, .null, .null, .null, .null, .null, .null]))] sz) := by
  refine fw_I (S := (Nat → Nat) × ClassId × ClassId) (w1 := fun u => wMt u.1 u.2.1 u.2.2 mInit) (t1 := fun u => tIZ u.2.1 u.2.2) (by decide) (Nat.le_of_ble_eq_true rfl) ?_
  intro p e s m below meth c A Q ls args hx hb hml hts hown hin hK hP hD hS hA hl hret
  have hown : s.vm.findClass RX1 = some m.cls := hown
  have hin : meth.name = "<init>" := hin
  have hl : lv_has ls 1 [(0, .ref h0)] := hl
  refine lv_aload_n hx hb dX1_init_0 rfl (lv_at hl 0 rfl) ?_
  refine W.objInit hx hb hown (hts _ q159) (hts _ q20) (hts _ q21) rfl (by rw [hml]; exact hl.1) rfl dX1_init_1 (Nat.le_of_ble_eq_true rfl) (Nat.le_of_ble_eq_true rfl) ?_
  refine W.eq (g2 := F0 m 4 ls []) rfl ?_
  refine lv_aload_n hx hb dX1_init_4 rfl (lv_at hl 0 rfl) ?_
  refine lv_bipush (v := 24) hx hb dX1_init_5 (by decide) ?_
  refine va_newa (atype := .boolean) (ty := .boolean) (N' := 24) (a0 := (24, .inl (fun _ => 0))) hx hb (hts _ q63) rfl hK hP hD hS hA (fun _ => rfl) (by decide) (by decide) (by decide) (Nat.le_of_ble_eq_true rfl) (Nat.le_of_ble_eq_true rfl) dX1_init_7 (fun q1 cZ H hK hP hD hS => ?_)
  have hP : va_P D vCl [(h0, .inr (1, [.null, .null, .null, .null, .null, .null, .null, .null, .null, .null])), (q1, .inl (cZ, 24, .inl (fun _ => 0)))] H := hP
  have hD : va_D A [(h0, .inr (1, [.null, .null, .null, .null, .null, .null, .null, .null, .null, .null])), (q1, .inl (cZ, 24, .inl (fun _ => 0)))] := hD
  refine va_putF (D := D) (ci := 1) (v := .ref q1) (ty := .array .boolean) (C := RX1) (T := TX1) (N := 10) hx hb hts in_X1 tyX1 tyX1_ok nmX1 hown hK hP hD hS 0 rfl rfl 0 (by decide) (hts _ q160) (fun _ h9 => h9) rfl hin rfl (by decide +kernel) rfl rfl (Nat.le_of_ble_eq_true rfl) dX1_init_9 (fun H locs hP hD hS => ?_)
  have hP : va_P D vCl [(h0, .inr (1, [.ref q1, .null, .null, .null, .null, .null, .null, .null, .null, .null])), (q1, .inl (cZ, 24, .inl (fun _ => 0)))] H := hP
  have hD : va_D A [(h0, .inr (1, [.ref q1, .null, .null, .null, .null, .null, .null, .null, .null, .null])), (q1, .inl (cZ, 24, .inl (fun _ => 0)))] := hD
  refine lv_aload_n hx hb dX1_init_12 rfl (lv_at hl 0 rfl) ?_
  refine lv_bipush (v := 96) hx hb dX1_init_13 (by decide) ?_
  refine va_newa (atype := .int) (ty := .int) (N' := 96) (a0 := (96, .inl (fun _ => 0))) hx hb (hts _ q62) rfl hK hP hD hS hA (fun _ => rfl) (by decide) (by decide) (by decide) (Nat.le_of_ble_eq_true rfl) (Nat.le_of_ble_eq_true rfl) dX1_init_15 (fun q2 cI H hK hP hD hS => ?_)
  have hP : va_P D vCl [(h0, .inr (1, [.ref q1, .null, .null, .null, .null, .null, .null, .null, .null, .null])), (q1, .inl (cZ, 24, .inl (fun _ => 0))), (q2, .inl (cI, 96, .inl (fun _ => 0)))] H := hP
  have hD : va_D A [(h0, .inr (1, [.ref q1, .null, .null, .null, .null, .null, .null, .null, .null, .null])), (q1, .inl (cZ, 24, .inl (fun _ => 0))), (q2, .inl (cI, 96, .inl (fun _ => 0)))] := hD
  refine va_putF (D := D) (ci := 1) (v := .ref q2) (ty := .array .int) (C := RX1) (T := TX1) (N := 10) hx hb hts in_X1 tyX1 tyX1_ok nmX1 hown hK hP hD hS 0 rfl rfl 1 (by decide) (hts _ q161) (fun _ h9 => h9) rfl hin rfl (by decide +kernel) rfl rfl (Nat.le_of_ble_eq_true rfl) dX1_init_17 (fun H locs hP hD hS => ?_)
  have hP : va_P D vCl [(h0, .inr (1, [.ref q1, .ref q2, .null, .null, .null, .null, .null, .null, .null, .null])), (q1, .inl (cZ, 24, .inl (fun _ => 0))), (q2, .inl (cI, 96, .inl (fun _ => 0)))] H := hP
  have hD : va_D A [(h0, .inr (1, [.ref q1, .ref q2, .null, .null, .null, .null, .null, .null, .null, .null])), (q1, .inl (cZ, 24, .inl (fun _ => 0))), (q2, .inl (cI, 96, .inl (fun _ => 0)))] := hD
  refine lv_aload_n hx hb dX1_init_20 rfl (lv_at hl 0 rfl) ?_
  refine lv_iconst (v := 3) hx hb dX1_init_21 (by decide) ?_
  refine va_newa (atype := .int) (ty := .int) (N' := 3) (a0 := (3, .inl (fun _ => 0))) hx hb (hts _ q62) rfl hK hP hD hS hA (fun _ => rfl) (by decide) (by decide) (by decide) (Nat.le_of_ble_eq_true rfl) (Nat.le_of_ble_eq_true rfl) dX1_init_22 (fun q3 cA H hK hP hD hS => ?_)
  obtain rfl := eqI hK 1 2 rfl rfl
  have hK := hK.sub (tys' := [(cZ, .boolean), (cI, .int)]) [0, 1] rfl
  have hP : va_P D vCl [(h0, .inr (1, [.ref q1, .ref q2, .null, .null, .null, .null, .null, .null, .null, .null])), (q1, .inl (cZ, 24, .inl (fun _ => 0))), (q2, .inl (cI, 96, .inl (fun _ => 0))), (q3, .inl (cI, 3, .inl (fun _ => 0)))] H := hP
  have hD : va_D A [(h0, .inr (1, [.ref q1, .ref q2, .null, .null, .null, .null, .null, .null, .null, .null])), (q1, .inl (cZ, 24, .inl (fun _ => 0))), (q2, .inl (cI, 96, .inl (fun _ => 0))), (q3, .inl (cI, 3, .inl (fun _ => 0)))] := hD
  refine va_putF (D := D) (ci := 1) (v := .ref q3) (ty := .array .int) (C := RX1) (T := TX1) (N := 10) hx hb hts in_X1 tyX1 tyX1_ok nmX1 hown hK hP hD hS 0 rfl rfl 2 (by decide) (hts _ q162) (fun _ h9 => h9) rfl hin rfl (by decide +kernel) rfl rfl (Nat.le_of_ble_eq_true rfl) dX1_init_24 (fun H locs hP hD hS => ?_)
  have hP : va_P D vCl [(h0, .inr (1, [.ref q1, .ref q2, .ref q3, .null, .null, .null, .null, .null, .null, .null])), (q1, .inl (cZ, 24, .inl (fun _ => 0))), (q2, .inl (cI, 96, .inl (fun _ => 0))), (q3, .inl (cI, 3, .inl (fun _ => 0)))] H := hP
  have hD : va_D A [(h0, .inr (1, [.ref q1, .ref q2, .ref q3, .null, .null, .null, .null, .null, .null, .null])), (q1, .inl (cZ, 24, .inl (fun _ => 0))), (q2, .inl (cI, 96, .inl (fun _ => 0))), (q3, .inl (cI, 3, .inl (fun _ => 0)))] := hD
  refine lv_aload_n hx hb dX1_init_27 rfl (lv_at hl 0 rfl) ?_
  refine lv_iconst (v := 3) hx hb dX1_init_28 (by decide) ?_
  refine va_newa (atype := .boolean) (ty := .boolean) (N' := 3) (a0 := (3, .inl (fun _ => 0))) hx hb (hts _ q63) rfl hK hP hD hS hA (fun _ => rfl) (by decide) (by decide) (by decide) (Nat.le_of_ble_eq_true rfl) (Nat.le_of_ble_eq_true rfl) dX1_init_29 (fun q4 cA H hK hP hD hS => ?_)
  obtain rfl := eqZ hK 0 2 rfl rfl
  have hK := hK.sub (tys' := [(cZ, .boolean), (cI, .int)]) [0, 1] rfl
  have hP : va_P D vCl [(h0, .inr (1, [.ref q1, .ref q2, .ref q3, .null, .null, .null, .null, .null, .null, .null])), (q1, .inl (cZ, 24, .inl (fun _ => 0))), (q2, .inl (cI, 96, .inl (fun _ => 0))), (q3, .inl (cI, 3, .inl (fun _ => 0))), (q4, .inl (cZ, 3, .inl (fun _ => 0)))] H := hP
  have hD : va_D A [(h0, .inr (1, [.ref q1, .ref q2, .ref q3, .null, .null, .null, .null, .null, .null, .null])), (q1, .inl (cZ, 24, .inl (fun _ => 0))), (q2, .inl (cI, 96, .inl (fun _ => 0))), (q3, .inl (cI, 3, .inl (fun _ => 0))), (q4, .inl (cZ, 3, .inl (fun _ => 0)))] := hD
  refine va_putF (D := D) (ci := 1) (v := .ref q4) (ty := .array .boolean) (C := RX1) (T := TX1) (N := 10) hx hb hts in_X1 tyX1 tyX1_ok nmX1 hown hK hP hD hS 0 rfl rfl 3 (by decide) (hts _ q163) (fun _ h9 => h9) rfl hin rfl (by decide +kernel) rfl rfl (Nat.le_of_ble_eq_true rfl) dX1_init_31 (fun H locs hP hD hS => ?_)
  have hP : va_P D vCl [(h0, .inr (1, [.ref q1, .ref q2, .ref q3, .ref q4, .null, .null, .null, .null, .null, .null])), (q1, .inl (cZ, 24, .inl (fun _ => 0))), (q2, .inl (cI, 96, .inl (fun _ => 0))), (q3, .inl (cI, 3, .inl (fun _ => 0))), (q4, .inl (cZ, 3, .inl (fun _ => 0)))] H := hP
  have hD : va_D A [(h0, .inr (1, [.ref q1, .ref q2, .ref q3, .ref q4, .null, .null, .null, .null, .null, .null])), (q1, .inl (cZ, 24, .inl (fun _ => 0))), (q2, .inl (cI, 96, .inl (fun _ => 0))), (q3, .inl (cI, 3, .inl (fun _ => 0))), (q4, .inl (cZ, 3, .inl (fun _ => 0)))] := hD
  refine lv_aload_n hx hb dX1_init_34 rfl (lv_at hl 0 rfl) ?_
  refine lv_bipush (v := 24) hx hb dX1_init_35 (by decide) ?_
  refine va_newa (atype := .boolean) (ty := .boolean) (N' := 24) (a0 := (24, .inl (fun _ => 0))) hx hb (hts _ q63) rfl hK hP hD hS hA (fun _ => rfl) (by decide) (by decide) (by decide) (Nat.le_of_ble_eq_true rfl) (Nat.le_of_ble_eq_true rfl) dX1_init_37 (fun q5 cA H hK hP hD hS => ?_)
  obtain rfl := eqZ hK 0 2 rfl rfl
  have hK := hK.sub (tys' := [(cZ, .boolean), (cI, .int)]) [0, 1] rfl
  have hP : va_P D vCl [(h0, .inr (1, [.ref q1, .ref q2, .ref q3, .ref q4, .null, .null, .null, .null, .null, .null])), (q1, .inl (cZ, 24, .inl (fun _ => 0))), (q2, .inl (cI, 96, .inl (fun _ => 0))), (q3, .inl (cI, 3, .inl (fun _ => 0))), (q4, .inl (cZ, 3, .inl (fun _ => 0))), (q5, .inl (cZ, 24, .inl (fun _ => 0)))] H := hP
  have hD : va_D A [(h0, .inr (1, [.ref q1, .ref q2, .ref q3, .ref q4, .null, .null, .null, .null, .null, .null])), (q1, .inl (cZ, 24, .inl (fun _ => 0))), (q2, .inl (cI, 96, .inl (fun _ => 0))), (q3, .inl (cI, 3, .inl (fun _ => 0))), (q4, .inl (cZ, 3, .inl (fun _ => 0))), (q5, .inl (cZ, 24, .inl (fun _ => 0)))] := hD
  refine va_putF (D := D) (ci := 1) (v := .ref q5) (ty := .array .boolean) (C := RX1) (T := TX1) (N := 10) hx hb hts in_X1 tyX1 tyX1_ok nmX1 hown hK hP hD hS 0 rfl rfl 4 (by decide) (hts _ q164) (fun _ h9 => h9) rfl hin rfl (by decide +kernel) rfl rfl (Nat.le_of_ble_eq_true rfl) dX1_init_39 (fun H locs hP hD hS => ?_)
  have hP : va_P D vCl [(h0, .inr (1, [.ref q1, .ref q2, .ref q3, .ref q4, .ref q5, .null, .null, .null, .null, .null])), (q1, .inl (cZ, 24, .inl (fun _ => 0))), (q2, .inl (cI, 96, .inl (fun _ => 0))), (q3, .inl (cI, 3, .inl (fun _ => 0))), (q4, .inl (cZ, 3, .inl (fun _ => 0))), (q5, .inl (cZ, 24, .inl (fun _ => 0)))] H := hP
  have hD : va_D A [(h0, .inr (1, [.ref q1, .ref q2, .ref q3, .ref q4, .ref q5, .null, .null, .null, .null, .null])), (q1, .inl (cZ, 24, .inl (fun _ => 0))), (q2, .inl (cI, 96, .inl (fun _ => 0))), (q3, .inl (cI, 3, .inl (fun _ => 0))), (q4, .inl (cZ, 3, .inl (fun _ => 0))), (q5, .inl (cZ, 24, .inl (fun _ => 0)))] := hD
  refine lv_aload_n hx hb dX1_init_42 rfl (lv_at hl 0 rfl) ?_
  refine lv_bipush (v := 96) hx hb dX1_init_43 (by decide) ?_
  refine va_newa (atype := .int) (ty := .int) (N' := 96) (a0 := (96, .inl (fun _ => 0))) hx hb (hts _ q62) rfl hK hP hD hS hA (fun _ => rfl) (by decide) (by decide) (by decide) (Nat.le_of_ble_eq_true rfl) (Nat.le_of_ble_eq_true rfl) dX1_init_45 (fun q6 cA H hK hP hD hS => ?_)
  obtain rfl := eqI hK 1 2 rfl rfl
  have hK := hK.sub (tys' := [(cZ, .boolean), (cI, .int)]) [0, 1] rfl
  have hP : va_P D vCl [(h0, .inr (1, [.ref q1, .ref q2, .ref q3, .ref q4, .ref q5, .null, .null, .null, .null, .null])), (q1, .inl (cZ, 24, .inl (fun _ => 0))), (q2, .inl (cI, 96, .inl (fun _ => 0))), (q3, .inl (cI, 3, .inl (fun _ => 0))), (q4, .inl (cZ, 3, .inl (fun _ => 0))), (q5, .inl (cZ, 24, .inl (fun _ => 0))), (q6, .inl (cI, 96, .inl (fun _ => 0)))] H := hP
  have hD : va_D A [(h0, .inr (1, [.ref q1, .ref q2, .ref q3, .ref q4, .ref q5, .null, .null, .null, .null, .null])), (q1, .inl (cZ, 24, .inl (fun _ => 0))), (q2, .inl (cI, 96, .inl (fun _ => 0))), (q3, .inl (cI, 3, .inl (fun _ => 0))), (q4, .inl (cZ, 3, .inl (fun _ => 0))), (q5, .inl (cZ, 24, .inl (fun _ => 0))), (q6, .inl (cI, 96, .inl (fun _ => 0)))] := hD
  refine va_putF (D := D) (ci := 1) (v := .ref q6) (ty := .array .int) (C := RX1) (T := TX1) (N := 10) hx hb hts in_X1 tyX1 tyX1_ok nmX1 hown hK hP hD hS 0 rfl rfl 5 (by decide) (hts _ q165) (fun _ h9 => h9) rfl hin rfl (by decide +kernel) rfl rfl (Nat.le_of_ble_eq_true rfl) dX1_init_47 (fun H locs hP hD hS => ?_)
  have hP : va_P D vCl [(h0, .inr (1, [.ref q1, .ref q2, .ref q3, .ref q4, .ref q5, .ref q6, .null, .null, .null, .null])), (q1, .inl (cZ, 24, .inl (fun _ => 0))), (q2, .inl (cI, 96, .inl (fun _ => 0))), (q3, .inl (cI, 3, .inl (fun _ => 0))), (q4, .inl (cZ, 3, .inl (fun _ => 0))), (q5, .inl (cZ, 24, .inl (fun _ => 0))), (q6, .inl (cI, 96, .inl (fun _ => 0)))] H := hP
  have hD : va_D A [(h0, .inr (1, [.ref q1, .ref q2, .ref q3, .ref q4, .ref q5, .ref q6, .null, .null, .null, .null])), (q1, .inl (cZ, 24, .inl (fun _ => 0))), (q2, .inl (cI, 96, .inl (fun _ => 0))), (q3, .inl (cI, 3, .inl (fun _ => 0))), (q4, .inl (cZ, 3, .inl (fun _ => 0))), (q5, .inl (cZ, 24, .inl (fun _ => 0))), (q6, .inl (cI, 96, .inl (fun _ => 0)))] := hD
  refine lv_aload_n hx hb dX1_init_50 rfl (lv_at hl 0 rfl) ?_
  refine lv_iconst (v := 3) hx hb dX1_init_51 (by decide) ?_
  refine va_newa (atype := .int) (ty := .int) (N' := 3) (a0 := (3, .inl (fun _ => 0))) hx hb (hts _ q62) rfl hK hP hD hS hA (fun _ => rfl) (by decide) (by decide) (by decide) (Nat.le_of_ble_eq_true rfl) (Nat.le_of_ble_eq_true rfl) dX1_init_52 (fun q7 cA H hK hP hD hS => ?_)
  obtain rfl := eqI hK 1 2 rfl rfl
  have hK := hK.sub (tys' := [(cZ, .boolean), (cI, .int)]) [0, 1] rfl
  have hP : va_P D vCl [(h0, .inr (1, [.ref q1, .ref q2, .ref q3, .ref q4, .ref q5, .ref q6, .null, .null, .null, .null])), (q1, .inl (cZ, 24, .inl (fun _ => 0))), (q2, .inl (cI, 96, .inl (fun _ => 0))), (q3, .inl (cI, 3, .inl (fun _ => 0))), (q4, .inl (cZ, 3, .inl (fun _ => 0))), (q5, .inl (cZ, 24, .inl (fun _ => 0))), (q6, .inl (cI, 96, .inl (fun _ => 0))), (q7, .inl (cI, 3, .inl (fun _ => 0)))] H := hP
  have hD : va_D A [(h0, .inr (1, [.ref q1, .ref q2, .ref q3, .ref q4, .ref q5, .ref q6, .null, .null, .null, .null])), (q1, .inl (cZ, 24, .inl (fun _ => 0))), (q2, .inl (cI, 96, .inl (fun _ => 0))), (q3, .inl (cI, 3, .inl (fun _ => 0))), (q4, .inl (cZ, 3, .inl (fun _ => 0))), (q5, .inl (cZ, 24, .inl (fun _ => 0))), (q6, .inl (cI, 96, .inl (fun _ => 0))), (q7, .inl (cI, 3, .inl (fun _ => 0)))] := hD
  refine va_putF (D := D) (ci := 1) (v := .ref q7) (ty := .array .int) (C := RX1) (T := TX1) (N := 10) hx hb hts in_X1 tyX1 tyX1_ok nmX1 hown hK hP hD hS 0 rfl rfl 6 (by decide) (hts _ q166) (fun _ h9 => h9) rfl hin rfl (by decide +kernel) rfl rfl (Nat.le_of_ble_eq_true rfl) dX1_init_54 (fun H locs hP hD hS => ?_)
  have hP : va_P D vCl [(h0, .inr (1, [.ref q1, .ref q2, .ref q3, .ref q4, .ref q5, .ref q6, .ref q7, .null, .null, .null])), (q1, .inl (cZ, 24, .inl (fun _ => 0))), (q2, .inl (cI, 96, .inl (fun _ => 0))), (q3, .inl (cI, 3, .inl (fun _ => 0))), (q4, .inl (cZ, 3, .inl (fun _ => 0))), (q5, .inl (cZ, 24, .inl (fun _ => 0))), (q6, .inl (cI, 96, .inl (fun _ => 0))), (q7, .inl (cI, 3, .inl (fun _ => 0)))] H := hP
  have hD : va_D A [(h0, .inr (1, [.ref q1, .ref q2, .ref q3, .ref q4, .ref q5, .ref q6, .ref q7, .null, .null, .null])), (q1, .inl (cZ, 24, .inl (fun _ => 0))), (q2, .inl (cI, 96, .inl (fun _ => 0))), (q3, .inl (cI, 3, .inl (fun _ => 0))), (q4, .inl (cZ, 3, .inl (fun _ => 0))), (q5, .inl (cZ, 24, .inl (fun _ => 0))), (q6, .inl (cI, 96, .inl (fun _ => 0))), (q7, .inl (cI, 3, .inl (fun _ => 0)))] := hD
  refine lv_aload_n hx hb dX1_init_57 rfl (lv_at hl 0 rfl) ?_
  refine lv_bipush (v := 9) hx hb dX1_init_58 (by decide) ?_
  refine va_newa (atype := .int) (ty := .int) (N' := 9) (a0 := (9, .inl (fun _ => 0))) hx hb (hts _ q62) rfl hK hP hD hS hA (fun _ => rfl) (by decide) (by decide) (by decide) (Nat.le_of_ble_eq_true rfl) (Nat.le_of_ble_eq_true rfl) dX1_init_60 (fun q8 cA H hK hP hD hS => ?_)
  obtain rfl := eqI hK 1 2 rfl rfl
  have hK := hK.sub (tys' := [(cZ, .boolean), (cI, .int)]) [0, 1] rfl
  have hP : va_P D vCl [(h0, .inr (1, [.ref q1, .ref q2, .ref q3, .ref q4, .ref q5, .ref q6, .ref q7, .null, .null, .null])), (q1, .inl (cZ, 24, .inl (fun _ => 0))), (q2, .inl (cI, 96, .inl (fun _ => 0))), (q3, .inl (cI, 3, .inl (fun _ => 0))), (q4, .inl (cZ, 3, .inl (fun _ => 0))), (q5, .inl (cZ, 24, .inl (fun _ => 0))), (q6, .inl (cI, 96, .inl (fun _ => 0))), (q7, .inl (cI, 3, .inl (fun _ => 0))), (q8, .inl (cI, 9, .inl (fun _ => 0)))] H := hP
  have hD : va_D A [(h0, .inr (1, [.ref q1, .ref q2, .ref q3, .ref q4, .ref q5, .ref q6, .ref q7, .null, .null, .null])), (q1, .inl (cZ, 24, .inl (fun _ => 0))), (q2, .inl (cI, 96, .inl (fun _ => 0))), (q3, .inl (cI, 3, .inl (fun _ => 0))), (q4, .inl (cZ, 3, .inl (fun _ => 0))), (q5, .inl (cZ, 24, .inl (fun _ => 0))), (q6, .inl (cI, 96, .inl (fun _ => 0))), (q7, .inl (cI, 3, .inl (fun _ => 0))), (q8, .inl (cI, 9, .inl (fun _ => 0)))] := hD
  refine va_putF (D := D) (ci := 1) (v := .ref q8) (ty := .array .int) (C := RX1) (T := TX1) (N := 10) hx hb hts in_X1 tyX1 tyX1_ok nmX1 hown hK hP hD hS 0 rfl rfl 7 (by decide) (hts _ q167) (fun _ h9 => h9) rfl hin rfl (by decide +kernel) rfl rfl (Nat.le_of_ble_eq_true rfl) dX1_init_62 (fun H locs hP hD hS => ?_)
  have hP : va_P D vCl [(h0, .inr (1, [.ref q1, .ref q2, .ref q3, .ref q4, .ref q5, .ref q6, .ref q7, .ref q8, .null, .null])), (q1, .inl (cZ, 24, .inl (fun _ => 0))), (q2, .inl (cI, 96, .inl (fun _ => 0))), (q3, .inl (cI, 3, .inl (fun _ => 0))), (q4, .inl (cZ, 3, .inl (fun _ => 0))), (q5, .inl (cZ, 24, .inl (fun _ => 0))), (q6, .inl (cI, 96, .inl (fun _ => 0))), (q7, .inl (cI, 3, .inl (fun _ => 0))), (q8, .inl (cI, 9, .inl (fun _ => 0)))] H := hP
  have hD : va_D A [(h0, .inr (1, [.ref q1, .ref q2, .ref q3, .ref q4, .ref q5, .ref q6, .ref q7, .ref q8, .null, .null])), (q1, .inl (cZ, 24, .inl (fun _ => 0))), (q2, .inl (cI, 96, .inl (fun _ => 0))), (q3, .inl (cI, 3, .inl (fun _ => 0))), (q4, .inl (cZ, 3, .inl (fun _ => 0))), (q5, .inl (cZ, 24, .inl (fun _ => 0))), (q6, .inl (cI, 96, .inl (fun _ => 0))), (q7, .inl (cI, 3, .inl (fun _ => 0))), (q8, .inl (cI, 9, .inl (fun _ => 0)))] := hD
  refine lv_aload_n hx hb dX1_init_65 rfl (lv_at hl 0 rfl) ?_
  refine lv_bipush (v := 9) hx hb dX1_init_66 (by decide) ?_
  refine va_newa (atype := .int) (ty := .int) (N' := 9) (a0 := (9, .inl (fun _ => 0))) hx hb (hts _ q62) rfl hK hP hD hS hA (fun _ => rfl) (by decide) (by decide) (by decide) (Nat.le_of_ble_eq_true rfl) (Nat.le_of_ble_eq_true rfl) dX1_init_68 (fun q9 cA H hK hP hD hS => ?_)
  obtain rfl := eqI hK 1 2 rfl rfl
  have hK := hK.sub (tys' := [(cZ, .boolean), (cI, .int)]) [0, 1] rfl
  have hP : va_P D vCl [(h0, .inr (1, [.ref q1, .ref q2, .ref q3, .ref q4, .ref q5, .ref q6, .ref q7, .ref q8, .null, .null])), (q1, .inl (cZ, 24, .inl (fun _ => 0))), (q2, .inl (cI, 96, .inl (fun _ => 0))), (q3, .inl (cI, 3, .inl (fun _ => 0))), (q4, .inl (cZ, 3, .inl (fun _ => 0))), (q5, .inl (cZ, 24, .inl (fun _ => 0))), (q6, .inl (cI, 96, .inl (fun _ => 0))), (q7, .inl (cI, 3, .inl (fun _ => 0))), (q8, .inl (cI, 9, .inl (fun _ => 0))), (q9, .inl (cI, 9, .inl (fun _ => 0)))] H := hP
  have hD : va_D A [(h0, .inr (1, [.ref q1, .ref q2, .ref q3, .ref q4, .ref q5, .ref q6, .ref q7, .ref q8, .null, .null])), (q1, .inl (cZ, 24, .inl (fun _ => 0))), (q2, .inl (cI, 96, .inl (fun _ => 0))), (q3, .inl (cI, 3, .inl (fun _ => 0))), (q4, .inl (cZ, 3, .inl (fun _ => 0))), (q5, .inl (cZ, 24, .inl (fun _ => 0))), (q6, .inl (cI, 96, .inl (fun _ => 0))), (q7, .inl (cI, 3, .inl (fun _ => 0))), (q8, .inl (cI, 9, .inl (fun _ => 0))), (q9, .inl (cI, 9, .inl (fun _ => 0)))] := hD
  refine va_putF (D := D) (ci := 1) (v := .ref q9) (ty := .array .int) (C := RX1) (T := TX1) (N := 10) hx hb hts in_X1 tyX1 tyX1_ok nmX1 hown hK hP hD hS 0 rfl rfl 8 (by decide) (hts _ q168) (fun _ h9 => h9) rfl hin rfl (by decide +kernel) rfl rfl (Nat.le_of_ble_eq_true rfl) dX1_init_70 (fun H locs hP hD hS => ?_)
  have hP : va_P D vCl [(h0, .inr (1, [.ref q1, .ref q2, .ref q3, .ref q4, .ref q5, .ref q6, .ref q7, .ref q8, .ref q9, .null])), (q1, .inl (cZ, 24, .inl (fun _ => 0))), (q2, .inl (cI, 96, .inl (fun _ => 0))), (q3, .inl (cI, 3, .inl (fun _ => 0))), (q4, .inl (cZ, 3, .inl (fun _ => 0))), (q5, .inl (cZ, 24, .inl (fun _ => 0))), (q6, .inl (cI, 96, .inl (fun _ => 0))), (q7, .inl (cI, 3, .inl (fun _ => 0))), (q8, .inl (cI, 9, .inl (fun _ => 0))), (q9, .inl (cI, 9, .inl (fun _ => 0)))] H := hP
  have hD : va_D A [(h0, .inr (1, [.ref q1, .ref q2, .ref q3, .ref q4, .ref q5, .ref q6, .ref q7, .ref q8, .ref q9, .null])), (q1, .inl (cZ, 24, .inl (fun _ => 0))), (q2, .inl (cI, 96, .inl (fun _ => 0))), (q3, .inl (cI, 3, .inl (fun _ => 0))), (q4, .inl (cZ, 3, .inl (fun _ => 0))), (q5, .inl (cZ, 24, .inl (fun _ => 0))), (q6, .inl (cI, 96, .inl (fun _ => 0))), (q7, .inl (cI, 3, .inl (fun _ => 0))), (q8, .inl (cI, 9, .inl (fun _ => 0))), (q9, .inl (cI, 9, .inl (fun _ => 0)))] := hD
  refine lv_aload_n hx hb dX1_init_73 rfl (lv_at hl 0 rfl) ?_
  refine lv_bipush (v := 108) hx hb dX1_init_74 (by decide) ?_
  refine va_newa (atype := .int) (ty := .int) (N' := 108) (a0 := (108, .inl (fun _ => 0))) hx hb (hts _ q62) rfl hK hP hD hS hA (fun _ => rfl) (by decide) (by decide) (by decide) (Nat.le_of_ble_eq_true rfl) (Nat.le_of_ble_eq_true rfl) dX1_init_76 (fun q10 cA H hK hP hD hS => ?_)
  obtain rfl := eqI hK 1 2 rfl rfl
  have hK := hK.sub (tys' := [(cZ, .boolean), (cI, .int)]) [0, 1] rfl
  have hP : va_P D vCl [(h0, .inr (1, [.ref q1, .ref q2, .ref q3, .ref q4, .ref q5, .ref q6, .ref q7, .ref q8, .ref q9, .null])), (q1, .inl (cZ, 24, .inl (fun _ => 0))), (q2, .inl (cI, 96, .inl (fun _ => 0))), (q3, .inl (cI, 3, .inl (fun _ => 0))), (q4, .inl (cZ, 3, .inl (fun _ => 0))), (q5, .inl (cZ, 24, .inl (fun _ => 0))), (q6, .inl (cI, 96, .inl (fun _ => 0))), (q7, .inl (cI, 3, .inl (fun _ => 0))), (q8, .inl (cI, 9, .inl (fun _ => 0))), (q9, .inl (cI, 9, .inl (fun _ => 0))), (q10, .inl (cI, 108, .inl (fun _ => 0)))] H := hP
  have hD : va_D A [(h0, .inr (1, [.ref q1, .ref q2, .ref q3, .ref q4, .ref q5, .ref q6, .ref q7, .ref q8, .ref q9, .null])), (q1, .inl (cZ, 24, .inl (fun _ => 0))), (q2, .inl (cI, 96, .inl (fun _ => 0))), (q3, .inl (cI, 3, .inl (fun _ => 0))), (q4, .inl (cZ, 3, .inl (fun _ => 0))), (q5, .inl (cZ, 24, .inl (fun _ => 0))), (q6, .inl (cI, 96, .inl (fun _ => 0))), (q7, .inl (cI, 3, .inl (fun _ => 0))), (q8, .inl (cI, 9, .inl (fun _ => 0))), (q9, .inl (cI, 9, .inl (fun _ => 0))), (q10, .inl (cI, 108, .inl (fun _ => 0)))] := hD
  refine va_putF (D := D) (ci := 1) (v := .ref q10) (ty := .array .int) (C := RX1) (T := TX1) (N := 10) hx hb hts in_X1 tyX1 tyX1_ok nmX1 hown hK hP hD hS 0 rfl rfl 9 (by decide) (hts _ q169) (fun _ h9 => h9) rfl hin rfl (by decide +kernel) rfl rfl (Nat.le_of_ble_eq_true rfl) dX1_init_78 (fun H locs hP hD hS => ?_)
  have hP : va_P D vCl [(h0, .inr (1, [.ref q1, .ref q2, .ref q3, .ref q4, .ref q5, .ref q6, .ref q7, .ref q8, .ref q9, .ref q10])), (q1, .inl (cZ, 24, .inl (fun _ => 0))), (q2, .inl (cI, 96, .inl (fun _ => 0))), (q3, .inl (cI, 3, .inl (fun _ => 0))), (q4, .inl (cZ, 3, .inl (fun _ => 0))), (q5, .inl (cZ, 24, .inl (fun _ => 0))), (q6, .inl (cI, 96, .inl (fun _ => 0))), (q7, .inl (cI, 3, .inl (fun _ => 0))), (q8, .inl (cI, 9, .inl (fun _ => 0))), (q9, .inl (cI, 9, .inl (fun _ => 0))), (q10, .inl (cI, 108, .inl (fun _ => 0)))] H := hP
  have hD : va_D A [(h0, .inr (1, [.ref q1, .ref q2, .ref q3, .ref q4, .ref q5, .ref q6, .ref q7, .ref q8, .ref q9, .ref q10])), (q1, .inl (cZ, 24, .inl (fun _ => 0))), (q2, .inl (cI, 96, .inl (fun _ => 0))), (q3, .inl (cI, 3, .inl (fun _ => 0))), (q4, .inl (cZ, 3, .inl (fun _ => 0))), (q5, .inl (cZ, 24, .inl (fun _ => 0))), (q6, .inl (cI, 96, .inl (fun _ => 0))), (q7, .inl (cI, 3, .inl (fun _ => 0))), (q8, .inl (cI, 9, .inl (fun _ => 0))), (q9, .inl (cI, 9, .inl (fun _ => 0))), (q10, .inl (cI, 108, .inl (fun _ => 0)))] := hD
  refine W.widen (k := 10) (n := 375) (Nat.le_of_ble_eq_true rfl) (Nat.le_of_ble_eq_true rfl) ?_
  exact hret ((adL [h0, q1, q2, q3, q4, q5, q6, q7, q8, q9, q10]), cI, cZ) _ _ _ _ dX1_init_81 rfl hP (hK.sub [1, 0] rfl) hD hS
def xInit : XS := (fun _ => 0, va_up (fun _ => 0) 0 1, va_cpy (fun j => 79 - j) (fun _ => 0) 0 0 79, 79, va_cpy (fun _ => none) (fun _ => some 0) 0 0 24, va_cpy (fun _ => none) (fun _ => some 0) 0 0 24, fun _ => false, fun _ => 0, fun _ => 0, fun _ => 0, fun _ => 0, fun _ => 0, fun _ => some 0)
set_option maxHeartbeats 4000000 in
set_option maxRecDepth 100000 in
theorem cX_init {l : Launch} {D : va_G} {sz : Nat} (h0 : Nat) : Met l yX0_init (ws_ yX0_init cX0_init 2 none) rIX (va_Pc [.ref h0] (zPre D vCl [] [(h0, .inr (0, [.null, .null, .null, .int 0, .null, .null, .null, .null, .null, .null, .null, .null, .null]))] sz)) (va_Qv (fun (u : (Nat → Nat) × ClassId × ClassId) => u.1 0 = h0) (fun u t => va_P D vCl (wXt u.1 u.2.1 u.2.2 xInit) t.heap ∧ va_K D vCl (tIZ u.2.1 u.2.2) t ∧ va_D (va_A [(h0, .inr (0, [.null, .null, .null, .int 0, .null, .null, .null, .null, .null, .null, .null, .null, .null]))] sz) (wXt u.1 u.2.1 u.2.2 xInit)) (va_A [(h0, .inr (0, [.null, .null, .null, .int 0, .null, .null, .null, .null, .null, .null, .null, .null, .null]))] sz)) 12 585 (va_A [(h0, .inr (0, [.null, .null, .null, .int 0, .null, .null, .null, .null, .null, .null, .null, .null, .null]))] sz) := by
  refine fw_I (S := (Nat → Nat) × ClassId × ClassId) (w1 := fun u => wXt u.1 u.2.1 u.2.2 xInit) (t1 := fun u => tIZ u.2.1 u.2.2) (by decide) (Nat.le_of_ble_eq_true rfl) ?_
  intro p e s m below meth c A Q ls args hx hb hml hts hown hin hK hP hD hS hA hl hret
  have hown : s.vm.findClass RX0 = some m.cls := hown
  have hin : meth.name = "<init>" := hin
  have hl : lv_has ls 2 [(0, .ref h0)] := hl
  refine lv_aload_n hx hb dX0_init_0 rfl (lv_at hl 0 rfl) ?_
  refine W.objInit hx hb hown (hts _ q19) (hts _ q20) (hts _ q21) rfl (by rw [hml]; exact hl.1) rfl dX0_init_1 (Nat.le_of_ble_eq_true rfl) (Nat.le_of_ble_eq_true rfl) ?_
  refine W.eq (g2 := F0 m 4 ls []) rfl ?_
  refine lv_aload_n hx hb dX0_init_4 rfl (lv_at hl 0 rfl) ?_
  refine lv_sipush (v := 320) hx hb dX0_init_5 (by decide) ?_
  refine va_newa (atype := .int) (ty := .int) (N' := 320) (a0 := (320, .inl (fun _ => 0))) hx hb (hts _ q62) rfl hK hP hD hS hA (fun _ => rfl) (by decide) (by decide) (by decide) (Nat.le_of_ble_eq_true rfl) (Nat.le_of_ble_eq_true rfl) dX0_init_8 (fun q1 cI H hK hP hD hS => ?_)
  have hP : va_P D vCl [(h0, .inr (0, [.null, .null, .null, .int 0, .null, .null, .null, .null, .null, .null, .null, .null, .null])), (q1, .inl (cI, 320, .inl (fun _ => 0)))] H := hP
  have hD : va_D A [(h0, .inr (0, [.null, .null, .null, .int 0, .null, .null, .null, .null, .null, .null, .null, .null, .null])), (q1, .inl (cI, 320, .inl (fun _ => 0)))] := hD
  refine va_putF (D := D) (ci := 0) (v := .ref q1) (ty := .array .int) (C := RX0) (T := TX0) (N := 13) hx hb hts in_X0 tyX0 tyX0_ok nmX0 hown hK hP hD hS 0 rfl rfl 0 (by decide) (hts _ q22) (fun _ h9 => h9) rfl hin rfl (by decide +kernel) rfl rfl (Nat.le_of_ble_eq_true rfl) dX0_init_10 (fun H locs hP hD hS => ?_)
  have hP : va_P D vCl [(h0, .inr (0, [.ref q1, .null, .null, .int 0, .null, .null, .null, .null, .null, .null, .null, .null, .null])), (q1, .inl (cI, 320, .inl (fun _ => 0)))] H := hP
  have hD : va_D A [(h0, .inr (0, [.ref q1, .null, .null, .int 0, .null, .null, .null, .null, .null, .null, .null, .null, .null])), (q1, .inl (cI, 320, .inl (fun _ => 0)))] := hD
  refine lv_aload_n hx hb dX0_init_13 rfl (lv_at hl 0 rfl) ?_
  refine lv_bipush (v := 80) hx hb dX0_init_14 (by decide) ?_
  refine va_newa (atype := .int) (ty := .int) (N' := 80) (a0 := (80, .inl (fun _ => 0))) hx hb (hts _ q62) rfl hK hP hD hS hA (fun _ => rfl) (by decide) (by decide) (by decide) (Nat.le_of_ble_eq_true rfl) (Nat.le_of_ble_eq_true rfl) dX0_init_16 (fun q2 cA H hK hP hD hS => ?_)
  obtain rfl := eqI hK 0 1 rfl rfl
  have hK := hK.sub (tys' := [(cI, .int)]) [0] rfl
  have hP : va_P D vCl [(h0, .inr (0, [.ref q1, .null, .null, .int 0, .null, .null, .null, .null, .null, .null, .null, .null, .null])), (q1, .inl (cI, 320, .inl (fun _ => 0))), (q2, .inl (cI, 80, .inl (fun _ => 0)))] H := hP
  have hD : va_D A [(h0, .inr (0, [.ref q1, .null, .null, .int 0, .null, .null, .null, .null, .null, .null, .null, .null, .null])), (q1, .inl (cI, 320, .inl (fun _ => 0))), (q2, .inl (cI, 80, .inl (fun _ => 0)))] := hD
  refine va_putF (D := D) (ci := 0) (v := .ref q2) (ty := .array .int) (C := RX0) (T := TX0) (N := 13) hx hb hts in_X0 tyX0 tyX0_ok nmX0 hown hK hP hD hS 0 rfl rfl 1 (by decide) (hts _ q23) (fun _ h9 => h9) rfl hin rfl (by decide +kernel) rfl rfl (Nat.le_of_ble_eq_true rfl) dX0_init_18 (fun H locs hP hD hS => ?_)
  have hP : va_P D vCl [(h0, .inr (0, [.ref q1, .ref q2, .null, .int 0, .null, .null, .null, .null, .null, .null, .null, .null, .null])), (q1, .inl (cI, 320, .inl (fun _ => 0))), (q2, .inl (cI, 80, .inl (fun _ => 0)))] H := hP
  have hD : va_D A [(h0, .inr (0, [.ref q1, .ref q2, .null, .int 0, .null, .null, .null, .null, .null, .null, .null, .null, .null])), (q1, .inl (cI, 320, .inl (fun _ => 0))), (q2, .inl (cI, 80, .inl (fun _ => 0)))] := hD
  refine lv_aload_n hx hb dX0_init_21 rfl (lv_at hl 0 rfl) ?_
  refine lv_bipush (v := 80) hx hb dX0_init_22 (by decide) ?_
  refine va_newa (atype := .int) (ty := .int) (N' := 80) (a0 := (80, .inl (fun _ => 0))) hx hb (hts _ q62) rfl hK hP hD hS hA (fun _ => rfl) (by decide) (by decide) (by decide) (Nat.le_of_ble_eq_true rfl) (Nat.le_of_ble_eq_true rfl) dX0_init_24 (fun q3 cA H hK hP hD hS => ?_)
  obtain rfl := eqI hK 0 1 rfl rfl
  have hK := hK.sub (tys' := [(cI, .int)]) [0] rfl
  have hP : va_P D vCl [(h0, .inr (0, [.ref q1, .ref q2, .null, .int 0, .null, .null, .null, .null, .null, .null, .null, .null, .null])), (q1, .inl (cI, 320, .inl (fun _ => 0))), (q2, .inl (cI, 80, .inl (fun _ => 0))), (q3, .inl (cI, 80, .inl (fun _ => 0)))] H := hP
  have hD : va_D A [(h0, .inr (0, [.ref q1, .ref q2, .null, .int 0, .null, .null, .null, .null, .null, .null, .null, .null, .null])), (q1, .inl (cI, 320, .inl (fun _ => 0))), (q2, .inl (cI, 80, .inl (fun _ => 0))), (q3, .inl (cI, 80, .inl (fun _ => 0)))] := hD
  refine va_putF (D := D) (ci := 0) (v := .ref q3) (ty := .array .int) (C := RX0) (T := TX0) (N := 13) hx hb hts in_X0 tyX0 tyX0_ok nmX0 hown hK hP hD hS 0 rfl rfl 2 (by decide) (hts _ q24) (fun _ h9 => h9) rfl hin rfl (by decide +kernel) rfl rfl (Nat.le_of_ble_eq_true rfl) dX0_init_26 (fun H locs hP hD hS => ?_)
  have hP : va_P D vCl [(h0, .inr (0, [.ref q1, .ref q2, .ref q3, .int 0, .null, .null, .null, .null, .null, .null, .null, .null, .null])), (q1, .inl (cI, 320, .inl (fun _ => 0))), (q2, .inl (cI, 80, .inl (fun _ => 0))), (q3, .inl (cI, 80, .inl (fun _ => 0)))] H := hP
  have hD : va_D A [(h0, .inr (0, [.ref q1, .ref q2, .ref q3, .int 0, .null, .null, .null, .null, .null, .null, .null, .null, .null])), (q1, .inl (cI, 320, .inl (fun _ => 0))), (q2, .inl (cI, 80, .inl (fun _ => 0))), (q3, .inl (cI, 80, .inl (fun _ => 0)))] := hD
  refine lv_aload_n hx hb dX0_init_29 rfl (lv_at hl 0 rfl) ?_
  refine lv_bipush (v := 24) hx hb dX0_init_30 (by decide) ?_
  refine va_newa (atype := .int) (ty := .int) (N' := 24) (a0 := (24, .inl (fun _ => 0))) hx hb (hts _ q62) rfl hK hP hD hS hA (fun _ => rfl) (by decide) (by decide) (by decide) (Nat.le_of_ble_eq_true rfl) (Nat.le_of_ble_eq_true rfl) dX0_init_32 (fun q4 cA H hK hP hD hS => ?_)
  obtain rfl := eqI hK 0 1 rfl rfl
  have hK := hK.sub (tys' := [(cI, .int)]) [0] rfl
  have hP : va_P D vCl [(h0, .inr (0, [.ref q1, .ref q2, .ref q3, .int 0, .null, .null, .null, .null, .null, .null, .null, .null, .null])), (q1, .inl (cI, 320, .inl (fun _ => 0))), (q2, .inl (cI, 80, .inl (fun _ => 0))), (q3, .inl (cI, 80, .inl (fun _ => 0))), (q4, .inl (cI, 24, .inl (fun _ => 0)))] H := hP
  have hD : va_D A [(h0, .inr (0, [.ref q1, .ref q2, .ref q3, .int 0, .null, .null, .null, .null, .null, .null, .null, .null, .null])), (q1, .inl (cI, 320, .inl (fun _ => 0))), (q2, .inl (cI, 80, .inl (fun _ => 0))), (q3, .inl (cI, 80, .inl (fun _ => 0))), (q4, .inl (cI, 24, .inl (fun _ => 0)))] := hD
  refine va_putF (D := D) (ci := 0) (v := .ref q4) (ty := .array .int) (C := RX0) (T := TX0) (N := 13) hx hb hts in_X0 tyX0 tyX0_ok nmX0 hown hK hP hD hS 0 rfl rfl 4 (by decide) (hts _ q26) (fun _ h9 => h9) rfl hin rfl (by decide +kernel) rfl rfl (Nat.le_of_ble_eq_true rfl) dX0_init_34 (fun H locs hP hD hS => ?_)
  have hP : va_P D vCl [(h0, .inr (0, [.ref q1, .ref q2, .ref q3, .int 0, .ref q4, .null, .null, .null, .null, .null, .null, .null, .null])), (q1, .inl (cI, 320, .inl (fun _ => 0))), (q2, .inl (cI, 80, .inl (fun _ => 0))), (q3, .inl (cI, 80, .inl (fun _ => 0))), (q4, .inl (cI, 24, .inl (fun _ => 0)))] H := hP
  have hD : va_D A [(h0, .inr (0, [.ref q1, .ref q2, .ref q3, .int 0, .ref q4, .null, .null, .null, .null, .null, .null, .null, .null])), (q1, .inl (cI, 320, .inl (fun _ => 0))), (q2, .inl (cI, 80, .inl (fun _ => 0))), (q3, .inl (cI, 80, .inl (fun _ => 0))), (q4, .inl (cI, 24, .inl (fun _ => 0)))] := hD
  refine lv_aload_n hx hb dX0_init_37 rfl (lv_at hl 0 rfl) ?_
  refine lv_bipush (v := 24) hx hb dX0_init_38 (by decide) ?_
  refine va_newa (atype := .int) (ty := .int) (N' := 24) (a0 := (24, .inl (fun _ => 0))) hx hb (hts _ q62) rfl hK hP hD hS hA (fun _ => rfl) (by decide) (by decide) (by decide) (Nat.le_of_ble_eq_true rfl) (Nat.le_of_ble_eq_true rfl) dX0_init_40 (fun q5 cA H hK hP hD hS => ?_)
  obtain rfl := eqI hK 0 1 rfl rfl
  have hK := hK.sub (tys' := [(cI, .int)]) [0] rfl
  have hP : va_P D vCl [(h0, .inr (0, [.ref q1, .ref q2, .ref q3, .int 0, .ref q4, .null, .null, .null, .null, .null, .null, .null, .null])), (q1, .inl (cI, 320, .inl (fun _ => 0))), (q2, .inl (cI, 80, .inl (fun _ => 0))), (q3, .inl (cI, 80, .inl (fun _ => 0))), (q4, .inl (cI, 24, .inl (fun _ => 0))), (q5, .inl (cI, 24, .inl (fun _ => 0)))] H := hP
  have hD : va_D A [(h0, .inr (0, [.ref q1, .ref q2, .ref q3, .int 0, .ref q4, .null, .null, .null, .null, .null, .null, .null, .null])), (q1, .inl (cI, 320, .inl (fun _ => 0))), (q2, .inl (cI, 80, .inl (fun _ => 0))), (q3, .inl (cI, 80, .inl (fun _ => 0))), (q4, .inl (cI, 24, .inl (fun _ => 0))), (q5, .inl (cI, 24, .inl (fun _ => 0)))] := hD
  refine va_putF (D := D) (ci := 0) (v := .ref q5) (ty := .array .int) (C := RX0) (T := TX0) (N := 13) hx hb hts in_X0 tyX0 tyX0_ok nmX0 hown hK hP hD hS 0 rfl rfl 5 (by decide) (hts _ q27) (fun _ h9 => h9) rfl hin rfl (by decide +kernel) rfl rfl (Nat.le_of_ble_eq_true rfl) dX0_init_42 (fun H locs hP hD hS => ?_)
  have hP : va_P D vCl [(h0, .inr (0, [.ref q1, .ref q2, .ref q3, .int 0, .ref q4, .ref q5, .null, .null, .null, .null, .null, .null, .null])), (q1, .inl (cI, 320, .inl (fun _ => 0))), (q2, .inl (cI, 80, .inl (fun _ => 0))), (q3, .inl (cI, 80, .inl (fun _ => 0))), (q4, .inl (cI, 24, .inl (fun _ => 0))), (q5, .inl (cI, 24, .inl (fun _ => 0)))] H := hP
  have hD : va_D A [(h0, .inr (0, [.ref q1, .ref q2, .ref q3, .int 0, .ref q4, .ref q5, .null, .null, .null, .null, .null, .null, .null])), (q1, .inl (cI, 320, .inl (fun _ => 0))), (q2, .inl (cI, 80, .inl (fun _ => 0))), (q3, .inl (cI, 80, .inl (fun _ => 0))), (q4, .inl (cI, 24, .inl (fun _ => 0))), (q5, .inl (cI, 24, .inl (fun _ => 0)))] := hD
  refine lv_aload_n hx hb dX0_init_45 rfl (lv_at hl 0 rfl) ?_
  refine lv_iconst (v := 3) hx hb dX0_init_46 (by decide) ?_
  refine va_newa (atype := .boolean) (ty := .boolean) (N' := 3) (a0 := (3, .inl (fun _ => 0))) hx hb (hts _ q63) rfl hK hP hD hS hA (fun _ => rfl) (by decide) (by decide) (by decide) (Nat.le_of_ble_eq_true rfl) (Nat.le_of_ble_eq_true rfl) dX0_init_47 (fun q6 cZ H hK hP hD hS => ?_)
  have hP : va_P D vCl [(h0, .inr (0, [.ref q1, .ref q2, .ref q3, .int 0, .ref q4, .ref q5, .null, .null, .null, .null, .null, .null, .null])), (q1, .inl (cI, 320, .inl (fun _ => 0))), (q2, .inl (cI, 80, .inl (fun _ => 0))), (q3, .inl (cI, 80, .inl (fun _ => 0))), (q4, .inl (cI, 24, .inl (fun _ => 0))), (q5, .inl (cI, 24, .inl (fun _ => 0))), (q6, .inl (cZ, 3, .inl (fun _ => 0)))] H := hP
  have hD : va_D A [(h0, .inr (0, [.ref q1, .ref q2, .ref q3, .int 0, .ref q4, .ref q5, .null, .null, .null, .null, .null, .null, .null])), (q1, .inl (cI, 320, .inl (fun _ => 0))), (q2, .inl (cI, 80, .inl (fun _ => 0))), (q3, .inl (cI, 80, .inl (fun _ => 0))), (q4, .inl (cI, 24, .inl (fun _ => 0))), (q5, .inl (cI, 24, .inl (fun _ => 0))), (q6, .inl (cZ, 3, .inl (fun _ => 0)))] := hD
  refine va_putF (D := D) (ci := 0) (v := .ref q6) (ty := .array .boolean) (C := RX0) (T := TX0) (N := 13) hx hb hts in_X0 tyX0 tyX0_ok nmX0 hown hK hP hD hS 0 rfl rfl 6 (by decide) (hts _ q28) (fun _ h9 => h9) rfl hin rfl (by decide +kernel) rfl rfl (Nat.le_of_ble_eq_true rfl) dX0_init_49 (fun H locs hP hD hS => ?_)
  have hP : va_P D vCl [(h0, .inr (0, [.ref q1, .ref q2, .ref q3, .int 0, .ref q4, .ref q5, .ref q6, .null, .null, .null, .null, .null, .null])), (q1, .inl (cI, 320, .inl (fun _ => 0))), (q2, .inl (cI, 80, .inl (fun _ => 0))), (q3, .inl (cI, 80, .inl (fun _ => 0))), (q4, .inl (cI, 24, .inl (fun _ => 0))), (q5, .inl (cI, 24, .inl (fun _ => 0))), (q6, .inl (cZ, 3, .inl (fun _ => 0)))] H := hP
  have hD : va_D A [(h0, .inr (0, [.ref q1, .ref q2, .ref q3, .int 0, .ref q4, .ref q5, .ref q6, .null, .null, .null, .null, .null, .null])), (q1, .inl (cI, 320, .inl (fun _ => 0))), (q2, .inl (cI, 80, .inl (fun _ => 0))), (q3, .inl (cI, 80, .inl (fun _ => 0))), (q4, .inl (cI, 24, .inl (fun _ => 0))), (q5, .inl (cI, 24, .inl (fun _ => 0))), (q6, .inl (cZ, 3, .inl (fun _ => 0)))] := hD
  refine lv_aload_n hx hb dX0_init_52 rfl (lv_at hl 0 rfl) ?_
  refine lv_iconst (v := 3) hx hb dX0_init_53 (by decide) ?_
  refine va_newa (atype := .int) (ty := .int) (N' := 3) (a0 := (3, .inl (fun _ => 0))) hx hb (hts _ q62) rfl hK hP hD hS hA (fun _ => rfl) (by decide) (by decide) (by decide) (Nat.le_of_ble_eq_true rfl) (Nat.le_of_ble_eq_true rfl) dX0_init_54 (fun q7 cA H hK hP hD hS => ?_)
  obtain rfl := eqI hK 0 2 rfl rfl
  have hK := hK.sub (tys' := [(cI, .int), (cZ, .boolean)]) [0, 1] rfl
  have hP : va_P D vCl [(h0, .inr (0, [.ref q1, .ref q2, .ref q3, .int 0, .ref q4, .ref q5, .ref q6, .null, .null, .null, .null, .null, .null])), (q1, .inl (cI, 320, .inl (fun _ => 0))), (q2, .inl (cI, 80, .inl (fun _ => 0))), (q3, .inl (cI, 80, .inl (fun _ => 0))), (q4, .inl (cI, 24, .inl (fun _ => 0))), (q5, .inl (cI, 24, .inl (fun _ => 0))), (q6, .inl (cZ, 3, .inl (fun _ => 0))), (q7, .inl (cI, 3, .inl (fun _ => 0)))] H := hP
  have hD : va_D A [(h0, .inr (0, [.ref q1, .ref q2, .ref q3, .int 0, .ref q4, .ref q5, .ref q6, .null, .null, .null, .null, .null, .null])), (q1, .inl (cI, 320, .inl (fun _ => 0))), (q2, .inl (cI, 80, .inl (fun _ => 0))), (q3, .inl (cI, 80, .inl (fun _ => 0))), (q4, .inl (cI, 24, .inl (fun _ => 0))), (q5, .inl (cI, 24, .inl (fun _ => 0))), (q6, .inl (cZ, 3, .inl (fun _ => 0))), (q7, .inl (cI, 3, .inl (fun _ => 0)))] := hD
  refine va_putF (D := D) (ci := 0) (v := .ref q7) (ty := .array .int) (C := RX0) (T := TX0) (N := 13) hx hb hts in_X0 tyX0 tyX0_ok nmX0 hown hK hP hD hS 0 rfl rfl 7 (by decide) (hts _ q29) (fun _ h9 => h9) rfl hin rfl (by decide +kernel) rfl rfl (Nat.le_of_ble_eq_true rfl) dX0_init_56 (fun H locs hP hD hS => ?_)
  have hP : va_P D vCl [(h0, .inr (0, [.ref q1, .ref q2, .ref q3, .int 0, .ref q4, .ref q5, .ref q6, .ref q7, .null, .null, .null, .null, .null])), (q1, .inl (cI, 320, .inl (fun _ => 0))), (q2, .inl (cI, 80, .inl (fun _ => 0))), (q3, .inl (cI, 80, .inl (fun _ => 0))), (q4, .inl (cI, 24, .inl (fun _ => 0))), (q5, .inl (cI, 24, .inl (fun _ => 0))), (q6, .inl (cZ, 3, .inl (fun _ => 0))), (q7, .inl (cI, 3, .inl (fun _ => 0)))] H := hP
  have hD : va_D A [(h0, .inr (0, [.ref q1, .ref q2, .ref q3, .int 0, .ref q4, .ref q5, .ref q6, .ref q7, .null, .null, .null, .null, .null])), (q1, .inl (cI, 320, .inl (fun _ => 0))), (q2, .inl (cI, 80, .inl (fun _ => 0))), (q3, .inl (cI, 80, .inl (fun _ => 0))), (q4, .inl (cI, 24, .inl (fun _ => 0))), (q5, .inl (cI, 24, .inl (fun _ => 0))), (q6, .inl (cZ, 3, .inl (fun _ => 0))), (q7, .inl (cI, 3, .inl (fun _ => 0)))] := hD
  refine lv_aload_n hx hb dX0_init_59 rfl (lv_at hl 0 rfl) ?_
  refine lv_iconst (v := 3) hx hb dX0_init_60 (by decide) ?_
  refine va_newa (atype := .int) (ty := .int) (N' := 3) (a0 := (3, .inl (fun _ => 0))) hx hb (hts _ q62) rfl hK hP hD hS hA (fun _ => rfl) (by decide) (by decide) (by decide) (Nat.le_of_ble_eq_true rfl) (Nat.le_of_ble_eq_true rfl) dX0_init_61 (fun q8 cA H hK hP hD hS => ?_)
  obtain rfl := eqI hK 0 2 rfl rfl
  have hK := hK.sub (tys' := [(cI, .int), (cZ, .boolean)]) [0, 1] rfl
  have hP : va_P D vCl [(h0, .inr (0, [.ref q1, .ref q2, .ref q3, .int 0, .ref q4, .ref q5, .ref q6, .ref q7, .null, .null, .null, .null, .null])), (q1, .inl (cI, 320, .inl (fun _ => 0))), (q2, .inl (cI, 80, .inl (fun _ => 0))), (q3, .inl (cI, 80, .inl (fun _ => 0))), (q4, .inl (cI, 24, .inl (fun _ => 0))), (q5, .inl (cI, 24, .inl (fun _ => 0))), (q6, .inl (cZ, 3, .inl (fun _ => 0))), (q7, .inl (cI, 3, .inl (fun _ => 0))), (q8, .inl (cI, 3, .inl (fun _ => 0)))] H := hP
  have hD : va_D A [(h0, .inr (0, [.ref q1, .ref q2, .ref q3, .int 0, .ref q4, .ref q5, .ref q6, .ref q7, .null, .null, .null, .null, .null])), (q1, .inl (cI, 320, .inl (fun _ => 0))), (q2, .inl (cI, 80, .inl (fun _ => 0))), (q3, .inl (cI, 80, .inl (fun _ => 0))), (q4, .inl (cI, 24, .inl (fun _ => 0))), (q5, .inl (cI, 24, .inl (fun _ => 0))), (q6, .inl (cZ, 3, .inl (fun _ => 0))), (q7, .inl (cI, 3, .inl (fun _ => 0))), (q8, .inl (cI, 3, .inl (fun _ => 0)))] := hD
  refine va_putF (D := D) (ci := 0) (v := .ref q8) (ty := .array .int) (C := RX0) (T := TX0) (N := 13) hx hb hts in_X0 tyX0 tyX0_ok nmX0 hown hK hP hD hS 0 rfl rfl 8 (by decide) (hts _ q30) (fun _ h9 => h9) rfl hin rfl (by decide +kernel) rfl rfl (Nat.le_of_ble_eq_true rfl) dX0_init_63 (fun H locs hP hD hS => ?_)
  have hP : va_P D vCl [(h0, .inr (0, [.ref q1, .ref q2, .ref q3, .int 0, .ref q4, .ref q5, .ref q6, .ref q7, .ref q8, .null, .null, .null, .null])), (q1, .inl (cI, 320, .inl (fun _ => 0))), (q2, .inl (cI, 80, .inl (fun _ => 0))), (q3, .inl (cI, 80, .inl (fun _ => 0))), (q4, .inl (cI, 24, .inl (fun _ => 0))), (q5, .inl (cI, 24, .inl (fun _ => 0))), (q6, .inl (cZ, 3, .inl (fun _ => 0))), (q7, .inl (cI, 3, .inl (fun _ => 0))), (q8, .inl (cI, 3, .inl (fun _ => 0)))] H := hP
  have hD : va_D A [(h0, .inr (0, [.ref q1, .ref q2, .ref q3, .int 0, .ref q4, .ref q5, .ref q6, .ref q7, .ref q8, .null, .null, .null, .null])), (q1, .inl (cI, 320, .inl (fun _ => 0))), (q2, .inl (cI, 80, .inl (fun _ => 0))), (q3, .inl (cI, 80, .inl (fun _ => 0))), (q4, .inl (cI, 24, .inl (fun _ => 0))), (q5, .inl (cI, 24, .inl (fun _ => 0))), (q6, .inl (cZ, 3, .inl (fun _ => 0))), (q7, .inl (cI, 3, .inl (fun _ => 0))), (q8, .inl (cI, 3, .inl (fun _ => 0)))] := hD
  refine lv_aload_n hx hb dX0_init_66 rfl (lv_at hl 0 rfl) ?_
  refine lv_iconst (v := 3) hx hb dX0_init_67 (by decide) ?_
  refine va_newa (atype := .int) (ty := .int) (N' := 3) (a0 := (3, .inl (fun _ => 0))) hx hb (hts _ q62) rfl hK hP hD hS hA (fun _ => rfl) (by decide) (by decide) (by decide) (Nat.le_of_ble_eq_true rfl) (Nat.le_of_ble_eq_true rfl) dX0_init_68 (fun q9 cA H hK hP hD hS => ?_)
  obtain rfl := eqI hK 0 2 rfl rfl
  have hK := hK.sub (tys' := [(cI, .int), (cZ, .boolean)]) [0, 1] rfl
  have hP : va_P D vCl [(h0, .inr (0, [.ref q1, .ref q2, .ref q3, .int 0, .ref q4, .ref q5, .ref q6, .ref q7, .ref q8, .null, .null, .null, .null])), (q1, .inl (cI, 320, .inl (fun _ => 0))), (q2, .inl (cI, 80, .inl (fun _ => 0))), (q3, .inl (cI, 80, .inl (fun _ => 0))), (q4, .inl (cI, 24, .inl (fun _ => 0))), (q5, .inl (cI, 24, .inl (fun _ => 0))), (q6, .inl (cZ, 3, .inl (fun _ => 0))), (q7, .inl (cI, 3, .inl (fun _ => 0))), (q8, .inl (cI, 3, .inl (fun _ => 0))), (q9, .inl (cI, 3, .inl (fun _ => 0)))] H := hP
  have hD : va_D A [(h0, .inr (0, [.ref q1, .ref q2, .ref q3, .int 0, .ref q4, .ref q5, .ref q6, .ref q7, .ref q8, .null, .null, .null, .null])), (q1, .inl (cI, 320, .inl (fun _ => 0))), (q2, .inl (cI, 80, .inl (fun _ => 0))), (q3, .inl (cI, 80, .inl (fun _ => 0))), (q4, .inl (cI, 24, .inl (fun _ => 0))), (q5, .inl (cI, 24, .inl (fun _ => 0))), (q6, .inl (cZ, 3, .inl (fun _ => 0))), (q7, .inl (cI, 3, .inl (fun _ => 0))), (q8, .inl (cI, 3, .inl (fun _ => 0))), (q9, .inl (cI, 3, .inl (fun _ => 0)))] := hD
  refine va_putF (D := D) (ci := 0) (v := .ref q9) (ty := .array .int) (C := RX0) (T := TX0) (N := 13) hx hb hts in_X0 tyX0 tyX0_ok nmX0 hown hK hP hD hS 0 rfl rfl 9 (by decide) (hts _ q31) (fun _ h9 => h9) rfl hin rfl (by decide +kernel) rfl rfl (Nat.le_of_ble_eq_true rfl) dX0_init_70 (fun H locs hP hD hS => ?_)
  have hP : va_P D vCl [(h0, .inr (0, [.ref q1, .ref q2, .ref q3, .int 0, .ref q4, .ref q5, .ref q6, .ref q7, .ref q8, .ref q9, .null, .null, .null])), (q1, .inl (cI, 320, .inl (fun _ => 0))), (q2, .inl (cI, 80, .inl (fun _ => 0))), (q3, .inl (cI, 80, .inl (fun _ => 0))), (q4, .inl (cI, 24, .inl (fun _ => 0))), (q5, .inl (cI, 24, .inl (fun _ => 0))), (q6, .inl (cZ, 3, .inl (fun _ => 0))), (q7, .inl (cI, 3, .inl (fun _ => 0))), (q8, .inl (cI, 3, .inl (fun _ => 0))), (q9, .inl (cI, 3, .inl (fun _ => 0)))] H := hP
  have hD : va_D A [(h0, .inr (0, [.ref q1, .ref q2, .ref q3, .int 0, .ref q4, .ref q5, .ref q6, .ref q7, .ref q8, .ref q9, .null, .null, .null])), (q1, .inl (cI, 320, .inl (fun _ => 0))), (q2, .inl (cI, 80, .inl (fun _ => 0))), (q3, .inl (cI, 80, .inl (fun _ => 0))), (q4, .inl (cI, 24, .inl (fun _ => 0))), (q5, .inl (cI, 24, .inl (fun _ => 0))), (q6, .inl (cZ, 3, .inl (fun _ => 0))), (q7, .inl (cI, 3, .inl (fun _ => 0))), (q8, .inl (cI, 3, .inl (fun _ => 0))), (q9, .inl (cI, 3, .inl (fun _ => 0)))] := hD
  refine lv_aload_n hx hb dX0_init_73 rfl (lv_at hl 0 rfl) ?_
  refine lv_bipush (v := 9) hx hb dX0_init_74 (by decide) ?_
  refine va_newa (atype := .int) (ty := .int) (N' := 9) (a0 := (9, .inl (fun _ => 0))) hx hb (hts _ q62) rfl hK hP hD hS hA (fun _ => rfl) (by decide) (by decide) (by decide) (Nat.le_of_ble_eq_true rfl) (Nat.le_of_ble_eq_true rfl) dX0_init_76 (fun q10 cA H hK hP hD hS => ?_)
  obtain rfl := eqI hK 0 2 rfl rfl
  have hK := hK.sub (tys' := [(cI, .int), (cZ, .boolean)]) [0, 1] rfl
  have hP : va_P D vCl [(h0, .inr (0, [.ref q1, .ref q2, .ref q3, .int 0, .ref q4, .ref q5, .ref q6, .ref q7, .ref q8, .ref q9, .null, .null, .null])), (q1, .inl (cI, 320, .inl (fun _ => 0))), (q2, .inl (cI, 80, .inl (fun _ => 0))), (q3, .inl (cI, 80, .inl (fun _ => 0))), (q4, .inl (cI, 24, .inl (fun _ => 0))), (q5, .inl (cI, 24, .inl (fun _ => 0))), (q6, .inl (cZ, 3, .inl (fun _ => 0))), (q7, .inl (cI, 3, .inl (fun _ => 0))), (q8, .inl (cI, 3, .inl (fun _ => 0))), (q9, .inl (cI, 3, .inl (fun _ => 0))), (q10, .inl (cI, 9, .inl (fun _ => 0)))] H := hP
  have hD : va_D A [(h0, .inr (0, [.ref q1, .ref q2, .ref q3, .int 0, .ref q4, .ref q5, .ref q6, .ref q7, .ref q8, .ref q9, .null, .null, .null])), (q1, .inl (cI, 320, .inl (fun _ => 0))), (q2, .inl (cI, 80, .inl (fun _ => 0))), (q3, .inl (cI, 80, .inl (fun _ => 0))), (q4, .inl (cI, 24, .inl (fun _ => 0))), (q5, .inl (cI, 24, .inl (fun _ => 0))), (q6, .inl (cZ, 3, .inl (fun _ => 0))), (q7, .inl (cI, 3, .inl (fun _ => 0))), (q8, .inl (cI, 3, .inl (fun _ => 0))), (q9, .inl (cI, 3, .inl (fun _ => 0))), (q10, .inl (cI, 9, .inl (fun _ => 0)))] := hD
  refine va_putF (D := D) (ci := 0) (v := .ref q10) (ty := .array .int) (C := RX0) (T := TX0) (N := 13) hx hb hts in_X0 tyX0 tyX0_ok nmX0 hown hK hP hD hS 0 rfl rfl 10 (by decide) (hts _ q32) (fun _ h9 => h9) rfl hin rfl (by decide +kernel) rfl rfl (Nat.le_of_ble_eq_true rfl) dX0_init_78 (fun H locs hP hD hS => ?_)
  have hP : va_P D vCl [(h0, .inr (0, [.ref q1, .ref q2, .ref q3, .int 0, .ref q4, .ref q5, .ref q6, .ref q7, .ref q8, .ref q9, .ref q10, .null, .null])), (q1, .inl (cI, 320, .inl (fun _ => 0))), (q2, .inl (cI, 80, .inl (fun _ => 0))), (q3, .inl (cI, 80, .inl (fun _ => 0))), (q4, .inl (cI, 24, .inl (fun _ => 0))), (q5, .inl (cI, 24, .inl (fun _ => 0))), (q6, .inl (cZ, 3, .inl (fun _ => 0))), (q7, .inl (cI, 3, .inl (fun _ => 0))), (q8, .inl (cI, 3, .inl (fun _ => 0))), (q9, .inl (cI, 3, .inl (fun _ => 0))), (q10, .inl (cI, 9, .inl (fun _ => 0)))] H := hP
  have hD : va_D A [(h0, .inr (0, [.ref q1, .ref q2, .ref q3, .int 0, .ref q4, .ref q5, .ref q6, .ref q7, .ref q8, .ref q9, .ref q10, .null, .null])), (q1, .inl (cI, 320, .inl (fun _ => 0))), (q2, .inl (cI, 80, .inl (fun _ => 0))), (q3, .inl (cI, 80, .inl (fun _ => 0))), (q4, .inl (cI, 24, .inl (fun _ => 0))), (q5, .inl (cI, 24, .inl (fun _ => 0))), (q6, .inl (cZ, 3, .inl (fun _ => 0))), (q7, .inl (cI, 3, .inl (fun _ => 0))), (q8, .inl (cI, 3, .inl (fun _ => 0))), (q9, .inl (cI, 3, .inl (fun _ => 0))), (q10, .inl (cI, 9, .inl (fun _ => 0)))] := hD
  refine lv_aload_n hx hb dX0_init_81 rfl (lv_at hl 0 rfl) ?_
  refine lv_bipush (v := 9) hx hb dX0_init_82 (by decide) ?_
  refine va_newa (atype := .int) (ty := .int) (N' := 9) (a0 := (9, .inl (fun _ => 0))) hx hb (hts _ q62) rfl hK hP hD hS hA (fun _ => rfl) (by decide) (by decide) (by decide) (Nat.le_of_ble_eq_true rfl) (Nat.le_of_ble_eq_true rfl) dX0_init_84 (fun q11 cA H hK hP hD hS => ?_)
  obtain rfl := eqI hK 0 2 rfl rfl
  have hK := hK.sub (tys' := [(cI, .int), (cZ, .boolean)]) [0, 1] rfl
  have hP : va_P D vCl [(h0, .inr (0, [.ref q1, .ref q2, .ref q3, .int 0, .ref q4, .ref q5, .ref q6, .ref q7, .ref q8, .ref q9, .ref q10, .null, .null])), (q1, .inl (cI, 320, .inl (fun _ => 0))), (q2, .inl (cI, 80, .inl (fun _ => 0))), (q3, .inl (cI, 80, .inl (fun _ => 0))), (q4, .inl (cI, 24, .inl (fun _ => 0))), (q5, .inl (cI, 24, .inl (fun _ => 0))), (q6, .inl (cZ, 3, .inl (fun _ => 0))), (q7, .inl (cI, 3, .inl (fun _ => 0))), (q8, .inl (cI, 3, .inl (fun _ => 0))), (q9, .inl (cI, 3, .inl (fun _ => 0))), (q10, .inl (cI, 9, .inl (fun _ => 0))), (q11, .inl (cI, 9, .inl (fun _ => 0)))] H := hP
  have hD : va_D A [(h0, .inr (0, [.ref q1, .ref q2, .ref q3, .int 0, .ref q4, .ref q5, .ref q6, .ref q7, .ref q8, .ref q9, .ref q10, .null, .null])), (q1, .inl (cI, 320, .inl (fun _ => 0))), (q2, .inl (cI, 80, .inl (fun _ => 0))), (q3, .inl (cI, 80, .inl (fun _ => 0))), (q4, .inl (cI, 24, .inl (fun _ => 0))), (q5, .inl (cI, 24, .inl (fun _ => 0))), (q6, .inl (cZ, 3, .inl (fun _ => 0))), (q7, .inl (cI, 3, .inl (fun _ => 0))), (q8, .inl (cI, 3, .inl (fun _ => 0))), (q9, .inl (cI, 3, .inl (fun _ => 0))), (q10, .inl (cI, 9, .inl (fun _ => 0))), (q11, .inl (cI, 9, .inl (fun _ => 0)))] := hD
  refine va_putF (D := D) (ci := 0) (v := .ref q11) (ty := .array .int) (C := RX0) (T := TX0) (N := 13) hx hb hts in_X0 tyX0 tyX0_ok nmX0 hown hK hP hD hS 0 rfl rfl 11 (by decide) (hts _ q33) (fun _ h9 => h9) rfl hin rfl (by decide +kernel) rfl rfl (Nat.le_of_ble_eq_true rfl) dX0_init_86 (fun H locs hP hD hS => ?_)
  have hP : va_P D vCl [(h0, .inr (0, [.ref q1, .ref q2, .ref q3, .int 0, .ref q4, .ref q5, .ref q6, .ref q7, .ref q8, .ref q9, .ref q10, .ref q11, .null])), (q1, .inl (cI, 320, .inl (fun _ => 0))), (q2, .inl (cI, 80, .inl (fun _ => 0))), (q3, .inl (cI, 80, .inl (fun _ => 0))), (q4, .inl (cI, 24, .inl (fun _ => 0))), (q5, .inl (cI, 24, .inl (fun _ => 0))), (q6, .inl (cZ, 3, .inl (fun _ => 0))), (q7, .inl (cI, 3, .inl (fun _ => 0))), (q8, .inl (cI, 3, .inl (fun _ => 0))), (q9, .inl (cI, 3, .inl (fun _ => 0))), (q10, .inl (cI, 9, .inl (fun _ => 0))), (q11, .inl (cI, 9, .inl (fun _ => 0)))] H := hP
  have hD : va_D A [(h0, .inr (0, [.ref q1, .ref q2, .ref q3, .int 0, .ref q4, .ref q5, .ref q6, .ref q7, .ref q8, .ref q9, .ref q10, .ref q11, .null])), (q1, .inl (cI, 320, .inl (fun _ => 0))), (q2, .inl (cI, 80, .inl (fun _ => 0))), (q3, .inl (cI, 80, .inl (fun _ => 0))), (q4, .inl (cI, 24, .inl (fun _ => 0))), (q5, .inl (cI, 24, .inl (fun _ => 0))), (q6, .inl (cZ, 3, .inl (fun _ => 0))), (q7, .inl (cI, 3, .inl (fun _ => 0))), (q8, .inl (cI, 3, .inl (fun _ => 0))), (q9, .inl (cI, 3, .inl (fun _ => 0))), (q10, .inl (cI, 9, .inl (fun _ => 0))), (q11, .inl (cI, 9, .inl (fun _ => 0)))] := hD
  refine lv_aload_n hx hb dX0_init_89 rfl (lv_at hl 0 rfl) ?_
  refine lv_bipush (v := 27) hx hb dX0_init_90 (by decide) ?_
  refine va_newa (atype := .int) (ty := .int) (N' := 27) (a0 := (27, .inl (fun _ => 0))) hx hb (hts _ q62) rfl hK hP hD hS hA (fun _ => rfl) (by decide) (by decide) (by decide) (Nat.le_of_ble_eq_true rfl) (Nat.le_of_ble_eq_true rfl) dX0_init_92 (fun q12 cA H hK hP hD hS => ?_)
  obtain rfl := eqI hK 0 2 rfl rfl
  have hK := hK.sub (tys' := [(cI, .int), (cZ, .boolean)]) [0, 1] rfl
  have hP : va_P D vCl [(h0, .inr (0, [.ref q1, .ref q2, .ref q3, .int 0, .ref q4, .ref q5, .ref q6, .ref q7, .ref q8, .ref q9, .ref q10, .ref q11, .null])), (q1, .inl (cI, 320, .inl (fun _ => 0))), (q2, .inl (cI, 80, .inl (fun _ => 0))), (q3, .inl (cI, 80, .inl (fun _ => 0))), (q4, .inl (cI, 24, .inl (fun _ => 0))), (q5, .inl (cI, 24, .inl (fun _ => 0))), (q6, .inl (cZ, 3, .inl (fun _ => 0))), (q7, .inl (cI, 3, .inl (fun _ => 0))), (q8, .inl (cI, 3, .inl (fun _ => 0))), (q9, .inl (cI, 3, .inl (fun _ => 0))), (q10, .inl (cI, 9, .inl (fun _ => 0))), (q11, .inl (cI, 9, .inl (fun _ => 0))), (q12, .inl (cI, 27, .inl (fun _ => 0)))] H := hP
  have hD : va_D A [(h0, .inr (0, [.ref q1, .ref q2, .ref q3, .int 0, .ref q4, .ref q5, .ref q6, .ref q7, .ref q8, .ref q9, .ref q10, .ref q11, .null])), (q1, .inl (cI, 320, .inl (fun _ => 0))), (q2, .inl (cI, 80, .inl (fun _ => 0))), (q3, .inl (cI, 80, .inl (fun _ => 0))), (q4, .inl (cI, 24, .inl (fun _ => 0))), (q5, .inl (cI, 24, .inl (fun _ => 0))), (q6, .inl (cZ, 3, .inl (fun _ => 0))), (q7, .inl (cI, 3, .inl (fun _ => 0))), (q8, .inl (cI, 3, .inl (fun _ => 0))), (q9, .inl (cI, 3, .inl (fun _ => 0))), (q10, .inl (cI, 9, .inl (fun _ => 0))), (q11, .inl (cI, 9, .inl (fun _ => 0))), (q12, .inl (cI, 27, .inl (fun _ => 0)))] := hD
  refine va_putF (D := D) (ci := 0) (v := .ref q12) (ty := .array .int) (C := RX0) (T := TX0) (N := 13) hx hb hts in_X0 tyX0 tyX0_ok nmX0 hown hK hP hD hS 0 rfl rfl 12 (by decide) (hts _ q34) (fun _ h9 => h9) rfl hin rfl (by decide +kernel) rfl rfl (Nat.le_of_ble_eq_true rfl) dX0_init_94 (fun H locs hP hD hS => ?_)
  have hP : va_P D vCl [(h0, .inr (0, [.ref q1, .ref q2, .ref q3, .int 0, .ref q4, .ref q5, .ref q6, .ref q7, .ref q8, .ref q9, .ref q10, .ref q11, .ref q12])), (q1, .inl (cI, 320, .inl (fun _ => 0))), (q2, .inl (cI, 80, .inl (fun _ => 0))), (q3, .inl (cI, 80, .inl (fun _ => 0))), (q4, .inl (cI, 24, .inl (fun _ => 0))), (q5, .inl (cI, 24, .inl (fun _ => 0))), (q6, .inl (cZ, 3, .inl (fun _ => 0))), (q7, .inl (cI, 3, .inl (fun _ => 0))), (q8, .inl (cI, 3, .inl (fun _ => 0))), (q9, .inl (cI, 3, .inl (fun _ => 0))), (q10, .inl (cI, 9, .inl (fun _ => 0))), (q11, .inl (cI, 9, .inl (fun _ => 0))), (q12, .inl (cI, 27, .inl (fun _ => 0)))] H := hP
  have hD : va_D A [(h0, .inr (0, [.ref q1, .ref q2, .ref q3, .int 0, .ref q4, .ref q5, .ref q6, .ref q7, .ref q8, .ref q9, .ref q10, .ref q11, .ref q12])), (q1, .inl (cI, 320, .inl (fun _ => 0))), (q2, .inl (cI, 80, .inl (fun _ => 0))), (q3, .inl (cI, 80, .inl (fun _ => 0))), (q4, .inl (cI, 24, .inl (fun _ => 0))), (q5, .inl (cI, 24, .inl (fun _ => 0))), (q6, .inl (cZ, 3, .inl (fun _ => 0))), (q7, .inl (cI, 3, .inl (fun _ => 0))), (q8, .inl (cI, 3, .inl (fun _ => 0))), (q9, .inl (cI, 3, .inl (fun _ => 0))), (q10, .inl (cI, 9, .inl (fun _ => 0))), (q11, .inl (cI, 9, .inl (fun _ => 0))), (q12, .inl (cI, 27, .inl (fun _ => 0)))] := hD
  refine W.widen (k := 12) (n := 585) (Nat.le_of_ble_eq_true rfl) (Nat.le_of_ble_eq_true rfl) ?_
  obtain ⟨ad, had⟩ : ∃ ad : Nat → Nat, ad = (adL [h0, q1, q2, q3, q4, q5, q6, q7, q8, q9, q10, q11, q12]) := ⟨_, rfl⟩
  have h0e : ad 0 = h0 := by rw [had]; rfl
  have hP : va_P D vCl (wX ad cI cZ (fun _ => 0) (fun _ => 0) (fun _ => 0) 0 (fun _ => some 0) (fun _ => some 0) (fun _ => false) (fun _ => 0) (fun _ => 0) (fun _ => 0) (fun _ => 0) (fun _ => 0) (fun _ => some 0)) H := by rw [had]; exact hP
  have hD : va_D A (wX ad cI cZ (fun _ => 0) (fun _ => 0) (fun _ => 0) 0 (fun _ => some 0) (fun _ => some 0) (fun _ => false) (fun _ => 0) (fun _ => 0) (fun _ => 0) (fun _ => 0) (fun _ => 0) (fun _ => some 0)) := by rw [had]; exact hD
  have hl : lv_has ls 2 [(0, .ref (ad 0))] := by rw [h0e]; exact hl
  refine lv_iconst (v := nI 0) hx hb dX0_init_97 (by decide) ?_
  refine zi_stn hx hb dX0_init_98 rfl hl (by decide) (fun ls hl => ?_)
  have hloop99 : ∀ (n : Nat) (i : Nat) (H : Heap) (locs : List Loc) (ls : Array Slot), i ≤ 24 → 24 + 1 ≤ i + n → True → va_P D vCl (wX ad cI cZ (fun _ => 0) (fun _ => 0) (fun _ => 0) 0 (va_cpy (fun _ => none) (fun _ => some 0) 0 0 i) (va_cpy (fun _ => none) (fun _ => some 0) 0 0 i) (fun _ => false) (fun _ => 0) (fun _ => 0) (fun _ => 0) (fun _ => 0) (fun _ => 0) (fun _ => some 0)) H → va_D A (wX ad cI cZ (fun _ => 0) (fun _ => 0) (fun _ => 0) 0 (va_cpy (fun _ => none) (fun _ => some 0) 0 0 i) (va_cpy (fun _ => none) (fun _ => some 0) 0 0 i) (fun _ => false) (fun _ => 0) (fun _ => 0) (fun _ => 0) (fun _ => 0) (fun _ => 0) (fun _ => some 0)) → va_S A s.heap H locs → lv_has ls 2 [(0, .ref (ad 0)), (1, .int (nI i))] → W p l e rIX s m args below meth c H locs 12 585 Q (F0 m 99 ls []) := by
    intro n99
    induction n99 with
    | zero => intro i H locs ls hi hn; exact absurd hn (by omega)
    | succ n99 ih99 =>
      intro i H locs ls hi hn _  hP hD hS hl
      refine lv_iload_n hx hb dX0_init_99 rfl (lv_at hl 1 rfl) ?_
      refine lv_bipush (v := nI 24) hx hb dX0_init_100 (by decide) ?_
      refine zi_ge (tgt := 125) hx hb (by omega) (by omega) dX0_init_102 (by decide) (fun h102 => ?_) (fun h102 => ?_)
      · skip
        have e24 : i = 24 := by omega
        subst e24
        refine lv_aload_n hx hb dX0_init_125 rfl (lv_at hl 0 rfl) ?_
        refine gX_Hd hx hb hts hown hK hP dX0_init_126 ?_
        refine lv_iconst (v := nI 0) hx hb dX0_init_129 (by decide) ?_
        refine lv_iconst (v := nI 1) hx hb dX0_init_130 (by decide) ?_
        refine sX_Hd hx hb hK hP hD hS (by omega) dX0_init_131 (fun H locs hP hD hS => ?_)
        refine lv_bipush (v := nI 79) hx hb dX0_init_132 (by decide) ?_
        refine zi_stn hx hb dX0_init_134 rfl hl (by decide) (fun ls hl => ?_)
        have hloop135 : ∀ (n : Nat) (k : Nat) (H : Heap) (locs : List Loc) (ls : Array Slot), k ≤ 79 → 79 + 1 ≤ k + n → True → va_P D vCl (wX ad cI cZ (fun _ => 0) (va_up (fun _ => 0) 0 1) (va_cpy (fun j => 79 - j) (fun _ => 0) 0 0 k) k (va_cpy (fun _ => none) (fun _ => some 0) 0 0 24) (va_cpy (fun _ => none) (fun _ => some 0) 0 0 24) (fun _ => false) (fun _ => 0) (fun _ => 0) (fun _ => 0) (fun _ => 0) (fun _ => 0) (fun _ => some 0)) H → va_D A (wX ad cI cZ (fun _ => 0) (va_up (fun _ => 0) 0 1) (va_cpy (fun j => 79 - j) (fun _ => 0) 0 0 k) k (va_cpy (fun _ => none) (fun _ => some 0) 0 0 24) (va_cpy (fun _ => none) (fun _ => some 0) 0 0 24) (fun _ => false) (fun _ => 0) (fun _ => 0) (fun _ => 0) (fun _ => 0) (fun _ => 0) (fun _ => some 0)) → va_S A s.heap H locs → lv_has ls 2 [(0, .ref (ad 0)), (1, .int (nI (79 - k)))] → W p l e rIX s m args below meth c H locs 12 585 Q (F0 m 135 ls []) := by
          intro n135
          induction n135 with
          | zero => intro k H locs ls hi hn; exact absurd hn (by omega)
          | succ n135 ih135 =>
            intro k H locs ls hi hn _  hP hD hS hl
            refine lv_iload_n hx hb dX0_init_135 rfl (lv_at hl 1 rfl) ?_
            refine zi_ifle (tgt := 165) hx hb (by omega) dX0_init_136 (by decide) (fun h136 => ?_) (fun h136 => ?_)
            · skip
              have e79 : k = 79 := by omega
              subst e79
              exact hret (ad, cI, cZ) _ _ _ _ dX0_init_165 h0e hP hK hD hS
            · skip
              refine lv_aload_n hx hb dX0_init_139 rfl (lv_at hl 0 rfl) ?_
              refine gX_Fr hx hb hts hown hK hP dX0_init_140 ?_
              refine lv_aload_n hx hb dX0_init_143 rfl (lv_at hl 0 rfl) ?_
              refine gX_ft hx hb hts hown hK hP dX0_init_144 ?_
              refine lv_iload_n hx hb dX0_init_147 rfl (lv_at hl 1 rfl) ?_
              refine sX_Fr hx hb hK hP hD hS (by omega) dX0_init_148 (fun H locs hP hD hS => ?_)
              refine lv_aload_n hx hb dX0_init_149 rfl (lv_at hl 0 rfl) ?_
              refine lv_dup hx hb dX0_init_150 rfl ?_
              refine gX_ft hx hb hts hown hK hP dX0_init_151 ?_
              refine lv_iconst (v := nI 1) hx hb dX0_init_154 (by decide) ?_
              refine zi_add hx hb dX0_init_155 ?_
              refine pX_ft hx hb hts hown hK hP hD hS dX0_init_156 (fun H locs hP hD hS => ?_)
              rw [show 79 - k = 78 - k + 1 by omega] at hl
              refine zi_dec hx hb dX0_init_159 hl (k := 1) rfl (by decide) (fun ls hl => ?_)
              refine lv_goto (tgt := 135) hx hb dX0_init_162 (by decide) ?_
              rw [cpy_s0 (f := fun j => 79 - j)] at hP hD
              rw [show 78 - k = 79 - (k + 1) by omega] at hl
              exact ih135 (k + 1)  _ _ _ (by omega) (by omega) trivial  hP hD hS (lv_sub hl [1, 0] rfl)
        exact hloop135 (79 + 1) 0  _ _ _ (by omega) (by omega) trivial  (by rw [cpy_0]; exact hP) (by rw [cpy_0]; exact hD) hS (lv_sub hl [1, 0] rfl)
      · skip
        refine lv_aload_n hx hb dX0_init_105 rfl (lv_at hl 0 rfl) ?_
        refine gX_Tb hx hb hts hown hK hP dX0_init_106 ?_
        refine lv_iload_n hx hb dX0_init_109 rfl (lv_at hl 1 rfl) ?_
        refine lv_iconst (v := oN none) hx hb dX0_init_110 (by decide) ?_
        refine sX_Tb (v := none) hx hb hK hP hD hS (by omega) dX0_init_111 (fun H locs hP hD hS => ?_)
        refine lv_aload_n hx hb dX0_init_112 rfl (lv_at hl 0 rfl) ?_
        refine gX_Kt hx hb hts hown hK hP dX0_init_113 ?_
        refine lv_iload_n hx hb dX0_init_116 rfl (lv_at hl 1 rfl) ?_
        refine lv_iconst (v := oN none) hx hb dX0_init_117 (by decide) ?_
        refine sX_Kt (v := none) hx hb hK hP hD hS (by omega) dX0_init_118 (fun H locs hP hD hS => ?_)
        refine zi_inc hx hb dX0_init_119 hl (k := 1) rfl (by decide) (fun ls hl => ?_)
        refine lv_goto (tgt := 99) hx hb dX0_init_122 (by decide) ?_
        rw [cpy_s0 (f := fun _ => none)] at hP hD
        exact ih99 (i + 1)  _ _ _ (by omega) (by omega) trivial  hP hD hS (lv_sub hl [1, 0] rfl)
  exact hloop99 (24 + 1) 0  _ _ _ (by omega) (by omega) trivial  (by rw [cpy_0]; exact hP) (by rw [cpy_0]; exact hD) hS (lv_sub hl [1, 0] rfl)
end
section
/-! the start is related; the twin's own bounds out of the relation -/
theorem us_0 : ∀ n, us (fun _ => 0) n = 0 := by
  intro n
  induction n with
  | zero => rfl
  | succ n ih => simp only [us]; rw [ih]; rfl
theorem cn_0 {rf : Nat → Option Nat} {f : Nat} : ∀ n, (∀ k, k < n → rf k = none) → cn rf f n = 0 := by
  intro n
  induction n with
  | zero => intro _; rfl
  | succ n ih =>
    intro h
    simp only [cn]
    rw [ih (fun k hk => h k (by omega)), h n (by omega)]
    rfl
theorem R_init : RRt xInit mInit := by
  have hn : ∀ k, k < 24 → va_cpy (fun _ => (none : Option Nat)) (fun _ => some 0) 0 0 24 k = none := by
    intro k hk
    have := cpy_i (f := fun _ => (none : Option Nat)) (g := fun _ => some 0) (a := 0) (b := 0) hk
    rw [Nat.zero_add] at this
    exact this
  have hF : ∀ k, k < 79 → va_cpy (fun j => 79 - j) (fun _ => 0) 0 0 79 k = 79 - k := by
    intro k hk
    have := cpy_i (f := fun j => 79 - j) (g := fun _ => 0) (a := 0) (b := 0) hk
    rw [Nat.zero_add] at this
    exact this
  have hL : ∀ c, lvL (fun _ => 0) (fun _ => 0) (fun _ => 0) (fun _ => some 0) c = none := by
    intro c
    simp [lvL]
  have hs : ∀ k, sl (va_cpy (fun _ => none) (fun _ => some 0) 0 0 24) (va_cpy (fun _ => none) (fun _ => some 0) 0 0 24) (lvL (fun _ => 0) (fun _ => 0) (fun _ => 0) (fun _ => some 0)) k = none := by
    intro k
    simp only [sl]
    by_cases h1 : k < 24
    · rw [if_pos h1]; exact hn k h1
    · rw [if_neg h1]
      by_cases h2 : k < 48
      · rw [if_pos h2]; exact hn (k - 24) (by omega)
      · rw [if_neg h2]
        by_cases h3 : k < 75
        · rw [if_pos h3]; exact hL _
        · rw [if_neg h3]
  refine rr_mk ⟨fun k _ f hf => ?_, fun f hf => ?_, fun i hi => ?_, fun i j hi hj hij => ?_, ?_⟩ ?_ ?_ ?_ (fun p hp => rfl) (fun i hi => rfl)
  · rw [hs k] at hf
    cases hf
  · rw [cn_0 76 (fun k _ => hs k)]
    by_cases h0 : f = 0
    · rw [h0, vu_s]; rfl
    · rw [vu_n h0, if_neg h0]
  · rw [hF i hi]
    refine ⟨by omega, ?_⟩
    rw [vu_n (by omega)]
  · rw [hF i hi, hF j hj] at hij
    omega
  · have := us_up (Hd := fun _ => 0) (k := 0) (v := 1) 80 (by omega)
    rw [us_0] at this
    simp at this
    omega
  · intro k hk
    rw [hn k hk]
    exact ⟨rfl, fun f hf => by cases hf⟩
  · intro p hp
    refine ⟨rfl, fun q hq => ?_⟩
    rw [hn (p * 8 + q) (by omega)]
    exact ⟨(fun z => by cases z), (fun _ => rfl), fun f hf => by cases hf⟩
  · intro p hp
    exact ⟨rfl, Nat.zero_le 3, Nat.zero_lt_succ 2, fun j hj => absurd hj (Nat.not_lt_zero j)⟩
theorem mok {u : XS} {v : MS} (h : RRt u v) : MOK v := by
  intro p hp
  obtain ⟨h1, h2, h3, h4⟩ := h.2.2.2.1 p hp
  refine ⟨h1 ▸ h2, fun j hj => ?_⟩
  obtain ⟨a1, a2, a3, -⟩ := h4 j (by rw [h1]; exact hj)
  rw [← a2]
  exact a3
theorem law_le {L i : Nat} (hL : L ≤ 320) (hi : i ≤ 320) (h : ¬ (nI L - 5 < nI i)) : i + 5 ≤ L := by
  rw [Int32.lt_iff_toInt_lt, show (5 : Int32) = nI 5 from rfl, pk_sub_toInt (by omega) (by omega), nI_toInt (by omega)] at h
  omega
section ZL
variable {p : Program} {l : Launch} {e : Env} {R : Room} {s : State} {m : MethodId} {args : Array Value} {below : List Frame} {meth : Method} {c : Code} {H : Heap} {locs : List Loc} {cells slots : Nat} {Q : State → Prop}
variable {cc : ByteArray} {pc : Nat} {ls : Array Slot} {rest st : List Value} {D : va_G} {cl : List vw_C} {tys : List (ClassId × FieldType)} {A : Nat → Prop} {H0 : Heap} {ws : va_W}
variable {y : MethodName} {bytes : ByteArray} {maxL nL n index mc ms : Nat} {wy Ts : List Cond} {rm : Room} {own : String} {b : Nat} {As : List Value} {S : Type} {w1 : S → va_W} {t1 : S → List (ClassId × FieldType)}
theorem zs_ld (hx : p.tables.exec = Jvm.exec) (hb : c.code = cc) {L k : Nat} {xs : Nat → Int32} (hX : va_X b L xs s H0) (hbl : b < H0.size) (hbA : ¬ A b) (hS : va_S A H0 H locs) (hk : k < L) (hL : L ≤ 320) (hdg : decode cc pc = .ok (.iaload, 1)) (kk : W p l e R s m args below meth c H locs cells slots Q (F0 m (pc + 1) ls (.int (xs k) :: rest))) : W p l e R s m args below meth c H locs cells slots Q (F0 m pc ls (.int (nI k) :: .ref b :: rest)) := by
  refine va_sld hx hb hX hbl hbA hS (vp_in_nI hk (by omega)) hdg ?_
  rw [nI_clamp (n := k) (by omega)]
  exact kk
set_option maxHeartbeats 4000000 in
theorem zI {post : S → Prop} {wc wr : va_W} (F : CallFix p m c cc nL s args Ts own) (hK : va_K D cl tys s) (hP : va_P D cl ws H) (hD : va_D A ws) (hS : va_S A H0 H locs) (hA : ∀ q, H0.size ≤ q → A q)
    (isC isR : List Nat) (h1 : isC.map (fun i => ws[i]?) = wc.map some) (h2 : isR.map (fun i => ws[i]?) = wr.map some) (h3 : va_nd isR = true) (h4 : ∀ i ∈ isR, i ∉ isC) (h5 : va_nd isC = true) (h6 : isC.filterMap (fun i => ws[i]?) = wc)
    (hM : Met l y wy rm (va_Pc (.ref b :: As) (zPre D cl [] wc H.size)) (va_Qv post (fun u t => va_P D cl (w1 u) t.heap ∧ va_K D cl (t1 u) t ∧ va_D (va_A wc H.size) (w1 u)) (va_A wc H.size)) mc ms (va_A wc H.size))
    (cw : CallB R s args own index y bytes maxL none wy rm mc ms n ∧ y.name = "<init>" ∧ (Cond.instanceMethod y).before args s = true)
    (hn : As.length = n) (hl : ls.size = nL) (hst : st = As.reverse ++ .ref b :: rest) (hroom : (rest.map fun v => v.category).sum ≤ 8) (hdg : decode cc pc = .ok (.invokespecial index, 3)) (hf : cells + mc ≤ R.cells ∧ slots + ms ≤ R.slots)
    (kk : ∀ (u : S) (H : Heap) (locs : List Loc), post u → va_P D cl (wr ++ w1 u) H → va_D A (wr ++ w1 u) → va_S A H0 H locs → va_K D cl (t1 u) s → W p l e R s m args below meth c H locs (cells + mc) (slots + ms) Q (F0 m (pc + 3) ls rest)) :
    W p l e R s m args below meth c H locs cells slots Q (F0 m pc ls st) := by
  have hPc : va_P D cl wc H := hP.sub isC h6
  have hDc : va_D A wc := hD.sub isC h5 h1
  have hK0 : va_K D cl [] s := hK.sub [] rfl
  have hFc := z_fr hDc hS hA
  refine va_callv (va_runI (As := As) (rest := rest) F hM cw ⟨fun a U g mk q => by obtain ⟨q0, q1, qP, qK, qD⟩ := q; exact ⟨q0, q1, qP, va_K.moved (u := U) (U := U.calling g mk a) (Vm.Alike.refl U.vm) qK, qD⟩, fun U hU hW => ⟨rfl, by rw [hU], by rw [hU]; exact hPc, va_K.moved hW.alike hK0, hDc.weaken (fun _ _ _ _ => trivial)⟩⟩ rfl hn hl hst (lv_room hroom) hdg hf) hS (fun q _ h => hFc q h) hFc (fun u t H1 locs1 ht hvm hw hB hz1 hk1 hS1 => ?_)
  obtain ⟨hP1, hK1, hD1⟩ := hB
  rw [ht] at hP1
  obtain ⟨hP2, hD2⟩ := va_join (wr := wr) (w1 := w1 u) hP hD isC isR h1 h2 h3 h4 hk1 hFc hP1 hD1
  exact kk u H1 locs1 hw hP2 hD2 hS1 (va_K.moved hvm.symm hK1)
end ZL
end
section
/-! THE CLAIM OUT OF ONE WALK OF THE LAW'S BODY. Your part is whole_start (and what it stands on); all else here is the same for every law, but numbers. -/
def R_law : String := "OolMessagePortsLaw"
def lw_P (b : Addr) (xs : List Int32) (args : Array Value) (s : State) : Prop := args = #[.ref b] ∧ s.IntsAt b xs ∧ xs.length ≤ 320 ∧ (Jvm.Cond.and given_1 narrow_1).before args s = true
def lw_Q (_ : Array Value) (s : State) (o : Outcome) (t : State) : Prop := o = .returned (some (.int 1)) ∧ Framed s o t [] 600000 7290000
def lw_Z (below : List Frame) (a : Array Value) (s : State) : State → Prop := fun t => ∃ o, t.status = .running ∧ Ended t below o ∧ lw_Q a s o t
/-- the law's own end, with 1 on the stack, nothing written that was there before, its room as the claim has it -/
theorem lw_ret {p : Program} {l : Launch} {e : Env} {s : State} {m : MethodId} {below : List Frame} {meth : Method} {c : Code} {b : Nat} (hx : p.tables.exec = Jvm.exec) (hb : c.code = code) (hr : meth.sig.returnType = ret) (hlocks : meth.locks = false) {pc : Nat} {H : Heap} {ls : Array Slot} (hdg : decode code pc = .ok (.ireturn, 1)) : W p l e room_1 s m #[Value.ref b] below meth c H [] 600000 7290000 (lw_Z below #[Value.ref b] s) (F0 m pc ls [.int 1]) := by
  intro T hT X
  obtain ⟨fs, hret, hrun, hended, hW, hframe⟩ := X.leave (v := some (.int 1)) (hlocks := hlocks) (fun h => by rw [hr] at h; cases h)
  have hmeth' : T.vm.method? m = some meth := X.method'
  refine ⟨T.setFrames fs, ?_, .returned (some (.int 1)), hrun, hended, rfl, ⟨_, rfl⟩, hW, hframe⟩
  jvm_step X.here [X.here.top, hx, hb, hdg, hmeth', hr, ret, narrow_b1]
  (try refine ⟨rfl, ?_⟩); (try refine ⟨rfl, ?_⟩)
  first | (intro acts; rw [hret _ acts rfl rfl rfl]) | rw [hret _ _ rfl rfl rfl]
  exact Steps.refl _
/-- what holds at the law's entry: the machine, the code, the tables' words (any of lw_tbl by 'hts w (by decide +kernel)'), the script of L ints xs at the cell b, what the Statement gives of the start (any of its parts by flat_of_before) -/
def lw_At (p : Program) (s : State) (m : MethodId) (meth : Method) (c : Code) (b L : Nat) (xs : Nat → Int32) : Prop :=
  p.tables.exec = Jvm.exec ∧ c.code = code ∧ meth.sig.returnType = ret ∧ c.maxLocals = 4 ∧ s.vm.findClass R_law = some m.cls ∧ (∀ w ∈ lw_tbl, w.before #[Value.ref b] s = true) ∧ va_X b L xs s s.heap ∧ b < s.heap.size ∧ meth.locks = false ∧ (Jvm.Cond.and given_1 narrow_1).before #[Value.ref b] s = true
section KL
variable {R : Room} {s : State} {args : Array Value}
theorem kLX0_map (hts : ∀ w ∈ lw_all, w.before args s = true) (hR : 2 + 1 ≤ R.frames ∧ 8 + (4 + 11) + 60 ≤ R.locals) : CallW R s args R_law RX0 13 yX0_map cX0_map 4 (some .int) (ws_ yX0_map cX0_map 4 (some .int)) r2 0 0 2 := cwV 2 hts (lw_V q64 q65 q66 q12 q67) rfl rfl rfl (by decide +kernel) hR
theorem kLX0_unmap (hts : ∀ w ∈ lw_all, w.before args s = true) (hR : 2 + 1 ≤ R.frames ∧ 8 + (4 + 11) + 60 ≤ R.locals) : CallW R s args R_law RX0 18 yX0_unmap cX0_unmap 4 (some .int) (ws_ yX0_unmap cX0_unmap 4 (some .int)) r2 0 0 2 := cwV 2 hts (lw_V q82 q83 q84 q12 q85) rfl rfl rfl (by decide +kernel) hR
theorem kLX0_write (hts : ∀ w ∈ lw_all, w.before args s = true) (hR : 2 + 1 ≤ R.frames ∧ 8 + (6 + 11) + 60 ≤ R.locals) : CallW R s args R_law RX0 22 yX0_write cX0_write 6 (some .int) (ws_ yX0_write cX0_write 6 (some .int)) r2 0 0 3 := cwV 3 hts (lw_V q90 q91 q92 q12 q93) rfl rfl rfl (by decide +kernel) hR
theorem kLX0_copy (hts : ∀ w ∈ lw_all, w.before args s = true) (hR : 2 + 1 ≤ R.frames ∧ 8 + (5 + 11) + 60 ≤ R.locals) : CallW R s args R_law RX0 27 yX0_copy cX0_copy 5 (some .int) (ws_ yX0_copy cX0_copy 5 (some .int)) r2 0 0 3 := cwV 3 hts (lw_V q98 q99 q100 q12 q101) rfl rfl rfl (by decide +kernel) hR
theorem kLX0_send (hts : ∀ w ∈ lw_all, w.before args s = true) (hR : 2 + 1 ≤ R.frames ∧ 8 + (9 + 11) + 60 ≤ R.locals) : CallW R s args R_law RX0 31 yX0_send cX0_send 9 (some .int) (ws_ yX0_send cX0_send 9 (some .int)) r2 0 0 4 := cwV 4 hts (lw_V q102 q103 q104 q12 q105) rfl rfl rfl (by decide +kernel) hR
theorem kLX0_receive (hts : ∀ w ∈ lw_all, w.before args s = true) (hR : 2 + 1 ≤ R.frames ∧ 8 + (7 + 11) + 60 ≤ R.locals) : CallW R s args R_law RX0 36 yX0_receive cX0_receive 7 (some .int) (ws_ yX0_receive cX0_receive 7 (some .int)) r2 0 0 3 := cwV 3 hts (lw_V q106 q107 q108 q12 q109) rfl rfl rfl (by decide +kernel) hR
theorem kLX0_drain (hts : ∀ w ∈ lw_all, w.before args s = true) (hR : 2 + 1 ≤ R.frames ∧ 8 + (6 + 11) + 60 ≤ R.locals) : CallW R s args R_law RX0 40 yX0_drain cX0_drain 6 (some .int) (ws_ yX0_drain cX0_drain 6 (some .int)) r2 0 0 1 := cwV 1 hts (lw_V q114 q115 q116 q12 q117) rfl rfl rfl (by decide +kernel) hR
theorem kLX0_snapshot (hts : ∀ w ∈ lw_all, w.before args s = true) (hR : 2 + 1 ≤ R.frames ∧ 8 + (3 + 11) + 60 ≤ R.locals) : CallW R s args R_law RX0 45 yX0_snapshot cX0_snapshot 3 (some .int) (ws_ yX0_snapshot cX0_snapshot 3 (some .int)) r2 0 0 1 := cwV 1 hts (lw_V q118 q119 q120 q12 q121) rfl rfl rfl (by decide +kernel) hR
theorem kLX0_rollBack (hts : ∀ w ∈ lw_all, w.before args s = true) (hR : 2 + 1 ≤ R.frames ∧ 8 + (3 + 11) + 60 ≤ R.locals) : CallW R s args R_law RX0 49 yX0_rollBack cX0_rollBack 3 (some .int) (ws_ yX0_rollBack cX0_rollBack 3 (some .int)) r2 0 0 1 := cwV 1 hts (lw_V q126 q127 q128 q12 q129) rfl rfl rfl (by decide +kernel) hR
theorem kLX0_exit (hts : ∀ w ∈ lw_all, w.before args s = true) (hR : 2 + 1 ≤ R.frames ∧ 8 + (3 + 11) + 60 ≤ R.locals) : CallW R s args R_law RX0 53 yX0_exit cX0_exit 3 (some .int) (ws_ yX0_exit cX0_exit 3 (some .int)) r2 0 0 1 := cwV 1 hts (lw_V q134 q135 q136 q12 q137) rfl rfl rfl (by decide +kernel) hR
theorem kLX0_read (hts : ∀ w ∈ lw_all, w.before args s = true) (hR : 2 + 1 ≤ R.frames ∧ 8 + (4 + 11) + 60 ≤ R.locals) : CallW R s args R_law RX0 57 yX0_read cX0_read 4 (some .int) (ws_ yX0_read cX0_read 4 (some .int)) r2 0 0 2 := cwV 2 hts (lw_V q138 q139 q140 q12 q141) rfl rfl rfl (by decide +kernel) hR
theorem kLX0_mapped (hts : ∀ w ∈ lw_all, w.before args s = true) (hR : 2 + 1 ≤ R.frames ∧ 8 + (3 + 11) + 60 ≤ R.locals) : CallW R s args R_law RX0 61 yX0_mapped cX0_mapped 3 (some .boolean) (ws_ yX0_mapped cX0_mapped 3 (some .boolean)) r2 0 0 2 := cwV 2 hts (lw_V q142 q143 q144 q12 q145) rfl rfl rfl (by decide +kernel) hR
theorem kLX0_lastWord (hts : ∀ w ∈ lw_all, w.before args s = true) (hR : 2 + 1 ≤ R.frames ∧ 8 + (2 + 11) + 60 ≤ R.locals) : CallW R s args R_law RX0 66 yX0_lastWord cX0_lastWord 2 (some .int) (ws_ yX0_lastWord cX0_lastWord 2 (some .int)) r2 0 0 1 := cwV 1 hts (lw_V q146 q147 q148 q12 q149) rfl rfl rfl (by decide +kernel) hR
theorem kLX0_waiting (hts : ∀ w ∈ lw_all, w.before args s = true) (hR : 2 + 1 ≤ R.frames ∧ 8 + (2 + 11) + 60 ≤ R.locals) : CallW R s args R_law RX0 70 yX0_waiting cX0_waiting 2 (some .int) (ws_ yX0_waiting cX0_waiting 2 (some .int)) r2 0 0 1 := cwV 1 hts (lw_V q150 q151 q152 q12 q153) rfl rfl rfl (by decide +kernel) hR
theorem kLX1_map (hts : ∀ w ∈ lw_all, w.before args s = true) (hR : 2 + 1 ≤ R.frames ∧ 8 + (4 + 11) + 60 ≤ R.locals) : CallW R s args R_law RX1 17 yX1_map cX1_map 4 (some .int) (ws_ yX1_map cX1_map 4 (some .int)) r2 0 0 2 := cwV 2 hts (lw_V q191 q192 q193 q13 q194) rfl rfl rfl (by decide +kernel) hR
theorem kLX1_unmap (hts : ∀ w ∈ lw_all, w.before args s = true) (hR : 2 + 1 ≤ R.frames ∧ 8 + (3 + 11) + 60 ≤ R.locals) : CallW R s args R_law RX1 21 yX1_unmap cX1_unmap 3 (some .int) (ws_ yX1_unmap cX1_unmap 3 (some .int)) r2 0 0 2 := cwV 2 hts (lw_V q207 q208 q209 q13 q210) rfl rfl rfl (by decide +kernel) hR
theorem kLX1_write (hts : ∀ w ∈ lw_all, w.before args s = true) (hR : 2 + 1 ≤ R.frames ∧ 8 + (4 + 11) + 60 ≤ R.locals) : CallW R s args R_law RX1 26 yX1_write cX1_write 4 (some .int) (ws_ yX1_write cX1_write 4 (some .int)) r2 0 0 3 := cwV 3 hts (lw_V q211 q212 q213 q13 q214) rfl rfl rfl (by decide +kernel) hR
theorem kLX1_copy (hts : ∀ w ∈ lw_all, w.before args s = true) (hR : 2 + 1 ≤ R.frames ∧ 8 + (5 + 11) + 60 ≤ R.locals) : CallW R s args R_law RX1 30 yX1_copy cX1_copy 5 (some .int) (ws_ yX1_copy cX1_copy 5 (some .int)) r2 0 0 3 := cwV 3 hts (lw_V q215 q216 q217 q13 q218) rfl rfl rfl (by decide +kernel) hR
theorem kLX1_send (hts : ∀ w ∈ lw_all, w.before args s = true) (hR : 2 + 1 ≤ R.frames ∧ 8 + (10 + 11) + 60 ≤ R.locals) : CallW R s args R_law RX1 35 yX1_send cX1_send 10 (some .int) (ws_ yX1_send cX1_send 10 (some .int)) r2 0 0 4 := cwV 4 hts (lw_V q219 q220 q221 q13 q222) rfl rfl rfl (by decide +kernel) hR
theorem kLX1_receive (hts : ∀ w ∈ lw_all, w.before args s = true) (hR : 2 + 1 ≤ R.frames ∧ 8 + (7 + 11) + 60 ≤ R.locals) : CallW R s args R_law RX1 39 yX1_receive cX1_receive 7 (some .int) (ws_ yX1_receive cX1_receive 7 (some .int)) r2 0 0 3 := cwV 3 hts (lw_V q223 q224 q225 q13 q226) rfl rfl rfl (by decide +kernel) hR
theorem kLX1_drain (hts : ∀ w ∈ lw_all, w.before args s = true) (hR : 2 + 1 ≤ R.frames ∧ 8 + (3 + 11) + 60 ≤ R.locals) : CallW R s args R_law RX1 44 yX1_drain cX1_drain 3 (some .int) (ws_ yX1_drain cX1_drain 3 (some .int)) r2 0 0 1 := cwV 1 hts (lw_V q231 q232 q233 q13 q234) rfl rfl rfl (by decide +kernel) hR
theorem kLX1_snapshot (hts : ∀ w ∈ lw_all, w.before args s = true) (hR : 2 + 1 ≤ R.frames ∧ 8 + (3 + 11) + 60 ≤ R.locals) : CallW R s args R_law RX1 48 yX1_snapshot cX1_snapshot 3 (some .int) (ws_ yX1_snapshot cX1_snapshot 3 (some .int)) r2 0 0 1 := cwV 1 hts (lw_V q235 q236 q237 q13 q238) rfl rfl rfl (by decide +kernel) hR
theorem kLX1_rollBack (hts : ∀ w ∈ lw_all, w.before args s = true) (hR : 2 + 1 ≤ R.frames ∧ 8 + (3 + 11) + 60 ≤ R.locals) : CallW R s args R_law RX1 52 yX1_rollBack cX1_rollBack 3 (some .int) (ws_ yX1_rollBack cX1_rollBack 3 (some .int)) r2 0 0 1 := cwV 1 hts (lw_V q239 q240 q241 q13 q242) rfl rfl rfl (by decide +kernel) hR
theorem kLX1_exit (hts : ∀ w ∈ lw_all, w.before args s = true) (hR : 2 + 1 ≤ R.frames ∧ 8 + (4 + 11) + 60 ≤ R.locals) : CallW R s args R_law RX1 56 yX1_exit cX1_exit 4 (some .int) (ws_ yX1_exit cX1_exit 4 (some .int)) r2 0 0 1 := cwV 1 hts (lw_V q243 q244 q245 q13 q246) rfl rfl rfl (by decide +kernel) hR
theorem kLX1_read (hts : ∀ w ∈ lw_all, w.before args s = true) (hR : 2 + 1 ≤ R.frames ∧ 8 + (3 + 11) + 60 ≤ R.locals) : CallW R s args R_law RX1 60 yX1_read cX1_read 3 (some .int) (ws_ yX1_read cX1_read 3 (some .int)) r2 0 0 2 := cwV 2 hts (lw_V q247 q248 q249 q13 q250) rfl rfl rfl (by decide +kernel) hR
theorem kLX1_mapped (hts : ∀ w ∈ lw_all, w.before args s = true) (hR : 2 + 1 ≤ R.frames ∧ 8 + (3 + 11) + 60 ≤ R.locals) : CallW R s args R_law RX1 65 yX1_mapped cX1_mapped 3 (some .boolean) (ws_ yX1_mapped cX1_mapped 3 (some .boolean)) r2 0 0 2 := cwV 2 hts (lw_V q251 q252 q253 q13 q254) rfl rfl rfl (by decide +kernel) hR
theorem kLX1_lastWord (hts : ∀ w ∈ lw_all, w.before args s = true) (hR : 2 + 1 ≤ R.frames ∧ 8 + (2 + 11) + 60 ≤ R.locals) : CallW R s args R_law RX1 69 yX1_lastWord cX1_lastWord 2 (some .int) (ws_ yX1_lastWord cX1_lastWord 2 (some .int)) r2 0 0 1 := cwV 1 hts (lw_V q255 q256 q257 q13 q258) rfl rfl rfl (by decide +kernel) hR
theorem kLX1_waiting (hts : ∀ w ∈ lw_all, w.before args s = true) (hR : 2 + 1 ≤ R.frames ∧ 8 + (2 + 11) + 60 ≤ R.locals) : CallW R s args R_law RX1 73 yX1_waiting cX1_waiting 2 (some .int) (ws_ yX1_waiting cX1_waiting 2 (some .int)) r2 0 0 1 := cwV 1 hts (lw_V q259 q260 q261 q13 q262) rfl rfl rfl (by decide +kernel) hR
end KL
set_option maxHeartbeats 4000000 in
set_option maxRecDepth 100000 in
theorem law_loop {p : Program} {l : Launch} {e : Env} {s : State} {m : MethodId} {below : List Frame} {meth : Method} {c : Code} {D : va_G} {ad bd : Nat → Nat} {cI cZ : ClassId} {b L : Nat} {xs : Nat → Int32} (hL : L ≤ 320) (C0 : lw_At p s m meth c b L xs) (hK : va_K D vCl (tIZ cI cZ) s) :
    ∀ (n i : Nat) (u : XS) (v : MS) (H : Heap) (locs : List Loc) (ls : Array Slot), i ≤ 320 → 321 ≤ i + n → RRt u v → va_P D vCl (wXt ad cI cZ u ++ wMt bd cI cZ v) H → va_D (fun q : Nat => s.heap.size ≤ q) (wXt ad cI cZ u ++ wMt bd cI cZ v) → va_S (fun q : Nat => s.heap.size ≤ q) s.heap H locs → lv_has ls 4 [(0, .ref b), (1, .ref (ad 0)), (2, .ref (bd 0)), (3, .int (nI i))] → W p l e room_1 s m #[Value.ref b] below meth c H locs 24 983 (lw_Z below #[Value.ref b] s) (F0 m 18 ls []) := by
  obtain ⟨hx, hb, hr, hml, hown, hts0, hX, hbl, hlocks, hgv⟩ := C0
  have hts : ∀ w ∈ lw_all, w.before #[Value.ref b] s = true := fun w h => hts0 w (lw_all_tbl h)
  have hA : ∀ q : Nat, s.heap.size ≤ q → (fun q : Nat => s.heap.size ≤ q) q := fun _ h => h
  have hbA : ¬ (fun q : Nat => s.heap.size ≤ q) b := Nat.not_le.mpr hbl
  intro n
  induction n with
  | zero => intro i u v H locs ls hi hn; exact absurd hn (by omega)
  | succ n ih =>
    intro i u v H locs ls hi hn hR hP hD hS hl
    refine lv_iload_n hx hb dL_law_18 rfl (lv_at hl 3 rfl) ?_
    refine lv_aload_n hx hb dL_law_19 rfl (lv_at hl 0 rfl) ?_
    refine va_slen hx hb hX hbl hbA hS dL_law_20 ?_
    refine lv_iconst (v := 5) hx hb dL_law_21 (by decide) ?_
    refine lv_isub hx hb dL_law_22 ?_
    refine lv_icmp_gt (tgt := 562) hx hb dL_law_23 (by decide) (fun h23 => ?_) (fun h23 => ?_)
    · refine lv_iconst (v := 1) hx hb dL_law_562 (by decide) ?_
      refine va_forget (fun q hq => hS.2.2 q hq) ?_
      refine W.widen (k := 600000) (n := 7290000) (Nat.le_of_ble_eq_true rfl) (Nat.le_of_ble_eq_true rfl) ?_
      exact lw_ret hx hb hr hlocks dL_law_563
    · have h5 : i + 5 ≤ L := law_le hL hi h23
      have hstep : ∀ (u : XS) (v : MS) (H : Heap) (locs : List Loc), RRt u v → va_P D vCl (wXt ad cI cZ u ++ wMt bd cI cZ v) H → va_D (fun q : Nat => s.heap.size ≤ q) (wXt ad cI cZ u ++ wMt bd cI cZ v) → va_S (fun q : Nat => s.heap.size ≤ q) s.heap H locs → W p l e room_1 s m #[Value.ref b] below meth c H locs 24 983 (lw_Z below #[Value.ref b] s) (F0 m 556 ls []) := by
        intro u v H locs hR hP hD hS
        refine lv_iinc (v := nI (i + 5)) (lv' := [(3, .int (nI (i + 5))), (0, .ref b), (1, .ref (ad 0)), (2, .ref (bd 0))]) hx hb dL_law_556 hl (k := 3) rfl (nI_add i 5) (by decide) rfl (fun ls hl => ?_)
        refine lv_goto (tgt := 18) hx hb dL_law_559 (by decide) ?_
        exact ih (i + 5) u v H locs ls (by omega) (by omega) hR hP hD hS (lv_sub hl [1, 2, 3, 0] rfl)
      refine lv_aload_n hx hb dL_law_26 rfl (lv_at hl 0 rfl) ?_
      refine lv_iload_n hx hb dL_law_27 rfl (lv_at hl 3 rfl) ?_
      refine zs_ld hx hb hX hbl hbA hS (by omega) hL dL_law_28 ?_
      refine lv_bipush (v := 15) hx hb dL_law_29 (by decide) ?_
      obtain ⟨j, hj, ej⟩ := pk_andE (xs i) (m := 15) 4 (by decide)
      refine zv_and (v := nI j) hx hb dL_law_31 ej ?_
      have hj : j = 0 ∨ j = 1 ∨ j = 2 ∨ j = 3 ∨ j = 4 ∨ j = 5 ∨ j = 6 ∨ j = 7 ∨ j = 8 ∨ j = 9 ∨ j = 10 ∨ j = 11 ∨ j = 12 ∨ j = 13 ∨ j = 14 ∨ j = 15 := by omega
      rcases hj with rfl | rfl | rfl | rfl | rfl | rfl | rfl | rfl | rfl | rfl | rfl | rfl | rfl | rfl | rfl | rfl
      · refine lv_tableIn (off := 72) (tgt := 104) hx hb dL_law_32 (by decide) (by decide) (by decide) (by decide) ?_
        refine lv_aload_n hx hb dL_law_104 rfl (lv_at hl 1 rfl) ?_
        refine lv_aload_n hx hb dL_law_105 rfl (lv_at hl 0 rfl) ?_
        refine lv_iload_n hx hb dL_law_106 rfl (lv_at hl 3 rfl) ?_
        refine lv_iconst (v := nI 1) hx hb dL_law_107 (by decide) ?_
        refine zi_add hx hb dL_law_108 ?_
        refine zs_ld hx hb hX hbl hbA hS (by omega) hL dL_law_109 ?_
        refine lv_aload_n hx hb dL_law_110 rfl (lv_at hl 0 rfl) ?_
        refine lv_iload_n hx hb dL_law_111 rfl (lv_at hl 3 rfl) ?_
        refine lv_iconst (v := nI 2) hx hb dL_law_112 (by decide) ?_
        refine zi_add hx hb dL_law_113 ?_
        refine zs_ld hx hb hX hbl hbA hS (by omega) hL dL_law_114 ?_
        refine zj_i (ci := 0) (q0 := 0) (wc := (wXt ad cI cZ u)) (wr := (wMt bd cI cZ v)) ⟨hx, hb, hml, hown, hts⟩ hK hP hD hS hA [0, 1, 2, 3, 4, 5, 6, 7, 8, 9, 10, 11, 12] [13, 14, 15, 16, 17, 18, 19, 20, 21, 22, 23] rfl rfl (by decide) (by decide) (by decide) rfl (cX_map u v hR (xs (i + 1)) (xs (i + 2))) (kLX0_map hts ⟨by decide, by decide⟩) rfl rfl rfl rfl hl.1 rfl (Nat.le_of_ble_eq_true rfl) dL_law_115 ⟨Nat.le_of_ble_eq_true rfl, Nat.le_of_ble_eq_true rfl⟩ (fun r u1 H locs hw hP hD hS => ?_)
        refine lv_aload_n hx hb dL_law_118 rfl (lv_at hl 2 rfl) ?_
        refine lv_aload_n hx hb dL_law_119 rfl (lv_at hl 0 rfl) ?_
        refine lv_iload_n hx hb dL_law_120 rfl (lv_at hl 3 rfl) ?_
        refine lv_iconst (v := nI 1) hx hb dL_law_121 (by decide) ?_
        refine zi_add hx hb dL_law_122 ?_
        refine zs_ld hx hb hX hbl hbA hS (by omega) hL dL_law_123 ?_
        refine lv_aload_n hx hb dL_law_124 rfl (lv_at hl 0 rfl) ?_
        refine lv_iload_n hx hb dL_law_125 rfl (lv_at hl 3 rfl) ?_
        refine lv_iconst (v := nI 2) hx hb dL_law_126 (by decide) ?_
        refine zi_add hx hb dL_law_127 ?_
        refine zs_ld hx hb hX hbl hbA hS (by omega) hL dL_law_128 ?_
        refine zj_i (ci := 1) (q0 := 0) (wc := (wMt bd cI cZ v)) (wr := (wXt ad cI cZ u1)) ⟨hx, hb, hml, hown, hts⟩ hK hP hD hS hA [0, 1, 2, 3, 4, 5, 6, 7, 8, 9, 10] [11, 12, 13, 14, 15, 16, 17, 18, 19, 20, 21, 22, 23] rfl rfl (by decide) (by decide) (by decide) rfl (cM_map v (xs (i + 1)) (xs (i + 2))) (kLX1_map hts ⟨by decide, by decide⟩) rfl rfl rfl rfl hl.1 rfl (Nat.le_of_ble_eq_true rfl) dL_law_129 ⟨Nat.le_of_ble_eq_true rfl, Nat.le_of_ble_eq_true rfl⟩ (fun r2 v1 H locs hw2 hP hD hS => ?_)
        refine lv_icmp_eq (tgt := 556) hx hb dL_law_132 (by decide) (fun _ => ?_) (fun h9 => absurd (hw.1.trans hw2.1.symm) h9)
        obtain ⟨-, ev⟩ := hw2
        subst ev
        exact hstep u1 _ H locs hw.2 hP hD hS
      · refine lv_tableIn (off := 105) (tgt := 137) hx hb dL_law_32 (by decide) (by decide) (by decide) (by decide) ?_
        refine lv_aload_n hx hb dL_law_137 rfl (lv_at hl 1 rfl) ?_
        refine lv_aload_n hx hb dL_law_138 rfl (lv_at hl 0 rfl) ?_
        refine lv_iload_n hx hb dL_law_139 rfl (lv_at hl 3 rfl) ?_
        refine lv_iconst (v := nI 1) hx hb dL_law_140 (by decide) ?_
        refine zi_add hx hb dL_law_141 ?_
        refine zs_ld hx hb hX hbl hbA hS (by omega) hL dL_law_142 ?_
        refine lv_aload_n hx hb dL_law_143 rfl (lv_at hl 0 rfl) ?_
        refine lv_iload_n hx hb dL_law_144 rfl (lv_at hl 3 rfl) ?_
        refine lv_iconst (v := nI 2) hx hb dL_law_145 (by decide) ?_
        refine zi_add hx hb dL_law_146 ?_
        refine zs_ld hx hb hX hbl hbA hS (by omega) hL dL_law_147 ?_
        refine zj_i (ci := 0) (q0 := 0) (wc := (wXt ad cI cZ u)) (wr := (wMt bd cI cZ v)) ⟨hx, hb, hml, hown, hts⟩ hK hP hD hS hA [0, 1, 2, 3, 4, 5, 6, 7, 8, 9, 10, 11, 12] [13, 14, 15, 16, 17, 18, 19, 20, 21, 22, 23] rfl rfl (by decide) (by decide) (by decide) rfl (cX_unmap u v hR (xs (i + 1)) (xs (i + 2))) (kLX0_unmap hts ⟨by decide, by decide⟩) rfl rfl rfl rfl hl.1 rfl (Nat.le_of_ble_eq_true rfl) dL_law_148 ⟨Nat.le_of_ble_eq_true rfl, Nat.le_of_ble_eq_true rfl⟩ (fun r u1 H locs hw hP hD hS => ?_)
        refine lv_aload_n hx hb dL_law_151 rfl (lv_at hl 2 rfl) ?_
        refine lv_aload_n hx hb dL_law_152 rfl (lv_at hl 0 rfl) ?_
        refine lv_iload_n hx hb dL_law_153 rfl (lv_at hl 3 rfl) ?_
        refine lv_iconst (v := nI 1) hx hb dL_law_154 (by decide) ?_
        refine zi_add hx hb dL_law_155 ?_
        refine zs_ld hx hb hX hbl hbA hS (by omega) hL dL_law_156 ?_
        refine lv_aload_n hx hb dL_law_157 rfl (lv_at hl 0 rfl) ?_
        refine lv_iload_n hx hb dL_law_158 rfl (lv_at hl 3 rfl) ?_
        refine lv_iconst (v := nI 2) hx hb dL_law_159 (by decide) ?_
        refine zi_add hx hb dL_law_160 ?_
        refine zs_ld hx hb hX hbl hbA hS (by omega) hL dL_law_161 ?_
        refine zj_i (ci := 1) (q0 := 0) (wc := (wMt bd cI cZ v)) (wr := (wXt ad cI cZ u1)) ⟨hx, hb, hml, hown, hts⟩ hK hP hD hS hA [0, 1, 2, 3, 4, 5, 6, 7, 8, 9, 10] [11, 12, 13, 14, 15, 16, 17, 18, 19, 20, 21, 22, 23] rfl rfl (by decide) (by decide) (by decide) rfl (cM_unmap v (xs (i + 1)) (xs (i + 2))) (kLX1_unmap hts ⟨by decide, by decide⟩) rfl rfl rfl rfl hl.1 rfl (Nat.le_of_ble_eq_true rfl) dL_law_162 ⟨Nat.le_of_ble_eq_true rfl, Nat.le_of_ble_eq_true rfl⟩ (fun r2 v1 H locs hw2 hP hD hS => ?_)
        refine lv_icmp_eq (tgt := 556) hx hb dL_law_165 (by decide) (fun _ => ?_) (fun h9 => absurd (hw.1.trans hw2.1.symm) h9)
        obtain ⟨-, ev⟩ := hw2
        subst ev
        exact hstep u1 _ H locs hw.2 hP hD hS
      · refine lv_tableIn (off := 138) (tgt := 170) hx hb dL_law_32 (by decide) (by decide) (by decide) (by decide) ?_
        refine lv_aload_n hx hb dL_law_170 rfl (lv_at hl 1 rfl) ?_
        refine lv_aload_n hx hb dL_law_171 rfl (lv_at hl 0 rfl) ?_
        refine lv_iload_n hx hb dL_law_172 rfl (lv_at hl 3 rfl) ?_
        refine lv_iconst (v := nI 1) hx hb dL_law_173 (by decide) ?_
        refine zi_add hx hb dL_law_174 ?_
        refine zs_ld hx hb hX hbl hbA hS (by omega) hL dL_law_175 ?_
        refine lv_aload_n hx hb dL_law_176 rfl (lv_at hl 0 rfl) ?_
        refine lv_iload_n hx hb dL_law_177 rfl (lv_at hl 3 rfl) ?_
        refine lv_iconst (v := nI 2) hx hb dL_law_178 (by decide) ?_
        refine zi_add hx hb dL_law_179 ?_
        refine zs_ld hx hb hX hbl hbA hS (by omega) hL dL_law_180 ?_
        refine lv_aload_n hx hb dL_law_181 rfl (lv_at hl 0 rfl) ?_
        refine lv_iload_n hx hb dL_law_182 rfl (lv_at hl 3 rfl) ?_
        refine lv_iconst (v := nI 3) hx hb dL_law_183 (by decide) ?_
        refine zi_add hx hb dL_law_184 ?_
        refine zs_ld hx hb hX hbl hbA hS (by omega) hL dL_law_185 ?_
        refine zj_i (ci := 0) (q0 := 0) (wc := (wXt ad cI cZ u)) (wr := (wMt bd cI cZ v)) ⟨hx, hb, hml, hown, hts⟩ hK hP hD hS hA [0, 1, 2, 3, 4, 5, 6, 7, 8, 9, 10, 11, 12] [13, 14, 15, 16, 17, 18, 19, 20, 21, 22, 23] rfl rfl (by decide) (by decide) (by decide) rfl (cX_write u v hR (xs (i + 1)) (xs (i + 2)) (xs (i + 3))) (kLX0_write hts ⟨by decide, by decide⟩) rfl rfl rfl rfl hl.1 rfl (Nat.le_of_ble_eq_true rfl) dL_law_186 ⟨Nat.le_of_ble_eq_true rfl, Nat.le_of_ble_eq_true rfl⟩ (fun r u1 H locs hw hP hD hS => ?_)
        refine lv_aload_n hx hb dL_law_189 rfl (lv_at hl 2 rfl) ?_
        refine lv_aload_n hx hb dL_law_190 rfl (lv_at hl 0 rfl) ?_
        refine lv_iload_n hx hb dL_law_191 rfl (lv_at hl 3 rfl) ?_
        refine lv_iconst (v := nI 1) hx hb dL_law_192 (by decide) ?_
        refine zi_add hx hb dL_law_193 ?_
        refine zs_ld hx hb hX hbl hbA hS (by omega) hL dL_law_194 ?_
        refine lv_aload_n hx hb dL_law_195 rfl (lv_at hl 0 rfl) ?_
        refine lv_iload_n hx hb dL_law_196 rfl (lv_at hl 3 rfl) ?_
        refine lv_iconst (v := nI 2) hx hb dL_law_197 (by decide) ?_
        refine zi_add hx hb dL_law_198 ?_
        refine zs_ld hx hb hX hbl hbA hS (by omega) hL dL_law_199 ?_
        refine lv_aload_n hx hb dL_law_200 rfl (lv_at hl 0 rfl) ?_
        refine lv_iload_n hx hb dL_law_201 rfl (lv_at hl 3 rfl) ?_
        refine lv_iconst (v := nI 3) hx hb dL_law_202 (by decide) ?_
        refine zi_add hx hb dL_law_203 ?_
        refine zs_ld hx hb hX hbl hbA hS (by omega) hL dL_law_204 ?_
        refine zj_i (ci := 1) (q0 := 0) (wc := (wMt bd cI cZ v)) (wr := (wXt ad cI cZ u1)) ⟨hx, hb, hml, hown, hts⟩ hK hP hD hS hA [0, 1, 2, 3, 4, 5, 6, 7, 8, 9, 10] [11, 12, 13, 14, 15, 16, 17, 18, 19, 20, 21, 22, 23] rfl rfl (by decide) (by decide) (by decide) rfl (cM_write v (xs (i + 1)) (xs (i + 2)) (xs (i + 3))) (kLX1_write hts ⟨by decide, by decide⟩) rfl rfl rfl rfl hl.1 rfl (Nat.le_of_ble_eq_true rfl) dL_law_205 ⟨Nat.le_of_ble_eq_true rfl, Nat.le_of_ble_eq_true rfl⟩ (fun r2 v1 H locs hw2 hP hD hS => ?_)
        refine lv_icmp_eq (tgt := 556) hx hb dL_law_208 (by decide) (fun _ => ?_) (fun h9 => absurd (hw.1.trans hw2.1.symm) h9)
        obtain ⟨-, ev⟩ := hw2
        subst ev
        exact hstep u1 _ H locs hw.2 hP hD hS
      · refine lv_tableIn (off := 181) (tgt := 213) hx hb dL_law_32 (by decide) (by decide) (by decide) (by decide) ?_
        refine lv_aload_n hx hb dL_law_213 rfl (lv_at hl 1 rfl) ?_
        refine lv_aload_n hx hb dL_law_214 rfl (lv_at hl 0 rfl) ?_
        refine lv_iload_n hx hb dL_law_215 rfl (lv_at hl 3 rfl) ?_
        refine lv_iconst (v := nI 1) hx hb dL_law_216 (by decide) ?_
        refine zi_add hx hb dL_law_217 ?_
        refine zs_ld hx hb hX hbl hbA hS (by omega) hL dL_law_218 ?_
        refine lv_aload_n hx hb dL_law_219 rfl (lv_at hl 0 rfl) ?_
        refine lv_iload_n hx hb dL_law_220 rfl (lv_at hl 3 rfl) ?_
        refine lv_iconst (v := nI 2) hx hb dL_law_221 (by decide) ?_
        refine zi_add hx hb dL_law_222 ?_
        refine zs_ld hx hb hX hbl hbA hS (by omega) hL dL_law_223 ?_
        refine lv_aload_n hx hb dL_law_224 rfl (lv_at hl 0 rfl) ?_
        refine lv_iload_n hx hb dL_law_225 rfl (lv_at hl 3 rfl) ?_
        refine lv_iconst (v := nI 3) hx hb dL_law_226 (by decide) ?_
        refine zi_add hx hb dL_law_227 ?_
        refine zs_ld hx hb hX hbl hbA hS (by omega) hL dL_law_228 ?_
        refine zj_i (ci := 0) (q0 := 0) (wc := (wXt ad cI cZ u)) (wr := (wMt bd cI cZ v)) ⟨hx, hb, hml, hown, hts⟩ hK hP hD hS hA [0, 1, 2, 3, 4, 5, 6, 7, 8, 9, 10, 11, 12] [13, 14, 15, 16, 17, 18, 19, 20, 21, 22, 23] rfl rfl (by decide) (by decide) (by decide) rfl (cX_copy u v hR (xs (i + 1)) (xs (i + 2)) (xs (i + 3))) (kLX0_copy hts ⟨by decide, by decide⟩) rfl rfl rfl rfl hl.1 rfl (Nat.le_of_ble_eq_true rfl) dL_law_229 ⟨Nat.le_of_ble_eq_true rfl, Nat.le_of_ble_eq_true rfl⟩ (fun r u1 H locs hw hP hD hS => ?_)
        refine lv_aload_n hx hb dL_law_232 rfl (lv_at hl 2 rfl) ?_
        refine lv_aload_n hx hb dL_law_233 rfl (lv_at hl 0 rfl) ?_
        refine lv_iload_n hx hb dL_law_234 rfl (lv_at hl 3 rfl) ?_
        refine lv_iconst (v := nI 1) hx hb dL_law_235 (by decide) ?_
        refine zi_add hx hb dL_law_236 ?_
        refine zs_ld hx hb hX hbl hbA hS (by omega) hL dL_law_237 ?_
        refine lv_aload_n hx hb dL_law_238 rfl (lv_at hl 0 rfl) ?_
        refine lv_iload_n hx hb dL_law_239 rfl (lv_at hl 3 rfl) ?_
        refine lv_iconst (v := nI 2) hx hb dL_law_240 (by decide) ?_
        refine zi_add hx hb dL_law_241 ?_
        refine zs_ld hx hb hX hbl hbA hS (by omega) hL dL_law_242 ?_
        refine lv_aload_n hx hb dL_law_243 rfl (lv_at hl 0 rfl) ?_
        refine lv_iload_n hx hb dL_law_244 rfl (lv_at hl 3 rfl) ?_
        refine lv_iconst (v := nI 3) hx hb dL_law_245 (by decide) ?_
        refine zi_add hx hb dL_law_246 ?_
        refine zs_ld hx hb hX hbl hbA hS (by omega) hL dL_law_247 ?_
        refine zj_i (ci := 1) (q0 := 0) (wc := (wMt bd cI cZ v)) (wr := (wXt ad cI cZ u1)) ⟨hx, hb, hml, hown, hts⟩ hK hP hD hS hA [0, 1, 2, 3, 4, 5, 6, 7, 8, 9, 10] [11, 12, 13, 14, 15, 16, 17, 18, 19, 20, 21, 22, 23] rfl rfl (by decide) (by decide) (by decide) rfl (cM_copy v (xs (i + 1)) (xs (i + 2)) (xs (i + 3))) (kLX1_copy hts ⟨by decide, by decide⟩) rfl rfl rfl rfl hl.1 rfl (Nat.le_of_ble_eq_true rfl) dL_law_248 ⟨Nat.le_of_ble_eq_true rfl, Nat.le_of_ble_eq_true rfl⟩ (fun r2 v1 H locs hw2 hP hD hS => ?_)
        refine lv_icmp_eq (tgt := 556) hx hb dL_law_251 (by decide) (fun _ => ?_) (fun h9 => absurd (hw.1.trans hw2.1.symm) h9)
        obtain ⟨-, ev⟩ := hw2
        subst ev
        exact hstep u1 _ H locs hw.2 hP hD hS
      · refine lv_tableIn (off := 224) (tgt := 256) hx hb dL_law_32 (by decide) (by decide) (by decide) (by decide) ?_
        refine lv_aload_n hx hb dL_law_256 rfl (lv_at hl 1 rfl) ?_
        refine lv_aload_n hx hb dL_law_257 rfl (lv_at hl 0 rfl) ?_
        refine lv_iload_n hx hb dL_law_258 rfl (lv_at hl 3 rfl) ?_
        refine lv_iconst (v := nI 1) hx hb dL_law_259 (by decide) ?_
        refine zi_add hx hb dL_law_260 ?_
        refine zs_ld hx hb hX hbl hbA hS (by omega) hL dL_law_261 ?_
        refine lv_aload_n hx hb dL_law_262 rfl (lv_at hl 0 rfl) ?_
        refine lv_iload_n hx hb dL_law_263 rfl (lv_at hl 3 rfl) ?_
        refine lv_iconst (v := nI 2) hx hb dL_law_264 (by decide) ?_
        refine zi_add hx hb dL_law_265 ?_
        refine zs_ld hx hb hX hbl hbA hS (by omega) hL dL_law_266 ?_
        refine lv_aload_n hx hb dL_law_267 rfl (lv_at hl 0 rfl) ?_
        refine lv_iload_n hx hb dL_law_268 rfl (lv_at hl 3 rfl) ?_
        refine lv_iconst (v := nI 3) hx hb dL_law_269 (by decide) ?_
        refine zi_add hx hb dL_law_270 ?_
        refine zs_ld hx hb hX hbl hbA hS (by omega) hL dL_law_271 ?_
        refine lv_aload_n hx hb dL_law_272 rfl (lv_at hl 0 rfl) ?_
        refine lv_iload_n hx hb dL_law_273 rfl (lv_at hl 3 rfl) ?_
        refine lv_iconst (v := nI 4) hx hb dL_law_274 (by decide) ?_
        refine zi_add hx hb dL_law_275 ?_
        refine zs_ld hx hb hX hbl hbA hS (by omega) hL dL_law_276 ?_
        refine zj_i (ci := 0) (q0 := 0) (wc := (wXt ad cI cZ u)) (wr := (wMt bd cI cZ v)) ⟨hx, hb, hml, hown, hts⟩ hK hP hD hS hA [0, 1, 2, 3, 4, 5, 6, 7, 8, 9, 10, 11, 12] [13, 14, 15, 16, 17, 18, 19, 20, 21, 22, 23] rfl rfl (by decide) (by decide) (by decide) rfl (cX_send u v hR (xs (i + 1)) (xs (i + 2)) (xs (i + 3)) (xs (i + 4))) (kLX0_send hts ⟨by decide, by decide⟩) rfl rfl rfl rfl hl.1 rfl (Nat.le_of_ble_eq_true rfl) dL_law_277 ⟨Nat.le_of_ble_eq_true rfl, Nat.le_of_ble_eq_true rfl⟩ (fun r u1 H locs hw hP hD hS => ?_)
        refine lv_aload_n hx hb dL_law_280 rfl (lv_at hl 2 rfl) ?_
        refine lv_aload_n hx hb dL_law_281 rfl (lv_at hl 0 rfl) ?_
        refine lv_iload_n hx hb dL_law_282 rfl (lv_at hl 3 rfl) ?_
        refine lv_iconst (v := nI 1) hx hb dL_law_283 (by decide) ?_
        refine zi_add hx hb dL_law_284 ?_
        refine zs_ld hx hb hX hbl hbA hS (by omega) hL dL_law_285 ?_
        refine lv_aload_n hx hb dL_law_286 rfl (lv_at hl 0 rfl) ?_
        refine lv_iload_n hx hb dL_law_287 rfl (lv_at hl 3 rfl) ?_
        refine lv_iconst (v := nI 2) hx hb dL_law_288 (by decide) ?_
        refine zi_add hx hb dL_law_289 ?_
        refine zs_ld hx hb hX hbl hbA hS (by omega) hL dL_law_290 ?_
        refine lv_aload_n hx hb dL_law_291 rfl (lv_at hl 0 rfl) ?_
        refine lv_iload_n hx hb dL_law_292 rfl (lv_at hl 3 rfl) ?_
        refine lv_iconst (v := nI 3) hx hb dL_law_293 (by decide) ?_
        refine zi_add hx hb dL_law_294 ?_
        refine zs_ld hx hb hX hbl hbA hS (by omega) hL dL_law_295 ?_
        refine lv_aload_n hx hb dL_law_296 rfl (lv_at hl 0 rfl) ?_
        refine lv_iload_n hx hb dL_law_297 rfl (lv_at hl 3 rfl) ?_
        refine lv_iconst (v := nI 4) hx hb dL_law_298 (by decide) ?_
        refine zi_add hx hb dL_law_299 ?_
        refine zs_ld hx hb hX hbl hbA hS (by omega) hL dL_law_300 ?_
        refine zj_i (ci := 1) (q0 := 0) (wc := (wMt bd cI cZ v)) (wr := (wXt ad cI cZ u1)) ⟨hx, hb, hml, hown, hts⟩ hK hP hD hS hA [0, 1, 2, 3, 4, 5, 6, 7, 8, 9, 10] [11, 12, 13, 14, 15, 16, 17, 18, 19, 20, 21, 22, 23] rfl rfl (by decide) (by decide) (by decide) rfl (cM_send v (mok hR) (xs (i + 1)) (xs (i + 2)) (xs (i + 3)) (xs (i + 4))) (kLX1_send hts ⟨by decide, by decide⟩) rfl rfl rfl rfl hl.1 rfl (Nat.le_of_ble_eq_true rfl) dL_law_301 ⟨Nat.le_of_ble_eq_true rfl, Nat.le_of_ble_eq_true rfl⟩ (fun r2 v1 H locs hw2 hP hD hS => ?_)
        refine lv_icmp_eq (tgt := 556) hx hb dL_law_304 (by decide) (fun _ => ?_) (fun h9 => absurd (hw.1.trans hw2.1.symm) h9)
        obtain ⟨-, ev⟩ := hw2
        subst ev
        exact hstep u1 _ H locs hw.2 hP hD hS
      · refine lv_tableIn (off := 277) (tgt := 309) hx hb dL_law_32 (by decide) (by decide) (by decide) (by decide) ?_
        refine lv_aload_n hx hb dL_law_309 rfl (lv_at hl 1 rfl) ?_
        refine lv_aload_n hx hb dL_law_310 rfl (lv_at hl 0 rfl) ?_
        refine lv_iload_n hx hb dL_law_311 rfl (lv_at hl 3 rfl) ?_
        refine lv_iconst (v := nI 1) hx hb dL_law_312 (by decide) ?_
        refine zi_add hx hb dL_law_313 ?_
        refine zs_ld hx hb hX hbl hbA hS (by omega) hL dL_law_314 ?_
        refine lv_aload_n hx hb dL_law_315 rfl (lv_at hl 0 rfl) ?_
        refine lv_iload_n hx hb dL_law_316 rfl (lv_at hl 3 rfl) ?_
        refine lv_iconst (v := nI 2) hx hb dL_law_317 (by decide) ?_
        refine zi_add hx hb dL_law_318 ?_
        refine zs_ld hx hb hX hbl hbA hS (by omega) hL dL_law_319 ?_
        refine lv_aload_n hx hb dL_law_320 rfl (lv_at hl 0 rfl) ?_
        refine lv_iload_n hx hb dL_law_321 rfl (lv_at hl 3 rfl) ?_
        refine lv_iconst (v := nI 3) hx hb dL_law_322 (by decide) ?_
        refine zi_add hx hb dL_law_323 ?_
        refine zs_ld hx hb hX hbl hbA hS (by omega) hL dL_law_324 ?_
        refine zj_i (ci := 0) (q0 := 0) (wc := (wXt ad cI cZ u)) (wr := (wMt bd cI cZ v)) ⟨hx, hb, hml, hown, hts⟩ hK hP hD hS hA [0, 1, 2, 3, 4, 5, 6, 7, 8, 9, 10, 11, 12] [13, 14, 15, 16, 17, 18, 19, 20, 21, 22, 23] rfl rfl (by decide) (by decide) (by decide) rfl (cX_receive u v hR (xs (i + 1)) (xs (i + 2)) (xs (i + 3))) (kLX0_receive hts ⟨by decide, by decide⟩) rfl rfl rfl rfl hl.1 rfl (Nat.le_of_ble_eq_true rfl) dL_law_325 ⟨Nat.le_of_ble_eq_true rfl, Nat.le_of_ble_eq_true rfl⟩ (fun r u1 H locs hw hP hD hS => ?_)
        refine lv_aload_n hx hb dL_law_328 rfl (lv_at hl 2 rfl) ?_
        refine lv_aload_n hx hb dL_law_329 rfl (lv_at hl 0 rfl) ?_
        refine lv_iload_n hx hb dL_law_330 rfl (lv_at hl 3 rfl) ?_
        refine lv_iconst (v := nI 1) hx hb dL_law_331 (by decide) ?_
        refine zi_add hx hb dL_law_332 ?_
        refine zs_ld hx hb hX hbl hbA hS (by omega) hL dL_law_333 ?_
        refine lv_aload_n hx hb dL_law_334 rfl (lv_at hl 0 rfl) ?_
        refine lv_iload_n hx hb dL_law_335 rfl (lv_at hl 3 rfl) ?_
        refine lv_iconst (v := nI 2) hx hb dL_law_336 (by decide) ?_
        refine zi_add hx hb dL_law_337 ?_
        refine zs_ld hx hb hX hbl hbA hS (by omega) hL dL_law_338 ?_
        refine lv_aload_n hx hb dL_law_339 rfl (lv_at hl 0 rfl) ?_
        refine lv_iload_n hx hb dL_law_340 rfl (lv_at hl 3 rfl) ?_
        refine lv_iconst (v := nI 3) hx hb dL_law_341 (by decide) ?_
        refine zi_add hx hb dL_law_342 ?_
        refine zs_ld hx hb hX hbl hbA hS (by omega) hL dL_law_343 ?_
        refine zj_i (ci := 1) (q0 := 0) (wc := (wMt bd cI cZ v)) (wr := (wXt ad cI cZ u1)) ⟨hx, hb, hml, hown, hts⟩ hK hP hD hS hA [0, 1, 2, 3, 4, 5, 6, 7, 8, 9, 10] [11, 12, 13, 14, 15, 16, 17, 18, 19, 20, 21, 22, 23] rfl rfl (by decide) (by decide) (by decide) rfl (cM_receive v (mok hR) (xs (i + 1)) (xs (i + 2)) (xs (i + 3))) (kLX1_receive hts ⟨by decide, by decide⟩) rfl rfl rfl rfl hl.1 rfl (Nat.le_of_ble_eq_true rfl) dL_law_344 ⟨Nat.le_of_ble_eq_true rfl, Nat.le_of_ble_eq_true rfl⟩ (fun r2 v1 H locs hw2 hP hD hS => ?_)
        refine lv_icmp_eq (tgt := 556) hx hb dL_law_347 (by decide) (fun _ => ?_) (fun h9 => absurd (hw.1.trans hw2.1.symm) h9)
        obtain ⟨-, ev⟩ := hw2
        subst ev
        exact hstep u1 _ H locs hw.2 hP hD hS
      · refine lv_tableIn (off := 320) (tgt := 352) hx hb dL_law_32 (by decide) (by decide) (by decide) (by decide) ?_
        refine lv_aload_n hx hb dL_law_352 rfl (lv_at hl 1 rfl) ?_
        refine lv_aload_n hx hb dL_law_353 rfl (lv_at hl 0 rfl) ?_
        refine lv_iload_n hx hb dL_law_354 rfl (lv_at hl 3 rfl) ?_
        refine lv_iconst (v := nI 1) hx hb dL_law_355 (by decide) ?_
        refine zi_add hx hb dL_law_356 ?_
        refine zs_ld hx hb hX hbl hbA hS (by omega) hL dL_law_357 ?_
        refine zj_i (ci := 0) (q0 := 0) (wc := (wXt ad cI cZ u)) (wr := (wMt bd cI cZ v)) ⟨hx, hb, hml, hown, hts⟩ hK hP hD hS hA [0, 1, 2, 3, 4, 5, 6, 7, 8, 9, 10, 11, 12] [13, 14, 15, 16, 17, 18, 19, 20, 21, 22, 23] rfl rfl (by decide) (by decide) (by decide) rfl (cX_drain u v hR (xs (i + 1))) (kLX0_drain hts ⟨by decide, by decide⟩) rfl rfl rfl rfl hl.1 rfl (Nat.le_of_ble_eq_true rfl) dL_law_358 ⟨Nat.le_of_ble_eq_true rfl, Nat.le_of_ble_eq_true rfl⟩ (fun r u1 H locs hw hP hD hS => ?_)
        refine lv_aload_n hx hb dL_law_361 rfl (lv_at hl 2 rfl) ?_
        refine lv_aload_n hx hb dL_law_362 rfl (lv_at hl 0 rfl) ?_
        refine lv_iload_n hx hb dL_law_363 rfl (lv_at hl 3 rfl) ?_
        refine lv_iconst (v := nI 1) hx hb dL_law_364 (by decide) ?_
        refine zi_add hx hb dL_law_365 ?_
        refine zs_ld hx hb hX hbl hbA hS (by omega) hL dL_law_366 ?_
        refine zj_i (ci := 1) (q0 := 0) (wc := (wMt bd cI cZ v)) (wr := (wXt ad cI cZ u1)) ⟨hx, hb, hml, hown, hts⟩ hK hP hD hS hA [0, 1, 2, 3, 4, 5, 6, 7, 8, 9, 10] [11, 12, 13, 14, 15, 16, 17, 18, 19, 20, 21, 22, 23] rfl rfl (by decide) (by decide) (by decide) rfl (cM_drain v (xs (i + 1))) (kLX1_drain hts ⟨by decide, by decide⟩) rfl rfl rfl rfl hl.1 rfl (Nat.le_of_ble_eq_true rfl) dL_law_367 ⟨Nat.le_of_ble_eq_true rfl, Nat.le_of_ble_eq_true rfl⟩ (fun r2 v1 H locs hw2 hP hD hS => ?_)
        refine lv_icmp_eq (tgt := 556) hx hb dL_law_370 (by decide) (fun _ => ?_) (fun h9 => absurd (hw.1.trans hw2.1.symm) h9)
        obtain ⟨-, ev⟩ := hw2
        subst ev
        exact hstep u1 _ H locs hw.2 hP hD hS
      · refine lv_tableIn (off := 343) (tgt := 375) hx hb dL_law_32 (by decide) (by decide) (by decide) (by decide) ?_
        refine lv_aload_n hx hb dL_law_375 rfl (lv_at hl 1 rfl) ?_
        refine lv_aload_n hx hb dL_law_376 rfl (lv_at hl 0 rfl) ?_
        refine lv_iload_n hx hb dL_law_377 rfl (lv_at hl 3 rfl) ?_
        refine lv_iconst (v := nI 1) hx hb dL_law_378 (by decide) ?_
        refine zi_add hx hb dL_law_379 ?_
        refine zs_ld hx hb hX hbl hbA hS (by omega) hL dL_law_380 ?_
        refine zj_i (ci := 0) (q0 := 0) (wc := (wXt ad cI cZ u)) (wr := (wMt bd cI cZ v)) ⟨hx, hb, hml, hown, hts⟩ hK hP hD hS hA [0, 1, 2, 3, 4, 5, 6, 7, 8, 9, 10, 11, 12] [13, 14, 15, 16, 17, 18, 19, 20, 21, 22, 23] rfl rfl (by decide) (by decide) (by decide) rfl (cX_snapshot u v hR (xs (i + 1))) (kLX0_snapshot hts ⟨by decide, by decide⟩) rfl rfl rfl rfl hl.1 rfl (Nat.le_of_ble_eq_true rfl) dL_law_381 ⟨Nat.le_of_ble_eq_true rfl, Nat.le_of_ble_eq_true rfl⟩ (fun r u1 H locs hw hP hD hS => ?_)
        refine lv_aload_n hx hb dL_law_384 rfl (lv_at hl 2 rfl) ?_
        refine lv_aload_n hx hb dL_law_385 rfl (lv_at hl 0 rfl) ?_
        refine lv_iload_n hx hb dL_law_386 rfl (lv_at hl 3 rfl) ?_
        refine lv_iconst (v := nI 1) hx hb dL_law_387 (by decide) ?_
        refine zi_add hx hb dL_law_388 ?_
        refine zs_ld hx hb hX hbl hbA hS (by omega) hL dL_law_389 ?_
        refine zj_i (ci := 1) (q0 := 0) (wc := (wMt bd cI cZ v)) (wr := (wXt ad cI cZ u1)) ⟨hx, hb, hml, hown, hts⟩ hK hP hD hS hA [0, 1, 2, 3, 4, 5, 6, 7, 8, 9, 10] [11, 12, 13, 14, 15, 16, 17, 18, 19, 20, 21, 22, 23] rfl rfl (by decide) (by decide) (by decide) rfl (cM_snapshot v (xs (i + 1))) (kLX1_snapshot hts ⟨by decide, by decide⟩) rfl rfl rfl rfl hl.1 rfl (Nat.le_of_ble_eq_true rfl) dL_law_390 ⟨Nat.le_of_ble_eq_true rfl, Nat.le_of_ble_eq_true rfl⟩ (fun r2 v1 H locs hw2 hP hD hS => ?_)
        refine lv_icmp_eq (tgt := 556) hx hb dL_law_393 (by decide) (fun _ => ?_) (fun h9 => absurd (hw.1.trans hw2.1.symm) h9)
        obtain ⟨-, ev⟩ := hw2
        subst ev
        exact hstep u1 _ H locs hw.2 hP hD hS
      · refine lv_tableIn (off := 366) (tgt := 398) hx hb dL_law_32 (by decide) (by decide) (by decide) (by decide) ?_
        refine lv_aload_n hx hb dL_law_398 rfl (lv_at hl 1 rfl) ?_
        refine lv_aload_n hx hb dL_law_399 rfl (lv_at hl 0 rfl) ?_
        refine lv_iload_n hx hb dL_law_400 rfl (lv_at hl 3 rfl) ?_
        refine lv_iconst (v := nI 1) hx hb dL_law_401 (by decide) ?_
        refine zi_add hx hb dL_law_402 ?_
        refine zs_ld hx hb hX hbl hbA hS (by omega) hL dL_law_403 ?_
        refine zj_i (ci := 0) (q0 := 0) (wc := (wXt ad cI cZ u)) (wr := (wMt bd cI cZ v)) ⟨hx, hb, hml, hown, hts⟩ hK hP hD hS hA [0, 1, 2, 3, 4, 5, 6, 7, 8, 9, 10, 11, 12] [13, 14, 15, 16, 17, 18, 19, 20, 21, 22, 23] rfl rfl (by decide) (by decide) (by decide) rfl (cX_rollBack u v hR (xs (i + 1))) (kLX0_rollBack hts ⟨by decide, by decide⟩) rfl rfl rfl rfl hl.1 rfl (Nat.le_of_ble_eq_true rfl) dL_law_404 ⟨Nat.le_of_ble_eq_true rfl, Nat.le_of_ble_eq_true rfl⟩ (fun r u1 H locs hw hP hD hS => ?_)
        refine lv_aload_n hx hb dL_law_407 rfl (lv_at hl 2 rfl) ?_
        refine lv_aload_n hx hb dL_law_408 rfl (lv_at hl 0 rfl) ?_
        refine lv_iload_n hx hb dL_law_409 rfl (lv_at hl 3 rfl) ?_
        refine lv_iconst (v := nI 1) hx hb dL_law_410 (by decide) ?_
        refine zi_add hx hb dL_law_411 ?_
        refine zs_ld hx hb hX hbl hbA hS (by omega) hL dL_law_412 ?_
        refine zj_i (ci := 1) (q0 := 0) (wc := (wMt bd cI cZ v)) (wr := (wXt ad cI cZ u1)) ⟨hx, hb, hml, hown, hts⟩ hK hP hD hS hA [0, 1, 2, 3, 4, 5, 6, 7, 8, 9, 10] [11, 12, 13, 14, 15, 16, 17, 18, 19, 20, 21, 22, 23] rfl rfl (by decide) (by decide) (by decide) rfl (cM_rollBack v (xs (i + 1))) (kLX1_rollBack hts ⟨by decide, by decide⟩) rfl rfl rfl rfl hl.1 rfl (Nat.le_of_ble_eq_true rfl) dL_law_413 ⟨Nat.le_of_ble_eq_true rfl, Nat.le_of_ble_eq_true rfl⟩ (fun r2 v1 H locs hw2 hP hD hS => ?_)
        refine lv_icmp_eq (tgt := 556) hx hb dL_law_416 (by decide) (fun _ => ?_) (fun h9 => absurd (hw.1.trans hw2.1.symm) h9)
        obtain ⟨-, ev⟩ := hw2
        subst ev
        exact hstep u1 _ H locs hw.2 hP hD hS
      · refine lv_tableIn (off := 389) (tgt := 421) hx hb dL_law_32 (by decide) (by decide) (by decide) (by decide) ?_
        refine lv_aload_n hx hb dL_law_421 rfl (lv_at hl 1 rfl) ?_
        refine lv_aload_n hx hb dL_law_422 rfl (lv_at hl 0 rfl) ?_
        refine lv_iload_n hx hb dL_law_423 rfl (lv_at hl 3 rfl) ?_
        refine lv_iconst (v := nI 1) hx hb dL_law_424 (by decide) ?_
        refine zi_add hx hb dL_law_425 ?_
        refine zs_ld hx hb hX hbl hbA hS (by omega) hL dL_law_426 ?_
        refine zj_i (ci := 0) (q0 := 0) (wc := (wXt ad cI cZ u)) (wr := (wMt bd cI cZ v)) ⟨hx, hb, hml, hown, hts⟩ hK hP hD hS hA [0, 1, 2, 3, 4, 5, 6, 7, 8, 9, 10, 11, 12] [13, 14, 15, 16, 17, 18, 19, 20, 21, 22, 23] rfl rfl (by decide) (by decide) (by decide) rfl (cX_exit u v hR (xs (i + 1))) (kLX0_exit hts ⟨by decide, by decide⟩) rfl rfl rfl rfl hl.1 rfl (Nat.le_of_ble_eq_true rfl) dL_law_427 ⟨Nat.le_of_ble_eq_true rfl, Nat.le_of_ble_eq_true rfl⟩ (fun r u1 H locs hw hP hD hS => ?_)
        refine lv_aload_n hx hb dL_law_430 rfl (lv_at hl 2 rfl) ?_
        refine lv_aload_n hx hb dL_law_431 rfl (lv_at hl 0 rfl) ?_
        refine lv_iload_n hx hb dL_law_432 rfl (lv_at hl 3 rfl) ?_
        refine lv_iconst (v := nI 1) hx hb dL_law_433 (by decide) ?_
        refine zi_add hx hb dL_law_434 ?_
        refine zs_ld hx hb hX hbl hbA hS (by omega) hL dL_law_435 ?_
        refine zj_i (ci := 1) (q0 := 0) (wc := (wMt bd cI cZ v)) (wr := (wXt ad cI cZ u1)) ⟨hx, hb, hml, hown, hts⟩ hK hP hD hS hA [0, 1, 2, 3, 4, 5, 6, 7, 8, 9, 10] [11, 12, 13, 14, 15, 16, 17, 18, 19, 20, 21, 22, 23] rfl rfl (by decide) (by decide) (by decide) rfl (cM_exit v (xs (i + 1))) (kLX1_exit hts ⟨by decide, by decide⟩) rfl rfl rfl rfl hl.1 rfl (Nat.le_of_ble_eq_true rfl) dL_law_436 ⟨Nat.le_of_ble_eq_true rfl, Nat.le_of_ble_eq_true rfl⟩ (fun r2 v1 H locs hw2 hP hD hS => ?_)
        refine lv_icmp_eq (tgt := 556) hx hb dL_law_439 (by decide) (fun _ => ?_) (fun h9 => absurd (hw.1.trans hw2.1.symm) h9)
        obtain ⟨-, ev⟩ := hw2
        subst ev
        exact hstep u1 _ H locs hw.2 hP hD hS
      · refine lv_tableIn (off := 412) (tgt := 444) hx hb dL_law_32 (by decide) (by decide) (by decide) (by decide) ?_
        refine lv_aload_n hx hb dL_law_444 rfl (lv_at hl 1 rfl) ?_
        refine lv_aload_n hx hb dL_law_445 rfl (lv_at hl 0 rfl) ?_
        refine lv_iload_n hx hb dL_law_446 rfl (lv_at hl 3 rfl) ?_
        refine lv_iconst (v := nI 1) hx hb dL_law_447 (by decide) ?_
        refine zi_add hx hb dL_law_448 ?_
        refine zs_ld hx hb hX hbl hbA hS (by omega) hL dL_law_449 ?_
        refine lv_aload_n hx hb dL_law_450 rfl (lv_at hl 0 rfl) ?_
        refine lv_iload_n hx hb dL_law_451 rfl (lv_at hl 3 rfl) ?_
        refine lv_iconst (v := nI 2) hx hb dL_law_452 (by decide) ?_
        refine zi_add hx hb dL_law_453 ?_
        refine zs_ld hx hb hX hbl hbA hS (by omega) hL dL_law_454 ?_
        refine zj_i (ci := 0) (q0 := 0) (wc := (wXt ad cI cZ u)) (wr := (wMt bd cI cZ v)) ⟨hx, hb, hml, hown, hts⟩ hK hP hD hS hA [0, 1, 2, 3, 4, 5, 6, 7, 8, 9, 10, 11, 12] [13, 14, 15, 16, 17, 18, 19, 20, 21, 22, 23] rfl rfl (by decide) (by decide) (by decide) rfl (cX_read u v hR (xs (i + 1)) (xs (i + 2))) (kLX0_read hts ⟨by decide, by decide⟩) rfl rfl rfl rfl hl.1 rfl (Nat.le_of_ble_eq_true rfl) dL_law_455 ⟨Nat.le_of_ble_eq_true rfl, Nat.le_of_ble_eq_true rfl⟩ (fun r u1 H locs hw hP hD hS => ?_)
        refine lv_aload_n hx hb dL_law_458 rfl (lv_at hl 2 rfl) ?_
        refine lv_aload_n hx hb dL_law_459 rfl (lv_at hl 0 rfl) ?_
        refine lv_iload_n hx hb dL_law_460 rfl (lv_at hl 3 rfl) ?_
        refine lv_iconst (v := nI 1) hx hb dL_law_461 (by decide) ?_
        refine zi_add hx hb dL_law_462 ?_
        refine zs_ld hx hb hX hbl hbA hS (by omega) hL dL_law_463 ?_
        refine lv_aload_n hx hb dL_law_464 rfl (lv_at hl 0 rfl) ?_
        refine lv_iload_n hx hb dL_law_465 rfl (lv_at hl 3 rfl) ?_
        refine lv_iconst (v := nI 2) hx hb dL_law_466 (by decide) ?_
        refine zi_add hx hb dL_law_467 ?_
        refine zs_ld hx hb hX hbl hbA hS (by omega) hL dL_law_468 ?_
        refine zj_i (ci := 1) (q0 := 0) (wc := (wMt bd cI cZ v)) (wr := (wXt ad cI cZ u1)) ⟨hx, hb, hml, hown, hts⟩ hK hP hD hS hA [0, 1, 2, 3, 4, 5, 6, 7, 8, 9, 10] [11, 12, 13, 14, 15, 16, 17, 18, 19, 20, 21, 22, 23] rfl rfl (by decide) (by decide) (by decide) rfl (cM_read v (xs (i + 1)) (xs (i + 2))) (kLX1_read hts ⟨by decide, by decide⟩) rfl rfl rfl rfl hl.1 rfl (Nat.le_of_ble_eq_true rfl) dL_law_469 ⟨Nat.le_of_ble_eq_true rfl, Nat.le_of_ble_eq_true rfl⟩ (fun r2 v1 H locs hw2 hP hD hS => ?_)
        refine lv_icmp_eq (tgt := 556) hx hb dL_law_472 (by decide) (fun _ => ?_) (fun h9 => absurd (hw.1.trans hw2.1.symm) h9)
        obtain ⟨-, ev⟩ := hw2
        subst ev
        exact hstep u1 _ H locs hw.2 hP hD hS
      · refine lv_tableIn (off := 445) (tgt := 477) hx hb dL_law_32 (by decide) (by decide) (by decide) (by decide) ?_
        refine lv_aload_n hx hb dL_law_477 rfl (lv_at hl 1 rfl) ?_
        refine lv_aload_n hx hb dL_law_478 rfl (lv_at hl 0 rfl) ?_
        refine lv_iload_n hx hb dL_law_479 rfl (lv_at hl 3 rfl) ?_
        refine lv_iconst (v := nI 1) hx hb dL_law_480 (by decide) ?_
        refine zi_add hx hb dL_law_481 ?_
        refine zs_ld hx hb hX hbl hbA hS (by omega) hL dL_law_482 ?_
        refine lv_aload_n hx hb dL_law_483 rfl (lv_at hl 0 rfl) ?_
        refine lv_iload_n hx hb dL_law_484 rfl (lv_at hl 3 rfl) ?_
        refine lv_iconst (v := nI 2) hx hb dL_law_485 (by decide) ?_
        refine zi_add hx hb dL_law_486 ?_
        refine zs_ld hx hb hX hbl hbA hS (by omega) hL dL_law_487 ?_
        refine zj_i (ci := 0) (q0 := 0) (wc := (wXt ad cI cZ u)) (wr := (wMt bd cI cZ v)) ⟨hx, hb, hml, hown, hts⟩ hK hP hD hS hA [0, 1, 2, 3, 4, 5, 6, 7, 8, 9, 10, 11, 12] [13, 14, 15, 16, 17, 18, 19, 20, 21, 22, 23] rfl rfl (by decide) (by decide) (by decide) rfl (cX_mapped u v hR (xs (i + 1)) (xs (i + 2))) (kLX0_mapped hts ⟨by decide, by decide⟩) rfl rfl rfl rfl hl.1 rfl (Nat.le_of_ble_eq_true rfl) dL_law_488 ⟨Nat.le_of_ble_eq_true rfl, Nat.le_of_ble_eq_true rfl⟩ (fun r u1 H locs hw hP hD hS => ?_)
        refine lv_aload_n hx hb dL_law_491 rfl (lv_at hl 2 rfl) ?_
        refine lv_aload_n hx hb dL_law_492 rfl (lv_at hl 0 rfl) ?_
        refine lv_iload_n hx hb dL_law_493 rfl (lv_at hl 3 rfl) ?_
        refine lv_iconst (v := nI 1) hx hb dL_law_494 (by decide) ?_
        refine zi_add hx hb dL_law_495 ?_
        refine zs_ld hx hb hX hbl hbA hS (by omega) hL dL_law_496 ?_
        refine lv_aload_n hx hb dL_law_497 rfl (lv_at hl 0 rfl) ?_
        refine lv_iload_n hx hb dL_law_498 rfl (lv_at hl 3 rfl) ?_
        refine lv_iconst (v := nI 2) hx hb dL_law_499 (by decide) ?_
        refine zi_add hx hb dL_law_500 ?_
        refine zs_ld hx hb hX hbl hbA hS (by omega) hL dL_law_501 ?_
        refine zj_i (ci := 1) (q0 := 0) (wc := (wMt bd cI cZ v)) (wr := (wXt ad cI cZ u1)) ⟨hx, hb, hml, hown, hts⟩ hK hP hD hS hA [0, 1, 2, 3, 4, 5, 6, 7, 8, 9, 10] [11, 12, 13, 14, 15, 16, 17, 18, 19, 20, 21, 22, 23] rfl rfl (by decide) (by decide) (by decide) rfl (cM_mapped v (xs (i + 1)) (xs (i + 2))) (kLX1_mapped hts ⟨by decide, by decide⟩) rfl rfl rfl rfl hl.1 rfl (Nat.le_of_ble_eq_true rfl) dL_law_502 ⟨Nat.le_of_ble_eq_true rfl, Nat.le_of_ble_eq_true rfl⟩ (fun r2 v1 H locs hw2 hP hD hS => ?_)
        refine lv_icmp_eq (tgt := 556) hx hb dL_law_505 (by decide) (fun _ => ?_) (fun h9 => absurd (hw.1.trans hw2.1.symm) h9)
        obtain ⟨-, ev⟩ := hw2
        subst ev
        exact hstep u1 _ H locs hw.2 hP hD hS
      · refine lv_tableIn (off := 478) (tgt := 510) hx hb dL_law_32 (by decide) (by decide) (by decide) (by decide) ?_
        refine lv_aload_n hx hb dL_law_510 rfl (lv_at hl 1 rfl) ?_
        refine lv_aload_n hx hb dL_law_511 rfl (lv_at hl 0 rfl) ?_
        refine lv_iload_n hx hb dL_law_512 rfl (lv_at hl 3 rfl) ?_
        refine lv_iconst (v := nI 1) hx hb dL_law_513 (by decide) ?_
        refine zi_add hx hb dL_law_514 ?_
        refine zs_ld hx hb hX hbl hbA hS (by omega) hL dL_law_515 ?_
        refine zj_i (ci := 0) (q0 := 0) (wc := (wXt ad cI cZ u)) (wr := (wMt bd cI cZ v)) ⟨hx, hb, hml, hown, hts⟩ hK hP hD hS hA [0, 1, 2, 3, 4, 5, 6, 7, 8, 9, 10, 11, 12] [13, 14, 15, 16, 17, 18, 19, 20, 21, 22, 23] rfl rfl (by decide) (by decide) (by decide) rfl (cX_lastWord u v hR (xs (i + 1))) (kLX0_lastWord hts ⟨by decide, by decide⟩) rfl rfl rfl rfl hl.1 rfl (Nat.le_of_ble_eq_true rfl) dL_law_516 ⟨Nat.le_of_ble_eq_true rfl, Nat.le_of_ble_eq_true rfl⟩ (fun r u1 H locs hw hP hD hS => ?_)
        refine lv_aload_n hx hb dL_law_519 rfl (lv_at hl 2 rfl) ?_
        refine lv_aload_n hx hb dL_law_520 rfl (lv_at hl 0 rfl) ?_
        refine lv_iload_n hx hb dL_law_521 rfl (lv_at hl 3 rfl) ?_
        refine lv_iconst (v := nI 1) hx hb dL_law_522 (by decide) ?_
        refine zi_add hx hb dL_law_523 ?_
        refine zs_ld hx hb hX hbl hbA hS (by omega) hL dL_law_524 ?_
        refine zj_i (ci := 1) (q0 := 0) (wc := (wMt bd cI cZ v)) (wr := (wXt ad cI cZ u1)) ⟨hx, hb, hml, hown, hts⟩ hK hP hD hS hA [0, 1, 2, 3, 4, 5, 6, 7, 8, 9, 10] [11, 12, 13, 14, 15, 16, 17, 18, 19, 20, 21, 22, 23] rfl rfl (by decide) (by decide) (by decide) rfl (cM_lastWord v (xs (i + 1))) (kLX1_lastWord hts ⟨by decide, by decide⟩) rfl rfl rfl rfl hl.1 rfl (Nat.le_of_ble_eq_true rfl) dL_law_525 ⟨Nat.le_of_ble_eq_true rfl, Nat.le_of_ble_eq_true rfl⟩ (fun r2 v1 H locs hw2 hP hD hS => ?_)
        refine lv_icmp_eq (tgt := 556) hx hb dL_law_528 (by decide) (fun _ => ?_) (fun h9 => absurd (hw.1.trans hw2.1.symm) h9)
        obtain ⟨-, ev⟩ := hw2
        subst ev
        exact hstep u1 _ H locs hw.2 hP hD hS
      · refine lv_tableIn (off := 501) (tgt := 533) hx hb dL_law_32 (by decide) (by decide) (by decide) (by decide) ?_
        refine lv_aload_n hx hb dL_law_533 rfl (lv_at hl 1 rfl) ?_
        refine lv_aload_n hx hb dL_law_534 rfl (lv_at hl 0 rfl) ?_
        refine lv_iload_n hx hb dL_law_535 rfl (lv_at hl 3 rfl) ?_
        refine lv_iconst (v := nI 1) hx hb dL_law_536 (by decide) ?_
        refine zi_add hx hb dL_law_537 ?_
        refine zs_ld hx hb hX hbl hbA hS (by omega) hL dL_law_538 ?_
        refine zj_i (ci := 0) (q0 := 0) (wc := (wXt ad cI cZ u)) (wr := (wMt bd cI cZ v)) ⟨hx, hb, hml, hown, hts⟩ hK hP hD hS hA [0, 1, 2, 3, 4, 5, 6, 7, 8, 9, 10, 11, 12] [13, 14, 15, 16, 17, 18, 19, 20, 21, 22, 23] rfl rfl (by decide) (by decide) (by decide) rfl (cX_waiting u v hR (xs (i + 1))) (kLX0_waiting hts ⟨by decide, by decide⟩) rfl rfl rfl rfl hl.1 rfl (Nat.le_of_ble_eq_true rfl) dL_law_539 ⟨Nat.le_of_ble_eq_true rfl, Nat.le_of_ble_eq_true rfl⟩ (fun r u1 H locs hw hP hD hS => ?_)
        refine lv_aload_n hx hb dL_law_542 rfl (lv_at hl 2 rfl) ?_
        refine lv_aload_n hx hb dL_law_543 rfl (lv_at hl 0 rfl) ?_
        refine lv_iload_n hx hb dL_law_544 rfl (lv_at hl 3 rfl) ?_
        refine lv_iconst (v := nI 1) hx hb dL_law_545 (by decide) ?_
        refine zi_add hx hb dL_law_546 ?_
        refine zs_ld hx hb hX hbl hbA hS (by omega) hL dL_law_547 ?_
        refine zj_i (ci := 1) (q0 := 0) (wc := (wMt bd cI cZ v)) (wr := (wXt ad cI cZ u1)) ⟨hx, hb, hml, hown, hts⟩ hK hP hD hS hA [0, 1, 2, 3, 4, 5, 6, 7, 8, 9, 10] [11, 12, 13, 14, 15, 16, 17, 18, 19, 20, 21, 22, 23] rfl rfl (by decide) (by decide) (by decide) rfl (cM_waiting v (xs (i + 1))) (kLX1_waiting hts ⟨by decide, by decide⟩) rfl rfl rfl rfl hl.1 rfl (Nat.le_of_ble_eq_true rfl) dL_law_548 ⟨Nat.le_of_ble_eq_true rfl, Nat.le_of_ble_eq_true rfl⟩ (fun r2 v1 H locs hw2 hP hD hS => ?_)
        refine lv_icmp_eq (tgt := 556) hx hb dL_law_551 (by decide) (fun _ => ?_) (fun h9 => absurd (hw.1.trans hw2.1.symm) h9)
        obtain ⟨-, ev⟩ := hw2
        subst ev
        exact hstep u1 _ H locs hw.2 hP hD hS
      · refine lv_tableOut (tgt := 556) hx hb dL_law_32 (by decide) (by decide) ?_
        exact hstep u v H locs hR hP hD hS
      · refine lv_tableOut (tgt := 556) hx hb dL_law_32 (by decide) (by decide) ?_
        exact hstep u v H locs hR hP hD hS
end
section
set_option maxHeartbeats 4000000 in
set_option maxRecDepth 100000 in
/-- THE LAW, from its entry -/
theorem whole_start {p : Program} {e : Env} {s : State} {m : MethodId} {below : List Frame} {meth : Method} {c : Code} (l : Launch) {b L : Nat} {xs : Nat → Int32} (hL : L ≤ 320) (C0 : lw_At p s m meth c b L xs) : W p l e room_1 s m #[Value.ref b] below meth c s.heap [] 0 0 (lw_Z below #[Value.ref b] s) (entryFrame m ([Value.ref b] : List Value).toArray 4) := by
  obtain ⟨hx, hb, hr, hml, hown, hts0, hX, hbl, hlocks, hgv⟩ := id C0
  have hts : ∀ w ∈ lw_all, w.before #[Value.ref b] s = true := fun w h => hts0 w (lw_all_tbl h)
  have hA : ∀ q : Nat, s.heap.size ≤ q → (fun q : Nat => s.heap.size ≤ q) q := fun _ h => h
  obtain ⟨c0, iS0, hKn0⟩ := u_known (C := RX0) (T := TX0) (N := 13) (n := 13) hts in_X0 (hts _ q15)
  obtain ⟨c1, iS1, hKn1⟩ := u_known (C := RX1) (T := TX1) (N := 10) (n := 10) hts in_X1 (hts _ q155)
  obtain ⟨D, hKc⟩ : ∃ D : va_G, ∀ (k : Nat) (q : vw_C), vCl[k]? = some q → u_Kn s q.1 q.2.1 q.2.2 (D.1 k) (D.2 k) := by
    refine ⟨(fun k => if k = 0 then c0 else c1, fun k => if k = 0 then iS0 else iS1), ?_⟩
    intro k q hq
    match k, hq with
    | 0, hq => cases hq; exact hKn0
    | 1, hq => cases hq; exact hKn1
    | k + 2, hq => simp [vCl] at hq
  have hS : va_S (fun q : Nat => s.heap.size ≤ q) s.heap s.heap [] := va_S.rf
  have hK : va_K D vCl [] s := ⟨hKc, fun k q h => by simp at h⟩
  have hP : va_P D vCl [] s.heap := fun k q h => by simp at h
  have hD : va_D (fun q : Nat => s.heap.size ≤ q) [] := ⟨fun i j p q h => by simp at h, fun k q h => by simp at h⟩
  have hl := lv_entry ([.ref b]) (n := 4) (Nat.le_of_ble_eq_true rfl)
  rw [lg_entry_eq]
  generalize (lg_sl ([.ref b]) ++ List.replicate (4 - (lg_sl ([.ref b])).length) Slot.unset).toArray = ls at hl ⊢
  have hl : lv_has ls 4 [(0, .ref b)] := hl
  refine va_new (D := D) (ci := 0) (fs := [.null, .null, .null, .int 0, .null, .null, .null, .null, .null, .null, .null, .null, .null]) (C := RX0) (T := TX0) (N := 13) hx hb hts in_X0 tyX0 tyX0_ok hown (hts _ q14) (hts _ q15) (hts _ q12) hK hP hD hS hA rfl (fun j hj => by rcases (show j = 0 ∨ j = 1 ∨ j = 2 ∨ j = 3 ∨ j = 4 ∨ j = 5 ∨ j = 6 ∨ j = 7 ∨ j = 8 ∨ j = 9 ∨ j = 10 ∨ j = 11 ∨ j = 12 by omega) with rfl | rfl | rfl | rfl | rfl | rfl | rfl | rfl | rfl | rfl | rfl | rfl | rfl <;> rfl) (Nat.le_of_ble_eq_true rfl) (Nat.le_of_ble_eq_true rfl) dL_law_0 (fun h0 H hP hD hS => ?_)
  have hP : va_P D vCl [(h0, .inr (0, [.null, .null, .null, .int 0, .null, .null, .null, .null, .null, .null, .null, .null, .null]))] H := hP
  have hD : va_D (fun q : Nat => s.heap.size ≤ q) [(h0, .inr (0, [.null, .null, .null, .int 0, .null, .null, .null, .null, .null, .null, .null, .null, .null]))] := hD
  refine lv_dup hx hb dL_law_3 rfl ?_
  refine zI (wc := [(h0, .inr (0, [.null, .null, .null, .int 0, .null, .null, .null, .null, .null, .null, .null, .null, .null]))]) (wr := []) ⟨hx, hb, hml, hown, hts⟩ hK hP hD hS hA [0] [] rfl rfl (by decide) (by decide) (by decide) rfl (cX_init h0) (cwI 0 hts (lw_meth q18) rfl rfl rfl (hts _ q12) (hts _ q16) (hts _ q17) rfl (by decide +kernel) ⟨Nat.le_of_ble_eq_true rfl, Nat.le_of_ble_eq_true rfl⟩) rfl hl.1 rfl (Nat.le_of_ble_eq_true rfl) dL_law_4 ⟨Nat.le_of_ble_eq_true rfl, Nat.le_of_ble_eq_true rfl⟩ (fun u H locs hu hP hD hS hK => ?_)
  obtain ⟨ad, cI, cZ⟩ := u
  have hu : ad 0 = h0 := hu
  rw [← hu]
  have hP : va_P D vCl (wXt ad cI cZ xInit) H := hP
  have hD : va_D (fun q : Nat => s.heap.size ≤ q) (wXt ad cI cZ xInit) := hD
  have hK : va_K D vCl (tIZ cI cZ) s := hK
  refine lv_astore_n (lv' := [(1, .ref (ad 0)), (0, .ref b)]) hx hb dL_law_7 rfl hl (by decide) rfl (fun ls hl => ?_)
  refine va_new (D := D) (ci := 1) (fs := [.null, .null, .null, .null, .null, .null, .null, .null, .null, .null]) (C := RX1) (T := TX1) (N := 10) hx hb hts in_X1 tyX1 tyX1_ok hown (hts _ q154) (hts _ q155) (hts _ q13) hK hP hD hS hA rfl (fun j hj => by rcases (show j = 0 ∨ j = 1 ∨ j = 2 ∨ j = 3 ∨ j = 4 ∨ j = 5 ∨ j = 6 ∨ j = 7 ∨ j = 8 ∨ j = 9 by omega) with rfl | rfl | rfl | rfl | rfl | rfl | rfl | rfl | rfl | rfl <;> rfl) (Nat.le_of_ble_eq_true rfl) (Nat.le_of_ble_eq_true rfl) dL_law_8 (fun h1 H hP hD hS => ?_)
  refine lv_dup hx hb dL_law_11 rfl ?_
  refine zI (wc := [(h1, .inr (1, [.null, .null, .null, .null, .null, .null, .null, .null, .null, .null]))]) (wr := wXt ad cI cZ xInit) ⟨hx, hb, hml, hown, hts⟩ hK hP hD hS hA [13] [0, 1, 2, 3, 4, 5, 6, 7, 8, 9, 10, 11, 12] rfl rfl (by decide) (by decide) (by decide) rfl (cM_init h1) (cwI 0 hts (lw_meth q158) rfl rfl rfl (hts _ q13) (hts _ q156) (hts _ q157) rfl (by decide +kernel) ⟨Nat.le_of_ble_eq_true rfl, Nat.le_of_ble_eq_true rfl⟩) rfl hl.1 rfl (Nat.le_of_ble_eq_true rfl) dL_law_12 ⟨Nat.le_of_ble_eq_true rfl, Nat.le_of_ble_eq_true rfl⟩ (fun u H locs hu hP hD hS hK2 => ?_)
  obtain ⟨bd, cI2, cZ2⟩ := u
  have hu2 : bd 0 = h1 := hu
  rw [← hu2]
  have hK2 : va_K D vCl (tIZ cI2 cZ2) s := hK2
  obtain rfl := eqI (hK.app hK2) 0 2 rfl rfl
  obtain rfl := eqZ (hK.app hK2) 1 3 rfl rfl
  have hP : va_P D vCl (wXt ad cI cZ xInit ++ wMt bd cI cZ mInit) H := hP
  have hD : va_D (fun q : Nat => s.heap.size ≤ q) (wXt ad cI cZ xInit ++ wMt bd cI cZ mInit) := hD
  refine W.widen (k := 24) (n := 983) (Nat.le_of_ble_eq_true rfl) (Nat.le_of_ble_eq_true rfl) ?_
  refine lv_astore_n (lv' := [(2, .ref (bd 0)), (1, .ref (ad 0)), (0, .ref b)]) hx hb dL_law_15 rfl hl (by decide) rfl (fun ls hl => ?_)
  refine lv_iconst (v := nI 0) hx hb dL_law_16 (by decide) ?_
  refine lv_istore_n (lv' := [(3, .int (nI 0)), (2, .ref (bd 0)), (1, .ref (ad 0)), (0, .ref b)]) hx hb dL_law_17 rfl hl (by decide) rfl (fun ls hl => ?_)
  exact law_loop hL C0 hK 321 0 xInit mInit _ _ ls (by omega) (by omega) R_init hP hD hS (lv_sub hl [3, 2, 1, 0] rfl)
set_option maxHeartbeats 4000000 in
theorem lw_walk (l : Launch) (b : Addr) (xs : List Int32) : MetFree l x (headSpec (Jvm.Cond.code x code maxLocals ret :: tables_1) room_1) (lw_P b xs) (fun _ _ _ _ _ => True) lw_Q := by
  refine MetFree.of_bodyS (code := code) (maxLocals := maxLocals) (ret := ret) (by decide) ?_ ?_
  · intro args s m h hn
    obtain ⟨meth, c, h1, h2, h3, h4, h5, h6, -, -⟩ := Cond.code_spec hn (atoms_spec (ws := Jvm.Cond.code x code maxLocals ret :: tables_1) h _ List.mem_cons_self)
    exact ⟨meth, c, h1, h2, h3, h4, h5, h6⟩
  · intro p e s m args below meth c s₁ B hml0 hP _
    obtain ⟨rfl, hx, hbd, hgv⟩ := hP
    obtain ⟨scr, harrAt, hlist, hof, hsmall⟩ := hx
    obtain ⟨hcb, hkn, -, -⟩ := State.arrayAt?_spec harrAt
    have hown : s.vm.findClass R_law = some m.cls := findClass_of_methodNamed B.named
    have hts0 : ∀ c ∈ (Jvm.Cond.code x code maxLocals ret :: tables_1), c.before #[Value.ref b] s = true := atoms_spec (ws := Jvm.Cond.code x code maxLocals ret :: tables_1) B.pre
    have hts : ∀ w ∈ lw_tbl, w.before #[Value.ref b] s = true := k2_hts_sels lw_privs (fun w hw => hts0 w (List.mem_cons_of_mem _ hw)) lw_privs_ok
    have hml : c.maxLocals = 4 := B.maxLocals_eq (hts0 _ List.mem_cons_self)
    have X₀ : Stand p l e room_1 s m #[Value.ref b] below meth c s₁ [] 0 0 := Stand.of_body B
    have hh0 : s₁.heap = s.heap := by rw [B.state]; rfl
    have hsz : scr.slots.size = xs.length := by rw [← Array.length_toList, hlist, List.length_map]
    have hval : ∀ j : Nat, j < xs.length → scr.slots[j]? = some (.int (xs.getD j 0)) := fun j hj => by
      rw [← Array.getElem?_toList, hlist]
      simp [hj]
    have hbl : b < s.heap.size := (Array.getElem?_eq_some_iff.mp hcb).1
    have hX : va_X b xs.length (fun j => xs.getD j 0) s s.heap := ⟨scr, hcb, hof, hkn, hsz, hval⟩
    have K : W p l e room_1 s m #[Value.ref b] below meth c s₁.heap [] 0 0 (lw_Z below #[Value.ref b] s) (entryFrame m ([Value.ref b] : List Value).toArray 4) := by
      rw [hh0]
      exact whole_start l hbd ⟨B.exec, B.bytes, B.returns, hml, hown, hts, hX, hbl, B.notSynchronized, hgv⟩
    obtain ⟨t, a1, o, b1, b2, b3⟩ := K s₁ rfl X₀
    exact ⟨t, o, a1, b1, b2, b3⟩
theorem lw_pre_spec {args : Array Value} {s : State} (h : (Jvm.Cond.and given_1 narrow_1).before args s = true) (hr : rest_1_c.before args s = true) : ∃ (b : Addr) (xs : List Int32), lw_P b xs args s := by
  have hs := flat_of_before _ h
  have hq := flat_of_before _ hr
  have hc : (Cond.count 1).before args s = true := hs _ (by decide +kernel)
  have harr : (Cond.arrayOf (.arg 0) .int).before args s = true := hs _ (by decide +kernel)
  have hle : (Cond.le (.length (.arg 0)) (.int 320)).before args s = true := hs _ (by decide +kernel)
  have hlen : (Cond.isInt (.length (.arg 0))).before args s = true := hq _ (by decide +kernel)
  have hall : (Cond.all (.arg 0) (.isInt (.elem (.arg 0) (.index 0)))).before args s = true := hq _ (by decide +kernel)
  obtain ⟨b, xs, hb, hx⟩ := State.ints_of_pre rfl harr hlen hall
  have hsm : xs.length < 2 ^ 31 := hx.choose_spec.2.2.2
  have hev : (Term.length (.arg 0)).eval args s none [] s = some (.int xs.length.toInt32) := hx.length_eval hb
  have hv := Cond.le_ints hev (show (Term.int 320).eval args s none [] s = some (.int 320) from rfl)
  have hd : xs.length.toInt32 ≤ 320 := by
    simpa [Cond.before, Cond.holds, hv] using hle
  have hN : xs.length ≤ 320 := (Int32.ofNat_le_ofNat hsm (by decide)).mp (show Int32.ofNat xs.length ≤ Int32.ofNat 320 from hd)
  exact ⟨b, xs, Cond.one_arg hc (show args[0]? = some (.ref b) from hb), hx, hN, h⟩
theorem lw_comes (l : Launch) : Comes l x (Jvm.Cond.code x code maxLocals ret :: tables_1) room_1 (fun tb e args s => Calls_1 tb e args s ∧ rest_1 tb e args s ∧ Pre_1 tb e args s)
    (fun _ _ args s o t => lw_Q args s o t) := by
  intro p e ha hc hk s m args below hf hfit hheap happ hpre
  obtain ⟨b, xs, hP⟩ := lw_pre_spec hpre.2.2 hpre.2.1
  obtain ⟨k, o, h1, h2, h3, hQ⟩ := lw_walk l b xs p e ha hc hk s m args below hf ((Spec.applies_iff_loose hf).mp happ).1 hP trivial
  exact ⟨k, o, h1, h2, h3, hQ⟩
theorem lw_frame {s t : State} {o : Outcome} {args : Array Value} (h : Framed s o t [] 600000 7290000) :
    Framed s o t (fieldLocs frame_1_writes args s ++ arrayLocs frame_1_arrays args s ++ staticLocs frame_1_statics s) 600000 7290000 := h
theorem lw_limb (L : Cond) (hL : ∀ (args : Array Value) (s t : State), L.after args s (.returned (some (.int 1))) t = true) :
    ArmFor flags0 classFile x code maxLocals ret World_1 tables_1 room_1 Calls_1 rest_1 Pre_1
      (fun tb e a s o t => postC L tb e a s o t ∧ Framed s o t (fieldLocs frame_1_writes a s ++ arrayLocs frame_1_arrays a s ++ staticLocs frame_1_statics s) 600000 7290000) := by
  intro l _ _ _ p e ha hc hk s m args below hf hfit hheap happ hpre
  obtain ⟨k, o, h1, h2, h3, rfl, hF⟩ := lw_comes l p e ha hc hk s m args below hf hfit hheap happ hpre
  exact ⟨k, _, h1, h2, h3, hL args s _, lw_frame hF⟩
theorem i_vc : Claimed_1_1 ∧ Claimed_1_2 := ⟨lw_limb limb_1_1 (fun args s t => by simp [limb_1_1, Cond.after, Cond.holds, Cond.value]), lw_limb limb_1_2 (fun args s t => Cond.after_iff.mpr (by
  first | (rw [show limb_1_2 = Cond.eq .result (.int 1) from rfl, Cond.eq_ints (x := 1) (y := 1) rfl rfl]; simp; done) | (simp [limb_1_2, Cond.value, Term.eval]; done)))⟩
end
